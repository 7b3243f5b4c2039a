/-! WheelTablesModel -/
set_option maxRecDepth 100000
def RX4 : String := "WheelTablesModel"
def TX4 : u_T := fun k => match k with
  | 0 => ("WheelTablesModel", "status", "I", false)
  | 1 => ("WheelTablesModel", "thrown", "I", false)
  | 2 => ("WheelTablesModel", "traySort", "[I", true)
  | 3 => ("WheelTablesModel", "trayMany", "[I", true)
  | 4 => ("WheelTablesModel", "numbers", "[J", true)
  | 5 => ("WheelTablesModel", "engines", "I", false)
  | 6 => ("WheelTablesModel", "axes", "[I", true)
  | 7 => ("WheelTablesModel", "wheels", "[I", true)
  | 8 => ("WheelTablesModel", "turned", "[I", true)
  | 9 => ("WheelTablesModel", "radix", "[I", true)
  | 10 => ("WheelTablesModel", "figure", "[I", true)
  | 11 => ("WheelTablesModel", "copy", "[I", true)
  | 12 => ("WheelTablesModel", "mishaps", "[I", true)
  | 13 => ("WheelTablesModel", "mishapTurn", "[I", true)
  | 14 => ("WheelTablesModel", "mishapAxis", "[I", true)
  | 15 => ("WheelTablesModel", "mishapWheel", "[I", true)
  | 16 => ("WheelTablesModel", "mishapKind", "[I", true)
  | 17 => ("WheelTablesModel", "isWarned", "[Z", true)
  | 18 => ("WheelTablesModel", "tryTurn", "I", false)
  | 19 => ("WheelTablesModel", "tryAxis", "I", false)
  | 20 => ("WheelTablesModel", "tryWheel", "I", false)
  | 21 => ("WheelTablesModel", "tryKind", "I", false)
  | 22 => ("WheelTablesModel", "causeTurn", "I", false)
  | 23 => ("WheelTablesModel", "causeAxis", "I", false)
  | 24 => ("WheelTablesModel", "causeWheel", "I", false)
  | 25 => ("WheelTablesModel", "causeKind", "I", false)
  | 26 => ("WheelTablesModel", "differences", "[J", true)
  | 27 => ("WheelTablesModel", "shown", "[J", true)
  | 28 => ("WheelTablesModel", "tape", "[B", true)
  | 29 => ("WheelTablesModel", "taped", "I", false)
  | 30 => ("WheelTablesModel", "textEnd", "I", false)
  | 31 => ("WheelTablesModel", "faultKind", "I", false)
  | 32 => ("WheelTablesModel", "faultAt", "I", false)
  | 33 => ("WheelTablesModel", "bad", "I", false)
  | 34 => ("WheelTablesModel", "badAt", "I", false)
  | 35 => ("WheelTablesModel", "sort", "I", false)
  | 36 => ("WheelTablesModel", "at", "I", false)
  | 37 => ("WheelTablesModel", "behind", "I", false)
  | 38 => ("WheelTablesModel", "letters", "I", false)
  | 39 => ("WheelTablesModel", "word", "J", false)
  | 40 => ("WheelTablesModel", "number", "J", false)
  | 41 => ("WheelTablesModel", "cardMany", "I", false)
  | 42 => ("WheelTablesModel", "newMany", "I", false)
  | 43 => ("WheelTablesModel", "kind", "[I", true)
  | 44 => ("WheelTablesModel", "a", "[I", true)
  | 45 => ("WheelTablesModel", "b", "[I", true)
  | 46 => ("WheelTablesModel", "c", "[I", true)
  | 47 => ("WheelTablesModel", "d", "[I", true)
  | 48 => ("WheelTablesModel", "when", "[I", true)
  | 49 => ("WheelTablesModel", "newKind", "[I", true)
  | 50 => ("WheelTablesModel", "newA", "[I", true)
  | 51 => ("WheelTablesModel", "newB", "[I", true)
  | 52 => ("WheelTablesModel", "newC", "[I", true)
  | 53 => ("WheelTablesModel", "newD", "[I", true)
  | 54 => ("WheelTablesModel", "newWhen", "[I", true)
  | 55 => ("WheelTablesModel", "jumpAt", "[I", true)
  | 56 => ("WheelTablesModel", "whole", "[J", true)
  | 57 => ("WheelTablesModel", "newWhole", "[J", true)
  | 58 => ("WheelTablesModel", "places", "[J", true)
  | 59 => ("WheelTablesModel", "prints", "[J", true)
  | 60 => ("WheelTablesModel", "hasRun", "Z", false)
  | 61 => ("WheelTablesModel", "isUp", "Z", false)
  | 62 => ("WheelTablesModel", "printMany", "I", false)
  | 63 => ("WheelTablesModel", "cranks", "I", false)
  | 64 => ("WheelTablesModel", "alarm", "I", false)
  | 65 => ("WheelTablesModel", "alarmAt", "I", false)
  | 66 => ("WheelTablesModel", "cardsDone", "I", false)
  | 67 => ("WheelTablesModel", "least", "[I", true)
  | 68 => ("WheelTablesModel", "figureOf", "[I", true)
  | 69 => ("WheelTablesModel", "digitsOf", "[I", true)
  | 70 => ("WheelTablesModel", "table", "[J", true)
  | 71 => ("WheelTablesModel", "left", "[J", true)
  | 72 => ("WheelTablesModel", "variants", "[J", true)
  | 73 => ("WheelTablesModel", "variantMany", "[I", true)
  | 74 => ("WheelTablesModel", "rightMany", "I", false)
  | 75 => ("WheelTablesModel", "rightAt", "[I", true)
  | 76 => ("WheelTablesModel", "rightNumber", "[I", true)
  | 77 => ("WheelTablesModel", "day", "I", false)
  | 78 => ("WheelTablesModel", "casts", "I", false)
  | 79 => ("WheelTablesModel", "printings", "I", false)
  | 80 => ("WheelTablesModel", "copies", "I", false)
  | 81 => ("WheelTablesModel", "tells", "I", false)
  | 82 => ("WheelTablesModel", "jobs", "I", false)
  | 83 => ("WheelTablesModel", "castRow", "[I", true)
  | 84 => ("WheelTablesModel", "castNumber", "[I", true)
  | 85 => ("WheelTablesModel", "printFrom", "[I", true)
  | 86 => ("WheelTablesModel", "printCasts", "[I", true)
  | 87 => ("WheelTablesModel", "toldDay", "[I", true)
  | 88 => ("WheelTablesModel", "toldRow", "[I", true)
  | 89 => ("WheelTablesModel", "toldNumber", "[I", true)
  | 90 => ("WheelTablesModel", "jobAxes", "[I", true)
  | 91 => ("WheelTablesModel", "jobWheels", "[I", true)
  | 92 => ("WheelTablesModel", "jobTurns", "[I", true)
  | 93 => ("WheelTablesModel", "parted", "[I", true)
  | 94 => ("WheelTablesModel", "tried", "[I", true)
  | 95 => ("WheelTablesModel", "load", "[I", true)
  | 96 => ("WheelTablesModel", "steps", "[J", true)
  | 97 => ("WheelTablesModel", "foundAt", "[I", true)
  | _ => ("WheelTablesModel", "foundNumber", "[I", true)
def tyX4 : Nat → FieldType := fun k => match k with
  | 0 => .int
  | 1 => .int
  | 2 => .array .int
  | 3 => .array .int
  | 4 => .array .long
  | 5 => .int
  | 6 => .array .int
  | 7 => .array .int
  | 8 => .array .int
  | 9 => .array .int
  | 10 => .array .int
  | 11 => .array .int
  | 12 => .array .int
  | 13 => .array .int
  | 14 => .array .int
  | 15 => .array .int
  | 16 => .array .int
  | 17 => .array .boolean
  | 18 => .int
  | 19 => .int
  | 20 => .int
  | 21 => .int
  | 22 => .int
  | 23 => .int
  | 24 => .int
  | 25 => .int
  | 26 => .array .long
  | 27 => .array .long
  | 28 => .array .byte
  | 29 => .int
  | 30 => .int
  | 31 => .int
  | 32 => .int
  | 33 => .int
  | 34 => .int
  | 35 => .int
  | 36 => .int
  | 37 => .int
  | 38 => .int
  | 39 => .long
  | 40 => .long
  | 41 => .int
  | 42 => .int
  | 43 => .array .int
  | 44 => .array .int
  | 45 => .array .int
  | 46 => .array .int
  | 47 => .array .int
  | 48 => .array .int
  | 49 => .array .int
  | 50 => .array .int
  | 51 => .array .int
  | 52 => .array .int
  | 53 => .array .int
  | 54 => .array .int
  | 55 => .array .int
  | 56 => .array .long
  | 57 => .array .long
  | 58 => .array .long
  | 59 => .array .long
  | 60 => .boolean
  | 61 => .boolean
  | 62 => .int
  | 63 => .int
  | 64 => .int
  | 65 => .int
  | 66 => .int
  | 67 => .array .int
  | 68 => .array .int
  | 69 => .array .int
  | 70 => .array .long
  | 71 => .array .long
  | 72 => .array .long
  | 73 => .array .int
  | 74 => .int
  | 75 => .array .int
  | 76 => .array .int
  | 77 => .int
  | 78 => .int
  | 79 => .int
  | 80 => .int
  | 81 => .int
  | 82 => .int
  | 83 => .array .int
  | 84 => .array .int
  | 85 => .array .int
  | 86 => .array .int
  | 87 => .array .int
  | 88 => .array .int
  | 89 => .array .int
  | 90 => .array .int
  | 91 => .array .int
  | 92 => .array .int
  | 93 => .array .int
  | 94 => .array .int
  | 95 => .array .int
  | 96 => .array .long
  | 97 => .array .int
  | _ => .array .int
abbrev wsX40 : List Cond := u_ws RX4 TX4 99
set_option maxRecDepth 100000 in
theorem nmX4 : ∀ a, a < 99 → ∀ b, b < 99 → a ≠ b → (TX4 a).2.1 ≠ (TX4 b).2.1 := by decide +kernel
set_option maxRecDepth 100000 in
theorem tyX4_ok : ∀ k, k < 99 → parseFieldDescriptor (TX4 k).2.2.1 = some (tyX4 k) := by decide +kernel
abbrev cX4_init : ByteArray := prog_9_method_1_code
def yX4_init : MethodName := ⟨RX4, "<init>", "()V"⟩
def dkwX4_init_22 : List UInt8 := [167, 255, 241, 177]
abbrev dktX4_init_22 : List UInt8 := dkwX4_init_22 ++ []
def dkwX4_init_21 : List UInt8 := [42, 5, 188, 10, 181, 0, 209, 3, 60, 27, 7, 162, 0, 16, 42, 180, 0, 13, 27, 2, 79, 132, 1, 1]
abbrev dktX4_init_21 : List UInt8 := dkwX4_init_21 ++ dktX4_init_22
def dkwX4_init_20 : List UInt8 := [181, 0, 197, 42, 7, 188, 10, 181, 0, 200, 42, 8, 188, 11, 181, 0, 203, 42, 5, 188, 10, 181, 0, 206]
abbrev dktX4_init_20 : List UInt8 := dkwX4_init_20 ++ dktX4_init_21
def dkwX4_init_19 : List UInt8 := [181, 0, 188, 42, 16, 7, 188, 10, 181, 0, 191, 42, 16, 7, 188, 10, 181, 0, 194, 42, 16, 7, 188, 10]
abbrev dktX4_init_19 : List UInt8 := dkwX4_init_19 ++ dktX4_init_20
def dkwX4_init_18 : List UInt8 := [181, 0, 179, 42, 16, 60, 188, 10, 181, 0, 182, 42, 16, 7, 188, 10, 181, 0, 185, 42, 16, 7, 188, 10]
abbrev dktX4_init_18 : List UInt8 := dkwX4_init_18 ++ dktX4_init_19
def dkwX4_init_17 : List UInt8 := [181, 0, 170, 42, 16, 20, 188, 10, 181, 0, 173, 42, 16, 60, 188, 10, 181, 0, 176, 42, 16, 60, 188, 10]
abbrev dktX4_init_17 : List UInt8 := dkwX4_init_17 ++ dktX4_init_18
def dkwX4_init_16 : List UInt8 := [181, 0, 161, 42, 16, 100, 188, 10, 181, 0, 164, 42, 16, 100, 188, 10, 181, 0, 167, 42, 16, 20, 188, 10]
abbrev dktX4_init_16 : List UInt8 := dkwX4_init_16 ++ dktX4_init_17
def dkwX4_init_15 : List UInt8 := [188, 11, 181, 0, 152, 42, 16, 20, 188, 10, 181, 0, 155, 42, 5, 188, 10, 181, 0, 158, 42, 5, 188, 10]
abbrev dktX4_init_15 : List UInt8 := dkwX4_init_15 ++ dktX4_init_16
def dkwX4_init_14 : List UInt8 := [181, 0, 143, 42, 16, 20, 188, 11, 181, 0, 146, 42, 16, 20, 188, 11, 181, 0, 149, 42, 17, 6, 64]
abbrev dktX4_init_14 : List UInt8 := dkwX4_init_14 ++ dktX4_init_15
def dkwX4_init_13 : List UInt8 := [181, 0, 134, 42, 16, 28, 188, 10, 181, 0, 137, 42, 16, 13, 188, 10, 181, 0, 140, 42, 16, 14, 188, 10]
abbrev dktX4_init_13 : List UInt8 := dkwX4_init_13 ++ dktX4_init_14
def dkwX4_init_12 : List UInt8 := [188, 11, 181, 0, 125, 42, 16, 20, 188, 11, 181, 0, 128, 42, 16, 40, 188, 11, 181, 0, 131, 42, 2]
abbrev dktX4_init_12 : List UInt8 := dkwX4_init_12 ++ dktX4_init_13
def dkwX4_init_11 : List UInt8 := [188, 10, 181, 0, 116, 42, 16, 40, 188, 10, 181, 0, 119, 42, 16, 40, 188, 11, 181, 0, 122, 42, 16, 40]
abbrev dktX4_init_11 : List UInt8 := dkwX4_init_11 ++ dktX4_init_12
def dkwX4_init_10 : List UInt8 := [188, 10, 181, 0, 107, 42, 16, 40, 188, 10, 181, 0, 110, 42, 16, 40, 188, 10, 181, 0, 113, 42, 16, 40]
abbrev dktX4_init_10 : List UInt8 := dkwX4_init_10 ++ dktX4_init_11
def dkwX4_init_9 : List UInt8 := [188, 10, 181, 0, 98, 42, 16, 40, 188, 10, 181, 0, 101, 42, 16, 40, 188, 10, 181, 0, 104, 42, 16, 40]
abbrev dktX4_init_9 : List UInt8 := dkwX4_init_9 ++ dktX4_init_10
def dkwX4_init_8 : List UInt8 := [188, 10, 181, 0, 89, 42, 16, 40, 188, 10, 181, 0, 92, 42, 16, 40, 188, 10, 181, 0, 95, 42, 16, 40]
abbrev dktX4_init_8 : List UInt8 := dkwX4_init_8 ++ dktX4_init_9
def dkwX4_init_7 : List UInt8 := [42, 2, 181, 0, 80, 42, 16, 40, 188, 10, 181, 0, 83, 42, 16, 40, 188, 10, 181, 0, 86, 42, 16, 40]
abbrev dktX4_init_7 : List UInt8 := dkwX4_init_7 ++ dktX4_init_8
def dkwX4_init_6 : List UInt8 := [188, 11, 181, 0, 67, 42, 17, 1, 244, 188, 8, 181, 0, 70, 42, 2, 181, 0, 74, 42, 2, 181, 0, 77]
abbrev dktX4_init_6 : List UInt8 := dkwX4_init_6 ++ dktX4_init_7
def dkwX4_init_5 : List UInt8 := [181, 0, 53, 42, 2, 181, 0, 57, 42, 2, 181, 0, 61, 42, 16, 7, 188, 11, 181, 0, 64, 42, 16, 60]
abbrev dktX4_init_5 : List UInt8 := dkwX4_init_5 ++ dktX4_init_6
def dkwX4_init_4 : List UInt8 := [181, 0, 44, 42, 16, 80, 188, 10, 181, 0, 47, 42, 16, 80, 188, 10, 181, 0, 50, 42, 16, 12, 188, 4]
abbrev dktX4_init_4 : List UInt8 := dkwX4_init_4 ++ dktX4_init_5
def dkwX4_init_3 : List UInt8 := [181, 0, 35, 42, 7, 188, 10, 181, 0, 38, 42, 16, 80, 188, 10, 181, 0, 41, 42, 16, 80, 188, 10]
abbrev dktX4_init_3 : List UInt8 := dkwX4_init_3 ++ dktX4_init_4
def dkwX4_init_2 : List UInt8 := [42, 16, 48, 188, 10, 181, 0, 29, 42, 17, 1, 80, 188, 10, 181, 0, 32, 42, 16, 84, 188, 10]
abbrev dktX4_init_2 : List UInt8 := dkwX4_init_2 ++ dktX4_init_3
def dkwX4_init_1 : List UInt8 := [181, 0, 16, 42, 7, 188, 10, 181, 0, 20, 42, 7, 188, 10, 181, 0, 23, 42, 7, 188, 10, 181, 0, 26]
abbrev dktX4_init_1 : List UInt8 := dkwX4_init_1 ++ dktX4_init_2
def dkwX4_init_0 : List UInt8 := [42, 183, 0, 1, 42, 7, 188, 10, 181, 0, 7, 42, 7, 188, 10, 181, 0, 13, 42, 17, 0, 240, 188, 11]
abbrev dktX4_init_0 : List UInt8 := dkwX4_init_0 ++ dktX4_init_1
theorem dksX4_init_0 : cX4_init.data.toList.drop 0 = dktX4_init_0 := by decide +kernel
theorem dksX4_init_1 : cX4_init.data.toList.drop 24 = dktX4_init_1 := dk_seg dksX4_init_0 24 rfl rfl
theorem dksX4_init_2 : cX4_init.data.toList.drop 48 = dktX4_init_2 := dk_seg dksX4_init_1 24 rfl rfl
theorem dksX4_init_3 : cX4_init.data.toList.drop 70 = dktX4_init_3 := dk_seg dksX4_init_2 22 rfl rfl
theorem dksX4_init_4 : cX4_init.data.toList.drop 93 = dktX4_init_4 := dk_seg dksX4_init_3 23 rfl rfl
theorem dksX4_init_5 : cX4_init.data.toList.drop 117 = dktX4_init_5 := dk_seg dksX4_init_4 24 rfl rfl
theorem dksX4_init_6 : cX4_init.data.toList.drop 141 = dktX4_init_6 := dk_seg dksX4_init_5 24 rfl rfl
theorem dksX4_init_7 : cX4_init.data.toList.drop 165 = dktX4_init_7 := dk_seg dksX4_init_6 24 rfl rfl
theorem dksX4_init_8 : cX4_init.data.toList.drop 189 = dktX4_init_8 := dk_seg dksX4_init_7 24 rfl rfl
theorem dksX4_init_9 : cX4_init.data.toList.drop 213 = dktX4_init_9 := dk_seg dksX4_init_8 24 rfl rfl
theorem dksX4_init_10 : cX4_init.data.toList.drop 237 = dktX4_init_10 := dk_seg dksX4_init_9 24 rfl rfl
theorem dksX4_init_11 : cX4_init.data.toList.drop 261 = dktX4_init_11 := dk_seg dksX4_init_10 24 rfl rfl
theorem dksX4_init_12 : cX4_init.data.toList.drop 285 = dktX4_init_12 := dk_seg dksX4_init_11 24 rfl rfl
theorem dksX4_init_13 : cX4_init.data.toList.drop 308 = dktX4_init_13 := dk_seg dksX4_init_12 23 rfl rfl
theorem dksX4_init_14 : cX4_init.data.toList.drop 332 = dktX4_init_14 := dk_seg dksX4_init_13 24 rfl rfl
theorem dksX4_init_15 : cX4_init.data.toList.drop 355 = dktX4_init_15 := dk_seg dksX4_init_14 23 rfl rfl
theorem dksX4_init_16 : cX4_init.data.toList.drop 379 = dktX4_init_16 := dk_seg dksX4_init_15 24 rfl rfl
theorem dksX4_init_17 : cX4_init.data.toList.drop 403 = dktX4_init_17 := dk_seg dksX4_init_16 24 rfl rfl
theorem dksX4_init_18 : cX4_init.data.toList.drop 427 = dktX4_init_18 := dk_seg dksX4_init_17 24 rfl rfl
theorem dksX4_init_19 : cX4_init.data.toList.drop 451 = dktX4_init_19 := dk_seg dksX4_init_18 24 rfl rfl
theorem dksX4_init_20 : cX4_init.data.toList.drop 475 = dktX4_init_20 := dk_seg dksX4_init_19 24 rfl rfl
theorem dksX4_init_21 : cX4_init.data.toList.drop 499 = dktX4_init_21 := dk_seg dksX4_init_20 24 rfl rfl
theorem dksX4_init_22 : cX4_init.data.toList.drop 523 = dktX4_init_22 := dk_seg dksX4_init_21 24 rfl rfl
theorem dX4_init_0 : decode cX4_init 0 = .ok (.aload_n 0, 1) := dk_42 (dk_at dksX4_init_0 0 rfl rfl)
theorem dX4_init_1 : decode cX4_init 1 = .ok (.invokespecial 1, 3) := dk_183 0 1 (dk_at dksX4_init_0 1 rfl rfl)
theorem dX4_init_4 : decode cX4_init 4 = .ok (.aload_n 0, 1) := dk_42 (dk_at dksX4_init_0 4 rfl rfl)
theorem dX4_init_5 : decode cX4_init 5 = .ok (.iconst 4, 1) := dk_7 (dk_at dksX4_init_0 5 rfl rfl)
theorem dX4_init_6 : decode cX4_init 6 = .ok (.newarray .int, 2) := dk_188_10 (dk_at dksX4_init_0 6 rfl rfl)
theorem dX4_init_8 : decode cX4_init 8 = .ok (.putfield 7, 3) := dk_181 0 7 (dk_at dksX4_init_0 8 rfl rfl)
theorem dX4_init_11 : decode cX4_init 11 = .ok (.aload_n 0, 1) := dk_42 (dk_at dksX4_init_0 11 rfl rfl)
theorem dX4_init_12 : decode cX4_init 12 = .ok (.iconst 4, 1) := dk_7 (dk_at dksX4_init_0 12 rfl rfl)
theorem dX4_init_13 : decode cX4_init 13 = .ok (.newarray .int, 2) := dk_188_10 (dk_at dksX4_init_0 13 rfl rfl)
theorem dX4_init_15 : decode cX4_init 15 = .ok (.putfield 13, 3) := dk_181 0 13 (dk_at dksX4_init_0 15 rfl rfl)
theorem dX4_init_18 : decode cX4_init 18 = .ok (.aload_n 0, 1) := dk_42 (dk_at dksX4_init_0 18 rfl rfl)
theorem dX4_init_19 : decode cX4_init 19 = .ok (.sipush 240, 3) := dk_17 0 240 (dk_at dksX4_init_0 19 rfl rfl)
theorem dX4_init_22 : decode cX4_init 22 = .ok (.newarray .long, 2) := dk_188_11 (dk_at dksX4_init_0 22 rfl rfl)
theorem dX4_init_24 : decode cX4_init 24 = .ok (.putfield 16, 3) := dk_181 0 16 (dk_at dksX4_init_1 0 rfl rfl)
theorem dX4_init_27 : decode cX4_init 27 = .ok (.aload_n 0, 1) := dk_42 (dk_at dksX4_init_1 3 rfl rfl)
theorem dX4_init_28 : decode cX4_init 28 = .ok (.iconst 4, 1) := dk_7 (dk_at dksX4_init_1 4 rfl rfl)
theorem dX4_init_29 : decode cX4_init 29 = .ok (.newarray .int, 2) := dk_188_10 (dk_at dksX4_init_1 5 rfl rfl)
theorem dX4_init_31 : decode cX4_init 31 = .ok (.putfield 20, 3) := dk_181 0 20 (dk_at dksX4_init_1 7 rfl rfl)
theorem dX4_init_34 : decode cX4_init 34 = .ok (.aload_n 0, 1) := dk_42 (dk_at dksX4_init_1 10 rfl rfl)
theorem dX4_init_35 : decode cX4_init 35 = .ok (.iconst 4, 1) := dk_7 (dk_at dksX4_init_1 11 rfl rfl)
theorem dX4_init_36 : decode cX4_init 36 = .ok (.newarray .int, 2) := dk_188_10 (dk_at dksX4_init_1 12 rfl rfl)
theorem dX4_init_38 : decode cX4_init 38 = .ok (.putfield 23, 3) := dk_181 0 23 (dk_at dksX4_init_1 14 rfl rfl)
theorem dX4_init_41 : decode cX4_init 41 = .ok (.aload_n 0, 1) := dk_42 (dk_at dksX4_init_1 17 rfl rfl)
theorem dX4_init_42 : decode cX4_init 42 = .ok (.iconst 4, 1) := dk_7 (dk_at dksX4_init_1 18 rfl rfl)
theorem dX4_init_43 : decode cX4_init 43 = .ok (.newarray .int, 2) := dk_188_10 (dk_at dksX4_init_1 19 rfl rfl)
theorem dX4_init_45 : decode cX4_init 45 = .ok (.putfield 26, 3) := dk_181 0 26 (dk_at dksX4_init_1 21 rfl rfl)
theorem dX4_init_48 : decode cX4_init 48 = .ok (.aload_n 0, 1) := dk_42 (dk_at dksX4_init_2 0 rfl rfl)
theorem dX4_init_49 : decode cX4_init 49 = .ok (.bipush 48, 2) := dk_16 48 (dk_at dksX4_init_2 1 rfl rfl)
theorem dX4_init_51 : decode cX4_init 51 = .ok (.newarray .int, 2) := dk_188_10 (dk_at dksX4_init_2 3 rfl rfl)
theorem dX4_init_53 : decode cX4_init 53 = .ok (.putfield 29, 3) := dk_181 0 29 (dk_at dksX4_init_2 5 rfl rfl)
theorem dX4_init_56 : decode cX4_init 56 = .ok (.aload_n 0, 1) := dk_42 (dk_at dksX4_init_2 8 rfl rfl)
theorem dX4_init_57 : decode cX4_init 57 = .ok (.sipush 336, 3) := dk_17 1 80 (dk_at dksX4_init_2 9 rfl rfl)
theorem dX4_init_60 : decode cX4_init 60 = .ok (.newarray .int, 2) := dk_188_10 (dk_at dksX4_init_2 12 rfl rfl)
theorem dX4_init_62 : decode cX4_init 62 = .ok (.putfield 32, 3) := dk_181 0 32 (dk_at dksX4_init_2 14 rfl rfl)
theorem dX4_init_65 : decode cX4_init 65 = .ok (.aload_n 0, 1) := dk_42 (dk_at dksX4_init_2 17 rfl rfl)
theorem dX4_init_66 : decode cX4_init 66 = .ok (.bipush 84, 2) := dk_16 84 (dk_at dksX4_init_2 18 rfl rfl)
theorem dX4_init_68 : decode cX4_init 68 = .ok (.newarray .int, 2) := dk_188_10 (dk_at dksX4_init_2 20 rfl rfl)
theorem dX4_init_70 : decode cX4_init 70 = .ok (.putfield 35, 3) := dk_181 0 35 (dk_at dksX4_init_3 0 rfl rfl)
theorem dX4_init_73 : decode cX4_init 73 = .ok (.aload_n 0, 1) := dk_42 (dk_at dksX4_init_3 3 rfl rfl)
theorem dX4_init_74 : decode cX4_init 74 = .ok (.iconst 4, 1) := dk_7 (dk_at dksX4_init_3 4 rfl rfl)
theorem dX4_init_75 : decode cX4_init 75 = .ok (.newarray .int, 2) := dk_188_10 (dk_at dksX4_init_3 5 rfl rfl)
theorem dX4_init_77 : decode cX4_init 77 = .ok (.putfield 38, 3) := dk_181 0 38 (dk_at dksX4_init_3 7 rfl rfl)
theorem dX4_init_80 : decode cX4_init 80 = .ok (.aload_n 0, 1) := dk_42 (dk_at dksX4_init_3 10 rfl rfl)
theorem dX4_init_81 : decode cX4_init 81 = .ok (.bipush 80, 2) := dk_16 80 (dk_at dksX4_init_3 11 rfl rfl)
theorem dX4_init_83 : decode cX4_init 83 = .ok (.newarray .int, 2) := dk_188_10 (dk_at dksX4_init_3 13 rfl rfl)
theorem dX4_init_85 : decode cX4_init 85 = .ok (.putfield 41, 3) := dk_181 0 41 (dk_at dksX4_init_3 15 rfl rfl)
theorem dX4_init_88 : decode cX4_init 88 = .ok (.aload_n 0, 1) := dk_42 (dk_at dksX4_init_3 18 rfl rfl)
theorem dX4_init_89 : decode cX4_init 89 = .ok (.bipush 80, 2) := dk_16 80 (dk_at dksX4_init_3 19 rfl rfl)
theorem dX4_init_91 : decode cX4_init 91 = .ok (.newarray .int, 2) := dk_188_10 (dk_at dksX4_init_3 21 rfl rfl)
theorem dX4_init_93 : decode cX4_init 93 = .ok (.putfield 44, 3) := dk_181 0 44 (dk_at dksX4_init_4 0 rfl rfl)
theorem dX4_init_96 : decode cX4_init 96 = .ok (.aload_n 0, 1) := dk_42 (dk_at dksX4_init_4 3 rfl rfl)
theorem dX4_init_97 : decode cX4_init 97 = .ok (.bipush 80, 2) := dk_16 80 (dk_at dksX4_init_4 4 rfl rfl)
theorem dX4_init_99 : decode cX4_init 99 = .ok (.newarray .int, 2) := dk_188_10 (dk_at dksX4_init_4 6 rfl rfl)
theorem dX4_init_101 : decode cX4_init 101 = .ok (.putfield 47, 3) := dk_181 0 47 (dk_at dksX4_init_4 8 rfl rfl)
theorem dX4_init_104 : decode cX4_init 104 = .ok (.aload_n 0, 1) := dk_42 (dk_at dksX4_init_4 11 rfl rfl)
theorem dX4_init_105 : decode cX4_init 105 = .ok (.bipush 80, 2) := dk_16 80 (dk_at dksX4_init_4 12 rfl rfl)
theorem dX4_init_107 : decode cX4_init 107 = .ok (.newarray .int, 2) := dk_188_10 (dk_at dksX4_init_4 14 rfl rfl)
theorem dX4_init_109 : decode cX4_init 109 = .ok (.putfield 50, 3) := dk_181 0 50 (dk_at dksX4_init_4 16 rfl rfl)
theorem dX4_init_112 : decode cX4_init 112 = .ok (.aload_n 0, 1) := dk_42 (dk_at dksX4_init_4 19 rfl rfl)
theorem dX4_init_113 : decode cX4_init 113 = .ok (.bipush 12, 2) := dk_16 12 (dk_at dksX4_init_4 20 rfl rfl)
theorem dX4_init_115 : decode cX4_init 115 = .ok (.newarray .boolean, 2) := dk_188_4 (dk_at dksX4_init_4 22 rfl rfl)
theorem dX4_init_117 : decode cX4_init 117 = .ok (.putfield 53, 3) := dk_181 0 53 (dk_at dksX4_init_5 0 rfl rfl)
theorem dX4_init_120 : decode cX4_init 120 = .ok (.aload_n 0, 1) := dk_42 (dk_at dksX4_init_5 3 rfl rfl)
theorem dX4_init_121 : decode cX4_init 121 = .ok (.iconst (-1), 1) := dk_2 (dk_at dksX4_init_5 4 rfl rfl)
theorem dX4_init_122 : decode cX4_init 122 = .ok (.putfield 57, 3) := dk_181 0 57 (dk_at dksX4_init_5 5 rfl rfl)
theorem dX4_init_125 : decode cX4_init 125 = .ok (.aload_n 0, 1) := dk_42 (dk_at dksX4_init_5 8 rfl rfl)
theorem dX4_init_126 : decode cX4_init 126 = .ok (.iconst (-1), 1) := dk_2 (dk_at dksX4_init_5 9 rfl rfl)
theorem dX4_init_127 : decode cX4_init 127 = .ok (.putfield 61, 3) := dk_181 0 61 (dk_at dksX4_init_5 10 rfl rfl)
theorem dX4_init_130 : decode cX4_init 130 = .ok (.aload_n 0, 1) := dk_42 (dk_at dksX4_init_5 13 rfl rfl)
theorem dX4_init_131 : decode cX4_init 131 = .ok (.bipush 7, 2) := dk_16 7 (dk_at dksX4_init_5 14 rfl rfl)
theorem dX4_init_133 : decode cX4_init 133 = .ok (.newarray .long, 2) := dk_188_11 (dk_at dksX4_init_5 16 rfl rfl)
theorem dX4_init_135 : decode cX4_init 135 = .ok (.putfield 64, 3) := dk_181 0 64 (dk_at dksX4_init_5 18 rfl rfl)
theorem dX4_init_138 : decode cX4_init 138 = .ok (.aload_n 0, 1) := dk_42 (dk_at dksX4_init_5 21 rfl rfl)
theorem dX4_init_139 : decode cX4_init 139 = .ok (.bipush 60, 2) := dk_16 60 (dk_at dksX4_init_5 22 rfl rfl)
theorem dX4_init_141 : decode cX4_init 141 = .ok (.newarray .long, 2) := dk_188_11 (dk_at dksX4_init_6 0 rfl rfl)
theorem dX4_init_143 : decode cX4_init 143 = .ok (.putfield 67, 3) := dk_181 0 67 (dk_at dksX4_init_6 2 rfl rfl)
theorem dX4_init_146 : decode cX4_init 146 = .ok (.aload_n 0, 1) := dk_42 (dk_at dksX4_init_6 5 rfl rfl)
theorem dX4_init_147 : decode cX4_init 147 = .ok (.sipush 500, 3) := dk_17 1 244 (dk_at dksX4_init_6 6 rfl rfl)
theorem dX4_init_150 : decode cX4_init 150 = .ok (.newarray .byte, 2) := dk_188_8 (dk_at dksX4_init_6 9 rfl rfl)
theorem dX4_init_152 : decode cX4_init 152 = .ok (.putfield 70, 3) := dk_181 0 70 (dk_at dksX4_init_6 11 rfl rfl)
theorem dX4_init_155 : decode cX4_init 155 = .ok (.aload_n 0, 1) := dk_42 (dk_at dksX4_init_6 14 rfl rfl)
theorem dX4_init_156 : decode cX4_init 156 = .ok (.iconst (-1), 1) := dk_2 (dk_at dksX4_init_6 15 rfl rfl)
theorem dX4_init_157 : decode cX4_init 157 = .ok (.putfield 74, 3) := dk_181 0 74 (dk_at dksX4_init_6 16 rfl rfl)
theorem dX4_init_160 : decode cX4_init 160 = .ok (.aload_n 0, 1) := dk_42 (dk_at dksX4_init_6 19 rfl rfl)
theorem dX4_init_161 : decode cX4_init 161 = .ok (.iconst (-1), 1) := dk_2 (dk_at dksX4_init_6 20 rfl rfl)
theorem dX4_init_162 : decode cX4_init 162 = .ok (.putfield 77, 3) := dk_181 0 77 (dk_at dksX4_init_6 21 rfl rfl)
theorem dX4_init_165 : decode cX4_init 165 = .ok (.aload_n 0, 1) := dk_42 (dk_at dksX4_init_7 0 rfl rfl)
theorem dX4_init_166 : decode cX4_init 166 = .ok (.iconst (-1), 1) := dk_2 (dk_at dksX4_init_7 1 rfl rfl)
theorem dX4_init_167 : decode cX4_init 167 = .ok (.putfield 80, 3) := dk_181 0 80 (dk_at dksX4_init_7 2 rfl rfl)
theorem dX4_init_170 : decode cX4_init 170 = .ok (.aload_n 0, 1) := dk_42 (dk_at dksX4_init_7 5 rfl rfl)
theorem dX4_init_171 : decode cX4_init 171 = .ok (.bipush 40, 2) := dk_16 40 (dk_at dksX4_init_7 6 rfl rfl)
theorem dX4_init_173 : decode cX4_init 173 = .ok (.newarray .int, 2) := dk_188_10 (dk_at dksX4_init_7 8 rfl rfl)
theorem dX4_init_175 : decode cX4_init 175 = .ok (.putfield 83, 3) := dk_181 0 83 (dk_at dksX4_init_7 10 rfl rfl)
theorem dX4_init_178 : decode cX4_init 178 = .ok (.aload_n 0, 1) := dk_42 (dk_at dksX4_init_7 13 rfl rfl)
theorem dX4_init_179 : decode cX4_init 179 = .ok (.bipush 40, 2) := dk_16 40 (dk_at dksX4_init_7 14 rfl rfl)
theorem dX4_init_181 : decode cX4_init 181 = .ok (.newarray .int, 2) := dk_188_10 (dk_at dksX4_init_7 16 rfl rfl)
theorem dX4_init_183 : decode cX4_init 183 = .ok (.putfield 86, 3) := dk_181 0 86 (dk_at dksX4_init_7 18 rfl rfl)
theorem dX4_init_186 : decode cX4_init 186 = .ok (.aload_n 0, 1) := dk_42 (dk_at dksX4_init_7 21 rfl rfl)
theorem dX4_init_187 : decode cX4_init 187 = .ok (.bipush 40, 2) := dk_16 40 (dk_at dksX4_init_7 22 rfl rfl)
theorem dX4_init_189 : decode cX4_init 189 = .ok (.newarray .int, 2) := dk_188_10 (dk_at dksX4_init_8 0 rfl rfl)
theorem dX4_init_191 : decode cX4_init 191 = .ok (.putfield 89, 3) := dk_181 0 89 (dk_at dksX4_init_8 2 rfl rfl)
theorem dX4_init_194 : decode cX4_init 194 = .ok (.aload_n 0, 1) := dk_42 (dk_at dksX4_init_8 5 rfl rfl)
theorem dX4_init_195 : decode cX4_init 195 = .ok (.bipush 40, 2) := dk_16 40 (dk_at dksX4_init_8 6 rfl rfl)
theorem dX4_init_197 : decode cX4_init 197 = .ok (.newarray .int, 2) := dk_188_10 (dk_at dksX4_init_8 8 rfl rfl)
theorem dX4_init_199 : decode cX4_init 199 = .ok (.putfield 92, 3) := dk_181 0 92 (dk_at dksX4_init_8 10 rfl rfl)
theorem dX4_init_202 : decode cX4_init 202 = .ok (.aload_n 0, 1) := dk_42 (dk_at dksX4_init_8 13 rfl rfl)
theorem dX4_init_203 : decode cX4_init 203 = .ok (.bipush 40, 2) := dk_16 40 (dk_at dksX4_init_8 14 rfl rfl)
theorem dX4_init_205 : decode cX4_init 205 = .ok (.newarray .int, 2) := dk_188_10 (dk_at dksX4_init_8 16 rfl rfl)
theorem dX4_init_207 : decode cX4_init 207 = .ok (.putfield 95, 3) := dk_181 0 95 (dk_at dksX4_init_8 18 rfl rfl)
theorem dX4_init_210 : decode cX4_init 210 = .ok (.aload_n 0, 1) := dk_42 (dk_at dksX4_init_8 21 rfl rfl)
theorem dX4_init_211 : decode cX4_init 211 = .ok (.bipush 40, 2) := dk_16 40 (dk_at dksX4_init_8 22 rfl rfl)
theorem dX4_init_213 : decode cX4_init 213 = .ok (.newarray .int, 2) := dk_188_10 (dk_at dksX4_init_9 0 rfl rfl)
theorem dX4_init_215 : decode cX4_init 215 = .ok (.putfield 98, 3) := dk_181 0 98 (dk_at dksX4_init_9 2 rfl rfl)
theorem dX4_init_218 : decode cX4_init 218 = .ok (.aload_n 0, 1) := dk_42 (dk_at dksX4_init_9 5 rfl rfl)
theorem dX4_init_219 : decode cX4_init 219 = .ok (.bipush 40, 2) := dk_16 40 (dk_at dksX4_init_9 6 rfl rfl)
theorem dX4_init_221 : decode cX4_init 221 = .ok (.newarray .int, 2) := dk_188_10 (dk_at dksX4_init_9 8 rfl rfl)
theorem dX4_init_223 : decode cX4_init 223 = .ok (.putfield 101, 3) := dk_181 0 101 (dk_at dksX4_init_9 10 rfl rfl)
theorem dX4_init_226 : decode cX4_init 226 = .ok (.aload_n 0, 1) := dk_42 (dk_at dksX4_init_9 13 rfl rfl)
theorem dX4_init_227 : decode cX4_init 227 = .ok (.bipush 40, 2) := dk_16 40 (dk_at dksX4_init_9 14 rfl rfl)
theorem dX4_init_229 : decode cX4_init 229 = .ok (.newarray .int, 2) := dk_188_10 (dk_at dksX4_init_9 16 rfl rfl)
theorem dX4_init_231 : decode cX4_init 231 = .ok (.putfield 104, 3) := dk_181 0 104 (dk_at dksX4_init_9 18 rfl rfl)
theorem dX4_init_234 : decode cX4_init 234 = .ok (.aload_n 0, 1) := dk_42 (dk_at dksX4_init_9 21 rfl rfl)
theorem dX4_init_235 : decode cX4_init 235 = .ok (.bipush 40, 2) := dk_16 40 (dk_at dksX4_init_9 22 rfl rfl)
theorem dX4_init_237 : decode cX4_init 237 = .ok (.newarray .int, 2) := dk_188_10 (dk_at dksX4_init_10 0 rfl rfl)
theorem dX4_init_239 : decode cX4_init 239 = .ok (.putfield 107, 3) := dk_181 0 107 (dk_at dksX4_init_10 2 rfl rfl)
theorem dX4_init_242 : decode cX4_init 242 = .ok (.aload_n 0, 1) := dk_42 (dk_at dksX4_init_10 5 rfl rfl)
theorem dX4_init_243 : decode cX4_init 243 = .ok (.bipush 40, 2) := dk_16 40 (dk_at dksX4_init_10 6 rfl rfl)
theorem dX4_init_245 : decode cX4_init 245 = .ok (.newarray .int, 2) := dk_188_10 (dk_at dksX4_init_10 8 rfl rfl)
theorem dX4_init_247 : decode cX4_init 247 = .ok (.putfield 110, 3) := dk_181 0 110 (dk_at dksX4_init_10 10 rfl rfl)
theorem dX4_init_250 : decode cX4_init 250 = .ok (.aload_n 0, 1) := dk_42 (dk_at dksX4_init_10 13 rfl rfl)
theorem dX4_init_251 : decode cX4_init 251 = .ok (.bipush 40, 2) := dk_16 40 (dk_at dksX4_init_10 14 rfl rfl)
theorem dX4_init_253 : decode cX4_init 253 = .ok (.newarray .int, 2) := dk_188_10 (dk_at dksX4_init_10 16 rfl rfl)
theorem dX4_init_255 : decode cX4_init 255 = .ok (.putfield 113, 3) := dk_181 0 113 (dk_at dksX4_init_10 18 rfl rfl)
theorem dX4_init_258 : decode cX4_init 258 = .ok (.aload_n 0, 1) := dk_42 (dk_at dksX4_init_10 21 rfl rfl)
theorem dX4_init_259 : decode cX4_init 259 = .ok (.bipush 40, 2) := dk_16 40 (dk_at dksX4_init_10 22 rfl rfl)
theorem dX4_init_261 : decode cX4_init 261 = .ok (.newarray .int, 2) := dk_188_10 (dk_at dksX4_init_11 0 rfl rfl)
theorem dX4_init_263 : decode cX4_init 263 = .ok (.putfield 116, 3) := dk_181 0 116 (dk_at dksX4_init_11 2 rfl rfl)
theorem dX4_init_266 : decode cX4_init 266 = .ok (.aload_n 0, 1) := dk_42 (dk_at dksX4_init_11 5 rfl rfl)
theorem dX4_init_267 : decode cX4_init 267 = .ok (.bipush 40, 2) := dk_16 40 (dk_at dksX4_init_11 6 rfl rfl)
theorem dX4_init_269 : decode cX4_init 269 = .ok (.newarray .int, 2) := dk_188_10 (dk_at dksX4_init_11 8 rfl rfl)
theorem dX4_init_271 : decode cX4_init 271 = .ok (.putfield 119, 3) := dk_181 0 119 (dk_at dksX4_init_11 10 rfl rfl)
theorem dX4_init_274 : decode cX4_init 274 = .ok (.aload_n 0, 1) := dk_42 (dk_at dksX4_init_11 13 rfl rfl)
theorem dX4_init_275 : decode cX4_init 275 = .ok (.bipush 40, 2) := dk_16 40 (dk_at dksX4_init_11 14 rfl rfl)
theorem dX4_init_277 : decode cX4_init 277 = .ok (.newarray .long, 2) := dk_188_11 (dk_at dksX4_init_11 16 rfl rfl)
theorem dX4_init_279 : decode cX4_init 279 = .ok (.putfield 122, 3) := dk_181 0 122 (dk_at dksX4_init_11 18 rfl rfl)
theorem dX4_init_282 : decode cX4_init 282 = .ok (.aload_n 0, 1) := dk_42 (dk_at dksX4_init_11 21 rfl rfl)
theorem dX4_init_283 : decode cX4_init 283 = .ok (.bipush 40, 2) := dk_16 40 (dk_at dksX4_init_11 22 rfl rfl)
theorem dX4_init_285 : decode cX4_init 285 = .ok (.newarray .long, 2) := dk_188_11 (dk_at dksX4_init_12 0 rfl rfl)
theorem dX4_init_287 : decode cX4_init 287 = .ok (.putfield 125, 3) := dk_181 0 125 (dk_at dksX4_init_12 2 rfl rfl)
theorem dX4_init_290 : decode cX4_init 290 = .ok (.aload_n 0, 1) := dk_42 (dk_at dksX4_init_12 5 rfl rfl)
theorem dX4_init_291 : decode cX4_init 291 = .ok (.bipush 20, 2) := dk_16 20 (dk_at dksX4_init_12 6 rfl rfl)
theorem dX4_init_293 : decode cX4_init 293 = .ok (.newarray .long, 2) := dk_188_11 (dk_at dksX4_init_12 8 rfl rfl)
theorem dX4_init_295 : decode cX4_init 295 = .ok (.putfield 128, 3) := dk_181 0 128 (dk_at dksX4_init_12 10 rfl rfl)
theorem dX4_init_298 : decode cX4_init 298 = .ok (.aload_n 0, 1) := dk_42 (dk_at dksX4_init_12 13 rfl rfl)
theorem dX4_init_299 : decode cX4_init 299 = .ok (.bipush 40, 2) := dk_16 40 (dk_at dksX4_init_12 14 rfl rfl)
theorem dX4_init_301 : decode cX4_init 301 = .ok (.newarray .long, 2) := dk_188_11 (dk_at dksX4_init_12 16 rfl rfl)
theorem dX4_init_303 : decode cX4_init 303 = .ok (.putfield 131, 3) := dk_181 0 131 (dk_at dksX4_init_12 18 rfl rfl)
theorem dX4_init_306 : decode cX4_init 306 = .ok (.aload_n 0, 1) := dk_42 (dk_at dksX4_init_12 21 rfl rfl)
theorem dX4_init_307 : decode cX4_init 307 = .ok (.iconst (-1), 1) := dk_2 (dk_at dksX4_init_12 22 rfl rfl)
theorem dX4_init_308 : decode cX4_init 308 = .ok (.putfield 134, 3) := dk_181 0 134 (dk_at dksX4_init_13 0 rfl rfl)
theorem dX4_init_311 : decode cX4_init 311 = .ok (.aload_n 0, 1) := dk_42 (dk_at dksX4_init_13 3 rfl rfl)
theorem dX4_init_312 : decode cX4_init 312 = .ok (.bipush 28, 2) := dk_16 28 (dk_at dksX4_init_13 4 rfl rfl)
theorem dX4_init_314 : decode cX4_init 314 = .ok (.newarray .int, 2) := dk_188_10 (dk_at dksX4_init_13 6 rfl rfl)
theorem dX4_init_316 : decode cX4_init 316 = .ok (.putfield 137, 3) := dk_181 0 137 (dk_at dksX4_init_13 8 rfl rfl)
theorem dX4_init_319 : decode cX4_init 319 = .ok (.aload_n 0, 1) := dk_42 (dk_at dksX4_init_13 11 rfl rfl)
theorem dX4_init_320 : decode cX4_init 320 = .ok (.bipush 13, 2) := dk_16 13 (dk_at dksX4_init_13 12 rfl rfl)
theorem dX4_init_322 : decode cX4_init 322 = .ok (.newarray .int, 2) := dk_188_10 (dk_at dksX4_init_13 14 rfl rfl)
theorem dX4_init_324 : decode cX4_init 324 = .ok (.putfield 140, 3) := dk_181 0 140 (dk_at dksX4_init_13 16 rfl rfl)
theorem dX4_init_327 : decode cX4_init 327 = .ok (.aload_n 0, 1) := dk_42 (dk_at dksX4_init_13 19 rfl rfl)
theorem dX4_init_328 : decode cX4_init 328 = .ok (.bipush 14, 2) := dk_16 14 (dk_at dksX4_init_13 20 rfl rfl)
theorem dX4_init_330 : decode cX4_init 330 = .ok (.newarray .int, 2) := dk_188_10 (dk_at dksX4_init_13 22 rfl rfl)
theorem dX4_init_332 : decode cX4_init 332 = .ok (.putfield 143, 3) := dk_181 0 143 (dk_at dksX4_init_14 0 rfl rfl)
theorem dX4_init_335 : decode cX4_init 335 = .ok (.aload_n 0, 1) := dk_42 (dk_at dksX4_init_14 3 rfl rfl)
theorem dX4_init_336 : decode cX4_init 336 = .ok (.bipush 20, 2) := dk_16 20 (dk_at dksX4_init_14 4 rfl rfl)
theorem dX4_init_338 : decode cX4_init 338 = .ok (.newarray .long, 2) := dk_188_11 (dk_at dksX4_init_14 6 rfl rfl)
theorem dX4_init_340 : decode cX4_init 340 = .ok (.putfield 146, 3) := dk_181 0 146 (dk_at dksX4_init_14 8 rfl rfl)
theorem dX4_init_343 : decode cX4_init 343 = .ok (.aload_n 0, 1) := dk_42 (dk_at dksX4_init_14 11 rfl rfl)
theorem dX4_init_344 : decode cX4_init 344 = .ok (.bipush 20, 2) := dk_16 20 (dk_at dksX4_init_14 12 rfl rfl)
theorem dX4_init_346 : decode cX4_init 346 = .ok (.newarray .long, 2) := dk_188_11 (dk_at dksX4_init_14 14 rfl rfl)
theorem dX4_init_348 : decode cX4_init 348 = .ok (.putfield 149, 3) := dk_181 0 149 (dk_at dksX4_init_14 16 rfl rfl)
theorem dX4_init_351 : decode cX4_init 351 = .ok (.aload_n 0, 1) := dk_42 (dk_at dksX4_init_14 19 rfl rfl)
theorem dX4_init_352 : decode cX4_init 352 = .ok (.sipush 1600, 3) := dk_17 6 64 (dk_at dksX4_init_14 20 rfl rfl)
theorem dX4_init_355 : decode cX4_init 355 = .ok (.newarray .long, 2) := dk_188_11 (dk_at dksX4_init_15 0 rfl rfl)
theorem dX4_init_357 : decode cX4_init 357 = .ok (.putfield 152, 3) := dk_181 0 152 (dk_at dksX4_init_15 2 rfl rfl)
theorem dX4_init_360 : decode cX4_init 360 = .ok (.aload_n 0, 1) := dk_42 (dk_at dksX4_init_15 5 rfl rfl)
theorem dX4_init_361 : decode cX4_init 361 = .ok (.bipush 20, 2) := dk_16 20 (dk_at dksX4_init_15 6 rfl rfl)
theorem dX4_init_363 : decode cX4_init 363 = .ok (.newarray .int, 2) := dk_188_10 (dk_at dksX4_init_15 8 rfl rfl)
theorem dX4_init_365 : decode cX4_init 365 = .ok (.putfield 155, 3) := dk_181 0 155 (dk_at dksX4_init_15 10 rfl rfl)
theorem dX4_init_368 : decode cX4_init 368 = .ok (.aload_n 0, 1) := dk_42 (dk_at dksX4_init_15 13 rfl rfl)
theorem dX4_init_369 : decode cX4_init 369 = .ok (.iconst 2, 1) := dk_5 (dk_at dksX4_init_15 14 rfl rfl)
theorem dX4_init_370 : decode cX4_init 370 = .ok (.newarray .int, 2) := dk_188_10 (dk_at dksX4_init_15 15 rfl rfl)
theorem dX4_init_372 : decode cX4_init 372 = .ok (.putfield 158, 3) := dk_181 0 158 (dk_at dksX4_init_15 17 rfl rfl)
theorem dX4_init_375 : decode cX4_init 375 = .ok (.aload_n 0, 1) := dk_42 (dk_at dksX4_init_15 20 rfl rfl)
theorem dX4_init_376 : decode cX4_init 376 = .ok (.iconst 2, 1) := dk_5 (dk_at dksX4_init_15 21 rfl rfl)
theorem dX4_init_377 : decode cX4_init 377 = .ok (.newarray .int, 2) := dk_188_10 (dk_at dksX4_init_15 22 rfl rfl)
theorem dX4_init_379 : decode cX4_init 379 = .ok (.putfield 161, 3) := dk_181 0 161 (dk_at dksX4_init_16 0 rfl rfl)
theorem dX4_init_382 : decode cX4_init 382 = .ok (.aload_n 0, 1) := dk_42 (dk_at dksX4_init_16 3 rfl rfl)
theorem dX4_init_383 : decode cX4_init 383 = .ok (.bipush 100, 2) := dk_16 100 (dk_at dksX4_init_16 4 rfl rfl)
theorem dX4_init_385 : decode cX4_init 385 = .ok (.newarray .int, 2) := dk_188_10 (dk_at dksX4_init_16 6 rfl rfl)
theorem dX4_init_387 : decode cX4_init 387 = .ok (.putfield 164, 3) := dk_181 0 164 (dk_at dksX4_init_16 8 rfl rfl)
theorem dX4_init_390 : decode cX4_init 390 = .ok (.aload_n 0, 1) := dk_42 (dk_at dksX4_init_16 11 rfl rfl)
theorem dX4_init_391 : decode cX4_init 391 = .ok (.bipush 100, 2) := dk_16 100 (dk_at dksX4_init_16 12 rfl rfl)
theorem dX4_init_393 : decode cX4_init 393 = .ok (.newarray .int, 2) := dk_188_10 (dk_at dksX4_init_16 14 rfl rfl)
theorem dX4_init_395 : decode cX4_init 395 = .ok (.putfield 167, 3) := dk_181 0 167 (dk_at dksX4_init_16 16 rfl rfl)
theorem dX4_init_398 : decode cX4_init 398 = .ok (.aload_n 0, 1) := dk_42 (dk_at dksX4_init_16 19 rfl rfl)
theorem dX4_init_399 : decode cX4_init 399 = .ok (.bipush 20, 2) := dk_16 20 (dk_at dksX4_init_16 20 rfl rfl)
theorem dX4_init_401 : decode cX4_init 401 = .ok (.newarray .int, 2) := dk_188_10 (dk_at dksX4_init_16 22 rfl rfl)
theorem dX4_init_403 : decode cX4_init 403 = .ok (.putfield 170, 3) := dk_181 0 170 (dk_at dksX4_init_17 0 rfl rfl)
theorem dX4_init_406 : decode cX4_init 406 = .ok (.aload_n 0, 1) := dk_42 (dk_at dksX4_init_17 3 rfl rfl)
theorem dX4_init_407 : decode cX4_init 407 = .ok (.bipush 20, 2) := dk_16 20 (dk_at dksX4_init_17 4 rfl rfl)
theorem dX4_init_409 : decode cX4_init 409 = .ok (.newarray .int, 2) := dk_188_10 (dk_at dksX4_init_17 6 rfl rfl)
theorem dX4_init_411 : decode cX4_init 411 = .ok (.putfield 173, 3) := dk_181 0 173 (dk_at dksX4_init_17 8 rfl rfl)
theorem dX4_init_414 : decode cX4_init 414 = .ok (.aload_n 0, 1) := dk_42 (dk_at dksX4_init_17 11 rfl rfl)
theorem dX4_init_415 : decode cX4_init 415 = .ok (.bipush 60, 2) := dk_16 60 (dk_at dksX4_init_17 12 rfl rfl)
theorem dX4_init_417 : decode cX4_init 417 = .ok (.newarray .int, 2) := dk_188_10 (dk_at dksX4_init_17 14 rfl rfl)
theorem dX4_init_419 : decode cX4_init 419 = .ok (.putfield 176, 3) := dk_181 0 176 (dk_at dksX4_init_17 16 rfl rfl)
theorem dX4_init_422 : decode cX4_init 422 = .ok (.aload_n 0, 1) := dk_42 (dk_at dksX4_init_17 19 rfl rfl)
theorem dX4_init_423 : decode cX4_init 423 = .ok (.bipush 60, 2) := dk_16 60 (dk_at dksX4_init_17 20 rfl rfl)
theorem dX4_init_425 : decode cX4_init 425 = .ok (.newarray .int, 2) := dk_188_10 (dk_at dksX4_init_17 22 rfl rfl)
theorem dX4_init_427 : decode cX4_init 427 = .ok (.putfield 179, 3) := dk_181 0 179 (dk_at dksX4_init_18 0 rfl rfl)
theorem dX4_init_430 : decode cX4_init 430 = .ok (.aload_n 0, 1) := dk_42 (dk_at dksX4_init_18 3 rfl rfl)
theorem dX4_init_431 : decode cX4_init 431 = .ok (.bipush 60, 2) := dk_16 60 (dk_at dksX4_init_18 4 rfl rfl)
theorem dX4_init_433 : decode cX4_init 433 = .ok (.newarray .int, 2) := dk_188_10 (dk_at dksX4_init_18 6 rfl rfl)
theorem dX4_init_435 : decode cX4_init 435 = .ok (.putfield 182, 3) := dk_181 0 182 (dk_at dksX4_init_18 8 rfl rfl)
theorem dX4_init_438 : decode cX4_init 438 = .ok (.aload_n 0, 1) := dk_42 (dk_at dksX4_init_18 11 rfl rfl)
theorem dX4_init_439 : decode cX4_init 439 = .ok (.bipush 7, 2) := dk_16 7 (dk_at dksX4_init_18 12 rfl rfl)
theorem dX4_init_441 : decode cX4_init 441 = .ok (.newarray .int, 2) := dk_188_10 (dk_at dksX4_init_18 14 rfl rfl)
theorem dX4_init_443 : decode cX4_init 443 = .ok (.putfield 185, 3) := dk_181 0 185 (dk_at dksX4_init_18 16 rfl rfl)
theorem dX4_init_446 : decode cX4_init 446 = .ok (.aload_n 0, 1) := dk_42 (dk_at dksX4_init_18 19 rfl rfl)
theorem dX4_init_447 : decode cX4_init 447 = .ok (.bipush 7, 2) := dk_16 7 (dk_at dksX4_init_18 20 rfl rfl)
theorem dX4_init_449 : decode cX4_init 449 = .ok (.newarray .int, 2) := dk_188_10 (dk_at dksX4_init_18 22 rfl rfl)
theorem dX4_init_451 : decode cX4_init 451 = .ok (.putfield 188, 3) := dk_181 0 188 (dk_at dksX4_init_19 0 rfl rfl)
theorem dX4_init_454 : decode cX4_init 454 = .ok (.aload_n 0, 1) := dk_42 (dk_at dksX4_init_19 3 rfl rfl)
theorem dX4_init_455 : decode cX4_init 455 = .ok (.bipush 7, 2) := dk_16 7 (dk_at dksX4_init_19 4 rfl rfl)
theorem dX4_init_457 : decode cX4_init 457 = .ok (.newarray .int, 2) := dk_188_10 (dk_at dksX4_init_19 6 rfl rfl)
theorem dX4_init_459 : decode cX4_init 459 = .ok (.putfield 191, 3) := dk_181 0 191 (dk_at dksX4_init_19 8 rfl rfl)
theorem dX4_init_462 : decode cX4_init 462 = .ok (.aload_n 0, 1) := dk_42 (dk_at dksX4_init_19 11 rfl rfl)
theorem dX4_init_463 : decode cX4_init 463 = .ok (.bipush 7, 2) := dk_16 7 (dk_at dksX4_init_19 12 rfl rfl)
theorem dX4_init_465 : decode cX4_init 465 = .ok (.newarray .int, 2) := dk_188_10 (dk_at dksX4_init_19 14 rfl rfl)
theorem dX4_init_467 : decode cX4_init 467 = .ok (.putfield 194, 3) := dk_181 0 194 (dk_at dksX4_init_19 16 rfl rfl)
theorem dX4_init_470 : decode cX4_init 470 = .ok (.aload_n 0, 1) := dk_42 (dk_at dksX4_init_19 19 rfl rfl)
theorem dX4_init_471 : decode cX4_init 471 = .ok (.bipush 7, 2) := dk_16 7 (dk_at dksX4_init_19 20 rfl rfl)
theorem dX4_init_473 : decode cX4_init 473 = .ok (.newarray .int, 2) := dk_188_10 (dk_at dksX4_init_19 22 rfl rfl)
theorem dX4_init_475 : decode cX4_init 475 = .ok (.putfield 197, 3) := dk_181 0 197 (dk_at dksX4_init_20 0 rfl rfl)
theorem dX4_init_478 : decode cX4_init 478 = .ok (.aload_n 0, 1) := dk_42 (dk_at dksX4_init_20 3 rfl rfl)
theorem dX4_init_479 : decode cX4_init 479 = .ok (.iconst 4, 1) := dk_7 (dk_at dksX4_init_20 4 rfl rfl)
theorem dX4_init_480 : decode cX4_init 480 = .ok (.newarray .int, 2) := dk_188_10 (dk_at dksX4_init_20 5 rfl rfl)
theorem dX4_init_482 : decode cX4_init 482 = .ok (.putfield 200, 3) := dk_181 0 200 (dk_at dksX4_init_20 7 rfl rfl)
theorem dX4_init_485 : decode cX4_init 485 = .ok (.aload_n 0, 1) := dk_42 (dk_at dksX4_init_20 10 rfl rfl)
theorem dX4_init_486 : decode cX4_init 486 = .ok (.iconst 5, 1) := dk_8 (dk_at dksX4_init_20 11 rfl rfl)
theorem dX4_init_487 : decode cX4_init 487 = .ok (.newarray .long, 2) := dk_188_11 (dk_at dksX4_init_20 12 rfl rfl)
theorem dX4_init_489 : decode cX4_init 489 = .ok (.putfield 203, 3) := dk_181 0 203 (dk_at dksX4_init_20 14 rfl rfl)
theorem dX4_init_492 : decode cX4_init 492 = .ok (.aload_n 0, 1) := dk_42 (dk_at dksX4_init_20 17 rfl rfl)
theorem dX4_init_493 : decode cX4_init 493 = .ok (.iconst 2, 1) := dk_5 (dk_at dksX4_init_20 18 rfl rfl)
theorem dX4_init_494 : decode cX4_init 494 = .ok (.newarray .int, 2) := dk_188_10 (dk_at dksX4_init_20 19 rfl rfl)
theorem dX4_init_496 : decode cX4_init 496 = .ok (.putfield 206, 3) := dk_181 0 206 (dk_at dksX4_init_20 21 rfl rfl)
theorem dX4_init_499 : decode cX4_init 499 = .ok (.aload_n 0, 1) := dk_42 (dk_at dksX4_init_21 0 rfl rfl)
theorem dX4_init_500 : decode cX4_init 500 = .ok (.iconst 2, 1) := dk_5 (dk_at dksX4_init_21 1 rfl rfl)
theorem dX4_init_501 : decode cX4_init 501 = .ok (.newarray .int, 2) := dk_188_10 (dk_at dksX4_init_21 2 rfl rfl)
theorem dX4_init_503 : decode cX4_init 503 = .ok (.putfield 209, 3) := dk_181 0 209 (dk_at dksX4_init_21 4 rfl rfl)
theorem dX4_init_506 : decode cX4_init 506 = .ok (.iconst 0, 1) := dk_3 (dk_at dksX4_init_21 7 rfl rfl)
theorem dX4_init_507 : decode cX4_init 507 = .ok (.istore_n 1, 1) := dk_60 (dk_at dksX4_init_21 8 rfl rfl)
theorem dX4_init_508 : decode cX4_init 508 = .ok (.iload_n 1, 1) := dk_27 (dk_at dksX4_init_21 9 rfl rfl)
theorem dX4_init_509 : decode cX4_init 509 = .ok (.iconst 4, 1) := dk_7 (dk_at dksX4_init_21 10 rfl rfl)
theorem dX4_init_510 : decode cX4_init 510 = .ok (.if_icmp .ge 16, 3) := dk_162 0 16 (dk_at dksX4_init_21 11 rfl rfl)
theorem dX4_init_513 : decode cX4_init 513 = .ok (.aload_n 0, 1) := dk_42 (dk_at dksX4_init_21 14 rfl rfl)
theorem dX4_init_514 : decode cX4_init 514 = .ok (.getfield 13, 3) := dk_180 0 13 (dk_at dksX4_init_21 15 rfl rfl)
theorem dX4_init_517 : decode cX4_init 517 = .ok (.iload_n 1, 1) := dk_27 (dk_at dksX4_init_21 18 rfl rfl)
theorem dX4_init_518 : decode cX4_init 518 = .ok (.iconst (-1), 1) := dk_2 (dk_at dksX4_init_21 19 rfl rfl)
theorem dX4_init_519 : decode cX4_init 519 = .ok (.iastore, 1) := dk_79 (dk_at dksX4_init_21 20 rfl rfl)
theorem dX4_init_520 : decode cX4_init 520 = .ok (.iinc 1 1, 3) := dk_132 1 1 (dk_at dksX4_init_21 21 rfl rfl)
theorem dX4_init_523 : decode cX4_init 523 = .ok (.goto (-15), 3) := dk_167 255 241 (dk_at dksX4_init_22 0 rfl rfl)
theorem dX4_init_526 : decode cX4_init 526 = .ok (.return_, 1) := dk_177 (dk_at dksX4_init_22 3 rfl rfl)
abbrev cX4_status : ByteArray := prog_9_method_3_code
def yX4_status : MethodName := ⟨RX4, "status", "()I"⟩
def dkwX4_status_0 : List UInt8 := [42, 3, 181, 0, 212, 42, 180, 0, 215, 172]
abbrev dktX4_status_0 : List UInt8 := dkwX4_status_0 ++ []
theorem dksX4_status_0 : cX4_status.data.toList.drop 0 = dktX4_status_0 := by decide +kernel
theorem dX4_status_0 : decode cX4_status 0 = .ok (.aload_n 0, 1) := dk_42 (dk_at dksX4_status_0 0 rfl rfl)
theorem dX4_status_1 : decode cX4_status 1 = .ok (.iconst 0, 1) := dk_3 (dk_at dksX4_status_0 1 rfl rfl)
theorem dX4_status_2 : decode cX4_status 2 = .ok (.putfield 212, 3) := dk_181 0 212 (dk_at dksX4_status_0 2 rfl rfl)
theorem dX4_status_5 : decode cX4_status 5 = .ok (.aload_n 0, 1) := dk_42 (dk_at dksX4_status_0 5 rfl rfl)
theorem dX4_status_6 : decode cX4_status 6 = .ok (.getfield 215, 3) := dk_180 0 215 (dk_at dksX4_status_0 6 rfl rfl)
theorem dX4_status_9 : decode cX4_status 9 = .ok (.ireturn, 1) := dk_172 (dk_at dksX4_status_0 9 rfl rfl)
abbrev cX4_tray : ByteArray := prog_9_method_8_code
def yX4_tray : MethodName := ⟨RX4, "tray", "(III)Z"⟩
def dkwX4_tray_4 : List UInt8 := [132, 4, 1, 167, 255, 234, 4, 172]
abbrev dktX4_tray_4 : List UInt8 := dkwX4_tray_4 ++ []
def dkwX4_tray_3 : List UInt8 := [3, 54, 4, 21, 4, 29, 162, 0, 22, 42, 180, 0, 16, 16, 60, 27, 104, 21, 4, 96, 9, 80]
abbrev dktX4_tray_3 : List UInt8 := dkwX4_tray_3 ++ dktX4_tray_4
def dkwX4_tray_2 : List UInt8 := [156, 0, 10, 42, 16, 6, 182, 0, 218, 172, 42, 180, 0, 7, 27, 28, 79, 42, 180, 0, 13, 27, 29, 79]
abbrev dktX4_tray_2 : List UInt8 := dkwX4_tray_2 ++ dktX4_tray_3
def dkwX4_tray_1 : List UInt8 := [6, 164, 0, 9, 42, 4, 182, 0, 218, 172, 29, 16, 60, 164, 0, 9, 42, 8, 182, 0, 218, 172, 29]
abbrev dktX4_tray_1 : List UInt8 := dkwX4_tray_1 ++ dktX4_tray_2
def dkwX4_tray_0 : List UInt8 := [42, 3, 181, 0, 212, 42, 3, 181, 0, 215, 27, 155, 0, 17, 27, 7, 162, 0, 12, 28, 155, 0, 8, 28]
abbrev dktX4_tray_0 : List UInt8 := dkwX4_tray_0 ++ dktX4_tray_1
theorem dksX4_tray_0 : cX4_tray.data.toList.drop 0 = dktX4_tray_0 := by decide +kernel
theorem dksX4_tray_1 : cX4_tray.data.toList.drop 24 = dktX4_tray_1 := dk_seg dksX4_tray_0 24 rfl rfl
theorem dksX4_tray_2 : cX4_tray.data.toList.drop 47 = dktX4_tray_2 := dk_seg dksX4_tray_1 23 rfl rfl
theorem dksX4_tray_3 : cX4_tray.data.toList.drop 71 = dktX4_tray_3 := dk_seg dksX4_tray_2 24 rfl rfl
theorem dksX4_tray_4 : cX4_tray.data.toList.drop 93 = dktX4_tray_4 := dk_seg dksX4_tray_3 22 rfl rfl
theorem dX4_tray_0 : decode cX4_tray 0 = .ok (.aload_n 0, 1) := dk_42 (dk_at dksX4_tray_0 0 rfl rfl)
theorem dX4_tray_1 : decode cX4_tray 1 = .ok (.iconst 0, 1) := dk_3 (dk_at dksX4_tray_0 1 rfl rfl)
theorem dX4_tray_2 : decode cX4_tray 2 = .ok (.putfield 212, 3) := dk_181 0 212 (dk_at dksX4_tray_0 2 rfl rfl)
theorem dX4_tray_5 : decode cX4_tray 5 = .ok (.aload_n 0, 1) := dk_42 (dk_at dksX4_tray_0 5 rfl rfl)
theorem dX4_tray_6 : decode cX4_tray 6 = .ok (.iconst 0, 1) := dk_3 (dk_at dksX4_tray_0 6 rfl rfl)
theorem dX4_tray_7 : decode cX4_tray 7 = .ok (.putfield 215, 3) := dk_181 0 215 (dk_at dksX4_tray_0 7 rfl rfl)
theorem dX4_tray_10 : decode cX4_tray 10 = .ok (.iload_n 1, 1) := dk_27 (dk_at dksX4_tray_0 10 rfl rfl)
theorem dX4_tray_11 : decode cX4_tray 11 = .ok (.ifCond .lt 17, 3) := dk_155 0 17 (dk_at dksX4_tray_0 11 rfl rfl)
theorem dX4_tray_14 : decode cX4_tray 14 = .ok (.iload_n 1, 1) := dk_27 (dk_at dksX4_tray_0 14 rfl rfl)
theorem dX4_tray_15 : decode cX4_tray 15 = .ok (.iconst 4, 1) := dk_7 (dk_at dksX4_tray_0 15 rfl rfl)
theorem dX4_tray_16 : decode cX4_tray 16 = .ok (.if_icmp .ge 12, 3) := dk_162 0 12 (dk_at dksX4_tray_0 16 rfl rfl)
theorem dX4_tray_19 : decode cX4_tray 19 = .ok (.iload_n 2, 1) := dk_28 (dk_at dksX4_tray_0 19 rfl rfl)
theorem dX4_tray_20 : decode cX4_tray 20 = .ok (.ifCond .lt 8, 3) := dk_155 0 8 (dk_at dksX4_tray_0 20 rfl rfl)
theorem dX4_tray_23 : decode cX4_tray 23 = .ok (.iload_n 2, 1) := dk_28 (dk_at dksX4_tray_0 23 rfl rfl)
theorem dX4_tray_24 : decode cX4_tray 24 = .ok (.iconst 3, 1) := dk_6 (dk_at dksX4_tray_1 0 rfl rfl)
theorem dX4_tray_25 : decode cX4_tray 25 = .ok (.if_icmp .le 9, 3) := dk_164 0 9 (dk_at dksX4_tray_1 1 rfl rfl)
theorem dX4_tray_28 : decode cX4_tray 28 = .ok (.aload_n 0, 1) := dk_42 (dk_at dksX4_tray_1 4 rfl rfl)
theorem dX4_tray_29 : decode cX4_tray 29 = .ok (.iconst 1, 1) := dk_4 (dk_at dksX4_tray_1 5 rfl rfl)
theorem dX4_tray_30 : decode cX4_tray 30 = .ok (.invokevirtual 218, 3) := dk_182 0 218 (dk_at dksX4_tray_1 6 rfl rfl)
theorem dX4_tray_33 : decode cX4_tray 33 = .ok (.ireturn, 1) := dk_172 (dk_at dksX4_tray_1 9 rfl rfl)
theorem dX4_tray_34 : decode cX4_tray 34 = .ok (.iload_n 3, 1) := dk_29 (dk_at dksX4_tray_1 10 rfl rfl)
theorem dX4_tray_35 : decode cX4_tray 35 = .ok (.bipush 60, 2) := dk_16 60 (dk_at dksX4_tray_1 11 rfl rfl)
theorem dX4_tray_37 : decode cX4_tray 37 = .ok (.if_icmp .le 9, 3) := dk_164 0 9 (dk_at dksX4_tray_1 13 rfl rfl)
theorem dX4_tray_40 : decode cX4_tray 40 = .ok (.aload_n 0, 1) := dk_42 (dk_at dksX4_tray_1 16 rfl rfl)
theorem dX4_tray_41 : decode cX4_tray 41 = .ok (.iconst 5, 1) := dk_8 (dk_at dksX4_tray_1 17 rfl rfl)
theorem dX4_tray_42 : decode cX4_tray 42 = .ok (.invokevirtual 218, 3) := dk_182 0 218 (dk_at dksX4_tray_1 18 rfl rfl)
theorem dX4_tray_45 : decode cX4_tray 45 = .ok (.ireturn, 1) := dk_172 (dk_at dksX4_tray_1 21 rfl rfl)
theorem dX4_tray_46 : decode cX4_tray 46 = .ok (.iload_n 3, 1) := dk_29 (dk_at dksX4_tray_1 22 rfl rfl)
theorem dX4_tray_47 : decode cX4_tray 47 = .ok (.ifCond .ge 10, 3) := dk_156 0 10 (dk_at dksX4_tray_2 0 rfl rfl)
theorem dX4_tray_50 : decode cX4_tray 50 = .ok (.aload_n 0, 1) := dk_42 (dk_at dksX4_tray_2 3 rfl rfl)
theorem dX4_tray_51 : decode cX4_tray 51 = .ok (.bipush 6, 2) := dk_16 6 (dk_at dksX4_tray_2 4 rfl rfl)
theorem dX4_tray_53 : decode cX4_tray 53 = .ok (.invokevirtual 218, 3) := dk_182 0 218 (dk_at dksX4_tray_2 6 rfl rfl)
theorem dX4_tray_56 : decode cX4_tray 56 = .ok (.ireturn, 1) := dk_172 (dk_at dksX4_tray_2 9 rfl rfl)
theorem dX4_tray_57 : decode cX4_tray 57 = .ok (.aload_n 0, 1) := dk_42 (dk_at dksX4_tray_2 10 rfl rfl)
theorem dX4_tray_58 : decode cX4_tray 58 = .ok (.getfield 7, 3) := dk_180 0 7 (dk_at dksX4_tray_2 11 rfl rfl)
theorem dX4_tray_61 : decode cX4_tray 61 = .ok (.iload_n 1, 1) := dk_27 (dk_at dksX4_tray_2 14 rfl rfl)
theorem dX4_tray_62 : decode cX4_tray 62 = .ok (.iload_n 2, 1) := dk_28 (dk_at dksX4_tray_2 15 rfl rfl)
theorem dX4_tray_63 : decode cX4_tray 63 = .ok (.iastore, 1) := dk_79 (dk_at dksX4_tray_2 16 rfl rfl)
theorem dX4_tray_64 : decode cX4_tray 64 = .ok (.aload_n 0, 1) := dk_42 (dk_at dksX4_tray_2 17 rfl rfl)
theorem dX4_tray_65 : decode cX4_tray 65 = .ok (.getfield 13, 3) := dk_180 0 13 (dk_at dksX4_tray_2 18 rfl rfl)
theorem dX4_tray_68 : decode cX4_tray 68 = .ok (.iload_n 1, 1) := dk_27 (dk_at dksX4_tray_2 21 rfl rfl)
theorem dX4_tray_69 : decode cX4_tray 69 = .ok (.iload_n 3, 1) := dk_29 (dk_at dksX4_tray_2 22 rfl rfl)
theorem dX4_tray_70 : decode cX4_tray 70 = .ok (.iastore, 1) := dk_79 (dk_at dksX4_tray_2 23 rfl rfl)
theorem dX4_tray_71 : decode cX4_tray 71 = .ok (.iconst 0, 1) := dk_3 (dk_at dksX4_tray_3 0 rfl rfl)
theorem dX4_tray_72 : decode cX4_tray 72 = .ok (.istore 4, 2) := dk_54 4 (dk_at dksX4_tray_3 1 rfl rfl)
theorem dX4_tray_74 : decode cX4_tray 74 = .ok (.iload 4, 2) := dk_21 4 (dk_at dksX4_tray_3 3 rfl rfl)
theorem dX4_tray_76 : decode cX4_tray 76 = .ok (.iload_n 3, 1) := dk_29 (dk_at dksX4_tray_3 5 rfl rfl)
theorem dX4_tray_77 : decode cX4_tray 77 = .ok (.if_icmp .ge 22, 3) := dk_162 0 22 (dk_at dksX4_tray_3 6 rfl rfl)
theorem dX4_tray_80 : decode cX4_tray 80 = .ok (.aload_n 0, 1) := dk_42 (dk_at dksX4_tray_3 9 rfl rfl)
theorem dX4_tray_81 : decode cX4_tray 81 = .ok (.getfield 16, 3) := dk_180 0 16 (dk_at dksX4_tray_3 10 rfl rfl)
theorem dX4_tray_84 : decode cX4_tray 84 = .ok (.bipush 60, 2) := dk_16 60 (dk_at dksX4_tray_3 13 rfl rfl)
theorem dX4_tray_86 : decode cX4_tray 86 = .ok (.iload_n 1, 1) := dk_27 (dk_at dksX4_tray_3 15 rfl rfl)
theorem dX4_tray_87 : decode cX4_tray 87 = .ok (.imul, 1) := dk_104 (dk_at dksX4_tray_3 16 rfl rfl)
theorem dX4_tray_88 : decode cX4_tray 88 = .ok (.iload 4, 2) := dk_21 4 (dk_at dksX4_tray_3 17 rfl rfl)
theorem dX4_tray_90 : decode cX4_tray 90 = .ok (.iadd, 1) := dk_96 (dk_at dksX4_tray_3 19 rfl rfl)
theorem dX4_tray_91 : decode cX4_tray 91 = .ok (.lconst 0, 1) := dk_9 (dk_at dksX4_tray_3 20 rfl rfl)
theorem dX4_tray_92 : decode cX4_tray 92 = .ok (.lastore, 1) := dk_80 (dk_at dksX4_tray_3 21 rfl rfl)
theorem dX4_tray_93 : decode cX4_tray 93 = .ok (.iinc 4 1, 3) := dk_132 4 1 (dk_at dksX4_tray_4 0 rfl rfl)
theorem dX4_tray_96 : decode cX4_tray 96 = .ok (.goto (-22), 3) := dk_167 255 234 (dk_at dksX4_tray_4 3 rfl rfl)
theorem dX4_tray_99 : decode cX4_tray 99 = .ok (.iconst 1, 1) := dk_4 (dk_at dksX4_tray_4 6 rfl rfl)
theorem dX4_tray_100 : decode cX4_tray 100 = .ok (.ireturn, 1) := dk_172 (dk_at dksX4_tray_4 7 rfl rfl)
abbrev cX4_no : ByteArray := prog_9_method_5_code
def yX4_no : MethodName := ⟨RX4, "no", "(I)Z"⟩
def dkwX4_no_0 : List UInt8 := [42, 27, 181, 0, 215, 3, 172]
abbrev dktX4_no_0 : List UInt8 := dkwX4_no_0 ++ []
theorem dksX4_no_0 : cX4_no.data.toList.drop 0 = dktX4_no_0 := by decide +kernel
theorem dX4_no_0 : decode cX4_no 0 = .ok (.aload_n 0, 1) := dk_42 (dk_at dksX4_no_0 0 rfl rfl)
theorem dX4_no_1 : decode cX4_no 1 = .ok (.iload_n 1, 1) := dk_27 (dk_at dksX4_no_0 1 rfl rfl)
theorem dX4_no_2 : decode cX4_no 2 = .ok (.putfield 215, 3) := dk_181 0 215 (dk_at dksX4_no_0 2 rfl rfl)
theorem dX4_no_5 : decode cX4_no 5 = .ok (.iconst 0, 1) := dk_3 (dk_at dksX4_no_0 5 rfl rfl)
theorem dX4_no_6 : decode cX4_no 6 = .ok (.ireturn, 1) := dk_172 (dk_at dksX4_no_0 6 rfl rfl)
abbrev cX4_write : ByteArray := prog_9_method_11_code
def yX4_write : MethodName := ⟨RX4, "write", "(IIJ)Z"⟩
def dkwX4_write_1 : List UInt8 := [42, 180, 0, 16, 16, 60, 27, 104, 28, 96, 42, 180, 0, 7, 27, 46, 33, 184, 0, 230, 80, 4, 172]
abbrev dktX4_write_1 : List UInt8 := dkwX4_write_1 ++ []
def dkwX4_write_0 : List UInt8 := [42, 3, 181, 0, 212, 42, 42, 27, 28, 182, 0, 226, 181, 0, 215, 42, 180, 0, 215, 158, 0, 5, 3, 172]
abbrev dktX4_write_0 : List UInt8 := dkwX4_write_0 ++ dktX4_write_1
theorem dksX4_write_0 : cX4_write.data.toList.drop 0 = dktX4_write_0 := by decide +kernel
theorem dksX4_write_1 : cX4_write.data.toList.drop 24 = dktX4_write_1 := dk_seg dksX4_write_0 24 rfl rfl
theorem dX4_write_0 : decode cX4_write 0 = .ok (.aload_n 0, 1) := dk_42 (dk_at dksX4_write_0 0 rfl rfl)
theorem dX4_write_1 : decode cX4_write 1 = .ok (.iconst 0, 1) := dk_3 (dk_at dksX4_write_0 1 rfl rfl)
theorem dX4_write_2 : decode cX4_write 2 = .ok (.putfield 212, 3) := dk_181 0 212 (dk_at dksX4_write_0 2 rfl rfl)
theorem dX4_write_5 : decode cX4_write 5 = .ok (.aload_n 0, 1) := dk_42 (dk_at dksX4_write_0 5 rfl rfl)
theorem dX4_write_6 : decode cX4_write 6 = .ok (.aload_n 0, 1) := dk_42 (dk_at dksX4_write_0 6 rfl rfl)
theorem dX4_write_7 : decode cX4_write 7 = .ok (.iload_n 1, 1) := dk_27 (dk_at dksX4_write_0 7 rfl rfl)
theorem dX4_write_8 : decode cX4_write 8 = .ok (.iload_n 2, 1) := dk_28 (dk_at dksX4_write_0 8 rfl rfl)
theorem dX4_write_9 : decode cX4_write 9 = .ok (.invokevirtual 226, 3) := dk_182 0 226 (dk_at dksX4_write_0 9 rfl rfl)
theorem dX4_write_12 : decode cX4_write 12 = .ok (.putfield 215, 3) := dk_181 0 215 (dk_at dksX4_write_0 12 rfl rfl)
theorem dX4_write_15 : decode cX4_write 15 = .ok (.aload_n 0, 1) := dk_42 (dk_at dksX4_write_0 15 rfl rfl)
theorem dX4_write_16 : decode cX4_write 16 = .ok (.getfield 215, 3) := dk_180 0 215 (dk_at dksX4_write_0 16 rfl rfl)
theorem dX4_write_19 : decode cX4_write 19 = .ok (.ifCond .le 5, 3) := dk_158 0 5 (dk_at dksX4_write_0 19 rfl rfl)
theorem dX4_write_22 : decode cX4_write 22 = .ok (.iconst 0, 1) := dk_3 (dk_at dksX4_write_0 22 rfl rfl)
theorem dX4_write_23 : decode cX4_write 23 = .ok (.ireturn, 1) := dk_172 (dk_at dksX4_write_0 23 rfl rfl)
theorem dX4_write_24 : decode cX4_write 24 = .ok (.aload_n 0, 1) := dk_42 (dk_at dksX4_write_1 0 rfl rfl)
theorem dX4_write_25 : decode cX4_write 25 = .ok (.getfield 16, 3) := dk_180 0 16 (dk_at dksX4_write_1 1 rfl rfl)
theorem dX4_write_28 : decode cX4_write 28 = .ok (.bipush 60, 2) := dk_16 60 (dk_at dksX4_write_1 4 rfl rfl)
theorem dX4_write_30 : decode cX4_write 30 = .ok (.iload_n 1, 1) := dk_27 (dk_at dksX4_write_1 6 rfl rfl)
theorem dX4_write_31 : decode cX4_write 31 = .ok (.imul, 1) := dk_104 (dk_at dksX4_write_1 7 rfl rfl)
theorem dX4_write_32 : decode cX4_write 32 = .ok (.iload_n 2, 1) := dk_28 (dk_at dksX4_write_1 8 rfl rfl)
theorem dX4_write_33 : decode cX4_write 33 = .ok (.iadd, 1) := dk_96 (dk_at dksX4_write_1 9 rfl rfl)
theorem dX4_write_34 : decode cX4_write 34 = .ok (.aload_n 0, 1) := dk_42 (dk_at dksX4_write_1 10 rfl rfl)
theorem dX4_write_35 : decode cX4_write 35 = .ok (.getfield 7, 3) := dk_180 0 7 (dk_at dksX4_write_1 11 rfl rfl)
theorem dX4_write_38 : decode cX4_write 38 = .ok (.iload_n 1, 1) := dk_27 (dk_at dksX4_write_1 14 rfl rfl)
theorem dX4_write_39 : decode cX4_write 39 = .ok (.iaload, 1) := dk_46 (dk_at dksX4_write_1 15 rfl rfl)
theorem dX4_write_40 : decode cX4_write 40 = .ok (.lload_n 3, 1) := dk_33 (dk_at dksX4_write_1 16 rfl rfl)
theorem dX4_write_41 : decode cX4_write 41 = .ok (.invokestatic 230, 3) := dk_184 0 230 (dk_at dksX4_write_1 17 rfl rfl)
theorem dX4_write_44 : decode cX4_write 44 = .ok (.lastore, 1) := dk_80 (dk_at dksX4_write_1 20 rfl rfl)
theorem dX4_write_45 : decode cX4_write 45 = .ok (.iconst 1, 1) := dk_4 (dk_at dksX4_write_1 21 rfl rfl)
theorem dX4_write_46 : decode cX4_write 46 = .ok (.ireturn, 1) := dk_172 (dk_at dksX4_write_1 22 rfl rfl)
abbrev cX4_placed : ByteArray := prog_9_method_10_code
def yX4_placed : MethodName := ⟨RX4, "placed", "(II)I"⟩
def dkwX4_placed_1 : List UInt8 := [46, 161, 0, 7, 7, 167, 0, 4, 3, 172]
abbrev dktX4_placed_1 : List UInt8 := dkwX4_placed_1 ++ []
def dkwX4_placed_0 : List UInt8 := [42, 27, 182, 0, 222, 62, 29, 158, 0, 7, 29, 167, 0, 22, 28, 155, 0, 13, 28, 42, 180, 0, 13, 27]
abbrev dktX4_placed_0 : List UInt8 := dkwX4_placed_0 ++ dktX4_placed_1
theorem dksX4_placed_0 : cX4_placed.data.toList.drop 0 = dktX4_placed_0 := by decide +kernel
theorem dksX4_placed_1 : cX4_placed.data.toList.drop 24 = dktX4_placed_1 := dk_seg dksX4_placed_0 24 rfl rfl
theorem dX4_placed_0 : decode cX4_placed 0 = .ok (.aload_n 0, 1) := dk_42 (dk_at dksX4_placed_0 0 rfl rfl)
theorem dX4_placed_1 : decode cX4_placed 1 = .ok (.iload_n 1, 1) := dk_27 (dk_at dksX4_placed_0 1 rfl rfl)
theorem dX4_placed_2 : decode cX4_placed 2 = .ok (.invokevirtual 222, 3) := dk_182 0 222 (dk_at dksX4_placed_0 2 rfl rfl)
theorem dX4_placed_5 : decode cX4_placed 5 = .ok (.istore_n 3, 1) := dk_62 (dk_at dksX4_placed_0 5 rfl rfl)
theorem dX4_placed_6 : decode cX4_placed 6 = .ok (.iload_n 3, 1) := dk_29 (dk_at dksX4_placed_0 6 rfl rfl)
theorem dX4_placed_7 : decode cX4_placed 7 = .ok (.ifCond .le 7, 3) := dk_158 0 7 (dk_at dksX4_placed_0 7 rfl rfl)
theorem dX4_placed_10 : decode cX4_placed 10 = .ok (.iload_n 3, 1) := dk_29 (dk_at dksX4_placed_0 10 rfl rfl)
theorem dX4_placed_11 : decode cX4_placed 11 = .ok (.goto 22, 3) := dk_167 0 22 (dk_at dksX4_placed_0 11 rfl rfl)
theorem dX4_placed_14 : decode cX4_placed 14 = .ok (.iload_n 2, 1) := dk_28 (dk_at dksX4_placed_0 14 rfl rfl)
theorem dX4_placed_15 : decode cX4_placed 15 = .ok (.ifCond .lt 13, 3) := dk_155 0 13 (dk_at dksX4_placed_0 15 rfl rfl)
theorem dX4_placed_18 : decode cX4_placed 18 = .ok (.iload_n 2, 1) := dk_28 (dk_at dksX4_placed_0 18 rfl rfl)
theorem dX4_placed_19 : decode cX4_placed 19 = .ok (.aload_n 0, 1) := dk_42 (dk_at dksX4_placed_0 19 rfl rfl)
theorem dX4_placed_20 : decode cX4_placed 20 = .ok (.getfield 13, 3) := dk_180 0 13 (dk_at dksX4_placed_0 20 rfl rfl)
theorem dX4_placed_23 : decode cX4_placed 23 = .ok (.iload_n 1, 1) := dk_27 (dk_at dksX4_placed_0 23 rfl rfl)
theorem dX4_placed_24 : decode cX4_placed 24 = .ok (.iaload, 1) := dk_46 (dk_at dksX4_placed_1 0 rfl rfl)
theorem dX4_placed_25 : decode cX4_placed 25 = .ok (.if_icmp .lt 7, 3) := dk_161 0 7 (dk_at dksX4_placed_1 1 rfl rfl)
theorem dX4_placed_28 : decode cX4_placed 28 = .ok (.iconst 4, 1) := dk_7 (dk_at dksX4_placed_1 4 rfl rfl)
theorem dX4_placed_29 : decode cX4_placed 29 = .ok (.goto 4, 3) := dk_167 0 4 (dk_at dksX4_placed_1 5 rfl rfl)
theorem dX4_placed_32 : decode cX4_placed 32 = .ok (.iconst 0, 1) := dk_3 (dk_at dksX4_placed_1 8 rfl rfl)
theorem dX4_placed_33 : decode cX4_placed 33 = .ok (.ireturn, 1) := dk_172 (dk_at dksX4_placed_1 9 rfl rfl)
abbrev cX4_trayed : ByteArray := prog_9_method_9_code
def yX4_trayed : MethodName := ⟨RX4, "trayed", "(I)I"⟩
def dkwX4_trayed_1 : List UInt8 := [167, 0, 4, 3, 172]
abbrev dktX4_trayed_1 : List UInt8 := dkwX4_trayed_1 ++ []
def dkwX4_trayed_0 : List UInt8 := [27, 155, 0, 8, 27, 7, 161, 0, 7, 4, 167, 0, 17, 42, 180, 0, 13, 27, 46, 156, 0, 7, 6]
abbrev dktX4_trayed_0 : List UInt8 := dkwX4_trayed_0 ++ dktX4_trayed_1
theorem dksX4_trayed_0 : cX4_trayed.data.toList.drop 0 = dktX4_trayed_0 := by decide +kernel
theorem dksX4_trayed_1 : cX4_trayed.data.toList.drop 23 = dktX4_trayed_1 := dk_seg dksX4_trayed_0 23 rfl rfl
theorem dX4_trayed_0 : decode cX4_trayed 0 = .ok (.iload_n 1, 1) := dk_27 (dk_at dksX4_trayed_0 0 rfl rfl)
theorem dX4_trayed_1 : decode cX4_trayed 1 = .ok (.ifCond .lt 8, 3) := dk_155 0 8 (dk_at dksX4_trayed_0 1 rfl rfl)
theorem dX4_trayed_4 : decode cX4_trayed 4 = .ok (.iload_n 1, 1) := dk_27 (dk_at dksX4_trayed_0 4 rfl rfl)
theorem dX4_trayed_5 : decode cX4_trayed 5 = .ok (.iconst 4, 1) := dk_7 (dk_at dksX4_trayed_0 5 rfl rfl)
theorem dX4_trayed_6 : decode cX4_trayed 6 = .ok (.if_icmp .lt 7, 3) := dk_161 0 7 (dk_at dksX4_trayed_0 6 rfl rfl)
theorem dX4_trayed_9 : decode cX4_trayed 9 = .ok (.iconst 1, 1) := dk_4 (dk_at dksX4_trayed_0 9 rfl rfl)
theorem dX4_trayed_10 : decode cX4_trayed 10 = .ok (.goto 17, 3) := dk_167 0 17 (dk_at dksX4_trayed_0 10 rfl rfl)
theorem dX4_trayed_13 : decode cX4_trayed 13 = .ok (.aload_n 0, 1) := dk_42 (dk_at dksX4_trayed_0 13 rfl rfl)
theorem dX4_trayed_14 : decode cX4_trayed 14 = .ok (.getfield 13, 3) := dk_180 0 13 (dk_at dksX4_trayed_0 14 rfl rfl)
theorem dX4_trayed_17 : decode cX4_trayed 17 = .ok (.iload_n 1, 1) := dk_27 (dk_at dksX4_trayed_0 17 rfl rfl)
theorem dX4_trayed_18 : decode cX4_trayed 18 = .ok (.iaload, 1) := dk_46 (dk_at dksX4_trayed_0 18 rfl rfl)
theorem dX4_trayed_19 : decode cX4_trayed 19 = .ok (.ifCond .ge 7, 3) := dk_156 0 7 (dk_at dksX4_trayed_0 19 rfl rfl)
theorem dX4_trayed_22 : decode cX4_trayed 22 = .ok (.iconst 3, 1) := dk_6 (dk_at dksX4_trayed_0 22 rfl rfl)
theorem dX4_trayed_23 : decode cX4_trayed 23 = .ok (.goto 4, 3) := dk_167 0 4 (dk_at dksX4_trayed_1 0 rfl rfl)
theorem dX4_trayed_26 : decode cX4_trayed 26 = .ok (.iconst 0, 1) := dk_3 (dk_at dksX4_trayed_1 3 rfl rfl)
theorem dX4_trayed_27 : decode cX4_trayed 27 = .ok (.ireturn, 1) := dk_172 (dk_at dksX4_trayed_1 4 rfl rfl)
abbrev cX4_cut : ByteArray := prog_9_method_7_code
def yX4_cut : MethodName := ⟨RX4, "cut", "(IJ)J"⟩
def dkwX4_cut_1 : List UInt8 := [5, 160, 0, 9, 31, 136, 133, 167, 0, 4, 31, 173]
abbrev dktX4_cut_1 : List UInt8 := dkwX4_cut_1 ++ []
def dkwX4_cut_0 : List UInt8 := [26, 154, 0, 10, 31, 136, 145, 133, 167, 0, 27, 26, 4, 160, 0, 10, 31, 136, 147, 133, 167, 0, 15, 26]
abbrev dktX4_cut_0 : List UInt8 := dkwX4_cut_0 ++ dktX4_cut_1
theorem dksX4_cut_0 : cX4_cut.data.toList.drop 0 = dktX4_cut_0 := by decide +kernel
theorem dksX4_cut_1 : cX4_cut.data.toList.drop 24 = dktX4_cut_1 := dk_seg dksX4_cut_0 24 rfl rfl
theorem dX4_cut_0 : decode cX4_cut 0 = .ok (.iload_n 0, 1) := dk_26 (dk_at dksX4_cut_0 0 rfl rfl)
theorem dX4_cut_1 : decode cX4_cut 1 = .ok (.ifCond .ne 10, 3) := dk_154 0 10 (dk_at dksX4_cut_0 1 rfl rfl)
theorem dX4_cut_4 : decode cX4_cut 4 = .ok (.lload_n 1, 1) := dk_31 (dk_at dksX4_cut_0 4 rfl rfl)
theorem dX4_cut_5 : decode cX4_cut 5 = .ok (.l2i, 1) := dk_136 (dk_at dksX4_cut_0 5 rfl rfl)
theorem dX4_cut_6 : decode cX4_cut 6 = .ok (.i2b, 1) := dk_145 (dk_at dksX4_cut_0 6 rfl rfl)
theorem dX4_cut_7 : decode cX4_cut 7 = .ok (.i2l, 1) := dk_133 (dk_at dksX4_cut_0 7 rfl rfl)
theorem dX4_cut_8 : decode cX4_cut 8 = .ok (.goto 27, 3) := dk_167 0 27 (dk_at dksX4_cut_0 8 rfl rfl)
theorem dX4_cut_11 : decode cX4_cut 11 = .ok (.iload_n 0, 1) := dk_26 (dk_at dksX4_cut_0 11 rfl rfl)
theorem dX4_cut_12 : decode cX4_cut 12 = .ok (.iconst 1, 1) := dk_4 (dk_at dksX4_cut_0 12 rfl rfl)
theorem dX4_cut_13 : decode cX4_cut 13 = .ok (.if_icmp .ne 10, 3) := dk_160 0 10 (dk_at dksX4_cut_0 13 rfl rfl)
theorem dX4_cut_16 : decode cX4_cut 16 = .ok (.lload_n 1, 1) := dk_31 (dk_at dksX4_cut_0 16 rfl rfl)
theorem dX4_cut_17 : decode cX4_cut 17 = .ok (.l2i, 1) := dk_136 (dk_at dksX4_cut_0 17 rfl rfl)
theorem dX4_cut_18 : decode cX4_cut 18 = .ok (.i2s, 1) := dk_147 (dk_at dksX4_cut_0 18 rfl rfl)
theorem dX4_cut_19 : decode cX4_cut 19 = .ok (.i2l, 1) := dk_133 (dk_at dksX4_cut_0 19 rfl rfl)
theorem dX4_cut_20 : decode cX4_cut 20 = .ok (.goto 15, 3) := dk_167 0 15 (dk_at dksX4_cut_0 20 rfl rfl)
theorem dX4_cut_23 : decode cX4_cut 23 = .ok (.iload_n 0, 1) := dk_26 (dk_at dksX4_cut_0 23 rfl rfl)
theorem dX4_cut_24 : decode cX4_cut 24 = .ok (.iconst 2, 1) := dk_5 (dk_at dksX4_cut_1 0 rfl rfl)
theorem dX4_cut_25 : decode cX4_cut 25 = .ok (.if_icmp .ne 9, 3) := dk_160 0 9 (dk_at dksX4_cut_1 1 rfl rfl)
theorem dX4_cut_28 : decode cX4_cut 28 = .ok (.lload_n 1, 1) := dk_31 (dk_at dksX4_cut_1 4 rfl rfl)
theorem dX4_cut_29 : decode cX4_cut 29 = .ok (.l2i, 1) := dk_136 (dk_at dksX4_cut_1 5 rfl rfl)
theorem dX4_cut_30 : decode cX4_cut 30 = .ok (.i2l, 1) := dk_133 (dk_at dksX4_cut_1 6 rfl rfl)
theorem dX4_cut_31 : decode cX4_cut 31 = .ok (.goto 4, 3) := dk_167 0 4 (dk_at dksX4_cut_1 7 rfl rfl)
theorem dX4_cut_34 : decode cX4_cut 34 = .ok (.lload_n 1, 1) := dk_31 (dk_at dksX4_cut_1 10 rfl rfl)
theorem dX4_cut_35 : decode cX4_cut 35 = .ok (.lreturn, 1) := dk_173 (dk_at dksX4_cut_1 11 rfl rfl)
abbrev cX4_read : ByteArray := prog_9_method_12_code
def yX4_read : MethodName := ⟨RX4, "read", "(II)J"⟩
def dkwX4_read_1 : List UInt8 := [20, 0, 234, 167, 0, 14, 42, 180, 0, 16, 16, 60, 27, 104, 28, 96, 47, 173]
abbrev dktX4_read_1 : List UInt8 := dkwX4_read_1 ++ []
def dkwX4_read_0 : List UInt8 := [42, 3, 181, 0, 212, 42, 42, 27, 28, 182, 0, 226, 181, 0, 215, 42, 180, 0, 215, 158, 0, 9]
abbrev dktX4_read_0 : List UInt8 := dkwX4_read_0 ++ dktX4_read_1
theorem dksX4_read_0 : cX4_read.data.toList.drop 0 = dktX4_read_0 := by decide +kernel
theorem dksX4_read_1 : cX4_read.data.toList.drop 22 = dktX4_read_1 := dk_seg dksX4_read_0 22 rfl rfl
theorem dX4_read_0 : decode cX4_read 0 = .ok (.aload_n 0, 1) := dk_42 (dk_at dksX4_read_0 0 rfl rfl)
theorem dX4_read_1 : decode cX4_read 1 = .ok (.iconst 0, 1) := dk_3 (dk_at dksX4_read_0 1 rfl rfl)
theorem dX4_read_2 : decode cX4_read 2 = .ok (.putfield 212, 3) := dk_181 0 212 (dk_at dksX4_read_0 2 rfl rfl)
theorem dX4_read_5 : decode cX4_read 5 = .ok (.aload_n 0, 1) := dk_42 (dk_at dksX4_read_0 5 rfl rfl)
theorem dX4_read_6 : decode cX4_read 6 = .ok (.aload_n 0, 1) := dk_42 (dk_at dksX4_read_0 6 rfl rfl)
theorem dX4_read_7 : decode cX4_read 7 = .ok (.iload_n 1, 1) := dk_27 (dk_at dksX4_read_0 7 rfl rfl)
theorem dX4_read_8 : decode cX4_read 8 = .ok (.iload_n 2, 1) := dk_28 (dk_at dksX4_read_0 8 rfl rfl)
theorem dX4_read_9 : decode cX4_read 9 = .ok (.invokevirtual 226, 3) := dk_182 0 226 (dk_at dksX4_read_0 9 rfl rfl)
theorem dX4_read_12 : decode cX4_read 12 = .ok (.putfield 215, 3) := dk_181 0 215 (dk_at dksX4_read_0 12 rfl rfl)
theorem dX4_read_15 : decode cX4_read 15 = .ok (.aload_n 0, 1) := dk_42 (dk_at dksX4_read_0 15 rfl rfl)
theorem dX4_read_16 : decode cX4_read 16 = .ok (.getfield 215, 3) := dk_180 0 215 (dk_at dksX4_read_0 16 rfl rfl)
theorem dX4_read_19 : decode cX4_read 19 = .ok (.ifCond .le 9, 3) := dk_158 0 9 (dk_at dksX4_read_0 19 rfl rfl)
theorem dX4_read_22 : decode cX4_read 22 = .ok (.ldc2_w 234, 3) := dk_20 0 234 (dk_at dksX4_read_1 0 rfl rfl)
theorem dX4_read_25 : decode cX4_read 25 = .ok (.goto 14, 3) := dk_167 0 14 (dk_at dksX4_read_1 3 rfl rfl)
theorem dX4_read_28 : decode cX4_read 28 = .ok (.aload_n 0, 1) := dk_42 (dk_at dksX4_read_1 6 rfl rfl)
theorem dX4_read_29 : decode cX4_read 29 = .ok (.getfield 16, 3) := dk_180 0 16 (dk_at dksX4_read_1 7 rfl rfl)
theorem dX4_read_32 : decode cX4_read 32 = .ok (.bipush 60, 2) := dk_16 60 (dk_at dksX4_read_1 10 rfl rfl)
theorem dX4_read_34 : decode cX4_read 34 = .ok (.iload_n 1, 1) := dk_27 (dk_at dksX4_read_1 12 rfl rfl)
theorem dX4_read_35 : decode cX4_read 35 = .ok (.imul, 1) := dk_104 (dk_at dksX4_read_1 13 rfl rfl)
theorem dX4_read_36 : decode cX4_read 36 = .ok (.iload_n 2, 1) := dk_28 (dk_at dksX4_read_1 14 rfl rfl)
theorem dX4_read_37 : decode cX4_read 37 = .ok (.iadd, 1) := dk_96 (dk_at dksX4_read_1 15 rfl rfl)
theorem dX4_read_38 : decode cX4_read 38 = .ok (.laload, 1) := dk_47 (dk_at dksX4_read_1 16 rfl rfl)
theorem dX4_read_39 : decode cX4_read 39 = .ok (.lreturn, 1) := dk_173 (dk_at dksX4_read_1 17 rfl rfl)
abbrev cX4_pour : ByteArray := prog_9_method_13_code
def yX4_pour : MethodName := ⟨RX4, "pour", "(IIIII)Z"⟩
def dkwX4_pour_9 : List UInt8 := [21, 8, 96, 47, 80, 132, 7, 1, 167, 255, 198, 4, 172]
abbrev dktX4_pour_9 : List UInt8 := dkwX4_pour_9 ++ []
def dkwX4_pour_8 : List UInt8 := [180, 0, 16, 16, 60, 29, 104, 21, 4, 96, 21, 8, 96, 42, 180, 0, 16, 16, 60, 27, 104, 28, 96]
abbrev dktX4_pour_8 : List UInt8 := dkwX4_pour_8 ++ dktX4_pour_9
def dkwX4_pour_7 : List UInt8 := [162, 0, 57, 21, 6, 153, 0, 13, 21, 5, 4, 100, 21, 7, 100, 167, 0, 5, 21, 7, 54, 8, 42]
abbrev dktX4_pour_7 : List UInt8 := dkwX4_pour_7 ++ dktX4_pour_8
def dkwX4_pour_6 : List UInt8 := [182, 0, 218, 172, 28, 21, 4, 162, 0, 7, 4, 167, 0, 4, 3, 54, 6, 3, 54, 7, 21, 7, 21, 5]
abbrev dktX4_pour_6 : List UInt8 := dkwX4_pour_6 ++ dktX4_pour_7
def dkwX4_pour_5 : List UInt8 := [157, 0, 21, 21, 4, 133, 21, 5, 133, 97, 42, 180, 0, 13, 29, 46, 133, 148, 158, 0, 9, 42, 7]
abbrev dktX4_pour_5 : List UInt8 := dkwX4_pour_5 ++ dktX4_pour_6
def dkwX4_pour_4 : List UInt8 := [155, 0, 43, 21, 4, 155, 0, 38, 28, 133, 21, 5, 133, 97, 42, 180, 0, 13, 27, 46, 133, 148]
abbrev dktX4_pour_4 : List UInt8 := dkwX4_pour_4 ++ dktX4_pour_5
def dkwX4_pour_3 : List UInt8 := [159, 0, 10, 42, 16, 11, 182, 0, 218, 172, 21, 5, 156, 0, 10, 42, 16, 6, 182, 0, 218, 172, 28]
abbrev dktX4_pour_3 : List UInt8 := dkwX4_pour_3 ++ dktX4_pour_4
def dkwX4_pour_2 : List UInt8 := [46, 156, 0, 9, 42, 6, 182, 0, 218, 172, 42, 180, 0, 7, 27, 46, 42, 180, 0, 7, 29, 46]
abbrev dktX4_pour_2 : List UInt8 := dkwX4_pour_2 ++ dktX4_pour_3
def dkwX4_pour_1 : List UInt8 := [7, 161, 0, 9, 42, 4, 182, 0, 218, 172, 42, 180, 0, 13, 27, 46, 155, 0, 12, 42, 180, 0, 13, 29]
abbrev dktX4_pour_1 : List UInt8 := dkwX4_pour_1 ++ dktX4_pour_2
def dkwX4_pour_0 : List UInt8 := [42, 3, 181, 0, 212, 42, 3, 181, 0, 215, 27, 155, 0, 17, 27, 7, 162, 0, 12, 29, 155, 0, 8, 29]
abbrev dktX4_pour_0 : List UInt8 := dkwX4_pour_0 ++ dktX4_pour_1
theorem dksX4_pour_0 : cX4_pour.data.toList.drop 0 = dktX4_pour_0 := by decide +kernel
theorem dksX4_pour_1 : cX4_pour.data.toList.drop 24 = dktX4_pour_1 := dk_seg dksX4_pour_0 24 rfl rfl
theorem dksX4_pour_2 : cX4_pour.data.toList.drop 48 = dktX4_pour_2 := dk_seg dksX4_pour_1 24 rfl rfl
theorem dksX4_pour_3 : cX4_pour.data.toList.drop 70 = dktX4_pour_3 := dk_seg dksX4_pour_2 22 rfl rfl
theorem dksX4_pour_4 : cX4_pour.data.toList.drop 93 = dktX4_pour_4 := dk_seg dksX4_pour_3 23 rfl rfl
theorem dksX4_pour_5 : cX4_pour.data.toList.drop 115 = dktX4_pour_5 := dk_seg dksX4_pour_4 22 rfl rfl
theorem dksX4_pour_6 : cX4_pour.data.toList.drop 138 = dktX4_pour_6 := dk_seg dksX4_pour_5 23 rfl rfl
theorem dksX4_pour_7 : cX4_pour.data.toList.drop 162 = dktX4_pour_7 := dk_seg dksX4_pour_6 24 rfl rfl
theorem dksX4_pour_8 : cX4_pour.data.toList.drop 185 = dktX4_pour_8 := dk_seg dksX4_pour_7 23 rfl rfl
theorem dksX4_pour_9 : cX4_pour.data.toList.drop 208 = dktX4_pour_9 := dk_seg dksX4_pour_8 23 rfl rfl
theorem dX4_pour_0 : decode cX4_pour 0 = .ok (.aload_n 0, 1) := dk_42 (dk_at dksX4_pour_0 0 rfl rfl)
theorem dX4_pour_1 : decode cX4_pour 1 = .ok (.iconst 0, 1) := dk_3 (dk_at dksX4_pour_0 1 rfl rfl)
theorem dX4_pour_2 : decode cX4_pour 2 = .ok (.putfield 212, 3) := dk_181 0 212 (dk_at dksX4_pour_0 2 rfl rfl)
theorem dX4_pour_5 : decode cX4_pour 5 = .ok (.aload_n 0, 1) := dk_42 (dk_at dksX4_pour_0 5 rfl rfl)
theorem dX4_pour_6 : decode cX4_pour 6 = .ok (.iconst 0, 1) := dk_3 (dk_at dksX4_pour_0 6 rfl rfl)
theorem dX4_pour_7 : decode cX4_pour 7 = .ok (.putfield 215, 3) := dk_181 0 215 (dk_at dksX4_pour_0 7 rfl rfl)
theorem dX4_pour_10 : decode cX4_pour 10 = .ok (.iload_n 1, 1) := dk_27 (dk_at dksX4_pour_0 10 rfl rfl)
theorem dX4_pour_11 : decode cX4_pour 11 = .ok (.ifCond .lt 17, 3) := dk_155 0 17 (dk_at dksX4_pour_0 11 rfl rfl)
theorem dX4_pour_14 : decode cX4_pour 14 = .ok (.iload_n 1, 1) := dk_27 (dk_at dksX4_pour_0 14 rfl rfl)
theorem dX4_pour_15 : decode cX4_pour 15 = .ok (.iconst 4, 1) := dk_7 (dk_at dksX4_pour_0 15 rfl rfl)
theorem dX4_pour_16 : decode cX4_pour 16 = .ok (.if_icmp .ge 12, 3) := dk_162 0 12 (dk_at dksX4_pour_0 16 rfl rfl)
theorem dX4_pour_19 : decode cX4_pour 19 = .ok (.iload_n 3, 1) := dk_29 (dk_at dksX4_pour_0 19 rfl rfl)
theorem dX4_pour_20 : decode cX4_pour 20 = .ok (.ifCond .lt 8, 3) := dk_155 0 8 (dk_at dksX4_pour_0 20 rfl rfl)
theorem dX4_pour_23 : decode cX4_pour 23 = .ok (.iload_n 3, 1) := dk_29 (dk_at dksX4_pour_0 23 rfl rfl)
theorem dX4_pour_24 : decode cX4_pour 24 = .ok (.iconst 4, 1) := dk_7 (dk_at dksX4_pour_1 0 rfl rfl)
theorem dX4_pour_25 : decode cX4_pour 25 = .ok (.if_icmp .lt 9, 3) := dk_161 0 9 (dk_at dksX4_pour_1 1 rfl rfl)
theorem dX4_pour_28 : decode cX4_pour 28 = .ok (.aload_n 0, 1) := dk_42 (dk_at dksX4_pour_1 4 rfl rfl)
theorem dX4_pour_29 : decode cX4_pour 29 = .ok (.iconst 1, 1) := dk_4 (dk_at dksX4_pour_1 5 rfl rfl)
theorem dX4_pour_30 : decode cX4_pour 30 = .ok (.invokevirtual 218, 3) := dk_182 0 218 (dk_at dksX4_pour_1 6 rfl rfl)
theorem dX4_pour_33 : decode cX4_pour 33 = .ok (.ireturn, 1) := dk_172 (dk_at dksX4_pour_1 9 rfl rfl)
theorem dX4_pour_34 : decode cX4_pour 34 = .ok (.aload_n 0, 1) := dk_42 (dk_at dksX4_pour_1 10 rfl rfl)
theorem dX4_pour_35 : decode cX4_pour 35 = .ok (.getfield 13, 3) := dk_180 0 13 (dk_at dksX4_pour_1 11 rfl rfl)
theorem dX4_pour_38 : decode cX4_pour 38 = .ok (.iload_n 1, 1) := dk_27 (dk_at dksX4_pour_1 14 rfl rfl)
theorem dX4_pour_39 : decode cX4_pour 39 = .ok (.iaload, 1) := dk_46 (dk_at dksX4_pour_1 15 rfl rfl)
theorem dX4_pour_40 : decode cX4_pour 40 = .ok (.ifCond .lt 12, 3) := dk_155 0 12 (dk_at dksX4_pour_1 16 rfl rfl)
theorem dX4_pour_43 : decode cX4_pour 43 = .ok (.aload_n 0, 1) := dk_42 (dk_at dksX4_pour_1 19 rfl rfl)
theorem dX4_pour_44 : decode cX4_pour 44 = .ok (.getfield 13, 3) := dk_180 0 13 (dk_at dksX4_pour_1 20 rfl rfl)
theorem dX4_pour_47 : decode cX4_pour 47 = .ok (.iload_n 3, 1) := dk_29 (dk_at dksX4_pour_1 23 rfl rfl)
theorem dX4_pour_48 : decode cX4_pour 48 = .ok (.iaload, 1) := dk_46 (dk_at dksX4_pour_2 0 rfl rfl)
theorem dX4_pour_49 : decode cX4_pour 49 = .ok (.ifCond .ge 9, 3) := dk_156 0 9 (dk_at dksX4_pour_2 1 rfl rfl)
theorem dX4_pour_52 : decode cX4_pour 52 = .ok (.aload_n 0, 1) := dk_42 (dk_at dksX4_pour_2 4 rfl rfl)
theorem dX4_pour_53 : decode cX4_pour 53 = .ok (.iconst 3, 1) := dk_6 (dk_at dksX4_pour_2 5 rfl rfl)
theorem dX4_pour_54 : decode cX4_pour 54 = .ok (.invokevirtual 218, 3) := dk_182 0 218 (dk_at dksX4_pour_2 6 rfl rfl)
theorem dX4_pour_57 : decode cX4_pour 57 = .ok (.ireturn, 1) := dk_172 (dk_at dksX4_pour_2 9 rfl rfl)
theorem dX4_pour_58 : decode cX4_pour 58 = .ok (.aload_n 0, 1) := dk_42 (dk_at dksX4_pour_2 10 rfl rfl)
theorem dX4_pour_59 : decode cX4_pour 59 = .ok (.getfield 7, 3) := dk_180 0 7 (dk_at dksX4_pour_2 11 rfl rfl)
theorem dX4_pour_62 : decode cX4_pour 62 = .ok (.iload_n 1, 1) := dk_27 (dk_at dksX4_pour_2 14 rfl rfl)
theorem dX4_pour_63 : decode cX4_pour 63 = .ok (.iaload, 1) := dk_46 (dk_at dksX4_pour_2 15 rfl rfl)
theorem dX4_pour_64 : decode cX4_pour 64 = .ok (.aload_n 0, 1) := dk_42 (dk_at dksX4_pour_2 16 rfl rfl)
theorem dX4_pour_65 : decode cX4_pour 65 = .ok (.getfield 7, 3) := dk_180 0 7 (dk_at dksX4_pour_2 17 rfl rfl)
theorem dX4_pour_68 : decode cX4_pour 68 = .ok (.iload_n 3, 1) := dk_29 (dk_at dksX4_pour_2 20 rfl rfl)
theorem dX4_pour_69 : decode cX4_pour 69 = .ok (.iaload, 1) := dk_46 (dk_at dksX4_pour_2 21 rfl rfl)
theorem dX4_pour_70 : decode cX4_pour 70 = .ok (.if_icmp .eq 10, 3) := dk_159 0 10 (dk_at dksX4_pour_3 0 rfl rfl)
theorem dX4_pour_73 : decode cX4_pour 73 = .ok (.aload_n 0, 1) := dk_42 (dk_at dksX4_pour_3 3 rfl rfl)
theorem dX4_pour_74 : decode cX4_pour 74 = .ok (.bipush 11, 2) := dk_16 11 (dk_at dksX4_pour_3 4 rfl rfl)
theorem dX4_pour_76 : decode cX4_pour 76 = .ok (.invokevirtual 218, 3) := dk_182 0 218 (dk_at dksX4_pour_3 6 rfl rfl)
theorem dX4_pour_79 : decode cX4_pour 79 = .ok (.ireturn, 1) := dk_172 (dk_at dksX4_pour_3 9 rfl rfl)
theorem dX4_pour_80 : decode cX4_pour 80 = .ok (.iload 5, 2) := dk_21 5 (dk_at dksX4_pour_3 10 rfl rfl)
theorem dX4_pour_82 : decode cX4_pour 82 = .ok (.ifCond .ge 10, 3) := dk_156 0 10 (dk_at dksX4_pour_3 12 rfl rfl)
theorem dX4_pour_85 : decode cX4_pour 85 = .ok (.aload_n 0, 1) := dk_42 (dk_at dksX4_pour_3 15 rfl rfl)
theorem dX4_pour_86 : decode cX4_pour 86 = .ok (.bipush 6, 2) := dk_16 6 (dk_at dksX4_pour_3 16 rfl rfl)
theorem dX4_pour_88 : decode cX4_pour 88 = .ok (.invokevirtual 218, 3) := dk_182 0 218 (dk_at dksX4_pour_3 18 rfl rfl)
theorem dX4_pour_91 : decode cX4_pour 91 = .ok (.ireturn, 1) := dk_172 (dk_at dksX4_pour_3 21 rfl rfl)
theorem dX4_pour_92 : decode cX4_pour 92 = .ok (.iload_n 2, 1) := dk_28 (dk_at dksX4_pour_3 22 rfl rfl)
theorem dX4_pour_93 : decode cX4_pour 93 = .ok (.ifCond .lt 43, 3) := dk_155 0 43 (dk_at dksX4_pour_4 0 rfl rfl)
theorem dX4_pour_96 : decode cX4_pour 96 = .ok (.iload 4, 2) := dk_21 4 (dk_at dksX4_pour_4 3 rfl rfl)
theorem dX4_pour_98 : decode cX4_pour 98 = .ok (.ifCond .lt 38, 3) := dk_155 0 38 (dk_at dksX4_pour_4 5 rfl rfl)
theorem dX4_pour_101 : decode cX4_pour 101 = .ok (.iload_n 2, 1) := dk_28 (dk_at dksX4_pour_4 8 rfl rfl)
theorem dX4_pour_102 : decode cX4_pour 102 = .ok (.i2l, 1) := dk_133 (dk_at dksX4_pour_4 9 rfl rfl)
theorem dX4_pour_103 : decode cX4_pour 103 = .ok (.iload 5, 2) := dk_21 5 (dk_at dksX4_pour_4 10 rfl rfl)
theorem dX4_pour_105 : decode cX4_pour 105 = .ok (.i2l, 1) := dk_133 (dk_at dksX4_pour_4 12 rfl rfl)
theorem dX4_pour_106 : decode cX4_pour 106 = .ok (.ladd, 1) := dk_97 (dk_at dksX4_pour_4 13 rfl rfl)
theorem dX4_pour_107 : decode cX4_pour 107 = .ok (.aload_n 0, 1) := dk_42 (dk_at dksX4_pour_4 14 rfl rfl)
theorem dX4_pour_108 : decode cX4_pour 108 = .ok (.getfield 13, 3) := dk_180 0 13 (dk_at dksX4_pour_4 15 rfl rfl)
theorem dX4_pour_111 : decode cX4_pour 111 = .ok (.iload_n 1, 1) := dk_27 (dk_at dksX4_pour_4 18 rfl rfl)
theorem dX4_pour_112 : decode cX4_pour 112 = .ok (.iaload, 1) := dk_46 (dk_at dksX4_pour_4 19 rfl rfl)
theorem dX4_pour_113 : decode cX4_pour 113 = .ok (.i2l, 1) := dk_133 (dk_at dksX4_pour_4 20 rfl rfl)
theorem dX4_pour_114 : decode cX4_pour 114 = .ok (.lcmp, 1) := dk_148 (dk_at dksX4_pour_4 21 rfl rfl)
theorem dX4_pour_115 : decode cX4_pour 115 = .ok (.ifCond .gt 21, 3) := dk_157 0 21 (dk_at dksX4_pour_5 0 rfl rfl)
theorem dX4_pour_118 : decode cX4_pour 118 = .ok (.iload 4, 2) := dk_21 4 (dk_at dksX4_pour_5 3 rfl rfl)
theorem dX4_pour_120 : decode cX4_pour 120 = .ok (.i2l, 1) := dk_133 (dk_at dksX4_pour_5 5 rfl rfl)
theorem dX4_pour_121 : decode cX4_pour 121 = .ok (.iload 5, 2) := dk_21 5 (dk_at dksX4_pour_5 6 rfl rfl)
theorem dX4_pour_123 : decode cX4_pour 123 = .ok (.i2l, 1) := dk_133 (dk_at dksX4_pour_5 8 rfl rfl)
theorem dX4_pour_124 : decode cX4_pour 124 = .ok (.ladd, 1) := dk_97 (dk_at dksX4_pour_5 9 rfl rfl)
theorem dX4_pour_125 : decode cX4_pour 125 = .ok (.aload_n 0, 1) := dk_42 (dk_at dksX4_pour_5 10 rfl rfl)
theorem dX4_pour_126 : decode cX4_pour 126 = .ok (.getfield 13, 3) := dk_180 0 13 (dk_at dksX4_pour_5 11 rfl rfl)
theorem dX4_pour_129 : decode cX4_pour 129 = .ok (.iload_n 3, 1) := dk_29 (dk_at dksX4_pour_5 14 rfl rfl)
theorem dX4_pour_130 : decode cX4_pour 130 = .ok (.iaload, 1) := dk_46 (dk_at dksX4_pour_5 15 rfl rfl)
theorem dX4_pour_131 : decode cX4_pour 131 = .ok (.i2l, 1) := dk_133 (dk_at dksX4_pour_5 16 rfl rfl)
theorem dX4_pour_132 : decode cX4_pour 132 = .ok (.lcmp, 1) := dk_148 (dk_at dksX4_pour_5 17 rfl rfl)
theorem dX4_pour_133 : decode cX4_pour 133 = .ok (.ifCond .le 9, 3) := dk_158 0 9 (dk_at dksX4_pour_5 18 rfl rfl)
theorem dX4_pour_136 : decode cX4_pour 136 = .ok (.aload_n 0, 1) := dk_42 (dk_at dksX4_pour_5 21 rfl rfl)
theorem dX4_pour_137 : decode cX4_pour 137 = .ok (.iconst 4, 1) := dk_7 (dk_at dksX4_pour_5 22 rfl rfl)
theorem dX4_pour_138 : decode cX4_pour 138 = .ok (.invokevirtual 218, 3) := dk_182 0 218 (dk_at dksX4_pour_6 0 rfl rfl)
theorem dX4_pour_141 : decode cX4_pour 141 = .ok (.ireturn, 1) := dk_172 (dk_at dksX4_pour_6 3 rfl rfl)
theorem dX4_pour_142 : decode cX4_pour 142 = .ok (.iload_n 2, 1) := dk_28 (dk_at dksX4_pour_6 4 rfl rfl)
theorem dX4_pour_143 : decode cX4_pour 143 = .ok (.iload 4, 2) := dk_21 4 (dk_at dksX4_pour_6 5 rfl rfl)
theorem dX4_pour_145 : decode cX4_pour 145 = .ok (.if_icmp .ge 7, 3) := dk_162 0 7 (dk_at dksX4_pour_6 7 rfl rfl)
theorem dX4_pour_148 : decode cX4_pour 148 = .ok (.iconst 1, 1) := dk_4 (dk_at dksX4_pour_6 10 rfl rfl)
theorem dX4_pour_149 : decode cX4_pour 149 = .ok (.goto 4, 3) := dk_167 0 4 (dk_at dksX4_pour_6 11 rfl rfl)
theorem dX4_pour_152 : decode cX4_pour 152 = .ok (.iconst 0, 1) := dk_3 (dk_at dksX4_pour_6 14 rfl rfl)
theorem dX4_pour_153 : decode cX4_pour 153 = .ok (.istore 6, 2) := dk_54 6 (dk_at dksX4_pour_6 15 rfl rfl)
theorem dX4_pour_155 : decode cX4_pour 155 = .ok (.iconst 0, 1) := dk_3 (dk_at dksX4_pour_6 17 rfl rfl)
theorem dX4_pour_156 : decode cX4_pour 156 = .ok (.istore 7, 2) := dk_54 7 (dk_at dksX4_pour_6 18 rfl rfl)
theorem dX4_pour_158 : decode cX4_pour 158 = .ok (.iload 7, 2) := dk_21 7 (dk_at dksX4_pour_6 20 rfl rfl)
theorem dX4_pour_160 : decode cX4_pour 160 = .ok (.iload 5, 2) := dk_21 5 (dk_at dksX4_pour_6 22 rfl rfl)
theorem dX4_pour_162 : decode cX4_pour 162 = .ok (.if_icmp .ge 57, 3) := dk_162 0 57 (dk_at dksX4_pour_7 0 rfl rfl)
theorem dX4_pour_165 : decode cX4_pour 165 = .ok (.iload 6, 2) := dk_21 6 (dk_at dksX4_pour_7 3 rfl rfl)
theorem dX4_pour_167 : decode cX4_pour 167 = .ok (.ifCond .eq 13, 3) := dk_153 0 13 (dk_at dksX4_pour_7 5 rfl rfl)
theorem dX4_pour_170 : decode cX4_pour 170 = .ok (.iload 5, 2) := dk_21 5 (dk_at dksX4_pour_7 8 rfl rfl)
theorem dX4_pour_172 : decode cX4_pour 172 = .ok (.iconst 1, 1) := dk_4 (dk_at dksX4_pour_7 10 rfl rfl)
theorem dX4_pour_173 : decode cX4_pour 173 = .ok (.isub, 1) := dk_100 (dk_at dksX4_pour_7 11 rfl rfl)
theorem dX4_pour_174 : decode cX4_pour 174 = .ok (.iload 7, 2) := dk_21 7 (dk_at dksX4_pour_7 12 rfl rfl)
theorem dX4_pour_176 : decode cX4_pour 176 = .ok (.isub, 1) := dk_100 (dk_at dksX4_pour_7 14 rfl rfl)
theorem dX4_pour_177 : decode cX4_pour 177 = .ok (.goto 5, 3) := dk_167 0 5 (dk_at dksX4_pour_7 15 rfl rfl)
theorem dX4_pour_180 : decode cX4_pour 180 = .ok (.iload 7, 2) := dk_21 7 (dk_at dksX4_pour_7 18 rfl rfl)
theorem dX4_pour_182 : decode cX4_pour 182 = .ok (.istore 8, 2) := dk_54 8 (dk_at dksX4_pour_7 20 rfl rfl)
theorem dX4_pour_184 : decode cX4_pour 184 = .ok (.aload_n 0, 1) := dk_42 (dk_at dksX4_pour_7 22 rfl rfl)
theorem dX4_pour_185 : decode cX4_pour 185 = .ok (.getfield 16, 3) := dk_180 0 16 (dk_at dksX4_pour_8 0 rfl rfl)
theorem dX4_pour_188 : decode cX4_pour 188 = .ok (.bipush 60, 2) := dk_16 60 (dk_at dksX4_pour_8 3 rfl rfl)
theorem dX4_pour_190 : decode cX4_pour 190 = .ok (.iload_n 3, 1) := dk_29 (dk_at dksX4_pour_8 5 rfl rfl)
theorem dX4_pour_191 : decode cX4_pour 191 = .ok (.imul, 1) := dk_104 (dk_at dksX4_pour_8 6 rfl rfl)
theorem dX4_pour_192 : decode cX4_pour 192 = .ok (.iload 4, 2) := dk_21 4 (dk_at dksX4_pour_8 7 rfl rfl)
theorem dX4_pour_194 : decode cX4_pour 194 = .ok (.iadd, 1) := dk_96 (dk_at dksX4_pour_8 9 rfl rfl)
theorem dX4_pour_195 : decode cX4_pour 195 = .ok (.iload 8, 2) := dk_21 8 (dk_at dksX4_pour_8 10 rfl rfl)
theorem dX4_pour_197 : decode cX4_pour 197 = .ok (.iadd, 1) := dk_96 (dk_at dksX4_pour_8 12 rfl rfl)
theorem dX4_pour_198 : decode cX4_pour 198 = .ok (.aload_n 0, 1) := dk_42 (dk_at dksX4_pour_8 13 rfl rfl)
theorem dX4_pour_199 : decode cX4_pour 199 = .ok (.getfield 16, 3) := dk_180 0 16 (dk_at dksX4_pour_8 14 rfl rfl)
theorem dX4_pour_202 : decode cX4_pour 202 = .ok (.bipush 60, 2) := dk_16 60 (dk_at dksX4_pour_8 17 rfl rfl)
theorem dX4_pour_204 : decode cX4_pour 204 = .ok (.iload_n 1, 1) := dk_27 (dk_at dksX4_pour_8 19 rfl rfl)
theorem dX4_pour_205 : decode cX4_pour 205 = .ok (.imul, 1) := dk_104 (dk_at dksX4_pour_8 20 rfl rfl)
theorem dX4_pour_206 : decode cX4_pour 206 = .ok (.iload_n 2, 1) := dk_28 (dk_at dksX4_pour_8 21 rfl rfl)
theorem dX4_pour_207 : decode cX4_pour 207 = .ok (.iadd, 1) := dk_96 (dk_at dksX4_pour_8 22 rfl rfl)
theorem dX4_pour_208 : decode cX4_pour 208 = .ok (.iload 8, 2) := dk_21 8 (dk_at dksX4_pour_9 0 rfl rfl)
theorem dX4_pour_210 : decode cX4_pour 210 = .ok (.iadd, 1) := dk_96 (dk_at dksX4_pour_9 2 rfl rfl)
theorem dX4_pour_211 : decode cX4_pour 211 = .ok (.laload, 1) := dk_47 (dk_at dksX4_pour_9 3 rfl rfl)
theorem dX4_pour_212 : decode cX4_pour 212 = .ok (.lastore, 1) := dk_80 (dk_at dksX4_pour_9 4 rfl rfl)
theorem dX4_pour_213 : decode cX4_pour 213 = .ok (.iinc 7 1, 3) := dk_132 7 1 (dk_at dksX4_pour_9 5 rfl rfl)
theorem dX4_pour_216 : decode cX4_pour 216 = .ok (.goto (-58), 3) := dk_167 255 198 (dk_at dksX4_pour_9 8 rfl rfl)
theorem dX4_pour_219 : decode cX4_pour 219 = .ok (.iconst 1, 1) := dk_4 (dk_at dksX4_pour_9 11 rfl rfl)
theorem dX4_pour_220 : decode cX4_pour 220 = .ok (.ireturn, 1) := dk_172 (dk_at dksX4_pour_9 12 rfl rfl)
abbrev cX4_engine : ByteArray := prog_9_method_18_code
def yX4_engine : MethodName := ⟨RX4, "engine", "(III)I"⟩
def dkwX4_engine_8 : List UInt8 := [180, 0, 236, 4, 96, 181, 0, 236, 42, 180, 0, 236, 4, 100, 172]
abbrev dktX4_engine_8 : List UInt8 := dkwX4_engine_8 ++ []
def dkwX4_engine_7 : List UInt8 := [180, 0, 236, 104, 21, 4, 96, 42, 29, 21, 4, 182, 0, 255, 136, 79, 132, 4, 1, 167, 255, 224, 42, 89]
abbrev dktX4_engine_7 : List UInt8 := dkwX4_engine_7 ++ dktX4_engine_8
def dkwX4_engine_6 : List UInt8 := [42, 180, 0, 236, 28, 79, 3, 54, 4, 21, 4, 28, 162, 0, 32, 42, 180, 0, 29, 16, 12, 42]
abbrev dktX4_engine_6 : List UInt8 := dkwX4_engine_6 ++ dktX4_engine_7
def dkwX4_engine_5 : List UInt8 := [160, 0, 10, 42, 16, 7, 182, 0, 252, 172, 42, 180, 0, 20, 42, 180, 0, 236, 27, 79, 42, 180, 0, 23]
abbrev dktX4_engine_5 : List UInt8 := dkwX4_engine_5 ++ dktX4_engine_6
def dkwX4_engine_4 : List UInt8 := [184, 0, 239, 154, 0, 9, 42, 8, 182, 0, 252, 172, 132, 4, 1, 167, 255, 222, 42, 180, 0, 236, 7]
abbrev dktX4_engine_4 : List UInt8 := dkwX4_engine_4 ++ dktX4_engine_5
def dkwX4_engine_3 : List UInt8 := [172, 3, 54, 4, 21, 4, 28, 162, 0, 34, 42, 29, 21, 4, 182, 0, 255, 20, 0, 246, 20, 0, 250]
abbrev dktX4_engine_3 : List UInt8 := dkwX4_engine_3 ++ dktX4_engine_4
def dkwX4_engine_2 : List UInt8 := [154, 0, 9, 42, 8, 182, 0, 252, 172, 42, 180, 0, 13, 29, 46, 28, 162, 0, 9, 42, 7, 182, 0, 252]
abbrev dktX4_engine_2 : List UInt8 := dkwX4_engine_2 ++ dktX4_engine_3
def dkwX4_engine_1 : List UInt8 := [133, 20, 0, 246, 20, 0, 248, 184, 0, 239, 153, 0, 15, 28, 133, 10, 20, 0, 250, 184, 0, 239]
abbrev dktX4_engine_1 : List UInt8 := dkwX4_engine_1 ++ dktX4_engine_2
def dkwX4_engine_0 : List UInt8 := [42, 3, 181, 0, 212, 42, 42, 29, 182, 0, 222, 181, 0, 215, 42, 180, 0, 215, 158, 0, 5, 2, 172, 27]
abbrev dktX4_engine_0 : List UInt8 := dkwX4_engine_0 ++ dktX4_engine_1
theorem dksX4_engine_0 : cX4_engine.data.toList.drop 0 = dktX4_engine_0 := by decide +kernel
theorem dksX4_engine_1 : cX4_engine.data.toList.drop 24 = dktX4_engine_1 := dk_seg dksX4_engine_0 24 rfl rfl
theorem dksX4_engine_2 : cX4_engine.data.toList.drop 46 = dktX4_engine_2 := dk_seg dksX4_engine_1 22 rfl rfl
theorem dksX4_engine_3 : cX4_engine.data.toList.drop 70 = dktX4_engine_3 := dk_seg dksX4_engine_2 24 rfl rfl
theorem dksX4_engine_4 : cX4_engine.data.toList.drop 93 = dktX4_engine_4 := dk_seg dksX4_engine_3 23 rfl rfl
theorem dksX4_engine_5 : cX4_engine.data.toList.drop 116 = dktX4_engine_5 := dk_seg dksX4_engine_4 23 rfl rfl
theorem dksX4_engine_6 : cX4_engine.data.toList.drop 140 = dktX4_engine_6 := dk_seg dksX4_engine_5 24 rfl rfl
theorem dksX4_engine_7 : cX4_engine.data.toList.drop 162 = dktX4_engine_7 := dk_seg dksX4_engine_6 22 rfl rfl
theorem dksX4_engine_8 : cX4_engine.data.toList.drop 186 = dktX4_engine_8 := dk_seg dksX4_engine_7 24 rfl rfl
theorem dX4_engine_0 : decode cX4_engine 0 = .ok (.aload_n 0, 1) := dk_42 (dk_at dksX4_engine_0 0 rfl rfl)
theorem dX4_engine_1 : decode cX4_engine 1 = .ok (.iconst 0, 1) := dk_3 (dk_at dksX4_engine_0 1 rfl rfl)
theorem dX4_engine_2 : decode cX4_engine 2 = .ok (.putfield 212, 3) := dk_181 0 212 (dk_at dksX4_engine_0 2 rfl rfl)
theorem dX4_engine_5 : decode cX4_engine 5 = .ok (.aload_n 0, 1) := dk_42 (dk_at dksX4_engine_0 5 rfl rfl)
theorem dX4_engine_6 : decode cX4_engine 6 = .ok (.aload_n 0, 1) := dk_42 (dk_at dksX4_engine_0 6 rfl rfl)
theorem dX4_engine_7 : decode cX4_engine 7 = .ok (.iload_n 3, 1) := dk_29 (dk_at dksX4_engine_0 7 rfl rfl)
theorem dX4_engine_8 : decode cX4_engine 8 = .ok (.invokevirtual 222, 3) := dk_182 0 222 (dk_at dksX4_engine_0 8 rfl rfl)
theorem dX4_engine_11 : decode cX4_engine 11 = .ok (.putfield 215, 3) := dk_181 0 215 (dk_at dksX4_engine_0 11 rfl rfl)
theorem dX4_engine_14 : decode cX4_engine 14 = .ok (.aload_n 0, 1) := dk_42 (dk_at dksX4_engine_0 14 rfl rfl)
theorem dX4_engine_15 : decode cX4_engine 15 = .ok (.getfield 215, 3) := dk_180 0 215 (dk_at dksX4_engine_0 15 rfl rfl)
theorem dX4_engine_18 : decode cX4_engine 18 = .ok (.ifCond .le 5, 3) := dk_158 0 5 (dk_at dksX4_engine_0 18 rfl rfl)
theorem dX4_engine_21 : decode cX4_engine 21 = .ok (.iconst (-1), 1) := dk_2 (dk_at dksX4_engine_0 21 rfl rfl)
theorem dX4_engine_22 : decode cX4_engine 22 = .ok (.ireturn, 1) := dk_172 (dk_at dksX4_engine_0 22 rfl rfl)
theorem dX4_engine_23 : decode cX4_engine 23 = .ok (.iload_n 1, 1) := dk_27 (dk_at dksX4_engine_0 23 rfl rfl)
theorem dX4_engine_24 : decode cX4_engine 24 = .ok (.i2l, 1) := dk_133 (dk_at dksX4_engine_1 0 rfl rfl)
theorem dX4_engine_25 : decode cX4_engine 25 = .ok (.ldc2_w 246, 3) := dk_20 0 246 (dk_at dksX4_engine_1 1 rfl rfl)
theorem dX4_engine_28 : decode cX4_engine 28 = .ok (.ldc2_w 248, 3) := dk_20 0 248 (dk_at dksX4_engine_1 4 rfl rfl)
theorem dX4_engine_31 : decode cX4_engine 31 = .ok (.invokestatic 239, 3) := dk_184 0 239 (dk_at dksX4_engine_1 7 rfl rfl)
theorem dX4_engine_34 : decode cX4_engine 34 = .ok (.ifCond .eq 15, 3) := dk_153 0 15 (dk_at dksX4_engine_1 10 rfl rfl)
theorem dX4_engine_37 : decode cX4_engine 37 = .ok (.iload_n 2, 1) := dk_28 (dk_at dksX4_engine_1 13 rfl rfl)
theorem dX4_engine_38 : decode cX4_engine 38 = .ok (.i2l, 1) := dk_133 (dk_at dksX4_engine_1 14 rfl rfl)
theorem dX4_engine_39 : decode cX4_engine 39 = .ok (.lconst 1, 1) := dk_10 (dk_at dksX4_engine_1 15 rfl rfl)
theorem dX4_engine_40 : decode cX4_engine 40 = .ok (.ldc2_w 250, 3) := dk_20 0 250 (dk_at dksX4_engine_1 16 rfl rfl)
theorem dX4_engine_43 : decode cX4_engine 43 = .ok (.invokestatic 239, 3) := dk_184 0 239 (dk_at dksX4_engine_1 19 rfl rfl)
theorem dX4_engine_46 : decode cX4_engine 46 = .ok (.ifCond .ne 9, 3) := dk_154 0 9 (dk_at dksX4_engine_2 0 rfl rfl)
theorem dX4_engine_49 : decode cX4_engine 49 = .ok (.aload_n 0, 1) := dk_42 (dk_at dksX4_engine_2 3 rfl rfl)
theorem dX4_engine_50 : decode cX4_engine 50 = .ok (.iconst 5, 1) := dk_8 (dk_at dksX4_engine_2 4 rfl rfl)
theorem dX4_engine_51 : decode cX4_engine 51 = .ok (.invokevirtual 252, 3) := dk_182 0 252 (dk_at dksX4_engine_2 5 rfl rfl)
theorem dX4_engine_54 : decode cX4_engine 54 = .ok (.ireturn, 1) := dk_172 (dk_at dksX4_engine_2 8 rfl rfl)
theorem dX4_engine_55 : decode cX4_engine 55 = .ok (.aload_n 0, 1) := dk_42 (dk_at dksX4_engine_2 9 rfl rfl)
theorem dX4_engine_56 : decode cX4_engine 56 = .ok (.getfield 13, 3) := dk_180 0 13 (dk_at dksX4_engine_2 10 rfl rfl)
theorem dX4_engine_59 : decode cX4_engine 59 = .ok (.iload_n 3, 1) := dk_29 (dk_at dksX4_engine_2 13 rfl rfl)
theorem dX4_engine_60 : decode cX4_engine 60 = .ok (.iaload, 1) := dk_46 (dk_at dksX4_engine_2 14 rfl rfl)
theorem dX4_engine_61 : decode cX4_engine 61 = .ok (.iload_n 2, 1) := dk_28 (dk_at dksX4_engine_2 15 rfl rfl)
theorem dX4_engine_62 : decode cX4_engine 62 = .ok (.if_icmp .ge 9, 3) := dk_162 0 9 (dk_at dksX4_engine_2 16 rfl rfl)
theorem dX4_engine_65 : decode cX4_engine 65 = .ok (.aload_n 0, 1) := dk_42 (dk_at dksX4_engine_2 19 rfl rfl)
theorem dX4_engine_66 : decode cX4_engine 66 = .ok (.iconst 4, 1) := dk_7 (dk_at dksX4_engine_2 20 rfl rfl)
theorem dX4_engine_67 : decode cX4_engine 67 = .ok (.invokevirtual 252, 3) := dk_182 0 252 (dk_at dksX4_engine_2 21 rfl rfl)
theorem dX4_engine_70 : decode cX4_engine 70 = .ok (.ireturn, 1) := dk_172 (dk_at dksX4_engine_3 0 rfl rfl)
theorem dX4_engine_71 : decode cX4_engine 71 = .ok (.iconst 0, 1) := dk_3 (dk_at dksX4_engine_3 1 rfl rfl)
theorem dX4_engine_72 : decode cX4_engine 72 = .ok (.istore 4, 2) := dk_54 4 (dk_at dksX4_engine_3 2 rfl rfl)
theorem dX4_engine_74 : decode cX4_engine 74 = .ok (.iload 4, 2) := dk_21 4 (dk_at dksX4_engine_3 4 rfl rfl)
theorem dX4_engine_76 : decode cX4_engine 76 = .ok (.iload_n 2, 1) := dk_28 (dk_at dksX4_engine_3 6 rfl rfl)
theorem dX4_engine_77 : decode cX4_engine 77 = .ok (.if_icmp .ge 34, 3) := dk_162 0 34 (dk_at dksX4_engine_3 7 rfl rfl)
theorem dX4_engine_80 : decode cX4_engine 80 = .ok (.aload_n 0, 1) := dk_42 (dk_at dksX4_engine_3 10 rfl rfl)
theorem dX4_engine_81 : decode cX4_engine 81 = .ok (.iload_n 3, 1) := dk_29 (dk_at dksX4_engine_3 11 rfl rfl)
theorem dX4_engine_82 : decode cX4_engine 82 = .ok (.iload 4, 2) := dk_21 4 (dk_at dksX4_engine_3 12 rfl rfl)
theorem dX4_engine_84 : decode cX4_engine 84 = .ok (.invokevirtual 255, 3) := dk_182 0 255 (dk_at dksX4_engine_3 14 rfl rfl)
theorem dX4_engine_87 : decode cX4_engine 87 = .ok (.ldc2_w 246, 3) := dk_20 0 246 (dk_at dksX4_engine_3 17 rfl rfl)
theorem dX4_engine_90 : decode cX4_engine 90 = .ok (.ldc2_w 250, 3) := dk_20 0 250 (dk_at dksX4_engine_3 20 rfl rfl)
theorem dX4_engine_93 : decode cX4_engine 93 = .ok (.invokestatic 239, 3) := dk_184 0 239 (dk_at dksX4_engine_4 0 rfl rfl)
theorem dX4_engine_96 : decode cX4_engine 96 = .ok (.ifCond .ne 9, 3) := dk_154 0 9 (dk_at dksX4_engine_4 3 rfl rfl)
theorem dX4_engine_99 : decode cX4_engine 99 = .ok (.aload_n 0, 1) := dk_42 (dk_at dksX4_engine_4 6 rfl rfl)
theorem dX4_engine_100 : decode cX4_engine 100 = .ok (.iconst 5, 1) := dk_8 (dk_at dksX4_engine_4 7 rfl rfl)
theorem dX4_engine_101 : decode cX4_engine 101 = .ok (.invokevirtual 252, 3) := dk_182 0 252 (dk_at dksX4_engine_4 8 rfl rfl)
theorem dX4_engine_104 : decode cX4_engine 104 = .ok (.ireturn, 1) := dk_172 (dk_at dksX4_engine_4 11 rfl rfl)
theorem dX4_engine_105 : decode cX4_engine 105 = .ok (.iinc 4 1, 3) := dk_132 4 1 (dk_at dksX4_engine_4 12 rfl rfl)
theorem dX4_engine_108 : decode cX4_engine 108 = .ok (.goto (-34), 3) := dk_167 255 222 (dk_at dksX4_engine_4 15 rfl rfl)
theorem dX4_engine_111 : decode cX4_engine 111 = .ok (.aload_n 0, 1) := dk_42 (dk_at dksX4_engine_4 18 rfl rfl)
theorem dX4_engine_112 : decode cX4_engine 112 = .ok (.getfield 236, 3) := dk_180 0 236 (dk_at dksX4_engine_4 19 rfl rfl)
theorem dX4_engine_115 : decode cX4_engine 115 = .ok (.iconst 4, 1) := dk_7 (dk_at dksX4_engine_4 22 rfl rfl)
theorem dX4_engine_116 : decode cX4_engine 116 = .ok (.if_icmp .ne 10, 3) := dk_160 0 10 (dk_at dksX4_engine_5 0 rfl rfl)
theorem dX4_engine_119 : decode cX4_engine 119 = .ok (.aload_n 0, 1) := dk_42 (dk_at dksX4_engine_5 3 rfl rfl)
theorem dX4_engine_120 : decode cX4_engine 120 = .ok (.bipush 7, 2) := dk_16 7 (dk_at dksX4_engine_5 4 rfl rfl)
theorem dX4_engine_122 : decode cX4_engine 122 = .ok (.invokevirtual 252, 3) := dk_182 0 252 (dk_at dksX4_engine_5 6 rfl rfl)
theorem dX4_engine_125 : decode cX4_engine 125 = .ok (.ireturn, 1) := dk_172 (dk_at dksX4_engine_5 9 rfl rfl)
theorem dX4_engine_126 : decode cX4_engine 126 = .ok (.aload_n 0, 1) := dk_42 (dk_at dksX4_engine_5 10 rfl rfl)
theorem dX4_engine_127 : decode cX4_engine 127 = .ok (.getfield 20, 3) := dk_180 0 20 (dk_at dksX4_engine_5 11 rfl rfl)
theorem dX4_engine_130 : decode cX4_engine 130 = .ok (.aload_n 0, 1) := dk_42 (dk_at dksX4_engine_5 14 rfl rfl)
theorem dX4_engine_131 : decode cX4_engine 131 = .ok (.getfield 236, 3) := dk_180 0 236 (dk_at dksX4_engine_5 15 rfl rfl)
theorem dX4_engine_134 : decode cX4_engine 134 = .ok (.iload_n 1, 1) := dk_27 (dk_at dksX4_engine_5 18 rfl rfl)
theorem dX4_engine_135 : decode cX4_engine 135 = .ok (.iastore, 1) := dk_79 (dk_at dksX4_engine_5 19 rfl rfl)
theorem dX4_engine_136 : decode cX4_engine 136 = .ok (.aload_n 0, 1) := dk_42 (dk_at dksX4_engine_5 20 rfl rfl)
theorem dX4_engine_137 : decode cX4_engine 137 = .ok (.getfield 23, 3) := dk_180 0 23 (dk_at dksX4_engine_5 21 rfl rfl)
theorem dX4_engine_140 : decode cX4_engine 140 = .ok (.aload_n 0, 1) := dk_42 (dk_at dksX4_engine_6 0 rfl rfl)
theorem dX4_engine_141 : decode cX4_engine 141 = .ok (.getfield 236, 3) := dk_180 0 236 (dk_at dksX4_engine_6 1 rfl rfl)
theorem dX4_engine_144 : decode cX4_engine 144 = .ok (.iload_n 2, 1) := dk_28 (dk_at dksX4_engine_6 4 rfl rfl)
theorem dX4_engine_145 : decode cX4_engine 145 = .ok (.iastore, 1) := dk_79 (dk_at dksX4_engine_6 5 rfl rfl)
theorem dX4_engine_146 : decode cX4_engine 146 = .ok (.iconst 0, 1) := dk_3 (dk_at dksX4_engine_6 6 rfl rfl)
theorem dX4_engine_147 : decode cX4_engine 147 = .ok (.istore 4, 2) := dk_54 4 (dk_at dksX4_engine_6 7 rfl rfl)
theorem dX4_engine_149 : decode cX4_engine 149 = .ok (.iload 4, 2) := dk_21 4 (dk_at dksX4_engine_6 9 rfl rfl)
theorem dX4_engine_151 : decode cX4_engine 151 = .ok (.iload_n 2, 1) := dk_28 (dk_at dksX4_engine_6 11 rfl rfl)
theorem dX4_engine_152 : decode cX4_engine 152 = .ok (.if_icmp .ge 32, 3) := dk_162 0 32 (dk_at dksX4_engine_6 12 rfl rfl)
theorem dX4_engine_155 : decode cX4_engine 155 = .ok (.aload_n 0, 1) := dk_42 (dk_at dksX4_engine_6 15 rfl rfl)
theorem dX4_engine_156 : decode cX4_engine 156 = .ok (.getfield 29, 3) := dk_180 0 29 (dk_at dksX4_engine_6 16 rfl rfl)
theorem dX4_engine_159 : decode cX4_engine 159 = .ok (.bipush 12, 2) := dk_16 12 (dk_at dksX4_engine_6 19 rfl rfl)
theorem dX4_engine_161 : decode cX4_engine 161 = .ok (.aload_n 0, 1) := dk_42 (dk_at dksX4_engine_6 21 rfl rfl)
theorem dX4_engine_162 : decode cX4_engine 162 = .ok (.getfield 236, 3) := dk_180 0 236 (dk_at dksX4_engine_7 0 rfl rfl)
theorem dX4_engine_165 : decode cX4_engine 165 = .ok (.imul, 1) := dk_104 (dk_at dksX4_engine_7 3 rfl rfl)
theorem dX4_engine_166 : decode cX4_engine 166 = .ok (.iload 4, 2) := dk_21 4 (dk_at dksX4_engine_7 4 rfl rfl)
theorem dX4_engine_168 : decode cX4_engine 168 = .ok (.iadd, 1) := dk_96 (dk_at dksX4_engine_7 6 rfl rfl)
theorem dX4_engine_169 : decode cX4_engine 169 = .ok (.aload_n 0, 1) := dk_42 (dk_at dksX4_engine_7 7 rfl rfl)
theorem dX4_engine_170 : decode cX4_engine 170 = .ok (.iload_n 3, 1) := dk_29 (dk_at dksX4_engine_7 8 rfl rfl)
theorem dX4_engine_171 : decode cX4_engine 171 = .ok (.iload 4, 2) := dk_21 4 (dk_at dksX4_engine_7 9 rfl rfl)
theorem dX4_engine_173 : decode cX4_engine 173 = .ok (.invokevirtual 255, 3) := dk_182 0 255 (dk_at dksX4_engine_7 11 rfl rfl)
theorem dX4_engine_176 : decode cX4_engine 176 = .ok (.l2i, 1) := dk_136 (dk_at dksX4_engine_7 14 rfl rfl)
theorem dX4_engine_177 : decode cX4_engine 177 = .ok (.iastore, 1) := dk_79 (dk_at dksX4_engine_7 15 rfl rfl)
theorem dX4_engine_178 : decode cX4_engine 178 = .ok (.iinc 4 1, 3) := dk_132 4 1 (dk_at dksX4_engine_7 16 rfl rfl)
theorem dX4_engine_181 : decode cX4_engine 181 = .ok (.goto (-32), 3) := dk_167 255 224 (dk_at dksX4_engine_7 19 rfl rfl)
theorem dX4_engine_184 : decode cX4_engine 184 = .ok (.aload_n 0, 1) := dk_42 (dk_at dksX4_engine_7 22 rfl rfl)
theorem dX4_engine_185 : decode cX4_engine 185 = .ok (.dup, 1) := dk_89 (dk_at dksX4_engine_7 23 rfl rfl)
theorem dX4_engine_186 : decode cX4_engine 186 = .ok (.getfield 236, 3) := dk_180 0 236 (dk_at dksX4_engine_8 0 rfl rfl)
theorem dX4_engine_189 : decode cX4_engine 189 = .ok (.iconst 1, 1) := dk_4 (dk_at dksX4_engine_8 3 rfl rfl)
theorem dX4_engine_190 : decode cX4_engine 190 = .ok (.iadd, 1) := dk_96 (dk_at dksX4_engine_8 4 rfl rfl)
theorem dX4_engine_191 : decode cX4_engine 191 = .ok (.putfield 236, 3) := dk_181 0 236 (dk_at dksX4_engine_8 5 rfl rfl)
theorem dX4_engine_194 : decode cX4_engine 194 = .ok (.aload_n 0, 1) := dk_42 (dk_at dksX4_engine_8 8 rfl rfl)
theorem dX4_engine_195 : decode cX4_engine 195 = .ok (.getfield 236, 3) := dk_180 0 236 (dk_at dksX4_engine_8 9 rfl rfl)
theorem dX4_engine_198 : decode cX4_engine 198 = .ok (.iconst 1, 1) := dk_4 (dk_at dksX4_engine_8 12 rfl rfl)
theorem dX4_engine_199 : decode cX4_engine 199 = .ok (.isub, 1) := dk_100 (dk_at dksX4_engine_8 13 rfl rfl)
theorem dX4_engine_200 : decode cX4_engine 200 = .ok (.ireturn, 1) := dk_172 (dk_at dksX4_engine_8 14 rfl rfl)
abbrev cX4_isIn : ByteArray := prog_9_method_6_code
def yX4_isIn : MethodName := ⟨RX4, "isIn", "(JJJ)Z"⟩
def dkwX4_isIn_0 : List UInt8 := [30, 32, 148, 155, 0, 14, 30, 22, 4, 148, 157, 0, 7, 4, 167, 0, 4, 3, 172]
abbrev dktX4_isIn_0 : List UInt8 := dkwX4_isIn_0 ++ []
theorem dksX4_isIn_0 : cX4_isIn.data.toList.drop 0 = dktX4_isIn_0 := by decide +kernel
theorem dX4_isIn_0 : decode cX4_isIn 0 = .ok (.lload_n 0, 1) := dk_30 (dk_at dksX4_isIn_0 0 rfl rfl)
theorem dX4_isIn_1 : decode cX4_isIn 1 = .ok (.lload_n 2, 1) := dk_32 (dk_at dksX4_isIn_0 1 rfl rfl)
theorem dX4_isIn_2 : decode cX4_isIn 2 = .ok (.lcmp, 1) := dk_148 (dk_at dksX4_isIn_0 2 rfl rfl)
theorem dX4_isIn_3 : decode cX4_isIn 3 = .ok (.ifCond .lt 14, 3) := dk_155 0 14 (dk_at dksX4_isIn_0 3 rfl rfl)
theorem dX4_isIn_6 : decode cX4_isIn 6 = .ok (.lload_n 0, 1) := dk_30 (dk_at dksX4_isIn_0 6 rfl rfl)
theorem dX4_isIn_7 : decode cX4_isIn 7 = .ok (.lload 4, 2) := dk_22 4 (dk_at dksX4_isIn_0 7 rfl rfl)
theorem dX4_isIn_9 : decode cX4_isIn 9 = .ok (.lcmp, 1) := dk_148 (dk_at dksX4_isIn_0 9 rfl rfl)
theorem dX4_isIn_10 : decode cX4_isIn 10 = .ok (.ifCond .gt 7, 3) := dk_157 0 7 (dk_at dksX4_isIn_0 10 rfl rfl)
theorem dX4_isIn_13 : decode cX4_isIn 13 = .ok (.iconst 1, 1) := dk_4 (dk_at dksX4_isIn_0 13 rfl rfl)
theorem dX4_isIn_14 : decode cX4_isIn 14 = .ok (.goto 4, 3) := dk_167 0 4 (dk_at dksX4_isIn_0 14 rfl rfl)
theorem dX4_isIn_17 : decode cX4_isIn 17 = .ok (.iconst 0, 1) := dk_3 (dk_at dksX4_isIn_0 17 rfl rfl)
theorem dX4_isIn_18 : decode cX4_isIn 18 = .ok (.ireturn, 1) := dk_172 (dk_at dksX4_isIn_0 18 rfl rfl)
abbrev cX4_refuse : ByteArray := prog_9_method_4_code
def yX4_refuse : MethodName := ⟨RX4, "refuse", "(I)I"⟩
def dkwX4_refuse_0 : List UInt8 := [42, 27, 181, 0, 215, 2, 172]
abbrev dktX4_refuse_0 : List UInt8 := dkwX4_refuse_0 ++ []
theorem dksX4_refuse_0 : cX4_refuse.data.toList.drop 0 = dktX4_refuse_0 := by decide +kernel
theorem dX4_refuse_0 : decode cX4_refuse 0 = .ok (.aload_n 0, 1) := dk_42 (dk_at dksX4_refuse_0 0 rfl rfl)
theorem dX4_refuse_1 : decode cX4_refuse 1 = .ok (.iload_n 1, 1) := dk_27 (dk_at dksX4_refuse_0 1 rfl rfl)
theorem dX4_refuse_2 : decode cX4_refuse 2 = .ok (.putfield 215, 3) := dk_181 0 215 (dk_at dksX4_refuse_0 2 rfl rfl)
theorem dX4_refuse_5 : decode cX4_refuse 5 = .ok (.iconst (-1), 1) := dk_2 (dk_at dksX4_refuse_0 5 rfl rfl)
theorem dX4_refuse_6 : decode cX4_refuse 6 = .ok (.ireturn, 1) := dk_172 (dk_at dksX4_refuse_0 6 rfl rfl)
abbrev cX4_numberOf : ByteArray := prog_9_method_17_code
def yX4_numberOf : MethodName := ⟨RX4, "numberOf", "(II)J"⟩
def dkwX4_numberOf_0 : List UInt8 := [42, 180, 0, 16, 16, 60, 27, 104, 28, 96, 47, 173]
abbrev dktX4_numberOf_0 : List UInt8 := dkwX4_numberOf_0 ++ []
theorem dksX4_numberOf_0 : cX4_numberOf.data.toList.drop 0 = dktX4_numberOf_0 := by decide +kernel
theorem dX4_numberOf_0 : decode cX4_numberOf 0 = .ok (.aload_n 0, 1) := dk_42 (dk_at dksX4_numberOf_0 0 rfl rfl)
theorem dX4_numberOf_1 : decode cX4_numberOf 1 = .ok (.getfield 16, 3) := dk_180 0 16 (dk_at dksX4_numberOf_0 1 rfl rfl)
theorem dX4_numberOf_4 : decode cX4_numberOf 4 = .ok (.bipush 60, 2) := dk_16 60 (dk_at dksX4_numberOf_0 4 rfl rfl)
theorem dX4_numberOf_6 : decode cX4_numberOf 6 = .ok (.iload_n 1, 1) := dk_27 (dk_at dksX4_numberOf_0 6 rfl rfl)
theorem dX4_numberOf_7 : decode cX4_numberOf 7 = .ok (.imul, 1) := dk_104 (dk_at dksX4_numberOf_0 7 rfl rfl)
theorem dX4_numberOf_8 : decode cX4_numberOf 8 = .ok (.iload_n 2, 1) := dk_28 (dk_at dksX4_numberOf_0 8 rfl rfl)
theorem dX4_numberOf_9 : decode cX4_numberOf 9 = .ok (.iadd, 1) := dk_96 (dk_at dksX4_numberOf_0 9 rfl rfl)
theorem dX4_numberOf_10 : decode cX4_numberOf 10 = .ok (.laload, 1) := dk_47 (dk_at dksX4_numberOf_0 10 rfl rfl)
theorem dX4_numberOf_11 : decode cX4_numberOf 11 = .ok (.lreturn, 1) := dk_173 (dk_at dksX4_numberOf_0 11 rfl rfl)
abbrev cX4_figure : ByteArray := prog_9_method_19_code
def yX4_figure : MethodName := ⟨RX4, "figure", "(III)I"⟩
def dkwX4_figure_1 : List UInt8 := [27, 28, 29, 184, 1, 7, 46, 167, 0, 8, 42, 5, 182, 0, 252, 172]
abbrev dktX4_figure_1 : List UInt8 := dkwX4_figure_1 ++ []
def dkwX4_figure_0 : List UInt8 := [42, 3, 181, 0, 212, 42, 3, 181, 0, 215, 42, 27, 28, 29, 182, 1, 3, 153, 0, 17, 42, 180, 0, 32]
abbrev dktX4_figure_0 : List UInt8 := dkwX4_figure_0 ++ dktX4_figure_1
theorem dksX4_figure_0 : cX4_figure.data.toList.drop 0 = dktX4_figure_0 := by decide +kernel
theorem dksX4_figure_1 : cX4_figure.data.toList.drop 24 = dktX4_figure_1 := dk_seg dksX4_figure_0 24 rfl rfl
theorem dX4_figure_0 : decode cX4_figure 0 = .ok (.aload_n 0, 1) := dk_42 (dk_at dksX4_figure_0 0 rfl rfl)
theorem dX4_figure_1 : decode cX4_figure 1 = .ok (.iconst 0, 1) := dk_3 (dk_at dksX4_figure_0 1 rfl rfl)
theorem dX4_figure_2 : decode cX4_figure 2 = .ok (.putfield 212, 3) := dk_181 0 212 (dk_at dksX4_figure_0 2 rfl rfl)
theorem dX4_figure_5 : decode cX4_figure 5 = .ok (.aload_n 0, 1) := dk_42 (dk_at dksX4_figure_0 5 rfl rfl)
theorem dX4_figure_6 : decode cX4_figure 6 = .ok (.iconst 0, 1) := dk_3 (dk_at dksX4_figure_0 6 rfl rfl)
theorem dX4_figure_7 : decode cX4_figure 7 = .ok (.putfield 215, 3) := dk_181 0 215 (dk_at dksX4_figure_0 7 rfl rfl)
theorem dX4_figure_10 : decode cX4_figure 10 = .ok (.aload_n 0, 1) := dk_42 (dk_at dksX4_figure_0 10 rfl rfl)
theorem dX4_figure_11 : decode cX4_figure 11 = .ok (.iload_n 1, 1) := dk_27 (dk_at dksX4_figure_0 11 rfl rfl)
theorem dX4_figure_12 : decode cX4_figure 12 = .ok (.iload_n 2, 1) := dk_28 (dk_at dksX4_figure_0 12 rfl rfl)
theorem dX4_figure_13 : decode cX4_figure 13 = .ok (.iload_n 3, 1) := dk_29 (dk_at dksX4_figure_0 13 rfl rfl)
theorem dX4_figure_14 : decode cX4_figure 14 = .ok (.invokevirtual 259, 3) := dk_182 1 3 (dk_at dksX4_figure_0 14 rfl rfl)
theorem dX4_figure_17 : decode cX4_figure 17 = .ok (.ifCond .eq 17, 3) := dk_153 0 17 (dk_at dksX4_figure_0 17 rfl rfl)
theorem dX4_figure_20 : decode cX4_figure 20 = .ok (.aload_n 0, 1) := dk_42 (dk_at dksX4_figure_0 20 rfl rfl)
theorem dX4_figure_21 : decode cX4_figure 21 = .ok (.getfield 32, 3) := dk_180 0 32 (dk_at dksX4_figure_0 21 rfl rfl)
theorem dX4_figure_24 : decode cX4_figure 24 = .ok (.iload_n 1, 1) := dk_27 (dk_at dksX4_figure_1 0 rfl rfl)
theorem dX4_figure_25 : decode cX4_figure 25 = .ok (.iload_n 2, 1) := dk_28 (dk_at dksX4_figure_1 1 rfl rfl)
theorem dX4_figure_26 : decode cX4_figure 26 = .ok (.iload_n 3, 1) := dk_29 (dk_at dksX4_figure_1 2 rfl rfl)
theorem dX4_figure_27 : decode cX4_figure 27 = .ok (.invokestatic 263, 3) := dk_184 1 7 (dk_at dksX4_figure_1 3 rfl rfl)
theorem dX4_figure_30 : decode cX4_figure 30 = .ok (.iaload, 1) := dk_46 (dk_at dksX4_figure_1 6 rfl rfl)
theorem dX4_figure_31 : decode cX4_figure 31 = .ok (.goto 8, 3) := dk_167 0 8 (dk_at dksX4_figure_1 7 rfl rfl)
theorem dX4_figure_34 : decode cX4_figure 34 = .ok (.aload_n 0, 1) := dk_42 (dk_at dksX4_figure_1 10 rfl rfl)
theorem dX4_figure_35 : decode cX4_figure 35 = .ok (.iconst 2, 1) := dk_5 (dk_at dksX4_figure_1 11 rfl rfl)
theorem dX4_figure_36 : decode cX4_figure 36 = .ok (.invokevirtual 252, 3) := dk_182 0 252 (dk_at dksX4_figure_1 12 rfl rfl)
theorem dX4_figure_39 : decode cX4_figure 39 = .ok (.ireturn, 1) := dk_172 (dk_at dksX4_figure_1 15 rfl rfl)
abbrev cX4_isWheel : ByteArray := prog_9_method_15_code
def yX4_isWheel : MethodName := ⟨RX4, "isWheel", "(III)Z"⟩
def dkwX4_isWheel_2 : List UInt8 := [167, 0, 4, 3, 172]
abbrev dktX4_isWheel_2 : List UInt8 := dkwX4_isWheel_2 ++ []
def dkwX4_isWheel_1 : List UInt8 := [153, 0, 25, 29, 133, 9, 42, 180, 0, 23, 27, 46, 4, 100, 133, 184, 0, 239, 153, 0, 7, 4]
abbrev dktX4_isWheel_1 : List UInt8 := dkwX4_isWheel_1 ++ dktX4_isWheel_2
def dkwX4_isWheel_0 : List UInt8 := [42, 27, 182, 0, 243, 153, 0, 43, 28, 133, 9, 42, 180, 0, 20, 27, 46, 4, 100, 133, 184, 0, 239]
abbrev dktX4_isWheel_0 : List UInt8 := dkwX4_isWheel_0 ++ dktX4_isWheel_1
theorem dksX4_isWheel_0 : cX4_isWheel.data.toList.drop 0 = dktX4_isWheel_0 := by decide +kernel
theorem dksX4_isWheel_1 : cX4_isWheel.data.toList.drop 23 = dktX4_isWheel_1 := dk_seg dksX4_isWheel_0 23 rfl rfl
theorem dksX4_isWheel_2 : cX4_isWheel.data.toList.drop 45 = dktX4_isWheel_2 := dk_seg dksX4_isWheel_1 22 rfl rfl
theorem dX4_isWheel_0 : decode cX4_isWheel 0 = .ok (.aload_n 0, 1) := dk_42 (dk_at dksX4_isWheel_0 0 rfl rfl)
theorem dX4_isWheel_1 : decode cX4_isWheel 1 = .ok (.iload_n 1, 1) := dk_27 (dk_at dksX4_isWheel_0 1 rfl rfl)
theorem dX4_isWheel_2 : decode cX4_isWheel 2 = .ok (.invokevirtual 243, 3) := dk_182 0 243 (dk_at dksX4_isWheel_0 2 rfl rfl)
theorem dX4_isWheel_5 : decode cX4_isWheel 5 = .ok (.ifCond .eq 43, 3) := dk_153 0 43 (dk_at dksX4_isWheel_0 5 rfl rfl)
theorem dX4_isWheel_8 : decode cX4_isWheel 8 = .ok (.iload_n 2, 1) := dk_28 (dk_at dksX4_isWheel_0 8 rfl rfl)
theorem dX4_isWheel_9 : decode cX4_isWheel 9 = .ok (.i2l, 1) := dk_133 (dk_at dksX4_isWheel_0 9 rfl rfl)
theorem dX4_isWheel_10 : decode cX4_isWheel 10 = .ok (.lconst 0, 1) := dk_9 (dk_at dksX4_isWheel_0 10 rfl rfl)
theorem dX4_isWheel_11 : decode cX4_isWheel 11 = .ok (.aload_n 0, 1) := dk_42 (dk_at dksX4_isWheel_0 11 rfl rfl)
theorem dX4_isWheel_12 : decode cX4_isWheel 12 = .ok (.getfield 20, 3) := dk_180 0 20 (dk_at dksX4_isWheel_0 12 rfl rfl)
theorem dX4_isWheel_15 : decode cX4_isWheel 15 = .ok (.iload_n 1, 1) := dk_27 (dk_at dksX4_isWheel_0 15 rfl rfl)
theorem dX4_isWheel_16 : decode cX4_isWheel 16 = .ok (.iaload, 1) := dk_46 (dk_at dksX4_isWheel_0 16 rfl rfl)
theorem dX4_isWheel_17 : decode cX4_isWheel 17 = .ok (.iconst 1, 1) := dk_4 (dk_at dksX4_isWheel_0 17 rfl rfl)
theorem dX4_isWheel_18 : decode cX4_isWheel 18 = .ok (.isub, 1) := dk_100 (dk_at dksX4_isWheel_0 18 rfl rfl)
theorem dX4_isWheel_19 : decode cX4_isWheel 19 = .ok (.i2l, 1) := dk_133 (dk_at dksX4_isWheel_0 19 rfl rfl)
theorem dX4_isWheel_20 : decode cX4_isWheel 20 = .ok (.invokestatic 239, 3) := dk_184 0 239 (dk_at dksX4_isWheel_0 20 rfl rfl)
theorem dX4_isWheel_23 : decode cX4_isWheel 23 = .ok (.ifCond .eq 25, 3) := dk_153 0 25 (dk_at dksX4_isWheel_1 0 rfl rfl)
theorem dX4_isWheel_26 : decode cX4_isWheel 26 = .ok (.iload_n 3, 1) := dk_29 (dk_at dksX4_isWheel_1 3 rfl rfl)
theorem dX4_isWheel_27 : decode cX4_isWheel 27 = .ok (.i2l, 1) := dk_133 (dk_at dksX4_isWheel_1 4 rfl rfl)
theorem dX4_isWheel_28 : decode cX4_isWheel 28 = .ok (.lconst 0, 1) := dk_9 (dk_at dksX4_isWheel_1 5 rfl rfl)
theorem dX4_isWheel_29 : decode cX4_isWheel 29 = .ok (.aload_n 0, 1) := dk_42 (dk_at dksX4_isWheel_1 6 rfl rfl)
theorem dX4_isWheel_30 : decode cX4_isWheel 30 = .ok (.getfield 23, 3) := dk_180 0 23 (dk_at dksX4_isWheel_1 7 rfl rfl)
theorem dX4_isWheel_33 : decode cX4_isWheel 33 = .ok (.iload_n 1, 1) := dk_27 (dk_at dksX4_isWheel_1 10 rfl rfl)
theorem dX4_isWheel_34 : decode cX4_isWheel 34 = .ok (.iaload, 1) := dk_46 (dk_at dksX4_isWheel_1 11 rfl rfl)
theorem dX4_isWheel_35 : decode cX4_isWheel 35 = .ok (.iconst 1, 1) := dk_4 (dk_at dksX4_isWheel_1 12 rfl rfl)
theorem dX4_isWheel_36 : decode cX4_isWheel 36 = .ok (.isub, 1) := dk_100 (dk_at dksX4_isWheel_1 13 rfl rfl)
theorem dX4_isWheel_37 : decode cX4_isWheel 37 = .ok (.i2l, 1) := dk_133 (dk_at dksX4_isWheel_1 14 rfl rfl)
theorem dX4_isWheel_38 : decode cX4_isWheel 38 = .ok (.invokestatic 239, 3) := dk_184 0 239 (dk_at dksX4_isWheel_1 15 rfl rfl)
theorem dX4_isWheel_41 : decode cX4_isWheel 41 = .ok (.ifCond .eq 7, 3) := dk_153 0 7 (dk_at dksX4_isWheel_1 18 rfl rfl)
theorem dX4_isWheel_44 : decode cX4_isWheel 44 = .ok (.iconst 1, 1) := dk_4 (dk_at dksX4_isWheel_1 21 rfl rfl)
theorem dX4_isWheel_45 : decode cX4_isWheel 45 = .ok (.goto 4, 3) := dk_167 0 4 (dk_at dksX4_isWheel_2 0 rfl rfl)
theorem dX4_isWheel_48 : decode cX4_isWheel 48 = .ok (.iconst 0, 1) := dk_3 (dk_at dksX4_isWheel_2 3 rfl rfl)
theorem dX4_isWheel_49 : decode cX4_isWheel 49 = .ok (.ireturn, 1) := dk_172 (dk_at dksX4_isWheel_2 4 rfl rfl)
abbrev cX4_isEngine : ByteArray := prog_9_method_14_code
def yX4_isEngine : MethodName := ⟨RX4, "isEngine", "(I)Z"⟩
def dkwX4_isEngine_0 : List UInt8 := [27, 133, 9, 42, 180, 0, 236, 4, 100, 133, 184, 0, 239, 172]
abbrev dktX4_isEngine_0 : List UInt8 := dkwX4_isEngine_0 ++ []
theorem dksX4_isEngine_0 : cX4_isEngine.data.toList.drop 0 = dktX4_isEngine_0 := by decide +kernel
theorem dX4_isEngine_0 : decode cX4_isEngine 0 = .ok (.iload_n 1, 1) := dk_27 (dk_at dksX4_isEngine_0 0 rfl rfl)
theorem dX4_isEngine_1 : decode cX4_isEngine 1 = .ok (.i2l, 1) := dk_133 (dk_at dksX4_isEngine_0 1 rfl rfl)
theorem dX4_isEngine_2 : decode cX4_isEngine 2 = .ok (.lconst 0, 1) := dk_9 (dk_at dksX4_isEngine_0 2 rfl rfl)
theorem dX4_isEngine_3 : decode cX4_isEngine 3 = .ok (.aload_n 0, 1) := dk_42 (dk_at dksX4_isEngine_0 3 rfl rfl)
theorem dX4_isEngine_4 : decode cX4_isEngine 4 = .ok (.getfield 236, 3) := dk_180 0 236 (dk_at dksX4_isEngine_0 4 rfl rfl)
theorem dX4_isEngine_7 : decode cX4_isEngine 7 = .ok (.iconst 1, 1) := dk_4 (dk_at dksX4_isEngine_0 7 rfl rfl)
theorem dX4_isEngine_8 : decode cX4_isEngine 8 = .ok (.isub, 1) := dk_100 (dk_at dksX4_isEngine_0 8 rfl rfl)
theorem dX4_isEngine_9 : decode cX4_isEngine 9 = .ok (.i2l, 1) := dk_133 (dk_at dksX4_isEngine_0 9 rfl rfl)
theorem dX4_isEngine_10 : decode cX4_isEngine 10 = .ok (.invokestatic 239, 3) := dk_184 0 239 (dk_at dksX4_isEngine_0 10 rfl rfl)
theorem dX4_isEngine_13 : decode cX4_isEngine 13 = .ok (.ireturn, 1) := dk_172 (dk_at dksX4_isEngine_0 13 rfl rfl)
abbrev cX4_cell : ByteArray := prog_9_method_16_code
def yX4_cell : MethodName := ⟨RX4, "cell", "(III)I"⟩
def dkwX4_cell_0 : List UInt8 := [16, 12, 16, 7, 26, 104, 27, 96, 104, 28, 96, 172]
abbrev dktX4_cell_0 : List UInt8 := dkwX4_cell_0 ++ []
theorem dksX4_cell_0 : cX4_cell.data.toList.drop 0 = dktX4_cell_0 := by decide +kernel
theorem dX4_cell_0 : decode cX4_cell 0 = .ok (.bipush 12, 2) := dk_16 12 (dk_at dksX4_cell_0 0 rfl rfl)
theorem dX4_cell_2 : decode cX4_cell 2 = .ok (.bipush 7, 2) := dk_16 7 (dk_at dksX4_cell_0 2 rfl rfl)
theorem dX4_cell_4 : decode cX4_cell 4 = .ok (.iload_n 0, 1) := dk_26 (dk_at dksX4_cell_0 4 rfl rfl)
theorem dX4_cell_5 : decode cX4_cell 5 = .ok (.imul, 1) := dk_104 (dk_at dksX4_cell_0 5 rfl rfl)
theorem dX4_cell_6 : decode cX4_cell 6 = .ok (.iload_n 1, 1) := dk_27 (dk_at dksX4_cell_0 6 rfl rfl)
theorem dX4_cell_7 : decode cX4_cell 7 = .ok (.iadd, 1) := dk_96 (dk_at dksX4_cell_0 7 rfl rfl)
theorem dX4_cell_8 : decode cX4_cell 8 = .ok (.imul, 1) := dk_104 (dk_at dksX4_cell_0 8 rfl rfl)
theorem dX4_cell_9 : decode cX4_cell 9 = .ok (.iload_n 2, 1) := dk_28 (dk_at dksX4_cell_0 9 rfl rfl)
theorem dX4_cell_10 : decode cX4_cell 10 = .ok (.iadd, 1) := dk_96 (dk_at dksX4_cell_0 10 rfl rfl)
theorem dX4_cell_11 : decode cX4_cell 11 = .ok (.ireturn, 1) := dk_172 (dk_at dksX4_cell_0 11 rfl rfl)
abbrev cX4_put : ByteArray := prog_9_method_20_code
def yX4_put : MethodName := ⟨RX4, "put", "(IIII)Z"⟩
def dkwX4_put_3 : List UInt8 := [79, 4, 172]
abbrev dktX4_put_3 : List UInt8 := dkwX4_put_3 ++ []
def dkwX4_put_2 : List UInt8 := [184, 0, 239, 154, 0, 9, 42, 8, 182, 0, 218, 172, 42, 180, 0, 32, 27, 28, 29, 184, 1, 7, 21, 4]
abbrev dktX4_put_2 : List UInt8 := dkwX4_put_2 ++ dktX4_put_3
def dkwX4_put_1 : List UInt8 := [182, 0, 218, 172, 21, 4, 133, 9, 42, 180, 0, 29, 16, 12, 27, 104, 29, 96, 46, 4, 100, 133]
abbrev dktX4_put_1 : List UInt8 := dkwX4_put_1 ++ dktX4_put_2
def dkwX4_put_0 : List UInt8 := [42, 3, 181, 0, 212, 42, 3, 181, 0, 215, 42, 27, 28, 29, 182, 1, 3, 154, 0, 9, 42, 5]
abbrev dktX4_put_0 : List UInt8 := dkwX4_put_0 ++ dktX4_put_1
theorem dksX4_put_0 : cX4_put.data.toList.drop 0 = dktX4_put_0 := by decide +kernel
theorem dksX4_put_1 : cX4_put.data.toList.drop 22 = dktX4_put_1 := dk_seg dksX4_put_0 22 rfl rfl
theorem dksX4_put_2 : cX4_put.data.toList.drop 44 = dktX4_put_2 := dk_seg dksX4_put_1 22 rfl rfl
theorem dksX4_put_3 : cX4_put.data.toList.drop 68 = dktX4_put_3 := dk_seg dksX4_put_2 24 rfl rfl
theorem dX4_put_0 : decode cX4_put 0 = .ok (.aload_n 0, 1) := dk_42 (dk_at dksX4_put_0 0 rfl rfl)
theorem dX4_put_1 : decode cX4_put 1 = .ok (.iconst 0, 1) := dk_3 (dk_at dksX4_put_0 1 rfl rfl)
theorem dX4_put_2 : decode cX4_put 2 = .ok (.putfield 212, 3) := dk_181 0 212 (dk_at dksX4_put_0 2 rfl rfl)
theorem dX4_put_5 : decode cX4_put 5 = .ok (.aload_n 0, 1) := dk_42 (dk_at dksX4_put_0 5 rfl rfl)
theorem dX4_put_6 : decode cX4_put 6 = .ok (.iconst 0, 1) := dk_3 (dk_at dksX4_put_0 6 rfl rfl)
theorem dX4_put_7 : decode cX4_put 7 = .ok (.putfield 215, 3) := dk_181 0 215 (dk_at dksX4_put_0 7 rfl rfl)
theorem dX4_put_10 : decode cX4_put 10 = .ok (.aload_n 0, 1) := dk_42 (dk_at dksX4_put_0 10 rfl rfl)
theorem dX4_put_11 : decode cX4_put 11 = .ok (.iload_n 1, 1) := dk_27 (dk_at dksX4_put_0 11 rfl rfl)
theorem dX4_put_12 : decode cX4_put 12 = .ok (.iload_n 2, 1) := dk_28 (dk_at dksX4_put_0 12 rfl rfl)
theorem dX4_put_13 : decode cX4_put 13 = .ok (.iload_n 3, 1) := dk_29 (dk_at dksX4_put_0 13 rfl rfl)
theorem dX4_put_14 : decode cX4_put 14 = .ok (.invokevirtual 259, 3) := dk_182 1 3 (dk_at dksX4_put_0 14 rfl rfl)
theorem dX4_put_17 : decode cX4_put 17 = .ok (.ifCond .ne 9, 3) := dk_154 0 9 (dk_at dksX4_put_0 17 rfl rfl)
theorem dX4_put_20 : decode cX4_put 20 = .ok (.aload_n 0, 1) := dk_42 (dk_at dksX4_put_0 20 rfl rfl)
theorem dX4_put_21 : decode cX4_put 21 = .ok (.iconst 2, 1) := dk_5 (dk_at dksX4_put_0 21 rfl rfl)
theorem dX4_put_22 : decode cX4_put 22 = .ok (.invokevirtual 218, 3) := dk_182 0 218 (dk_at dksX4_put_1 0 rfl rfl)
theorem dX4_put_25 : decode cX4_put 25 = .ok (.ireturn, 1) := dk_172 (dk_at dksX4_put_1 3 rfl rfl)
theorem dX4_put_26 : decode cX4_put 26 = .ok (.iload 4, 2) := dk_21 4 (dk_at dksX4_put_1 4 rfl rfl)
theorem dX4_put_28 : decode cX4_put 28 = .ok (.i2l, 1) := dk_133 (dk_at dksX4_put_1 6 rfl rfl)
theorem dX4_put_29 : decode cX4_put 29 = .ok (.lconst 0, 1) := dk_9 (dk_at dksX4_put_1 7 rfl rfl)
theorem dX4_put_30 : decode cX4_put 30 = .ok (.aload_n 0, 1) := dk_42 (dk_at dksX4_put_1 8 rfl rfl)
theorem dX4_put_31 : decode cX4_put 31 = .ok (.getfield 29, 3) := dk_180 0 29 (dk_at dksX4_put_1 9 rfl rfl)
theorem dX4_put_34 : decode cX4_put 34 = .ok (.bipush 12, 2) := dk_16 12 (dk_at dksX4_put_1 12 rfl rfl)
theorem dX4_put_36 : decode cX4_put 36 = .ok (.iload_n 1, 1) := dk_27 (dk_at dksX4_put_1 14 rfl rfl)
theorem dX4_put_37 : decode cX4_put 37 = .ok (.imul, 1) := dk_104 (dk_at dksX4_put_1 15 rfl rfl)
theorem dX4_put_38 : decode cX4_put 38 = .ok (.iload_n 3, 1) := dk_29 (dk_at dksX4_put_1 16 rfl rfl)
theorem dX4_put_39 : decode cX4_put 39 = .ok (.iadd, 1) := dk_96 (dk_at dksX4_put_1 17 rfl rfl)
theorem dX4_put_40 : decode cX4_put 40 = .ok (.iaload, 1) := dk_46 (dk_at dksX4_put_1 18 rfl rfl)
theorem dX4_put_41 : decode cX4_put 41 = .ok (.iconst 1, 1) := dk_4 (dk_at dksX4_put_1 19 rfl rfl)
theorem dX4_put_42 : decode cX4_put 42 = .ok (.isub, 1) := dk_100 (dk_at dksX4_put_1 20 rfl rfl)
theorem dX4_put_43 : decode cX4_put 43 = .ok (.i2l, 1) := dk_133 (dk_at dksX4_put_1 21 rfl rfl)
theorem dX4_put_44 : decode cX4_put 44 = .ok (.invokestatic 239, 3) := dk_184 0 239 (dk_at dksX4_put_2 0 rfl rfl)
theorem dX4_put_47 : decode cX4_put 47 = .ok (.ifCond .ne 9, 3) := dk_154 0 9 (dk_at dksX4_put_2 3 rfl rfl)
theorem dX4_put_50 : decode cX4_put 50 = .ok (.aload_n 0, 1) := dk_42 (dk_at dksX4_put_2 6 rfl rfl)
theorem dX4_put_51 : decode cX4_put 51 = .ok (.iconst 5, 1) := dk_8 (dk_at dksX4_put_2 7 rfl rfl)
theorem dX4_put_52 : decode cX4_put 52 = .ok (.invokevirtual 218, 3) := dk_182 0 218 (dk_at dksX4_put_2 8 rfl rfl)
theorem dX4_put_55 : decode cX4_put 55 = .ok (.ireturn, 1) := dk_172 (dk_at dksX4_put_2 11 rfl rfl)
theorem dX4_put_56 : decode cX4_put 56 = .ok (.aload_n 0, 1) := dk_42 (dk_at dksX4_put_2 12 rfl rfl)
theorem dX4_put_57 : decode cX4_put 57 = .ok (.getfield 32, 3) := dk_180 0 32 (dk_at dksX4_put_2 13 rfl rfl)
theorem dX4_put_60 : decode cX4_put 60 = .ok (.iload_n 1, 1) := dk_27 (dk_at dksX4_put_2 16 rfl rfl)
theorem dX4_put_61 : decode cX4_put 61 = .ok (.iload_n 2, 1) := dk_28 (dk_at dksX4_put_2 17 rfl rfl)
theorem dX4_put_62 : decode cX4_put 62 = .ok (.iload_n 3, 1) := dk_29 (dk_at dksX4_put_2 18 rfl rfl)
theorem dX4_put_63 : decode cX4_put 63 = .ok (.invokestatic 263, 3) := dk_184 1 7 (dk_at dksX4_put_2 19 rfl rfl)
theorem dX4_put_66 : decode cX4_put 66 = .ok (.iload 4, 2) := dk_21 4 (dk_at dksX4_put_2 22 rfl rfl)
theorem dX4_put_68 : decode cX4_put 68 = .ok (.iastore, 1) := dk_79 (dk_at dksX4_put_3 0 rfl rfl)
theorem dX4_put_69 : decode cX4_put 69 = .ok (.iconst 1, 1) := dk_4 (dk_at dksX4_put_3 1 rfl rfl)
theorem dX4_put_70 : decode cX4_put 70 = .ok (.ireturn, 1) := dk_172 (dk_at dksX4_put_3 2 rfl rfl)
abbrev cX4_number : ByteArray := prog_9_method_22_code
def yX4_number : MethodName := ⟨RX4, "number", "(II)J"⟩
def dkwX4_number_2 : List UInt8 := [5, 182, 0, 252, 133, 173]
abbrev dktX4_number_2 : List UInt8 := dkwX4_number_2 ++ []
def dkwX4_number_1 : List UInt8 := [180, 0, 20, 27, 46, 4, 100, 133, 184, 0, 239, 153, 0, 12, 42, 27, 28, 182, 1, 11, 167, 0, 9, 42]
abbrev dktX4_number_1 : List UInt8 := dkwX4_number_1 ++ dktX4_number_2
def dkwX4_number_0 : List UInt8 := [42, 3, 181, 0, 212, 42, 3, 181, 0, 215, 42, 27, 182, 0, 243, 153, 0, 30, 28, 133, 9, 42]
abbrev dktX4_number_0 : List UInt8 := dkwX4_number_0 ++ dktX4_number_1
theorem dksX4_number_0 : cX4_number.data.toList.drop 0 = dktX4_number_0 := by decide +kernel
theorem dksX4_number_1 : cX4_number.data.toList.drop 22 = dktX4_number_1 := dk_seg dksX4_number_0 22 rfl rfl
theorem dksX4_number_2 : cX4_number.data.toList.drop 46 = dktX4_number_2 := dk_seg dksX4_number_1 24 rfl rfl
theorem dX4_number_0 : decode cX4_number 0 = .ok (.aload_n 0, 1) := dk_42 (dk_at dksX4_number_0 0 rfl rfl)
theorem dX4_number_1 : decode cX4_number 1 = .ok (.iconst 0, 1) := dk_3 (dk_at dksX4_number_0 1 rfl rfl)
theorem dX4_number_2 : decode cX4_number 2 = .ok (.putfield 212, 3) := dk_181 0 212 (dk_at dksX4_number_0 2 rfl rfl)
theorem dX4_number_5 : decode cX4_number 5 = .ok (.aload_n 0, 1) := dk_42 (dk_at dksX4_number_0 5 rfl rfl)
theorem dX4_number_6 : decode cX4_number 6 = .ok (.iconst 0, 1) := dk_3 (dk_at dksX4_number_0 6 rfl rfl)
theorem dX4_number_7 : decode cX4_number 7 = .ok (.putfield 215, 3) := dk_181 0 215 (dk_at dksX4_number_0 7 rfl rfl)
theorem dX4_number_10 : decode cX4_number 10 = .ok (.aload_n 0, 1) := dk_42 (dk_at dksX4_number_0 10 rfl rfl)
theorem dX4_number_11 : decode cX4_number 11 = .ok (.iload_n 1, 1) := dk_27 (dk_at dksX4_number_0 11 rfl rfl)
theorem dX4_number_12 : decode cX4_number 12 = .ok (.invokevirtual 243, 3) := dk_182 0 243 (dk_at dksX4_number_0 12 rfl rfl)
theorem dX4_number_15 : decode cX4_number 15 = .ok (.ifCond .eq 30, 3) := dk_153 0 30 (dk_at dksX4_number_0 15 rfl rfl)
theorem dX4_number_18 : decode cX4_number 18 = .ok (.iload_n 2, 1) := dk_28 (dk_at dksX4_number_0 18 rfl rfl)
theorem dX4_number_19 : decode cX4_number 19 = .ok (.i2l, 1) := dk_133 (dk_at dksX4_number_0 19 rfl rfl)
theorem dX4_number_20 : decode cX4_number 20 = .ok (.lconst 0, 1) := dk_9 (dk_at dksX4_number_0 20 rfl rfl)
theorem dX4_number_21 : decode cX4_number 21 = .ok (.aload_n 0, 1) := dk_42 (dk_at dksX4_number_0 21 rfl rfl)
theorem dX4_number_22 : decode cX4_number 22 = .ok (.getfield 20, 3) := dk_180 0 20 (dk_at dksX4_number_1 0 rfl rfl)
theorem dX4_number_25 : decode cX4_number 25 = .ok (.iload_n 1, 1) := dk_27 (dk_at dksX4_number_1 3 rfl rfl)
theorem dX4_number_26 : decode cX4_number 26 = .ok (.iaload, 1) := dk_46 (dk_at dksX4_number_1 4 rfl rfl)
theorem dX4_number_27 : decode cX4_number 27 = .ok (.iconst 1, 1) := dk_4 (dk_at dksX4_number_1 5 rfl rfl)
theorem dX4_number_28 : decode cX4_number 28 = .ok (.isub, 1) := dk_100 (dk_at dksX4_number_1 6 rfl rfl)
theorem dX4_number_29 : decode cX4_number 29 = .ok (.i2l, 1) := dk_133 (dk_at dksX4_number_1 7 rfl rfl)
theorem dX4_number_30 : decode cX4_number 30 = .ok (.invokestatic 239, 3) := dk_184 0 239 (dk_at dksX4_number_1 8 rfl rfl)
theorem dX4_number_33 : decode cX4_number 33 = .ok (.ifCond .eq 12, 3) := dk_153 0 12 (dk_at dksX4_number_1 11 rfl rfl)
theorem dX4_number_36 : decode cX4_number 36 = .ok (.aload_n 0, 1) := dk_42 (dk_at dksX4_number_1 14 rfl rfl)
theorem dX4_number_37 : decode cX4_number 37 = .ok (.iload_n 1, 1) := dk_27 (dk_at dksX4_number_1 15 rfl rfl)
theorem dX4_number_38 : decode cX4_number 38 = .ok (.iload_n 2, 1) := dk_28 (dk_at dksX4_number_1 16 rfl rfl)
theorem dX4_number_39 : decode cX4_number 39 = .ok (.invokevirtual 267, 3) := dk_182 1 11 (dk_at dksX4_number_1 17 rfl rfl)
theorem dX4_number_42 : decode cX4_number 42 = .ok (.goto 9, 3) := dk_167 0 9 (dk_at dksX4_number_1 20 rfl rfl)
theorem dX4_number_45 : decode cX4_number 45 = .ok (.aload_n 0, 1) := dk_42 (dk_at dksX4_number_1 23 rfl rfl)
theorem dX4_number_46 : decode cX4_number 46 = .ok (.iconst 2, 1) := dk_5 (dk_at dksX4_number_2 0 rfl rfl)
theorem dX4_number_47 : decode cX4_number 47 = .ok (.invokevirtual 252, 3) := dk_182 0 252 (dk_at dksX4_number_2 1 rfl rfl)
theorem dX4_number_50 : decode cX4_number 50 = .ok (.i2l, 1) := dk_133 (dk_at dksX4_number_2 4 rfl rfl)
theorem dX4_number_51 : decode cX4_number 51 = .ok (.lreturn, 1) := dk_173 (dk_at dksX4_number_2 5 rfl rfl)
abbrev cX4_onAxis : ByteArray := prog_9_method_21_code
def yX4_onAxis : MethodName := ⟨RX4, "onAxis", "(II)J"⟩
def dkwX4_onAxis_2 : List UInt8 := [132, 5, 255, 167, 255, 218, 33, 173]
abbrev dktX4_onAxis_2 : List UInt8 := dkwX4_onAxis_2 ++ []
def dkwX4_onAxis_1 : List UInt8 := [27, 104, 21, 5, 96, 46, 133, 105, 42, 180, 0, 32, 27, 28, 21, 5, 184, 1, 7, 46, 133, 97, 66]
abbrev dktX4_onAxis_1 : List UInt8 := dkwX4_onAxis_1 ++ dktX4_onAxis_2
def dkwX4_onAxis_0 : List UInt8 := [9, 66, 42, 180, 0, 23, 27, 46, 4, 100, 54, 5, 21, 5, 155, 0, 39, 33, 42, 180, 0, 29, 16, 12]
abbrev dktX4_onAxis_0 : List UInt8 := dkwX4_onAxis_0 ++ dktX4_onAxis_1
theorem dksX4_onAxis_0 : cX4_onAxis.data.toList.drop 0 = dktX4_onAxis_0 := by decide +kernel
theorem dksX4_onAxis_1 : cX4_onAxis.data.toList.drop 24 = dktX4_onAxis_1 := dk_seg dksX4_onAxis_0 24 rfl rfl
theorem dksX4_onAxis_2 : cX4_onAxis.data.toList.drop 47 = dktX4_onAxis_2 := dk_seg dksX4_onAxis_1 23 rfl rfl
theorem dX4_onAxis_0 : decode cX4_onAxis 0 = .ok (.lconst 0, 1) := dk_9 (dk_at dksX4_onAxis_0 0 rfl rfl)
theorem dX4_onAxis_1 : decode cX4_onAxis 1 = .ok (.lstore_n 3, 1) := dk_66 (dk_at dksX4_onAxis_0 1 rfl rfl)
theorem dX4_onAxis_2 : decode cX4_onAxis 2 = .ok (.aload_n 0, 1) := dk_42 (dk_at dksX4_onAxis_0 2 rfl rfl)
theorem dX4_onAxis_3 : decode cX4_onAxis 3 = .ok (.getfield 23, 3) := dk_180 0 23 (dk_at dksX4_onAxis_0 3 rfl rfl)
theorem dX4_onAxis_6 : decode cX4_onAxis 6 = .ok (.iload_n 1, 1) := dk_27 (dk_at dksX4_onAxis_0 6 rfl rfl)
theorem dX4_onAxis_7 : decode cX4_onAxis 7 = .ok (.iaload, 1) := dk_46 (dk_at dksX4_onAxis_0 7 rfl rfl)
theorem dX4_onAxis_8 : decode cX4_onAxis 8 = .ok (.iconst 1, 1) := dk_4 (dk_at dksX4_onAxis_0 8 rfl rfl)
theorem dX4_onAxis_9 : decode cX4_onAxis 9 = .ok (.isub, 1) := dk_100 (dk_at dksX4_onAxis_0 9 rfl rfl)
theorem dX4_onAxis_10 : decode cX4_onAxis 10 = .ok (.istore 5, 2) := dk_54 5 (dk_at dksX4_onAxis_0 10 rfl rfl)
theorem dX4_onAxis_12 : decode cX4_onAxis 12 = .ok (.iload 5, 2) := dk_21 5 (dk_at dksX4_onAxis_0 12 rfl rfl)
theorem dX4_onAxis_14 : decode cX4_onAxis 14 = .ok (.ifCond .lt 39, 3) := dk_155 0 39 (dk_at dksX4_onAxis_0 14 rfl rfl)
theorem dX4_onAxis_17 : decode cX4_onAxis 17 = .ok (.lload_n 3, 1) := dk_33 (dk_at dksX4_onAxis_0 17 rfl rfl)
theorem dX4_onAxis_18 : decode cX4_onAxis 18 = .ok (.aload_n 0, 1) := dk_42 (dk_at dksX4_onAxis_0 18 rfl rfl)
theorem dX4_onAxis_19 : decode cX4_onAxis 19 = .ok (.getfield 29, 3) := dk_180 0 29 (dk_at dksX4_onAxis_0 19 rfl rfl)
theorem dX4_onAxis_22 : decode cX4_onAxis 22 = .ok (.bipush 12, 2) := dk_16 12 (dk_at dksX4_onAxis_0 22 rfl rfl)
theorem dX4_onAxis_24 : decode cX4_onAxis 24 = .ok (.iload_n 1, 1) := dk_27 (dk_at dksX4_onAxis_1 0 rfl rfl)
theorem dX4_onAxis_25 : decode cX4_onAxis 25 = .ok (.imul, 1) := dk_104 (dk_at dksX4_onAxis_1 1 rfl rfl)
theorem dX4_onAxis_26 : decode cX4_onAxis 26 = .ok (.iload 5, 2) := dk_21 5 (dk_at dksX4_onAxis_1 2 rfl rfl)
theorem dX4_onAxis_28 : decode cX4_onAxis 28 = .ok (.iadd, 1) := dk_96 (dk_at dksX4_onAxis_1 4 rfl rfl)
theorem dX4_onAxis_29 : decode cX4_onAxis 29 = .ok (.iaload, 1) := dk_46 (dk_at dksX4_onAxis_1 5 rfl rfl)
theorem dX4_onAxis_30 : decode cX4_onAxis 30 = .ok (.i2l, 1) := dk_133 (dk_at dksX4_onAxis_1 6 rfl rfl)
theorem dX4_onAxis_31 : decode cX4_onAxis 31 = .ok (.lmul, 1) := dk_105 (dk_at dksX4_onAxis_1 7 rfl rfl)
theorem dX4_onAxis_32 : decode cX4_onAxis 32 = .ok (.aload_n 0, 1) := dk_42 (dk_at dksX4_onAxis_1 8 rfl rfl)
theorem dX4_onAxis_33 : decode cX4_onAxis 33 = .ok (.getfield 32, 3) := dk_180 0 32 (dk_at dksX4_onAxis_1 9 rfl rfl)
theorem dX4_onAxis_36 : decode cX4_onAxis 36 = .ok (.iload_n 1, 1) := dk_27 (dk_at dksX4_onAxis_1 12 rfl rfl)
theorem dX4_onAxis_37 : decode cX4_onAxis 37 = .ok (.iload_n 2, 1) := dk_28 (dk_at dksX4_onAxis_1 13 rfl rfl)
theorem dX4_onAxis_38 : decode cX4_onAxis 38 = .ok (.iload 5, 2) := dk_21 5 (dk_at dksX4_onAxis_1 14 rfl rfl)
theorem dX4_onAxis_40 : decode cX4_onAxis 40 = .ok (.invokestatic 263, 3) := dk_184 1 7 (dk_at dksX4_onAxis_1 16 rfl rfl)
theorem dX4_onAxis_43 : decode cX4_onAxis 43 = .ok (.iaload, 1) := dk_46 (dk_at dksX4_onAxis_1 19 rfl rfl)
theorem dX4_onAxis_44 : decode cX4_onAxis 44 = .ok (.i2l, 1) := dk_133 (dk_at dksX4_onAxis_1 20 rfl rfl)
theorem dX4_onAxis_45 : decode cX4_onAxis 45 = .ok (.ladd, 1) := dk_97 (dk_at dksX4_onAxis_1 21 rfl rfl)
theorem dX4_onAxis_46 : decode cX4_onAxis 46 = .ok (.lstore_n 3, 1) := dk_66 (dk_at dksX4_onAxis_1 22 rfl rfl)
theorem dX4_onAxis_47 : decode cX4_onAxis 47 = .ok (.iinc 5 (-1), 3) := dk_132 5 255 (dk_at dksX4_onAxis_2 0 rfl rfl)
theorem dX4_onAxis_50 : decode cX4_onAxis 50 = .ok (.goto (-38), 3) := dk_167 255 218 (dk_at dksX4_onAxis_2 3 rfl rfl)
theorem dX4_onAxis_53 : decode cX4_onAxis 53 = .ok (.lload_n 3, 1) := dk_33 (dk_at dksX4_onAxis_2 6 rfl rfl)
theorem dX4_onAxis_54 : decode cX4_onAxis 54 = .ok (.lreturn, 1) := dk_173 (dk_at dksX4_onAxis_2 7 rfl rfl)
abbrev cX4_set : ByteArray := prog_9_method_25_code
def yX4_set : MethodName := ⟨RX4, "set", "(III)Z"⟩
def dkwX4_set_12 : List UInt8 := [180, 0, 26, 27, 3, 79, 4, 172]
abbrev dktX4_set_12 : List UInt8 := dkwX4_set_12 ++ []
def dkwX4_set_11 : List UInt8 := [21, 9, 133, 101, 21, 8, 133, 109, 55, 5, 132, 7, 1, 167, 255, 190, 132, 4, 1, 167, 255, 151, 42]
abbrev dktX4_set_11 : List UInt8 := dkwX4_set_11 ++ dktX4_set_12
def dkwX4_set_10 : List UInt8 := [184, 1, 26, 136, 54, 9, 42, 180, 0, 32, 27, 21, 4, 21, 7, 184, 1, 7, 21, 9, 79, 22, 5]
abbrev dktX4_set_10 : List UInt8 := dkwX4_set_10 ++ dktX4_set_11
def dkwX4_set_9 : List UInt8 := [162, 0, 61, 42, 180, 0, 29, 16, 12, 27, 104, 21, 7, 96, 46, 54, 8, 22, 5, 21, 8, 133]
abbrev dktX4_set_9 : List UInt8 := dkwX4_set_9 ++ dktX4_set_10
def dkwX4_set_8 : List UInt8 := [180, 0, 64, 21, 4, 47, 167, 0, 4, 9, 55, 5, 3, 54, 7, 21, 7, 42, 180, 0, 23, 27, 46]
abbrev dktX4_set_8 : List UInt8 := dkwX4_set_8 ++ dktX4_set_9
def dkwX4_set_7 : List UInt8 := [182, 1, 22, 3, 54, 4, 21, 4, 42, 180, 0, 20, 27, 46, 162, 0, 100, 21, 4, 29, 162, 0, 13, 42]
abbrev dktX4_set_7 : List UInt8 := dkwX4_set_7 ++ dktX4_set_8
def dkwX4_set_6 : List UInt8 := [42, 180, 0, 64, 21, 4, 42, 28, 21, 4, 182, 0, 255, 80, 132, 4, 1, 167, 255, 233, 42, 29]
abbrev dktX4_set_6 : List UInt8 := dkwX4_set_6 ++ dktX4_set_7
def dkwX4_set_5 : List UInt8 := [154, 0, 9, 42, 8, 182, 0, 218, 172, 132, 4, 1, 167, 255, 222, 3, 54, 4, 21, 4, 29, 162, 0, 23]
abbrev dktX4_set_5 : List UInt8 := dkwX4_set_5 ++ dktX4_set_6
def dkwX4_set_4 : List UInt8 := [21, 4, 29, 162, 0, 34, 42, 28, 21, 4, 182, 0, 255, 20, 1, 18, 20, 1, 20, 184, 0, 239]
abbrev dktX4_set_4 : List UInt8 := dkwX4_set_4 ++ dktX4_set_5
def dkwX4_set_3 : List UInt8 := [182, 0, 218, 172, 42, 180, 0, 13, 28, 46, 29, 162, 0, 9, 42, 7, 182, 0, 218, 172, 3, 54, 4]
abbrev dktX4_set_3 : List UInt8 := dkwX4_set_3 ++ dktX4_set_4
def dkwX4_set_2 : List UInt8 := [42, 6, 182, 0, 218, 172, 29, 133, 10, 42, 180, 0, 20, 27, 46, 133, 184, 0, 239, 154, 0, 9, 42, 8]
abbrev dktX4_set_2 : List UInt8 := dkwX4_set_2 ++ dktX4_set_3
def dkwX4_set_1 : List UInt8 := [172, 42, 27, 182, 0, 243, 154, 0, 9, 42, 5, 182, 0, 218, 172, 42, 180, 0, 13, 28, 46, 156, 0, 9]
abbrev dktX4_set_1 : List UInt8 := dkwX4_set_1 ++ dktX4_set_2
def dkwX4_set_0 : List UInt8 := [42, 3, 181, 0, 212, 42, 3, 181, 0, 215, 28, 155, 0, 8, 28, 7, 161, 0, 9, 42, 4, 182, 0, 218]
abbrev dktX4_set_0 : List UInt8 := dkwX4_set_0 ++ dktX4_set_1
theorem dksX4_set_0 : cX4_set.data.toList.drop 0 = dktX4_set_0 := by decide +kernel
theorem dksX4_set_1 : cX4_set.data.toList.drop 24 = dktX4_set_1 := dk_seg dksX4_set_0 24 rfl rfl
theorem dksX4_set_2 : cX4_set.data.toList.drop 48 = dktX4_set_2 := dk_seg dksX4_set_1 24 rfl rfl
theorem dksX4_set_3 : cX4_set.data.toList.drop 72 = dktX4_set_3 := dk_seg dksX4_set_2 24 rfl rfl
theorem dksX4_set_4 : cX4_set.data.toList.drop 95 = dktX4_set_4 := dk_seg dksX4_set_3 23 rfl rfl
theorem dksX4_set_5 : cX4_set.data.toList.drop 117 = dktX4_set_5 := dk_seg dksX4_set_4 22 rfl rfl
theorem dksX4_set_6 : cX4_set.data.toList.drop 141 = dktX4_set_6 := dk_seg dksX4_set_5 24 rfl rfl
theorem dksX4_set_7 : cX4_set.data.toList.drop 163 = dktX4_set_7 := dk_seg dksX4_set_6 22 rfl rfl
theorem dksX4_set_8 : cX4_set.data.toList.drop 187 = dktX4_set_8 := dk_seg dksX4_set_7 24 rfl rfl
theorem dksX4_set_9 : cX4_set.data.toList.drop 210 = dktX4_set_9 := dk_seg dksX4_set_8 23 rfl rfl
theorem dksX4_set_10 : cX4_set.data.toList.drop 232 = dktX4_set_10 := dk_seg dksX4_set_9 22 rfl rfl
theorem dksX4_set_11 : cX4_set.data.toList.drop 255 = dktX4_set_11 := dk_seg dksX4_set_10 23 rfl rfl
theorem dksX4_set_12 : cX4_set.data.toList.drop 278 = dktX4_set_12 := dk_seg dksX4_set_11 23 rfl rfl
theorem dX4_set_0 : decode cX4_set 0 = .ok (.aload_n 0, 1) := dk_42 (dk_at dksX4_set_0 0 rfl rfl)
theorem dX4_set_1 : decode cX4_set 1 = .ok (.iconst 0, 1) := dk_3 (dk_at dksX4_set_0 1 rfl rfl)
theorem dX4_set_2 : decode cX4_set 2 = .ok (.putfield 212, 3) := dk_181 0 212 (dk_at dksX4_set_0 2 rfl rfl)
theorem dX4_set_5 : decode cX4_set 5 = .ok (.aload_n 0, 1) := dk_42 (dk_at dksX4_set_0 5 rfl rfl)
theorem dX4_set_6 : decode cX4_set 6 = .ok (.iconst 0, 1) := dk_3 (dk_at dksX4_set_0 6 rfl rfl)
theorem dX4_set_7 : decode cX4_set 7 = .ok (.putfield 215, 3) := dk_181 0 215 (dk_at dksX4_set_0 7 rfl rfl)
theorem dX4_set_10 : decode cX4_set 10 = .ok (.iload_n 2, 1) := dk_28 (dk_at dksX4_set_0 10 rfl rfl)
theorem dX4_set_11 : decode cX4_set 11 = .ok (.ifCond .lt 8, 3) := dk_155 0 8 (dk_at dksX4_set_0 11 rfl rfl)
theorem dX4_set_14 : decode cX4_set 14 = .ok (.iload_n 2, 1) := dk_28 (dk_at dksX4_set_0 14 rfl rfl)
theorem dX4_set_15 : decode cX4_set 15 = .ok (.iconst 4, 1) := dk_7 (dk_at dksX4_set_0 15 rfl rfl)
theorem dX4_set_16 : decode cX4_set 16 = .ok (.if_icmp .lt 9, 3) := dk_161 0 9 (dk_at dksX4_set_0 16 rfl rfl)
theorem dX4_set_19 : decode cX4_set 19 = .ok (.aload_n 0, 1) := dk_42 (dk_at dksX4_set_0 19 rfl rfl)
theorem dX4_set_20 : decode cX4_set 20 = .ok (.iconst 1, 1) := dk_4 (dk_at dksX4_set_0 20 rfl rfl)
theorem dX4_set_21 : decode cX4_set 21 = .ok (.invokevirtual 218, 3) := dk_182 0 218 (dk_at dksX4_set_0 21 rfl rfl)
theorem dX4_set_24 : decode cX4_set 24 = .ok (.ireturn, 1) := dk_172 (dk_at dksX4_set_1 0 rfl rfl)
theorem dX4_set_25 : decode cX4_set 25 = .ok (.aload_n 0, 1) := dk_42 (dk_at dksX4_set_1 1 rfl rfl)
theorem dX4_set_26 : decode cX4_set 26 = .ok (.iload_n 1, 1) := dk_27 (dk_at dksX4_set_1 2 rfl rfl)
theorem dX4_set_27 : decode cX4_set 27 = .ok (.invokevirtual 243, 3) := dk_182 0 243 (dk_at dksX4_set_1 3 rfl rfl)
theorem dX4_set_30 : decode cX4_set 30 = .ok (.ifCond .ne 9, 3) := dk_154 0 9 (dk_at dksX4_set_1 6 rfl rfl)
theorem dX4_set_33 : decode cX4_set 33 = .ok (.aload_n 0, 1) := dk_42 (dk_at dksX4_set_1 9 rfl rfl)
theorem dX4_set_34 : decode cX4_set 34 = .ok (.iconst 2, 1) := dk_5 (dk_at dksX4_set_1 10 rfl rfl)
theorem dX4_set_35 : decode cX4_set 35 = .ok (.invokevirtual 218, 3) := dk_182 0 218 (dk_at dksX4_set_1 11 rfl rfl)
theorem dX4_set_38 : decode cX4_set 38 = .ok (.ireturn, 1) := dk_172 (dk_at dksX4_set_1 14 rfl rfl)
theorem dX4_set_39 : decode cX4_set 39 = .ok (.aload_n 0, 1) := dk_42 (dk_at dksX4_set_1 15 rfl rfl)
theorem dX4_set_40 : decode cX4_set 40 = .ok (.getfield 13, 3) := dk_180 0 13 (dk_at dksX4_set_1 16 rfl rfl)
theorem dX4_set_43 : decode cX4_set 43 = .ok (.iload_n 2, 1) := dk_28 (dk_at dksX4_set_1 19 rfl rfl)
theorem dX4_set_44 : decode cX4_set 44 = .ok (.iaload, 1) := dk_46 (dk_at dksX4_set_1 20 rfl rfl)
theorem dX4_set_45 : decode cX4_set 45 = .ok (.ifCond .ge 9, 3) := dk_156 0 9 (dk_at dksX4_set_1 21 rfl rfl)
theorem dX4_set_48 : decode cX4_set 48 = .ok (.aload_n 0, 1) := dk_42 (dk_at dksX4_set_2 0 rfl rfl)
theorem dX4_set_49 : decode cX4_set 49 = .ok (.iconst 3, 1) := dk_6 (dk_at dksX4_set_2 1 rfl rfl)
theorem dX4_set_50 : decode cX4_set 50 = .ok (.invokevirtual 218, 3) := dk_182 0 218 (dk_at dksX4_set_2 2 rfl rfl)
theorem dX4_set_53 : decode cX4_set 53 = .ok (.ireturn, 1) := dk_172 (dk_at dksX4_set_2 5 rfl rfl)
theorem dX4_set_54 : decode cX4_set 54 = .ok (.iload_n 3, 1) := dk_29 (dk_at dksX4_set_2 6 rfl rfl)
theorem dX4_set_55 : decode cX4_set 55 = .ok (.i2l, 1) := dk_133 (dk_at dksX4_set_2 7 rfl rfl)
theorem dX4_set_56 : decode cX4_set 56 = .ok (.lconst 1, 1) := dk_10 (dk_at dksX4_set_2 8 rfl rfl)
theorem dX4_set_57 : decode cX4_set 57 = .ok (.aload_n 0, 1) := dk_42 (dk_at dksX4_set_2 9 rfl rfl)
theorem dX4_set_58 : decode cX4_set 58 = .ok (.getfield 20, 3) := dk_180 0 20 (dk_at dksX4_set_2 10 rfl rfl)
theorem dX4_set_61 : decode cX4_set 61 = .ok (.iload_n 1, 1) := dk_27 (dk_at dksX4_set_2 13 rfl rfl)
theorem dX4_set_62 : decode cX4_set 62 = .ok (.iaload, 1) := dk_46 (dk_at dksX4_set_2 14 rfl rfl)
theorem dX4_set_63 : decode cX4_set 63 = .ok (.i2l, 1) := dk_133 (dk_at dksX4_set_2 15 rfl rfl)
theorem dX4_set_64 : decode cX4_set 64 = .ok (.invokestatic 239, 3) := dk_184 0 239 (dk_at dksX4_set_2 16 rfl rfl)
theorem dX4_set_67 : decode cX4_set 67 = .ok (.ifCond .ne 9, 3) := dk_154 0 9 (dk_at dksX4_set_2 19 rfl rfl)
theorem dX4_set_70 : decode cX4_set 70 = .ok (.aload_n 0, 1) := dk_42 (dk_at dksX4_set_2 22 rfl rfl)
theorem dX4_set_71 : decode cX4_set 71 = .ok (.iconst 5, 1) := dk_8 (dk_at dksX4_set_2 23 rfl rfl)
theorem dX4_set_72 : decode cX4_set 72 = .ok (.invokevirtual 218, 3) := dk_182 0 218 (dk_at dksX4_set_3 0 rfl rfl)
theorem dX4_set_75 : decode cX4_set 75 = .ok (.ireturn, 1) := dk_172 (dk_at dksX4_set_3 3 rfl rfl)
theorem dX4_set_76 : decode cX4_set 76 = .ok (.aload_n 0, 1) := dk_42 (dk_at dksX4_set_3 4 rfl rfl)
theorem dX4_set_77 : decode cX4_set 77 = .ok (.getfield 13, 3) := dk_180 0 13 (dk_at dksX4_set_3 5 rfl rfl)
theorem dX4_set_80 : decode cX4_set 80 = .ok (.iload_n 2, 1) := dk_28 (dk_at dksX4_set_3 8 rfl rfl)
theorem dX4_set_81 : decode cX4_set 81 = .ok (.iaload, 1) := dk_46 (dk_at dksX4_set_3 9 rfl rfl)
theorem dX4_set_82 : decode cX4_set 82 = .ok (.iload_n 3, 1) := dk_29 (dk_at dksX4_set_3 10 rfl rfl)
theorem dX4_set_83 : decode cX4_set 83 = .ok (.if_icmp .ge 9, 3) := dk_162 0 9 (dk_at dksX4_set_3 11 rfl rfl)
theorem dX4_set_86 : decode cX4_set 86 = .ok (.aload_n 0, 1) := dk_42 (dk_at dksX4_set_3 14 rfl rfl)
theorem dX4_set_87 : decode cX4_set 87 = .ok (.iconst 4, 1) := dk_7 (dk_at dksX4_set_3 15 rfl rfl)
theorem dX4_set_88 : decode cX4_set 88 = .ok (.invokevirtual 218, 3) := dk_182 0 218 (dk_at dksX4_set_3 16 rfl rfl)
theorem dX4_set_91 : decode cX4_set 91 = .ok (.ireturn, 1) := dk_172 (dk_at dksX4_set_3 19 rfl rfl)
theorem dX4_set_92 : decode cX4_set 92 = .ok (.iconst 0, 1) := dk_3 (dk_at dksX4_set_3 20 rfl rfl)
theorem dX4_set_93 : decode cX4_set 93 = .ok (.istore 4, 2) := dk_54 4 (dk_at dksX4_set_3 21 rfl rfl)
theorem dX4_set_95 : decode cX4_set 95 = .ok (.iload 4, 2) := dk_21 4 (dk_at dksX4_set_4 0 rfl rfl)
theorem dX4_set_97 : decode cX4_set 97 = .ok (.iload_n 3, 1) := dk_29 (dk_at dksX4_set_4 2 rfl rfl)
theorem dX4_set_98 : decode cX4_set 98 = .ok (.if_icmp .ge 34, 3) := dk_162 0 34 (dk_at dksX4_set_4 3 rfl rfl)
theorem dX4_set_101 : decode cX4_set 101 = .ok (.aload_n 0, 1) := dk_42 (dk_at dksX4_set_4 6 rfl rfl)
theorem dX4_set_102 : decode cX4_set 102 = .ok (.iload_n 2, 1) := dk_28 (dk_at dksX4_set_4 7 rfl rfl)
theorem dX4_set_103 : decode cX4_set 103 = .ok (.iload 4, 2) := dk_21 4 (dk_at dksX4_set_4 8 rfl rfl)
theorem dX4_set_105 : decode cX4_set 105 = .ok (.invokevirtual 255, 3) := dk_182 0 255 (dk_at dksX4_set_4 10 rfl rfl)
theorem dX4_set_108 : decode cX4_set 108 = .ok (.ldc2_w 274, 3) := dk_20 1 18 (dk_at dksX4_set_4 13 rfl rfl)
theorem dX4_set_111 : decode cX4_set 111 = .ok (.ldc2_w 276, 3) := dk_20 1 20 (dk_at dksX4_set_4 16 rfl rfl)
theorem dX4_set_114 : decode cX4_set 114 = .ok (.invokestatic 239, 3) := dk_184 0 239 (dk_at dksX4_set_4 19 rfl rfl)
theorem dX4_set_117 : decode cX4_set 117 = .ok (.ifCond .ne 9, 3) := dk_154 0 9 (dk_at dksX4_set_5 0 rfl rfl)
theorem dX4_set_120 : decode cX4_set 120 = .ok (.aload_n 0, 1) := dk_42 (dk_at dksX4_set_5 3 rfl rfl)
theorem dX4_set_121 : decode cX4_set 121 = .ok (.iconst 5, 1) := dk_8 (dk_at dksX4_set_5 4 rfl rfl)
theorem dX4_set_122 : decode cX4_set 122 = .ok (.invokevirtual 218, 3) := dk_182 0 218 (dk_at dksX4_set_5 5 rfl rfl)
theorem dX4_set_125 : decode cX4_set 125 = .ok (.ireturn, 1) := dk_172 (dk_at dksX4_set_5 8 rfl rfl)
theorem dX4_set_126 : decode cX4_set 126 = .ok (.iinc 4 1, 3) := dk_132 4 1 (dk_at dksX4_set_5 9 rfl rfl)
theorem dX4_set_129 : decode cX4_set 129 = .ok (.goto (-34), 3) := dk_167 255 222 (dk_at dksX4_set_5 12 rfl rfl)
theorem dX4_set_132 : decode cX4_set 132 = .ok (.iconst 0, 1) := dk_3 (dk_at dksX4_set_5 15 rfl rfl)
theorem dX4_set_133 : decode cX4_set 133 = .ok (.istore 4, 2) := dk_54 4 (dk_at dksX4_set_5 16 rfl rfl)
theorem dX4_set_135 : decode cX4_set 135 = .ok (.iload 4, 2) := dk_21 4 (dk_at dksX4_set_5 18 rfl rfl)
theorem dX4_set_137 : decode cX4_set 137 = .ok (.iload_n 3, 1) := dk_29 (dk_at dksX4_set_5 20 rfl rfl)
theorem dX4_set_138 : decode cX4_set 138 = .ok (.if_icmp .ge 23, 3) := dk_162 0 23 (dk_at dksX4_set_5 21 rfl rfl)
theorem dX4_set_141 : decode cX4_set 141 = .ok (.aload_n 0, 1) := dk_42 (dk_at dksX4_set_6 0 rfl rfl)
theorem dX4_set_142 : decode cX4_set 142 = .ok (.getfield 64, 3) := dk_180 0 64 (dk_at dksX4_set_6 1 rfl rfl)
theorem dX4_set_145 : decode cX4_set 145 = .ok (.iload 4, 2) := dk_21 4 (dk_at dksX4_set_6 4 rfl rfl)
theorem dX4_set_147 : decode cX4_set 147 = .ok (.aload_n 0, 1) := dk_42 (dk_at dksX4_set_6 6 rfl rfl)
theorem dX4_set_148 : decode cX4_set 148 = .ok (.iload_n 2, 1) := dk_28 (dk_at dksX4_set_6 7 rfl rfl)
theorem dX4_set_149 : decode cX4_set 149 = .ok (.iload 4, 2) := dk_21 4 (dk_at dksX4_set_6 8 rfl rfl)
theorem dX4_set_151 : decode cX4_set 151 = .ok (.invokevirtual 255, 3) := dk_182 0 255 (dk_at dksX4_set_6 10 rfl rfl)
theorem dX4_set_154 : decode cX4_set 154 = .ok (.lastore, 1) := dk_80 (dk_at dksX4_set_6 13 rfl rfl)
theorem dX4_set_155 : decode cX4_set 155 = .ok (.iinc 4 1, 3) := dk_132 4 1 (dk_at dksX4_set_6 14 rfl rfl)
theorem dX4_set_158 : decode cX4_set 158 = .ok (.goto (-23), 3) := dk_167 255 233 (dk_at dksX4_set_6 17 rfl rfl)
theorem dX4_set_161 : decode cX4_set 161 = .ok (.aload_n 0, 1) := dk_42 (dk_at dksX4_set_6 20 rfl rfl)
theorem dX4_set_162 : decode cX4_set 162 = .ok (.iload_n 3, 1) := dk_29 (dk_at dksX4_set_6 21 rfl rfl)
theorem dX4_set_163 : decode cX4_set 163 = .ok (.invokevirtual 278, 3) := dk_182 1 22 (dk_at dksX4_set_7 0 rfl rfl)
theorem dX4_set_166 : decode cX4_set 166 = .ok (.iconst 0, 1) := dk_3 (dk_at dksX4_set_7 3 rfl rfl)
theorem dX4_set_167 : decode cX4_set 167 = .ok (.istore 4, 2) := dk_54 4 (dk_at dksX4_set_7 4 rfl rfl)
theorem dX4_set_169 : decode cX4_set 169 = .ok (.iload 4, 2) := dk_21 4 (dk_at dksX4_set_7 6 rfl rfl)
theorem dX4_set_171 : decode cX4_set 171 = .ok (.aload_n 0, 1) := dk_42 (dk_at dksX4_set_7 8 rfl rfl)
theorem dX4_set_172 : decode cX4_set 172 = .ok (.getfield 20, 3) := dk_180 0 20 (dk_at dksX4_set_7 9 rfl rfl)
theorem dX4_set_175 : decode cX4_set 175 = .ok (.iload_n 1, 1) := dk_27 (dk_at dksX4_set_7 12 rfl rfl)
theorem dX4_set_176 : decode cX4_set 176 = .ok (.iaload, 1) := dk_46 (dk_at dksX4_set_7 13 rfl rfl)
theorem dX4_set_177 : decode cX4_set 177 = .ok (.if_icmp .ge 100, 3) := dk_162 0 100 (dk_at dksX4_set_7 14 rfl rfl)
theorem dX4_set_180 : decode cX4_set 180 = .ok (.iload 4, 2) := dk_21 4 (dk_at dksX4_set_7 17 rfl rfl)
theorem dX4_set_182 : decode cX4_set 182 = .ok (.iload_n 3, 1) := dk_29 (dk_at dksX4_set_7 19 rfl rfl)
theorem dX4_set_183 : decode cX4_set 183 = .ok (.if_icmp .ge 13, 3) := dk_162 0 13 (dk_at dksX4_set_7 20 rfl rfl)
theorem dX4_set_186 : decode cX4_set 186 = .ok (.aload_n 0, 1) := dk_42 (dk_at dksX4_set_7 23 rfl rfl)
theorem dX4_set_187 : decode cX4_set 187 = .ok (.getfield 64, 3) := dk_180 0 64 (dk_at dksX4_set_8 0 rfl rfl)
theorem dX4_set_190 : decode cX4_set 190 = .ok (.iload 4, 2) := dk_21 4 (dk_at dksX4_set_8 3 rfl rfl)
theorem dX4_set_192 : decode cX4_set 192 = .ok (.laload, 1) := dk_47 (dk_at dksX4_set_8 5 rfl rfl)
theorem dX4_set_193 : decode cX4_set 193 = .ok (.goto 4, 3) := dk_167 0 4 (dk_at dksX4_set_8 6 rfl rfl)
theorem dX4_set_196 : decode cX4_set 196 = .ok (.lconst 0, 1) := dk_9 (dk_at dksX4_set_8 9 rfl rfl)
theorem dX4_set_197 : decode cX4_set 197 = .ok (.lstore 5, 2) := dk_55 5 (dk_at dksX4_set_8 10 rfl rfl)
theorem dX4_set_199 : decode cX4_set 199 = .ok (.iconst 0, 1) := dk_3 (dk_at dksX4_set_8 12 rfl rfl)
theorem dX4_set_200 : decode cX4_set 200 = .ok (.istore 7, 2) := dk_54 7 (dk_at dksX4_set_8 13 rfl rfl)
theorem dX4_set_202 : decode cX4_set 202 = .ok (.iload 7, 2) := dk_21 7 (dk_at dksX4_set_8 15 rfl rfl)
theorem dX4_set_204 : decode cX4_set 204 = .ok (.aload_n 0, 1) := dk_42 (dk_at dksX4_set_8 17 rfl rfl)
theorem dX4_set_205 : decode cX4_set 205 = .ok (.getfield 23, 3) := dk_180 0 23 (dk_at dksX4_set_8 18 rfl rfl)
theorem dX4_set_208 : decode cX4_set 208 = .ok (.iload_n 1, 1) := dk_27 (dk_at dksX4_set_8 21 rfl rfl)
theorem dX4_set_209 : decode cX4_set 209 = .ok (.iaload, 1) := dk_46 (dk_at dksX4_set_8 22 rfl rfl)
theorem dX4_set_210 : decode cX4_set 210 = .ok (.if_icmp .ge 61, 3) := dk_162 0 61 (dk_at dksX4_set_9 0 rfl rfl)
theorem dX4_set_213 : decode cX4_set 213 = .ok (.aload_n 0, 1) := dk_42 (dk_at dksX4_set_9 3 rfl rfl)
theorem dX4_set_214 : decode cX4_set 214 = .ok (.getfield 29, 3) := dk_180 0 29 (dk_at dksX4_set_9 4 rfl rfl)
theorem dX4_set_217 : decode cX4_set 217 = .ok (.bipush 12, 2) := dk_16 12 (dk_at dksX4_set_9 7 rfl rfl)
theorem dX4_set_219 : decode cX4_set 219 = .ok (.iload_n 1, 1) := dk_27 (dk_at dksX4_set_9 9 rfl rfl)
theorem dX4_set_220 : decode cX4_set 220 = .ok (.imul, 1) := dk_104 (dk_at dksX4_set_9 10 rfl rfl)
theorem dX4_set_221 : decode cX4_set 221 = .ok (.iload 7, 2) := dk_21 7 (dk_at dksX4_set_9 11 rfl rfl)
theorem dX4_set_223 : decode cX4_set 223 = .ok (.iadd, 1) := dk_96 (dk_at dksX4_set_9 13 rfl rfl)
theorem dX4_set_224 : decode cX4_set 224 = .ok (.iaload, 1) := dk_46 (dk_at dksX4_set_9 14 rfl rfl)
theorem dX4_set_225 : decode cX4_set 225 = .ok (.istore 8, 2) := dk_54 8 (dk_at dksX4_set_9 15 rfl rfl)
theorem dX4_set_227 : decode cX4_set 227 = .ok (.lload 5, 2) := dk_22 5 (dk_at dksX4_set_9 17 rfl rfl)
theorem dX4_set_229 : decode cX4_set 229 = .ok (.iload 8, 2) := dk_21 8 (dk_at dksX4_set_9 19 rfl rfl)
theorem dX4_set_231 : decode cX4_set 231 = .ok (.i2l, 1) := dk_133 (dk_at dksX4_set_9 21 rfl rfl)
theorem dX4_set_232 : decode cX4_set 232 = .ok (.invokestatic 282, 3) := dk_184 1 26 (dk_at dksX4_set_10 0 rfl rfl)
theorem dX4_set_235 : decode cX4_set 235 = .ok (.l2i, 1) := dk_136 (dk_at dksX4_set_10 3 rfl rfl)
theorem dX4_set_236 : decode cX4_set 236 = .ok (.istore 9, 2) := dk_54 9 (dk_at dksX4_set_10 4 rfl rfl)
theorem dX4_set_238 : decode cX4_set 238 = .ok (.aload_n 0, 1) := dk_42 (dk_at dksX4_set_10 6 rfl rfl)
theorem dX4_set_239 : decode cX4_set 239 = .ok (.getfield 32, 3) := dk_180 0 32 (dk_at dksX4_set_10 7 rfl rfl)
theorem dX4_set_242 : decode cX4_set 242 = .ok (.iload_n 1, 1) := dk_27 (dk_at dksX4_set_10 10 rfl rfl)
theorem dX4_set_243 : decode cX4_set 243 = .ok (.iload 4, 2) := dk_21 4 (dk_at dksX4_set_10 11 rfl rfl)
theorem dX4_set_245 : decode cX4_set 245 = .ok (.iload 7, 2) := dk_21 7 (dk_at dksX4_set_10 13 rfl rfl)
theorem dX4_set_247 : decode cX4_set 247 = .ok (.invokestatic 263, 3) := dk_184 1 7 (dk_at dksX4_set_10 15 rfl rfl)
theorem dX4_set_250 : decode cX4_set 250 = .ok (.iload 9, 2) := dk_21 9 (dk_at dksX4_set_10 18 rfl rfl)
theorem dX4_set_252 : decode cX4_set 252 = .ok (.iastore, 1) := dk_79 (dk_at dksX4_set_10 20 rfl rfl)
theorem dX4_set_253 : decode cX4_set 253 = .ok (.lload 5, 2) := dk_22 5 (dk_at dksX4_set_10 21 rfl rfl)
theorem dX4_set_255 : decode cX4_set 255 = .ok (.iload 9, 2) := dk_21 9 (dk_at dksX4_set_11 0 rfl rfl)
theorem dX4_set_257 : decode cX4_set 257 = .ok (.i2l, 1) := dk_133 (dk_at dksX4_set_11 2 rfl rfl)
theorem dX4_set_258 : decode cX4_set 258 = .ok (.lsub, 1) := dk_101 (dk_at dksX4_set_11 3 rfl rfl)
theorem dX4_set_259 : decode cX4_set 259 = .ok (.iload 8, 2) := dk_21 8 (dk_at dksX4_set_11 4 rfl rfl)
theorem dX4_set_261 : decode cX4_set 261 = .ok (.i2l, 1) := dk_133 (dk_at dksX4_set_11 6 rfl rfl)
theorem dX4_set_262 : decode cX4_set 262 = .ok (.ldiv, 1) := dk_109 (dk_at dksX4_set_11 7 rfl rfl)
theorem dX4_set_263 : decode cX4_set 263 = .ok (.lstore 5, 2) := dk_55 5 (dk_at dksX4_set_11 8 rfl rfl)
theorem dX4_set_265 : decode cX4_set 265 = .ok (.iinc 7 1, 3) := dk_132 7 1 (dk_at dksX4_set_11 10 rfl rfl)
theorem dX4_set_268 : decode cX4_set 268 = .ok (.goto (-66), 3) := dk_167 255 190 (dk_at dksX4_set_11 13 rfl rfl)
theorem dX4_set_271 : decode cX4_set 271 = .ok (.iinc 4 1, 3) := dk_132 4 1 (dk_at dksX4_set_11 16 rfl rfl)
theorem dX4_set_274 : decode cX4_set 274 = .ok (.goto (-105), 3) := dk_167 255 151 (dk_at dksX4_set_11 19 rfl rfl)
theorem dX4_set_277 : decode cX4_set 277 = .ok (.aload_n 0, 1) := dk_42 (dk_at dksX4_set_11 22 rfl rfl)
theorem dX4_set_278 : decode cX4_set 278 = .ok (.getfield 26, 3) := dk_180 0 26 (dk_at dksX4_set_12 0 rfl rfl)
theorem dX4_set_281 : decode cX4_set 281 = .ok (.iload_n 1, 1) := dk_27 (dk_at dksX4_set_12 3 rfl rfl)
theorem dX4_set_282 : decode cX4_set 282 = .ok (.iconst 0, 1) := dk_3 (dk_at dksX4_set_12 4 rfl rfl)
theorem dX4_set_283 : decode cX4_set 283 = .ok (.iastore, 1) := dk_79 (dk_at dksX4_set_12 5 rfl rfl)
theorem dX4_set_284 : decode cX4_set 284 = .ok (.iconst 1, 1) := dk_4 (dk_at dksX4_set_12 6 rfl rfl)
theorem dX4_set_285 : decode cX4_set 285 = .ok (.ireturn, 1) := dk_172 (dk_at dksX4_set_12 7 rfl rfl)
abbrev cX4_back : ByteArray := prog_9_method_23_code
def yX4_back : MethodName := ⟨RX4, "back", "(I)V"⟩
def dkwX4_back_3 : List UInt8 := [167, 255, 240, 132, 2, 1, 167, 255, 225, 177]
abbrev dktX4_back_3 : List UInt8 := dkwX4_back_3 ++ []
def dkwX4_back_2 : List UInt8 := [6, 163, 0, 32, 27, 5, 100, 62, 29, 5, 28, 104, 161, 0, 15, 42, 29, 27, 182, 1, 14, 132, 3, 255]
abbrev dktX4_back_2 : List UInt8 := dkwX4_back_2 ++ dktX4_back_3
def dkwX4_back_1 : List UInt8 := [180, 0, 64, 29, 4, 100, 47, 101, 80, 132, 3, 255, 167, 255, 231, 132, 2, 1, 167, 255, 216, 4, 61, 28]
abbrev dktX4_back_1 : List UInt8 := dkwX4_back_1 ++ dktX4_back_2
def dkwX4_back_0 : List UInt8 := [4, 61, 28, 27, 162, 0, 41, 27, 4, 100, 62, 29, 28, 161, 0, 26, 42, 180, 0, 64, 29, 92, 47, 42]
abbrev dktX4_back_0 : List UInt8 := dkwX4_back_0 ++ dktX4_back_1
theorem dksX4_back_0 : cX4_back.data.toList.drop 0 = dktX4_back_0 := by decide +kernel
theorem dksX4_back_1 : cX4_back.data.toList.drop 24 = dktX4_back_1 := dk_seg dksX4_back_0 24 rfl rfl
theorem dksX4_back_2 : cX4_back.data.toList.drop 48 = dktX4_back_2 := dk_seg dksX4_back_1 24 rfl rfl
theorem dksX4_back_3 : cX4_back.data.toList.drop 72 = dktX4_back_3 := dk_seg dksX4_back_2 24 rfl rfl
theorem dX4_back_0 : decode cX4_back 0 = .ok (.iconst 1, 1) := dk_4 (dk_at dksX4_back_0 0 rfl rfl)
theorem dX4_back_1 : decode cX4_back 1 = .ok (.istore_n 2, 1) := dk_61 (dk_at dksX4_back_0 1 rfl rfl)
theorem dX4_back_2 : decode cX4_back 2 = .ok (.iload_n 2, 1) := dk_28 (dk_at dksX4_back_0 2 rfl rfl)
theorem dX4_back_3 : decode cX4_back 3 = .ok (.iload_n 1, 1) := dk_27 (dk_at dksX4_back_0 3 rfl rfl)
theorem dX4_back_4 : decode cX4_back 4 = .ok (.if_icmp .ge 41, 3) := dk_162 0 41 (dk_at dksX4_back_0 4 rfl rfl)
theorem dX4_back_7 : decode cX4_back 7 = .ok (.iload_n 1, 1) := dk_27 (dk_at dksX4_back_0 7 rfl rfl)
theorem dX4_back_8 : decode cX4_back 8 = .ok (.iconst 1, 1) := dk_4 (dk_at dksX4_back_0 8 rfl rfl)
theorem dX4_back_9 : decode cX4_back 9 = .ok (.isub, 1) := dk_100 (dk_at dksX4_back_0 9 rfl rfl)
theorem dX4_back_10 : decode cX4_back 10 = .ok (.istore_n 3, 1) := dk_62 (dk_at dksX4_back_0 10 rfl rfl)
theorem dX4_back_11 : decode cX4_back 11 = .ok (.iload_n 3, 1) := dk_29 (dk_at dksX4_back_0 11 rfl rfl)
theorem dX4_back_12 : decode cX4_back 12 = .ok (.iload_n 2, 1) := dk_28 (dk_at dksX4_back_0 12 rfl rfl)
theorem dX4_back_13 : decode cX4_back 13 = .ok (.if_icmp .lt 26, 3) := dk_161 0 26 (dk_at dksX4_back_0 13 rfl rfl)
theorem dX4_back_16 : decode cX4_back 16 = .ok (.aload_n 0, 1) := dk_42 (dk_at dksX4_back_0 16 rfl rfl)
theorem dX4_back_17 : decode cX4_back 17 = .ok (.getfield 64, 3) := dk_180 0 64 (dk_at dksX4_back_0 17 rfl rfl)
theorem dX4_back_20 : decode cX4_back 20 = .ok (.iload_n 3, 1) := dk_29 (dk_at dksX4_back_0 20 rfl rfl)
theorem dX4_back_21 : decode cX4_back 21 = .ok (.dup2, 1) := dk_92 (dk_at dksX4_back_0 21 rfl rfl)
theorem dX4_back_22 : decode cX4_back 22 = .ok (.laload, 1) := dk_47 (dk_at dksX4_back_0 22 rfl rfl)
theorem dX4_back_23 : decode cX4_back 23 = .ok (.aload_n 0, 1) := dk_42 (dk_at dksX4_back_0 23 rfl rfl)
theorem dX4_back_24 : decode cX4_back 24 = .ok (.getfield 64, 3) := dk_180 0 64 (dk_at dksX4_back_1 0 rfl rfl)
theorem dX4_back_27 : decode cX4_back 27 = .ok (.iload_n 3, 1) := dk_29 (dk_at dksX4_back_1 3 rfl rfl)
theorem dX4_back_28 : decode cX4_back 28 = .ok (.iconst 1, 1) := dk_4 (dk_at dksX4_back_1 4 rfl rfl)
theorem dX4_back_29 : decode cX4_back 29 = .ok (.isub, 1) := dk_100 (dk_at dksX4_back_1 5 rfl rfl)
theorem dX4_back_30 : decode cX4_back 30 = .ok (.laload, 1) := dk_47 (dk_at dksX4_back_1 6 rfl rfl)
theorem dX4_back_31 : decode cX4_back 31 = .ok (.lsub, 1) := dk_101 (dk_at dksX4_back_1 7 rfl rfl)
theorem dX4_back_32 : decode cX4_back 32 = .ok (.lastore, 1) := dk_80 (dk_at dksX4_back_1 8 rfl rfl)
theorem dX4_back_33 : decode cX4_back 33 = .ok (.iinc 3 (-1), 3) := dk_132 3 255 (dk_at dksX4_back_1 9 rfl rfl)
theorem dX4_back_36 : decode cX4_back 36 = .ok (.goto (-25), 3) := dk_167 255 231 (dk_at dksX4_back_1 12 rfl rfl)
theorem dX4_back_39 : decode cX4_back 39 = .ok (.iinc 2 1, 3) := dk_132 2 1 (dk_at dksX4_back_1 15 rfl rfl)
theorem dX4_back_42 : decode cX4_back 42 = .ok (.goto (-40), 3) := dk_167 255 216 (dk_at dksX4_back_1 18 rfl rfl)
theorem dX4_back_45 : decode cX4_back 45 = .ok (.iconst 1, 1) := dk_4 (dk_at dksX4_back_1 21 rfl rfl)
theorem dX4_back_46 : decode cX4_back 46 = .ok (.istore_n 2, 1) := dk_61 (dk_at dksX4_back_1 22 rfl rfl)
theorem dX4_back_47 : decode cX4_back 47 = .ok (.iload_n 2, 1) := dk_28 (dk_at dksX4_back_1 23 rfl rfl)
theorem dX4_back_48 : decode cX4_back 48 = .ok (.iconst 3, 1) := dk_6 (dk_at dksX4_back_2 0 rfl rfl)
theorem dX4_back_49 : decode cX4_back 49 = .ok (.if_icmp .gt 32, 3) := dk_163 0 32 (dk_at dksX4_back_2 1 rfl rfl)
theorem dX4_back_52 : decode cX4_back 52 = .ok (.iload_n 1, 1) := dk_27 (dk_at dksX4_back_2 4 rfl rfl)
theorem dX4_back_53 : decode cX4_back 53 = .ok (.iconst 2, 1) := dk_5 (dk_at dksX4_back_2 5 rfl rfl)
theorem dX4_back_54 : decode cX4_back 54 = .ok (.isub, 1) := dk_100 (dk_at dksX4_back_2 6 rfl rfl)
theorem dX4_back_55 : decode cX4_back 55 = .ok (.istore_n 3, 1) := dk_62 (dk_at dksX4_back_2 7 rfl rfl)
theorem dX4_back_56 : decode cX4_back 56 = .ok (.iload_n 3, 1) := dk_29 (dk_at dksX4_back_2 8 rfl rfl)
theorem dX4_back_57 : decode cX4_back 57 = .ok (.iconst 2, 1) := dk_5 (dk_at dksX4_back_2 9 rfl rfl)
theorem dX4_back_58 : decode cX4_back 58 = .ok (.iload_n 2, 1) := dk_28 (dk_at dksX4_back_2 10 rfl rfl)
theorem dX4_back_59 : decode cX4_back 59 = .ok (.imul, 1) := dk_104 (dk_at dksX4_back_2 11 rfl rfl)
theorem dX4_back_60 : decode cX4_back 60 = .ok (.if_icmp .lt 15, 3) := dk_161 0 15 (dk_at dksX4_back_2 12 rfl rfl)
theorem dX4_back_63 : decode cX4_back 63 = .ok (.aload_n 0, 1) := dk_42 (dk_at dksX4_back_2 15 rfl rfl)
theorem dX4_back_64 : decode cX4_back 64 = .ok (.iload_n 3, 1) := dk_29 (dk_at dksX4_back_2 16 rfl rfl)
theorem dX4_back_65 : decode cX4_back 65 = .ok (.iload_n 1, 1) := dk_27 (dk_at dksX4_back_2 17 rfl rfl)
theorem dX4_back_66 : decode cX4_back 66 = .ok (.invokevirtual 270, 3) := dk_182 1 14 (dk_at dksX4_back_2 18 rfl rfl)
theorem dX4_back_69 : decode cX4_back 69 = .ok (.iinc 3 (-1), 3) := dk_132 3 255 (dk_at dksX4_back_2 21 rfl rfl)
theorem dX4_back_72 : decode cX4_back 72 = .ok (.goto (-16), 3) := dk_167 255 240 (dk_at dksX4_back_3 0 rfl rfl)
theorem dX4_back_75 : decode cX4_back 75 = .ok (.iinc 2 1, 3) := dk_132 2 1 (dk_at dksX4_back_3 3 rfl rfl)
theorem dX4_back_78 : decode cX4_back 78 = .ok (.goto (-31), 3) := dk_167 255 225 (dk_at dksX4_back_3 6 rfl rfl)
theorem dX4_back_81 : decode cX4_back 81 = .ok (.return_, 1) := dk_177 (dk_at dksX4_back_3 9 rfl rfl)
abbrev cX4_ahead : ByteArray := prog_9_method_24_code
def yX4_ahead : MethodName := ⟨RX4, "ahead", "(II)V"⟩
def dkwX4_ahead_1 : List UInt8 := [167, 0, 4, 9, 101, 80, 177]
abbrev dktX4_ahead_1 : List UInt8 := dkwX4_ahead_1 ++ []
def dkwX4_ahead_0 : List UInt8 := [42, 180, 0, 64, 27, 92, 47, 27, 4, 96, 28, 162, 0, 14, 42, 180, 0, 64, 27, 4, 96, 47]
abbrev dktX4_ahead_0 : List UInt8 := dkwX4_ahead_0 ++ dktX4_ahead_1
theorem dksX4_ahead_0 : cX4_ahead.data.toList.drop 0 = dktX4_ahead_0 := by decide +kernel
theorem dksX4_ahead_1 : cX4_ahead.data.toList.drop 22 = dktX4_ahead_1 := dk_seg dksX4_ahead_0 22 rfl rfl
theorem dX4_ahead_0 : decode cX4_ahead 0 = .ok (.aload_n 0, 1) := dk_42 (dk_at dksX4_ahead_0 0 rfl rfl)
theorem dX4_ahead_1 : decode cX4_ahead 1 = .ok (.getfield 64, 3) := dk_180 0 64 (dk_at dksX4_ahead_0 1 rfl rfl)
theorem dX4_ahead_4 : decode cX4_ahead 4 = .ok (.iload_n 1, 1) := dk_27 (dk_at dksX4_ahead_0 4 rfl rfl)
theorem dX4_ahead_5 : decode cX4_ahead 5 = .ok (.dup2, 1) := dk_92 (dk_at dksX4_ahead_0 5 rfl rfl)
theorem dX4_ahead_6 : decode cX4_ahead 6 = .ok (.laload, 1) := dk_47 (dk_at dksX4_ahead_0 6 rfl rfl)
theorem dX4_ahead_7 : decode cX4_ahead 7 = .ok (.iload_n 1, 1) := dk_27 (dk_at dksX4_ahead_0 7 rfl rfl)
theorem dX4_ahead_8 : decode cX4_ahead 8 = .ok (.iconst 1, 1) := dk_4 (dk_at dksX4_ahead_0 8 rfl rfl)
theorem dX4_ahead_9 : decode cX4_ahead 9 = .ok (.iadd, 1) := dk_96 (dk_at dksX4_ahead_0 9 rfl rfl)
theorem dX4_ahead_10 : decode cX4_ahead 10 = .ok (.iload_n 2, 1) := dk_28 (dk_at dksX4_ahead_0 10 rfl rfl)
theorem dX4_ahead_11 : decode cX4_ahead 11 = .ok (.if_icmp .ge 14, 3) := dk_162 0 14 (dk_at dksX4_ahead_0 11 rfl rfl)
theorem dX4_ahead_14 : decode cX4_ahead 14 = .ok (.aload_n 0, 1) := dk_42 (dk_at dksX4_ahead_0 14 rfl rfl)
theorem dX4_ahead_15 : decode cX4_ahead 15 = .ok (.getfield 64, 3) := dk_180 0 64 (dk_at dksX4_ahead_0 15 rfl rfl)
theorem dX4_ahead_18 : decode cX4_ahead 18 = .ok (.iload_n 1, 1) := dk_27 (dk_at dksX4_ahead_0 18 rfl rfl)
theorem dX4_ahead_19 : decode cX4_ahead 19 = .ok (.iconst 1, 1) := dk_4 (dk_at dksX4_ahead_0 19 rfl rfl)
theorem dX4_ahead_20 : decode cX4_ahead 20 = .ok (.iadd, 1) := dk_96 (dk_at dksX4_ahead_0 20 rfl rfl)
theorem dX4_ahead_21 : decode cX4_ahead 21 = .ok (.laload, 1) := dk_47 (dk_at dksX4_ahead_0 21 rfl rfl)
theorem dX4_ahead_22 : decode cX4_ahead 22 = .ok (.goto 4, 3) := dk_167 0 4 (dk_at dksX4_ahead_1 0 rfl rfl)
theorem dX4_ahead_25 : decode cX4_ahead 25 = .ok (.lconst 0, 1) := dk_9 (dk_at dksX4_ahead_1 3 rfl rfl)
theorem dX4_ahead_26 : decode cX4_ahead 26 = .ok (.lsub, 1) := dk_101 (dk_at dksX4_ahead_1 4 rfl rfl)
theorem dX4_ahead_27 : decode cX4_ahead 27 = .ok (.lastore, 1) := dk_80 (dk_at dksX4_ahead_1 5 rfl rfl)
theorem dX4_ahead_28 : decode cX4_ahead 28 = .ok (.return_, 1) := dk_177 (dk_at dksX4_ahead_1 6 rfl rfl)
abbrev cX4_mishap : ByteArray := prog_9_method_26_code
def yX4_mishap : MethodName := ⟨RX4, "mishap", "(IIIII)Z"⟩
def dkwX4_mishap_6 : List UInt8 := [46, 4, 96, 79, 4, 172]
abbrev dktX4_mishap_6 : List UInt8 := dkwX4_mishap_6 ++ []
def dkwX4_mishap_5 : List UInt8 := [42, 180, 0, 47, 21, 6, 21, 4, 79, 42, 180, 0, 50, 21, 6, 21, 5, 79, 42, 180, 0, 38, 27, 92]
abbrev dktX4_mishap_5 : List UInt8 := dkwX4_mishap_5 ++ dktX4_mishap_6
def dkwX4_mishap_4 : List UInt8 := [180, 0, 38, 27, 46, 96, 54, 6, 42, 180, 0, 41, 21, 6, 28, 79, 42, 180, 0, 44, 21, 6, 29, 79]
abbrev dktX4_mishap_4 : List UInt8 := dkwX4_mishap_4 ++ dktX4_mishap_5
def dkwX4_mishap_3 : List UInt8 := [172, 42, 180, 0, 38, 27, 46, 16, 20, 160, 0, 10, 42, 16, 7, 182, 0, 218, 172, 16, 20, 27, 104, 42]
abbrev dktX4_mishap_3 : List UInt8 := dkwX4_mishap_3 ++ dktX4_mishap_4
def dkwX4_mishap_2 : List UInt8 := [184, 0, 239, 153, 0, 16, 21, 5, 133, 9, 20, 0, 246, 184, 0, 239, 154, 0, 9, 42, 8, 182, 0, 218]
abbrev dktX4_mishap_2 : List UInt8 := dkwX4_mishap_2 ++ dktX4_mishap_3
def dkwX4_mishap_1 : List UInt8 := [180, 0, 20, 27, 46, 4, 100, 160, 0, 9, 42, 5, 182, 0, 218, 172, 28, 133, 10, 20, 1, 32]
abbrev dktX4_mishap_1 : List UInt8 := dkwX4_mishap_1 ++ dktX4_mishap_2
def dkwX4_mishap_0 : List UInt8 := [42, 3, 181, 0, 212, 42, 3, 181, 0, 215, 42, 27, 29, 21, 4, 182, 1, 3, 153, 0, 15, 29, 42]
abbrev dktX4_mishap_0 : List UInt8 := dkwX4_mishap_0 ++ dktX4_mishap_1
theorem dksX4_mishap_0 : cX4_mishap.data.toList.drop 0 = dktX4_mishap_0 := by decide +kernel
theorem dksX4_mishap_1 : cX4_mishap.data.toList.drop 23 = dktX4_mishap_1 := dk_seg dksX4_mishap_0 23 rfl rfl
theorem dksX4_mishap_2 : cX4_mishap.data.toList.drop 45 = dktX4_mishap_2 := dk_seg dksX4_mishap_1 22 rfl rfl
theorem dksX4_mishap_3 : cX4_mishap.data.toList.drop 69 = dktX4_mishap_3 := dk_seg dksX4_mishap_2 24 rfl rfl
theorem dksX4_mishap_4 : cX4_mishap.data.toList.drop 93 = dktX4_mishap_4 := dk_seg dksX4_mishap_3 24 rfl rfl
theorem dksX4_mishap_5 : cX4_mishap.data.toList.drop 117 = dktX4_mishap_5 := dk_seg dksX4_mishap_4 24 rfl rfl
theorem dksX4_mishap_6 : cX4_mishap.data.toList.drop 141 = dktX4_mishap_6 := dk_seg dksX4_mishap_5 24 rfl rfl
theorem dX4_mishap_0 : decode cX4_mishap 0 = .ok (.aload_n 0, 1) := dk_42 (dk_at dksX4_mishap_0 0 rfl rfl)
theorem dX4_mishap_1 : decode cX4_mishap 1 = .ok (.iconst 0, 1) := dk_3 (dk_at dksX4_mishap_0 1 rfl rfl)
theorem dX4_mishap_2 : decode cX4_mishap 2 = .ok (.putfield 212, 3) := dk_181 0 212 (dk_at dksX4_mishap_0 2 rfl rfl)
theorem dX4_mishap_5 : decode cX4_mishap 5 = .ok (.aload_n 0, 1) := dk_42 (dk_at dksX4_mishap_0 5 rfl rfl)
theorem dX4_mishap_6 : decode cX4_mishap 6 = .ok (.iconst 0, 1) := dk_3 (dk_at dksX4_mishap_0 6 rfl rfl)
theorem dX4_mishap_7 : decode cX4_mishap 7 = .ok (.putfield 215, 3) := dk_181 0 215 (dk_at dksX4_mishap_0 7 rfl rfl)
theorem dX4_mishap_10 : decode cX4_mishap 10 = .ok (.aload_n 0, 1) := dk_42 (dk_at dksX4_mishap_0 10 rfl rfl)
theorem dX4_mishap_11 : decode cX4_mishap 11 = .ok (.iload_n 1, 1) := dk_27 (dk_at dksX4_mishap_0 11 rfl rfl)
theorem dX4_mishap_12 : decode cX4_mishap 12 = .ok (.iload_n 3, 1) := dk_29 (dk_at dksX4_mishap_0 12 rfl rfl)
theorem dX4_mishap_13 : decode cX4_mishap 13 = .ok (.iload 4, 2) := dk_21 4 (dk_at dksX4_mishap_0 13 rfl rfl)
theorem dX4_mishap_15 : decode cX4_mishap 15 = .ok (.invokevirtual 259, 3) := dk_182 1 3 (dk_at dksX4_mishap_0 15 rfl rfl)
theorem dX4_mishap_18 : decode cX4_mishap 18 = .ok (.ifCond .eq 15, 3) := dk_153 0 15 (dk_at dksX4_mishap_0 18 rfl rfl)
theorem dX4_mishap_21 : decode cX4_mishap 21 = .ok (.iload_n 3, 1) := dk_29 (dk_at dksX4_mishap_0 21 rfl rfl)
theorem dX4_mishap_22 : decode cX4_mishap 22 = .ok (.aload_n 0, 1) := dk_42 (dk_at dksX4_mishap_0 22 rfl rfl)
theorem dX4_mishap_23 : decode cX4_mishap 23 = .ok (.getfield 20, 3) := dk_180 0 20 (dk_at dksX4_mishap_1 0 rfl rfl)
theorem dX4_mishap_26 : decode cX4_mishap 26 = .ok (.iload_n 1, 1) := dk_27 (dk_at dksX4_mishap_1 3 rfl rfl)
theorem dX4_mishap_27 : decode cX4_mishap 27 = .ok (.iaload, 1) := dk_46 (dk_at dksX4_mishap_1 4 rfl rfl)
theorem dX4_mishap_28 : decode cX4_mishap 28 = .ok (.iconst 1, 1) := dk_4 (dk_at dksX4_mishap_1 5 rfl rfl)
theorem dX4_mishap_29 : decode cX4_mishap 29 = .ok (.isub, 1) := dk_100 (dk_at dksX4_mishap_1 6 rfl rfl)
theorem dX4_mishap_30 : decode cX4_mishap 30 = .ok (.if_icmp .ne 9, 3) := dk_160 0 9 (dk_at dksX4_mishap_1 7 rfl rfl)
theorem dX4_mishap_33 : decode cX4_mishap 33 = .ok (.aload_n 0, 1) := dk_42 (dk_at dksX4_mishap_1 10 rfl rfl)
theorem dX4_mishap_34 : decode cX4_mishap 34 = .ok (.iconst 2, 1) := dk_5 (dk_at dksX4_mishap_1 11 rfl rfl)
theorem dX4_mishap_35 : decode cX4_mishap 35 = .ok (.invokevirtual 218, 3) := dk_182 0 218 (dk_at dksX4_mishap_1 12 rfl rfl)
theorem dX4_mishap_38 : decode cX4_mishap 38 = .ok (.ireturn, 1) := dk_172 (dk_at dksX4_mishap_1 15 rfl rfl)
theorem dX4_mishap_39 : decode cX4_mishap 39 = .ok (.iload_n 2, 1) := dk_28 (dk_at dksX4_mishap_1 16 rfl rfl)
theorem dX4_mishap_40 : decode cX4_mishap 40 = .ok (.i2l, 1) := dk_133 (dk_at dksX4_mishap_1 17 rfl rfl)
theorem dX4_mishap_41 : decode cX4_mishap 41 = .ok (.lconst 1, 1) := dk_10 (dk_at dksX4_mishap_1 18 rfl rfl)
theorem dX4_mishap_42 : decode cX4_mishap 42 = .ok (.ldc2_w 288, 3) := dk_20 1 32 (dk_at dksX4_mishap_1 19 rfl rfl)
theorem dX4_mishap_45 : decode cX4_mishap 45 = .ok (.invokestatic 239, 3) := dk_184 0 239 (dk_at dksX4_mishap_2 0 rfl rfl)
theorem dX4_mishap_48 : decode cX4_mishap 48 = .ok (.ifCond .eq 16, 3) := dk_153 0 16 (dk_at dksX4_mishap_2 3 rfl rfl)
theorem dX4_mishap_51 : decode cX4_mishap 51 = .ok (.iload 5, 2) := dk_21 5 (dk_at dksX4_mishap_2 6 rfl rfl)
theorem dX4_mishap_53 : decode cX4_mishap 53 = .ok (.i2l, 1) := dk_133 (dk_at dksX4_mishap_2 8 rfl rfl)
theorem dX4_mishap_54 : decode cX4_mishap 54 = .ok (.lconst 0, 1) := dk_9 (dk_at dksX4_mishap_2 9 rfl rfl)
theorem dX4_mishap_55 : decode cX4_mishap 55 = .ok (.ldc2_w 246, 3) := dk_20 0 246 (dk_at dksX4_mishap_2 10 rfl rfl)
theorem dX4_mishap_58 : decode cX4_mishap 58 = .ok (.invokestatic 239, 3) := dk_184 0 239 (dk_at dksX4_mishap_2 13 rfl rfl)
theorem dX4_mishap_61 : decode cX4_mishap 61 = .ok (.ifCond .ne 9, 3) := dk_154 0 9 (dk_at dksX4_mishap_2 16 rfl rfl)
theorem dX4_mishap_64 : decode cX4_mishap 64 = .ok (.aload_n 0, 1) := dk_42 (dk_at dksX4_mishap_2 19 rfl rfl)
theorem dX4_mishap_65 : decode cX4_mishap 65 = .ok (.iconst 5, 1) := dk_8 (dk_at dksX4_mishap_2 20 rfl rfl)
theorem dX4_mishap_66 : decode cX4_mishap 66 = .ok (.invokevirtual 218, 3) := dk_182 0 218 (dk_at dksX4_mishap_2 21 rfl rfl)
theorem dX4_mishap_69 : decode cX4_mishap 69 = .ok (.ireturn, 1) := dk_172 (dk_at dksX4_mishap_3 0 rfl rfl)
theorem dX4_mishap_70 : decode cX4_mishap 70 = .ok (.aload_n 0, 1) := dk_42 (dk_at dksX4_mishap_3 1 rfl rfl)
theorem dX4_mishap_71 : decode cX4_mishap 71 = .ok (.getfield 38, 3) := dk_180 0 38 (dk_at dksX4_mishap_3 2 rfl rfl)
theorem dX4_mishap_74 : decode cX4_mishap 74 = .ok (.iload_n 1, 1) := dk_27 (dk_at dksX4_mishap_3 5 rfl rfl)
theorem dX4_mishap_75 : decode cX4_mishap 75 = .ok (.iaload, 1) := dk_46 (dk_at dksX4_mishap_3 6 rfl rfl)
theorem dX4_mishap_76 : decode cX4_mishap 76 = .ok (.bipush 20, 2) := dk_16 20 (dk_at dksX4_mishap_3 7 rfl rfl)
theorem dX4_mishap_78 : decode cX4_mishap 78 = .ok (.if_icmp .ne 10, 3) := dk_160 0 10 (dk_at dksX4_mishap_3 9 rfl rfl)
theorem dX4_mishap_81 : decode cX4_mishap 81 = .ok (.aload_n 0, 1) := dk_42 (dk_at dksX4_mishap_3 12 rfl rfl)
theorem dX4_mishap_82 : decode cX4_mishap 82 = .ok (.bipush 7, 2) := dk_16 7 (dk_at dksX4_mishap_3 13 rfl rfl)
theorem dX4_mishap_84 : decode cX4_mishap 84 = .ok (.invokevirtual 218, 3) := dk_182 0 218 (dk_at dksX4_mishap_3 15 rfl rfl)
theorem dX4_mishap_87 : decode cX4_mishap 87 = .ok (.ireturn, 1) := dk_172 (dk_at dksX4_mishap_3 18 rfl rfl)
theorem dX4_mishap_88 : decode cX4_mishap 88 = .ok (.bipush 20, 2) := dk_16 20 (dk_at dksX4_mishap_3 19 rfl rfl)
theorem dX4_mishap_90 : decode cX4_mishap 90 = .ok (.iload_n 1, 1) := dk_27 (dk_at dksX4_mishap_3 21 rfl rfl)
theorem dX4_mishap_91 : decode cX4_mishap 91 = .ok (.imul, 1) := dk_104 (dk_at dksX4_mishap_3 22 rfl rfl)
theorem dX4_mishap_92 : decode cX4_mishap 92 = .ok (.aload_n 0, 1) := dk_42 (dk_at dksX4_mishap_3 23 rfl rfl)
theorem dX4_mishap_93 : decode cX4_mishap 93 = .ok (.getfield 38, 3) := dk_180 0 38 (dk_at dksX4_mishap_4 0 rfl rfl)
theorem dX4_mishap_96 : decode cX4_mishap 96 = .ok (.iload_n 1, 1) := dk_27 (dk_at dksX4_mishap_4 3 rfl rfl)
theorem dX4_mishap_97 : decode cX4_mishap 97 = .ok (.iaload, 1) := dk_46 (dk_at dksX4_mishap_4 4 rfl rfl)
theorem dX4_mishap_98 : decode cX4_mishap 98 = .ok (.iadd, 1) := dk_96 (dk_at dksX4_mishap_4 5 rfl rfl)
theorem dX4_mishap_99 : decode cX4_mishap 99 = .ok (.istore 6, 2) := dk_54 6 (dk_at dksX4_mishap_4 6 rfl rfl)
theorem dX4_mishap_101 : decode cX4_mishap 101 = .ok (.aload_n 0, 1) := dk_42 (dk_at dksX4_mishap_4 8 rfl rfl)
theorem dX4_mishap_102 : decode cX4_mishap 102 = .ok (.getfield 41, 3) := dk_180 0 41 (dk_at dksX4_mishap_4 9 rfl rfl)
theorem dX4_mishap_105 : decode cX4_mishap 105 = .ok (.iload 6, 2) := dk_21 6 (dk_at dksX4_mishap_4 12 rfl rfl)
theorem dX4_mishap_107 : decode cX4_mishap 107 = .ok (.iload_n 2, 1) := dk_28 (dk_at dksX4_mishap_4 14 rfl rfl)
theorem dX4_mishap_108 : decode cX4_mishap 108 = .ok (.iastore, 1) := dk_79 (dk_at dksX4_mishap_4 15 rfl rfl)
theorem dX4_mishap_109 : decode cX4_mishap 109 = .ok (.aload_n 0, 1) := dk_42 (dk_at dksX4_mishap_4 16 rfl rfl)
theorem dX4_mishap_110 : decode cX4_mishap 110 = .ok (.getfield 44, 3) := dk_180 0 44 (dk_at dksX4_mishap_4 17 rfl rfl)
theorem dX4_mishap_113 : decode cX4_mishap 113 = .ok (.iload 6, 2) := dk_21 6 (dk_at dksX4_mishap_4 20 rfl rfl)
theorem dX4_mishap_115 : decode cX4_mishap 115 = .ok (.iload_n 3, 1) := dk_29 (dk_at dksX4_mishap_4 22 rfl rfl)
theorem dX4_mishap_116 : decode cX4_mishap 116 = .ok (.iastore, 1) := dk_79 (dk_at dksX4_mishap_4 23 rfl rfl)
theorem dX4_mishap_117 : decode cX4_mishap 117 = .ok (.aload_n 0, 1) := dk_42 (dk_at dksX4_mishap_5 0 rfl rfl)
theorem dX4_mishap_118 : decode cX4_mishap 118 = .ok (.getfield 47, 3) := dk_180 0 47 (dk_at dksX4_mishap_5 1 rfl rfl)
theorem dX4_mishap_121 : decode cX4_mishap 121 = .ok (.iload 6, 2) := dk_21 6 (dk_at dksX4_mishap_5 4 rfl rfl)
theorem dX4_mishap_123 : decode cX4_mishap 123 = .ok (.iload 4, 2) := dk_21 4 (dk_at dksX4_mishap_5 6 rfl rfl)
theorem dX4_mishap_125 : decode cX4_mishap 125 = .ok (.iastore, 1) := dk_79 (dk_at dksX4_mishap_5 8 rfl rfl)
theorem dX4_mishap_126 : decode cX4_mishap 126 = .ok (.aload_n 0, 1) := dk_42 (dk_at dksX4_mishap_5 9 rfl rfl)
theorem dX4_mishap_127 : decode cX4_mishap 127 = .ok (.getfield 50, 3) := dk_180 0 50 (dk_at dksX4_mishap_5 10 rfl rfl)
theorem dX4_mishap_130 : decode cX4_mishap 130 = .ok (.iload 6, 2) := dk_21 6 (dk_at dksX4_mishap_5 13 rfl rfl)
theorem dX4_mishap_132 : decode cX4_mishap 132 = .ok (.iload 5, 2) := dk_21 5 (dk_at dksX4_mishap_5 15 rfl rfl)
theorem dX4_mishap_134 : decode cX4_mishap 134 = .ok (.iastore, 1) := dk_79 (dk_at dksX4_mishap_5 17 rfl rfl)
theorem dX4_mishap_135 : decode cX4_mishap 135 = .ok (.aload_n 0, 1) := dk_42 (dk_at dksX4_mishap_5 18 rfl rfl)
theorem dX4_mishap_136 : decode cX4_mishap 136 = .ok (.getfield 38, 3) := dk_180 0 38 (dk_at dksX4_mishap_5 19 rfl rfl)
theorem dX4_mishap_139 : decode cX4_mishap 139 = .ok (.iload_n 1, 1) := dk_27 (dk_at dksX4_mishap_5 22 rfl rfl)
theorem dX4_mishap_140 : decode cX4_mishap 140 = .ok (.dup2, 1) := dk_92 (dk_at dksX4_mishap_5 23 rfl rfl)
theorem dX4_mishap_141 : decode cX4_mishap 141 = .ok (.iaload, 1) := dk_46 (dk_at dksX4_mishap_6 0 rfl rfl)
theorem dX4_mishap_142 : decode cX4_mishap 142 = .ok (.iconst 1, 1) := dk_4 (dk_at dksX4_mishap_6 1 rfl rfl)
theorem dX4_mishap_143 : decode cX4_mishap 143 = .ok (.iadd, 1) := dk_96 (dk_at dksX4_mishap_6 2 rfl rfl)
theorem dX4_mishap_144 : decode cX4_mishap 144 = .ok (.iastore, 1) := dk_79 (dk_at dksX4_mishap_6 3 rfl rfl)
theorem dX4_mishap_145 : decode cX4_mishap 145 = .ok (.iconst 1, 1) := dk_4 (dk_at dksX4_mishap_6 4 rfl rfl)
theorem dX4_mishap_146 : decode cX4_mishap 146 = .ok (.ireturn, 1) := dk_172 (dk_at dksX4_mishap_6 5 rfl rfl)
abbrev cX4_mend : ByteArray := prog_9_method_27_code
def yX4_mend : MethodName := ⟨RX4, "mend", "(I)Z"⟩
def dkwX4_mend_1 : List UInt8 := [42, 180, 0, 38, 27, 3, 79, 4, 172]
abbrev dktX4_mend_1 : List UInt8 := dkwX4_mend_1 ++ []
def dkwX4_mend_0 : List UInt8 := [42, 3, 181, 0, 212, 42, 3, 181, 0, 215, 42, 27, 182, 0, 243, 154, 0, 9, 42, 5, 182, 0, 218, 172]
abbrev dktX4_mend_0 : List UInt8 := dkwX4_mend_0 ++ dktX4_mend_1
theorem dksX4_mend_0 : cX4_mend.data.toList.drop 0 = dktX4_mend_0 := by decide +kernel
theorem dksX4_mend_1 : cX4_mend.data.toList.drop 24 = dktX4_mend_1 := dk_seg dksX4_mend_0 24 rfl rfl
theorem dX4_mend_0 : decode cX4_mend 0 = .ok (.aload_n 0, 1) := dk_42 (dk_at dksX4_mend_0 0 rfl rfl)
theorem dX4_mend_1 : decode cX4_mend 1 = .ok (.iconst 0, 1) := dk_3 (dk_at dksX4_mend_0 1 rfl rfl)
theorem dX4_mend_2 : decode cX4_mend 2 = .ok (.putfield 212, 3) := dk_181 0 212 (dk_at dksX4_mend_0 2 rfl rfl)
theorem dX4_mend_5 : decode cX4_mend 5 = .ok (.aload_n 0, 1) := dk_42 (dk_at dksX4_mend_0 5 rfl rfl)
theorem dX4_mend_6 : decode cX4_mend 6 = .ok (.iconst 0, 1) := dk_3 (dk_at dksX4_mend_0 6 rfl rfl)
theorem dX4_mend_7 : decode cX4_mend 7 = .ok (.putfield 215, 3) := dk_181 0 215 (dk_at dksX4_mend_0 7 rfl rfl)
theorem dX4_mend_10 : decode cX4_mend 10 = .ok (.aload_n 0, 1) := dk_42 (dk_at dksX4_mend_0 10 rfl rfl)
theorem dX4_mend_11 : decode cX4_mend 11 = .ok (.iload_n 1, 1) := dk_27 (dk_at dksX4_mend_0 11 rfl rfl)
theorem dX4_mend_12 : decode cX4_mend 12 = .ok (.invokevirtual 243, 3) := dk_182 0 243 (dk_at dksX4_mend_0 12 rfl rfl)
theorem dX4_mend_15 : decode cX4_mend 15 = .ok (.ifCond .ne 9, 3) := dk_154 0 9 (dk_at dksX4_mend_0 15 rfl rfl)
theorem dX4_mend_18 : decode cX4_mend 18 = .ok (.aload_n 0, 1) := dk_42 (dk_at dksX4_mend_0 18 rfl rfl)
theorem dX4_mend_19 : decode cX4_mend 19 = .ok (.iconst 2, 1) := dk_5 (dk_at dksX4_mend_0 19 rfl rfl)
theorem dX4_mend_20 : decode cX4_mend 20 = .ok (.invokevirtual 218, 3) := dk_182 0 218 (dk_at dksX4_mend_0 20 rfl rfl)
theorem dX4_mend_23 : decode cX4_mend 23 = .ok (.ireturn, 1) := dk_172 (dk_at dksX4_mend_0 23 rfl rfl)
theorem dX4_mend_24 : decode cX4_mend 24 = .ok (.aload_n 0, 1) := dk_42 (dk_at dksX4_mend_1 0 rfl rfl)
theorem dX4_mend_25 : decode cX4_mend 25 = .ok (.getfield 38, 3) := dk_180 0 38 (dk_at dksX4_mend_1 1 rfl rfl)
theorem dX4_mend_28 : decode cX4_mend 28 = .ok (.iload_n 1, 1) := dk_27 (dk_at dksX4_mend_1 4 rfl rfl)
theorem dX4_mend_29 : decode cX4_mend 29 = .ok (.iconst 0, 1) := dk_3 (dk_at dksX4_mend_1 5 rfl rfl)
theorem dX4_mend_30 : decode cX4_mend 30 = .ok (.iastore, 1) := dk_79 (dk_at dksX4_mend_1 6 rfl rfl)
theorem dX4_mend_31 : decode cX4_mend 31 = .ok (.iconst 1, 1) := dk_4 (dk_at dksX4_mend_1 7 rfl rfl)
theorem dX4_mend_32 : decode cX4_mend 32 = .ok (.ireturn, 1) := dk_172 (dk_at dksX4_mend_1 8 rfl rfl)
abbrev cX4_turn : ByteArray := prog_9_method_31_code
def yX4_turn : MethodName := ⟨RX4, "turn", "(II)I"⟩
def dkwX4_turn_4 : List UInt8 := [167, 255, 226, 42, 180, 0, 26, 27, 46, 172]
abbrev dktX4_turn_4 : List UInt8 := dkwX4_turn_4 ++ []
def dkwX4_turn_3 : List UInt8 := [180, 0, 26, 27, 92, 46, 4, 96, 79, 42, 27, 42, 180, 0, 26, 27, 46, 3, 182, 1, 53, 132, 3, 1]
abbrev dktX4_turn_3 : List UInt8 := dkwX4_turn_3 ++ dktX4_turn_4
def dkwX4_turn_2 : List UInt8 := [28, 96, 17, 3, 232, 164, 0, 10, 42, 16, 9, 182, 0, 252, 172, 3, 62, 29, 28, 162, 0, 31, 42]
abbrev dktX4_turn_2 : List UInt8 := dkwX4_turn_2 ++ dktX4_turn_3
def dkwX4_turn_1 : List UInt8 := [28, 133, 10, 20, 1, 51, 184, 0, 239, 154, 0, 9, 42, 8, 182, 0, 252, 172, 42, 180, 0, 26, 27, 46]
abbrev dktX4_turn_1 : List UInt8 := dkwX4_turn_1 ++ dktX4_turn_2
def dkwX4_turn_0 : List UInt8 := [42, 3, 181, 0, 212, 42, 3, 181, 0, 215, 42, 27, 182, 0, 243, 154, 0, 9, 42, 5, 182, 0, 252, 172]
abbrev dktX4_turn_0 : List UInt8 := dkwX4_turn_0 ++ dktX4_turn_1
theorem dksX4_turn_0 : cX4_turn.data.toList.drop 0 = dktX4_turn_0 := by decide +kernel
theorem dksX4_turn_1 : cX4_turn.data.toList.drop 24 = dktX4_turn_1 := dk_seg dksX4_turn_0 24 rfl rfl
theorem dksX4_turn_2 : cX4_turn.data.toList.drop 48 = dktX4_turn_2 := dk_seg dksX4_turn_1 24 rfl rfl
theorem dksX4_turn_3 : cX4_turn.data.toList.drop 71 = dktX4_turn_3 := dk_seg dksX4_turn_2 23 rfl rfl
theorem dksX4_turn_4 : cX4_turn.data.toList.drop 95 = dktX4_turn_4 := dk_seg dksX4_turn_3 24 rfl rfl
theorem dX4_turn_0 : decode cX4_turn 0 = .ok (.aload_n 0, 1) := dk_42 (dk_at dksX4_turn_0 0 rfl rfl)
theorem dX4_turn_1 : decode cX4_turn 1 = .ok (.iconst 0, 1) := dk_3 (dk_at dksX4_turn_0 1 rfl rfl)
theorem dX4_turn_2 : decode cX4_turn 2 = .ok (.putfield 212, 3) := dk_181 0 212 (dk_at dksX4_turn_0 2 rfl rfl)
theorem dX4_turn_5 : decode cX4_turn 5 = .ok (.aload_n 0, 1) := dk_42 (dk_at dksX4_turn_0 5 rfl rfl)
theorem dX4_turn_6 : decode cX4_turn 6 = .ok (.iconst 0, 1) := dk_3 (dk_at dksX4_turn_0 6 rfl rfl)
theorem dX4_turn_7 : decode cX4_turn 7 = .ok (.putfield 215, 3) := dk_181 0 215 (dk_at dksX4_turn_0 7 rfl rfl)
theorem dX4_turn_10 : decode cX4_turn 10 = .ok (.aload_n 0, 1) := dk_42 (dk_at dksX4_turn_0 10 rfl rfl)
theorem dX4_turn_11 : decode cX4_turn 11 = .ok (.iload_n 1, 1) := dk_27 (dk_at dksX4_turn_0 11 rfl rfl)
theorem dX4_turn_12 : decode cX4_turn 12 = .ok (.invokevirtual 243, 3) := dk_182 0 243 (dk_at dksX4_turn_0 12 rfl rfl)
theorem dX4_turn_15 : decode cX4_turn 15 = .ok (.ifCond .ne 9, 3) := dk_154 0 9 (dk_at dksX4_turn_0 15 rfl rfl)
theorem dX4_turn_18 : decode cX4_turn 18 = .ok (.aload_n 0, 1) := dk_42 (dk_at dksX4_turn_0 18 rfl rfl)
theorem dX4_turn_19 : decode cX4_turn 19 = .ok (.iconst 2, 1) := dk_5 (dk_at dksX4_turn_0 19 rfl rfl)
theorem dX4_turn_20 : decode cX4_turn 20 = .ok (.invokevirtual 252, 3) := dk_182 0 252 (dk_at dksX4_turn_0 20 rfl rfl)
theorem dX4_turn_23 : decode cX4_turn 23 = .ok (.ireturn, 1) := dk_172 (dk_at dksX4_turn_0 23 rfl rfl)
theorem dX4_turn_24 : decode cX4_turn 24 = .ok (.iload_n 2, 1) := dk_28 (dk_at dksX4_turn_1 0 rfl rfl)
theorem dX4_turn_25 : decode cX4_turn 25 = .ok (.i2l, 1) := dk_133 (dk_at dksX4_turn_1 1 rfl rfl)
theorem dX4_turn_26 : decode cX4_turn 26 = .ok (.lconst 1, 1) := dk_10 (dk_at dksX4_turn_1 2 rfl rfl)
theorem dX4_turn_27 : decode cX4_turn 27 = .ok (.ldc2_w 307, 3) := dk_20 1 51 (dk_at dksX4_turn_1 3 rfl rfl)
theorem dX4_turn_30 : decode cX4_turn 30 = .ok (.invokestatic 239, 3) := dk_184 0 239 (dk_at dksX4_turn_1 6 rfl rfl)
theorem dX4_turn_33 : decode cX4_turn 33 = .ok (.ifCond .ne 9, 3) := dk_154 0 9 (dk_at dksX4_turn_1 9 rfl rfl)
theorem dX4_turn_36 : decode cX4_turn 36 = .ok (.aload_n 0, 1) := dk_42 (dk_at dksX4_turn_1 12 rfl rfl)
theorem dX4_turn_37 : decode cX4_turn 37 = .ok (.iconst 5, 1) := dk_8 (dk_at dksX4_turn_1 13 rfl rfl)
theorem dX4_turn_38 : decode cX4_turn 38 = .ok (.invokevirtual 252, 3) := dk_182 0 252 (dk_at dksX4_turn_1 14 rfl rfl)
theorem dX4_turn_41 : decode cX4_turn 41 = .ok (.ireturn, 1) := dk_172 (dk_at dksX4_turn_1 17 rfl rfl)
theorem dX4_turn_42 : decode cX4_turn 42 = .ok (.aload_n 0, 1) := dk_42 (dk_at dksX4_turn_1 18 rfl rfl)
theorem dX4_turn_43 : decode cX4_turn 43 = .ok (.getfield 26, 3) := dk_180 0 26 (dk_at dksX4_turn_1 19 rfl rfl)
theorem dX4_turn_46 : decode cX4_turn 46 = .ok (.iload_n 1, 1) := dk_27 (dk_at dksX4_turn_1 22 rfl rfl)
theorem dX4_turn_47 : decode cX4_turn 47 = .ok (.iaload, 1) := dk_46 (dk_at dksX4_turn_1 23 rfl rfl)
theorem dX4_turn_48 : decode cX4_turn 48 = .ok (.iload_n 2, 1) := dk_28 (dk_at dksX4_turn_2 0 rfl rfl)
theorem dX4_turn_49 : decode cX4_turn 49 = .ok (.iadd, 1) := dk_96 (dk_at dksX4_turn_2 1 rfl rfl)
theorem dX4_turn_50 : decode cX4_turn 50 = .ok (.sipush 1000, 3) := dk_17 3 232 (dk_at dksX4_turn_2 2 rfl rfl)
theorem dX4_turn_53 : decode cX4_turn 53 = .ok (.if_icmp .le 10, 3) := dk_164 0 10 (dk_at dksX4_turn_2 5 rfl rfl)
theorem dX4_turn_56 : decode cX4_turn 56 = .ok (.aload_n 0, 1) := dk_42 (dk_at dksX4_turn_2 8 rfl rfl)
theorem dX4_turn_57 : decode cX4_turn 57 = .ok (.bipush 9, 2) := dk_16 9 (dk_at dksX4_turn_2 9 rfl rfl)
theorem dX4_turn_59 : decode cX4_turn 59 = .ok (.invokevirtual 252, 3) := dk_182 0 252 (dk_at dksX4_turn_2 11 rfl rfl)
theorem dX4_turn_62 : decode cX4_turn 62 = .ok (.ireturn, 1) := dk_172 (dk_at dksX4_turn_2 14 rfl rfl)
theorem dX4_turn_63 : decode cX4_turn 63 = .ok (.iconst 0, 1) := dk_3 (dk_at dksX4_turn_2 15 rfl rfl)
theorem dX4_turn_64 : decode cX4_turn 64 = .ok (.istore_n 3, 1) := dk_62 (dk_at dksX4_turn_2 16 rfl rfl)
theorem dX4_turn_65 : decode cX4_turn 65 = .ok (.iload_n 3, 1) := dk_29 (dk_at dksX4_turn_2 17 rfl rfl)
theorem dX4_turn_66 : decode cX4_turn 66 = .ok (.iload_n 2, 1) := dk_28 (dk_at dksX4_turn_2 18 rfl rfl)
theorem dX4_turn_67 : decode cX4_turn 67 = .ok (.if_icmp .ge 31, 3) := dk_162 0 31 (dk_at dksX4_turn_2 19 rfl rfl)
theorem dX4_turn_70 : decode cX4_turn 70 = .ok (.aload_n 0, 1) := dk_42 (dk_at dksX4_turn_2 22 rfl rfl)
theorem dX4_turn_71 : decode cX4_turn 71 = .ok (.getfield 26, 3) := dk_180 0 26 (dk_at dksX4_turn_3 0 rfl rfl)
theorem dX4_turn_74 : decode cX4_turn 74 = .ok (.iload_n 1, 1) := dk_27 (dk_at dksX4_turn_3 3 rfl rfl)
theorem dX4_turn_75 : decode cX4_turn 75 = .ok (.dup2, 1) := dk_92 (dk_at dksX4_turn_3 4 rfl rfl)
theorem dX4_turn_76 : decode cX4_turn 76 = .ok (.iaload, 1) := dk_46 (dk_at dksX4_turn_3 5 rfl rfl)
theorem dX4_turn_77 : decode cX4_turn 77 = .ok (.iconst 1, 1) := dk_4 (dk_at dksX4_turn_3 6 rfl rfl)
theorem dX4_turn_78 : decode cX4_turn 78 = .ok (.iadd, 1) := dk_96 (dk_at dksX4_turn_3 7 rfl rfl)
theorem dX4_turn_79 : decode cX4_turn 79 = .ok (.iastore, 1) := dk_79 (dk_at dksX4_turn_3 8 rfl rfl)
theorem dX4_turn_80 : decode cX4_turn 80 = .ok (.aload_n 0, 1) := dk_42 (dk_at dksX4_turn_3 9 rfl rfl)
theorem dX4_turn_81 : decode cX4_turn 81 = .ok (.iload_n 1, 1) := dk_27 (dk_at dksX4_turn_3 10 rfl rfl)
theorem dX4_turn_82 : decode cX4_turn 82 = .ok (.aload_n 0, 1) := dk_42 (dk_at dksX4_turn_3 11 rfl rfl)
theorem dX4_turn_83 : decode cX4_turn 83 = .ok (.getfield 26, 3) := dk_180 0 26 (dk_at dksX4_turn_3 12 rfl rfl)
theorem dX4_turn_86 : decode cX4_turn 86 = .ok (.iload_n 1, 1) := dk_27 (dk_at dksX4_turn_3 15 rfl rfl)
theorem dX4_turn_87 : decode cX4_turn 87 = .ok (.iaload, 1) := dk_46 (dk_at dksX4_turn_3 16 rfl rfl)
theorem dX4_turn_88 : decode cX4_turn 88 = .ok (.iconst 0, 1) := dk_3 (dk_at dksX4_turn_3 17 rfl rfl)
theorem dX4_turn_89 : decode cX4_turn 89 = .ok (.invokevirtual 309, 3) := dk_182 1 53 (dk_at dksX4_turn_3 18 rfl rfl)
theorem dX4_turn_92 : decode cX4_turn 92 = .ok (.iinc 3 1, 3) := dk_132 3 1 (dk_at dksX4_turn_3 21 rfl rfl)
theorem dX4_turn_95 : decode cX4_turn 95 = .ok (.goto (-30), 3) := dk_167 255 226 (dk_at dksX4_turn_4 0 rfl rfl)
theorem dX4_turn_98 : decode cX4_turn 98 = .ok (.aload_n 0, 1) := dk_42 (dk_at dksX4_turn_4 3 rfl rfl)
theorem dX4_turn_99 : decode cX4_turn 99 = .ok (.getfield 26, 3) := dk_180 0 26 (dk_at dksX4_turn_4 4 rfl rfl)
theorem dX4_turn_102 : decode cX4_turn 102 = .ok (.iload_n 1, 1) := dk_27 (dk_at dksX4_turn_4 7 rfl rfl)
theorem dX4_turn_103 : decode cX4_turn 103 = .ok (.iaload, 1) := dk_46 (dk_at dksX4_turn_4 8 rfl rfl)
theorem dX4_turn_104 : decode cX4_turn 104 = .ok (.ireturn, 1) := dk_172 (dk_at dksX4_turn_4 9 rfl rfl)
abbrev cX4_turnOne : ByteArray := prog_9_method_30_code
def yX4_turnOne : MethodName := ⟨RX4, "turnOne", "(IIZ)V"⟩
def dkwX4_turnOne_7 : List UInt8 := [132, 4, 1, 167, 255, 149, 177]
abbrev dktX4_turnOne_7 : List UInt8 := dkwX4_turnOne_7 ++ []
def dkwX4_turnOne_6 : List UInt8 := [46, 21, 6, 96, 4, 100, 21, 6, 112, 79, 132, 8, 255, 167, 255, 226, 132, 5, 1, 167, 255, 171]
abbrev dktX4_turnOne_6 : List UInt8 := dkwX4_turnOne_6 ++ dktX4_turnOne_7
def dkwX4_turnOne_5 : List UInt8 := [3, 29, 182, 1, 43, 54, 8, 21, 8, 158, 0, 31, 42, 180, 0, 32, 21, 7, 42, 180, 0, 32, 21, 7]
abbrev dktX4_turnOne_5 : List UInt8 := dkwX4_turnOne_5 ++ dktX4_turnOne_6
def dkwX4_turnOne_4 : List UInt8 := [104, 21, 5, 96, 46, 54, 6, 27, 21, 4, 21, 5, 184, 1, 7, 54, 7, 42, 27, 28, 21, 4, 21, 5]
abbrev dktX4_turnOne_4 : List UInt8 := dkwX4_turnOne_4 ++ dktX4_turnOne_5
def dkwX4_turnOne_3 : List UInt8 := [162, 0, 100, 3, 54, 5, 21, 5, 42, 180, 0, 23, 27, 46, 162, 0, 80, 42, 180, 0, 29, 16, 12, 27]
abbrev dktX4_turnOne_3 : List UInt8 := dkwX4_turnOne_3 ++ dktX4_turnOne_4
def dkwX4_turnOne_2 : List UInt8 := [28, 29, 182, 1, 47, 132, 4, 2, 167, 255, 233, 3, 54, 4, 21, 4, 42, 180, 0, 20, 27, 46, 4, 100]
abbrev dktX4_turnOne_2 : List UInt8 := dkwX4_turnOne_2 ++ dktX4_turnOne_3
def dkwX4_turnOne_1 : List UInt8 := [132, 4, 2, 167, 255, 233, 5, 54, 4, 21, 4, 42, 180, 0, 20, 27, 46, 162, 0, 18, 42, 27, 21, 4]
abbrev dktX4_turnOne_1 : List UInt8 := dkwX4_turnOne_1 ++ dktX4_turnOne_2
def dkwX4_turnOne_0 : List UInt8 := [4, 54, 4, 21, 4, 42, 180, 0, 20, 27, 46, 162, 0, 18, 42, 27, 21, 4, 28, 29, 182, 1, 47]
abbrev dktX4_turnOne_0 : List UInt8 := dkwX4_turnOne_0 ++ dktX4_turnOne_1
theorem dksX4_turnOne_0 : cX4_turnOne.data.toList.drop 0 = dktX4_turnOne_0 := by decide +kernel
theorem dksX4_turnOne_1 : cX4_turnOne.data.toList.drop 23 = dktX4_turnOne_1 := dk_seg dksX4_turnOne_0 23 rfl rfl
theorem dksX4_turnOne_2 : cX4_turnOne.data.toList.drop 47 = dktX4_turnOne_2 := dk_seg dksX4_turnOne_1 24 rfl rfl
theorem dksX4_turnOne_3 : cX4_turnOne.data.toList.drop 71 = dktX4_turnOne_3 := dk_seg dksX4_turnOne_2 24 rfl rfl
theorem dksX4_turnOne_4 : cX4_turnOne.data.toList.drop 95 = dktX4_turnOne_4 := dk_seg dksX4_turnOne_3 24 rfl rfl
theorem dksX4_turnOne_5 : cX4_turnOne.data.toList.drop 119 = dktX4_turnOne_5 := dk_seg dksX4_turnOne_4 24 rfl rfl
theorem dksX4_turnOne_6 : cX4_turnOne.data.toList.drop 143 = dktX4_turnOne_6 := dk_seg dksX4_turnOne_5 24 rfl rfl
theorem dksX4_turnOne_7 : cX4_turnOne.data.toList.drop 165 = dktX4_turnOne_7 := dk_seg dksX4_turnOne_6 22 rfl rfl
theorem dX4_turnOne_0 : decode cX4_turnOne 0 = .ok (.iconst 1, 1) := dk_4 (dk_at dksX4_turnOne_0 0 rfl rfl)
theorem dX4_turnOne_1 : decode cX4_turnOne 1 = .ok (.istore 4, 2) := dk_54 4 (dk_at dksX4_turnOne_0 1 rfl rfl)
theorem dX4_turnOne_3 : decode cX4_turnOne 3 = .ok (.iload 4, 2) := dk_21 4 (dk_at dksX4_turnOne_0 3 rfl rfl)
theorem dX4_turnOne_5 : decode cX4_turnOne 5 = .ok (.aload_n 0, 1) := dk_42 (dk_at dksX4_turnOne_0 5 rfl rfl)
theorem dX4_turnOne_6 : decode cX4_turnOne 6 = .ok (.getfield 20, 3) := dk_180 0 20 (dk_at dksX4_turnOne_0 6 rfl rfl)
theorem dX4_turnOne_9 : decode cX4_turnOne 9 = .ok (.iload_n 1, 1) := dk_27 (dk_at dksX4_turnOne_0 9 rfl rfl)
theorem dX4_turnOne_10 : decode cX4_turnOne 10 = .ok (.iaload, 1) := dk_46 (dk_at dksX4_turnOne_0 10 rfl rfl)
theorem dX4_turnOne_11 : decode cX4_turnOne 11 = .ok (.if_icmp .ge 18, 3) := dk_162 0 18 (dk_at dksX4_turnOne_0 11 rfl rfl)
theorem dX4_turnOne_14 : decode cX4_turnOne 14 = .ok (.aload_n 0, 1) := dk_42 (dk_at dksX4_turnOne_0 14 rfl rfl)
theorem dX4_turnOne_15 : decode cX4_turnOne 15 = .ok (.iload_n 1, 1) := dk_27 (dk_at dksX4_turnOne_0 15 rfl rfl)
theorem dX4_turnOne_16 : decode cX4_turnOne 16 = .ok (.iload 4, 2) := dk_21 4 (dk_at dksX4_turnOne_0 16 rfl rfl)
theorem dX4_turnOne_18 : decode cX4_turnOne 18 = .ok (.iload_n 2, 1) := dk_28 (dk_at dksX4_turnOne_0 18 rfl rfl)
theorem dX4_turnOne_19 : decode cX4_turnOne 19 = .ok (.iload_n 3, 1) := dk_29 (dk_at dksX4_turnOne_0 19 rfl rfl)
theorem dX4_turnOne_20 : decode cX4_turnOne 20 = .ok (.invokevirtual 303, 3) := dk_182 1 47 (dk_at dksX4_turnOne_0 20 rfl rfl)
theorem dX4_turnOne_23 : decode cX4_turnOne 23 = .ok (.iinc 4 2, 3) := dk_132 4 2 (dk_at dksX4_turnOne_1 0 rfl rfl)
theorem dX4_turnOne_26 : decode cX4_turnOne 26 = .ok (.goto (-23), 3) := dk_167 255 233 (dk_at dksX4_turnOne_1 3 rfl rfl)
theorem dX4_turnOne_29 : decode cX4_turnOne 29 = .ok (.iconst 2, 1) := dk_5 (dk_at dksX4_turnOne_1 6 rfl rfl)
theorem dX4_turnOne_30 : decode cX4_turnOne 30 = .ok (.istore 4, 2) := dk_54 4 (dk_at dksX4_turnOne_1 7 rfl rfl)
theorem dX4_turnOne_32 : decode cX4_turnOne 32 = .ok (.iload 4, 2) := dk_21 4 (dk_at dksX4_turnOne_1 9 rfl rfl)
theorem dX4_turnOne_34 : decode cX4_turnOne 34 = .ok (.aload_n 0, 1) := dk_42 (dk_at dksX4_turnOne_1 11 rfl rfl)
theorem dX4_turnOne_35 : decode cX4_turnOne 35 = .ok (.getfield 20, 3) := dk_180 0 20 (dk_at dksX4_turnOne_1 12 rfl rfl)
theorem dX4_turnOne_38 : decode cX4_turnOne 38 = .ok (.iload_n 1, 1) := dk_27 (dk_at dksX4_turnOne_1 15 rfl rfl)
theorem dX4_turnOne_39 : decode cX4_turnOne 39 = .ok (.iaload, 1) := dk_46 (dk_at dksX4_turnOne_1 16 rfl rfl)
theorem dX4_turnOne_40 : decode cX4_turnOne 40 = .ok (.if_icmp .ge 18, 3) := dk_162 0 18 (dk_at dksX4_turnOne_1 17 rfl rfl)
theorem dX4_turnOne_43 : decode cX4_turnOne 43 = .ok (.aload_n 0, 1) := dk_42 (dk_at dksX4_turnOne_1 20 rfl rfl)
theorem dX4_turnOne_44 : decode cX4_turnOne 44 = .ok (.iload_n 1, 1) := dk_27 (dk_at dksX4_turnOne_1 21 rfl rfl)
theorem dX4_turnOne_45 : decode cX4_turnOne 45 = .ok (.iload 4, 2) := dk_21 4 (dk_at dksX4_turnOne_1 22 rfl rfl)
theorem dX4_turnOne_47 : decode cX4_turnOne 47 = .ok (.iload_n 2, 1) := dk_28 (dk_at dksX4_turnOne_2 0 rfl rfl)
theorem dX4_turnOne_48 : decode cX4_turnOne 48 = .ok (.iload_n 3, 1) := dk_29 (dk_at dksX4_turnOne_2 1 rfl rfl)
theorem dX4_turnOne_49 : decode cX4_turnOne 49 = .ok (.invokevirtual 303, 3) := dk_182 1 47 (dk_at dksX4_turnOne_2 2 rfl rfl)
theorem dX4_turnOne_52 : decode cX4_turnOne 52 = .ok (.iinc 4 2, 3) := dk_132 4 2 (dk_at dksX4_turnOne_2 5 rfl rfl)
theorem dX4_turnOne_55 : decode cX4_turnOne 55 = .ok (.goto (-23), 3) := dk_167 255 233 (dk_at dksX4_turnOne_2 8 rfl rfl)
theorem dX4_turnOne_58 : decode cX4_turnOne 58 = .ok (.iconst 0, 1) := dk_3 (dk_at dksX4_turnOne_2 11 rfl rfl)
theorem dX4_turnOne_59 : decode cX4_turnOne 59 = .ok (.istore 4, 2) := dk_54 4 (dk_at dksX4_turnOne_2 12 rfl rfl)
theorem dX4_turnOne_61 : decode cX4_turnOne 61 = .ok (.iload 4, 2) := dk_21 4 (dk_at dksX4_turnOne_2 14 rfl rfl)
theorem dX4_turnOne_63 : decode cX4_turnOne 63 = .ok (.aload_n 0, 1) := dk_42 (dk_at dksX4_turnOne_2 16 rfl rfl)
theorem dX4_turnOne_64 : decode cX4_turnOne 64 = .ok (.getfield 20, 3) := dk_180 0 20 (dk_at dksX4_turnOne_2 17 rfl rfl)
theorem dX4_turnOne_67 : decode cX4_turnOne 67 = .ok (.iload_n 1, 1) := dk_27 (dk_at dksX4_turnOne_2 20 rfl rfl)
theorem dX4_turnOne_68 : decode cX4_turnOne 68 = .ok (.iaload, 1) := dk_46 (dk_at dksX4_turnOne_2 21 rfl rfl)
theorem dX4_turnOne_69 : decode cX4_turnOne 69 = .ok (.iconst 1, 1) := dk_4 (dk_at dksX4_turnOne_2 22 rfl rfl)
theorem dX4_turnOne_70 : decode cX4_turnOne 70 = .ok (.isub, 1) := dk_100 (dk_at dksX4_turnOne_2 23 rfl rfl)
theorem dX4_turnOne_71 : decode cX4_turnOne 71 = .ok (.if_icmp .ge 100, 3) := dk_162 0 100 (dk_at dksX4_turnOne_3 0 rfl rfl)
theorem dX4_turnOne_74 : decode cX4_turnOne 74 = .ok (.iconst 0, 1) := dk_3 (dk_at dksX4_turnOne_3 3 rfl rfl)
theorem dX4_turnOne_75 : decode cX4_turnOne 75 = .ok (.istore 5, 2) := dk_54 5 (dk_at dksX4_turnOne_3 4 rfl rfl)
theorem dX4_turnOne_77 : decode cX4_turnOne 77 = .ok (.iload 5, 2) := dk_21 5 (dk_at dksX4_turnOne_3 6 rfl rfl)
theorem dX4_turnOne_79 : decode cX4_turnOne 79 = .ok (.aload_n 0, 1) := dk_42 (dk_at dksX4_turnOne_3 8 rfl rfl)
theorem dX4_turnOne_80 : decode cX4_turnOne 80 = .ok (.getfield 23, 3) := dk_180 0 23 (dk_at dksX4_turnOne_3 9 rfl rfl)
theorem dX4_turnOne_83 : decode cX4_turnOne 83 = .ok (.iload_n 1, 1) := dk_27 (dk_at dksX4_turnOne_3 12 rfl rfl)
theorem dX4_turnOne_84 : decode cX4_turnOne 84 = .ok (.iaload, 1) := dk_46 (dk_at dksX4_turnOne_3 13 rfl rfl)
theorem dX4_turnOne_85 : decode cX4_turnOne 85 = .ok (.if_icmp .ge 80, 3) := dk_162 0 80 (dk_at dksX4_turnOne_3 14 rfl rfl)
theorem dX4_turnOne_88 : decode cX4_turnOne 88 = .ok (.aload_n 0, 1) := dk_42 (dk_at dksX4_turnOne_3 17 rfl rfl)
theorem dX4_turnOne_89 : decode cX4_turnOne 89 = .ok (.getfield 29, 3) := dk_180 0 29 (dk_at dksX4_turnOne_3 18 rfl rfl)
theorem dX4_turnOne_92 : decode cX4_turnOne 92 = .ok (.bipush 12, 2) := dk_16 12 (dk_at dksX4_turnOne_3 21 rfl rfl)
theorem dX4_turnOne_94 : decode cX4_turnOne 94 = .ok (.iload_n 1, 1) := dk_27 (dk_at dksX4_turnOne_3 23 rfl rfl)
theorem dX4_turnOne_95 : decode cX4_turnOne 95 = .ok (.imul, 1) := dk_104 (dk_at dksX4_turnOne_4 0 rfl rfl)
theorem dX4_turnOne_96 : decode cX4_turnOne 96 = .ok (.iload 5, 2) := dk_21 5 (dk_at dksX4_turnOne_4 1 rfl rfl)
theorem dX4_turnOne_98 : decode cX4_turnOne 98 = .ok (.iadd, 1) := dk_96 (dk_at dksX4_turnOne_4 3 rfl rfl)
theorem dX4_turnOne_99 : decode cX4_turnOne 99 = .ok (.iaload, 1) := dk_46 (dk_at dksX4_turnOne_4 4 rfl rfl)
theorem dX4_turnOne_100 : decode cX4_turnOne 100 = .ok (.istore 6, 2) := dk_54 6 (dk_at dksX4_turnOne_4 5 rfl rfl)
theorem dX4_turnOne_102 : decode cX4_turnOne 102 = .ok (.iload_n 1, 1) := dk_27 (dk_at dksX4_turnOne_4 7 rfl rfl)
theorem dX4_turnOne_103 : decode cX4_turnOne 103 = .ok (.iload 4, 2) := dk_21 4 (dk_at dksX4_turnOne_4 8 rfl rfl)
theorem dX4_turnOne_105 : decode cX4_turnOne 105 = .ok (.iload 5, 2) := dk_21 5 (dk_at dksX4_turnOne_4 10 rfl rfl)
theorem dX4_turnOne_107 : decode cX4_turnOne 107 = .ok (.invokestatic 263, 3) := dk_184 1 7 (dk_at dksX4_turnOne_4 12 rfl rfl)
theorem dX4_turnOne_110 : decode cX4_turnOne 110 = .ok (.istore 7, 2) := dk_54 7 (dk_at dksX4_turnOne_4 15 rfl rfl)
theorem dX4_turnOne_112 : decode cX4_turnOne 112 = .ok (.aload_n 0, 1) := dk_42 (dk_at dksX4_turnOne_4 17 rfl rfl)
theorem dX4_turnOne_113 : decode cX4_turnOne 113 = .ok (.iload_n 1, 1) := dk_27 (dk_at dksX4_turnOne_4 18 rfl rfl)
theorem dX4_turnOne_114 : decode cX4_turnOne 114 = .ok (.iload_n 2, 1) := dk_28 (dk_at dksX4_turnOne_4 19 rfl rfl)
theorem dX4_turnOne_115 : decode cX4_turnOne 115 = .ok (.iload 4, 2) := dk_21 4 (dk_at dksX4_turnOne_4 20 rfl rfl)
theorem dX4_turnOne_117 : decode cX4_turnOne 117 = .ok (.iload 5, 2) := dk_21 5 (dk_at dksX4_turnOne_4 22 rfl rfl)
theorem dX4_turnOne_119 : decode cX4_turnOne 119 = .ok (.iconst 0, 1) := dk_3 (dk_at dksX4_turnOne_5 0 rfl rfl)
theorem dX4_turnOne_120 : decode cX4_turnOne 120 = .ok (.iload_n 3, 1) := dk_29 (dk_at dksX4_turnOne_5 1 rfl rfl)
theorem dX4_turnOne_121 : decode cX4_turnOne 121 = .ok (.invokevirtual 299, 3) := dk_182 1 43 (dk_at dksX4_turnOne_5 2 rfl rfl)
theorem dX4_turnOne_124 : decode cX4_turnOne 124 = .ok (.istore 8, 2) := dk_54 8 (dk_at dksX4_turnOne_5 5 rfl rfl)
theorem dX4_turnOne_126 : decode cX4_turnOne 126 = .ok (.iload 8, 2) := dk_21 8 (dk_at dksX4_turnOne_5 7 rfl rfl)
theorem dX4_turnOne_128 : decode cX4_turnOne 128 = .ok (.ifCond .le 31, 3) := dk_158 0 31 (dk_at dksX4_turnOne_5 9 rfl rfl)
theorem dX4_turnOne_131 : decode cX4_turnOne 131 = .ok (.aload_n 0, 1) := dk_42 (dk_at dksX4_turnOne_5 12 rfl rfl)
theorem dX4_turnOne_132 : decode cX4_turnOne 132 = .ok (.getfield 32, 3) := dk_180 0 32 (dk_at dksX4_turnOne_5 13 rfl rfl)
theorem dX4_turnOne_135 : decode cX4_turnOne 135 = .ok (.iload 7, 2) := dk_21 7 (dk_at dksX4_turnOne_5 16 rfl rfl)
theorem dX4_turnOne_137 : decode cX4_turnOne 137 = .ok (.aload_n 0, 1) := dk_42 (dk_at dksX4_turnOne_5 18 rfl rfl)
theorem dX4_turnOne_138 : decode cX4_turnOne 138 = .ok (.getfield 32, 3) := dk_180 0 32 (dk_at dksX4_turnOne_5 19 rfl rfl)
theorem dX4_turnOne_141 : decode cX4_turnOne 141 = .ok (.iload 7, 2) := dk_21 7 (dk_at dksX4_turnOne_5 22 rfl rfl)
theorem dX4_turnOne_143 : decode cX4_turnOne 143 = .ok (.iaload, 1) := dk_46 (dk_at dksX4_turnOne_6 0 rfl rfl)
theorem dX4_turnOne_144 : decode cX4_turnOne 144 = .ok (.iload 6, 2) := dk_21 6 (dk_at dksX4_turnOne_6 1 rfl rfl)
theorem dX4_turnOne_146 : decode cX4_turnOne 146 = .ok (.iadd, 1) := dk_96 (dk_at dksX4_turnOne_6 3 rfl rfl)
theorem dX4_turnOne_147 : decode cX4_turnOne 147 = .ok (.iconst 1, 1) := dk_4 (dk_at dksX4_turnOne_6 4 rfl rfl)
theorem dX4_turnOne_148 : decode cX4_turnOne 148 = .ok (.isub, 1) := dk_100 (dk_at dksX4_turnOne_6 5 rfl rfl)
theorem dX4_turnOne_149 : decode cX4_turnOne 149 = .ok (.iload 6, 2) := dk_21 6 (dk_at dksX4_turnOne_6 6 rfl rfl)
theorem dX4_turnOne_151 : decode cX4_turnOne 151 = .ok (.irem, 1) := dk_112 (dk_at dksX4_turnOne_6 8 rfl rfl)
theorem dX4_turnOne_152 : decode cX4_turnOne 152 = .ok (.iastore, 1) := dk_79 (dk_at dksX4_turnOne_6 9 rfl rfl)
theorem dX4_turnOne_153 : decode cX4_turnOne 153 = .ok (.iinc 8 (-1), 3) := dk_132 8 255 (dk_at dksX4_turnOne_6 10 rfl rfl)
theorem dX4_turnOne_156 : decode cX4_turnOne 156 = .ok (.goto (-30), 3) := dk_167 255 226 (dk_at dksX4_turnOne_6 13 rfl rfl)
theorem dX4_turnOne_159 : decode cX4_turnOne 159 = .ok (.iinc 5 1, 3) := dk_132 5 1 (dk_at dksX4_turnOne_6 16 rfl rfl)
theorem dX4_turnOne_162 : decode cX4_turnOne 162 = .ok (.goto (-85), 3) := dk_167 255 171 (dk_at dksX4_turnOne_6 19 rfl rfl)
theorem dX4_turnOne_165 : decode cX4_turnOne 165 = .ok (.iinc 4 1, 3) := dk_132 4 1 (dk_at dksX4_turnOne_7 0 rfl rfl)
theorem dX4_turnOne_168 : decode cX4_turnOne 168 = .ok (.goto (-107), 3) := dk_167 255 149 (dk_at dksX4_turnOne_7 3 rfl rfl)
theorem dX4_turnOne_171 : decode cX4_turnOne 171 = .ok (.return_, 1) := dk_177 (dk_at dksX4_turnOne_7 6 rfl rfl)
abbrev cX4_adds : ByteArray := prog_9_method_29_code
def yX4_adds : MethodName := ⟨RX4, "adds", "(IIIZ)V"⟩
def dkwX4_adds_10 : List UInt8 := [180, 0, 53, 21, 5, 4, 96, 4, 84, 132, 5, 1, 167, 255, 139, 177]
abbrev dktX4_adds_10 : List UInt8 := dkwX4_adds_10 ++ []
def dkwX4_adds_9 : List UInt8 := [104, 21, 5, 96, 4, 96, 46, 162, 0, 6, 167, 0, 21, 42, 180, 0, 32, 21, 6, 3, 79, 42]
abbrev dktX4_adds_9 : List UInt8 := dkwX4_adds_9 ++ dktX4_adds_10
def dkwX4_adds_8 : List UInt8 := [180, 0, 32, 21, 6, 92, 46, 4, 96, 79, 42, 180, 0, 32, 21, 6, 46, 42, 180, 0, 29, 16, 12, 27]
abbrev dktX4_adds_8 : List UInt8 := dkwX4_adds_8 ++ dktX4_adds_9
def dkwX4_adds_7 : List UInt8 := [182, 1, 43, 158, 0, 6, 167, 0, 72, 27, 28, 4, 100, 21, 5, 4, 96, 184, 1, 7, 54, 6, 42]
abbrev dktX4_adds_7 : List UInt8 := dkwX4_adds_7 ++ dktX4_adds_8
def dkwX4_adds_6 : List UInt8 := [180, 0, 53, 21, 5, 51, 153, 0, 94, 42, 27, 29, 28, 4, 100, 21, 5, 4, 96, 4, 21, 4]
abbrev dktX4_adds_6 : List UInt8 := dkwX4_adds_6 ++ dktX4_adds_7
def dkwX4_adds_5 : List UInt8 := [79, 132, 5, 1, 167, 255, 135, 3, 54, 5, 21, 5, 4, 96, 42, 180, 0, 23, 27, 46, 162, 0, 110, 42]
abbrev dktX4_adds_5 : List UInt8 := dkwX4_adds_5 ++ dktX4_adds_6
def dkwX4_adds_4 : List UInt8 := [167, 0, 4, 3, 84, 42, 180, 0, 32, 21, 7, 42, 180, 0, 32, 21, 7, 46, 21, 8, 96, 21, 6, 112]
abbrev dktX4_adds_4 : List UInt8 := dkwX4_adds_4 ++ dktX4_adds_5
def dkwX4_adds_3 : List UInt8 := [54, 8, 42, 180, 0, 53, 21, 5, 42, 180, 0, 32, 21, 7, 46, 21, 8, 96, 21, 6, 161, 0, 7, 4]
abbrev dktX4_adds_3 : List UInt8 := dkwX4_adds_3 ++ dktX4_adds_4
def dkwX4_adds_2 : List UInt8 := [21, 4, 182, 1, 43, 158, 0, 7, 3, 167, 0, 15, 42, 180, 0, 32, 27, 28, 21, 5, 184, 1, 7, 46]
abbrev dktX4_adds_2 : List UInt8 := dkwX4_adds_2 ++ dktX4_adds_3
def dkwX4_adds_1 : List UInt8 := [96, 46, 54, 6, 27, 28, 4, 100, 21, 5, 184, 1, 7, 54, 7, 42, 27, 29, 28, 4, 100, 21, 5, 5]
abbrev dktX4_adds_1 : List UInt8 := dkwX4_adds_1 ++ dktX4_adds_2
def dkwX4_adds_0 : List UInt8 := [3, 54, 5, 21, 5, 42, 180, 0, 23, 27, 46, 162, 0, 116, 42, 180, 0, 29, 16, 12, 27, 104, 21, 5]
abbrev dktX4_adds_0 : List UInt8 := dkwX4_adds_0 ++ dktX4_adds_1
theorem dksX4_adds_0 : cX4_adds.data.toList.drop 0 = dktX4_adds_0 := by decide +kernel
theorem dksX4_adds_1 : cX4_adds.data.toList.drop 24 = dktX4_adds_1 := dk_seg dksX4_adds_0 24 rfl rfl
theorem dksX4_adds_2 : cX4_adds.data.toList.drop 48 = dktX4_adds_2 := dk_seg dksX4_adds_1 24 rfl rfl
theorem dksX4_adds_3 : cX4_adds.data.toList.drop 72 = dktX4_adds_3 := dk_seg dksX4_adds_2 24 rfl rfl
theorem dksX4_adds_4 : cX4_adds.data.toList.drop 96 = dktX4_adds_4 := dk_seg dksX4_adds_3 24 rfl rfl
theorem dksX4_adds_5 : cX4_adds.data.toList.drop 120 = dktX4_adds_5 := dk_seg dksX4_adds_4 24 rfl rfl
theorem dksX4_adds_6 : cX4_adds.data.toList.drop 144 = dktX4_adds_6 := dk_seg dksX4_adds_5 24 rfl rfl
theorem dksX4_adds_7 : cX4_adds.data.toList.drop 166 = dktX4_adds_7 := dk_seg dksX4_adds_6 22 rfl rfl
theorem dksX4_adds_8 : cX4_adds.data.toList.drop 189 = dktX4_adds_8 := dk_seg dksX4_adds_7 23 rfl rfl
theorem dksX4_adds_9 : cX4_adds.data.toList.drop 213 = dktX4_adds_9 := dk_seg dksX4_adds_8 24 rfl rfl
theorem dksX4_adds_10 : cX4_adds.data.toList.drop 235 = dktX4_adds_10 := dk_seg dksX4_adds_9 22 rfl rfl
theorem dX4_adds_0 : decode cX4_adds 0 = .ok (.iconst 0, 1) := dk_3 (dk_at dksX4_adds_0 0 rfl rfl)
theorem dX4_adds_1 : decode cX4_adds 1 = .ok (.istore 5, 2) := dk_54 5 (dk_at dksX4_adds_0 1 rfl rfl)
theorem dX4_adds_3 : decode cX4_adds 3 = .ok (.iload 5, 2) := dk_21 5 (dk_at dksX4_adds_0 3 rfl rfl)
theorem dX4_adds_5 : decode cX4_adds 5 = .ok (.aload_n 0, 1) := dk_42 (dk_at dksX4_adds_0 5 rfl rfl)
theorem dX4_adds_6 : decode cX4_adds 6 = .ok (.getfield 23, 3) := dk_180 0 23 (dk_at dksX4_adds_0 6 rfl rfl)
theorem dX4_adds_9 : decode cX4_adds 9 = .ok (.iload_n 1, 1) := dk_27 (dk_at dksX4_adds_0 9 rfl rfl)
theorem dX4_adds_10 : decode cX4_adds 10 = .ok (.iaload, 1) := dk_46 (dk_at dksX4_adds_0 10 rfl rfl)
theorem dX4_adds_11 : decode cX4_adds 11 = .ok (.if_icmp .ge 116, 3) := dk_162 0 116 (dk_at dksX4_adds_0 11 rfl rfl)
theorem dX4_adds_14 : decode cX4_adds 14 = .ok (.aload_n 0, 1) := dk_42 (dk_at dksX4_adds_0 14 rfl rfl)
theorem dX4_adds_15 : decode cX4_adds 15 = .ok (.getfield 29, 3) := dk_180 0 29 (dk_at dksX4_adds_0 15 rfl rfl)
theorem dX4_adds_18 : decode cX4_adds 18 = .ok (.bipush 12, 2) := dk_16 12 (dk_at dksX4_adds_0 18 rfl rfl)
theorem dX4_adds_20 : decode cX4_adds 20 = .ok (.iload_n 1, 1) := dk_27 (dk_at dksX4_adds_0 20 rfl rfl)
theorem dX4_adds_21 : decode cX4_adds 21 = .ok (.imul, 1) := dk_104 (dk_at dksX4_adds_0 21 rfl rfl)
theorem dX4_adds_22 : decode cX4_adds 22 = .ok (.iload 5, 2) := dk_21 5 (dk_at dksX4_adds_0 22 rfl rfl)
theorem dX4_adds_24 : decode cX4_adds 24 = .ok (.iadd, 1) := dk_96 (dk_at dksX4_adds_1 0 rfl rfl)
theorem dX4_adds_25 : decode cX4_adds 25 = .ok (.iaload, 1) := dk_46 (dk_at dksX4_adds_1 1 rfl rfl)
theorem dX4_adds_26 : decode cX4_adds 26 = .ok (.istore 6, 2) := dk_54 6 (dk_at dksX4_adds_1 2 rfl rfl)
theorem dX4_adds_28 : decode cX4_adds 28 = .ok (.iload_n 1, 1) := dk_27 (dk_at dksX4_adds_1 4 rfl rfl)
theorem dX4_adds_29 : decode cX4_adds 29 = .ok (.iload_n 2, 1) := dk_28 (dk_at dksX4_adds_1 5 rfl rfl)
theorem dX4_adds_30 : decode cX4_adds 30 = .ok (.iconst 1, 1) := dk_4 (dk_at dksX4_adds_1 6 rfl rfl)
theorem dX4_adds_31 : decode cX4_adds 31 = .ok (.isub, 1) := dk_100 (dk_at dksX4_adds_1 7 rfl rfl)
theorem dX4_adds_32 : decode cX4_adds 32 = .ok (.iload 5, 2) := dk_21 5 (dk_at dksX4_adds_1 8 rfl rfl)
theorem dX4_adds_34 : decode cX4_adds 34 = .ok (.invokestatic 263, 3) := dk_184 1 7 (dk_at dksX4_adds_1 10 rfl rfl)
theorem dX4_adds_37 : decode cX4_adds 37 = .ok (.istore 7, 2) := dk_54 7 (dk_at dksX4_adds_1 13 rfl rfl)
theorem dX4_adds_39 : decode cX4_adds 39 = .ok (.aload_n 0, 1) := dk_42 (dk_at dksX4_adds_1 15 rfl rfl)
theorem dX4_adds_40 : decode cX4_adds 40 = .ok (.iload_n 1, 1) := dk_27 (dk_at dksX4_adds_1 16 rfl rfl)
theorem dX4_adds_41 : decode cX4_adds 41 = .ok (.iload_n 3, 1) := dk_29 (dk_at dksX4_adds_1 17 rfl rfl)
theorem dX4_adds_42 : decode cX4_adds 42 = .ok (.iload_n 2, 1) := dk_28 (dk_at dksX4_adds_1 18 rfl rfl)
theorem dX4_adds_43 : decode cX4_adds 43 = .ok (.iconst 1, 1) := dk_4 (dk_at dksX4_adds_1 19 rfl rfl)
theorem dX4_adds_44 : decode cX4_adds 44 = .ok (.isub, 1) := dk_100 (dk_at dksX4_adds_1 20 rfl rfl)
theorem dX4_adds_45 : decode cX4_adds 45 = .ok (.iload 5, 2) := dk_21 5 (dk_at dksX4_adds_1 21 rfl rfl)
theorem dX4_adds_47 : decode cX4_adds 47 = .ok (.iconst 2, 1) := dk_5 (dk_at dksX4_adds_1 23 rfl rfl)
theorem dX4_adds_48 : decode cX4_adds 48 = .ok (.iload 4, 2) := dk_21 4 (dk_at dksX4_adds_2 0 rfl rfl)
theorem dX4_adds_50 : decode cX4_adds 50 = .ok (.invokevirtual 299, 3) := dk_182 1 43 (dk_at dksX4_adds_2 2 rfl rfl)
theorem dX4_adds_53 : decode cX4_adds 53 = .ok (.ifCond .le 7, 3) := dk_158 0 7 (dk_at dksX4_adds_2 5 rfl rfl)
theorem dX4_adds_56 : decode cX4_adds 56 = .ok (.iconst 0, 1) := dk_3 (dk_at dksX4_adds_2 8 rfl rfl)
theorem dX4_adds_57 : decode cX4_adds 57 = .ok (.goto 15, 3) := dk_167 0 15 (dk_at dksX4_adds_2 9 rfl rfl)
theorem dX4_adds_60 : decode cX4_adds 60 = .ok (.aload_n 0, 1) := dk_42 (dk_at dksX4_adds_2 12 rfl rfl)
theorem dX4_adds_61 : decode cX4_adds 61 = .ok (.getfield 32, 3) := dk_180 0 32 (dk_at dksX4_adds_2 13 rfl rfl)
theorem dX4_adds_64 : decode cX4_adds 64 = .ok (.iload_n 1, 1) := dk_27 (dk_at dksX4_adds_2 16 rfl rfl)
theorem dX4_adds_65 : decode cX4_adds 65 = .ok (.iload_n 2, 1) := dk_28 (dk_at dksX4_adds_2 17 rfl rfl)
theorem dX4_adds_66 : decode cX4_adds 66 = .ok (.iload 5, 2) := dk_21 5 (dk_at dksX4_adds_2 18 rfl rfl)
theorem dX4_adds_68 : decode cX4_adds 68 = .ok (.invokestatic 263, 3) := dk_184 1 7 (dk_at dksX4_adds_2 20 rfl rfl)
theorem dX4_adds_71 : decode cX4_adds 71 = .ok (.iaload, 1) := dk_46 (dk_at dksX4_adds_2 23 rfl rfl)
theorem dX4_adds_72 : decode cX4_adds 72 = .ok (.istore 8, 2) := dk_54 8 (dk_at dksX4_adds_3 0 rfl rfl)
theorem dX4_adds_74 : decode cX4_adds 74 = .ok (.aload_n 0, 1) := dk_42 (dk_at dksX4_adds_3 2 rfl rfl)
theorem dX4_adds_75 : decode cX4_adds 75 = .ok (.getfield 53, 3) := dk_180 0 53 (dk_at dksX4_adds_3 3 rfl rfl)
theorem dX4_adds_78 : decode cX4_adds 78 = .ok (.iload 5, 2) := dk_21 5 (dk_at dksX4_adds_3 6 rfl rfl)
theorem dX4_adds_80 : decode cX4_adds 80 = .ok (.aload_n 0, 1) := dk_42 (dk_at dksX4_adds_3 8 rfl rfl)
theorem dX4_adds_81 : decode cX4_adds 81 = .ok (.getfield 32, 3) := dk_180 0 32 (dk_at dksX4_adds_3 9 rfl rfl)
theorem dX4_adds_84 : decode cX4_adds 84 = .ok (.iload 7, 2) := dk_21 7 (dk_at dksX4_adds_3 12 rfl rfl)
theorem dX4_adds_86 : decode cX4_adds 86 = .ok (.iaload, 1) := dk_46 (dk_at dksX4_adds_3 14 rfl rfl)
theorem dX4_adds_87 : decode cX4_adds 87 = .ok (.iload 8, 2) := dk_21 8 (dk_at dksX4_adds_3 15 rfl rfl)
theorem dX4_adds_89 : decode cX4_adds 89 = .ok (.iadd, 1) := dk_96 (dk_at dksX4_adds_3 17 rfl rfl)
theorem dX4_adds_90 : decode cX4_adds 90 = .ok (.iload 6, 2) := dk_21 6 (dk_at dksX4_adds_3 18 rfl rfl)
theorem dX4_adds_92 : decode cX4_adds 92 = .ok (.if_icmp .lt 7, 3) := dk_161 0 7 (dk_at dksX4_adds_3 20 rfl rfl)
theorem dX4_adds_95 : decode cX4_adds 95 = .ok (.iconst 1, 1) := dk_4 (dk_at dksX4_adds_3 23 rfl rfl)
theorem dX4_adds_96 : decode cX4_adds 96 = .ok (.goto 4, 3) := dk_167 0 4 (dk_at dksX4_adds_4 0 rfl rfl)
theorem dX4_adds_99 : decode cX4_adds 99 = .ok (.iconst 0, 1) := dk_3 (dk_at dksX4_adds_4 3 rfl rfl)
theorem dX4_adds_100 : decode cX4_adds 100 = .ok (.bastore, 1) := dk_84 (dk_at dksX4_adds_4 4 rfl rfl)
theorem dX4_adds_101 : decode cX4_adds 101 = .ok (.aload_n 0, 1) := dk_42 (dk_at dksX4_adds_4 5 rfl rfl)
theorem dX4_adds_102 : decode cX4_adds 102 = .ok (.getfield 32, 3) := dk_180 0 32 (dk_at dksX4_adds_4 6 rfl rfl)
theorem dX4_adds_105 : decode cX4_adds 105 = .ok (.iload 7, 2) := dk_21 7 (dk_at dksX4_adds_4 9 rfl rfl)
theorem dX4_adds_107 : decode cX4_adds 107 = .ok (.aload_n 0, 1) := dk_42 (dk_at dksX4_adds_4 11 rfl rfl)
theorem dX4_adds_108 : decode cX4_adds 108 = .ok (.getfield 32, 3) := dk_180 0 32 (dk_at dksX4_adds_4 12 rfl rfl)
theorem dX4_adds_111 : decode cX4_adds 111 = .ok (.iload 7, 2) := dk_21 7 (dk_at dksX4_adds_4 15 rfl rfl)
theorem dX4_adds_113 : decode cX4_adds 113 = .ok (.iaload, 1) := dk_46 (dk_at dksX4_adds_4 17 rfl rfl)
theorem dX4_adds_114 : decode cX4_adds 114 = .ok (.iload 8, 2) := dk_21 8 (dk_at dksX4_adds_4 18 rfl rfl)
theorem dX4_adds_116 : decode cX4_adds 116 = .ok (.iadd, 1) := dk_96 (dk_at dksX4_adds_4 20 rfl rfl)
theorem dX4_adds_117 : decode cX4_adds 117 = .ok (.iload 6, 2) := dk_21 6 (dk_at dksX4_adds_4 21 rfl rfl)
theorem dX4_adds_119 : decode cX4_adds 119 = .ok (.irem, 1) := dk_112 (dk_at dksX4_adds_4 23 rfl rfl)
theorem dX4_adds_120 : decode cX4_adds 120 = .ok (.iastore, 1) := dk_79 (dk_at dksX4_adds_5 0 rfl rfl)
theorem dX4_adds_121 : decode cX4_adds 121 = .ok (.iinc 5 1, 3) := dk_132 5 1 (dk_at dksX4_adds_5 1 rfl rfl)
theorem dX4_adds_124 : decode cX4_adds 124 = .ok (.goto (-121), 3) := dk_167 255 135 (dk_at dksX4_adds_5 4 rfl rfl)
theorem dX4_adds_127 : decode cX4_adds 127 = .ok (.iconst 0, 1) := dk_3 (dk_at dksX4_adds_5 7 rfl rfl)
theorem dX4_adds_128 : decode cX4_adds 128 = .ok (.istore 5, 2) := dk_54 5 (dk_at dksX4_adds_5 8 rfl rfl)
theorem dX4_adds_130 : decode cX4_adds 130 = .ok (.iload 5, 2) := dk_21 5 (dk_at dksX4_adds_5 10 rfl rfl)
theorem dX4_adds_132 : decode cX4_adds 132 = .ok (.iconst 1, 1) := dk_4 (dk_at dksX4_adds_5 12 rfl rfl)
theorem dX4_adds_133 : decode cX4_adds 133 = .ok (.iadd, 1) := dk_96 (dk_at dksX4_adds_5 13 rfl rfl)
theorem dX4_adds_134 : decode cX4_adds 134 = .ok (.aload_n 0, 1) := dk_42 (dk_at dksX4_adds_5 14 rfl rfl)
theorem dX4_adds_135 : decode cX4_adds 135 = .ok (.getfield 23, 3) := dk_180 0 23 (dk_at dksX4_adds_5 15 rfl rfl)
theorem dX4_adds_138 : decode cX4_adds 138 = .ok (.iload_n 1, 1) := dk_27 (dk_at dksX4_adds_5 18 rfl rfl)
theorem dX4_adds_139 : decode cX4_adds 139 = .ok (.iaload, 1) := dk_46 (dk_at dksX4_adds_5 19 rfl rfl)
theorem dX4_adds_140 : decode cX4_adds 140 = .ok (.if_icmp .ge 110, 3) := dk_162 0 110 (dk_at dksX4_adds_5 20 rfl rfl)
theorem dX4_adds_143 : decode cX4_adds 143 = .ok (.aload_n 0, 1) := dk_42 (dk_at dksX4_adds_5 23 rfl rfl)
theorem dX4_adds_144 : decode cX4_adds 144 = .ok (.getfield 53, 3) := dk_180 0 53 (dk_at dksX4_adds_6 0 rfl rfl)
theorem dX4_adds_147 : decode cX4_adds 147 = .ok (.iload 5, 2) := dk_21 5 (dk_at dksX4_adds_6 3 rfl rfl)
theorem dX4_adds_149 : decode cX4_adds 149 = .ok (.baload, 1) := dk_51 (dk_at dksX4_adds_6 5 rfl rfl)
theorem dX4_adds_150 : decode cX4_adds 150 = .ok (.ifCond .eq 94, 3) := dk_153 0 94 (dk_at dksX4_adds_6 6 rfl rfl)
theorem dX4_adds_153 : decode cX4_adds 153 = .ok (.aload_n 0, 1) := dk_42 (dk_at dksX4_adds_6 9 rfl rfl)
theorem dX4_adds_154 : decode cX4_adds 154 = .ok (.iload_n 1, 1) := dk_27 (dk_at dksX4_adds_6 10 rfl rfl)
theorem dX4_adds_155 : decode cX4_adds 155 = .ok (.iload_n 3, 1) := dk_29 (dk_at dksX4_adds_6 11 rfl rfl)
theorem dX4_adds_156 : decode cX4_adds 156 = .ok (.iload_n 2, 1) := dk_28 (dk_at dksX4_adds_6 12 rfl rfl)
theorem dX4_adds_157 : decode cX4_adds 157 = .ok (.iconst 1, 1) := dk_4 (dk_at dksX4_adds_6 13 rfl rfl)
theorem dX4_adds_158 : decode cX4_adds 158 = .ok (.isub, 1) := dk_100 (dk_at dksX4_adds_6 14 rfl rfl)
theorem dX4_adds_159 : decode cX4_adds 159 = .ok (.iload 5, 2) := dk_21 5 (dk_at dksX4_adds_6 15 rfl rfl)
theorem dX4_adds_161 : decode cX4_adds 161 = .ok (.iconst 1, 1) := dk_4 (dk_at dksX4_adds_6 17 rfl rfl)
theorem dX4_adds_162 : decode cX4_adds 162 = .ok (.iadd, 1) := dk_96 (dk_at dksX4_adds_6 18 rfl rfl)
theorem dX4_adds_163 : decode cX4_adds 163 = .ok (.iconst 1, 1) := dk_4 (dk_at dksX4_adds_6 19 rfl rfl)
theorem dX4_adds_164 : decode cX4_adds 164 = .ok (.iload 4, 2) := dk_21 4 (dk_at dksX4_adds_6 20 rfl rfl)
theorem dX4_adds_166 : decode cX4_adds 166 = .ok (.invokevirtual 299, 3) := dk_182 1 43 (dk_at dksX4_adds_7 0 rfl rfl)
theorem dX4_adds_169 : decode cX4_adds 169 = .ok (.ifCond .le 6, 3) := dk_158 0 6 (dk_at dksX4_adds_7 3 rfl rfl)
theorem dX4_adds_172 : decode cX4_adds 172 = .ok (.goto 72, 3) := dk_167 0 72 (dk_at dksX4_adds_7 6 rfl rfl)
theorem dX4_adds_175 : decode cX4_adds 175 = .ok (.iload_n 1, 1) := dk_27 (dk_at dksX4_adds_7 9 rfl rfl)
theorem dX4_adds_176 : decode cX4_adds 176 = .ok (.iload_n 2, 1) := dk_28 (dk_at dksX4_adds_7 10 rfl rfl)
theorem dX4_adds_177 : decode cX4_adds 177 = .ok (.iconst 1, 1) := dk_4 (dk_at dksX4_adds_7 11 rfl rfl)
theorem dX4_adds_178 : decode cX4_adds 178 = .ok (.isub, 1) := dk_100 (dk_at dksX4_adds_7 12 rfl rfl)
theorem dX4_adds_179 : decode cX4_adds 179 = .ok (.iload 5, 2) := dk_21 5 (dk_at dksX4_adds_7 13 rfl rfl)
theorem dX4_adds_181 : decode cX4_adds 181 = .ok (.iconst 1, 1) := dk_4 (dk_at dksX4_adds_7 15 rfl rfl)
theorem dX4_adds_182 : decode cX4_adds 182 = .ok (.iadd, 1) := dk_96 (dk_at dksX4_adds_7 16 rfl rfl)
theorem dX4_adds_183 : decode cX4_adds 183 = .ok (.invokestatic 263, 3) := dk_184 1 7 (dk_at dksX4_adds_7 17 rfl rfl)
theorem dX4_adds_186 : decode cX4_adds 186 = .ok (.istore 6, 2) := dk_54 6 (dk_at dksX4_adds_7 20 rfl rfl)
theorem dX4_adds_188 : decode cX4_adds 188 = .ok (.aload_n 0, 1) := dk_42 (dk_at dksX4_adds_7 22 rfl rfl)
theorem dX4_adds_189 : decode cX4_adds 189 = .ok (.getfield 32, 3) := dk_180 0 32 (dk_at dksX4_adds_8 0 rfl rfl)
theorem dX4_adds_192 : decode cX4_adds 192 = .ok (.iload 6, 2) := dk_21 6 (dk_at dksX4_adds_8 3 rfl rfl)
theorem dX4_adds_194 : decode cX4_adds 194 = .ok (.dup2, 1) := dk_92 (dk_at dksX4_adds_8 5 rfl rfl)
theorem dX4_adds_195 : decode cX4_adds 195 = .ok (.iaload, 1) := dk_46 (dk_at dksX4_adds_8 6 rfl rfl)
theorem dX4_adds_196 : decode cX4_adds 196 = .ok (.iconst 1, 1) := dk_4 (dk_at dksX4_adds_8 7 rfl rfl)
theorem dX4_adds_197 : decode cX4_adds 197 = .ok (.iadd, 1) := dk_96 (dk_at dksX4_adds_8 8 rfl rfl)
theorem dX4_adds_198 : decode cX4_adds 198 = .ok (.iastore, 1) := dk_79 (dk_at dksX4_adds_8 9 rfl rfl)
theorem dX4_adds_199 : decode cX4_adds 199 = .ok (.aload_n 0, 1) := dk_42 (dk_at dksX4_adds_8 10 rfl rfl)
theorem dX4_adds_200 : decode cX4_adds 200 = .ok (.getfield 32, 3) := dk_180 0 32 (dk_at dksX4_adds_8 11 rfl rfl)
theorem dX4_adds_203 : decode cX4_adds 203 = .ok (.iload 6, 2) := dk_21 6 (dk_at dksX4_adds_8 14 rfl rfl)
theorem dX4_adds_205 : decode cX4_adds 205 = .ok (.iaload, 1) := dk_46 (dk_at dksX4_adds_8 16 rfl rfl)
theorem dX4_adds_206 : decode cX4_adds 206 = .ok (.aload_n 0, 1) := dk_42 (dk_at dksX4_adds_8 17 rfl rfl)
theorem dX4_adds_207 : decode cX4_adds 207 = .ok (.getfield 29, 3) := dk_180 0 29 (dk_at dksX4_adds_8 18 rfl rfl)
theorem dX4_adds_210 : decode cX4_adds 210 = .ok (.bipush 12, 2) := dk_16 12 (dk_at dksX4_adds_8 21 rfl rfl)
theorem dX4_adds_212 : decode cX4_adds 212 = .ok (.iload_n 1, 1) := dk_27 (dk_at dksX4_adds_8 23 rfl rfl)
theorem dX4_adds_213 : decode cX4_adds 213 = .ok (.imul, 1) := dk_104 (dk_at dksX4_adds_9 0 rfl rfl)
theorem dX4_adds_214 : decode cX4_adds 214 = .ok (.iload 5, 2) := dk_21 5 (dk_at dksX4_adds_9 1 rfl rfl)
theorem dX4_adds_216 : decode cX4_adds 216 = .ok (.iadd, 1) := dk_96 (dk_at dksX4_adds_9 3 rfl rfl)
theorem dX4_adds_217 : decode cX4_adds 217 = .ok (.iconst 1, 1) := dk_4 (dk_at dksX4_adds_9 4 rfl rfl)
theorem dX4_adds_218 : decode cX4_adds 218 = .ok (.iadd, 1) := dk_96 (dk_at dksX4_adds_9 5 rfl rfl)
theorem dX4_adds_219 : decode cX4_adds 219 = .ok (.iaload, 1) := dk_46 (dk_at dksX4_adds_9 6 rfl rfl)
theorem dX4_adds_220 : decode cX4_adds 220 = .ok (.if_icmp .ge 6, 3) := dk_162 0 6 (dk_at dksX4_adds_9 7 rfl rfl)
theorem dX4_adds_223 : decode cX4_adds 223 = .ok (.goto 21, 3) := dk_167 0 21 (dk_at dksX4_adds_9 10 rfl rfl)
theorem dX4_adds_226 : decode cX4_adds 226 = .ok (.aload_n 0, 1) := dk_42 (dk_at dksX4_adds_9 13 rfl rfl)
theorem dX4_adds_227 : decode cX4_adds 227 = .ok (.getfield 32, 3) := dk_180 0 32 (dk_at dksX4_adds_9 14 rfl rfl)
theorem dX4_adds_230 : decode cX4_adds 230 = .ok (.iload 6, 2) := dk_21 6 (dk_at dksX4_adds_9 17 rfl rfl)
theorem dX4_adds_232 : decode cX4_adds 232 = .ok (.iconst 0, 1) := dk_3 (dk_at dksX4_adds_9 19 rfl rfl)
theorem dX4_adds_233 : decode cX4_adds 233 = .ok (.iastore, 1) := dk_79 (dk_at dksX4_adds_9 20 rfl rfl)
theorem dX4_adds_234 : decode cX4_adds 234 = .ok (.aload_n 0, 1) := dk_42 (dk_at dksX4_adds_9 21 rfl rfl)
theorem dX4_adds_235 : decode cX4_adds 235 = .ok (.getfield 53, 3) := dk_180 0 53 (dk_at dksX4_adds_10 0 rfl rfl)
theorem dX4_adds_238 : decode cX4_adds 238 = .ok (.iload 5, 2) := dk_21 5 (dk_at dksX4_adds_10 3 rfl rfl)
theorem dX4_adds_240 : decode cX4_adds 240 = .ok (.iconst 1, 1) := dk_4 (dk_at dksX4_adds_10 5 rfl rfl)
theorem dX4_adds_241 : decode cX4_adds 241 = .ok (.iadd, 1) := dk_96 (dk_at dksX4_adds_10 6 rfl rfl)
theorem dX4_adds_242 : decode cX4_adds 242 = .ok (.iconst 1, 1) := dk_4 (dk_at dksX4_adds_10 7 rfl rfl)
theorem dX4_adds_243 : decode cX4_adds 243 = .ok (.bastore, 1) := dk_84 (dk_at dksX4_adds_10 8 rfl rfl)
theorem dX4_adds_244 : decode cX4_adds 244 = .ok (.iinc 5 1, 3) := dk_132 5 1 (dk_at dksX4_adds_10 9 rfl rfl)
theorem dX4_adds_247 : decode cX4_adds 247 = .ok (.goto (-117), 3) := dk_167 255 139 (dk_at dksX4_adds_10 12 rfl rfl)
theorem dX4_adds_250 : decode cX4_adds 250 = .ok (.return_, 1) := dk_177 (dk_at dksX4_adds_10 15 rfl rfl)
abbrev cX4_mishapped : ByteArray := prog_9_method_28_code
def yX4_mishapped : MethodName := ⟨RX4, "mishapped", "(IIIIIZ)I"⟩
def dkwX4_mishapped_5 : List UInt8 := [4, 167, 0, 4, 3, 96, 54, 7, 132, 8, 1, 167, 255, 181, 21, 7, 172]
abbrev dktX4_mishapped_5 : List UInt8 := dkwX4_mishapped_5 ++ []
def dkwX4_mishapped_4 : List UInt8 := [42, 180, 0, 47, 21, 8, 46, 21, 4, 160, 0, 19, 42, 180, 0, 50, 21, 8, 46, 21, 5, 160, 0, 7]
abbrev dktX4_mishapped_4 : List UInt8 := dkwX4_mishapped_4 ++ dktX4_mishapped_5
def dkwX4_mishapped_3 : List UInt8 := [21, 7, 42, 180, 0, 41, 21, 8, 46, 28, 160, 0, 42, 42, 180, 0, 44, 21, 8, 46, 29, 160, 0, 31]
abbrev dktX4_mishapped_3 : List UInt8 := dkwX4_mishapped_3 ++ dktX4_mishapped_4
def dkwX4_mishapped_2 : List UInt8 := [54, 7, 16, 20, 27, 104, 54, 8, 21, 8, 16, 20, 27, 104, 42, 180, 0, 38, 27, 46, 96, 162, 0, 65]
abbrev dktX4_mishapped_2 : List UInt8 := dkwX4_mishapped_2 ++ dktX4_mishapped_3
def dkwX4_mishapped_1 : List UInt8 := [180, 1, 37, 21, 4, 160, 0, 16, 42, 180, 1, 40, 21, 5, 160, 0, 7, 4, 167, 0, 4, 3, 172, 3]
abbrev dktX4_mishapped_1 : List UInt8 := dkwX4_mishapped_1 ++ dktX4_mishapped_2
def dkwX4_mishapped_0 : List UInt8 := [21, 6, 153, 0, 43, 42, 180, 0, 57, 28, 160, 0, 33, 42, 180, 1, 34, 29, 160, 0, 25, 42]
abbrev dktX4_mishapped_0 : List UInt8 := dkwX4_mishapped_0 ++ dktX4_mishapped_1
theorem dksX4_mishapped_0 : cX4_mishapped.data.toList.drop 0 = dktX4_mishapped_0 := by decide +kernel
theorem dksX4_mishapped_1 : cX4_mishapped.data.toList.drop 22 = dktX4_mishapped_1 := dk_seg dksX4_mishapped_0 22 rfl rfl
theorem dksX4_mishapped_2 : cX4_mishapped.data.toList.drop 46 = dktX4_mishapped_2 := dk_seg dksX4_mishapped_1 24 rfl rfl
theorem dksX4_mishapped_3 : cX4_mishapped.data.toList.drop 70 = dktX4_mishapped_3 := dk_seg dksX4_mishapped_2 24 rfl rfl
theorem dksX4_mishapped_4 : cX4_mishapped.data.toList.drop 94 = dktX4_mishapped_4 := dk_seg dksX4_mishapped_3 24 rfl rfl
theorem dksX4_mishapped_5 : cX4_mishapped.data.toList.drop 118 = dktX4_mishapped_5 := dk_seg dksX4_mishapped_4 24 rfl rfl
theorem dX4_mishapped_0 : decode cX4_mishapped 0 = .ok (.iload 6, 2) := dk_21 6 (dk_at dksX4_mishapped_0 0 rfl rfl)
theorem dX4_mishapped_2 : decode cX4_mishapped 2 = .ok (.ifCond .eq 43, 3) := dk_153 0 43 (dk_at dksX4_mishapped_0 2 rfl rfl)
theorem dX4_mishapped_5 : decode cX4_mishapped 5 = .ok (.aload_n 0, 1) := dk_42 (dk_at dksX4_mishapped_0 5 rfl rfl)
theorem dX4_mishapped_6 : decode cX4_mishapped 6 = .ok (.getfield 57, 3) := dk_180 0 57 (dk_at dksX4_mishapped_0 6 rfl rfl)
theorem dX4_mishapped_9 : decode cX4_mishapped 9 = .ok (.iload_n 2, 1) := dk_28 (dk_at dksX4_mishapped_0 9 rfl rfl)
theorem dX4_mishapped_10 : decode cX4_mishapped 10 = .ok (.if_icmp .ne 33, 3) := dk_160 0 33 (dk_at dksX4_mishapped_0 10 rfl rfl)
theorem dX4_mishapped_13 : decode cX4_mishapped 13 = .ok (.aload_n 0, 1) := dk_42 (dk_at dksX4_mishapped_0 13 rfl rfl)
theorem dX4_mishapped_14 : decode cX4_mishapped 14 = .ok (.getfield 290, 3) := dk_180 1 34 (dk_at dksX4_mishapped_0 14 rfl rfl)
theorem dX4_mishapped_17 : decode cX4_mishapped 17 = .ok (.iload_n 3, 1) := dk_29 (dk_at dksX4_mishapped_0 17 rfl rfl)
theorem dX4_mishapped_18 : decode cX4_mishapped 18 = .ok (.if_icmp .ne 25, 3) := dk_160 0 25 (dk_at dksX4_mishapped_0 18 rfl rfl)
theorem dX4_mishapped_21 : decode cX4_mishapped 21 = .ok (.aload_n 0, 1) := dk_42 (dk_at dksX4_mishapped_0 21 rfl rfl)
theorem dX4_mishapped_22 : decode cX4_mishapped 22 = .ok (.getfield 293, 3) := dk_180 1 37 (dk_at dksX4_mishapped_1 0 rfl rfl)
theorem dX4_mishapped_25 : decode cX4_mishapped 25 = .ok (.iload 4, 2) := dk_21 4 (dk_at dksX4_mishapped_1 3 rfl rfl)
theorem dX4_mishapped_27 : decode cX4_mishapped 27 = .ok (.if_icmp .ne 16, 3) := dk_160 0 16 (dk_at dksX4_mishapped_1 5 rfl rfl)
theorem dX4_mishapped_30 : decode cX4_mishapped 30 = .ok (.aload_n 0, 1) := dk_42 (dk_at dksX4_mishapped_1 8 rfl rfl)
theorem dX4_mishapped_31 : decode cX4_mishapped 31 = .ok (.getfield 296, 3) := dk_180 1 40 (dk_at dksX4_mishapped_1 9 rfl rfl)
theorem dX4_mishapped_34 : decode cX4_mishapped 34 = .ok (.iload 5, 2) := dk_21 5 (dk_at dksX4_mishapped_1 12 rfl rfl)
theorem dX4_mishapped_36 : decode cX4_mishapped 36 = .ok (.if_icmp .ne 7, 3) := dk_160 0 7 (dk_at dksX4_mishapped_1 14 rfl rfl)
theorem dX4_mishapped_39 : decode cX4_mishapped 39 = .ok (.iconst 1, 1) := dk_4 (dk_at dksX4_mishapped_1 17 rfl rfl)
theorem dX4_mishapped_40 : decode cX4_mishapped 40 = .ok (.goto 4, 3) := dk_167 0 4 (dk_at dksX4_mishapped_1 18 rfl rfl)
theorem dX4_mishapped_43 : decode cX4_mishapped 43 = .ok (.iconst 0, 1) := dk_3 (dk_at dksX4_mishapped_1 21 rfl rfl)
theorem dX4_mishapped_44 : decode cX4_mishapped 44 = .ok (.ireturn, 1) := dk_172 (dk_at dksX4_mishapped_1 22 rfl rfl)
theorem dX4_mishapped_45 : decode cX4_mishapped 45 = .ok (.iconst 0, 1) := dk_3 (dk_at dksX4_mishapped_1 23 rfl rfl)
theorem dX4_mishapped_46 : decode cX4_mishapped 46 = .ok (.istore 7, 2) := dk_54 7 (dk_at dksX4_mishapped_2 0 rfl rfl)
theorem dX4_mishapped_48 : decode cX4_mishapped 48 = .ok (.bipush 20, 2) := dk_16 20 (dk_at dksX4_mishapped_2 2 rfl rfl)
theorem dX4_mishapped_50 : decode cX4_mishapped 50 = .ok (.iload_n 1, 1) := dk_27 (dk_at dksX4_mishapped_2 4 rfl rfl)
theorem dX4_mishapped_51 : decode cX4_mishapped 51 = .ok (.imul, 1) := dk_104 (dk_at dksX4_mishapped_2 5 rfl rfl)
theorem dX4_mishapped_52 : decode cX4_mishapped 52 = .ok (.istore 8, 2) := dk_54 8 (dk_at dksX4_mishapped_2 6 rfl rfl)
theorem dX4_mishapped_54 : decode cX4_mishapped 54 = .ok (.iload 8, 2) := dk_21 8 (dk_at dksX4_mishapped_2 8 rfl rfl)
theorem dX4_mishapped_56 : decode cX4_mishapped 56 = .ok (.bipush 20, 2) := dk_16 20 (dk_at dksX4_mishapped_2 10 rfl rfl)
theorem dX4_mishapped_58 : decode cX4_mishapped 58 = .ok (.iload_n 1, 1) := dk_27 (dk_at dksX4_mishapped_2 12 rfl rfl)
theorem dX4_mishapped_59 : decode cX4_mishapped 59 = .ok (.imul, 1) := dk_104 (dk_at dksX4_mishapped_2 13 rfl rfl)
theorem dX4_mishapped_60 : decode cX4_mishapped 60 = .ok (.aload_n 0, 1) := dk_42 (dk_at dksX4_mishapped_2 14 rfl rfl)
theorem dX4_mishapped_61 : decode cX4_mishapped 61 = .ok (.getfield 38, 3) := dk_180 0 38 (dk_at dksX4_mishapped_2 15 rfl rfl)
theorem dX4_mishapped_64 : decode cX4_mishapped 64 = .ok (.iload_n 1, 1) := dk_27 (dk_at dksX4_mishapped_2 18 rfl rfl)
theorem dX4_mishapped_65 : decode cX4_mishapped 65 = .ok (.iaload, 1) := dk_46 (dk_at dksX4_mishapped_2 19 rfl rfl)
theorem dX4_mishapped_66 : decode cX4_mishapped 66 = .ok (.iadd, 1) := dk_96 (dk_at dksX4_mishapped_2 20 rfl rfl)
theorem dX4_mishapped_67 : decode cX4_mishapped 67 = .ok (.if_icmp .ge 65, 3) := dk_162 0 65 (dk_at dksX4_mishapped_2 21 rfl rfl)
theorem dX4_mishapped_70 : decode cX4_mishapped 70 = .ok (.iload 7, 2) := dk_21 7 (dk_at dksX4_mishapped_3 0 rfl rfl)
theorem dX4_mishapped_72 : decode cX4_mishapped 72 = .ok (.aload_n 0, 1) := dk_42 (dk_at dksX4_mishapped_3 2 rfl rfl)
theorem dX4_mishapped_73 : decode cX4_mishapped 73 = .ok (.getfield 41, 3) := dk_180 0 41 (dk_at dksX4_mishapped_3 3 rfl rfl)
theorem dX4_mishapped_76 : decode cX4_mishapped 76 = .ok (.iload 8, 2) := dk_21 8 (dk_at dksX4_mishapped_3 6 rfl rfl)
theorem dX4_mishapped_78 : decode cX4_mishapped 78 = .ok (.iaload, 1) := dk_46 (dk_at dksX4_mishapped_3 8 rfl rfl)
theorem dX4_mishapped_79 : decode cX4_mishapped 79 = .ok (.iload_n 2, 1) := dk_28 (dk_at dksX4_mishapped_3 9 rfl rfl)
theorem dX4_mishapped_80 : decode cX4_mishapped 80 = .ok (.if_icmp .ne 42, 3) := dk_160 0 42 (dk_at dksX4_mishapped_3 10 rfl rfl)
theorem dX4_mishapped_83 : decode cX4_mishapped 83 = .ok (.aload_n 0, 1) := dk_42 (dk_at dksX4_mishapped_3 13 rfl rfl)
theorem dX4_mishapped_84 : decode cX4_mishapped 84 = .ok (.getfield 44, 3) := dk_180 0 44 (dk_at dksX4_mishapped_3 14 rfl rfl)
theorem dX4_mishapped_87 : decode cX4_mishapped 87 = .ok (.iload 8, 2) := dk_21 8 (dk_at dksX4_mishapped_3 17 rfl rfl)
theorem dX4_mishapped_89 : decode cX4_mishapped 89 = .ok (.iaload, 1) := dk_46 (dk_at dksX4_mishapped_3 19 rfl rfl)
theorem dX4_mishapped_90 : decode cX4_mishapped 90 = .ok (.iload_n 3, 1) := dk_29 (dk_at dksX4_mishapped_3 20 rfl rfl)
theorem dX4_mishapped_91 : decode cX4_mishapped 91 = .ok (.if_icmp .ne 31, 3) := dk_160 0 31 (dk_at dksX4_mishapped_3 21 rfl rfl)
theorem dX4_mishapped_94 : decode cX4_mishapped 94 = .ok (.aload_n 0, 1) := dk_42 (dk_at dksX4_mishapped_4 0 rfl rfl)
theorem dX4_mishapped_95 : decode cX4_mishapped 95 = .ok (.getfield 47, 3) := dk_180 0 47 (dk_at dksX4_mishapped_4 1 rfl rfl)
theorem dX4_mishapped_98 : decode cX4_mishapped 98 = .ok (.iload 8, 2) := dk_21 8 (dk_at dksX4_mishapped_4 4 rfl rfl)
theorem dX4_mishapped_100 : decode cX4_mishapped 100 = .ok (.iaload, 1) := dk_46 (dk_at dksX4_mishapped_4 6 rfl rfl)
theorem dX4_mishapped_101 : decode cX4_mishapped 101 = .ok (.iload 4, 2) := dk_21 4 (dk_at dksX4_mishapped_4 7 rfl rfl)
theorem dX4_mishapped_103 : decode cX4_mishapped 103 = .ok (.if_icmp .ne 19, 3) := dk_160 0 19 (dk_at dksX4_mishapped_4 9 rfl rfl)
theorem dX4_mishapped_106 : decode cX4_mishapped 106 = .ok (.aload_n 0, 1) := dk_42 (dk_at dksX4_mishapped_4 12 rfl rfl)
theorem dX4_mishapped_107 : decode cX4_mishapped 107 = .ok (.getfield 50, 3) := dk_180 0 50 (dk_at dksX4_mishapped_4 13 rfl rfl)
theorem dX4_mishapped_110 : decode cX4_mishapped 110 = .ok (.iload 8, 2) := dk_21 8 (dk_at dksX4_mishapped_4 16 rfl rfl)
theorem dX4_mishapped_112 : decode cX4_mishapped 112 = .ok (.iaload, 1) := dk_46 (dk_at dksX4_mishapped_4 18 rfl rfl)
theorem dX4_mishapped_113 : decode cX4_mishapped 113 = .ok (.iload 5, 2) := dk_21 5 (dk_at dksX4_mishapped_4 19 rfl rfl)
theorem dX4_mishapped_115 : decode cX4_mishapped 115 = .ok (.if_icmp .ne 7, 3) := dk_160 0 7 (dk_at dksX4_mishapped_4 21 rfl rfl)
theorem dX4_mishapped_118 : decode cX4_mishapped 118 = .ok (.iconst 1, 1) := dk_4 (dk_at dksX4_mishapped_5 0 rfl rfl)
theorem dX4_mishapped_119 : decode cX4_mishapped 119 = .ok (.goto 4, 3) := dk_167 0 4 (dk_at dksX4_mishapped_5 1 rfl rfl)
theorem dX4_mishapped_122 : decode cX4_mishapped 122 = .ok (.iconst 0, 1) := dk_3 (dk_at dksX4_mishapped_5 4 rfl rfl)
theorem dX4_mishapped_123 : decode cX4_mishapped 123 = .ok (.iadd, 1) := dk_96 (dk_at dksX4_mishapped_5 5 rfl rfl)
theorem dX4_mishapped_124 : decode cX4_mishapped 124 = .ok (.istore 7, 2) := dk_54 7 (dk_at dksX4_mishapped_5 6 rfl rfl)
theorem dX4_mishapped_126 : decode cX4_mishapped 126 = .ok (.iinc 8 1, 3) := dk_132 8 1 (dk_at dksX4_mishapped_5 8 rfl rfl)
theorem dX4_mishapped_129 : decode cX4_mishapped 129 = .ok (.goto (-75), 3) := dk_167 255 181 (dk_at dksX4_mishapped_5 11 rfl rfl)
theorem dX4_mishapped_132 : decode cX4_mishapped 132 = .ok (.iload 7, 2) := dk_21 7 (dk_at dksX4_mishapped_5 14 rfl rfl)
theorem dX4_mishapped_134 : decode cX4_mishapped 134 = .ok (.ireturn, 1) := dk_172 (dk_at dksX4_mishapped_5 16 rfl rfl)
abbrev cX4_sheet : ByteArray := prog_9_method_34_code
def yX4_sheet : MethodName := ⟨RX4, "sheet", "(III)Z"⟩
def dkwX4_sheet_4 : List UInt8 := [180, 0, 7, 28, 46, 42, 27, 3, 182, 1, 11, 184, 1, 62, 80, 132, 4, 1, 167, 255, 198, 4, 172]
abbrev dktX4_sheet_4 : List UInt8 := dkwX4_sheet_4 ++ []
def dkwX4_sheet_3 : List UInt8 := [42, 27, 42, 180, 0, 26, 27, 46, 3, 182, 1, 53, 42, 180, 0, 16, 16, 60, 28, 104, 21, 4, 96, 42]
abbrev dktX4_sheet_3 : List UInt8 := dkwX4_sheet_3 ++ dktX4_sheet_4
def dkwX4_sheet_2 : List UInt8 := [158, 0, 5, 3, 172, 3, 54, 4, 21, 4, 29, 162, 0, 58, 42, 180, 0, 26, 27, 92, 46, 4, 96, 79]
abbrev dktX4_sheet_2 : List UInt8 := dkwX4_sheet_2 ++ dktX4_sheet_3
def dkwX4_sheet_1 : List UInt8 := [180, 0, 26, 27, 46, 29, 96, 17, 3, 232, 164, 0, 9, 42, 16, 9, 181, 0, 215, 42, 180, 0, 215]
abbrev dktX4_sheet_1 : List UInt8 := dkwX4_sheet_1 ++ dktX4_sheet_2
def dkwX4_sheet_0 : List UInt8 := [42, 3, 181, 0, 212, 42, 42, 27, 28, 29, 182, 1, 59, 181, 0, 215, 42, 180, 0, 215, 154, 0, 23, 42]
abbrev dktX4_sheet_0 : List UInt8 := dkwX4_sheet_0 ++ dktX4_sheet_1
theorem dksX4_sheet_0 : cX4_sheet.data.toList.drop 0 = dktX4_sheet_0 := by decide +kernel
theorem dksX4_sheet_1 : cX4_sheet.data.toList.drop 24 = dktX4_sheet_1 := dk_seg dksX4_sheet_0 24 rfl rfl
theorem dksX4_sheet_2 : cX4_sheet.data.toList.drop 47 = dktX4_sheet_2 := dk_seg dksX4_sheet_1 23 rfl rfl
theorem dksX4_sheet_3 : cX4_sheet.data.toList.drop 71 = dktX4_sheet_3 := dk_seg dksX4_sheet_2 24 rfl rfl
theorem dksX4_sheet_4 : cX4_sheet.data.toList.drop 95 = dktX4_sheet_4 := dk_seg dksX4_sheet_3 24 rfl rfl
theorem dX4_sheet_0 : decode cX4_sheet 0 = .ok (.aload_n 0, 1) := dk_42 (dk_at dksX4_sheet_0 0 rfl rfl)
theorem dX4_sheet_1 : decode cX4_sheet 1 = .ok (.iconst 0, 1) := dk_3 (dk_at dksX4_sheet_0 1 rfl rfl)
theorem dX4_sheet_2 : decode cX4_sheet 2 = .ok (.putfield 212, 3) := dk_181 0 212 (dk_at dksX4_sheet_0 2 rfl rfl)
theorem dX4_sheet_5 : decode cX4_sheet 5 = .ok (.aload_n 0, 1) := dk_42 (dk_at dksX4_sheet_0 5 rfl rfl)
theorem dX4_sheet_6 : decode cX4_sheet 6 = .ok (.aload_n 0, 1) := dk_42 (dk_at dksX4_sheet_0 6 rfl rfl)
theorem dX4_sheet_7 : decode cX4_sheet 7 = .ok (.iload_n 1, 1) := dk_27 (dk_at dksX4_sheet_0 7 rfl rfl)
theorem dX4_sheet_8 : decode cX4_sheet 8 = .ok (.iload_n 2, 1) := dk_28 (dk_at dksX4_sheet_0 8 rfl rfl)
theorem dX4_sheet_9 : decode cX4_sheet 9 = .ok (.iload_n 3, 1) := dk_29 (dk_at dksX4_sheet_0 9 rfl rfl)
theorem dX4_sheet_10 : decode cX4_sheet 10 = .ok (.invokevirtual 315, 3) := dk_182 1 59 (dk_at dksX4_sheet_0 10 rfl rfl)
theorem dX4_sheet_13 : decode cX4_sheet 13 = .ok (.putfield 215, 3) := dk_181 0 215 (dk_at dksX4_sheet_0 13 rfl rfl)
theorem dX4_sheet_16 : decode cX4_sheet 16 = .ok (.aload_n 0, 1) := dk_42 (dk_at dksX4_sheet_0 16 rfl rfl)
theorem dX4_sheet_17 : decode cX4_sheet 17 = .ok (.getfield 215, 3) := dk_180 0 215 (dk_at dksX4_sheet_0 17 rfl rfl)
theorem dX4_sheet_20 : decode cX4_sheet 20 = .ok (.ifCond .ne 23, 3) := dk_154 0 23 (dk_at dksX4_sheet_0 20 rfl rfl)
theorem dX4_sheet_23 : decode cX4_sheet 23 = .ok (.aload_n 0, 1) := dk_42 (dk_at dksX4_sheet_0 23 rfl rfl)
theorem dX4_sheet_24 : decode cX4_sheet 24 = .ok (.getfield 26, 3) := dk_180 0 26 (dk_at dksX4_sheet_1 0 rfl rfl)
theorem dX4_sheet_27 : decode cX4_sheet 27 = .ok (.iload_n 1, 1) := dk_27 (dk_at dksX4_sheet_1 3 rfl rfl)
theorem dX4_sheet_28 : decode cX4_sheet 28 = .ok (.iaload, 1) := dk_46 (dk_at dksX4_sheet_1 4 rfl rfl)
theorem dX4_sheet_29 : decode cX4_sheet 29 = .ok (.iload_n 3, 1) := dk_29 (dk_at dksX4_sheet_1 5 rfl rfl)
theorem dX4_sheet_30 : decode cX4_sheet 30 = .ok (.iadd, 1) := dk_96 (dk_at dksX4_sheet_1 6 rfl rfl)
theorem dX4_sheet_31 : decode cX4_sheet 31 = .ok (.sipush 1000, 3) := dk_17 3 232 (dk_at dksX4_sheet_1 7 rfl rfl)
theorem dX4_sheet_34 : decode cX4_sheet 34 = .ok (.if_icmp .le 9, 3) := dk_164 0 9 (dk_at dksX4_sheet_1 10 rfl rfl)
theorem dX4_sheet_37 : decode cX4_sheet 37 = .ok (.aload_n 0, 1) := dk_42 (dk_at dksX4_sheet_1 13 rfl rfl)
theorem dX4_sheet_38 : decode cX4_sheet 38 = .ok (.bipush 9, 2) := dk_16 9 (dk_at dksX4_sheet_1 14 rfl rfl)
theorem dX4_sheet_40 : decode cX4_sheet 40 = .ok (.putfield 215, 3) := dk_181 0 215 (dk_at dksX4_sheet_1 16 rfl rfl)
theorem dX4_sheet_43 : decode cX4_sheet 43 = .ok (.aload_n 0, 1) := dk_42 (dk_at dksX4_sheet_1 19 rfl rfl)
theorem dX4_sheet_44 : decode cX4_sheet 44 = .ok (.getfield 215, 3) := dk_180 0 215 (dk_at dksX4_sheet_1 20 rfl rfl)
theorem dX4_sheet_47 : decode cX4_sheet 47 = .ok (.ifCond .le 5, 3) := dk_158 0 5 (dk_at dksX4_sheet_2 0 rfl rfl)
theorem dX4_sheet_50 : decode cX4_sheet 50 = .ok (.iconst 0, 1) := dk_3 (dk_at dksX4_sheet_2 3 rfl rfl)
theorem dX4_sheet_51 : decode cX4_sheet 51 = .ok (.ireturn, 1) := dk_172 (dk_at dksX4_sheet_2 4 rfl rfl)
theorem dX4_sheet_52 : decode cX4_sheet 52 = .ok (.iconst 0, 1) := dk_3 (dk_at dksX4_sheet_2 5 rfl rfl)
theorem dX4_sheet_53 : decode cX4_sheet 53 = .ok (.istore 4, 2) := dk_54 4 (dk_at dksX4_sheet_2 6 rfl rfl)
theorem dX4_sheet_55 : decode cX4_sheet 55 = .ok (.iload 4, 2) := dk_21 4 (dk_at dksX4_sheet_2 8 rfl rfl)
theorem dX4_sheet_57 : decode cX4_sheet 57 = .ok (.iload_n 3, 1) := dk_29 (dk_at dksX4_sheet_2 10 rfl rfl)
theorem dX4_sheet_58 : decode cX4_sheet 58 = .ok (.if_icmp .ge 58, 3) := dk_162 0 58 (dk_at dksX4_sheet_2 11 rfl rfl)
theorem dX4_sheet_61 : decode cX4_sheet 61 = .ok (.aload_n 0, 1) := dk_42 (dk_at dksX4_sheet_2 14 rfl rfl)
theorem dX4_sheet_62 : decode cX4_sheet 62 = .ok (.getfield 26, 3) := dk_180 0 26 (dk_at dksX4_sheet_2 15 rfl rfl)
theorem dX4_sheet_65 : decode cX4_sheet 65 = .ok (.iload_n 1, 1) := dk_27 (dk_at dksX4_sheet_2 18 rfl rfl)
theorem dX4_sheet_66 : decode cX4_sheet 66 = .ok (.dup2, 1) := dk_92 (dk_at dksX4_sheet_2 19 rfl rfl)
theorem dX4_sheet_67 : decode cX4_sheet 67 = .ok (.iaload, 1) := dk_46 (dk_at dksX4_sheet_2 20 rfl rfl)
theorem dX4_sheet_68 : decode cX4_sheet 68 = .ok (.iconst 1, 1) := dk_4 (dk_at dksX4_sheet_2 21 rfl rfl)
theorem dX4_sheet_69 : decode cX4_sheet 69 = .ok (.iadd, 1) := dk_96 (dk_at dksX4_sheet_2 22 rfl rfl)
theorem dX4_sheet_70 : decode cX4_sheet 70 = .ok (.iastore, 1) := dk_79 (dk_at dksX4_sheet_2 23 rfl rfl)
theorem dX4_sheet_71 : decode cX4_sheet 71 = .ok (.aload_n 0, 1) := dk_42 (dk_at dksX4_sheet_3 0 rfl rfl)
theorem dX4_sheet_72 : decode cX4_sheet 72 = .ok (.iload_n 1, 1) := dk_27 (dk_at dksX4_sheet_3 1 rfl rfl)
theorem dX4_sheet_73 : decode cX4_sheet 73 = .ok (.aload_n 0, 1) := dk_42 (dk_at dksX4_sheet_3 2 rfl rfl)
theorem dX4_sheet_74 : decode cX4_sheet 74 = .ok (.getfield 26, 3) := dk_180 0 26 (dk_at dksX4_sheet_3 3 rfl rfl)
theorem dX4_sheet_77 : decode cX4_sheet 77 = .ok (.iload_n 1, 1) := dk_27 (dk_at dksX4_sheet_3 6 rfl rfl)
theorem dX4_sheet_78 : decode cX4_sheet 78 = .ok (.iaload, 1) := dk_46 (dk_at dksX4_sheet_3 7 rfl rfl)
theorem dX4_sheet_79 : decode cX4_sheet 79 = .ok (.iconst 0, 1) := dk_3 (dk_at dksX4_sheet_3 8 rfl rfl)
theorem dX4_sheet_80 : decode cX4_sheet 80 = .ok (.invokevirtual 309, 3) := dk_182 1 53 (dk_at dksX4_sheet_3 9 rfl rfl)
theorem dX4_sheet_83 : decode cX4_sheet 83 = .ok (.aload_n 0, 1) := dk_42 (dk_at dksX4_sheet_3 12 rfl rfl)
theorem dX4_sheet_84 : decode cX4_sheet 84 = .ok (.getfield 16, 3) := dk_180 0 16 (dk_at dksX4_sheet_3 13 rfl rfl)
theorem dX4_sheet_87 : decode cX4_sheet 87 = .ok (.bipush 60, 2) := dk_16 60 (dk_at dksX4_sheet_3 16 rfl rfl)
theorem dX4_sheet_89 : decode cX4_sheet 89 = .ok (.iload_n 2, 1) := dk_28 (dk_at dksX4_sheet_3 18 rfl rfl)
theorem dX4_sheet_90 : decode cX4_sheet 90 = .ok (.imul, 1) := dk_104 (dk_at dksX4_sheet_3 19 rfl rfl)
theorem dX4_sheet_91 : decode cX4_sheet 91 = .ok (.iload 4, 2) := dk_21 4 (dk_at dksX4_sheet_3 20 rfl rfl)
theorem dX4_sheet_93 : decode cX4_sheet 93 = .ok (.iadd, 1) := dk_96 (dk_at dksX4_sheet_3 22 rfl rfl)
theorem dX4_sheet_94 : decode cX4_sheet 94 = .ok (.aload_n 0, 1) := dk_42 (dk_at dksX4_sheet_3 23 rfl rfl)
theorem dX4_sheet_95 : decode cX4_sheet 95 = .ok (.getfield 7, 3) := dk_180 0 7 (dk_at dksX4_sheet_4 0 rfl rfl)
theorem dX4_sheet_98 : decode cX4_sheet 98 = .ok (.iload_n 2, 1) := dk_28 (dk_at dksX4_sheet_4 3 rfl rfl)
theorem dX4_sheet_99 : decode cX4_sheet 99 = .ok (.iaload, 1) := dk_46 (dk_at dksX4_sheet_4 4 rfl rfl)
theorem dX4_sheet_100 : decode cX4_sheet 100 = .ok (.aload_n 0, 1) := dk_42 (dk_at dksX4_sheet_4 5 rfl rfl)
theorem dX4_sheet_101 : decode cX4_sheet 101 = .ok (.iload_n 1, 1) := dk_27 (dk_at dksX4_sheet_4 6 rfl rfl)
theorem dX4_sheet_102 : decode cX4_sheet 102 = .ok (.iconst 0, 1) := dk_3 (dk_at dksX4_sheet_4 7 rfl rfl)
theorem dX4_sheet_103 : decode cX4_sheet 103 = .ok (.invokevirtual 267, 3) := dk_182 1 11 (dk_at dksX4_sheet_4 8 rfl rfl)
theorem dX4_sheet_106 : decode cX4_sheet 106 = .ok (.invokestatic 318, 3) := dk_184 1 62 (dk_at dksX4_sheet_4 11 rfl rfl)
theorem dX4_sheet_109 : decode cX4_sheet 109 = .ok (.lastore, 1) := dk_80 (dk_at dksX4_sheet_4 14 rfl rfl)
theorem dX4_sheet_110 : decode cX4_sheet 110 = .ok (.iinc 4 1, 3) := dk_132 4 1 (dk_at dksX4_sheet_4 15 rfl rfl)
theorem dX4_sheet_113 : decode cX4_sheet 113 = .ok (.goto (-58), 3) := dk_167 255 198 (dk_at dksX4_sheet_4 18 rfl rfl)
theorem dX4_sheet_116 : decode cX4_sheet 116 = .ok (.iconst 1, 1) := dk_4 (dk_at dksX4_sheet_4 21 rfl rfl)
theorem dX4_sheet_117 : decode cX4_sheet 117 = .ok (.ireturn, 1) := dk_172 (dk_at dksX4_sheet_4 22 rfl rfl)
abbrev cX4_asksSheet : ByteArray := prog_9_method_33_code
def yX4_asksSheet : MethodName := ⟨RX4, "asksSheet", "(III)I"⟩
def dkwX4_asksSheet_2 : List UInt8 := [42, 180, 0, 13, 28, 46, 29, 162, 0, 7, 7, 167, 0, 4, 3, 172]
abbrev dktX4_asksSheet_2 : List UInt8 := dkwX4_asksSheet_2 ++ []
def dkwX4_asksSheet_1 : List UInt8 := [180, 0, 13, 28, 46, 156, 0, 5, 6, 172, 29, 133, 10, 20, 1, 57, 184, 0, 239, 154, 0, 5, 8, 172]
abbrev dktX4_asksSheet_1 : List UInt8 := dkwX4_asksSheet_1 ++ dktX4_asksSheet_2
def dkwX4_asksSheet_0 : List UInt8 := [28, 155, 0, 8, 28, 7, 161, 0, 5, 4, 172, 42, 27, 182, 0, 243, 154, 0, 5, 5, 172, 42]
abbrev dktX4_asksSheet_0 : List UInt8 := dkwX4_asksSheet_0 ++ dktX4_asksSheet_1
theorem dksX4_asksSheet_0 : cX4_asksSheet.data.toList.drop 0 = dktX4_asksSheet_0 := by decide +kernel
theorem dksX4_asksSheet_1 : cX4_asksSheet.data.toList.drop 22 = dktX4_asksSheet_1 := dk_seg dksX4_asksSheet_0 22 rfl rfl
theorem dksX4_asksSheet_2 : cX4_asksSheet.data.toList.drop 46 = dktX4_asksSheet_2 := dk_seg dksX4_asksSheet_1 24 rfl rfl
theorem dX4_asksSheet_0 : decode cX4_asksSheet 0 = .ok (.iload_n 2, 1) := dk_28 (dk_at dksX4_asksSheet_0 0 rfl rfl)
theorem dX4_asksSheet_1 : decode cX4_asksSheet 1 = .ok (.ifCond .lt 8, 3) := dk_155 0 8 (dk_at dksX4_asksSheet_0 1 rfl rfl)
theorem dX4_asksSheet_4 : decode cX4_asksSheet 4 = .ok (.iload_n 2, 1) := dk_28 (dk_at dksX4_asksSheet_0 4 rfl rfl)
theorem dX4_asksSheet_5 : decode cX4_asksSheet 5 = .ok (.iconst 4, 1) := dk_7 (dk_at dksX4_asksSheet_0 5 rfl rfl)
theorem dX4_asksSheet_6 : decode cX4_asksSheet 6 = .ok (.if_icmp .lt 5, 3) := dk_161 0 5 (dk_at dksX4_asksSheet_0 6 rfl rfl)
theorem dX4_asksSheet_9 : decode cX4_asksSheet 9 = .ok (.iconst 1, 1) := dk_4 (dk_at dksX4_asksSheet_0 9 rfl rfl)
theorem dX4_asksSheet_10 : decode cX4_asksSheet 10 = .ok (.ireturn, 1) := dk_172 (dk_at dksX4_asksSheet_0 10 rfl rfl)
theorem dX4_asksSheet_11 : decode cX4_asksSheet 11 = .ok (.aload_n 0, 1) := dk_42 (dk_at dksX4_asksSheet_0 11 rfl rfl)
theorem dX4_asksSheet_12 : decode cX4_asksSheet 12 = .ok (.iload_n 1, 1) := dk_27 (dk_at dksX4_asksSheet_0 12 rfl rfl)
theorem dX4_asksSheet_13 : decode cX4_asksSheet 13 = .ok (.invokevirtual 243, 3) := dk_182 0 243 (dk_at dksX4_asksSheet_0 13 rfl rfl)
theorem dX4_asksSheet_16 : decode cX4_asksSheet 16 = .ok (.ifCond .ne 5, 3) := dk_154 0 5 (dk_at dksX4_asksSheet_0 16 rfl rfl)
theorem dX4_asksSheet_19 : decode cX4_asksSheet 19 = .ok (.iconst 2, 1) := dk_5 (dk_at dksX4_asksSheet_0 19 rfl rfl)
theorem dX4_asksSheet_20 : decode cX4_asksSheet 20 = .ok (.ireturn, 1) := dk_172 (dk_at dksX4_asksSheet_0 20 rfl rfl)
theorem dX4_asksSheet_21 : decode cX4_asksSheet 21 = .ok (.aload_n 0, 1) := dk_42 (dk_at dksX4_asksSheet_0 21 rfl rfl)
theorem dX4_asksSheet_22 : decode cX4_asksSheet 22 = .ok (.getfield 13, 3) := dk_180 0 13 (dk_at dksX4_asksSheet_1 0 rfl rfl)
theorem dX4_asksSheet_25 : decode cX4_asksSheet 25 = .ok (.iload_n 2, 1) := dk_28 (dk_at dksX4_asksSheet_1 3 rfl rfl)
theorem dX4_asksSheet_26 : decode cX4_asksSheet 26 = .ok (.iaload, 1) := dk_46 (dk_at dksX4_asksSheet_1 4 rfl rfl)
theorem dX4_asksSheet_27 : decode cX4_asksSheet 27 = .ok (.ifCond .ge 5, 3) := dk_156 0 5 (dk_at dksX4_asksSheet_1 5 rfl rfl)
theorem dX4_asksSheet_30 : decode cX4_asksSheet 30 = .ok (.iconst 3, 1) := dk_6 (dk_at dksX4_asksSheet_1 8 rfl rfl)
theorem dX4_asksSheet_31 : decode cX4_asksSheet 31 = .ok (.ireturn, 1) := dk_172 (dk_at dksX4_asksSheet_1 9 rfl rfl)
theorem dX4_asksSheet_32 : decode cX4_asksSheet 32 = .ok (.iload_n 3, 1) := dk_29 (dk_at dksX4_asksSheet_1 10 rfl rfl)
theorem dX4_asksSheet_33 : decode cX4_asksSheet 33 = .ok (.i2l, 1) := dk_133 (dk_at dksX4_asksSheet_1 11 rfl rfl)
theorem dX4_asksSheet_34 : decode cX4_asksSheet 34 = .ok (.lconst 1, 1) := dk_10 (dk_at dksX4_asksSheet_1 12 rfl rfl)
theorem dX4_asksSheet_35 : decode cX4_asksSheet 35 = .ok (.ldc2_w 313, 3) := dk_20 1 57 (dk_at dksX4_asksSheet_1 13 rfl rfl)
theorem dX4_asksSheet_38 : decode cX4_asksSheet 38 = .ok (.invokestatic 239, 3) := dk_184 0 239 (dk_at dksX4_asksSheet_1 16 rfl rfl)
theorem dX4_asksSheet_41 : decode cX4_asksSheet 41 = .ok (.ifCond .ne 5, 3) := dk_154 0 5 (dk_at dksX4_asksSheet_1 19 rfl rfl)
theorem dX4_asksSheet_44 : decode cX4_asksSheet 44 = .ok (.iconst 5, 1) := dk_8 (dk_at dksX4_asksSheet_1 22 rfl rfl)
theorem dX4_asksSheet_45 : decode cX4_asksSheet 45 = .ok (.ireturn, 1) := dk_172 (dk_at dksX4_asksSheet_1 23 rfl rfl)
theorem dX4_asksSheet_46 : decode cX4_asksSheet 46 = .ok (.aload_n 0, 1) := dk_42 (dk_at dksX4_asksSheet_2 0 rfl rfl)
theorem dX4_asksSheet_47 : decode cX4_asksSheet 47 = .ok (.getfield 13, 3) := dk_180 0 13 (dk_at dksX4_asksSheet_2 1 rfl rfl)
theorem dX4_asksSheet_50 : decode cX4_asksSheet 50 = .ok (.iload_n 2, 1) := dk_28 (dk_at dksX4_asksSheet_2 4 rfl rfl)
theorem dX4_asksSheet_51 : decode cX4_asksSheet 51 = .ok (.iaload, 1) := dk_46 (dk_at dksX4_asksSheet_2 5 rfl rfl)
theorem dX4_asksSheet_52 : decode cX4_asksSheet 52 = .ok (.iload_n 3, 1) := dk_29 (dk_at dksX4_asksSheet_2 6 rfl rfl)
theorem dX4_asksSheet_53 : decode cX4_asksSheet 53 = .ok (.if_icmp .ge 7, 3) := dk_162 0 7 (dk_at dksX4_asksSheet_2 7 rfl rfl)
theorem dX4_asksSheet_56 : decode cX4_asksSheet 56 = .ok (.iconst 4, 1) := dk_7 (dk_at dksX4_asksSheet_2 10 rfl rfl)
theorem dX4_asksSheet_57 : decode cX4_asksSheet 57 = .ok (.goto 4, 3) := dk_167 0 4 (dk_at dksX4_asksSheet_2 11 rfl rfl)
theorem dX4_asksSheet_60 : decode cX4_asksSheet 60 = .ok (.iconst 0, 1) := dk_3 (dk_at dksX4_asksSheet_2 14 rfl rfl)
theorem dX4_asksSheet_61 : decode cX4_asksSheet 61 = .ok (.ireturn, 1) := dk_172 (dk_at dksX4_asksSheet_2 15 rfl rfl)
abbrev cX4_cutTo : ByteArray := prog_9_method_32_code
def yX4_cutTo : MethodName := ⟨RX4, "cutTo", "(IJ)J"⟩
def dkwX4_cutTo_1 : List UInt8 := [5, 160, 0, 9, 31, 136, 133, 167, 0, 4, 31, 173]
abbrev dktX4_cutTo_1 : List UInt8 := dkwX4_cutTo_1 ++ []
def dkwX4_cutTo_0 : List UInt8 := [26, 154, 0, 10, 31, 136, 145, 133, 167, 0, 27, 26, 4, 160, 0, 10, 31, 136, 147, 133, 167, 0, 15, 26]
abbrev dktX4_cutTo_0 : List UInt8 := dkwX4_cutTo_0 ++ dktX4_cutTo_1
theorem dksX4_cutTo_0 : cX4_cutTo.data.toList.drop 0 = dktX4_cutTo_0 := by decide +kernel
theorem dksX4_cutTo_1 : cX4_cutTo.data.toList.drop 24 = dktX4_cutTo_1 := dk_seg dksX4_cutTo_0 24 rfl rfl
theorem dX4_cutTo_0 : decode cX4_cutTo 0 = .ok (.iload_n 0, 1) := dk_26 (dk_at dksX4_cutTo_0 0 rfl rfl)
theorem dX4_cutTo_1 : decode cX4_cutTo 1 = .ok (.ifCond .ne 10, 3) := dk_154 0 10 (dk_at dksX4_cutTo_0 1 rfl rfl)
theorem dX4_cutTo_4 : decode cX4_cutTo 4 = .ok (.lload_n 1, 1) := dk_31 (dk_at dksX4_cutTo_0 4 rfl rfl)
theorem dX4_cutTo_5 : decode cX4_cutTo 5 = .ok (.l2i, 1) := dk_136 (dk_at dksX4_cutTo_0 5 rfl rfl)
theorem dX4_cutTo_6 : decode cX4_cutTo 6 = .ok (.i2b, 1) := dk_145 (dk_at dksX4_cutTo_0 6 rfl rfl)
theorem dX4_cutTo_7 : decode cX4_cutTo 7 = .ok (.i2l, 1) := dk_133 (dk_at dksX4_cutTo_0 7 rfl rfl)
theorem dX4_cutTo_8 : decode cX4_cutTo 8 = .ok (.goto 27, 3) := dk_167 0 27 (dk_at dksX4_cutTo_0 8 rfl rfl)
theorem dX4_cutTo_11 : decode cX4_cutTo 11 = .ok (.iload_n 0, 1) := dk_26 (dk_at dksX4_cutTo_0 11 rfl rfl)
theorem dX4_cutTo_12 : decode cX4_cutTo 12 = .ok (.iconst 1, 1) := dk_4 (dk_at dksX4_cutTo_0 12 rfl rfl)
theorem dX4_cutTo_13 : decode cX4_cutTo 13 = .ok (.if_icmp .ne 10, 3) := dk_160 0 10 (dk_at dksX4_cutTo_0 13 rfl rfl)
theorem dX4_cutTo_16 : decode cX4_cutTo 16 = .ok (.lload_n 1, 1) := dk_31 (dk_at dksX4_cutTo_0 16 rfl rfl)
theorem dX4_cutTo_17 : decode cX4_cutTo 17 = .ok (.l2i, 1) := dk_136 (dk_at dksX4_cutTo_0 17 rfl rfl)
theorem dX4_cutTo_18 : decode cX4_cutTo 18 = .ok (.i2s, 1) := dk_147 (dk_at dksX4_cutTo_0 18 rfl rfl)
theorem dX4_cutTo_19 : decode cX4_cutTo 19 = .ok (.i2l, 1) := dk_133 (dk_at dksX4_cutTo_0 19 rfl rfl)
theorem dX4_cutTo_20 : decode cX4_cutTo 20 = .ok (.goto 15, 3) := dk_167 0 15 (dk_at dksX4_cutTo_0 20 rfl rfl)
theorem dX4_cutTo_23 : decode cX4_cutTo 23 = .ok (.iload_n 0, 1) := dk_26 (dk_at dksX4_cutTo_0 23 rfl rfl)
theorem dX4_cutTo_24 : decode cX4_cutTo 24 = .ok (.iconst 2, 1) := dk_5 (dk_at dksX4_cutTo_1 0 rfl rfl)
theorem dX4_cutTo_25 : decode cX4_cutTo 25 = .ok (.if_icmp .ne 9, 3) := dk_160 0 9 (dk_at dksX4_cutTo_1 1 rfl rfl)
theorem dX4_cutTo_28 : decode cX4_cutTo 28 = .ok (.lload_n 1, 1) := dk_31 (dk_at dksX4_cutTo_1 4 rfl rfl)
theorem dX4_cutTo_29 : decode cX4_cutTo 29 = .ok (.l2i, 1) := dk_136 (dk_at dksX4_cutTo_1 5 rfl rfl)
theorem dX4_cutTo_30 : decode cX4_cutTo 30 = .ok (.i2l, 1) := dk_133 (dk_at dksX4_cutTo_1 6 rfl rfl)
theorem dX4_cutTo_31 : decode cX4_cutTo 31 = .ok (.goto 4, 3) := dk_167 0 4 (dk_at dksX4_cutTo_1 7 rfl rfl)
theorem dX4_cutTo_34 : decode cX4_cutTo 34 = .ok (.lload_n 1, 1) := dk_31 (dk_at dksX4_cutTo_1 10 rfl rfl)
theorem dX4_cutTo_35 : decode cX4_cutTo 35 = .ok (.lreturn, 1) := dk_173 (dk_at dksX4_cutTo_1 11 rfl rfl)
abbrev cX4_explain : ByteArray := prog_9_method_36_code
def yX4_explain : MethodName := ⟨RX4, "explain", "(III)I"⟩
def dkwX4_explain_7 : List UInt8 := [4, 172, 132, 5, 1, 167, 255, 142, 132, 4, 1, 167, 255, 127, 42, 16, 8, 182, 0, 252, 172]
abbrev dktX4_explain_7 : List UInt8 := dkwX4_explain_7 ++ []
def dkwX4_explain_6 : List UInt8 := [42, 42, 180, 1, 34, 181, 1, 68, 42, 42, 180, 1, 37, 181, 1, 71, 42, 42, 180, 1, 40, 181, 1, 74]
abbrev dktX4_explain_6 : List UInt8 := dkwX4_explain_6 ++ dktX4_explain_7
def dkwX4_explain_5 : List UInt8 := [6, 112, 181, 1, 40, 42, 27, 28, 29, 182, 1, 65, 154, 0, 6, 167, 0, 35, 42, 21, 4, 181, 0, 61]
abbrev dktX4_explain_5 : List UInt8 := dkwX4_explain_5 ++ dktX4_explain_6
def dkwX4_explain_4 : List UInt8 := [46, 104, 108, 181, 1, 34, 42, 21, 5, 6, 108, 42, 180, 0, 23, 27, 46, 112, 181, 1, 37, 42, 21, 5]
abbrev dktX4_explain_4 : List UInt8 := dkwX4_explain_4 ++ dktX4_explain_5
def dkwX4_explain_3 : List UInt8 := [180, 0, 23, 27, 46, 104, 162, 0, 98, 42, 21, 4, 181, 0, 57, 42, 21, 5, 6, 42, 180, 0, 23, 27]
abbrev dktX4_explain_3 : List UInt8 := dkwX4_explain_3 ++ dktX4_explain_4
def dkwX4_explain_2 : List UInt8 := [54, 4, 21, 4, 29, 163, 0, 129, 3, 54, 5, 21, 5, 6, 42, 180, 0, 20, 27, 46, 4, 100, 104, 42]
abbrev dktX4_explain_2 : List UInt8 := dkwX4_explain_2 ++ dktX4_explain_3
def dkwX4_explain_1 : List UInt8 := [172, 42, 2, 181, 0, 57, 42, 27, 28, 29, 182, 1, 65, 153, 0, 10, 42, 2, 181, 0, 61, 3, 172, 4]
abbrev dktX4_explain_1 : List UInt8 := dkwX4_explain_1 ++ dktX4_explain_2
def dkwX4_explain_0 : List UInt8 := [42, 3, 181, 0, 212, 42, 42, 27, 28, 29, 182, 1, 59, 181, 0, 215, 42, 180, 0, 215, 158, 0, 5, 2]
abbrev dktX4_explain_0 : List UInt8 := dkwX4_explain_0 ++ dktX4_explain_1
theorem dksX4_explain_0 : cX4_explain.data.toList.drop 0 = dktX4_explain_0 := by decide +kernel
theorem dksX4_explain_1 : cX4_explain.data.toList.drop 24 = dktX4_explain_1 := dk_seg dksX4_explain_0 24 rfl rfl
theorem dksX4_explain_2 : cX4_explain.data.toList.drop 48 = dktX4_explain_2 := dk_seg dksX4_explain_1 24 rfl rfl
theorem dksX4_explain_3 : cX4_explain.data.toList.drop 72 = dktX4_explain_3 := dk_seg dksX4_explain_2 24 rfl rfl
theorem dksX4_explain_4 : cX4_explain.data.toList.drop 96 = dktX4_explain_4 := dk_seg dksX4_explain_3 24 rfl rfl
theorem dksX4_explain_5 : cX4_explain.data.toList.drop 120 = dktX4_explain_5 := dk_seg dksX4_explain_4 24 rfl rfl
theorem dksX4_explain_6 : cX4_explain.data.toList.drop 144 = dktX4_explain_6 := dk_seg dksX4_explain_5 24 rfl rfl
theorem dksX4_explain_7 : cX4_explain.data.toList.drop 168 = dktX4_explain_7 := dk_seg dksX4_explain_6 24 rfl rfl
theorem dX4_explain_0 : decode cX4_explain 0 = .ok (.aload_n 0, 1) := dk_42 (dk_at dksX4_explain_0 0 rfl rfl)
theorem dX4_explain_1 : decode cX4_explain 1 = .ok (.iconst 0, 1) := dk_3 (dk_at dksX4_explain_0 1 rfl rfl)
theorem dX4_explain_2 : decode cX4_explain 2 = .ok (.putfield 212, 3) := dk_181 0 212 (dk_at dksX4_explain_0 2 rfl rfl)
theorem dX4_explain_5 : decode cX4_explain 5 = .ok (.aload_n 0, 1) := dk_42 (dk_at dksX4_explain_0 5 rfl rfl)
theorem dX4_explain_6 : decode cX4_explain 6 = .ok (.aload_n 0, 1) := dk_42 (dk_at dksX4_explain_0 6 rfl rfl)
theorem dX4_explain_7 : decode cX4_explain 7 = .ok (.iload_n 1, 1) := dk_27 (dk_at dksX4_explain_0 7 rfl rfl)
theorem dX4_explain_8 : decode cX4_explain 8 = .ok (.iload_n 2, 1) := dk_28 (dk_at dksX4_explain_0 8 rfl rfl)
theorem dX4_explain_9 : decode cX4_explain 9 = .ok (.iload_n 3, 1) := dk_29 (dk_at dksX4_explain_0 9 rfl rfl)
theorem dX4_explain_10 : decode cX4_explain 10 = .ok (.invokevirtual 315, 3) := dk_182 1 59 (dk_at dksX4_explain_0 10 rfl rfl)
theorem dX4_explain_13 : decode cX4_explain 13 = .ok (.putfield 215, 3) := dk_181 0 215 (dk_at dksX4_explain_0 13 rfl rfl)
theorem dX4_explain_16 : decode cX4_explain 16 = .ok (.aload_n 0, 1) := dk_42 (dk_at dksX4_explain_0 16 rfl rfl)
theorem dX4_explain_17 : decode cX4_explain 17 = .ok (.getfield 215, 3) := dk_180 0 215 (dk_at dksX4_explain_0 17 rfl rfl)
theorem dX4_explain_20 : decode cX4_explain 20 = .ok (.ifCond .le 5, 3) := dk_158 0 5 (dk_at dksX4_explain_0 20 rfl rfl)
theorem dX4_explain_23 : decode cX4_explain 23 = .ok (.iconst (-1), 1) := dk_2 (dk_at dksX4_explain_0 23 rfl rfl)
theorem dX4_explain_24 : decode cX4_explain 24 = .ok (.ireturn, 1) := dk_172 (dk_at dksX4_explain_1 0 rfl rfl)
theorem dX4_explain_25 : decode cX4_explain 25 = .ok (.aload_n 0, 1) := dk_42 (dk_at dksX4_explain_1 1 rfl rfl)
theorem dX4_explain_26 : decode cX4_explain 26 = .ok (.iconst (-1), 1) := dk_2 (dk_at dksX4_explain_1 2 rfl rfl)
theorem dX4_explain_27 : decode cX4_explain 27 = .ok (.putfield 57, 3) := dk_181 0 57 (dk_at dksX4_explain_1 3 rfl rfl)
theorem dX4_explain_30 : decode cX4_explain 30 = .ok (.aload_n 0, 1) := dk_42 (dk_at dksX4_explain_1 6 rfl rfl)
theorem dX4_explain_31 : decode cX4_explain 31 = .ok (.iload_n 1, 1) := dk_27 (dk_at dksX4_explain_1 7 rfl rfl)
theorem dX4_explain_32 : decode cX4_explain 32 = .ok (.iload_n 2, 1) := dk_28 (dk_at dksX4_explain_1 8 rfl rfl)
theorem dX4_explain_33 : decode cX4_explain 33 = .ok (.iload_n 3, 1) := dk_29 (dk_at dksX4_explain_1 9 rfl rfl)
theorem dX4_explain_34 : decode cX4_explain 34 = .ok (.invokevirtual 321, 3) := dk_182 1 65 (dk_at dksX4_explain_1 10 rfl rfl)
theorem dX4_explain_37 : decode cX4_explain 37 = .ok (.ifCond .eq 10, 3) := dk_153 0 10 (dk_at dksX4_explain_1 13 rfl rfl)
theorem dX4_explain_40 : decode cX4_explain 40 = .ok (.aload_n 0, 1) := dk_42 (dk_at dksX4_explain_1 16 rfl rfl)
theorem dX4_explain_41 : decode cX4_explain 41 = .ok (.iconst (-1), 1) := dk_2 (dk_at dksX4_explain_1 17 rfl rfl)
theorem dX4_explain_42 : decode cX4_explain 42 = .ok (.putfield 61, 3) := dk_181 0 61 (dk_at dksX4_explain_1 18 rfl rfl)
theorem dX4_explain_45 : decode cX4_explain 45 = .ok (.iconst 0, 1) := dk_3 (dk_at dksX4_explain_1 21 rfl rfl)
theorem dX4_explain_46 : decode cX4_explain 46 = .ok (.ireturn, 1) := dk_172 (dk_at dksX4_explain_1 22 rfl rfl)
theorem dX4_explain_47 : decode cX4_explain 47 = .ok (.iconst 1, 1) := dk_4 (dk_at dksX4_explain_1 23 rfl rfl)
theorem dX4_explain_48 : decode cX4_explain 48 = .ok (.istore 4, 2) := dk_54 4 (dk_at dksX4_explain_2 0 rfl rfl)
theorem dX4_explain_50 : decode cX4_explain 50 = .ok (.iload 4, 2) := dk_21 4 (dk_at dksX4_explain_2 2 rfl rfl)
theorem dX4_explain_52 : decode cX4_explain 52 = .ok (.iload_n 3, 1) := dk_29 (dk_at dksX4_explain_2 4 rfl rfl)
theorem dX4_explain_53 : decode cX4_explain 53 = .ok (.if_icmp .gt 129, 3) := dk_163 0 129 (dk_at dksX4_explain_2 5 rfl rfl)
theorem dX4_explain_56 : decode cX4_explain 56 = .ok (.iconst 0, 1) := dk_3 (dk_at dksX4_explain_2 8 rfl rfl)
theorem dX4_explain_57 : decode cX4_explain 57 = .ok (.istore 5, 2) := dk_54 5 (dk_at dksX4_explain_2 9 rfl rfl)
theorem dX4_explain_59 : decode cX4_explain 59 = .ok (.iload 5, 2) := dk_21 5 (dk_at dksX4_explain_2 11 rfl rfl)
theorem dX4_explain_61 : decode cX4_explain 61 = .ok (.iconst 3, 1) := dk_6 (dk_at dksX4_explain_2 13 rfl rfl)
theorem dX4_explain_62 : decode cX4_explain 62 = .ok (.aload_n 0, 1) := dk_42 (dk_at dksX4_explain_2 14 rfl rfl)
theorem dX4_explain_63 : decode cX4_explain 63 = .ok (.getfield 20, 3) := dk_180 0 20 (dk_at dksX4_explain_2 15 rfl rfl)
theorem dX4_explain_66 : decode cX4_explain 66 = .ok (.iload_n 1, 1) := dk_27 (dk_at dksX4_explain_2 18 rfl rfl)
theorem dX4_explain_67 : decode cX4_explain 67 = .ok (.iaload, 1) := dk_46 (dk_at dksX4_explain_2 19 rfl rfl)
theorem dX4_explain_68 : decode cX4_explain 68 = .ok (.iconst 1, 1) := dk_4 (dk_at dksX4_explain_2 20 rfl rfl)
theorem dX4_explain_69 : decode cX4_explain 69 = .ok (.isub, 1) := dk_100 (dk_at dksX4_explain_2 21 rfl rfl)
theorem dX4_explain_70 : decode cX4_explain 70 = .ok (.imul, 1) := dk_104 (dk_at dksX4_explain_2 22 rfl rfl)
theorem dX4_explain_71 : decode cX4_explain 71 = .ok (.aload_n 0, 1) := dk_42 (dk_at dksX4_explain_2 23 rfl rfl)
theorem dX4_explain_72 : decode cX4_explain 72 = .ok (.getfield 23, 3) := dk_180 0 23 (dk_at dksX4_explain_3 0 rfl rfl)
theorem dX4_explain_75 : decode cX4_explain 75 = .ok (.iload_n 1, 1) := dk_27 (dk_at dksX4_explain_3 3 rfl rfl)
theorem dX4_explain_76 : decode cX4_explain 76 = .ok (.iaload, 1) := dk_46 (dk_at dksX4_explain_3 4 rfl rfl)
theorem dX4_explain_77 : decode cX4_explain 77 = .ok (.imul, 1) := dk_104 (dk_at dksX4_explain_3 5 rfl rfl)
theorem dX4_explain_78 : decode cX4_explain 78 = .ok (.if_icmp .ge 98, 3) := dk_162 0 98 (dk_at dksX4_explain_3 6 rfl rfl)
theorem dX4_explain_81 : decode cX4_explain 81 = .ok (.aload_n 0, 1) := dk_42 (dk_at dksX4_explain_3 9 rfl rfl)
theorem dX4_explain_82 : decode cX4_explain 82 = .ok (.iload 4, 2) := dk_21 4 (dk_at dksX4_explain_3 10 rfl rfl)
theorem dX4_explain_84 : decode cX4_explain 84 = .ok (.putfield 57, 3) := dk_181 0 57 (dk_at dksX4_explain_3 12 rfl rfl)
theorem dX4_explain_87 : decode cX4_explain 87 = .ok (.aload_n 0, 1) := dk_42 (dk_at dksX4_explain_3 15 rfl rfl)
theorem dX4_explain_88 : decode cX4_explain 88 = .ok (.iload 5, 2) := dk_21 5 (dk_at dksX4_explain_3 16 rfl rfl)
theorem dX4_explain_90 : decode cX4_explain 90 = .ok (.iconst 3, 1) := dk_6 (dk_at dksX4_explain_3 18 rfl rfl)
theorem dX4_explain_91 : decode cX4_explain 91 = .ok (.aload_n 0, 1) := dk_42 (dk_at dksX4_explain_3 19 rfl rfl)
theorem dX4_explain_92 : decode cX4_explain 92 = .ok (.getfield 23, 3) := dk_180 0 23 (dk_at dksX4_explain_3 20 rfl rfl)
theorem dX4_explain_95 : decode cX4_explain 95 = .ok (.iload_n 1, 1) := dk_27 (dk_at dksX4_explain_3 23 rfl rfl)
theorem dX4_explain_96 : decode cX4_explain 96 = .ok (.iaload, 1) := dk_46 (dk_at dksX4_explain_4 0 rfl rfl)
theorem dX4_explain_97 : decode cX4_explain 97 = .ok (.imul, 1) := dk_104 (dk_at dksX4_explain_4 1 rfl rfl)
theorem dX4_explain_98 : decode cX4_explain 98 = .ok (.idiv, 1) := dk_108 (dk_at dksX4_explain_4 2 rfl rfl)
theorem dX4_explain_99 : decode cX4_explain 99 = .ok (.putfield 290, 3) := dk_181 1 34 (dk_at dksX4_explain_4 3 rfl rfl)
theorem dX4_explain_102 : decode cX4_explain 102 = .ok (.aload_n 0, 1) := dk_42 (dk_at dksX4_explain_4 6 rfl rfl)
theorem dX4_explain_103 : decode cX4_explain 103 = .ok (.iload 5, 2) := dk_21 5 (dk_at dksX4_explain_4 7 rfl rfl)
theorem dX4_explain_105 : decode cX4_explain 105 = .ok (.iconst 3, 1) := dk_6 (dk_at dksX4_explain_4 9 rfl rfl)
theorem dX4_explain_106 : decode cX4_explain 106 = .ok (.idiv, 1) := dk_108 (dk_at dksX4_explain_4 10 rfl rfl)
theorem dX4_explain_107 : decode cX4_explain 107 = .ok (.aload_n 0, 1) := dk_42 (dk_at dksX4_explain_4 11 rfl rfl)
theorem dX4_explain_108 : decode cX4_explain 108 = .ok (.getfield 23, 3) := dk_180 0 23 (dk_at dksX4_explain_4 12 rfl rfl)
theorem dX4_explain_111 : decode cX4_explain 111 = .ok (.iload_n 1, 1) := dk_27 (dk_at dksX4_explain_4 15 rfl rfl)
theorem dX4_explain_112 : decode cX4_explain 112 = .ok (.iaload, 1) := dk_46 (dk_at dksX4_explain_4 16 rfl rfl)
theorem dX4_explain_113 : decode cX4_explain 113 = .ok (.irem, 1) := dk_112 (dk_at dksX4_explain_4 17 rfl rfl)
theorem dX4_explain_114 : decode cX4_explain 114 = .ok (.putfield 293, 3) := dk_181 1 37 (dk_at dksX4_explain_4 18 rfl rfl)
theorem dX4_explain_117 : decode cX4_explain 117 = .ok (.aload_n 0, 1) := dk_42 (dk_at dksX4_explain_4 21 rfl rfl)
theorem dX4_explain_118 : decode cX4_explain 118 = .ok (.iload 5, 2) := dk_21 5 (dk_at dksX4_explain_4 22 rfl rfl)
theorem dX4_explain_120 : decode cX4_explain 120 = .ok (.iconst 3, 1) := dk_6 (dk_at dksX4_explain_5 0 rfl rfl)
theorem dX4_explain_121 : decode cX4_explain 121 = .ok (.irem, 1) := dk_112 (dk_at dksX4_explain_5 1 rfl rfl)
theorem dX4_explain_122 : decode cX4_explain 122 = .ok (.putfield 296, 3) := dk_181 1 40 (dk_at dksX4_explain_5 2 rfl rfl)
theorem dX4_explain_125 : decode cX4_explain 125 = .ok (.aload_n 0, 1) := dk_42 (dk_at dksX4_explain_5 5 rfl rfl)
theorem dX4_explain_126 : decode cX4_explain 126 = .ok (.iload_n 1, 1) := dk_27 (dk_at dksX4_explain_5 6 rfl rfl)
theorem dX4_explain_127 : decode cX4_explain 127 = .ok (.iload_n 2, 1) := dk_28 (dk_at dksX4_explain_5 7 rfl rfl)
theorem dX4_explain_128 : decode cX4_explain 128 = .ok (.iload_n 3, 1) := dk_29 (dk_at dksX4_explain_5 8 rfl rfl)
theorem dX4_explain_129 : decode cX4_explain 129 = .ok (.invokevirtual 321, 3) := dk_182 1 65 (dk_at dksX4_explain_5 9 rfl rfl)
theorem dX4_explain_132 : decode cX4_explain 132 = .ok (.ifCond .ne 6, 3) := dk_154 0 6 (dk_at dksX4_explain_5 12 rfl rfl)
theorem dX4_explain_135 : decode cX4_explain 135 = .ok (.goto 35, 3) := dk_167 0 35 (dk_at dksX4_explain_5 15 rfl rfl)
theorem dX4_explain_138 : decode cX4_explain 138 = .ok (.aload_n 0, 1) := dk_42 (dk_at dksX4_explain_5 18 rfl rfl)
theorem dX4_explain_139 : decode cX4_explain 139 = .ok (.iload 4, 2) := dk_21 4 (dk_at dksX4_explain_5 19 rfl rfl)
theorem dX4_explain_141 : decode cX4_explain 141 = .ok (.putfield 61, 3) := dk_181 0 61 (dk_at dksX4_explain_5 21 rfl rfl)
theorem dX4_explain_144 : decode cX4_explain 144 = .ok (.aload_n 0, 1) := dk_42 (dk_at dksX4_explain_6 0 rfl rfl)
theorem dX4_explain_145 : decode cX4_explain 145 = .ok (.aload_n 0, 1) := dk_42 (dk_at dksX4_explain_6 1 rfl rfl)
theorem dX4_explain_146 : decode cX4_explain 146 = .ok (.getfield 290, 3) := dk_180 1 34 (dk_at dksX4_explain_6 2 rfl rfl)
theorem dX4_explain_149 : decode cX4_explain 149 = .ok (.putfield 324, 3) := dk_181 1 68 (dk_at dksX4_explain_6 5 rfl rfl)
theorem dX4_explain_152 : decode cX4_explain 152 = .ok (.aload_n 0, 1) := dk_42 (dk_at dksX4_explain_6 8 rfl rfl)
theorem dX4_explain_153 : decode cX4_explain 153 = .ok (.aload_n 0, 1) := dk_42 (dk_at dksX4_explain_6 9 rfl rfl)
theorem dX4_explain_154 : decode cX4_explain 154 = .ok (.getfield 293, 3) := dk_180 1 37 (dk_at dksX4_explain_6 10 rfl rfl)
theorem dX4_explain_157 : decode cX4_explain 157 = .ok (.putfield 327, 3) := dk_181 1 71 (dk_at dksX4_explain_6 13 rfl rfl)
theorem dX4_explain_160 : decode cX4_explain 160 = .ok (.aload_n 0, 1) := dk_42 (dk_at dksX4_explain_6 16 rfl rfl)
theorem dX4_explain_161 : decode cX4_explain 161 = .ok (.aload_n 0, 1) := dk_42 (dk_at dksX4_explain_6 17 rfl rfl)
theorem dX4_explain_162 : decode cX4_explain 162 = .ok (.getfield 296, 3) := dk_180 1 40 (dk_at dksX4_explain_6 18 rfl rfl)
theorem dX4_explain_165 : decode cX4_explain 165 = .ok (.putfield 330, 3) := dk_181 1 74 (dk_at dksX4_explain_6 21 rfl rfl)
theorem dX4_explain_168 : decode cX4_explain 168 = .ok (.iconst 1, 1) := dk_4 (dk_at dksX4_explain_7 0 rfl rfl)
theorem dX4_explain_169 : decode cX4_explain 169 = .ok (.ireturn, 1) := dk_172 (dk_at dksX4_explain_7 1 rfl rfl)
theorem dX4_explain_170 : decode cX4_explain 170 = .ok (.iinc 5 1, 3) := dk_132 5 1 (dk_at dksX4_explain_7 2 rfl rfl)
theorem dX4_explain_173 : decode cX4_explain 173 = .ok (.goto (-114), 3) := dk_167 255 142 (dk_at dksX4_explain_7 5 rfl rfl)
theorem dX4_explain_176 : decode cX4_explain 176 = .ok (.iinc 4 1, 3) := dk_132 4 1 (dk_at dksX4_explain_7 8 rfl rfl)
theorem dX4_explain_179 : decode cX4_explain 179 = .ok (.goto (-129), 3) := dk_167 255 127 (dk_at dksX4_explain_7 11 rfl rfl)
theorem dX4_explain_182 : decode cX4_explain 182 = .ok (.aload_n 0, 1) := dk_42 (dk_at dksX4_explain_7 14 rfl rfl)
theorem dX4_explain_183 : decode cX4_explain 183 = .ok (.bipush 8, 2) := dk_16 8 (dk_at dksX4_explain_7 15 rfl rfl)
theorem dX4_explain_185 : decode cX4_explain 185 = .ok (.invokevirtual 252, 3) := dk_182 0 252 (dk_at dksX4_explain_7 17 rfl rfl)
theorem dX4_explain_188 : decode cX4_explain 188 = .ok (.ireturn, 1) := dk_172 (dk_at dksX4_explain_7 20 rfl rfl)
abbrev cX4_shows : ByteArray := prog_9_method_35_code
def yX4_shows : MethodName := ⟨RX4, "shows", "(III)Z"⟩
def dkwX4_shows_5 : List UInt8 := [27, 104, 21, 5, 96, 42, 180, 0, 35, 21, 5, 46, 79, 132, 5, 1, 167, 255, 227, 21, 4, 172]
abbrev dktX4_shows_5 : List UInt8 := dkwX4_shows_5 ++ []
def dkwX4_shows_4 : List UInt8 := [54, 4, 132, 5, 1, 167, 255, 199, 3, 54, 5, 21, 5, 16, 84, 162, 0, 28, 42, 180, 0, 32, 16, 84]
abbrev dktX4_shows_4 : List UInt8 := dkwX4_shows_4 ++ dktX4_shows_5
def dkwX4_shows_3 : List UInt8 := [182, 1, 11, 184, 1, 62, 42, 28, 21, 5, 4, 100, 182, 0, 255, 148, 154, 0, 7, 4, 167, 0, 4, 3]
abbrev dktX4_shows_3 : List UInt8 := dkwX4_shows_3 ++ dktX4_shows_4
def dkwX4_shows_2 : List UInt8 := [21, 4, 153, 0, 52, 42, 27, 21, 5, 4, 182, 1, 53, 42, 180, 0, 7, 28, 46, 42, 27, 3]
abbrev dktX4_shows_2 : List UInt8 := dkwX4_shows_2 ++ dktX4_shows_3
def dkwX4_shows_1 : List UInt8 := [21, 4, 96, 46, 79, 132, 4, 1, 167, 255, 227, 4, 54, 4, 4, 54, 5, 21, 5, 29, 163, 0, 57]
abbrev dktX4_shows_1 : List UInt8 := dkwX4_shows_1 ++ dktX4_shows_2
def dkwX4_shows_0 : List UInt8 := [3, 54, 4, 21, 4, 16, 84, 162, 0, 28, 42, 180, 0, 35, 21, 4, 42, 180, 0, 32, 16, 84, 27, 104]
abbrev dktX4_shows_0 : List UInt8 := dkwX4_shows_0 ++ dktX4_shows_1
theorem dksX4_shows_0 : cX4_shows.data.toList.drop 0 = dktX4_shows_0 := by decide +kernel
theorem dksX4_shows_1 : cX4_shows.data.toList.drop 24 = dktX4_shows_1 := dk_seg dksX4_shows_0 24 rfl rfl
theorem dksX4_shows_2 : cX4_shows.data.toList.drop 47 = dktX4_shows_2 := dk_seg dksX4_shows_1 23 rfl rfl
theorem dksX4_shows_3 : cX4_shows.data.toList.drop 69 = dktX4_shows_3 := dk_seg dksX4_shows_2 22 rfl rfl
theorem dksX4_shows_4 : cX4_shows.data.toList.drop 93 = dktX4_shows_4 := dk_seg dksX4_shows_3 24 rfl rfl
theorem dksX4_shows_5 : cX4_shows.data.toList.drop 117 = dktX4_shows_5 := dk_seg dksX4_shows_4 24 rfl rfl
theorem dX4_shows_0 : decode cX4_shows 0 = .ok (.iconst 0, 1) := dk_3 (dk_at dksX4_shows_0 0 rfl rfl)
theorem dX4_shows_1 : decode cX4_shows 1 = .ok (.istore 4, 2) := dk_54 4 (dk_at dksX4_shows_0 1 rfl rfl)
theorem dX4_shows_3 : decode cX4_shows 3 = .ok (.iload 4, 2) := dk_21 4 (dk_at dksX4_shows_0 3 rfl rfl)
theorem dX4_shows_5 : decode cX4_shows 5 = .ok (.bipush 84, 2) := dk_16 84 (dk_at dksX4_shows_0 5 rfl rfl)
theorem dX4_shows_7 : decode cX4_shows 7 = .ok (.if_icmp .ge 28, 3) := dk_162 0 28 (dk_at dksX4_shows_0 7 rfl rfl)
theorem dX4_shows_10 : decode cX4_shows 10 = .ok (.aload_n 0, 1) := dk_42 (dk_at dksX4_shows_0 10 rfl rfl)
theorem dX4_shows_11 : decode cX4_shows 11 = .ok (.getfield 35, 3) := dk_180 0 35 (dk_at dksX4_shows_0 11 rfl rfl)
theorem dX4_shows_14 : decode cX4_shows 14 = .ok (.iload 4, 2) := dk_21 4 (dk_at dksX4_shows_0 14 rfl rfl)
theorem dX4_shows_16 : decode cX4_shows 16 = .ok (.aload_n 0, 1) := dk_42 (dk_at dksX4_shows_0 16 rfl rfl)
theorem dX4_shows_17 : decode cX4_shows 17 = .ok (.getfield 32, 3) := dk_180 0 32 (dk_at dksX4_shows_0 17 rfl rfl)
theorem dX4_shows_20 : decode cX4_shows 20 = .ok (.bipush 84, 2) := dk_16 84 (dk_at dksX4_shows_0 20 rfl rfl)
theorem dX4_shows_22 : decode cX4_shows 22 = .ok (.iload_n 1, 1) := dk_27 (dk_at dksX4_shows_0 22 rfl rfl)
theorem dX4_shows_23 : decode cX4_shows 23 = .ok (.imul, 1) := dk_104 (dk_at dksX4_shows_0 23 rfl rfl)
theorem dX4_shows_24 : decode cX4_shows 24 = .ok (.iload 4, 2) := dk_21 4 (dk_at dksX4_shows_1 0 rfl rfl)
theorem dX4_shows_26 : decode cX4_shows 26 = .ok (.iadd, 1) := dk_96 (dk_at dksX4_shows_1 2 rfl rfl)
theorem dX4_shows_27 : decode cX4_shows 27 = .ok (.iaload, 1) := dk_46 (dk_at dksX4_shows_1 3 rfl rfl)
theorem dX4_shows_28 : decode cX4_shows 28 = .ok (.iastore, 1) := dk_79 (dk_at dksX4_shows_1 4 rfl rfl)
theorem dX4_shows_29 : decode cX4_shows 29 = .ok (.iinc 4 1, 3) := dk_132 4 1 (dk_at dksX4_shows_1 5 rfl rfl)
theorem dX4_shows_32 : decode cX4_shows 32 = .ok (.goto (-29), 3) := dk_167 255 227 (dk_at dksX4_shows_1 8 rfl rfl)
theorem dX4_shows_35 : decode cX4_shows 35 = .ok (.iconst 1, 1) := dk_4 (dk_at dksX4_shows_1 11 rfl rfl)
theorem dX4_shows_36 : decode cX4_shows 36 = .ok (.istore 4, 2) := dk_54 4 (dk_at dksX4_shows_1 12 rfl rfl)
theorem dX4_shows_38 : decode cX4_shows 38 = .ok (.iconst 1, 1) := dk_4 (dk_at dksX4_shows_1 14 rfl rfl)
theorem dX4_shows_39 : decode cX4_shows 39 = .ok (.istore 5, 2) := dk_54 5 (dk_at dksX4_shows_1 15 rfl rfl)
theorem dX4_shows_41 : decode cX4_shows 41 = .ok (.iload 5, 2) := dk_21 5 (dk_at dksX4_shows_1 17 rfl rfl)
theorem dX4_shows_43 : decode cX4_shows 43 = .ok (.iload_n 3, 1) := dk_29 (dk_at dksX4_shows_1 19 rfl rfl)
theorem dX4_shows_44 : decode cX4_shows 44 = .ok (.if_icmp .gt 57, 3) := dk_163 0 57 (dk_at dksX4_shows_1 20 rfl rfl)
theorem dX4_shows_47 : decode cX4_shows 47 = .ok (.iload 4, 2) := dk_21 4 (dk_at dksX4_shows_2 0 rfl rfl)
theorem dX4_shows_49 : decode cX4_shows 49 = .ok (.ifCond .eq 52, 3) := dk_153 0 52 (dk_at dksX4_shows_2 2 rfl rfl)
theorem dX4_shows_52 : decode cX4_shows 52 = .ok (.aload_n 0, 1) := dk_42 (dk_at dksX4_shows_2 5 rfl rfl)
theorem dX4_shows_53 : decode cX4_shows 53 = .ok (.iload_n 1, 1) := dk_27 (dk_at dksX4_shows_2 6 rfl rfl)
theorem dX4_shows_54 : decode cX4_shows 54 = .ok (.iload 5, 2) := dk_21 5 (dk_at dksX4_shows_2 7 rfl rfl)
theorem dX4_shows_56 : decode cX4_shows 56 = .ok (.iconst 1, 1) := dk_4 (dk_at dksX4_shows_2 9 rfl rfl)
theorem dX4_shows_57 : decode cX4_shows 57 = .ok (.invokevirtual 309, 3) := dk_182 1 53 (dk_at dksX4_shows_2 10 rfl rfl)
theorem dX4_shows_60 : decode cX4_shows 60 = .ok (.aload_n 0, 1) := dk_42 (dk_at dksX4_shows_2 13 rfl rfl)
theorem dX4_shows_61 : decode cX4_shows 61 = .ok (.getfield 7, 3) := dk_180 0 7 (dk_at dksX4_shows_2 14 rfl rfl)
theorem dX4_shows_64 : decode cX4_shows 64 = .ok (.iload_n 2, 1) := dk_28 (dk_at dksX4_shows_2 17 rfl rfl)
theorem dX4_shows_65 : decode cX4_shows 65 = .ok (.iaload, 1) := dk_46 (dk_at dksX4_shows_2 18 rfl rfl)
theorem dX4_shows_66 : decode cX4_shows 66 = .ok (.aload_n 0, 1) := dk_42 (dk_at dksX4_shows_2 19 rfl rfl)
theorem dX4_shows_67 : decode cX4_shows 67 = .ok (.iload_n 1, 1) := dk_27 (dk_at dksX4_shows_2 20 rfl rfl)
theorem dX4_shows_68 : decode cX4_shows 68 = .ok (.iconst 0, 1) := dk_3 (dk_at dksX4_shows_2 21 rfl rfl)
theorem dX4_shows_69 : decode cX4_shows 69 = .ok (.invokevirtual 267, 3) := dk_182 1 11 (dk_at dksX4_shows_3 0 rfl rfl)
theorem dX4_shows_72 : decode cX4_shows 72 = .ok (.invokestatic 318, 3) := dk_184 1 62 (dk_at dksX4_shows_3 3 rfl rfl)
theorem dX4_shows_75 : decode cX4_shows 75 = .ok (.aload_n 0, 1) := dk_42 (dk_at dksX4_shows_3 6 rfl rfl)
theorem dX4_shows_76 : decode cX4_shows 76 = .ok (.iload_n 2, 1) := dk_28 (dk_at dksX4_shows_3 7 rfl rfl)
theorem dX4_shows_77 : decode cX4_shows 77 = .ok (.iload 5, 2) := dk_21 5 (dk_at dksX4_shows_3 8 rfl rfl)
theorem dX4_shows_79 : decode cX4_shows 79 = .ok (.iconst 1, 1) := dk_4 (dk_at dksX4_shows_3 10 rfl rfl)
theorem dX4_shows_80 : decode cX4_shows 80 = .ok (.isub, 1) := dk_100 (dk_at dksX4_shows_3 11 rfl rfl)
theorem dX4_shows_81 : decode cX4_shows 81 = .ok (.invokevirtual 255, 3) := dk_182 0 255 (dk_at dksX4_shows_3 12 rfl rfl)
theorem dX4_shows_84 : decode cX4_shows 84 = .ok (.lcmp, 1) := dk_148 (dk_at dksX4_shows_3 15 rfl rfl)
theorem dX4_shows_85 : decode cX4_shows 85 = .ok (.ifCond .ne 7, 3) := dk_154 0 7 (dk_at dksX4_shows_3 16 rfl rfl)
theorem dX4_shows_88 : decode cX4_shows 88 = .ok (.iconst 1, 1) := dk_4 (dk_at dksX4_shows_3 19 rfl rfl)
theorem dX4_shows_89 : decode cX4_shows 89 = .ok (.goto 4, 3) := dk_167 0 4 (dk_at dksX4_shows_3 20 rfl rfl)
theorem dX4_shows_92 : decode cX4_shows 92 = .ok (.iconst 0, 1) := dk_3 (dk_at dksX4_shows_3 23 rfl rfl)
theorem dX4_shows_93 : decode cX4_shows 93 = .ok (.istore 4, 2) := dk_54 4 (dk_at dksX4_shows_4 0 rfl rfl)
theorem dX4_shows_95 : decode cX4_shows 95 = .ok (.iinc 5 1, 3) := dk_132 5 1 (dk_at dksX4_shows_4 2 rfl rfl)
theorem dX4_shows_98 : decode cX4_shows 98 = .ok (.goto (-57), 3) := dk_167 255 199 (dk_at dksX4_shows_4 5 rfl rfl)
theorem dX4_shows_101 : decode cX4_shows 101 = .ok (.iconst 0, 1) := dk_3 (dk_at dksX4_shows_4 8 rfl rfl)
theorem dX4_shows_102 : decode cX4_shows 102 = .ok (.istore 5, 2) := dk_54 5 (dk_at dksX4_shows_4 9 rfl rfl)
theorem dX4_shows_104 : decode cX4_shows 104 = .ok (.iload 5, 2) := dk_21 5 (dk_at dksX4_shows_4 11 rfl rfl)
theorem dX4_shows_106 : decode cX4_shows 106 = .ok (.bipush 84, 2) := dk_16 84 (dk_at dksX4_shows_4 13 rfl rfl)
theorem dX4_shows_108 : decode cX4_shows 108 = .ok (.if_icmp .ge 28, 3) := dk_162 0 28 (dk_at dksX4_shows_4 15 rfl rfl)
theorem dX4_shows_111 : decode cX4_shows 111 = .ok (.aload_n 0, 1) := dk_42 (dk_at dksX4_shows_4 18 rfl rfl)
theorem dX4_shows_112 : decode cX4_shows 112 = .ok (.getfield 32, 3) := dk_180 0 32 (dk_at dksX4_shows_4 19 rfl rfl)
theorem dX4_shows_115 : decode cX4_shows 115 = .ok (.bipush 84, 2) := dk_16 84 (dk_at dksX4_shows_4 22 rfl rfl)
theorem dX4_shows_117 : decode cX4_shows 117 = .ok (.iload_n 1, 1) := dk_27 (dk_at dksX4_shows_5 0 rfl rfl)
theorem dX4_shows_118 : decode cX4_shows 118 = .ok (.imul, 1) := dk_104 (dk_at dksX4_shows_5 1 rfl rfl)
theorem dX4_shows_119 : decode cX4_shows 119 = .ok (.iload 5, 2) := dk_21 5 (dk_at dksX4_shows_5 2 rfl rfl)
theorem dX4_shows_121 : decode cX4_shows 121 = .ok (.iadd, 1) := dk_96 (dk_at dksX4_shows_5 4 rfl rfl)
theorem dX4_shows_122 : decode cX4_shows 122 = .ok (.aload_n 0, 1) := dk_42 (dk_at dksX4_shows_5 5 rfl rfl)
theorem dX4_shows_123 : decode cX4_shows 123 = .ok (.getfield 35, 3) := dk_180 0 35 (dk_at dksX4_shows_5 6 rfl rfl)
theorem dX4_shows_126 : decode cX4_shows 126 = .ok (.iload 5, 2) := dk_21 5 (dk_at dksX4_shows_5 9 rfl rfl)
theorem dX4_shows_128 : decode cX4_shows 128 = .ok (.iaload, 1) := dk_46 (dk_at dksX4_shows_5 11 rfl rfl)
theorem dX4_shows_129 : decode cX4_shows 129 = .ok (.iastore, 1) := dk_79 (dk_at dksX4_shows_5 12 rfl rfl)
theorem dX4_shows_130 : decode cX4_shows 130 = .ok (.iinc 5 1, 3) := dk_132 5 1 (dk_at dksX4_shows_5 13 rfl rfl)
theorem dX4_shows_133 : decode cX4_shows 133 = .ok (.goto (-29), 3) := dk_167 255 227 (dk_at dksX4_shows_5 16 rfl rfl)
theorem dX4_shows_136 : decode cX4_shows 136 = .ok (.iload 4, 2) := dk_21 4 (dk_at dksX4_shows_5 19 rfl rfl)
theorem dX4_shows_138 : decode cX4_shows 138 = .ok (.ireturn, 1) := dk_172 (dk_at dksX4_shows_5 21 rfl rfl)
abbrev cX4_because : ByteArray := prog_9_method_37_code
def yX4_because : MethodName := ⟨RX4, "because", "(I)I"⟩
def dkwX4_because_3 : List UInt8 := [180, 1, 71, 167, 0, 7, 42, 180, 1, 74, 172]
abbrev dktX4_because_3 : List UInt8 := dkwX4_because_3 ++ []
def dkwX4_because_2 : List UInt8 := [180, 0, 61, 167, 0, 31, 27, 4, 160, 0, 10, 42, 180, 1, 68, 167, 0, 19, 27, 5, 160, 0, 10, 42]
abbrev dktX4_because_2 : List UInt8 := dkwX4_because_2 ++ dktX4_because_3
def dkwX4_because_1 : List UInt8 := [182, 0, 252, 172, 42, 180, 0, 61, 156, 0, 10, 42, 16, 8, 182, 0, 252, 172, 27, 154, 0, 10, 42]
abbrev dktX4_because_1 : List UInt8 := dkwX4_because_1 ++ dktX4_because_2
def dkwX4_because_0 : List UInt8 := [42, 3, 181, 0, 212, 42, 3, 181, 0, 215, 27, 133, 9, 20, 1, 77, 184, 0, 239, 154, 0, 9, 42, 8]
abbrev dktX4_because_0 : List UInt8 := dkwX4_because_0 ++ dktX4_because_1
theorem dksX4_because_0 : cX4_because.data.toList.drop 0 = dktX4_because_0 := by decide +kernel
theorem dksX4_because_1 : cX4_because.data.toList.drop 24 = dktX4_because_1 := dk_seg dksX4_because_0 24 rfl rfl
theorem dksX4_because_2 : cX4_because.data.toList.drop 47 = dktX4_because_2 := dk_seg dksX4_because_1 23 rfl rfl
theorem dksX4_because_3 : cX4_because.data.toList.drop 71 = dktX4_because_3 := dk_seg dksX4_because_2 24 rfl rfl
theorem dX4_because_0 : decode cX4_because 0 = .ok (.aload_n 0, 1) := dk_42 (dk_at dksX4_because_0 0 rfl rfl)
theorem dX4_because_1 : decode cX4_because 1 = .ok (.iconst 0, 1) := dk_3 (dk_at dksX4_because_0 1 rfl rfl)
theorem dX4_because_2 : decode cX4_because 2 = .ok (.putfield 212, 3) := dk_181 0 212 (dk_at dksX4_because_0 2 rfl rfl)
theorem dX4_because_5 : decode cX4_because 5 = .ok (.aload_n 0, 1) := dk_42 (dk_at dksX4_because_0 5 rfl rfl)
theorem dX4_because_6 : decode cX4_because 6 = .ok (.iconst 0, 1) := dk_3 (dk_at dksX4_because_0 6 rfl rfl)
theorem dX4_because_7 : decode cX4_because 7 = .ok (.putfield 215, 3) := dk_181 0 215 (dk_at dksX4_because_0 7 rfl rfl)
theorem dX4_because_10 : decode cX4_because 10 = .ok (.iload_n 1, 1) := dk_27 (dk_at dksX4_because_0 10 rfl rfl)
theorem dX4_because_11 : decode cX4_because 11 = .ok (.i2l, 1) := dk_133 (dk_at dksX4_because_0 11 rfl rfl)
theorem dX4_because_12 : decode cX4_because 12 = .ok (.lconst 0, 1) := dk_9 (dk_at dksX4_because_0 12 rfl rfl)
theorem dX4_because_13 : decode cX4_because 13 = .ok (.ldc2_w 333, 3) := dk_20 1 77 (dk_at dksX4_because_0 13 rfl rfl)
theorem dX4_because_16 : decode cX4_because 16 = .ok (.invokestatic 239, 3) := dk_184 0 239 (dk_at dksX4_because_0 16 rfl rfl)
theorem dX4_because_19 : decode cX4_because 19 = .ok (.ifCond .ne 9, 3) := dk_154 0 9 (dk_at dksX4_because_0 19 rfl rfl)
theorem dX4_because_22 : decode cX4_because 22 = .ok (.aload_n 0, 1) := dk_42 (dk_at dksX4_because_0 22 rfl rfl)
theorem dX4_because_23 : decode cX4_because 23 = .ok (.iconst 5, 1) := dk_8 (dk_at dksX4_because_0 23 rfl rfl)
theorem dX4_because_24 : decode cX4_because 24 = .ok (.invokevirtual 252, 3) := dk_182 0 252 (dk_at dksX4_because_1 0 rfl rfl)
theorem dX4_because_27 : decode cX4_because 27 = .ok (.ireturn, 1) := dk_172 (dk_at dksX4_because_1 3 rfl rfl)
theorem dX4_because_28 : decode cX4_because 28 = .ok (.aload_n 0, 1) := dk_42 (dk_at dksX4_because_1 4 rfl rfl)
theorem dX4_because_29 : decode cX4_because 29 = .ok (.getfield 61, 3) := dk_180 0 61 (dk_at dksX4_because_1 5 rfl rfl)
theorem dX4_because_32 : decode cX4_because 32 = .ok (.ifCond .ge 10, 3) := dk_156 0 10 (dk_at dksX4_because_1 8 rfl rfl)
theorem dX4_because_35 : decode cX4_because 35 = .ok (.aload_n 0, 1) := dk_42 (dk_at dksX4_because_1 11 rfl rfl)
theorem dX4_because_36 : decode cX4_because 36 = .ok (.bipush 8, 2) := dk_16 8 (dk_at dksX4_because_1 12 rfl rfl)
theorem dX4_because_38 : decode cX4_because 38 = .ok (.invokevirtual 252, 3) := dk_182 0 252 (dk_at dksX4_because_1 14 rfl rfl)
theorem dX4_because_41 : decode cX4_because 41 = .ok (.ireturn, 1) := dk_172 (dk_at dksX4_because_1 17 rfl rfl)
theorem dX4_because_42 : decode cX4_because 42 = .ok (.iload_n 1, 1) := dk_27 (dk_at dksX4_because_1 18 rfl rfl)
theorem dX4_because_43 : decode cX4_because 43 = .ok (.ifCond .ne 10, 3) := dk_154 0 10 (dk_at dksX4_because_1 19 rfl rfl)
theorem dX4_because_46 : decode cX4_because 46 = .ok (.aload_n 0, 1) := dk_42 (dk_at dksX4_because_1 22 rfl rfl)
theorem dX4_because_47 : decode cX4_because 47 = .ok (.getfield 61, 3) := dk_180 0 61 (dk_at dksX4_because_2 0 rfl rfl)
theorem dX4_because_50 : decode cX4_because 50 = .ok (.goto 31, 3) := dk_167 0 31 (dk_at dksX4_because_2 3 rfl rfl)
theorem dX4_because_53 : decode cX4_because 53 = .ok (.iload_n 1, 1) := dk_27 (dk_at dksX4_because_2 6 rfl rfl)
theorem dX4_because_54 : decode cX4_because 54 = .ok (.iconst 1, 1) := dk_4 (dk_at dksX4_because_2 7 rfl rfl)
theorem dX4_because_55 : decode cX4_because 55 = .ok (.if_icmp .ne 10, 3) := dk_160 0 10 (dk_at dksX4_because_2 8 rfl rfl)
theorem dX4_because_58 : decode cX4_because 58 = .ok (.aload_n 0, 1) := dk_42 (dk_at dksX4_because_2 11 rfl rfl)
theorem dX4_because_59 : decode cX4_because 59 = .ok (.getfield 324, 3) := dk_180 1 68 (dk_at dksX4_because_2 12 rfl rfl)
theorem dX4_because_62 : decode cX4_because 62 = .ok (.goto 19, 3) := dk_167 0 19 (dk_at dksX4_because_2 15 rfl rfl)
theorem dX4_because_65 : decode cX4_because 65 = .ok (.iload_n 1, 1) := dk_27 (dk_at dksX4_because_2 18 rfl rfl)
theorem dX4_because_66 : decode cX4_because 66 = .ok (.iconst 2, 1) := dk_5 (dk_at dksX4_because_2 19 rfl rfl)
theorem dX4_because_67 : decode cX4_because 67 = .ok (.if_icmp .ne 10, 3) := dk_160 0 10 (dk_at dksX4_because_2 20 rfl rfl)
theorem dX4_because_70 : decode cX4_because 70 = .ok (.aload_n 0, 1) := dk_42 (dk_at dksX4_because_2 23 rfl rfl)
theorem dX4_because_71 : decode cX4_because 71 = .ok (.getfield 327, 3) := dk_180 1 71 (dk_at dksX4_because_3 0 rfl rfl)
theorem dX4_because_74 : decode cX4_because 74 = .ok (.goto 7, 3) := dk_167 0 7 (dk_at dksX4_because_3 3 rfl rfl)
theorem dX4_because_77 : decode cX4_because 77 = .ok (.aload_n 0, 1) := dk_42 (dk_at dksX4_because_3 6 rfl rfl)
theorem dX4_because_78 : decode cX4_because 78 = .ok (.getfield 330, 3) := dk_180 1 74 (dk_at dksX4_because_3 7 rfl rfl)
theorem dX4_because_81 : decode cX4_because 81 = .ok (.ireturn, 1) := dk_172 (dk_at dksX4_because_3 10 rfl rfl)
abbrev cX4_finer : ByteArray := prog_9_method_41_code
def yX4_finer : MethodName := ⟨RX4, "finer", "(IIII)I"⟩
def dkwX4_finer_11 : List UInt8 := [21, 7, 182, 1, 92, 153, 0, 6, 21, 7, 172, 132, 7, 1, 167, 255, 228, 42, 16, 8, 182, 0, 252, 172]
abbrev dktX4_finer_11 : List UInt8 := dkwX4_finer_11 ++ []
def dkwX4_finer_10 : List UInt8 := [132, 7, 1, 167, 255, 234, 3, 54, 7, 21, 7, 16, 6, 163, 0, 27, 42, 28, 29, 21, 4, 22, 5]
abbrev dktX4_finer_10 : List UInt8 := dkwX4_finer_10 ++ dktX4_finer_11
def dkwX4_finer_9 : List UInt8 := [55, 5, 3, 54, 7, 21, 7, 28, 162, 0, 22, 22, 5, 29, 133, 21, 7, 4, 96, 133, 105, 105, 55, 5]
abbrev dktX4_finer_9 : List UInt8 := dkwX4_finer_9 ++ dktX4_finer_10
def dkwX4_finer_8 : List UInt8 := [180, 0, 203, 21, 6, 4, 100, 47, 101, 80, 132, 6, 255, 167, 255, 227, 132, 5, 1, 167, 255, 212, 10]
abbrev dktX4_finer_8 : List UInt8 := dkwX4_finer_8 ++ dktX4_finer_9
def dkwX4_finer_7 : List UInt8 := [163, 0, 44, 28, 54, 6, 21, 6, 21, 5, 161, 0, 28, 42, 180, 0, 203, 21, 6, 92, 47, 42]
abbrev dktX4_finer_7 : List UInt8 := dkwX4_finer_7 ++ dktX4_finer_8
def dkwX4_finer_6 : List UInt8 := [21, 5, 42, 27, 21, 5, 182, 0, 255, 80, 132, 5, 1, 167, 255, 233, 4, 54, 5, 21, 5, 28]
abbrev dktX4_finer_6 : List UInt8 := dkwX4_finer_6 ++ dktX4_finer_7
def dkwX4_finer_5 : List UInt8 := [182, 0, 252, 172, 132, 5, 1, 167, 255, 222, 3, 54, 5, 21, 5, 28, 163, 0, 23, 42, 180, 0, 203]
abbrev dktX4_finer_5 : List UInt8 := dkwX4_finer_5 ++ dktX4_finer_6
def dkwX4_finer_4 : List UInt8 := [163, 0, 34, 42, 27, 21, 5, 182, 0, 255, 20, 1, 88, 20, 1, 90, 184, 0, 239, 154, 0, 9, 42, 8]
abbrev dktX4_finer_4 : List UInt8 := dkwX4_finer_4 ++ dktX4_finer_5
def dkwX4_finer_3 : List UInt8 := [180, 0, 13, 27, 46, 28, 4, 96, 162, 0, 9, 42, 7, 182, 0, 252, 172, 3, 54, 5, 21, 5, 28]
abbrev dktX4_finer_3 : List UInt8 := dkwX4_finer_3 ++ dktX4_finer_4
def dkwX4_finer_2 : List UInt8 := [153, 0, 16, 21, 4, 133, 10, 20, 1, 57, 184, 0, 239, 154, 0, 9, 42, 8, 182, 0, 252, 172, 42]
abbrev dktX4_finer_2 : List UInt8 := dkwX4_finer_2 ++ dktX4_finer_3
def dkwX4_finer_1 : List UInt8 := [133, 10, 20, 1, 84, 184, 0, 239, 153, 0, 30, 29, 133, 20, 0, 246, 20, 1, 86, 184, 0, 239]
abbrev dktX4_finer_1 : List UInt8 := dkwX4_finer_1 ++ dktX4_finer_2
def dkwX4_finer_0 : List UInt8 := [42, 3, 181, 0, 212, 42, 42, 27, 182, 0, 222, 181, 0, 215, 42, 180, 0, 215, 158, 0, 5, 2, 172, 28]
abbrev dktX4_finer_0 : List UInt8 := dkwX4_finer_0 ++ dktX4_finer_1
theorem dksX4_finer_0 : cX4_finer.data.toList.drop 0 = dktX4_finer_0 := by decide +kernel
theorem dksX4_finer_1 : cX4_finer.data.toList.drop 24 = dktX4_finer_1 := dk_seg dksX4_finer_0 24 rfl rfl
theorem dksX4_finer_2 : cX4_finer.data.toList.drop 46 = dktX4_finer_2 := dk_seg dksX4_finer_1 22 rfl rfl
theorem dksX4_finer_3 : cX4_finer.data.toList.drop 69 = dktX4_finer_3 := dk_seg dksX4_finer_2 23 rfl rfl
theorem dksX4_finer_4 : cX4_finer.data.toList.drop 92 = dktX4_finer_4 := dk_seg dksX4_finer_3 23 rfl rfl
theorem dksX4_finer_5 : cX4_finer.data.toList.drop 116 = dktX4_finer_5 := dk_seg dksX4_finer_4 24 rfl rfl
theorem dksX4_finer_6 : cX4_finer.data.toList.drop 139 = dktX4_finer_6 := dk_seg dksX4_finer_5 23 rfl rfl
theorem dksX4_finer_7 : cX4_finer.data.toList.drop 161 = dktX4_finer_7 := dk_seg dksX4_finer_6 22 rfl rfl
theorem dksX4_finer_8 : cX4_finer.data.toList.drop 183 = dktX4_finer_8 := dk_seg dksX4_finer_7 22 rfl rfl
theorem dksX4_finer_9 : cX4_finer.data.toList.drop 206 = dktX4_finer_9 := dk_seg dksX4_finer_8 23 rfl rfl
theorem dksX4_finer_10 : cX4_finer.data.toList.drop 230 = dktX4_finer_10 := dk_seg dksX4_finer_9 24 rfl rfl
theorem dksX4_finer_11 : cX4_finer.data.toList.drop 253 = dktX4_finer_11 := dk_seg dksX4_finer_10 23 rfl rfl
theorem dX4_finer_0 : decode cX4_finer 0 = .ok (.aload_n 0, 1) := dk_42 (dk_at dksX4_finer_0 0 rfl rfl)
theorem dX4_finer_1 : decode cX4_finer 1 = .ok (.iconst 0, 1) := dk_3 (dk_at dksX4_finer_0 1 rfl rfl)
theorem dX4_finer_2 : decode cX4_finer 2 = .ok (.putfield 212, 3) := dk_181 0 212 (dk_at dksX4_finer_0 2 rfl rfl)
theorem dX4_finer_5 : decode cX4_finer 5 = .ok (.aload_n 0, 1) := dk_42 (dk_at dksX4_finer_0 5 rfl rfl)
theorem dX4_finer_6 : decode cX4_finer 6 = .ok (.aload_n 0, 1) := dk_42 (dk_at dksX4_finer_0 6 rfl rfl)
theorem dX4_finer_7 : decode cX4_finer 7 = .ok (.iload_n 1, 1) := dk_27 (dk_at dksX4_finer_0 7 rfl rfl)
theorem dX4_finer_8 : decode cX4_finer 8 = .ok (.invokevirtual 222, 3) := dk_182 0 222 (dk_at dksX4_finer_0 8 rfl rfl)
theorem dX4_finer_11 : decode cX4_finer 11 = .ok (.putfield 215, 3) := dk_181 0 215 (dk_at dksX4_finer_0 11 rfl rfl)
theorem dX4_finer_14 : decode cX4_finer 14 = .ok (.aload_n 0, 1) := dk_42 (dk_at dksX4_finer_0 14 rfl rfl)
theorem dX4_finer_15 : decode cX4_finer 15 = .ok (.getfield 215, 3) := dk_180 0 215 (dk_at dksX4_finer_0 15 rfl rfl)
theorem dX4_finer_18 : decode cX4_finer 18 = .ok (.ifCond .le 5, 3) := dk_158 0 5 (dk_at dksX4_finer_0 18 rfl rfl)
theorem dX4_finer_21 : decode cX4_finer 21 = .ok (.iconst (-1), 1) := dk_2 (dk_at dksX4_finer_0 21 rfl rfl)
theorem dX4_finer_22 : decode cX4_finer 22 = .ok (.ireturn, 1) := dk_172 (dk_at dksX4_finer_0 22 rfl rfl)
theorem dX4_finer_23 : decode cX4_finer 23 = .ok (.iload_n 2, 1) := dk_28 (dk_at dksX4_finer_0 23 rfl rfl)
theorem dX4_finer_24 : decode cX4_finer 24 = .ok (.i2l, 1) := dk_133 (dk_at dksX4_finer_1 0 rfl rfl)
theorem dX4_finer_25 : decode cX4_finer 25 = .ok (.lconst 1, 1) := dk_10 (dk_at dksX4_finer_1 1 rfl rfl)
theorem dX4_finer_26 : decode cX4_finer 26 = .ok (.ldc2_w 340, 3) := dk_20 1 84 (dk_at dksX4_finer_1 2 rfl rfl)
theorem dX4_finer_29 : decode cX4_finer 29 = .ok (.invokestatic 239, 3) := dk_184 0 239 (dk_at dksX4_finer_1 5 rfl rfl)
theorem dX4_finer_32 : decode cX4_finer 32 = .ok (.ifCond .eq 30, 3) := dk_153 0 30 (dk_at dksX4_finer_1 8 rfl rfl)
theorem dX4_finer_35 : decode cX4_finer 35 = .ok (.iload_n 3, 1) := dk_29 (dk_at dksX4_finer_1 11 rfl rfl)
theorem dX4_finer_36 : decode cX4_finer 36 = .ok (.i2l, 1) := dk_133 (dk_at dksX4_finer_1 12 rfl rfl)
theorem dX4_finer_37 : decode cX4_finer 37 = .ok (.ldc2_w 246, 3) := dk_20 0 246 (dk_at dksX4_finer_1 13 rfl rfl)
theorem dX4_finer_40 : decode cX4_finer 40 = .ok (.ldc2_w 342, 3) := dk_20 1 86 (dk_at dksX4_finer_1 16 rfl rfl)
theorem dX4_finer_43 : decode cX4_finer 43 = .ok (.invokestatic 239, 3) := dk_184 0 239 (dk_at dksX4_finer_1 19 rfl rfl)
theorem dX4_finer_46 : decode cX4_finer 46 = .ok (.ifCond .eq 16, 3) := dk_153 0 16 (dk_at dksX4_finer_2 0 rfl rfl)
theorem dX4_finer_49 : decode cX4_finer 49 = .ok (.iload 4, 2) := dk_21 4 (dk_at dksX4_finer_2 3 rfl rfl)
theorem dX4_finer_51 : decode cX4_finer 51 = .ok (.i2l, 1) := dk_133 (dk_at dksX4_finer_2 5 rfl rfl)
theorem dX4_finer_52 : decode cX4_finer 52 = .ok (.lconst 1, 1) := dk_10 (dk_at dksX4_finer_2 6 rfl rfl)
theorem dX4_finer_53 : decode cX4_finer 53 = .ok (.ldc2_w 313, 3) := dk_20 1 57 (dk_at dksX4_finer_2 7 rfl rfl)
theorem dX4_finer_56 : decode cX4_finer 56 = .ok (.invokestatic 239, 3) := dk_184 0 239 (dk_at dksX4_finer_2 10 rfl rfl)
theorem dX4_finer_59 : decode cX4_finer 59 = .ok (.ifCond .ne 9, 3) := dk_154 0 9 (dk_at dksX4_finer_2 13 rfl rfl)
theorem dX4_finer_62 : decode cX4_finer 62 = .ok (.aload_n 0, 1) := dk_42 (dk_at dksX4_finer_2 16 rfl rfl)
theorem dX4_finer_63 : decode cX4_finer 63 = .ok (.iconst 5, 1) := dk_8 (dk_at dksX4_finer_2 17 rfl rfl)
theorem dX4_finer_64 : decode cX4_finer 64 = .ok (.invokevirtual 252, 3) := dk_182 0 252 (dk_at dksX4_finer_2 18 rfl rfl)
theorem dX4_finer_67 : decode cX4_finer 67 = .ok (.ireturn, 1) := dk_172 (dk_at dksX4_finer_2 21 rfl rfl)
theorem dX4_finer_68 : decode cX4_finer 68 = .ok (.aload_n 0, 1) := dk_42 (dk_at dksX4_finer_2 22 rfl rfl)
theorem dX4_finer_69 : decode cX4_finer 69 = .ok (.getfield 13, 3) := dk_180 0 13 (dk_at dksX4_finer_3 0 rfl rfl)
theorem dX4_finer_72 : decode cX4_finer 72 = .ok (.iload_n 1, 1) := dk_27 (dk_at dksX4_finer_3 3 rfl rfl)
theorem dX4_finer_73 : decode cX4_finer 73 = .ok (.iaload, 1) := dk_46 (dk_at dksX4_finer_3 4 rfl rfl)
theorem dX4_finer_74 : decode cX4_finer 74 = .ok (.iload_n 2, 1) := dk_28 (dk_at dksX4_finer_3 5 rfl rfl)
theorem dX4_finer_75 : decode cX4_finer 75 = .ok (.iconst 1, 1) := dk_4 (dk_at dksX4_finer_3 6 rfl rfl)
theorem dX4_finer_76 : decode cX4_finer 76 = .ok (.iadd, 1) := dk_96 (dk_at dksX4_finer_3 7 rfl rfl)
theorem dX4_finer_77 : decode cX4_finer 77 = .ok (.if_icmp .ge 9, 3) := dk_162 0 9 (dk_at dksX4_finer_3 8 rfl rfl)
theorem dX4_finer_80 : decode cX4_finer 80 = .ok (.aload_n 0, 1) := dk_42 (dk_at dksX4_finer_3 11 rfl rfl)
theorem dX4_finer_81 : decode cX4_finer 81 = .ok (.iconst 4, 1) := dk_7 (dk_at dksX4_finer_3 12 rfl rfl)
theorem dX4_finer_82 : decode cX4_finer 82 = .ok (.invokevirtual 252, 3) := dk_182 0 252 (dk_at dksX4_finer_3 13 rfl rfl)
theorem dX4_finer_85 : decode cX4_finer 85 = .ok (.ireturn, 1) := dk_172 (dk_at dksX4_finer_3 16 rfl rfl)
theorem dX4_finer_86 : decode cX4_finer 86 = .ok (.iconst 0, 1) := dk_3 (dk_at dksX4_finer_3 17 rfl rfl)
theorem dX4_finer_87 : decode cX4_finer 87 = .ok (.istore 5, 2) := dk_54 5 (dk_at dksX4_finer_3 18 rfl rfl)
theorem dX4_finer_89 : decode cX4_finer 89 = .ok (.iload 5, 2) := dk_21 5 (dk_at dksX4_finer_3 20 rfl rfl)
theorem dX4_finer_91 : decode cX4_finer 91 = .ok (.iload_n 2, 1) := dk_28 (dk_at dksX4_finer_3 22 rfl rfl)
theorem dX4_finer_92 : decode cX4_finer 92 = .ok (.if_icmp .gt 34, 3) := dk_163 0 34 (dk_at dksX4_finer_4 0 rfl rfl)
theorem dX4_finer_95 : decode cX4_finer 95 = .ok (.aload_n 0, 1) := dk_42 (dk_at dksX4_finer_4 3 rfl rfl)
theorem dX4_finer_96 : decode cX4_finer 96 = .ok (.iload_n 1, 1) := dk_27 (dk_at dksX4_finer_4 4 rfl rfl)
theorem dX4_finer_97 : decode cX4_finer 97 = .ok (.iload 5, 2) := dk_21 5 (dk_at dksX4_finer_4 5 rfl rfl)
theorem dX4_finer_99 : decode cX4_finer 99 = .ok (.invokevirtual 255, 3) := dk_182 0 255 (dk_at dksX4_finer_4 7 rfl rfl)
theorem dX4_finer_102 : decode cX4_finer 102 = .ok (.ldc2_w 344, 3) := dk_20 1 88 (dk_at dksX4_finer_4 10 rfl rfl)
theorem dX4_finer_105 : decode cX4_finer 105 = .ok (.ldc2_w 346, 3) := dk_20 1 90 (dk_at dksX4_finer_4 13 rfl rfl)
theorem dX4_finer_108 : decode cX4_finer 108 = .ok (.invokestatic 239, 3) := dk_184 0 239 (dk_at dksX4_finer_4 16 rfl rfl)
theorem dX4_finer_111 : decode cX4_finer 111 = .ok (.ifCond .ne 9, 3) := dk_154 0 9 (dk_at dksX4_finer_4 19 rfl rfl)
theorem dX4_finer_114 : decode cX4_finer 114 = .ok (.aload_n 0, 1) := dk_42 (dk_at dksX4_finer_4 22 rfl rfl)
theorem dX4_finer_115 : decode cX4_finer 115 = .ok (.iconst 5, 1) := dk_8 (dk_at dksX4_finer_4 23 rfl rfl)
theorem dX4_finer_116 : decode cX4_finer 116 = .ok (.invokevirtual 252, 3) := dk_182 0 252 (dk_at dksX4_finer_5 0 rfl rfl)
theorem dX4_finer_119 : decode cX4_finer 119 = .ok (.ireturn, 1) := dk_172 (dk_at dksX4_finer_5 3 rfl rfl)
theorem dX4_finer_120 : decode cX4_finer 120 = .ok (.iinc 5 1, 3) := dk_132 5 1 (dk_at dksX4_finer_5 4 rfl rfl)
theorem dX4_finer_123 : decode cX4_finer 123 = .ok (.goto (-34), 3) := dk_167 255 222 (dk_at dksX4_finer_5 7 rfl rfl)
theorem dX4_finer_126 : decode cX4_finer 126 = .ok (.iconst 0, 1) := dk_3 (dk_at dksX4_finer_5 10 rfl rfl)
theorem dX4_finer_127 : decode cX4_finer 127 = .ok (.istore 5, 2) := dk_54 5 (dk_at dksX4_finer_5 11 rfl rfl)
theorem dX4_finer_129 : decode cX4_finer 129 = .ok (.iload 5, 2) := dk_21 5 (dk_at dksX4_finer_5 13 rfl rfl)
theorem dX4_finer_131 : decode cX4_finer 131 = .ok (.iload_n 2, 1) := dk_28 (dk_at dksX4_finer_5 15 rfl rfl)
theorem dX4_finer_132 : decode cX4_finer 132 = .ok (.if_icmp .gt 23, 3) := dk_163 0 23 (dk_at dksX4_finer_5 16 rfl rfl)
theorem dX4_finer_135 : decode cX4_finer 135 = .ok (.aload_n 0, 1) := dk_42 (dk_at dksX4_finer_5 19 rfl rfl)
theorem dX4_finer_136 : decode cX4_finer 136 = .ok (.getfield 203, 3) := dk_180 0 203 (dk_at dksX4_finer_5 20 rfl rfl)
theorem dX4_finer_139 : decode cX4_finer 139 = .ok (.iload 5, 2) := dk_21 5 (dk_at dksX4_finer_6 0 rfl rfl)
theorem dX4_finer_141 : decode cX4_finer 141 = .ok (.aload_n 0, 1) := dk_42 (dk_at dksX4_finer_6 2 rfl rfl)
theorem dX4_finer_142 : decode cX4_finer 142 = .ok (.iload_n 1, 1) := dk_27 (dk_at dksX4_finer_6 3 rfl rfl)
theorem dX4_finer_143 : decode cX4_finer 143 = .ok (.iload 5, 2) := dk_21 5 (dk_at dksX4_finer_6 4 rfl rfl)
theorem dX4_finer_145 : decode cX4_finer 145 = .ok (.invokevirtual 255, 3) := dk_182 0 255 (dk_at dksX4_finer_6 6 rfl rfl)
theorem dX4_finer_148 : decode cX4_finer 148 = .ok (.lastore, 1) := dk_80 (dk_at dksX4_finer_6 9 rfl rfl)
theorem dX4_finer_149 : decode cX4_finer 149 = .ok (.iinc 5 1, 3) := dk_132 5 1 (dk_at dksX4_finer_6 10 rfl rfl)
theorem dX4_finer_152 : decode cX4_finer 152 = .ok (.goto (-23), 3) := dk_167 255 233 (dk_at dksX4_finer_6 13 rfl rfl)
theorem dX4_finer_155 : decode cX4_finer 155 = .ok (.iconst 1, 1) := dk_4 (dk_at dksX4_finer_6 16 rfl rfl)
theorem dX4_finer_156 : decode cX4_finer 156 = .ok (.istore 5, 2) := dk_54 5 (dk_at dksX4_finer_6 17 rfl rfl)
theorem dX4_finer_158 : decode cX4_finer 158 = .ok (.iload 5, 2) := dk_21 5 (dk_at dksX4_finer_6 19 rfl rfl)
theorem dX4_finer_160 : decode cX4_finer 160 = .ok (.iload_n 2, 1) := dk_28 (dk_at dksX4_finer_6 21 rfl rfl)
theorem dX4_finer_161 : decode cX4_finer 161 = .ok (.if_icmp .gt 44, 3) := dk_163 0 44 (dk_at dksX4_finer_7 0 rfl rfl)
theorem dX4_finer_164 : decode cX4_finer 164 = .ok (.iload_n 2, 1) := dk_28 (dk_at dksX4_finer_7 3 rfl rfl)
theorem dX4_finer_165 : decode cX4_finer 165 = .ok (.istore 6, 2) := dk_54 6 (dk_at dksX4_finer_7 4 rfl rfl)
theorem dX4_finer_167 : decode cX4_finer 167 = .ok (.iload 6, 2) := dk_21 6 (dk_at dksX4_finer_7 6 rfl rfl)
theorem dX4_finer_169 : decode cX4_finer 169 = .ok (.iload 5, 2) := dk_21 5 (dk_at dksX4_finer_7 8 rfl rfl)
theorem dX4_finer_171 : decode cX4_finer 171 = .ok (.if_icmp .lt 28, 3) := dk_161 0 28 (dk_at dksX4_finer_7 10 rfl rfl)
theorem dX4_finer_174 : decode cX4_finer 174 = .ok (.aload_n 0, 1) := dk_42 (dk_at dksX4_finer_7 13 rfl rfl)
theorem dX4_finer_175 : decode cX4_finer 175 = .ok (.getfield 203, 3) := dk_180 0 203 (dk_at dksX4_finer_7 14 rfl rfl)
theorem dX4_finer_178 : decode cX4_finer 178 = .ok (.iload 6, 2) := dk_21 6 (dk_at dksX4_finer_7 17 rfl rfl)
theorem dX4_finer_180 : decode cX4_finer 180 = .ok (.dup2, 1) := dk_92 (dk_at dksX4_finer_7 19 rfl rfl)
theorem dX4_finer_181 : decode cX4_finer 181 = .ok (.laload, 1) := dk_47 (dk_at dksX4_finer_7 20 rfl rfl)
theorem dX4_finer_182 : decode cX4_finer 182 = .ok (.aload_n 0, 1) := dk_42 (dk_at dksX4_finer_7 21 rfl rfl)
theorem dX4_finer_183 : decode cX4_finer 183 = .ok (.getfield 203, 3) := dk_180 0 203 (dk_at dksX4_finer_8 0 rfl rfl)
theorem dX4_finer_186 : decode cX4_finer 186 = .ok (.iload 6, 2) := dk_21 6 (dk_at dksX4_finer_8 3 rfl rfl)
theorem dX4_finer_188 : decode cX4_finer 188 = .ok (.iconst 1, 1) := dk_4 (dk_at dksX4_finer_8 5 rfl rfl)
theorem dX4_finer_189 : decode cX4_finer 189 = .ok (.isub, 1) := dk_100 (dk_at dksX4_finer_8 6 rfl rfl)
theorem dX4_finer_190 : decode cX4_finer 190 = .ok (.laload, 1) := dk_47 (dk_at dksX4_finer_8 7 rfl rfl)
theorem dX4_finer_191 : decode cX4_finer 191 = .ok (.lsub, 1) := dk_101 (dk_at dksX4_finer_8 8 rfl rfl)
theorem dX4_finer_192 : decode cX4_finer 192 = .ok (.lastore, 1) := dk_80 (dk_at dksX4_finer_8 9 rfl rfl)
theorem dX4_finer_193 : decode cX4_finer 193 = .ok (.iinc 6 (-1), 3) := dk_132 6 255 (dk_at dksX4_finer_8 10 rfl rfl)
theorem dX4_finer_196 : decode cX4_finer 196 = .ok (.goto (-29), 3) := dk_167 255 227 (dk_at dksX4_finer_8 13 rfl rfl)
theorem dX4_finer_199 : decode cX4_finer 199 = .ok (.iinc 5 1, 3) := dk_132 5 1 (dk_at dksX4_finer_8 16 rfl rfl)
theorem dX4_finer_202 : decode cX4_finer 202 = .ok (.goto (-44), 3) := dk_167 255 212 (dk_at dksX4_finer_8 19 rfl rfl)
theorem dX4_finer_205 : decode cX4_finer 205 = .ok (.lconst 1, 1) := dk_10 (dk_at dksX4_finer_8 22 rfl rfl)
theorem dX4_finer_206 : decode cX4_finer 206 = .ok (.lstore 5, 2) := dk_55 5 (dk_at dksX4_finer_9 0 rfl rfl)
theorem dX4_finer_208 : decode cX4_finer 208 = .ok (.iconst 0, 1) := dk_3 (dk_at dksX4_finer_9 2 rfl rfl)
theorem dX4_finer_209 : decode cX4_finer 209 = .ok (.istore 7, 2) := dk_54 7 (dk_at dksX4_finer_9 3 rfl rfl)
theorem dX4_finer_211 : decode cX4_finer 211 = .ok (.iload 7, 2) := dk_21 7 (dk_at dksX4_finer_9 5 rfl rfl)
theorem dX4_finer_213 : decode cX4_finer 213 = .ok (.iload_n 2, 1) := dk_28 (dk_at dksX4_finer_9 7 rfl rfl)
theorem dX4_finer_214 : decode cX4_finer 214 = .ok (.if_icmp .ge 22, 3) := dk_162 0 22 (dk_at dksX4_finer_9 8 rfl rfl)
theorem dX4_finer_217 : decode cX4_finer 217 = .ok (.lload 5, 2) := dk_22 5 (dk_at dksX4_finer_9 11 rfl rfl)
theorem dX4_finer_219 : decode cX4_finer 219 = .ok (.iload_n 3, 1) := dk_29 (dk_at dksX4_finer_9 13 rfl rfl)
theorem dX4_finer_220 : decode cX4_finer 220 = .ok (.i2l, 1) := dk_133 (dk_at dksX4_finer_9 14 rfl rfl)
theorem dX4_finer_221 : decode cX4_finer 221 = .ok (.iload 7, 2) := dk_21 7 (dk_at dksX4_finer_9 15 rfl rfl)
theorem dX4_finer_223 : decode cX4_finer 223 = .ok (.iconst 1, 1) := dk_4 (dk_at dksX4_finer_9 17 rfl rfl)
theorem dX4_finer_224 : decode cX4_finer 224 = .ok (.iadd, 1) := dk_96 (dk_at dksX4_finer_9 18 rfl rfl)
theorem dX4_finer_225 : decode cX4_finer 225 = .ok (.i2l, 1) := dk_133 (dk_at dksX4_finer_9 19 rfl rfl)
theorem dX4_finer_226 : decode cX4_finer 226 = .ok (.lmul, 1) := dk_105 (dk_at dksX4_finer_9 20 rfl rfl)
theorem dX4_finer_227 : decode cX4_finer 227 = .ok (.lmul, 1) := dk_105 (dk_at dksX4_finer_9 21 rfl rfl)
theorem dX4_finer_228 : decode cX4_finer 228 = .ok (.lstore 5, 2) := dk_55 5 (dk_at dksX4_finer_9 22 rfl rfl)
theorem dX4_finer_230 : decode cX4_finer 230 = .ok (.iinc 7 1, 3) := dk_132 7 1 (dk_at dksX4_finer_10 0 rfl rfl)
theorem dX4_finer_233 : decode cX4_finer 233 = .ok (.goto (-22), 3) := dk_167 255 234 (dk_at dksX4_finer_10 3 rfl rfl)
theorem dX4_finer_236 : decode cX4_finer 236 = .ok (.iconst 0, 1) := dk_3 (dk_at dksX4_finer_10 6 rfl rfl)
theorem dX4_finer_237 : decode cX4_finer 237 = .ok (.istore 7, 2) := dk_54 7 (dk_at dksX4_finer_10 7 rfl rfl)
theorem dX4_finer_239 : decode cX4_finer 239 = .ok (.iload 7, 2) := dk_21 7 (dk_at dksX4_finer_10 9 rfl rfl)
theorem dX4_finer_241 : decode cX4_finer 241 = .ok (.bipush 6, 2) := dk_16 6 (dk_at dksX4_finer_10 11 rfl rfl)
theorem dX4_finer_243 : decode cX4_finer 243 = .ok (.if_icmp .gt 27, 3) := dk_163 0 27 (dk_at dksX4_finer_10 13 rfl rfl)
theorem dX4_finer_246 : decode cX4_finer 246 = .ok (.aload_n 0, 1) := dk_42 (dk_at dksX4_finer_10 16 rfl rfl)
theorem dX4_finer_247 : decode cX4_finer 247 = .ok (.iload_n 2, 1) := dk_28 (dk_at dksX4_finer_10 17 rfl rfl)
theorem dX4_finer_248 : decode cX4_finer 248 = .ok (.iload_n 3, 1) := dk_29 (dk_at dksX4_finer_10 18 rfl rfl)
theorem dX4_finer_249 : decode cX4_finer 249 = .ok (.iload 4, 2) := dk_21 4 (dk_at dksX4_finer_10 19 rfl rfl)
theorem dX4_finer_251 : decode cX4_finer 251 = .ok (.lload 5, 2) := dk_22 5 (dk_at dksX4_finer_10 21 rfl rfl)
theorem dX4_finer_253 : decode cX4_finer 253 = .ok (.iload 7, 2) := dk_21 7 (dk_at dksX4_finer_11 0 rfl rfl)
theorem dX4_finer_255 : decode cX4_finer 255 = .ok (.invokevirtual 348, 3) := dk_182 1 92 (dk_at dksX4_finer_11 2 rfl rfl)
theorem dX4_finer_258 : decode cX4_finer 258 = .ok (.ifCond .eq 6, 3) := dk_153 0 6 (dk_at dksX4_finer_11 5 rfl rfl)
theorem dX4_finer_261 : decode cX4_finer 261 = .ok (.iload 7, 2) := dk_21 7 (dk_at dksX4_finer_11 8 rfl rfl)
theorem dX4_finer_263 : decode cX4_finer 263 = .ok (.ireturn, 1) := dk_172 (dk_at dksX4_finer_11 10 rfl rfl)
theorem dX4_finer_264 : decode cX4_finer 264 = .ok (.iinc 7 1, 3) := dk_132 7 1 (dk_at dksX4_finer_11 11 rfl rfl)
theorem dX4_finer_267 : decode cX4_finer 267 = .ok (.goto (-28), 3) := dk_167 255 228 (dk_at dksX4_finer_11 14 rfl rfl)
theorem dX4_finer_270 : decode cX4_finer 270 = .ok (.aload_n 0, 1) := dk_42 (dk_at dksX4_finer_11 17 rfl rfl)
theorem dX4_finer_271 : decode cX4_finer 271 = .ok (.bipush 8, 2) := dk_16 8 (dk_at dksX4_finer_11 18 rfl rfl)
theorem dX4_finer_273 : decode cX4_finer 273 = .ok (.invokevirtual 252, 3) := dk_182 0 252 (dk_at dksX4_finer_11 20 rfl rfl)
theorem dX4_finer_276 : decode cX4_finer 276 = .ok (.ireturn, 1) := dk_172 (dk_at dksX4_finer_11 23 rfl rfl)
abbrev cX4_isEnough : ByteArray := prog_9_method_42_code
def yX4_isEnough : MethodName := ⟨RX4, "isEnough", "(IIIJI)Z"⟩
def dkwX4_isEnough_9 : List UInt8 := [167, 255, 228, 132, 9, 1, 167, 255, 149, 4, 172]
abbrev dktX4_isEnough_9 : List UInt8 := dkwX4_isEnough_9 ++ []
def dkwX4_isEnough_8 : List UInt8 := [42, 180, 0, 64, 21, 10, 4, 100, 92, 47, 42, 180, 0, 64, 21, 10, 47, 97, 80, 132, 10, 2]
abbrev dktX4_isEnough_8 : List UInt8 := dkwX4_isEnough_8 ++ dktX4_isEnough_9
def dkwX4_isEnough_7 : List UInt8 := [42, 180, 0, 64, 21, 10, 47, 97, 80, 132, 10, 2, 167, 255, 228, 5, 54, 10, 21, 10, 27, 163, 0, 28]
abbrev dktX4_isEnough_7 : List UInt8 := dkwX4_isEnough_7 ++ dktX4_isEnough_8
def dkwX4_isEnough_6 : List UInt8 := [153, 0, 5, 3, 172, 4, 54, 10, 21, 10, 27, 163, 0, 28, 42, 180, 0, 64, 21, 10, 4, 100, 92, 47]
abbrev dktX4_isEnough_6 : List UInt8 := dkwX4_isEnough_6 ++ dktX4_isEnough_7
def dkwX4_isEnough_5 : List UInt8 := [180, 0, 64, 3, 47, 22, 7, 184, 1, 104, 42, 27, 28, 21, 9, 182, 1, 100, 22, 4, 184, 1, 104, 148]
abbrev dktX4_isEnough_5 : List UInt8 := dkwX4_isEnough_5 ++ dktX4_isEnough_6
def dkwX4_isEnough_4 : List UInt8 := [22, 4, 184, 1, 104, 97, 80, 132, 9, 1, 167, 255, 199, 3, 54, 9, 21, 9, 29, 162, 0, 107, 42]
abbrev dktX4_isEnough_4 : List UInt8 := dkwX4_isEnough_4 ++ dktX4_isEnough_5
def dkwX4_isEnough_3 : List UInt8 := [21, 9, 22, 10, 22, 7, 105, 42, 180, 0, 64, 21, 9, 47, 22, 10, 22, 4, 105, 101, 22, 7, 105]
abbrev dktX4_isEnough_3 : List UInt8 := dkwX4_isEnough_3 ++ dktX4_isEnough_4
def dkwX4_isEnough_2 : List UInt8 := [21, 9, 27, 163, 0, 57, 42, 180, 0, 64, 21, 9, 47, 22, 4, 184, 1, 81, 55, 10, 42, 180, 0, 64]
abbrev dktX4_isEnough_2 : List UInt8 := dkwX4_isEnough_2 ++ dktX4_isEnough_3
def dkwX4_isEnough_1 : List UInt8 := [28, 21, 9, 182, 1, 100, 80, 132, 9, 1, 167, 255, 232, 42, 27, 4, 96, 182, 1, 22, 3, 54, 9]
abbrev dktX4_isEnough_1 : List UInt8 := dkwX4_isEnough_1 ++ dktX4_isEnough_2
def dkwX4_isEnough_0 : List UInt8 := [21, 6, 184, 1, 96, 55, 7, 3, 54, 9, 21, 9, 27, 163, 0, 24, 42, 180, 0, 64, 21, 9, 42, 27]
abbrev dktX4_isEnough_0 : List UInt8 := dkwX4_isEnough_0 ++ dktX4_isEnough_1
theorem dksX4_isEnough_0 : cX4_isEnough.data.toList.drop 0 = dktX4_isEnough_0 := by decide +kernel
theorem dksX4_isEnough_1 : cX4_isEnough.data.toList.drop 24 = dktX4_isEnough_1 := dk_seg dksX4_isEnough_0 24 rfl rfl
theorem dksX4_isEnough_2 : cX4_isEnough.data.toList.drop 47 = dktX4_isEnough_2 := dk_seg dksX4_isEnough_1 23 rfl rfl
theorem dksX4_isEnough_3 : cX4_isEnough.data.toList.drop 71 = dktX4_isEnough_3 := dk_seg dksX4_isEnough_2 24 rfl rfl
theorem dksX4_isEnough_4 : cX4_isEnough.data.toList.drop 94 = dktX4_isEnough_4 := dk_seg dksX4_isEnough_3 23 rfl rfl
theorem dksX4_isEnough_5 : cX4_isEnough.data.toList.drop 117 = dktX4_isEnough_5 := dk_seg dksX4_isEnough_4 23 rfl rfl
theorem dksX4_isEnough_6 : cX4_isEnough.data.toList.drop 141 = dktX4_isEnough_6 := dk_seg dksX4_isEnough_5 24 rfl rfl
theorem dksX4_isEnough_7 : cX4_isEnough.data.toList.drop 165 = dktX4_isEnough_7 := dk_seg dksX4_isEnough_6 24 rfl rfl
theorem dksX4_isEnough_8 : cX4_isEnough.data.toList.drop 189 = dktX4_isEnough_8 := dk_seg dksX4_isEnough_7 24 rfl rfl
theorem dksX4_isEnough_9 : cX4_isEnough.data.toList.drop 211 = dktX4_isEnough_9 := dk_seg dksX4_isEnough_8 22 rfl rfl
theorem dX4_isEnough_0 : decode cX4_isEnough 0 = .ok (.iload 6, 2) := dk_21 6 (dk_at dksX4_isEnough_0 0 rfl rfl)
theorem dX4_isEnough_2 : decode cX4_isEnough 2 = .ok (.invokestatic 352, 3) := dk_184 1 96 (dk_at dksX4_isEnough_0 2 rfl rfl)
theorem dX4_isEnough_5 : decode cX4_isEnough 5 = .ok (.lstore 7, 2) := dk_55 7 (dk_at dksX4_isEnough_0 5 rfl rfl)
theorem dX4_isEnough_7 : decode cX4_isEnough 7 = .ok (.iconst 0, 1) := dk_3 (dk_at dksX4_isEnough_0 7 rfl rfl)
theorem dX4_isEnough_8 : decode cX4_isEnough 8 = .ok (.istore 9, 2) := dk_54 9 (dk_at dksX4_isEnough_0 8 rfl rfl)
theorem dX4_isEnough_10 : decode cX4_isEnough 10 = .ok (.iload 9, 2) := dk_21 9 (dk_at dksX4_isEnough_0 10 rfl rfl)
theorem dX4_isEnough_12 : decode cX4_isEnough 12 = .ok (.iload_n 1, 1) := dk_27 (dk_at dksX4_isEnough_0 12 rfl rfl)
theorem dX4_isEnough_13 : decode cX4_isEnough 13 = .ok (.if_icmp .gt 24, 3) := dk_163 0 24 (dk_at dksX4_isEnough_0 13 rfl rfl)
theorem dX4_isEnough_16 : decode cX4_isEnough 16 = .ok (.aload_n 0, 1) := dk_42 (dk_at dksX4_isEnough_0 16 rfl rfl)
theorem dX4_isEnough_17 : decode cX4_isEnough 17 = .ok (.getfield 64, 3) := dk_180 0 64 (dk_at dksX4_isEnough_0 17 rfl rfl)
theorem dX4_isEnough_20 : decode cX4_isEnough 20 = .ok (.iload 9, 2) := dk_21 9 (dk_at dksX4_isEnough_0 20 rfl rfl)
theorem dX4_isEnough_22 : decode cX4_isEnough 22 = .ok (.aload_n 0, 1) := dk_42 (dk_at dksX4_isEnough_0 22 rfl rfl)
theorem dX4_isEnough_23 : decode cX4_isEnough 23 = .ok (.iload_n 1, 1) := dk_27 (dk_at dksX4_isEnough_0 23 rfl rfl)
theorem dX4_isEnough_24 : decode cX4_isEnough 24 = .ok (.iload_n 2, 1) := dk_28 (dk_at dksX4_isEnough_1 0 rfl rfl)
theorem dX4_isEnough_25 : decode cX4_isEnough 25 = .ok (.iload 9, 2) := dk_21 9 (dk_at dksX4_isEnough_1 1 rfl rfl)
theorem dX4_isEnough_27 : decode cX4_isEnough 27 = .ok (.invokevirtual 356, 3) := dk_182 1 100 (dk_at dksX4_isEnough_1 3 rfl rfl)
theorem dX4_isEnough_30 : decode cX4_isEnough 30 = .ok (.lastore, 1) := dk_80 (dk_at dksX4_isEnough_1 6 rfl rfl)
theorem dX4_isEnough_31 : decode cX4_isEnough 31 = .ok (.iinc 9 1, 3) := dk_132 9 1 (dk_at dksX4_isEnough_1 7 rfl rfl)
theorem dX4_isEnough_34 : decode cX4_isEnough 34 = .ok (.goto (-24), 3) := dk_167 255 232 (dk_at dksX4_isEnough_1 10 rfl rfl)
theorem dX4_isEnough_37 : decode cX4_isEnough 37 = .ok (.aload_n 0, 1) := dk_42 (dk_at dksX4_isEnough_1 13 rfl rfl)
theorem dX4_isEnough_38 : decode cX4_isEnough 38 = .ok (.iload_n 1, 1) := dk_27 (dk_at dksX4_isEnough_1 14 rfl rfl)
theorem dX4_isEnough_39 : decode cX4_isEnough 39 = .ok (.iconst 1, 1) := dk_4 (dk_at dksX4_isEnough_1 15 rfl rfl)
theorem dX4_isEnough_40 : decode cX4_isEnough 40 = .ok (.iadd, 1) := dk_96 (dk_at dksX4_isEnough_1 16 rfl rfl)
theorem dX4_isEnough_41 : decode cX4_isEnough 41 = .ok (.invokevirtual 278, 3) := dk_182 1 22 (dk_at dksX4_isEnough_1 17 rfl rfl)
theorem dX4_isEnough_44 : decode cX4_isEnough 44 = .ok (.iconst 0, 1) := dk_3 (dk_at dksX4_isEnough_1 20 rfl rfl)
theorem dX4_isEnough_45 : decode cX4_isEnough 45 = .ok (.istore 9, 2) := dk_54 9 (dk_at dksX4_isEnough_1 21 rfl rfl)
theorem dX4_isEnough_47 : decode cX4_isEnough 47 = .ok (.iload 9, 2) := dk_21 9 (dk_at dksX4_isEnough_2 0 rfl rfl)
theorem dX4_isEnough_49 : decode cX4_isEnough 49 = .ok (.iload_n 1, 1) := dk_27 (dk_at dksX4_isEnough_2 2 rfl rfl)
theorem dX4_isEnough_50 : decode cX4_isEnough 50 = .ok (.if_icmp .gt 57, 3) := dk_163 0 57 (dk_at dksX4_isEnough_2 3 rfl rfl)
theorem dX4_isEnough_53 : decode cX4_isEnough 53 = .ok (.aload_n 0, 1) := dk_42 (dk_at dksX4_isEnough_2 6 rfl rfl)
theorem dX4_isEnough_54 : decode cX4_isEnough 54 = .ok (.getfield 64, 3) := dk_180 0 64 (dk_at dksX4_isEnough_2 7 rfl rfl)
theorem dX4_isEnough_57 : decode cX4_isEnough 57 = .ok (.iload 9, 2) := dk_21 9 (dk_at dksX4_isEnough_2 10 rfl rfl)
theorem dX4_isEnough_59 : decode cX4_isEnough 59 = .ok (.laload, 1) := dk_47 (dk_at dksX4_isEnough_2 12 rfl rfl)
theorem dX4_isEnough_60 : decode cX4_isEnough 60 = .ok (.lload 4, 2) := dk_22 4 (dk_at dksX4_isEnough_2 13 rfl rfl)
theorem dX4_isEnough_62 : decode cX4_isEnough 62 = .ok (.invokestatic 337, 3) := dk_184 1 81 (dk_at dksX4_isEnough_2 15 rfl rfl)
theorem dX4_isEnough_65 : decode cX4_isEnough 65 = .ok (.lstore 10, 2) := dk_55 10 (dk_at dksX4_isEnough_2 18 rfl rfl)
theorem dX4_isEnough_67 : decode cX4_isEnough 67 = .ok (.aload_n 0, 1) := dk_42 (dk_at dksX4_isEnough_2 20 rfl rfl)
theorem dX4_isEnough_68 : decode cX4_isEnough 68 = .ok (.getfield 64, 3) := dk_180 0 64 (dk_at dksX4_isEnough_2 21 rfl rfl)
theorem dX4_isEnough_71 : decode cX4_isEnough 71 = .ok (.iload 9, 2) := dk_21 9 (dk_at dksX4_isEnough_3 0 rfl rfl)
theorem dX4_isEnough_73 : decode cX4_isEnough 73 = .ok (.lload 10, 2) := dk_22 10 (dk_at dksX4_isEnough_3 2 rfl rfl)
theorem dX4_isEnough_75 : decode cX4_isEnough 75 = .ok (.lload 7, 2) := dk_22 7 (dk_at dksX4_isEnough_3 4 rfl rfl)
theorem dX4_isEnough_77 : decode cX4_isEnough 77 = .ok (.lmul, 1) := dk_105 (dk_at dksX4_isEnough_3 6 rfl rfl)
theorem dX4_isEnough_78 : decode cX4_isEnough 78 = .ok (.aload_n 0, 1) := dk_42 (dk_at dksX4_isEnough_3 7 rfl rfl)
theorem dX4_isEnough_79 : decode cX4_isEnough 79 = .ok (.getfield 64, 3) := dk_180 0 64 (dk_at dksX4_isEnough_3 8 rfl rfl)
theorem dX4_isEnough_82 : decode cX4_isEnough 82 = .ok (.iload 9, 2) := dk_21 9 (dk_at dksX4_isEnough_3 11 rfl rfl)
theorem dX4_isEnough_84 : decode cX4_isEnough 84 = .ok (.laload, 1) := dk_47 (dk_at dksX4_isEnough_3 13 rfl rfl)
theorem dX4_isEnough_85 : decode cX4_isEnough 85 = .ok (.lload 10, 2) := dk_22 10 (dk_at dksX4_isEnough_3 14 rfl rfl)
theorem dX4_isEnough_87 : decode cX4_isEnough 87 = .ok (.lload 4, 2) := dk_22 4 (dk_at dksX4_isEnough_3 16 rfl rfl)
theorem dX4_isEnough_89 : decode cX4_isEnough 89 = .ok (.lmul, 1) := dk_105 (dk_at dksX4_isEnough_3 18 rfl rfl)
theorem dX4_isEnough_90 : decode cX4_isEnough 90 = .ok (.lsub, 1) := dk_101 (dk_at dksX4_isEnough_3 19 rfl rfl)
theorem dX4_isEnough_91 : decode cX4_isEnough 91 = .ok (.lload 7, 2) := dk_22 7 (dk_at dksX4_isEnough_3 20 rfl rfl)
theorem dX4_isEnough_93 : decode cX4_isEnough 93 = .ok (.lmul, 1) := dk_105 (dk_at dksX4_isEnough_3 22 rfl rfl)
theorem dX4_isEnough_94 : decode cX4_isEnough 94 = .ok (.lload 4, 2) := dk_22 4 (dk_at dksX4_isEnough_4 0 rfl rfl)
theorem dX4_isEnough_96 : decode cX4_isEnough 96 = .ok (.invokestatic 360, 3) := dk_184 1 104 (dk_at dksX4_isEnough_4 2 rfl rfl)
theorem dX4_isEnough_99 : decode cX4_isEnough 99 = .ok (.ladd, 1) := dk_97 (dk_at dksX4_isEnough_4 5 rfl rfl)
theorem dX4_isEnough_100 : decode cX4_isEnough 100 = .ok (.lastore, 1) := dk_80 (dk_at dksX4_isEnough_4 6 rfl rfl)
theorem dX4_isEnough_101 : decode cX4_isEnough 101 = .ok (.iinc 9 1, 3) := dk_132 9 1 (dk_at dksX4_isEnough_4 7 rfl rfl)
theorem dX4_isEnough_104 : decode cX4_isEnough 104 = .ok (.goto (-57), 3) := dk_167 255 199 (dk_at dksX4_isEnough_4 10 rfl rfl)
theorem dX4_isEnough_107 : decode cX4_isEnough 107 = .ok (.iconst 0, 1) := dk_3 (dk_at dksX4_isEnough_4 13 rfl rfl)
theorem dX4_isEnough_108 : decode cX4_isEnough 108 = .ok (.istore 9, 2) := dk_54 9 (dk_at dksX4_isEnough_4 14 rfl rfl)
theorem dX4_isEnough_110 : decode cX4_isEnough 110 = .ok (.iload 9, 2) := dk_21 9 (dk_at dksX4_isEnough_4 16 rfl rfl)
theorem dX4_isEnough_112 : decode cX4_isEnough 112 = .ok (.iload_n 3, 1) := dk_29 (dk_at dksX4_isEnough_4 18 rfl rfl)
theorem dX4_isEnough_113 : decode cX4_isEnough 113 = .ok (.if_icmp .ge 107, 3) := dk_162 0 107 (dk_at dksX4_isEnough_4 19 rfl rfl)
theorem dX4_isEnough_116 : decode cX4_isEnough 116 = .ok (.aload_n 0, 1) := dk_42 (dk_at dksX4_isEnough_4 22 rfl rfl)
theorem dX4_isEnough_117 : decode cX4_isEnough 117 = .ok (.getfield 64, 3) := dk_180 0 64 (dk_at dksX4_isEnough_5 0 rfl rfl)
theorem dX4_isEnough_120 : decode cX4_isEnough 120 = .ok (.iconst 0, 1) := dk_3 (dk_at dksX4_isEnough_5 3 rfl rfl)
theorem dX4_isEnough_121 : decode cX4_isEnough 121 = .ok (.laload, 1) := dk_47 (dk_at dksX4_isEnough_5 4 rfl rfl)
theorem dX4_isEnough_122 : decode cX4_isEnough 122 = .ok (.lload 7, 2) := dk_22 7 (dk_at dksX4_isEnough_5 5 rfl rfl)
theorem dX4_isEnough_124 : decode cX4_isEnough 124 = .ok (.invokestatic 360, 3) := dk_184 1 104 (dk_at dksX4_isEnough_5 7 rfl rfl)
theorem dX4_isEnough_127 : decode cX4_isEnough 127 = .ok (.aload_n 0, 1) := dk_42 (dk_at dksX4_isEnough_5 10 rfl rfl)
theorem dX4_isEnough_128 : decode cX4_isEnough 128 = .ok (.iload_n 1, 1) := dk_27 (dk_at dksX4_isEnough_5 11 rfl rfl)
theorem dX4_isEnough_129 : decode cX4_isEnough 129 = .ok (.iload_n 2, 1) := dk_28 (dk_at dksX4_isEnough_5 12 rfl rfl)
theorem dX4_isEnough_130 : decode cX4_isEnough 130 = .ok (.iload 9, 2) := dk_21 9 (dk_at dksX4_isEnough_5 13 rfl rfl)
theorem dX4_isEnough_132 : decode cX4_isEnough 132 = .ok (.invokevirtual 356, 3) := dk_182 1 100 (dk_at dksX4_isEnough_5 15 rfl rfl)
theorem dX4_isEnough_135 : decode cX4_isEnough 135 = .ok (.lload 4, 2) := dk_22 4 (dk_at dksX4_isEnough_5 18 rfl rfl)
theorem dX4_isEnough_137 : decode cX4_isEnough 137 = .ok (.invokestatic 360, 3) := dk_184 1 104 (dk_at dksX4_isEnough_5 20 rfl rfl)
theorem dX4_isEnough_140 : decode cX4_isEnough 140 = .ok (.lcmp, 1) := dk_148 (dk_at dksX4_isEnough_5 23 rfl rfl)
theorem dX4_isEnough_141 : decode cX4_isEnough 141 = .ok (.ifCond .eq 5, 3) := dk_153 0 5 (dk_at dksX4_isEnough_6 0 rfl rfl)
theorem dX4_isEnough_144 : decode cX4_isEnough 144 = .ok (.iconst 0, 1) := dk_3 (dk_at dksX4_isEnough_6 3 rfl rfl)
theorem dX4_isEnough_145 : decode cX4_isEnough 145 = .ok (.ireturn, 1) := dk_172 (dk_at dksX4_isEnough_6 4 rfl rfl)
theorem dX4_isEnough_146 : decode cX4_isEnough 146 = .ok (.iconst 1, 1) := dk_4 (dk_at dksX4_isEnough_6 5 rfl rfl)
theorem dX4_isEnough_147 : decode cX4_isEnough 147 = .ok (.istore 10, 2) := dk_54 10 (dk_at dksX4_isEnough_6 6 rfl rfl)
theorem dX4_isEnough_149 : decode cX4_isEnough 149 = .ok (.iload 10, 2) := dk_21 10 (dk_at dksX4_isEnough_6 8 rfl rfl)
theorem dX4_isEnough_151 : decode cX4_isEnough 151 = .ok (.iload_n 1, 1) := dk_27 (dk_at dksX4_isEnough_6 10 rfl rfl)
theorem dX4_isEnough_152 : decode cX4_isEnough 152 = .ok (.if_icmp .gt 28, 3) := dk_163 0 28 (dk_at dksX4_isEnough_6 11 rfl rfl)
theorem dX4_isEnough_155 : decode cX4_isEnough 155 = .ok (.aload_n 0, 1) := dk_42 (dk_at dksX4_isEnough_6 14 rfl rfl)
theorem dX4_isEnough_156 : decode cX4_isEnough 156 = .ok (.getfield 64, 3) := dk_180 0 64 (dk_at dksX4_isEnough_6 15 rfl rfl)
theorem dX4_isEnough_159 : decode cX4_isEnough 159 = .ok (.iload 10, 2) := dk_21 10 (dk_at dksX4_isEnough_6 18 rfl rfl)
theorem dX4_isEnough_161 : decode cX4_isEnough 161 = .ok (.iconst 1, 1) := dk_4 (dk_at dksX4_isEnough_6 20 rfl rfl)
theorem dX4_isEnough_162 : decode cX4_isEnough 162 = .ok (.isub, 1) := dk_100 (dk_at dksX4_isEnough_6 21 rfl rfl)
theorem dX4_isEnough_163 : decode cX4_isEnough 163 = .ok (.dup2, 1) := dk_92 (dk_at dksX4_isEnough_6 22 rfl rfl)
theorem dX4_isEnough_164 : decode cX4_isEnough 164 = .ok (.laload, 1) := dk_47 (dk_at dksX4_isEnough_6 23 rfl rfl)
theorem dX4_isEnough_165 : decode cX4_isEnough 165 = .ok (.aload_n 0, 1) := dk_42 (dk_at dksX4_isEnough_7 0 rfl rfl)
theorem dX4_isEnough_166 : decode cX4_isEnough 166 = .ok (.getfield 64, 3) := dk_180 0 64 (dk_at dksX4_isEnough_7 1 rfl rfl)
theorem dX4_isEnough_169 : decode cX4_isEnough 169 = .ok (.iload 10, 2) := dk_21 10 (dk_at dksX4_isEnough_7 4 rfl rfl)
theorem dX4_isEnough_171 : decode cX4_isEnough 171 = .ok (.laload, 1) := dk_47 (dk_at dksX4_isEnough_7 6 rfl rfl)
theorem dX4_isEnough_172 : decode cX4_isEnough 172 = .ok (.ladd, 1) := dk_97 (dk_at dksX4_isEnough_7 7 rfl rfl)
theorem dX4_isEnough_173 : decode cX4_isEnough 173 = .ok (.lastore, 1) := dk_80 (dk_at dksX4_isEnough_7 8 rfl rfl)
theorem dX4_isEnough_174 : decode cX4_isEnough 174 = .ok (.iinc 10 2, 3) := dk_132 10 2 (dk_at dksX4_isEnough_7 9 rfl rfl)
theorem dX4_isEnough_177 : decode cX4_isEnough 177 = .ok (.goto (-28), 3) := dk_167 255 228 (dk_at dksX4_isEnough_7 12 rfl rfl)
theorem dX4_isEnough_180 : decode cX4_isEnough 180 = .ok (.iconst 2, 1) := dk_5 (dk_at dksX4_isEnough_7 15 rfl rfl)
theorem dX4_isEnough_181 : decode cX4_isEnough 181 = .ok (.istore 10, 2) := dk_54 10 (dk_at dksX4_isEnough_7 16 rfl rfl)
theorem dX4_isEnough_183 : decode cX4_isEnough 183 = .ok (.iload 10, 2) := dk_21 10 (dk_at dksX4_isEnough_7 18 rfl rfl)
theorem dX4_isEnough_185 : decode cX4_isEnough 185 = .ok (.iload_n 1, 1) := dk_27 (dk_at dksX4_isEnough_7 20 rfl rfl)
theorem dX4_isEnough_186 : decode cX4_isEnough 186 = .ok (.if_icmp .gt 28, 3) := dk_163 0 28 (dk_at dksX4_isEnough_7 21 rfl rfl)
theorem dX4_isEnough_189 : decode cX4_isEnough 189 = .ok (.aload_n 0, 1) := dk_42 (dk_at dksX4_isEnough_8 0 rfl rfl)
theorem dX4_isEnough_190 : decode cX4_isEnough 190 = .ok (.getfield 64, 3) := dk_180 0 64 (dk_at dksX4_isEnough_8 1 rfl rfl)
theorem dX4_isEnough_193 : decode cX4_isEnough 193 = .ok (.iload 10, 2) := dk_21 10 (dk_at dksX4_isEnough_8 4 rfl rfl)
theorem dX4_isEnough_195 : decode cX4_isEnough 195 = .ok (.iconst 1, 1) := dk_4 (dk_at dksX4_isEnough_8 6 rfl rfl)
theorem dX4_isEnough_196 : decode cX4_isEnough 196 = .ok (.isub, 1) := dk_100 (dk_at dksX4_isEnough_8 7 rfl rfl)
theorem dX4_isEnough_197 : decode cX4_isEnough 197 = .ok (.dup2, 1) := dk_92 (dk_at dksX4_isEnough_8 8 rfl rfl)
theorem dX4_isEnough_198 : decode cX4_isEnough 198 = .ok (.laload, 1) := dk_47 (dk_at dksX4_isEnough_8 9 rfl rfl)
theorem dX4_isEnough_199 : decode cX4_isEnough 199 = .ok (.aload_n 0, 1) := dk_42 (dk_at dksX4_isEnough_8 10 rfl rfl)
theorem dX4_isEnough_200 : decode cX4_isEnough 200 = .ok (.getfield 64, 3) := dk_180 0 64 (dk_at dksX4_isEnough_8 11 rfl rfl)
theorem dX4_isEnough_203 : decode cX4_isEnough 203 = .ok (.iload 10, 2) := dk_21 10 (dk_at dksX4_isEnough_8 14 rfl rfl)
theorem dX4_isEnough_205 : decode cX4_isEnough 205 = .ok (.laload, 1) := dk_47 (dk_at dksX4_isEnough_8 16 rfl rfl)
theorem dX4_isEnough_206 : decode cX4_isEnough 206 = .ok (.ladd, 1) := dk_97 (dk_at dksX4_isEnough_8 17 rfl rfl)
theorem dX4_isEnough_207 : decode cX4_isEnough 207 = .ok (.lastore, 1) := dk_80 (dk_at dksX4_isEnough_8 18 rfl rfl)
theorem dX4_isEnough_208 : decode cX4_isEnough 208 = .ok (.iinc 10 2, 3) := dk_132 10 2 (dk_at dksX4_isEnough_8 19 rfl rfl)
theorem dX4_isEnough_211 : decode cX4_isEnough 211 = .ok (.goto (-28), 3) := dk_167 255 228 (dk_at dksX4_isEnough_9 0 rfl rfl)
theorem dX4_isEnough_214 : decode cX4_isEnough 214 = .ok (.iinc 9 1, 3) := dk_132 9 1 (dk_at dksX4_isEnough_9 3 rfl rfl)
theorem dX4_isEnough_217 : decode cX4_isEnough 217 = .ok (.goto (-107), 3) := dk_167 255 149 (dk_at dksX4_isEnough_9 6 rfl rfl)
theorem dX4_isEnough_220 : decode cX4_isEnough 220 = .ok (.iconst 1, 1) := dk_4 (dk_at dksX4_isEnough_9 9 rfl rfl)
theorem dX4_isEnough_221 : decode cX4_isEnough 221 = .ok (.ireturn, 1) := dk_172 (dk_at dksX4_isEnough_9 10 rfl rfl)
abbrev cX4_times10 : ByteArray := prog_9_method_38_code
def yX4_times10 : MethodName := ⟨RX4, "times10", "(I)J"⟩
def dkwX4_times10_0 : List UInt8 := [10, 64, 3, 62, 29, 26, 162, 0, 15, 31, 20, 1, 79, 105, 64, 132, 3, 1, 167, 255, 242, 31, 173]
abbrev dktX4_times10_0 : List UInt8 := dkwX4_times10_0 ++ []
theorem dksX4_times10_0 : cX4_times10.data.toList.drop 0 = dktX4_times10_0 := by decide +kernel
theorem dX4_times10_0 : decode cX4_times10 0 = .ok (.lconst 1, 1) := dk_10 (dk_at dksX4_times10_0 0 rfl rfl)
theorem dX4_times10_1 : decode cX4_times10 1 = .ok (.lstore_n 1, 1) := dk_64 (dk_at dksX4_times10_0 1 rfl rfl)
theorem dX4_times10_2 : decode cX4_times10 2 = .ok (.iconst 0, 1) := dk_3 (dk_at dksX4_times10_0 2 rfl rfl)
theorem dX4_times10_3 : decode cX4_times10 3 = .ok (.istore_n 3, 1) := dk_62 (dk_at dksX4_times10_0 3 rfl rfl)
theorem dX4_times10_4 : decode cX4_times10 4 = .ok (.iload_n 3, 1) := dk_29 (dk_at dksX4_times10_0 4 rfl rfl)
theorem dX4_times10_5 : decode cX4_times10 5 = .ok (.iload_n 0, 1) := dk_26 (dk_at dksX4_times10_0 5 rfl rfl)
theorem dX4_times10_6 : decode cX4_times10 6 = .ok (.if_icmp .ge 15, 3) := dk_162 0 15 (dk_at dksX4_times10_0 6 rfl rfl)
theorem dX4_times10_9 : decode cX4_times10 9 = .ok (.lload_n 1, 1) := dk_31 (dk_at dksX4_times10_0 9 rfl rfl)
theorem dX4_times10_10 : decode cX4_times10 10 = .ok (.ldc2_w 335, 3) := dk_20 1 79 (dk_at dksX4_times10_0 10 rfl rfl)
theorem dX4_times10_13 : decode cX4_times10 13 = .ok (.lmul, 1) := dk_105 (dk_at dksX4_times10_0 13 rfl rfl)
theorem dX4_times10_14 : decode cX4_times10 14 = .ok (.lstore_n 1, 1) := dk_64 (dk_at dksX4_times10_0 14 rfl rfl)
theorem dX4_times10_15 : decode cX4_times10 15 = .ok (.iinc 3 1, 3) := dk_132 3 1 (dk_at dksX4_times10_0 15 rfl rfl)
theorem dX4_times10_18 : decode cX4_times10 18 = .ok (.goto (-14), 3) := dk_167 255 242 (dk_at dksX4_times10_0 18 rfl rfl)
theorem dX4_times10_21 : decode cX4_times10 21 = .ok (.lload_n 1, 1) := dk_31 (dk_at dksX4_times10_0 21 rfl rfl)
theorem dX4_times10_22 : decode cX4_times10 22 = .ok (.lreturn, 1) := dk_173 (dk_at dksX4_times10_0 22 rfl rfl)
abbrev cX4_atPart : ByteArray := prog_9_method_40_code
def yX4_atPart : MethodName := ⟨RX4, "atPart", "(III)J"⟩
def dkwX4_atPart_4 : List UInt8 := [96, 133, 105, 109, 167, 0, 5, 22, 10, 55, 10, 132, 12, 1, 167, 255, 191, 22, 4, 173]
abbrev dktX4_atPart_4 : List UInt8 := dkwX4_atPart_4 ++ []
def dkwX4_atPart_3 : List UInt8 := [133, 21, 12, 133, 28, 133, 105, 101, 105, 55, 6, 21, 12, 27, 162, 0, 17, 22, 10, 28, 133, 21, 12, 4]
abbrev dktX4_atPart_3 : List UInt8 := dkwX4_atPart_3 ++ dktX4_atPart_4
def dkwX4_atPart_2 : List UInt8 := [163, 0, 65, 22, 4, 42, 180, 0, 203, 21, 12, 47, 22, 6, 105, 22, 10, 105, 97, 55, 4, 22, 6, 29]
abbrev dktX4_atPart_2 : List UInt8 := dkwX4_atPart_2 ++ dktX4_atPart_3
def dkwX4_atPart_1 : List UInt8 := [4, 96, 133, 105, 105, 55, 8, 132, 10, 1, 167, 255, 234, 22, 8, 55, 10, 3, 54, 12, 21, 12, 27]
abbrev dktX4_atPart_1 : List UInt8 := dkwX4_atPart_1 ++ dktX4_atPart_2
def dkwX4_atPart_0 : List UInt8 := [9, 55, 4, 10, 55, 6, 10, 55, 8, 3, 54, 10, 21, 10, 27, 162, 0, 22, 22, 8, 28, 133, 21, 10]
abbrev dktX4_atPart_0 : List UInt8 := dkwX4_atPart_0 ++ dktX4_atPart_1
theorem dksX4_atPart_0 : cX4_atPart.data.toList.drop 0 = dktX4_atPart_0 := by decide +kernel
theorem dksX4_atPart_1 : cX4_atPart.data.toList.drop 24 = dktX4_atPart_1 := dk_seg dksX4_atPart_0 24 rfl rfl
theorem dksX4_atPart_2 : cX4_atPart.data.toList.drop 47 = dktX4_atPart_2 := dk_seg dksX4_atPart_1 23 rfl rfl
theorem dksX4_atPart_3 : cX4_atPart.data.toList.drop 71 = dktX4_atPart_3 := dk_seg dksX4_atPart_2 24 rfl rfl
theorem dksX4_atPart_4 : cX4_atPart.data.toList.drop 95 = dktX4_atPart_4 := dk_seg dksX4_atPart_3 24 rfl rfl
theorem dX4_atPart_0 : decode cX4_atPart 0 = .ok (.lconst 0, 1) := dk_9 (dk_at dksX4_atPart_0 0 rfl rfl)
theorem dX4_atPart_1 : decode cX4_atPart 1 = .ok (.lstore 4, 2) := dk_55 4 (dk_at dksX4_atPart_0 1 rfl rfl)
theorem dX4_atPart_3 : decode cX4_atPart 3 = .ok (.lconst 1, 1) := dk_10 (dk_at dksX4_atPart_0 3 rfl rfl)
theorem dX4_atPart_4 : decode cX4_atPart 4 = .ok (.lstore 6, 2) := dk_55 6 (dk_at dksX4_atPart_0 4 rfl rfl)
theorem dX4_atPart_6 : decode cX4_atPart 6 = .ok (.lconst 1, 1) := dk_10 (dk_at dksX4_atPart_0 6 rfl rfl)
theorem dX4_atPart_7 : decode cX4_atPart 7 = .ok (.lstore 8, 2) := dk_55 8 (dk_at dksX4_atPart_0 7 rfl rfl)
theorem dX4_atPart_9 : decode cX4_atPart 9 = .ok (.iconst 0, 1) := dk_3 (dk_at dksX4_atPart_0 9 rfl rfl)
theorem dX4_atPart_10 : decode cX4_atPart 10 = .ok (.istore 10, 2) := dk_54 10 (dk_at dksX4_atPart_0 10 rfl rfl)
theorem dX4_atPart_12 : decode cX4_atPart 12 = .ok (.iload 10, 2) := dk_21 10 (dk_at dksX4_atPart_0 12 rfl rfl)
theorem dX4_atPart_14 : decode cX4_atPart 14 = .ok (.iload_n 1, 1) := dk_27 (dk_at dksX4_atPart_0 14 rfl rfl)
theorem dX4_atPart_15 : decode cX4_atPart 15 = .ok (.if_icmp .ge 22, 3) := dk_162 0 22 (dk_at dksX4_atPart_0 15 rfl rfl)
theorem dX4_atPart_18 : decode cX4_atPart 18 = .ok (.lload 8, 2) := dk_22 8 (dk_at dksX4_atPart_0 18 rfl rfl)
theorem dX4_atPart_20 : decode cX4_atPart 20 = .ok (.iload_n 2, 1) := dk_28 (dk_at dksX4_atPart_0 20 rfl rfl)
theorem dX4_atPart_21 : decode cX4_atPart 21 = .ok (.i2l, 1) := dk_133 (dk_at dksX4_atPart_0 21 rfl rfl)
theorem dX4_atPart_22 : decode cX4_atPart 22 = .ok (.iload 10, 2) := dk_21 10 (dk_at dksX4_atPart_0 22 rfl rfl)
theorem dX4_atPart_24 : decode cX4_atPart 24 = .ok (.iconst 1, 1) := dk_4 (dk_at dksX4_atPart_1 0 rfl rfl)
theorem dX4_atPart_25 : decode cX4_atPart 25 = .ok (.iadd, 1) := dk_96 (dk_at dksX4_atPart_1 1 rfl rfl)
theorem dX4_atPart_26 : decode cX4_atPart 26 = .ok (.i2l, 1) := dk_133 (dk_at dksX4_atPart_1 2 rfl rfl)
theorem dX4_atPart_27 : decode cX4_atPart 27 = .ok (.lmul, 1) := dk_105 (dk_at dksX4_atPart_1 3 rfl rfl)
theorem dX4_atPart_28 : decode cX4_atPart 28 = .ok (.lmul, 1) := dk_105 (dk_at dksX4_atPart_1 4 rfl rfl)
theorem dX4_atPart_29 : decode cX4_atPart 29 = .ok (.lstore 8, 2) := dk_55 8 (dk_at dksX4_atPart_1 5 rfl rfl)
theorem dX4_atPart_31 : decode cX4_atPart 31 = .ok (.iinc 10 1, 3) := dk_132 10 1 (dk_at dksX4_atPart_1 7 rfl rfl)
theorem dX4_atPart_34 : decode cX4_atPart 34 = .ok (.goto (-22), 3) := dk_167 255 234 (dk_at dksX4_atPart_1 10 rfl rfl)
theorem dX4_atPart_37 : decode cX4_atPart 37 = .ok (.lload 8, 2) := dk_22 8 (dk_at dksX4_atPart_1 13 rfl rfl)
theorem dX4_atPart_39 : decode cX4_atPart 39 = .ok (.lstore 10, 2) := dk_55 10 (dk_at dksX4_atPart_1 15 rfl rfl)
theorem dX4_atPart_41 : decode cX4_atPart 41 = .ok (.iconst 0, 1) := dk_3 (dk_at dksX4_atPart_1 17 rfl rfl)
theorem dX4_atPart_42 : decode cX4_atPart 42 = .ok (.istore 12, 2) := dk_54 12 (dk_at dksX4_atPart_1 18 rfl rfl)
theorem dX4_atPart_44 : decode cX4_atPart 44 = .ok (.iload 12, 2) := dk_21 12 (dk_at dksX4_atPart_1 20 rfl rfl)
theorem dX4_atPart_46 : decode cX4_atPart 46 = .ok (.iload_n 1, 1) := dk_27 (dk_at dksX4_atPart_1 22 rfl rfl)
theorem dX4_atPart_47 : decode cX4_atPart 47 = .ok (.if_icmp .gt 65, 3) := dk_163 0 65 (dk_at dksX4_atPart_2 0 rfl rfl)
theorem dX4_atPart_50 : decode cX4_atPart 50 = .ok (.lload 4, 2) := dk_22 4 (dk_at dksX4_atPart_2 3 rfl rfl)
theorem dX4_atPart_52 : decode cX4_atPart 52 = .ok (.aload_n 0, 1) := dk_42 (dk_at dksX4_atPart_2 5 rfl rfl)
theorem dX4_atPart_53 : decode cX4_atPart 53 = .ok (.getfield 203, 3) := dk_180 0 203 (dk_at dksX4_atPart_2 6 rfl rfl)
theorem dX4_atPart_56 : decode cX4_atPart 56 = .ok (.iload 12, 2) := dk_21 12 (dk_at dksX4_atPart_2 9 rfl rfl)
theorem dX4_atPart_58 : decode cX4_atPart 58 = .ok (.laload, 1) := dk_47 (dk_at dksX4_atPart_2 11 rfl rfl)
theorem dX4_atPart_59 : decode cX4_atPart 59 = .ok (.lload 6, 2) := dk_22 6 (dk_at dksX4_atPart_2 12 rfl rfl)
theorem dX4_atPart_61 : decode cX4_atPart 61 = .ok (.lmul, 1) := dk_105 (dk_at dksX4_atPart_2 14 rfl rfl)
theorem dX4_atPart_62 : decode cX4_atPart 62 = .ok (.lload 10, 2) := dk_22 10 (dk_at dksX4_atPart_2 15 rfl rfl)
theorem dX4_atPart_64 : decode cX4_atPart 64 = .ok (.lmul, 1) := dk_105 (dk_at dksX4_atPart_2 17 rfl rfl)
theorem dX4_atPart_65 : decode cX4_atPart 65 = .ok (.ladd, 1) := dk_97 (dk_at dksX4_atPart_2 18 rfl rfl)
theorem dX4_atPart_66 : decode cX4_atPart 66 = .ok (.lstore 4, 2) := dk_55 4 (dk_at dksX4_atPart_2 19 rfl rfl)
theorem dX4_atPart_68 : decode cX4_atPart 68 = .ok (.lload 6, 2) := dk_22 6 (dk_at dksX4_atPart_2 21 rfl rfl)
theorem dX4_atPart_70 : decode cX4_atPart 70 = .ok (.iload_n 3, 1) := dk_29 (dk_at dksX4_atPart_2 23 rfl rfl)
theorem dX4_atPart_71 : decode cX4_atPart 71 = .ok (.i2l, 1) := dk_133 (dk_at dksX4_atPart_3 0 rfl rfl)
theorem dX4_atPart_72 : decode cX4_atPart 72 = .ok (.iload 12, 2) := dk_21 12 (dk_at dksX4_atPart_3 1 rfl rfl)
theorem dX4_atPart_74 : decode cX4_atPart 74 = .ok (.i2l, 1) := dk_133 (dk_at dksX4_atPart_3 3 rfl rfl)
theorem dX4_atPart_75 : decode cX4_atPart 75 = .ok (.iload_n 2, 1) := dk_28 (dk_at dksX4_atPart_3 4 rfl rfl)
theorem dX4_atPart_76 : decode cX4_atPart 76 = .ok (.i2l, 1) := dk_133 (dk_at dksX4_atPart_3 5 rfl rfl)
theorem dX4_atPart_77 : decode cX4_atPart 77 = .ok (.lmul, 1) := dk_105 (dk_at dksX4_atPart_3 6 rfl rfl)
theorem dX4_atPart_78 : decode cX4_atPart 78 = .ok (.lsub, 1) := dk_101 (dk_at dksX4_atPart_3 7 rfl rfl)
theorem dX4_atPart_79 : decode cX4_atPart 79 = .ok (.lmul, 1) := dk_105 (dk_at dksX4_atPart_3 8 rfl rfl)
theorem dX4_atPart_80 : decode cX4_atPart 80 = .ok (.lstore 6, 2) := dk_55 6 (dk_at dksX4_atPart_3 9 rfl rfl)
theorem dX4_atPart_82 : decode cX4_atPart 82 = .ok (.iload 12, 2) := dk_21 12 (dk_at dksX4_atPart_3 11 rfl rfl)
theorem dX4_atPart_84 : decode cX4_atPart 84 = .ok (.iload_n 1, 1) := dk_27 (dk_at dksX4_atPart_3 13 rfl rfl)
theorem dX4_atPart_85 : decode cX4_atPart 85 = .ok (.if_icmp .ge 17, 3) := dk_162 0 17 (dk_at dksX4_atPart_3 14 rfl rfl)
theorem dX4_atPart_88 : decode cX4_atPart 88 = .ok (.lload 10, 2) := dk_22 10 (dk_at dksX4_atPart_3 17 rfl rfl)
theorem dX4_atPart_90 : decode cX4_atPart 90 = .ok (.iload_n 2, 1) := dk_28 (dk_at dksX4_atPart_3 19 rfl rfl)
theorem dX4_atPart_91 : decode cX4_atPart 91 = .ok (.i2l, 1) := dk_133 (dk_at dksX4_atPart_3 20 rfl rfl)
theorem dX4_atPart_92 : decode cX4_atPart 92 = .ok (.iload 12, 2) := dk_21 12 (dk_at dksX4_atPart_3 21 rfl rfl)
theorem dX4_atPart_94 : decode cX4_atPart 94 = .ok (.iconst 1, 1) := dk_4 (dk_at dksX4_atPart_3 23 rfl rfl)
theorem dX4_atPart_95 : decode cX4_atPart 95 = .ok (.iadd, 1) := dk_96 (dk_at dksX4_atPart_4 0 rfl rfl)
theorem dX4_atPart_96 : decode cX4_atPart 96 = .ok (.i2l, 1) := dk_133 (dk_at dksX4_atPart_4 1 rfl rfl)
theorem dX4_atPart_97 : decode cX4_atPart 97 = .ok (.lmul, 1) := dk_105 (dk_at dksX4_atPart_4 2 rfl rfl)
theorem dX4_atPart_98 : decode cX4_atPart 98 = .ok (.ldiv, 1) := dk_109 (dk_at dksX4_atPart_4 3 rfl rfl)
theorem dX4_atPart_99 : decode cX4_atPart 99 = .ok (.goto 5, 3) := dk_167 0 5 (dk_at dksX4_atPart_4 4 rfl rfl)
theorem dX4_atPart_102 : decode cX4_atPart 102 = .ok (.lload 10, 2) := dk_22 10 (dk_at dksX4_atPart_4 7 rfl rfl)
theorem dX4_atPart_104 : decode cX4_atPart 104 = .ok (.lstore 10, 2) := dk_55 10 (dk_at dksX4_atPart_4 9 rfl rfl)
theorem dX4_atPart_106 : decode cX4_atPart 106 = .ok (.iinc 12 1, 3) := dk_132 12 1 (dk_at dksX4_atPart_4 11 rfl rfl)
theorem dX4_atPart_109 : decode cX4_atPart 109 = .ok (.goto (-65), 3) := dk_167 255 191 (dk_at dksX4_atPart_4 14 rfl rfl)
theorem dX4_atPart_112 : decode cX4_atPart 112 = .ok (.lload 4, 2) := dk_22 4 (dk_at dksX4_atPart_4 17 rfl rfl)
theorem dX4_atPart_114 : decode cX4_atPart 114 = .ok (.lreturn, 1) := dk_173 (dk_at dksX4_atPart_4 19 rfl rfl)
abbrev cX4_nearest : ByteArray := prog_9_method_39_code
def yX4_nearest : MethodName := ⟨RX4, "nearest", "(JJ)J"⟩
def dkwX4_nearest_0 : List UInt8 := [20, 0, 246, 30, 105, 32, 97, 20, 0, 246, 32, 105, 184, 1, 81, 173]
abbrev dktX4_nearest_0 : List UInt8 := dkwX4_nearest_0 ++ []
theorem dksX4_nearest_0 : cX4_nearest.data.toList.drop 0 = dktX4_nearest_0 := by decide +kernel
theorem dX4_nearest_0 : decode cX4_nearest 0 = .ok (.ldc2_w 246, 3) := dk_20 0 246 (dk_at dksX4_nearest_0 0 rfl rfl)
theorem dX4_nearest_3 : decode cX4_nearest 3 = .ok (.lload_n 0, 1) := dk_30 (dk_at dksX4_nearest_0 3 rfl rfl)
theorem dX4_nearest_4 : decode cX4_nearest 4 = .ok (.lmul, 1) := dk_105 (dk_at dksX4_nearest_0 4 rfl rfl)
theorem dX4_nearest_5 : decode cX4_nearest 5 = .ok (.lload_n 2, 1) := dk_32 (dk_at dksX4_nearest_0 5 rfl rfl)
theorem dX4_nearest_6 : decode cX4_nearest 6 = .ok (.ladd, 1) := dk_97 (dk_at dksX4_nearest_0 6 rfl rfl)
theorem dX4_nearest_7 : decode cX4_nearest 7 = .ok (.ldc2_w 246, 3) := dk_20 0 246 (dk_at dksX4_nearest_0 7 rfl rfl)
theorem dX4_nearest_10 : decode cX4_nearest 10 = .ok (.lload_n 2, 1) := dk_32 (dk_at dksX4_nearest_0 10 rfl rfl)
theorem dX4_nearest_11 : decode cX4_nearest 11 = .ok (.lmul, 1) := dk_105 (dk_at dksX4_nearest_0 11 rfl rfl)
theorem dX4_nearest_12 : decode cX4_nearest 12 = .ok (.invokestatic 337, 3) := dk_184 1 81 (dk_at dksX4_nearest_0 12 rfl rfl)
theorem dX4_nearest_15 : decode cX4_nearest 15 = .ok (.lreturn, 1) := dk_173 (dk_at dksX4_nearest_0 15 rfl rfl)
abbrev cX4_feed : ByteArray := prog_9_method_57_code
def yX4_feed : MethodName := ⟨RX4, "feed", "(IIIII)I"⟩
def dkwX4_feed_2 : List UInt8 := [182, 1, 189, 42, 180, 1, 186, 172]
abbrev dktX4_feed_2 : List UInt8 := dkwX4_feed_2 ++ []
def dkwX4_feed_1 : List UInt8 := [182, 1, 189, 42, 28, 182, 1, 189, 42, 29, 182, 1, 189, 42, 21, 4, 182, 1, 189, 42, 21, 5]
abbrev dktX4_feed_1 : List UInt8 := dkwX4_feed_1 ++ dktX4_feed_2
def dkwX4_feed_0 : List UInt8 := [42, 3, 181, 0, 212, 42, 180, 1, 186, 16, 20, 96, 17, 1, 244, 164, 0, 5, 2, 172, 42, 27]
abbrev dktX4_feed_0 : List UInt8 := dkwX4_feed_0 ++ dktX4_feed_1
theorem dksX4_feed_0 : cX4_feed.data.toList.drop 0 = dktX4_feed_0 := by decide +kernel
theorem dksX4_feed_1 : cX4_feed.data.toList.drop 22 = dktX4_feed_1 := dk_seg dksX4_feed_0 22 rfl rfl
theorem dksX4_feed_2 : cX4_feed.data.toList.drop 44 = dktX4_feed_2 := dk_seg dksX4_feed_1 22 rfl rfl
theorem dX4_feed_0 : decode cX4_feed 0 = .ok (.aload_n 0, 1) := dk_42 (dk_at dksX4_feed_0 0 rfl rfl)
theorem dX4_feed_1 : decode cX4_feed 1 = .ok (.iconst 0, 1) := dk_3 (dk_at dksX4_feed_0 1 rfl rfl)
theorem dX4_feed_2 : decode cX4_feed 2 = .ok (.putfield 212, 3) := dk_181 0 212 (dk_at dksX4_feed_0 2 rfl rfl)
theorem dX4_feed_5 : decode cX4_feed 5 = .ok (.aload_n 0, 1) := dk_42 (dk_at dksX4_feed_0 5 rfl rfl)
theorem dX4_feed_6 : decode cX4_feed 6 = .ok (.getfield 442, 3) := dk_180 1 186 (dk_at dksX4_feed_0 6 rfl rfl)
theorem dX4_feed_9 : decode cX4_feed 9 = .ok (.bipush 20, 2) := dk_16 20 (dk_at dksX4_feed_0 9 rfl rfl)
theorem dX4_feed_11 : decode cX4_feed 11 = .ok (.iadd, 1) := dk_96 (dk_at dksX4_feed_0 11 rfl rfl)
theorem dX4_feed_12 : decode cX4_feed 12 = .ok (.sipush 500, 3) := dk_17 1 244 (dk_at dksX4_feed_0 12 rfl rfl)
theorem dX4_feed_15 : decode cX4_feed 15 = .ok (.if_icmp .le 5, 3) := dk_164 0 5 (dk_at dksX4_feed_0 15 rfl rfl)
theorem dX4_feed_18 : decode cX4_feed 18 = .ok (.iconst (-1), 1) := dk_2 (dk_at dksX4_feed_0 18 rfl rfl)
theorem dX4_feed_19 : decode cX4_feed 19 = .ok (.ireturn, 1) := dk_172 (dk_at dksX4_feed_0 19 rfl rfl)
theorem dX4_feed_20 : decode cX4_feed 20 = .ok (.aload_n 0, 1) := dk_42 (dk_at dksX4_feed_0 20 rfl rfl)
theorem dX4_feed_21 : decode cX4_feed 21 = .ok (.iload_n 1, 1) := dk_27 (dk_at dksX4_feed_0 21 rfl rfl)
theorem dX4_feed_22 : decode cX4_feed 22 = .ok (.invokevirtual 445, 3) := dk_182 1 189 (dk_at dksX4_feed_1 0 rfl rfl)
theorem dX4_feed_25 : decode cX4_feed 25 = .ok (.aload_n 0, 1) := dk_42 (dk_at dksX4_feed_1 3 rfl rfl)
theorem dX4_feed_26 : decode cX4_feed 26 = .ok (.iload_n 2, 1) := dk_28 (dk_at dksX4_feed_1 4 rfl rfl)
theorem dX4_feed_27 : decode cX4_feed 27 = .ok (.invokevirtual 445, 3) := dk_182 1 189 (dk_at dksX4_feed_1 5 rfl rfl)
theorem dX4_feed_30 : decode cX4_feed 30 = .ok (.aload_n 0, 1) := dk_42 (dk_at dksX4_feed_1 8 rfl rfl)
theorem dX4_feed_31 : decode cX4_feed 31 = .ok (.iload_n 3, 1) := dk_29 (dk_at dksX4_feed_1 9 rfl rfl)
theorem dX4_feed_32 : decode cX4_feed 32 = .ok (.invokevirtual 445, 3) := dk_182 1 189 (dk_at dksX4_feed_1 10 rfl rfl)
theorem dX4_feed_35 : decode cX4_feed 35 = .ok (.aload_n 0, 1) := dk_42 (dk_at dksX4_feed_1 13 rfl rfl)
theorem dX4_feed_36 : decode cX4_feed 36 = .ok (.iload 4, 2) := dk_21 4 (dk_at dksX4_feed_1 14 rfl rfl)
theorem dX4_feed_38 : decode cX4_feed 38 = .ok (.invokevirtual 445, 3) := dk_182 1 189 (dk_at dksX4_feed_1 16 rfl rfl)
theorem dX4_feed_41 : decode cX4_feed 41 = .ok (.aload_n 0, 1) := dk_42 (dk_at dksX4_feed_1 19 rfl rfl)
theorem dX4_feed_42 : decode cX4_feed 42 = .ok (.iload 5, 2) := dk_21 5 (dk_at dksX4_feed_1 20 rfl rfl)
theorem dX4_feed_44 : decode cX4_feed 44 = .ok (.invokevirtual 445, 3) := dk_182 1 189 (dk_at dksX4_feed_2 0 rfl rfl)
theorem dX4_feed_47 : decode cX4_feed 47 = .ok (.aload_n 0, 1) := dk_42 (dk_at dksX4_feed_2 3 rfl rfl)
theorem dX4_feed_48 : decode cX4_feed 48 = .ok (.getfield 442, 3) := dk_180 1 186 (dk_at dksX4_feed_2 4 rfl rfl)
theorem dX4_feed_51 : decode cX4_feed 51 = .ok (.ireturn, 1) := dk_172 (dk_at dksX4_feed_2 7 rfl rfl)
abbrev cX4_lay : ByteArray := prog_9_method_58_code
def yX4_lay : MethodName := ⟨RX4, "lay", "(I)V"⟩
def dkwX4_lay_1 : List UInt8 := [180, 1, 186, 4, 96, 181, 1, 186, 132, 2, 255, 167, 255, 223, 177]
abbrev dktX4_lay_1 : List UInt8 := dkwX4_lay_1 ++ []
def dkwX4_lay_0 : List UInt8 := [6, 61, 28, 155, 0, 35, 42, 180, 0, 70, 42, 180, 1, 186, 27, 16, 8, 28, 104, 122, 145, 84, 42, 89]
abbrev dktX4_lay_0 : List UInt8 := dkwX4_lay_0 ++ dktX4_lay_1
theorem dksX4_lay_0 : cX4_lay.data.toList.drop 0 = dktX4_lay_0 := by decide +kernel
theorem dksX4_lay_1 : cX4_lay.data.toList.drop 24 = dktX4_lay_1 := dk_seg dksX4_lay_0 24 rfl rfl
theorem dX4_lay_0 : decode cX4_lay 0 = .ok (.iconst 3, 1) := dk_6 (dk_at dksX4_lay_0 0 rfl rfl)
theorem dX4_lay_1 : decode cX4_lay 1 = .ok (.istore_n 2, 1) := dk_61 (dk_at dksX4_lay_0 1 rfl rfl)
theorem dX4_lay_2 : decode cX4_lay 2 = .ok (.iload_n 2, 1) := dk_28 (dk_at dksX4_lay_0 2 rfl rfl)
theorem dX4_lay_3 : decode cX4_lay 3 = .ok (.ifCond .lt 35, 3) := dk_155 0 35 (dk_at dksX4_lay_0 3 rfl rfl)
theorem dX4_lay_6 : decode cX4_lay 6 = .ok (.aload_n 0, 1) := dk_42 (dk_at dksX4_lay_0 6 rfl rfl)
theorem dX4_lay_7 : decode cX4_lay 7 = .ok (.getfield 70, 3) := dk_180 0 70 (dk_at dksX4_lay_0 7 rfl rfl)
theorem dX4_lay_10 : decode cX4_lay 10 = .ok (.aload_n 0, 1) := dk_42 (dk_at dksX4_lay_0 10 rfl rfl)
theorem dX4_lay_11 : decode cX4_lay 11 = .ok (.getfield 442, 3) := dk_180 1 186 (dk_at dksX4_lay_0 11 rfl rfl)
theorem dX4_lay_14 : decode cX4_lay 14 = .ok (.iload_n 1, 1) := dk_27 (dk_at dksX4_lay_0 14 rfl rfl)
theorem dX4_lay_15 : decode cX4_lay 15 = .ok (.bipush 8, 2) := dk_16 8 (dk_at dksX4_lay_0 15 rfl rfl)
theorem dX4_lay_17 : decode cX4_lay 17 = .ok (.iload_n 2, 1) := dk_28 (dk_at dksX4_lay_0 17 rfl rfl)
theorem dX4_lay_18 : decode cX4_lay 18 = .ok (.imul, 1) := dk_104 (dk_at dksX4_lay_0 18 rfl rfl)
theorem dX4_lay_19 : decode cX4_lay 19 = .ok (.ishr, 1) := dk_122 (dk_at dksX4_lay_0 19 rfl rfl)
theorem dX4_lay_20 : decode cX4_lay 20 = .ok (.i2b, 1) := dk_145 (dk_at dksX4_lay_0 20 rfl rfl)
theorem dX4_lay_21 : decode cX4_lay 21 = .ok (.bastore, 1) := dk_84 (dk_at dksX4_lay_0 21 rfl rfl)
theorem dX4_lay_22 : decode cX4_lay 22 = .ok (.aload_n 0, 1) := dk_42 (dk_at dksX4_lay_0 22 rfl rfl)
theorem dX4_lay_23 : decode cX4_lay 23 = .ok (.dup, 1) := dk_89 (dk_at dksX4_lay_0 23 rfl rfl)
theorem dX4_lay_24 : decode cX4_lay 24 = .ok (.getfield 442, 3) := dk_180 1 186 (dk_at dksX4_lay_1 0 rfl rfl)
theorem dX4_lay_27 : decode cX4_lay 27 = .ok (.iconst 1, 1) := dk_4 (dk_at dksX4_lay_1 3 rfl rfl)
theorem dX4_lay_28 : decode cX4_lay 28 = .ok (.iadd, 1) := dk_96 (dk_at dksX4_lay_1 4 rfl rfl)
theorem dX4_lay_29 : decode cX4_lay 29 = .ok (.putfield 442, 3) := dk_181 1 186 (dk_at dksX4_lay_1 5 rfl rfl)
theorem dX4_lay_32 : decode cX4_lay 32 = .ok (.iinc 2 (-1), 3) := dk_132 2 255 (dk_at dksX4_lay_1 8 rfl rfl)
theorem dX4_lay_35 : decode cX4_lay 35 = .ok (.goto (-33), 3) := dk_167 255 223 (dk_at dksX4_lay_1 11 rfl rfl)
theorem dX4_lay_38 : decode cX4_lay 38 = .ok (.return_, 1) := dk_177 (dk_at dksX4_lay_1 14 rfl rfl)
abbrev cX4_cards : ByteArray := prog_9_method_59_code
def yX4_cards : MethodName := ⟨RX4, "cards", "(I)I"⟩
def dkwX4_cards_13 : List UInt8 := [180, 0, 125, 28, 47, 80, 132, 2, 1, 167, 255, 161, 42, 180, 0, 80, 172]
abbrev dktX4_cards_13 : List UInt8 := dkwX4_cards_13 ++ []
def dkwX4_cards_12 : List UInt8 := [180, 0, 113, 28, 46, 79, 42, 180, 0, 98, 28, 42, 180, 0, 116, 28, 46, 79, 42, 180, 0, 122, 28, 42]
abbrev dktX4_cards_12 : List UInt8 := dkwX4_cards_12 ++ dktX4_cards_13
def dkwX4_cards_11 : List UInt8 := [180, 0, 107, 28, 46, 79, 42, 180, 0, 92, 28, 42, 180, 0, 110, 28, 46, 79, 42, 180, 0, 95, 28, 42]
abbrev dktX4_cards_11 : List UInt8 := dkwX4_cards_11 ++ dktX4_cards_12
def dkwX4_cards_10 : List UInt8 := [180, 0, 101, 28, 46, 79, 42, 180, 0, 86, 28, 42, 180, 0, 104, 28, 46, 79, 42, 180, 0, 89, 28, 42]
abbrev dktX4_cards_10 : List UInt8 := dkwX4_cards_10 ++ dktX4_cards_11
def dkwX4_cards_9 : List UInt8 := [42, 42, 180, 1, 171, 181, 0, 80, 3, 61, 28, 42, 180, 1, 171, 162, 0, 93, 42, 180, 0, 83, 28, 42]
abbrev dktX4_cards_9 : List UInt8 := dkwX4_cards_9 ++ dktX4_cards_10
def dkwX4_cards_8 : List UInt8 := [167, 0, 7, 42, 180, 1, 147, 181, 0, 77, 42, 180, 1, 144, 158, 0, 10, 42, 16, 10, 182, 0, 252, 172]
abbrev dktX4_cards_8 : List UInt8 := dkwX4_cards_8 ++ dktX4_cards_9
def dkwX4_cards_7 : List UInt8 := [132, 2, 1, 167, 255, 169, 42, 42, 180, 1, 144, 181, 0, 74, 42, 42, 180, 1, 144, 154, 0, 7, 2]
abbrev dktX4_cards_7 : List UInt8 := dkwX4_cards_7 ++ dktX4_cards_8
def dkwX4_cards_6 : List UInt8 := [155, 0, 11, 29, 42, 180, 1, 171, 164, 0, 14, 42, 8, 42, 180, 0, 119, 28, 46, 182, 1, 150]
abbrev dktX4_cards_6 : List UInt8 := dkwX4_cards_6 ++ dktX4_cards_7
def dkwX4_cards_5 : List UInt8 := [180, 0, 101, 28, 46, 16, 7, 160, 0, 14, 28, 42, 180, 0, 104, 28, 46, 96, 167, 0, 4, 28, 62, 29]
abbrev dktX4_cards_5 : List UInt8 := dkwX4_cards_5 ++ dktX4_cards_6
def dkwX4_cards_4 : List UInt8 := [180, 0, 101, 28, 46, 16, 6, 160, 0, 14, 28, 42, 180, 0, 104, 28, 46, 100, 167, 0, 26, 42]
abbrev dktX4_cards_4 : List UInt8 := dkwX4_cards_4 ++ dktX4_cards_5
def dkwX4_cards_3 : List UInt8 := [182, 1, 192, 167, 255, 238, 3, 61, 42, 180, 1, 144, 154, 0, 86, 28, 42, 180, 1, 171, 162, 0, 78, 42]
abbrev dktX4_cards_3 : List UInt8 := dkwX4_cards_3 ++ dktX4_cards_4
def dkwX4_cards_2 : List UInt8 := [42, 3, 181, 1, 171, 42, 182, 1, 156, 42, 180, 1, 144, 154, 0, 17, 42, 180, 1, 119, 153, 0, 10, 42]
abbrev dktX4_cards_2 : List UInt8 := dkwX4_cards_2 ++ dktX4_cards_3
def dkwX4_cards_1 : List UInt8 := [182, 0, 252, 172, 42, 27, 181, 1, 107, 42, 3, 181, 1, 186, 42, 3, 181, 1, 110, 42, 3, 181, 1, 144]
abbrev dktX4_cards_1 : List UInt8 := dkwX4_cards_1 ++ dktX4_cards_2
def dkwX4_cards_0 : List UInt8 := [42, 3, 181, 0, 212, 42, 3, 181, 0, 215, 27, 155, 0, 11, 27, 42, 180, 1, 186, 164, 0, 9, 42, 8]
abbrev dktX4_cards_0 : List UInt8 := dkwX4_cards_0 ++ dktX4_cards_1
theorem dksX4_cards_0 : cX4_cards.data.toList.drop 0 = dktX4_cards_0 := by decide +kernel
theorem dksX4_cards_1 : cX4_cards.data.toList.drop 24 = dktX4_cards_1 := dk_seg dksX4_cards_0 24 rfl rfl
theorem dksX4_cards_2 : cX4_cards.data.toList.drop 48 = dktX4_cards_2 := dk_seg dksX4_cards_1 24 rfl rfl
theorem dksX4_cards_3 : cX4_cards.data.toList.drop 72 = dktX4_cards_3 := dk_seg dksX4_cards_2 24 rfl rfl
theorem dksX4_cards_4 : cX4_cards.data.toList.drop 96 = dktX4_cards_4 := dk_seg dksX4_cards_3 24 rfl rfl
theorem dksX4_cards_5 : cX4_cards.data.toList.drop 118 = dktX4_cards_5 := dk_seg dksX4_cards_4 22 rfl rfl
theorem dksX4_cards_6 : cX4_cards.data.toList.drop 142 = dktX4_cards_6 := dk_seg dksX4_cards_5 24 rfl rfl
theorem dksX4_cards_7 : cX4_cards.data.toList.drop 164 = dktX4_cards_7 := dk_seg dksX4_cards_6 22 rfl rfl
theorem dksX4_cards_8 : cX4_cards.data.toList.drop 187 = dktX4_cards_8 := dk_seg dksX4_cards_7 23 rfl rfl
theorem dksX4_cards_9 : cX4_cards.data.toList.drop 211 = dktX4_cards_9 := dk_seg dksX4_cards_8 24 rfl rfl
theorem dksX4_cards_10 : cX4_cards.data.toList.drop 235 = dktX4_cards_10 := dk_seg dksX4_cards_9 24 rfl rfl
theorem dksX4_cards_11 : cX4_cards.data.toList.drop 259 = dktX4_cards_11 := dk_seg dksX4_cards_10 24 rfl rfl
theorem dksX4_cards_12 : cX4_cards.data.toList.drop 283 = dktX4_cards_12 := dk_seg dksX4_cards_11 24 rfl rfl
theorem dksX4_cards_13 : cX4_cards.data.toList.drop 307 = dktX4_cards_13 := dk_seg dksX4_cards_12 24 rfl rfl
theorem dX4_cards_0 : decode cX4_cards 0 = .ok (.aload_n 0, 1) := dk_42 (dk_at dksX4_cards_0 0 rfl rfl)
theorem dX4_cards_1 : decode cX4_cards 1 = .ok (.iconst 0, 1) := dk_3 (dk_at dksX4_cards_0 1 rfl rfl)
theorem dX4_cards_2 : decode cX4_cards 2 = .ok (.putfield 212, 3) := dk_181 0 212 (dk_at dksX4_cards_0 2 rfl rfl)
theorem dX4_cards_5 : decode cX4_cards 5 = .ok (.aload_n 0, 1) := dk_42 (dk_at dksX4_cards_0 5 rfl rfl)
theorem dX4_cards_6 : decode cX4_cards 6 = .ok (.iconst 0, 1) := dk_3 (dk_at dksX4_cards_0 6 rfl rfl)
theorem dX4_cards_7 : decode cX4_cards 7 = .ok (.putfield 215, 3) := dk_181 0 215 (dk_at dksX4_cards_0 7 rfl rfl)
theorem dX4_cards_10 : decode cX4_cards 10 = .ok (.iload_n 1, 1) := dk_27 (dk_at dksX4_cards_0 10 rfl rfl)
theorem dX4_cards_11 : decode cX4_cards 11 = .ok (.ifCond .lt 11, 3) := dk_155 0 11 (dk_at dksX4_cards_0 11 rfl rfl)
theorem dX4_cards_14 : decode cX4_cards 14 = .ok (.iload_n 1, 1) := dk_27 (dk_at dksX4_cards_0 14 rfl rfl)
theorem dX4_cards_15 : decode cX4_cards 15 = .ok (.aload_n 0, 1) := dk_42 (dk_at dksX4_cards_0 15 rfl rfl)
theorem dX4_cards_16 : decode cX4_cards 16 = .ok (.getfield 442, 3) := dk_180 1 186 (dk_at dksX4_cards_0 16 rfl rfl)
theorem dX4_cards_19 : decode cX4_cards 19 = .ok (.if_icmp .le 9, 3) := dk_164 0 9 (dk_at dksX4_cards_0 19 rfl rfl)
theorem dX4_cards_22 : decode cX4_cards 22 = .ok (.aload_n 0, 1) := dk_42 (dk_at dksX4_cards_0 22 rfl rfl)
theorem dX4_cards_23 : decode cX4_cards 23 = .ok (.iconst 5, 1) := dk_8 (dk_at dksX4_cards_0 23 rfl rfl)
theorem dX4_cards_24 : decode cX4_cards 24 = .ok (.invokevirtual 252, 3) := dk_182 0 252 (dk_at dksX4_cards_1 0 rfl rfl)
theorem dX4_cards_27 : decode cX4_cards 27 = .ok (.ireturn, 1) := dk_172 (dk_at dksX4_cards_1 3 rfl rfl)
theorem dX4_cards_28 : decode cX4_cards 28 = .ok (.aload_n 0, 1) := dk_42 (dk_at dksX4_cards_1 4 rfl rfl)
theorem dX4_cards_29 : decode cX4_cards 29 = .ok (.iload_n 1, 1) := dk_27 (dk_at dksX4_cards_1 5 rfl rfl)
theorem dX4_cards_30 : decode cX4_cards 30 = .ok (.putfield 363, 3) := dk_181 1 107 (dk_at dksX4_cards_1 6 rfl rfl)
theorem dX4_cards_33 : decode cX4_cards 33 = .ok (.aload_n 0, 1) := dk_42 (dk_at dksX4_cards_1 9 rfl rfl)
theorem dX4_cards_34 : decode cX4_cards 34 = .ok (.iconst 0, 1) := dk_3 (dk_at dksX4_cards_1 10 rfl rfl)
theorem dX4_cards_35 : decode cX4_cards 35 = .ok (.putfield 442, 3) := dk_181 1 186 (dk_at dksX4_cards_1 11 rfl rfl)
theorem dX4_cards_38 : decode cX4_cards 38 = .ok (.aload_n 0, 1) := dk_42 (dk_at dksX4_cards_1 14 rfl rfl)
theorem dX4_cards_39 : decode cX4_cards 39 = .ok (.iconst 0, 1) := dk_3 (dk_at dksX4_cards_1 15 rfl rfl)
theorem dX4_cards_40 : decode cX4_cards 40 = .ok (.putfield 366, 3) := dk_181 1 110 (dk_at dksX4_cards_1 16 rfl rfl)
theorem dX4_cards_43 : decode cX4_cards 43 = .ok (.aload_n 0, 1) := dk_42 (dk_at dksX4_cards_1 19 rfl rfl)
theorem dX4_cards_44 : decode cX4_cards 44 = .ok (.iconst 0, 1) := dk_3 (dk_at dksX4_cards_1 20 rfl rfl)
theorem dX4_cards_45 : decode cX4_cards 45 = .ok (.putfield 400, 3) := dk_181 1 144 (dk_at dksX4_cards_1 21 rfl rfl)
theorem dX4_cards_48 : decode cX4_cards 48 = .ok (.aload_n 0, 1) := dk_42 (dk_at dksX4_cards_2 0 rfl rfl)
theorem dX4_cards_49 : decode cX4_cards 49 = .ok (.iconst 0, 1) := dk_3 (dk_at dksX4_cards_2 1 rfl rfl)
theorem dX4_cards_50 : decode cX4_cards 50 = .ok (.putfield 427, 3) := dk_181 1 171 (dk_at dksX4_cards_2 2 rfl rfl)
theorem dX4_cards_53 : decode cX4_cards 53 = .ok (.aload_n 0, 1) := dk_42 (dk_at dksX4_cards_2 5 rfl rfl)
theorem dX4_cards_54 : decode cX4_cards 54 = .ok (.invokevirtual 412, 3) := dk_182 1 156 (dk_at dksX4_cards_2 6 rfl rfl)
theorem dX4_cards_57 : decode cX4_cards 57 = .ok (.aload_n 0, 1) := dk_42 (dk_at dksX4_cards_2 9 rfl rfl)
theorem dX4_cards_58 : decode cX4_cards 58 = .ok (.getfield 400, 3) := dk_180 1 144 (dk_at dksX4_cards_2 10 rfl rfl)
theorem dX4_cards_61 : decode cX4_cards 61 = .ok (.ifCond .ne 17, 3) := dk_154 0 17 (dk_at dksX4_cards_2 13 rfl rfl)
theorem dX4_cards_64 : decode cX4_cards 64 = .ok (.aload_n 0, 1) := dk_42 (dk_at dksX4_cards_2 16 rfl rfl)
theorem dX4_cards_65 : decode cX4_cards 65 = .ok (.getfield 375, 3) := dk_180 1 119 (dk_at dksX4_cards_2 17 rfl rfl)
theorem dX4_cards_68 : decode cX4_cards 68 = .ok (.ifCond .eq 10, 3) := dk_153 0 10 (dk_at dksX4_cards_2 20 rfl rfl)
theorem dX4_cards_71 : decode cX4_cards 71 = .ok (.aload_n 0, 1) := dk_42 (dk_at dksX4_cards_2 23 rfl rfl)
theorem dX4_cards_72 : decode cX4_cards 72 = .ok (.invokevirtual 448, 3) := dk_182 1 192 (dk_at dksX4_cards_3 0 rfl rfl)
theorem dX4_cards_75 : decode cX4_cards 75 = .ok (.goto (-18), 3) := dk_167 255 238 (dk_at dksX4_cards_3 3 rfl rfl)
theorem dX4_cards_78 : decode cX4_cards 78 = .ok (.iconst 0, 1) := dk_3 (dk_at dksX4_cards_3 6 rfl rfl)
theorem dX4_cards_79 : decode cX4_cards 79 = .ok (.istore_n 2, 1) := dk_61 (dk_at dksX4_cards_3 7 rfl rfl)
theorem dX4_cards_80 : decode cX4_cards 80 = .ok (.aload_n 0, 1) := dk_42 (dk_at dksX4_cards_3 8 rfl rfl)
theorem dX4_cards_81 : decode cX4_cards 81 = .ok (.getfield 400, 3) := dk_180 1 144 (dk_at dksX4_cards_3 9 rfl rfl)
theorem dX4_cards_84 : decode cX4_cards 84 = .ok (.ifCond .ne 86, 3) := dk_154 0 86 (dk_at dksX4_cards_3 12 rfl rfl)
theorem dX4_cards_87 : decode cX4_cards 87 = .ok (.iload_n 2, 1) := dk_28 (dk_at dksX4_cards_3 15 rfl rfl)
theorem dX4_cards_88 : decode cX4_cards 88 = .ok (.aload_n 0, 1) := dk_42 (dk_at dksX4_cards_3 16 rfl rfl)
theorem dX4_cards_89 : decode cX4_cards 89 = .ok (.getfield 427, 3) := dk_180 1 171 (dk_at dksX4_cards_3 17 rfl rfl)
theorem dX4_cards_92 : decode cX4_cards 92 = .ok (.if_icmp .ge 78, 3) := dk_162 0 78 (dk_at dksX4_cards_3 20 rfl rfl)
theorem dX4_cards_95 : decode cX4_cards 95 = .ok (.aload_n 0, 1) := dk_42 (dk_at dksX4_cards_3 23 rfl rfl)
theorem dX4_cards_96 : decode cX4_cards 96 = .ok (.getfield 101, 3) := dk_180 0 101 (dk_at dksX4_cards_4 0 rfl rfl)
theorem dX4_cards_99 : decode cX4_cards 99 = .ok (.iload_n 2, 1) := dk_28 (dk_at dksX4_cards_4 3 rfl rfl)
theorem dX4_cards_100 : decode cX4_cards 100 = .ok (.iaload, 1) := dk_46 (dk_at dksX4_cards_4 4 rfl rfl)
theorem dX4_cards_101 : decode cX4_cards 101 = .ok (.bipush 6, 2) := dk_16 6 (dk_at dksX4_cards_4 5 rfl rfl)
theorem dX4_cards_103 : decode cX4_cards 103 = .ok (.if_icmp .ne 14, 3) := dk_160 0 14 (dk_at dksX4_cards_4 7 rfl rfl)
theorem dX4_cards_106 : decode cX4_cards 106 = .ok (.iload_n 2, 1) := dk_28 (dk_at dksX4_cards_4 10 rfl rfl)
theorem dX4_cards_107 : decode cX4_cards 107 = .ok (.aload_n 0, 1) := dk_42 (dk_at dksX4_cards_4 11 rfl rfl)
theorem dX4_cards_108 : decode cX4_cards 108 = .ok (.getfield 104, 3) := dk_180 0 104 (dk_at dksX4_cards_4 12 rfl rfl)
theorem dX4_cards_111 : decode cX4_cards 111 = .ok (.iload_n 2, 1) := dk_28 (dk_at dksX4_cards_4 15 rfl rfl)
theorem dX4_cards_112 : decode cX4_cards 112 = .ok (.iaload, 1) := dk_46 (dk_at dksX4_cards_4 16 rfl rfl)
theorem dX4_cards_113 : decode cX4_cards 113 = .ok (.isub, 1) := dk_100 (dk_at dksX4_cards_4 17 rfl rfl)
theorem dX4_cards_114 : decode cX4_cards 114 = .ok (.goto 26, 3) := dk_167 0 26 (dk_at dksX4_cards_4 18 rfl rfl)
theorem dX4_cards_117 : decode cX4_cards 117 = .ok (.aload_n 0, 1) := dk_42 (dk_at dksX4_cards_4 21 rfl rfl)
theorem dX4_cards_118 : decode cX4_cards 118 = .ok (.getfield 101, 3) := dk_180 0 101 (dk_at dksX4_cards_5 0 rfl rfl)
theorem dX4_cards_121 : decode cX4_cards 121 = .ok (.iload_n 2, 1) := dk_28 (dk_at dksX4_cards_5 3 rfl rfl)
theorem dX4_cards_122 : decode cX4_cards 122 = .ok (.iaload, 1) := dk_46 (dk_at dksX4_cards_5 4 rfl rfl)
theorem dX4_cards_123 : decode cX4_cards 123 = .ok (.bipush 7, 2) := dk_16 7 (dk_at dksX4_cards_5 5 rfl rfl)
theorem dX4_cards_125 : decode cX4_cards 125 = .ok (.if_icmp .ne 14, 3) := dk_160 0 14 (dk_at dksX4_cards_5 7 rfl rfl)
theorem dX4_cards_128 : decode cX4_cards 128 = .ok (.iload_n 2, 1) := dk_28 (dk_at dksX4_cards_5 10 rfl rfl)
theorem dX4_cards_129 : decode cX4_cards 129 = .ok (.aload_n 0, 1) := dk_42 (dk_at dksX4_cards_5 11 rfl rfl)
theorem dX4_cards_130 : decode cX4_cards 130 = .ok (.getfield 104, 3) := dk_180 0 104 (dk_at dksX4_cards_5 12 rfl rfl)
theorem dX4_cards_133 : decode cX4_cards 133 = .ok (.iload_n 2, 1) := dk_28 (dk_at dksX4_cards_5 15 rfl rfl)
theorem dX4_cards_134 : decode cX4_cards 134 = .ok (.iaload, 1) := dk_46 (dk_at dksX4_cards_5 16 rfl rfl)
theorem dX4_cards_135 : decode cX4_cards 135 = .ok (.iadd, 1) := dk_96 (dk_at dksX4_cards_5 17 rfl rfl)
theorem dX4_cards_136 : decode cX4_cards 136 = .ok (.goto 4, 3) := dk_167 0 4 (dk_at dksX4_cards_5 18 rfl rfl)
theorem dX4_cards_139 : decode cX4_cards 139 = .ok (.iload_n 2, 1) := dk_28 (dk_at dksX4_cards_5 21 rfl rfl)
theorem dX4_cards_140 : decode cX4_cards 140 = .ok (.istore_n 3, 1) := dk_62 (dk_at dksX4_cards_5 22 rfl rfl)
theorem dX4_cards_141 : decode cX4_cards 141 = .ok (.iload_n 3, 1) := dk_29 (dk_at dksX4_cards_5 23 rfl rfl)
theorem dX4_cards_142 : decode cX4_cards 142 = .ok (.ifCond .lt 11, 3) := dk_155 0 11 (dk_at dksX4_cards_6 0 rfl rfl)
theorem dX4_cards_145 : decode cX4_cards 145 = .ok (.iload_n 3, 1) := dk_29 (dk_at dksX4_cards_6 3 rfl rfl)
theorem dX4_cards_146 : decode cX4_cards 146 = .ok (.aload_n 0, 1) := dk_42 (dk_at dksX4_cards_6 4 rfl rfl)
theorem dX4_cards_147 : decode cX4_cards 147 = .ok (.getfield 427, 3) := dk_180 1 171 (dk_at dksX4_cards_6 5 rfl rfl)
theorem dX4_cards_150 : decode cX4_cards 150 = .ok (.if_icmp .le 14, 3) := dk_164 0 14 (dk_at dksX4_cards_6 8 rfl rfl)
theorem dX4_cards_153 : decode cX4_cards 153 = .ok (.aload_n 0, 1) := dk_42 (dk_at dksX4_cards_6 11 rfl rfl)
theorem dX4_cards_154 : decode cX4_cards 154 = .ok (.iconst 5, 1) := dk_8 (dk_at dksX4_cards_6 12 rfl rfl)
theorem dX4_cards_155 : decode cX4_cards 155 = .ok (.aload_n 0, 1) := dk_42 (dk_at dksX4_cards_6 13 rfl rfl)
theorem dX4_cards_156 : decode cX4_cards 156 = .ok (.getfield 119, 3) := dk_180 0 119 (dk_at dksX4_cards_6 14 rfl rfl)
theorem dX4_cards_159 : decode cX4_cards 159 = .ok (.iload_n 2, 1) := dk_28 (dk_at dksX4_cards_6 17 rfl rfl)
theorem dX4_cards_160 : decode cX4_cards 160 = .ok (.iaload, 1) := dk_46 (dk_at dksX4_cards_6 18 rfl rfl)
theorem dX4_cards_161 : decode cX4_cards 161 = .ok (.invokevirtual 406, 3) := dk_182 1 150 (dk_at dksX4_cards_6 19 rfl rfl)
theorem dX4_cards_164 : decode cX4_cards 164 = .ok (.iinc 2 1, 3) := dk_132 2 1 (dk_at dksX4_cards_7 0 rfl rfl)
theorem dX4_cards_167 : decode cX4_cards 167 = .ok (.goto (-87), 3) := dk_167 255 169 (dk_at dksX4_cards_7 3 rfl rfl)
theorem dX4_cards_170 : decode cX4_cards 170 = .ok (.aload_n 0, 1) := dk_42 (dk_at dksX4_cards_7 6 rfl rfl)
theorem dX4_cards_171 : decode cX4_cards 171 = .ok (.aload_n 0, 1) := dk_42 (dk_at dksX4_cards_7 7 rfl rfl)
theorem dX4_cards_172 : decode cX4_cards 172 = .ok (.getfield 400, 3) := dk_180 1 144 (dk_at dksX4_cards_7 8 rfl rfl)
theorem dX4_cards_175 : decode cX4_cards 175 = .ok (.putfield 74, 3) := dk_181 0 74 (dk_at dksX4_cards_7 11 rfl rfl)
theorem dX4_cards_178 : decode cX4_cards 178 = .ok (.aload_n 0, 1) := dk_42 (dk_at dksX4_cards_7 14 rfl rfl)
theorem dX4_cards_179 : decode cX4_cards 179 = .ok (.aload_n 0, 1) := dk_42 (dk_at dksX4_cards_7 15 rfl rfl)
theorem dX4_cards_180 : decode cX4_cards 180 = .ok (.getfield 400, 3) := dk_180 1 144 (dk_at dksX4_cards_7 16 rfl rfl)
theorem dX4_cards_183 : decode cX4_cards 183 = .ok (.ifCond .ne 7, 3) := dk_154 0 7 (dk_at dksX4_cards_7 19 rfl rfl)
theorem dX4_cards_186 : decode cX4_cards 186 = .ok (.iconst (-1), 1) := dk_2 (dk_at dksX4_cards_7 22 rfl rfl)
theorem dX4_cards_187 : decode cX4_cards 187 = .ok (.goto 7, 3) := dk_167 0 7 (dk_at dksX4_cards_8 0 rfl rfl)
theorem dX4_cards_190 : decode cX4_cards 190 = .ok (.aload_n 0, 1) := dk_42 (dk_at dksX4_cards_8 3 rfl rfl)
theorem dX4_cards_191 : decode cX4_cards 191 = .ok (.getfield 403, 3) := dk_180 1 147 (dk_at dksX4_cards_8 4 rfl rfl)
theorem dX4_cards_194 : decode cX4_cards 194 = .ok (.putfield 77, 3) := dk_181 0 77 (dk_at dksX4_cards_8 7 rfl rfl)
theorem dX4_cards_197 : decode cX4_cards 197 = .ok (.aload_n 0, 1) := dk_42 (dk_at dksX4_cards_8 10 rfl rfl)
theorem dX4_cards_198 : decode cX4_cards 198 = .ok (.getfield 400, 3) := dk_180 1 144 (dk_at dksX4_cards_8 11 rfl rfl)
theorem dX4_cards_201 : decode cX4_cards 201 = .ok (.ifCond .le 10, 3) := dk_158 0 10 (dk_at dksX4_cards_8 14 rfl rfl)
theorem dX4_cards_204 : decode cX4_cards 204 = .ok (.aload_n 0, 1) := dk_42 (dk_at dksX4_cards_8 17 rfl rfl)
theorem dX4_cards_205 : decode cX4_cards 205 = .ok (.bipush 10, 2) := dk_16 10 (dk_at dksX4_cards_8 18 rfl rfl)
theorem dX4_cards_207 : decode cX4_cards 207 = .ok (.invokevirtual 252, 3) := dk_182 0 252 (dk_at dksX4_cards_8 20 rfl rfl)
theorem dX4_cards_210 : decode cX4_cards 210 = .ok (.ireturn, 1) := dk_172 (dk_at dksX4_cards_8 23 rfl rfl)
theorem dX4_cards_211 : decode cX4_cards 211 = .ok (.aload_n 0, 1) := dk_42 (dk_at dksX4_cards_9 0 rfl rfl)
theorem dX4_cards_212 : decode cX4_cards 212 = .ok (.aload_n 0, 1) := dk_42 (dk_at dksX4_cards_9 1 rfl rfl)
theorem dX4_cards_213 : decode cX4_cards 213 = .ok (.getfield 427, 3) := dk_180 1 171 (dk_at dksX4_cards_9 2 rfl rfl)
theorem dX4_cards_216 : decode cX4_cards 216 = .ok (.putfield 80, 3) := dk_181 0 80 (dk_at dksX4_cards_9 5 rfl rfl)
theorem dX4_cards_219 : decode cX4_cards 219 = .ok (.iconst 0, 1) := dk_3 (dk_at dksX4_cards_9 8 rfl rfl)
theorem dX4_cards_220 : decode cX4_cards 220 = .ok (.istore_n 2, 1) := dk_61 (dk_at dksX4_cards_9 9 rfl rfl)
theorem dX4_cards_221 : decode cX4_cards 221 = .ok (.iload_n 2, 1) := dk_28 (dk_at dksX4_cards_9 10 rfl rfl)
theorem dX4_cards_222 : decode cX4_cards 222 = .ok (.aload_n 0, 1) := dk_42 (dk_at dksX4_cards_9 11 rfl rfl)
theorem dX4_cards_223 : decode cX4_cards 223 = .ok (.getfield 427, 3) := dk_180 1 171 (dk_at dksX4_cards_9 12 rfl rfl)
theorem dX4_cards_226 : decode cX4_cards 226 = .ok (.if_icmp .ge 93, 3) := dk_162 0 93 (dk_at dksX4_cards_9 15 rfl rfl)
theorem dX4_cards_229 : decode cX4_cards 229 = .ok (.aload_n 0, 1) := dk_42 (dk_at dksX4_cards_9 18 rfl rfl)
theorem dX4_cards_230 : decode cX4_cards 230 = .ok (.getfield 83, 3) := dk_180 0 83 (dk_at dksX4_cards_9 19 rfl rfl)
theorem dX4_cards_233 : decode cX4_cards 233 = .ok (.iload_n 2, 1) := dk_28 (dk_at dksX4_cards_9 22 rfl rfl)
theorem dX4_cards_234 : decode cX4_cards 234 = .ok (.aload_n 0, 1) := dk_42 (dk_at dksX4_cards_9 23 rfl rfl)
theorem dX4_cards_235 : decode cX4_cards 235 = .ok (.getfield 101, 3) := dk_180 0 101 (dk_at dksX4_cards_10 0 rfl rfl)
theorem dX4_cards_238 : decode cX4_cards 238 = .ok (.iload_n 2, 1) := dk_28 (dk_at dksX4_cards_10 3 rfl rfl)
theorem dX4_cards_239 : decode cX4_cards 239 = .ok (.iaload, 1) := dk_46 (dk_at dksX4_cards_10 4 rfl rfl)
theorem dX4_cards_240 : decode cX4_cards 240 = .ok (.iastore, 1) := dk_79 (dk_at dksX4_cards_10 5 rfl rfl)
theorem dX4_cards_241 : decode cX4_cards 241 = .ok (.aload_n 0, 1) := dk_42 (dk_at dksX4_cards_10 6 rfl rfl)
theorem dX4_cards_242 : decode cX4_cards 242 = .ok (.getfield 86, 3) := dk_180 0 86 (dk_at dksX4_cards_10 7 rfl rfl)
theorem dX4_cards_245 : decode cX4_cards 245 = .ok (.iload_n 2, 1) := dk_28 (dk_at dksX4_cards_10 10 rfl rfl)
theorem dX4_cards_246 : decode cX4_cards 246 = .ok (.aload_n 0, 1) := dk_42 (dk_at dksX4_cards_10 11 rfl rfl)
theorem dX4_cards_247 : decode cX4_cards 247 = .ok (.getfield 104, 3) := dk_180 0 104 (dk_at dksX4_cards_10 12 rfl rfl)
theorem dX4_cards_250 : decode cX4_cards 250 = .ok (.iload_n 2, 1) := dk_28 (dk_at dksX4_cards_10 15 rfl rfl)
theorem dX4_cards_251 : decode cX4_cards 251 = .ok (.iaload, 1) := dk_46 (dk_at dksX4_cards_10 16 rfl rfl)
theorem dX4_cards_252 : decode cX4_cards 252 = .ok (.iastore, 1) := dk_79 (dk_at dksX4_cards_10 17 rfl rfl)
theorem dX4_cards_253 : decode cX4_cards 253 = .ok (.aload_n 0, 1) := dk_42 (dk_at dksX4_cards_10 18 rfl rfl)
theorem dX4_cards_254 : decode cX4_cards 254 = .ok (.getfield 89, 3) := dk_180 0 89 (dk_at dksX4_cards_10 19 rfl rfl)
theorem dX4_cards_257 : decode cX4_cards 257 = .ok (.iload_n 2, 1) := dk_28 (dk_at dksX4_cards_10 22 rfl rfl)
theorem dX4_cards_258 : decode cX4_cards 258 = .ok (.aload_n 0, 1) := dk_42 (dk_at dksX4_cards_10 23 rfl rfl)
theorem dX4_cards_259 : decode cX4_cards 259 = .ok (.getfield 107, 3) := dk_180 0 107 (dk_at dksX4_cards_11 0 rfl rfl)
theorem dX4_cards_262 : decode cX4_cards 262 = .ok (.iload_n 2, 1) := dk_28 (dk_at dksX4_cards_11 3 rfl rfl)
theorem dX4_cards_263 : decode cX4_cards 263 = .ok (.iaload, 1) := dk_46 (dk_at dksX4_cards_11 4 rfl rfl)
theorem dX4_cards_264 : decode cX4_cards 264 = .ok (.iastore, 1) := dk_79 (dk_at dksX4_cards_11 5 rfl rfl)
theorem dX4_cards_265 : decode cX4_cards 265 = .ok (.aload_n 0, 1) := dk_42 (dk_at dksX4_cards_11 6 rfl rfl)
theorem dX4_cards_266 : decode cX4_cards 266 = .ok (.getfield 92, 3) := dk_180 0 92 (dk_at dksX4_cards_11 7 rfl rfl)
theorem dX4_cards_269 : decode cX4_cards 269 = .ok (.iload_n 2, 1) := dk_28 (dk_at dksX4_cards_11 10 rfl rfl)
theorem dX4_cards_270 : decode cX4_cards 270 = .ok (.aload_n 0, 1) := dk_42 (dk_at dksX4_cards_11 11 rfl rfl)
theorem dX4_cards_271 : decode cX4_cards 271 = .ok (.getfield 110, 3) := dk_180 0 110 (dk_at dksX4_cards_11 12 rfl rfl)
theorem dX4_cards_274 : decode cX4_cards 274 = .ok (.iload_n 2, 1) := dk_28 (dk_at dksX4_cards_11 15 rfl rfl)
theorem dX4_cards_275 : decode cX4_cards 275 = .ok (.iaload, 1) := dk_46 (dk_at dksX4_cards_11 16 rfl rfl)
theorem dX4_cards_276 : decode cX4_cards 276 = .ok (.iastore, 1) := dk_79 (dk_at dksX4_cards_11 17 rfl rfl)
theorem dX4_cards_277 : decode cX4_cards 277 = .ok (.aload_n 0, 1) := dk_42 (dk_at dksX4_cards_11 18 rfl rfl)
theorem dX4_cards_278 : decode cX4_cards 278 = .ok (.getfield 95, 3) := dk_180 0 95 (dk_at dksX4_cards_11 19 rfl rfl)
theorem dX4_cards_281 : decode cX4_cards 281 = .ok (.iload_n 2, 1) := dk_28 (dk_at dksX4_cards_11 22 rfl rfl)
theorem dX4_cards_282 : decode cX4_cards 282 = .ok (.aload_n 0, 1) := dk_42 (dk_at dksX4_cards_11 23 rfl rfl)
theorem dX4_cards_283 : decode cX4_cards 283 = .ok (.getfield 113, 3) := dk_180 0 113 (dk_at dksX4_cards_12 0 rfl rfl)
theorem dX4_cards_286 : decode cX4_cards 286 = .ok (.iload_n 2, 1) := dk_28 (dk_at dksX4_cards_12 3 rfl rfl)
theorem dX4_cards_287 : decode cX4_cards 287 = .ok (.iaload, 1) := dk_46 (dk_at dksX4_cards_12 4 rfl rfl)
theorem dX4_cards_288 : decode cX4_cards 288 = .ok (.iastore, 1) := dk_79 (dk_at dksX4_cards_12 5 rfl rfl)
theorem dX4_cards_289 : decode cX4_cards 289 = .ok (.aload_n 0, 1) := dk_42 (dk_at dksX4_cards_12 6 rfl rfl)
theorem dX4_cards_290 : decode cX4_cards 290 = .ok (.getfield 98, 3) := dk_180 0 98 (dk_at dksX4_cards_12 7 rfl rfl)
theorem dX4_cards_293 : decode cX4_cards 293 = .ok (.iload_n 2, 1) := dk_28 (dk_at dksX4_cards_12 10 rfl rfl)
theorem dX4_cards_294 : decode cX4_cards 294 = .ok (.aload_n 0, 1) := dk_42 (dk_at dksX4_cards_12 11 rfl rfl)
theorem dX4_cards_295 : decode cX4_cards 295 = .ok (.getfield 116, 3) := dk_180 0 116 (dk_at dksX4_cards_12 12 rfl rfl)
theorem dX4_cards_298 : decode cX4_cards 298 = .ok (.iload_n 2, 1) := dk_28 (dk_at dksX4_cards_12 15 rfl rfl)
theorem dX4_cards_299 : decode cX4_cards 299 = .ok (.iaload, 1) := dk_46 (dk_at dksX4_cards_12 16 rfl rfl)
theorem dX4_cards_300 : decode cX4_cards 300 = .ok (.iastore, 1) := dk_79 (dk_at dksX4_cards_12 17 rfl rfl)
theorem dX4_cards_301 : decode cX4_cards 301 = .ok (.aload_n 0, 1) := dk_42 (dk_at dksX4_cards_12 18 rfl rfl)
theorem dX4_cards_302 : decode cX4_cards 302 = .ok (.getfield 122, 3) := dk_180 0 122 (dk_at dksX4_cards_12 19 rfl rfl)
theorem dX4_cards_305 : decode cX4_cards 305 = .ok (.iload_n 2, 1) := dk_28 (dk_at dksX4_cards_12 22 rfl rfl)
theorem dX4_cards_306 : decode cX4_cards 306 = .ok (.aload_n 0, 1) := dk_42 (dk_at dksX4_cards_12 23 rfl rfl)
theorem dX4_cards_307 : decode cX4_cards 307 = .ok (.getfield 125, 3) := dk_180 0 125 (dk_at dksX4_cards_13 0 rfl rfl)
theorem dX4_cards_310 : decode cX4_cards 310 = .ok (.iload_n 2, 1) := dk_28 (dk_at dksX4_cards_13 3 rfl rfl)
theorem dX4_cards_311 : decode cX4_cards 311 = .ok (.laload, 1) := dk_47 (dk_at dksX4_cards_13 4 rfl rfl)
theorem dX4_cards_312 : decode cX4_cards 312 = .ok (.lastore, 1) := dk_80 (dk_at dksX4_cards_13 5 rfl rfl)
theorem dX4_cards_313 : decode cX4_cards 313 = .ok (.iinc 2 1, 3) := dk_132 2 1 (dk_at dksX4_cards_13 6 rfl rfl)
theorem dX4_cards_316 : decode cX4_cards 316 = .ok (.goto (-95), 3) := dk_167 255 161 (dk_at dksX4_cards_13 9 rfl rfl)
theorem dX4_cards_319 : decode cX4_cards 319 = .ok (.aload_n 0, 1) := dk_42 (dk_at dksX4_cards_13 12 rfl rfl)
theorem dX4_cards_320 : decode cX4_cards 320 = .ok (.getfield 80, 3) := dk_180 0 80 (dk_at dksX4_cards_13 13 rfl rfl)
theorem dX4_cards_323 : decode cX4_cards 323 = .ok (.ireturn, 1) := dk_172 (dk_at dksX4_cards_13 16 rfl rfl)
abbrev cX4_next : ByteArray := prog_9_method_46_code
def yX4_next : MethodName := ⟨RX4, "next", "()V"⟩
def dkwX4_next_14 : List UInt8 := [16, 45, 160, 0, 7, 6, 167, 0, 4, 7, 181, 1, 119, 177]
abbrev dktX4_next_14 : List UInt8 := dkwX4_next_14 ++ []
def dkwX4_next_13 : List UInt8 := [42, 42, 180, 1, 113, 4, 96, 181, 1, 110, 42, 27, 133, 181, 1, 139, 42, 27, 16, 59, 159, 0, 9, 27]
abbrev dktX4_next_13 : List UInt8 := dkwX4_next_13 ++ dktX4_next_14
def dkwX4_next_12 : List UInt8 := [180, 1, 110, 42, 180, 1, 113, 100, 16, 12, 164, 0, 7, 7, 167, 0, 4, 5, 181, 1, 119, 167, 0, 40]
abbrev dktX4_next_12 : List UInt8 := dkwX4_next_12 ++ dktX4_next_13
def dkwX4_next_11 : List UInt8 := [20, 1, 142, 101, 181, 1, 139, 42, 89, 180, 1, 110, 4, 96, 181, 1, 110, 167, 255, 192, 42, 42]
abbrev dktX4_next_11 : List UInt8 := dkwX4_next_11 ++ dktX4_next_12
def dkwX4_next_10 : List UInt8 := [162, 0, 29, 42, 20, 1, 79, 42, 180, 1, 139, 105, 42, 42, 180, 1, 110, 182, 1, 116, 133, 97]
abbrev dktX4_next_10 : List UInt8 := dkwX4_next_10 ++ dktX4_next_11
def dkwX4_next_9 : List UInt8 := [42, 180, 1, 110, 182, 1, 116, 184, 1, 136, 153, 0, 56, 42, 180, 1, 110, 42, 180, 1, 113, 100, 16, 12]
abbrev dktX4_next_9 : List UInt8 := dkwX4_next_9 ++ dktX4_next_10
def dkwX4_next_8 : List UInt8 := [42, 180, 1, 113, 100, 181, 1, 133, 167, 0, 145, 27, 184, 1, 136, 153, 0, 101, 42, 9, 181, 1, 139, 42]
abbrev dktX4_next_8 : List UInt8 := dkwX4_next_8 ++ dktX4_next_9
def dkwX4_next_7 : List UInt8 := [20, 0, 234, 181, 1, 125, 42, 89, 180, 1, 110, 4, 96, 181, 1, 110, 167, 255, 186, 42, 42, 180, 1, 110]
abbrev dktX4_next_7 : List UInt8 := dkwX4_next_7 ++ dktX4_next_8
def dkwX4_next_6 : List UInt8 := [180, 1, 125, 20, 1, 129, 105, 42, 42, 180, 1, 110, 182, 1, 116, 133, 97, 20, 1, 131, 101, 167, 0, 6]
abbrev dktX4_next_6 : List UInt8 := dkwX4_next_6 ++ dktX4_next_7
def dkwX4_next_5 : List UInt8 := [184, 1, 122, 153, 0, 62, 42, 42, 180, 1, 110, 42, 180, 1, 113, 100, 16, 12, 162, 0, 28, 42]
abbrev dktX4_next_5 : List UInt8 := dkwX4_next_5 ++ dktX4_next_6
def dkwX4_next_4 : List UInt8 := [184, 1, 122, 153, 0, 102, 42, 4, 181, 1, 119, 42, 9, 181, 1, 125, 42, 42, 180, 1, 110, 182, 1, 116]
abbrev dktX4_next_4 : List UInt8 := dkwX4_next_4 ++ dktX4_next_5
def dkwX4_next_3 : List UInt8 := [180, 1, 107, 161, 0, 9, 42, 3, 181, 1, 119, 177, 42, 42, 180, 1, 113, 182, 1, 116, 60, 27]
abbrev dktX4_next_3 : List UInt8 := dkwX4_next_3 ++ dktX4_next_4
def dkwX4_next_2 : List UInt8 := [180, 1, 113, 4, 96, 181, 1, 113, 167, 255, 209, 42, 42, 180, 1, 113, 181, 1, 110, 42, 180, 1, 113, 42]
abbrev dktX4_next_2 : List UInt8 := dkwX4_next_2 ++ dktX4_next_3
def dkwX4_next_1 : List UInt8 := [182, 1, 116, 16, 10, 159, 0, 16, 42, 42, 180, 1, 113, 182, 1, 116, 16, 32, 160, 0, 16, 42, 89]
abbrev dktX4_next_1 : List UInt8 := dkwX4_next_1 ++ dktX4_next_2
def dkwX4_next_0 : List UInt8 := [42, 42, 180, 1, 110, 181, 1, 113, 42, 180, 1, 113, 42, 180, 1, 107, 162, 0, 42, 42, 42, 180, 1, 113]
abbrev dktX4_next_0 : List UInt8 := dkwX4_next_0 ++ dktX4_next_1
theorem dksX4_next_0 : cX4_next.data.toList.drop 0 = dktX4_next_0 := by decide +kernel
theorem dksX4_next_1 : cX4_next.data.toList.drop 24 = dktX4_next_1 := dk_seg dksX4_next_0 24 rfl rfl
theorem dksX4_next_2 : cX4_next.data.toList.drop 47 = dktX4_next_2 := dk_seg dksX4_next_1 23 rfl rfl
theorem dksX4_next_3 : cX4_next.data.toList.drop 71 = dktX4_next_3 := dk_seg dksX4_next_2 24 rfl rfl
theorem dksX4_next_4 : cX4_next.data.toList.drop 93 = dktX4_next_4 := dk_seg dksX4_next_3 22 rfl rfl
theorem dksX4_next_5 : cX4_next.data.toList.drop 117 = dktX4_next_5 := dk_seg dksX4_next_4 24 rfl rfl
theorem dksX4_next_6 : cX4_next.data.toList.drop 139 = dktX4_next_6 := dk_seg dksX4_next_5 22 rfl rfl
theorem dksX4_next_7 : cX4_next.data.toList.drop 163 = dktX4_next_7 := dk_seg dksX4_next_6 24 rfl rfl
theorem dksX4_next_8 : cX4_next.data.toList.drop 187 = dktX4_next_8 := dk_seg dksX4_next_7 24 rfl rfl
theorem dksX4_next_9 : cX4_next.data.toList.drop 211 = dktX4_next_9 := dk_seg dksX4_next_8 24 rfl rfl
theorem dksX4_next_10 : cX4_next.data.toList.drop 235 = dktX4_next_10 := dk_seg dksX4_next_9 24 rfl rfl
theorem dksX4_next_11 : cX4_next.data.toList.drop 257 = dktX4_next_11 := dk_seg dksX4_next_10 22 rfl rfl
theorem dksX4_next_12 : cX4_next.data.toList.drop 279 = dktX4_next_12 := dk_seg dksX4_next_11 22 rfl rfl
theorem dksX4_next_13 : cX4_next.data.toList.drop 303 = dktX4_next_13 := dk_seg dksX4_next_12 24 rfl rfl
theorem dksX4_next_14 : cX4_next.data.toList.drop 327 = dktX4_next_14 := dk_seg dksX4_next_13 24 rfl rfl
theorem dX4_next_0 : decode cX4_next 0 = .ok (.aload_n 0, 1) := dk_42 (dk_at dksX4_next_0 0 rfl rfl)
theorem dX4_next_1 : decode cX4_next 1 = .ok (.aload_n 0, 1) := dk_42 (dk_at dksX4_next_0 1 rfl rfl)
theorem dX4_next_2 : decode cX4_next 2 = .ok (.getfield 366, 3) := dk_180 1 110 (dk_at dksX4_next_0 2 rfl rfl)
theorem dX4_next_5 : decode cX4_next 5 = .ok (.putfield 369, 3) := dk_181 1 113 (dk_at dksX4_next_0 5 rfl rfl)
theorem dX4_next_8 : decode cX4_next 8 = .ok (.aload_n 0, 1) := dk_42 (dk_at dksX4_next_0 8 rfl rfl)
theorem dX4_next_9 : decode cX4_next 9 = .ok (.getfield 369, 3) := dk_180 1 113 (dk_at dksX4_next_0 9 rfl rfl)
theorem dX4_next_12 : decode cX4_next 12 = .ok (.aload_n 0, 1) := dk_42 (dk_at dksX4_next_0 12 rfl rfl)
theorem dX4_next_13 : decode cX4_next 13 = .ok (.getfield 363, 3) := dk_180 1 107 (dk_at dksX4_next_0 13 rfl rfl)
theorem dX4_next_16 : decode cX4_next 16 = .ok (.if_icmp .ge 42, 3) := dk_162 0 42 (dk_at dksX4_next_0 16 rfl rfl)
theorem dX4_next_19 : decode cX4_next 19 = .ok (.aload_n 0, 1) := dk_42 (dk_at dksX4_next_0 19 rfl rfl)
theorem dX4_next_20 : decode cX4_next 20 = .ok (.aload_n 0, 1) := dk_42 (dk_at dksX4_next_0 20 rfl rfl)
theorem dX4_next_21 : decode cX4_next 21 = .ok (.getfield 369, 3) := dk_180 1 113 (dk_at dksX4_next_0 21 rfl rfl)
theorem dX4_next_24 : decode cX4_next 24 = .ok (.invokevirtual 372, 3) := dk_182 1 116 (dk_at dksX4_next_1 0 rfl rfl)
theorem dX4_next_27 : decode cX4_next 27 = .ok (.bipush 10, 2) := dk_16 10 (dk_at dksX4_next_1 3 rfl rfl)
theorem dX4_next_29 : decode cX4_next 29 = .ok (.if_icmp .eq 16, 3) := dk_159 0 16 (dk_at dksX4_next_1 5 rfl rfl)
theorem dX4_next_32 : decode cX4_next 32 = .ok (.aload_n 0, 1) := dk_42 (dk_at dksX4_next_1 8 rfl rfl)
theorem dX4_next_33 : decode cX4_next 33 = .ok (.aload_n 0, 1) := dk_42 (dk_at dksX4_next_1 9 rfl rfl)
theorem dX4_next_34 : decode cX4_next 34 = .ok (.getfield 369, 3) := dk_180 1 113 (dk_at dksX4_next_1 10 rfl rfl)
theorem dX4_next_37 : decode cX4_next 37 = .ok (.invokevirtual 372, 3) := dk_182 1 116 (dk_at dksX4_next_1 13 rfl rfl)
theorem dX4_next_40 : decode cX4_next 40 = .ok (.bipush 32, 2) := dk_16 32 (dk_at dksX4_next_1 16 rfl rfl)
theorem dX4_next_42 : decode cX4_next 42 = .ok (.if_icmp .ne 16, 3) := dk_160 0 16 (dk_at dksX4_next_1 18 rfl rfl)
theorem dX4_next_45 : decode cX4_next 45 = .ok (.aload_n 0, 1) := dk_42 (dk_at dksX4_next_1 21 rfl rfl)
theorem dX4_next_46 : decode cX4_next 46 = .ok (.dup, 1) := dk_89 (dk_at dksX4_next_1 22 rfl rfl)
theorem dX4_next_47 : decode cX4_next 47 = .ok (.getfield 369, 3) := dk_180 1 113 (dk_at dksX4_next_2 0 rfl rfl)
theorem dX4_next_50 : decode cX4_next 50 = .ok (.iconst 1, 1) := dk_4 (dk_at dksX4_next_2 3 rfl rfl)
theorem dX4_next_51 : decode cX4_next 51 = .ok (.iadd, 1) := dk_96 (dk_at dksX4_next_2 4 rfl rfl)
theorem dX4_next_52 : decode cX4_next 52 = .ok (.putfield 369, 3) := dk_181 1 113 (dk_at dksX4_next_2 5 rfl rfl)
theorem dX4_next_55 : decode cX4_next 55 = .ok (.goto (-47), 3) := dk_167 255 209 (dk_at dksX4_next_2 8 rfl rfl)
theorem dX4_next_58 : decode cX4_next 58 = .ok (.aload_n 0, 1) := dk_42 (dk_at dksX4_next_2 11 rfl rfl)
theorem dX4_next_59 : decode cX4_next 59 = .ok (.aload_n 0, 1) := dk_42 (dk_at dksX4_next_2 12 rfl rfl)
theorem dX4_next_60 : decode cX4_next 60 = .ok (.getfield 369, 3) := dk_180 1 113 (dk_at dksX4_next_2 13 rfl rfl)
theorem dX4_next_63 : decode cX4_next 63 = .ok (.putfield 366, 3) := dk_181 1 110 (dk_at dksX4_next_2 16 rfl rfl)
theorem dX4_next_66 : decode cX4_next 66 = .ok (.aload_n 0, 1) := dk_42 (dk_at dksX4_next_2 19 rfl rfl)
theorem dX4_next_67 : decode cX4_next 67 = .ok (.getfield 369, 3) := dk_180 1 113 (dk_at dksX4_next_2 20 rfl rfl)
theorem dX4_next_70 : decode cX4_next 70 = .ok (.aload_n 0, 1) := dk_42 (dk_at dksX4_next_2 23 rfl rfl)
theorem dX4_next_71 : decode cX4_next 71 = .ok (.getfield 363, 3) := dk_180 1 107 (dk_at dksX4_next_3 0 rfl rfl)
theorem dX4_next_74 : decode cX4_next 74 = .ok (.if_icmp .lt 9, 3) := dk_161 0 9 (dk_at dksX4_next_3 3 rfl rfl)
theorem dX4_next_77 : decode cX4_next 77 = .ok (.aload_n 0, 1) := dk_42 (dk_at dksX4_next_3 6 rfl rfl)
theorem dX4_next_78 : decode cX4_next 78 = .ok (.iconst 0, 1) := dk_3 (dk_at dksX4_next_3 7 rfl rfl)
theorem dX4_next_79 : decode cX4_next 79 = .ok (.putfield 375, 3) := dk_181 1 119 (dk_at dksX4_next_3 8 rfl rfl)
theorem dX4_next_82 : decode cX4_next 82 = .ok (.return_, 1) := dk_177 (dk_at dksX4_next_3 11 rfl rfl)
theorem dX4_next_83 : decode cX4_next 83 = .ok (.aload_n 0, 1) := dk_42 (dk_at dksX4_next_3 12 rfl rfl)
theorem dX4_next_84 : decode cX4_next 84 = .ok (.aload_n 0, 1) := dk_42 (dk_at dksX4_next_3 13 rfl rfl)
theorem dX4_next_85 : decode cX4_next 85 = .ok (.getfield 369, 3) := dk_180 1 113 (dk_at dksX4_next_3 14 rfl rfl)
theorem dX4_next_88 : decode cX4_next 88 = .ok (.invokevirtual 372, 3) := dk_182 1 116 (dk_at dksX4_next_3 17 rfl rfl)
theorem dX4_next_91 : decode cX4_next 91 = .ok (.istore_n 1, 1) := dk_60 (dk_at dksX4_next_3 20 rfl rfl)
theorem dX4_next_92 : decode cX4_next 92 = .ok (.iload_n 1, 1) := dk_27 (dk_at dksX4_next_3 21 rfl rfl)
theorem dX4_next_93 : decode cX4_next 93 = .ok (.invokestatic 378, 3) := dk_184 1 122 (dk_at dksX4_next_4 0 rfl rfl)
theorem dX4_next_96 : decode cX4_next 96 = .ok (.ifCond .eq 102, 3) := dk_153 0 102 (dk_at dksX4_next_4 3 rfl rfl)
theorem dX4_next_99 : decode cX4_next 99 = .ok (.aload_n 0, 1) := dk_42 (dk_at dksX4_next_4 6 rfl rfl)
theorem dX4_next_100 : decode cX4_next 100 = .ok (.iconst 1, 1) := dk_4 (dk_at dksX4_next_4 7 rfl rfl)
theorem dX4_next_101 : decode cX4_next 101 = .ok (.putfield 375, 3) := dk_181 1 119 (dk_at dksX4_next_4 8 rfl rfl)
theorem dX4_next_104 : decode cX4_next 104 = .ok (.aload_n 0, 1) := dk_42 (dk_at dksX4_next_4 11 rfl rfl)
theorem dX4_next_105 : decode cX4_next 105 = .ok (.lconst 0, 1) := dk_9 (dk_at dksX4_next_4 12 rfl rfl)
theorem dX4_next_106 : decode cX4_next 106 = .ok (.putfield 381, 3) := dk_181 1 125 (dk_at dksX4_next_4 13 rfl rfl)
theorem dX4_next_109 : decode cX4_next 109 = .ok (.aload_n 0, 1) := dk_42 (dk_at dksX4_next_4 16 rfl rfl)
theorem dX4_next_110 : decode cX4_next 110 = .ok (.aload_n 0, 1) := dk_42 (dk_at dksX4_next_4 17 rfl rfl)
theorem dX4_next_111 : decode cX4_next 111 = .ok (.getfield 366, 3) := dk_180 1 110 (dk_at dksX4_next_4 18 rfl rfl)
theorem dX4_next_114 : decode cX4_next 114 = .ok (.invokevirtual 372, 3) := dk_182 1 116 (dk_at dksX4_next_4 21 rfl rfl)
theorem dX4_next_117 : decode cX4_next 117 = .ok (.invokestatic 378, 3) := dk_184 1 122 (dk_at dksX4_next_5 0 rfl rfl)
theorem dX4_next_120 : decode cX4_next 120 = .ok (.ifCond .eq 62, 3) := dk_153 0 62 (dk_at dksX4_next_5 3 rfl rfl)
theorem dX4_next_123 : decode cX4_next 123 = .ok (.aload_n 0, 1) := dk_42 (dk_at dksX4_next_5 6 rfl rfl)
theorem dX4_next_124 : decode cX4_next 124 = .ok (.aload_n 0, 1) := dk_42 (dk_at dksX4_next_5 7 rfl rfl)
theorem dX4_next_125 : decode cX4_next 125 = .ok (.getfield 366, 3) := dk_180 1 110 (dk_at dksX4_next_5 8 rfl rfl)
theorem dX4_next_128 : decode cX4_next 128 = .ok (.aload_n 0, 1) := dk_42 (dk_at dksX4_next_5 11 rfl rfl)
theorem dX4_next_129 : decode cX4_next 129 = .ok (.getfield 369, 3) := dk_180 1 113 (dk_at dksX4_next_5 12 rfl rfl)
theorem dX4_next_132 : decode cX4_next 132 = .ok (.isub, 1) := dk_100 (dk_at dksX4_next_5 15 rfl rfl)
theorem dX4_next_133 : decode cX4_next 133 = .ok (.bipush 12, 2) := dk_16 12 (dk_at dksX4_next_5 16 rfl rfl)
theorem dX4_next_135 : decode cX4_next 135 = .ok (.if_icmp .ge 28, 3) := dk_162 0 28 (dk_at dksX4_next_5 18 rfl rfl)
theorem dX4_next_138 : decode cX4_next 138 = .ok (.aload_n 0, 1) := dk_42 (dk_at dksX4_next_5 21 rfl rfl)
theorem dX4_next_139 : decode cX4_next 139 = .ok (.getfield 381, 3) := dk_180 1 125 (dk_at dksX4_next_6 0 rfl rfl)
theorem dX4_next_142 : decode cX4_next 142 = .ok (.ldc2_w 385, 3) := dk_20 1 129 (dk_at dksX4_next_6 3 rfl rfl)
theorem dX4_next_145 : decode cX4_next 145 = .ok (.lmul, 1) := dk_105 (dk_at dksX4_next_6 6 rfl rfl)
theorem dX4_next_146 : decode cX4_next 146 = .ok (.aload_n 0, 1) := dk_42 (dk_at dksX4_next_6 7 rfl rfl)
theorem dX4_next_147 : decode cX4_next 147 = .ok (.aload_n 0, 1) := dk_42 (dk_at dksX4_next_6 8 rfl rfl)
theorem dX4_next_148 : decode cX4_next 148 = .ok (.getfield 366, 3) := dk_180 1 110 (dk_at dksX4_next_6 9 rfl rfl)
theorem dX4_next_151 : decode cX4_next 151 = .ok (.invokevirtual 372, 3) := dk_182 1 116 (dk_at dksX4_next_6 12 rfl rfl)
theorem dX4_next_154 : decode cX4_next 154 = .ok (.i2l, 1) := dk_133 (dk_at dksX4_next_6 15 rfl rfl)
theorem dX4_next_155 : decode cX4_next 155 = .ok (.ladd, 1) := dk_97 (dk_at dksX4_next_6 16 rfl rfl)
theorem dX4_next_156 : decode cX4_next 156 = .ok (.ldc2_w 387, 3) := dk_20 1 131 (dk_at dksX4_next_6 17 rfl rfl)
theorem dX4_next_159 : decode cX4_next 159 = .ok (.lsub, 1) := dk_101 (dk_at dksX4_next_6 20 rfl rfl)
theorem dX4_next_160 : decode cX4_next 160 = .ok (.goto 6, 3) := dk_167 0 6 (dk_at dksX4_next_6 21 rfl rfl)
theorem dX4_next_163 : decode cX4_next 163 = .ok (.ldc2_w 234, 3) := dk_20 0 234 (dk_at dksX4_next_7 0 rfl rfl)
theorem dX4_next_166 : decode cX4_next 166 = .ok (.putfield 381, 3) := dk_181 1 125 (dk_at dksX4_next_7 3 rfl rfl)
theorem dX4_next_169 : decode cX4_next 169 = .ok (.aload_n 0, 1) := dk_42 (dk_at dksX4_next_7 6 rfl rfl)
theorem dX4_next_170 : decode cX4_next 170 = .ok (.dup, 1) := dk_89 (dk_at dksX4_next_7 7 rfl rfl)
theorem dX4_next_171 : decode cX4_next 171 = .ok (.getfield 366, 3) := dk_180 1 110 (dk_at dksX4_next_7 8 rfl rfl)
theorem dX4_next_174 : decode cX4_next 174 = .ok (.iconst 1, 1) := dk_4 (dk_at dksX4_next_7 11 rfl rfl)
theorem dX4_next_175 : decode cX4_next 175 = .ok (.iadd, 1) := dk_96 (dk_at dksX4_next_7 12 rfl rfl)
theorem dX4_next_176 : decode cX4_next 176 = .ok (.putfield 366, 3) := dk_181 1 110 (dk_at dksX4_next_7 13 rfl rfl)
theorem dX4_next_179 : decode cX4_next 179 = .ok (.goto (-70), 3) := dk_167 255 186 (dk_at dksX4_next_7 16 rfl rfl)
theorem dX4_next_182 : decode cX4_next 182 = .ok (.aload_n 0, 1) := dk_42 (dk_at dksX4_next_7 19 rfl rfl)
theorem dX4_next_183 : decode cX4_next 183 = .ok (.aload_n 0, 1) := dk_42 (dk_at dksX4_next_7 20 rfl rfl)
theorem dX4_next_184 : decode cX4_next 184 = .ok (.getfield 366, 3) := dk_180 1 110 (dk_at dksX4_next_7 21 rfl rfl)
theorem dX4_next_187 : decode cX4_next 187 = .ok (.aload_n 0, 1) := dk_42 (dk_at dksX4_next_8 0 rfl rfl)
theorem dX4_next_188 : decode cX4_next 188 = .ok (.getfield 369, 3) := dk_180 1 113 (dk_at dksX4_next_8 1 rfl rfl)
theorem dX4_next_191 : decode cX4_next 191 = .ok (.isub, 1) := dk_100 (dk_at dksX4_next_8 4 rfl rfl)
theorem dX4_next_192 : decode cX4_next 192 = .ok (.putfield 389, 3) := dk_181 1 133 (dk_at dksX4_next_8 5 rfl rfl)
theorem dX4_next_195 : decode cX4_next 195 = .ok (.goto 145, 3) := dk_167 0 145 (dk_at dksX4_next_8 8 rfl rfl)
theorem dX4_next_198 : decode cX4_next 198 = .ok (.iload_n 1, 1) := dk_27 (dk_at dksX4_next_8 11 rfl rfl)
theorem dX4_next_199 : decode cX4_next 199 = .ok (.invokestatic 392, 3) := dk_184 1 136 (dk_at dksX4_next_8 12 rfl rfl)
theorem dX4_next_202 : decode cX4_next 202 = .ok (.ifCond .eq 101, 3) := dk_153 0 101 (dk_at dksX4_next_8 15 rfl rfl)
theorem dX4_next_205 : decode cX4_next 205 = .ok (.aload_n 0, 1) := dk_42 (dk_at dksX4_next_8 18 rfl rfl)
theorem dX4_next_206 : decode cX4_next 206 = .ok (.lconst 0, 1) := dk_9 (dk_at dksX4_next_8 19 rfl rfl)
theorem dX4_next_207 : decode cX4_next 207 = .ok (.putfield 395, 3) := dk_181 1 139 (dk_at dksX4_next_8 20 rfl rfl)
theorem dX4_next_210 : decode cX4_next 210 = .ok (.aload_n 0, 1) := dk_42 (dk_at dksX4_next_8 23 rfl rfl)
theorem dX4_next_211 : decode cX4_next 211 = .ok (.aload_n 0, 1) := dk_42 (dk_at dksX4_next_9 0 rfl rfl)
theorem dX4_next_212 : decode cX4_next 212 = .ok (.getfield 366, 3) := dk_180 1 110 (dk_at dksX4_next_9 1 rfl rfl)
theorem dX4_next_215 : decode cX4_next 215 = .ok (.invokevirtual 372, 3) := dk_182 1 116 (dk_at dksX4_next_9 4 rfl rfl)
theorem dX4_next_218 : decode cX4_next 218 = .ok (.invokestatic 392, 3) := dk_184 1 136 (dk_at dksX4_next_9 7 rfl rfl)
theorem dX4_next_221 : decode cX4_next 221 = .ok (.ifCond .eq 56, 3) := dk_153 0 56 (dk_at dksX4_next_9 10 rfl rfl)
theorem dX4_next_224 : decode cX4_next 224 = .ok (.aload_n 0, 1) := dk_42 (dk_at dksX4_next_9 13 rfl rfl)
theorem dX4_next_225 : decode cX4_next 225 = .ok (.getfield 366, 3) := dk_180 1 110 (dk_at dksX4_next_9 14 rfl rfl)
theorem dX4_next_228 : decode cX4_next 228 = .ok (.aload_n 0, 1) := dk_42 (dk_at dksX4_next_9 17 rfl rfl)
theorem dX4_next_229 : decode cX4_next 229 = .ok (.getfield 369, 3) := dk_180 1 113 (dk_at dksX4_next_9 18 rfl rfl)
theorem dX4_next_232 : decode cX4_next 232 = .ok (.isub, 1) := dk_100 (dk_at dksX4_next_9 21 rfl rfl)
theorem dX4_next_233 : decode cX4_next 233 = .ok (.bipush 12, 2) := dk_16 12 (dk_at dksX4_next_9 22 rfl rfl)
theorem dX4_next_235 : decode cX4_next 235 = .ok (.if_icmp .ge 29, 3) := dk_162 0 29 (dk_at dksX4_next_10 0 rfl rfl)
theorem dX4_next_238 : decode cX4_next 238 = .ok (.aload_n 0, 1) := dk_42 (dk_at dksX4_next_10 3 rfl rfl)
theorem dX4_next_239 : decode cX4_next 239 = .ok (.ldc2_w 335, 3) := dk_20 1 79 (dk_at dksX4_next_10 4 rfl rfl)
theorem dX4_next_242 : decode cX4_next 242 = .ok (.aload_n 0, 1) := dk_42 (dk_at dksX4_next_10 7 rfl rfl)
theorem dX4_next_243 : decode cX4_next 243 = .ok (.getfield 395, 3) := dk_180 1 139 (dk_at dksX4_next_10 8 rfl rfl)
theorem dX4_next_246 : decode cX4_next 246 = .ok (.lmul, 1) := dk_105 (dk_at dksX4_next_10 11 rfl rfl)
theorem dX4_next_247 : decode cX4_next 247 = .ok (.aload_n 0, 1) := dk_42 (dk_at dksX4_next_10 12 rfl rfl)
theorem dX4_next_248 : decode cX4_next 248 = .ok (.aload_n 0, 1) := dk_42 (dk_at dksX4_next_10 13 rfl rfl)
theorem dX4_next_249 : decode cX4_next 249 = .ok (.getfield 366, 3) := dk_180 1 110 (dk_at dksX4_next_10 14 rfl rfl)
theorem dX4_next_252 : decode cX4_next 252 = .ok (.invokevirtual 372, 3) := dk_182 1 116 (dk_at dksX4_next_10 17 rfl rfl)
theorem dX4_next_255 : decode cX4_next 255 = .ok (.i2l, 1) := dk_133 (dk_at dksX4_next_10 20 rfl rfl)
theorem dX4_next_256 : decode cX4_next 256 = .ok (.ladd, 1) := dk_97 (dk_at dksX4_next_10 21 rfl rfl)
theorem dX4_next_257 : decode cX4_next 257 = .ok (.ldc2_w 398, 3) := dk_20 1 142 (dk_at dksX4_next_11 0 rfl rfl)
theorem dX4_next_260 : decode cX4_next 260 = .ok (.lsub, 1) := dk_101 (dk_at dksX4_next_11 3 rfl rfl)
theorem dX4_next_261 : decode cX4_next 261 = .ok (.putfield 395, 3) := dk_181 1 139 (dk_at dksX4_next_11 4 rfl rfl)
theorem dX4_next_264 : decode cX4_next 264 = .ok (.aload_n 0, 1) := dk_42 (dk_at dksX4_next_11 7 rfl rfl)
theorem dX4_next_265 : decode cX4_next 265 = .ok (.dup, 1) := dk_89 (dk_at dksX4_next_11 8 rfl rfl)
theorem dX4_next_266 : decode cX4_next 266 = .ok (.getfield 366, 3) := dk_180 1 110 (dk_at dksX4_next_11 9 rfl rfl)
theorem dX4_next_269 : decode cX4_next 269 = .ok (.iconst 1, 1) := dk_4 (dk_at dksX4_next_11 12 rfl rfl)
theorem dX4_next_270 : decode cX4_next 270 = .ok (.iadd, 1) := dk_96 (dk_at dksX4_next_11 13 rfl rfl)
theorem dX4_next_271 : decode cX4_next 271 = .ok (.putfield 366, 3) := dk_181 1 110 (dk_at dksX4_next_11 14 rfl rfl)
theorem dX4_next_274 : decode cX4_next 274 = .ok (.goto (-64), 3) := dk_167 255 192 (dk_at dksX4_next_11 17 rfl rfl)
theorem dX4_next_277 : decode cX4_next 277 = .ok (.aload_n 0, 1) := dk_42 (dk_at dksX4_next_11 20 rfl rfl)
theorem dX4_next_278 : decode cX4_next 278 = .ok (.aload_n 0, 1) := dk_42 (dk_at dksX4_next_11 21 rfl rfl)
theorem dX4_next_279 : decode cX4_next 279 = .ok (.getfield 366, 3) := dk_180 1 110 (dk_at dksX4_next_12 0 rfl rfl)
theorem dX4_next_282 : decode cX4_next 282 = .ok (.aload_n 0, 1) := dk_42 (dk_at dksX4_next_12 3 rfl rfl)
theorem dX4_next_283 : decode cX4_next 283 = .ok (.getfield 369, 3) := dk_180 1 113 (dk_at dksX4_next_12 4 rfl rfl)
theorem dX4_next_286 : decode cX4_next 286 = .ok (.isub, 1) := dk_100 (dk_at dksX4_next_12 7 rfl rfl)
theorem dX4_next_287 : decode cX4_next 287 = .ok (.bipush 12, 2) := dk_16 12 (dk_at dksX4_next_12 8 rfl rfl)
theorem dX4_next_289 : decode cX4_next 289 = .ok (.if_icmp .le 7, 3) := dk_164 0 7 (dk_at dksX4_next_12 10 rfl rfl)
theorem dX4_next_292 : decode cX4_next 292 = .ok (.iconst 4, 1) := dk_7 (dk_at dksX4_next_12 13 rfl rfl)
theorem dX4_next_293 : decode cX4_next 293 = .ok (.goto 4, 3) := dk_167 0 4 (dk_at dksX4_next_12 14 rfl rfl)
theorem dX4_next_296 : decode cX4_next 296 = .ok (.iconst 2, 1) := dk_5 (dk_at dksX4_next_12 17 rfl rfl)
theorem dX4_next_297 : decode cX4_next 297 = .ok (.putfield 375, 3) := dk_181 1 119 (dk_at dksX4_next_12 18 rfl rfl)
theorem dX4_next_300 : decode cX4_next 300 = .ok (.goto 40, 3) := dk_167 0 40 (dk_at dksX4_next_12 21 rfl rfl)
theorem dX4_next_303 : decode cX4_next 303 = .ok (.aload_n 0, 1) := dk_42 (dk_at dksX4_next_13 0 rfl rfl)
theorem dX4_next_304 : decode cX4_next 304 = .ok (.aload_n 0, 1) := dk_42 (dk_at dksX4_next_13 1 rfl rfl)
theorem dX4_next_305 : decode cX4_next 305 = .ok (.getfield 369, 3) := dk_180 1 113 (dk_at dksX4_next_13 2 rfl rfl)
theorem dX4_next_308 : decode cX4_next 308 = .ok (.iconst 1, 1) := dk_4 (dk_at dksX4_next_13 5 rfl rfl)
theorem dX4_next_309 : decode cX4_next 309 = .ok (.iadd, 1) := dk_96 (dk_at dksX4_next_13 6 rfl rfl)
theorem dX4_next_310 : decode cX4_next 310 = .ok (.putfield 366, 3) := dk_181 1 110 (dk_at dksX4_next_13 7 rfl rfl)
theorem dX4_next_313 : decode cX4_next 313 = .ok (.aload_n 0, 1) := dk_42 (dk_at dksX4_next_13 10 rfl rfl)
theorem dX4_next_314 : decode cX4_next 314 = .ok (.iload_n 1, 1) := dk_27 (dk_at dksX4_next_13 11 rfl rfl)
theorem dX4_next_315 : decode cX4_next 315 = .ok (.i2l, 1) := dk_133 (dk_at dksX4_next_13 12 rfl rfl)
theorem dX4_next_316 : decode cX4_next 316 = .ok (.putfield 395, 3) := dk_181 1 139 (dk_at dksX4_next_13 13 rfl rfl)
theorem dX4_next_319 : decode cX4_next 319 = .ok (.aload_n 0, 1) := dk_42 (dk_at dksX4_next_13 16 rfl rfl)
theorem dX4_next_320 : decode cX4_next 320 = .ok (.iload_n 1, 1) := dk_27 (dk_at dksX4_next_13 17 rfl rfl)
theorem dX4_next_321 : decode cX4_next 321 = .ok (.bipush 59, 2) := dk_16 59 (dk_at dksX4_next_13 18 rfl rfl)
theorem dX4_next_323 : decode cX4_next 323 = .ok (.if_icmp .eq 9, 3) := dk_159 0 9 (dk_at dksX4_next_13 20 rfl rfl)
theorem dX4_next_326 : decode cX4_next 326 = .ok (.iload_n 1, 1) := dk_27 (dk_at dksX4_next_13 23 rfl rfl)
theorem dX4_next_327 : decode cX4_next 327 = .ok (.bipush 45, 2) := dk_16 45 (dk_at dksX4_next_14 0 rfl rfl)
theorem dX4_next_329 : decode cX4_next 329 = .ok (.if_icmp .ne 7, 3) := dk_160 0 7 (dk_at dksX4_next_14 2 rfl rfl)
theorem dX4_next_332 : decode cX4_next 332 = .ok (.iconst 3, 1) := dk_6 (dk_at dksX4_next_14 5 rfl rfl)
theorem dX4_next_333 : decode cX4_next 333 = .ok (.goto 4, 3) := dk_167 0 4 (dk_at dksX4_next_14 6 rfl rfl)
theorem dX4_next_336 : decode cX4_next 336 = .ok (.iconst 4, 1) := dk_7 (dk_at dksX4_next_14 9 rfl rfl)
theorem dX4_next_337 : decode cX4_next 337 = .ok (.putfield 375, 3) := dk_181 1 119 (dk_at dksX4_next_14 10 rfl rfl)
theorem dX4_next_340 : decode cX4_next 340 = .ok (.return_, 1) := dk_177 (dk_at dksX4_next_14 13 rfl rfl)
abbrev cX4_look : ByteArray := prog_9_method_43_code
def yX4_look : MethodName := ⟨RX4, "look", "(I)I"⟩
def dkwX4_look_0 : List UInt8 := [27, 42, 180, 1, 107, 162, 0, 16, 42, 180, 0, 70, 27, 51, 17, 0, 255, 126, 167, 0, 4, 3, 172]
abbrev dktX4_look_0 : List UInt8 := dkwX4_look_0 ++ []
theorem dksX4_look_0 : cX4_look.data.toList.drop 0 = dktX4_look_0 := by decide +kernel
theorem dX4_look_0 : decode cX4_look 0 = .ok (.iload_n 1, 1) := dk_27 (dk_at dksX4_look_0 0 rfl rfl)
theorem dX4_look_1 : decode cX4_look 1 = .ok (.aload_n 0, 1) := dk_42 (dk_at dksX4_look_0 1 rfl rfl)
theorem dX4_look_2 : decode cX4_look 2 = .ok (.getfield 363, 3) := dk_180 1 107 (dk_at dksX4_look_0 2 rfl rfl)
theorem dX4_look_5 : decode cX4_look 5 = .ok (.if_icmp .ge 16, 3) := dk_162 0 16 (dk_at dksX4_look_0 5 rfl rfl)
theorem dX4_look_8 : decode cX4_look 8 = .ok (.aload_n 0, 1) := dk_42 (dk_at dksX4_look_0 8 rfl rfl)
theorem dX4_look_9 : decode cX4_look 9 = .ok (.getfield 70, 3) := dk_180 0 70 (dk_at dksX4_look_0 9 rfl rfl)
theorem dX4_look_12 : decode cX4_look 12 = .ok (.iload_n 1, 1) := dk_27 (dk_at dksX4_look_0 12 rfl rfl)
theorem dX4_look_13 : decode cX4_look 13 = .ok (.baload, 1) := dk_51 (dk_at dksX4_look_0 13 rfl rfl)
theorem dX4_look_14 : decode cX4_look 14 = .ok (.sipush 255, 3) := dk_17 0 255 (dk_at dksX4_look_0 14 rfl rfl)
theorem dX4_look_17 : decode cX4_look 17 = .ok (.iand, 1) := dk_126 (dk_at dksX4_look_0 17 rfl rfl)
theorem dX4_look_18 : decode cX4_look 18 = .ok (.goto 4, 3) := dk_167 0 4 (dk_at dksX4_look_0 18 rfl rfl)
theorem dX4_look_21 : decode cX4_look 21 = .ok (.iconst 0, 1) := dk_3 (dk_at dksX4_look_0 21 rfl rfl)
theorem dX4_look_22 : decode cX4_look 22 = .ok (.ireturn, 1) := dk_172 (dk_at dksX4_look_0 22 rfl rfl)
abbrev cX4_isLetter : ByteArray := prog_9_method_44_code
def yX4_isLetter : MethodName := ⟨RX4, "isLetter", "(I)Z"⟩
def dkwX4_isLetter_0 : List UInt8 := [26, 16, 97, 161, 0, 13, 26, 16, 122, 163, 0, 7, 4, 167, 0, 4, 3, 172]
abbrev dktX4_isLetter_0 : List UInt8 := dkwX4_isLetter_0 ++ []
theorem dksX4_isLetter_0 : cX4_isLetter.data.toList.drop 0 = dktX4_isLetter_0 := by decide +kernel
theorem dX4_isLetter_0 : decode cX4_isLetter 0 = .ok (.iload_n 0, 1) := dk_26 (dk_at dksX4_isLetter_0 0 rfl rfl)
theorem dX4_isLetter_1 : decode cX4_isLetter 1 = .ok (.bipush 97, 2) := dk_16 97 (dk_at dksX4_isLetter_0 1 rfl rfl)
theorem dX4_isLetter_3 : decode cX4_isLetter 3 = .ok (.if_icmp .lt 13, 3) := dk_161 0 13 (dk_at dksX4_isLetter_0 3 rfl rfl)
theorem dX4_isLetter_6 : decode cX4_isLetter 6 = .ok (.iload_n 0, 1) := dk_26 (dk_at dksX4_isLetter_0 6 rfl rfl)
theorem dX4_isLetter_7 : decode cX4_isLetter 7 = .ok (.bipush 122, 2) := dk_16 122 (dk_at dksX4_isLetter_0 7 rfl rfl)
theorem dX4_isLetter_9 : decode cX4_isLetter 9 = .ok (.if_icmp .gt 7, 3) := dk_163 0 7 (dk_at dksX4_isLetter_0 9 rfl rfl)
theorem dX4_isLetter_12 : decode cX4_isLetter 12 = .ok (.iconst 1, 1) := dk_4 (dk_at dksX4_isLetter_0 12 rfl rfl)
theorem dX4_isLetter_13 : decode cX4_isLetter 13 = .ok (.goto 4, 3) := dk_167 0 4 (dk_at dksX4_isLetter_0 13 rfl rfl)
theorem dX4_isLetter_16 : decode cX4_isLetter 16 = .ok (.iconst 0, 1) := dk_3 (dk_at dksX4_isLetter_0 16 rfl rfl)
theorem dX4_isLetter_17 : decode cX4_isLetter 17 = .ok (.ireturn, 1) := dk_172 (dk_at dksX4_isLetter_0 17 rfl rfl)
abbrev cX4_isDigit : ByteArray := prog_9_method_45_code
def yX4_isDigit : MethodName := ⟨RX4, "isDigit", "(I)Z"⟩
def dkwX4_isDigit_0 : List UInt8 := [26, 16, 48, 161, 0, 13, 26, 16, 57, 163, 0, 7, 4, 167, 0, 4, 3, 172]
abbrev dktX4_isDigit_0 : List UInt8 := dkwX4_isDigit_0 ++ []
theorem dksX4_isDigit_0 : cX4_isDigit.data.toList.drop 0 = dktX4_isDigit_0 := by decide +kernel
theorem dX4_isDigit_0 : decode cX4_isDigit 0 = .ok (.iload_n 0, 1) := dk_26 (dk_at dksX4_isDigit_0 0 rfl rfl)
theorem dX4_isDigit_1 : decode cX4_isDigit 1 = .ok (.bipush 48, 2) := dk_16 48 (dk_at dksX4_isDigit_0 1 rfl rfl)
theorem dX4_isDigit_3 : decode cX4_isDigit 3 = .ok (.if_icmp .lt 13, 3) := dk_161 0 13 (dk_at dksX4_isDigit_0 3 rfl rfl)
theorem dX4_isDigit_6 : decode cX4_isDigit 6 = .ok (.iload_n 0, 1) := dk_26 (dk_at dksX4_isDigit_0 6 rfl rfl)
theorem dX4_isDigit_7 : decode cX4_isDigit 7 = .ok (.bipush 57, 2) := dk_16 57 (dk_at dksX4_isDigit_0 7 rfl rfl)
theorem dX4_isDigit_9 : decode cX4_isDigit 9 = .ok (.if_icmp .gt 7, 3) := dk_163 0 7 (dk_at dksX4_isDigit_0 9 rfl rfl)
theorem dX4_isDigit_12 : decode cX4_isDigit 12 = .ok (.iconst 1, 1) := dk_4 (dk_at dksX4_isDigit_0 12 rfl rfl)
theorem dX4_isDigit_13 : decode cX4_isDigit 13 = .ok (.goto 4, 3) := dk_167 0 4 (dk_at dksX4_isDigit_0 13 rfl rfl)
theorem dX4_isDigit_16 : decode cX4_isDigit 16 = .ok (.iconst 0, 1) := dk_3 (dk_at dksX4_isDigit_0 16 rfl rfl)
theorem dX4_isDigit_17 : decode cX4_isDigit 17 = .ok (.ireturn, 1) := dk_172 (dk_at dksX4_isDigit_0 17 rfl rfl)
abbrev cX4_readCard : ByteArray := prog_9_method_54_code
def yX4_readCard : MethodName := ⟨RX4, "readCard", "()V"⟩
def dkwX4_readCard_9 : List UInt8 := [158, 0, 4, 177, 42, 182, 1, 156, 42, 89, 180, 1, 171, 4, 96, 181, 1, 171, 177]
abbrev dktX4_readCard_9 : List UInt8 := dkwX4_readCard_9 ++ []
def dkwX4_readCard_8 : List UInt8 := [42, 180, 1, 144, 154, 0, 16, 42, 16, 59, 182, 1, 183, 154, 0, 7, 42, 182, 1, 153, 42, 180, 1, 144]
abbrev dktX4_readCard_8 : List UInt8 := dkwX4_readCard_8 ++ dktX4_readCard_9
def dkwX4_readCard_7 : List UInt8 := [16, 19, 182, 1, 177, 79, 27, 7, 160, 0, 16, 42, 180, 0, 113, 28, 42, 3, 16, 19, 182, 1, 177, 79]
abbrev dktX4_readCard_7 : List UInt8 := dkwX4_readCard_7 ++ dktX4_readCard_8
def dkwX4_readCard_6 : List UInt8 := [182, 1, 177, 79, 27, 133, 10, 20, 1, 84, 184, 0, 239, 153, 0, 16, 42, 180, 0, 110, 28, 42, 3]
abbrev dktX4_readCard_6 : List UInt8 := dkwX4_readCard_6 ++ dktX4_readCard_7
def dkwX4_readCard_5 : List UInt8 := [182, 1, 180, 27, 133, 10, 20, 1, 84, 184, 0, 239, 153, 0, 16, 42, 180, 0, 107, 28, 42, 3, 16, 19]
abbrev dktX4_readCard_5 : List UInt8 := dkwX4_readCard_5 ++ dktX4_readCard_6
def dkwX4_readCard_4 : List UInt8 := [167, 0, 93, 42, 180, 0, 104, 28, 42, 3, 16, 19, 182, 1, 177, 79, 27, 154, 0, 8, 42, 28]
abbrev dktX4_readCard_4 : List UInt8 := dkwX4_readCard_4 ++ dktX4_readCard_5
def dkwX4_readCard_3 : List UInt8 := [80, 42, 182, 1, 156, 27, 16, 6, 159, 0, 9, 27, 16, 7, 160, 0, 11, 42, 28, 182, 1, 174]
abbrev dktX4_readCard_3 : List UInt8 := dkwX4_readCard_3 ++ dktX4_readCard_4
def dkwX4_readCard_2 : List UInt8 := [180, 1, 171, 61, 42, 180, 0, 101, 28, 27, 79, 42, 180, 0, 116, 28, 3, 79, 42, 180, 0, 125, 28, 9]
abbrev dktX4_readCard_2 : List UInt8 := dkwX4_readCard_2 ++ dktX4_readCard_3
def dkwX4_readCard_1 : List UInt8 := [16, 40, 160, 0, 12, 42, 6, 42, 180, 1, 113, 182, 1, 150, 42, 180, 1, 144, 158, 0, 4, 177, 42]
abbrev dktX4_readCard_1 : List UInt8 := dkwX4_readCard_1 ++ dktX4_readCard_2
def dkwX4_readCard_0 : List UInt8 := [42, 182, 1, 167, 60, 27, 156, 0, 7, 42, 182, 1, 153, 42, 180, 1, 144, 154, 0, 21, 42, 180, 1, 171]
abbrev dktX4_readCard_0 : List UInt8 := dkwX4_readCard_0 ++ dktX4_readCard_1
theorem dksX4_readCard_0 : cX4_readCard.data.toList.drop 0 = dktX4_readCard_0 := by decide +kernel
theorem dksX4_readCard_1 : cX4_readCard.data.toList.drop 24 = dktX4_readCard_1 := dk_seg dksX4_readCard_0 24 rfl rfl
theorem dksX4_readCard_2 : cX4_readCard.data.toList.drop 47 = dktX4_readCard_2 := dk_seg dksX4_readCard_1 23 rfl rfl
theorem dksX4_readCard_3 : cX4_readCard.data.toList.drop 71 = dktX4_readCard_3 := dk_seg dksX4_readCard_2 24 rfl rfl
theorem dksX4_readCard_4 : cX4_readCard.data.toList.drop 93 = dktX4_readCard_4 := dk_seg dksX4_readCard_3 22 rfl rfl
theorem dksX4_readCard_5 : cX4_readCard.data.toList.drop 115 = dktX4_readCard_5 := dk_seg dksX4_readCard_4 22 rfl rfl
theorem dksX4_readCard_6 : cX4_readCard.data.toList.drop 139 = dktX4_readCard_6 := dk_seg dksX4_readCard_5 24 rfl rfl
theorem dksX4_readCard_7 : cX4_readCard.data.toList.drop 162 = dktX4_readCard_7 := dk_seg dksX4_readCard_6 23 rfl rfl
theorem dksX4_readCard_8 : cX4_readCard.data.toList.drop 186 = dktX4_readCard_8 := dk_seg dksX4_readCard_7 24 rfl rfl
theorem dksX4_readCard_9 : cX4_readCard.data.toList.drop 210 = dktX4_readCard_9 := dk_seg dksX4_readCard_8 24 rfl rfl
theorem dX4_readCard_0 : decode cX4_readCard 0 = .ok (.aload_n 0, 1) := dk_42 (dk_at dksX4_readCard_0 0 rfl rfl)
theorem dX4_readCard_1 : decode cX4_readCard 1 = .ok (.invokevirtual 423, 3) := dk_182 1 167 (dk_at dksX4_readCard_0 1 rfl rfl)
theorem dX4_readCard_4 : decode cX4_readCard 4 = .ok (.istore_n 1, 1) := dk_60 (dk_at dksX4_readCard_0 4 rfl rfl)
theorem dX4_readCard_5 : decode cX4_readCard 5 = .ok (.iload_n 1, 1) := dk_27 (dk_at dksX4_readCard_0 5 rfl rfl)
theorem dX4_readCard_6 : decode cX4_readCard 6 = .ok (.ifCond .ge 7, 3) := dk_156 0 7 (dk_at dksX4_readCard_0 6 rfl rfl)
theorem dX4_readCard_9 : decode cX4_readCard 9 = .ok (.aload_n 0, 1) := dk_42 (dk_at dksX4_readCard_0 9 rfl rfl)
theorem dX4_readCard_10 : decode cX4_readCard 10 = .ok (.invokevirtual 409, 3) := dk_182 1 153 (dk_at dksX4_readCard_0 10 rfl rfl)
theorem dX4_readCard_13 : decode cX4_readCard 13 = .ok (.aload_n 0, 1) := dk_42 (dk_at dksX4_readCard_0 13 rfl rfl)
theorem dX4_readCard_14 : decode cX4_readCard 14 = .ok (.getfield 400, 3) := dk_180 1 144 (dk_at dksX4_readCard_0 14 rfl rfl)
theorem dX4_readCard_17 : decode cX4_readCard 17 = .ok (.ifCond .ne 21, 3) := dk_154 0 21 (dk_at dksX4_readCard_0 17 rfl rfl)
theorem dX4_readCard_20 : decode cX4_readCard 20 = .ok (.aload_n 0, 1) := dk_42 (dk_at dksX4_readCard_0 20 rfl rfl)
theorem dX4_readCard_21 : decode cX4_readCard 21 = .ok (.getfield 427, 3) := dk_180 1 171 (dk_at dksX4_readCard_0 21 rfl rfl)
theorem dX4_readCard_24 : decode cX4_readCard 24 = .ok (.bipush 40, 2) := dk_16 40 (dk_at dksX4_readCard_1 0 rfl rfl)
theorem dX4_readCard_26 : decode cX4_readCard 26 = .ok (.if_icmp .ne 12, 3) := dk_160 0 12 (dk_at dksX4_readCard_1 2 rfl rfl)
theorem dX4_readCard_29 : decode cX4_readCard 29 = .ok (.aload_n 0, 1) := dk_42 (dk_at dksX4_readCard_1 5 rfl rfl)
theorem dX4_readCard_30 : decode cX4_readCard 30 = .ok (.iconst 3, 1) := dk_6 (dk_at dksX4_readCard_1 6 rfl rfl)
theorem dX4_readCard_31 : decode cX4_readCard 31 = .ok (.aload_n 0, 1) := dk_42 (dk_at dksX4_readCard_1 7 rfl rfl)
theorem dX4_readCard_32 : decode cX4_readCard 32 = .ok (.getfield 369, 3) := dk_180 1 113 (dk_at dksX4_readCard_1 8 rfl rfl)
theorem dX4_readCard_35 : decode cX4_readCard 35 = .ok (.invokevirtual 406, 3) := dk_182 1 150 (dk_at dksX4_readCard_1 11 rfl rfl)
theorem dX4_readCard_38 : decode cX4_readCard 38 = .ok (.aload_n 0, 1) := dk_42 (dk_at dksX4_readCard_1 14 rfl rfl)
theorem dX4_readCard_39 : decode cX4_readCard 39 = .ok (.getfield 400, 3) := dk_180 1 144 (dk_at dksX4_readCard_1 15 rfl rfl)
theorem dX4_readCard_42 : decode cX4_readCard 42 = .ok (.ifCond .le 4, 3) := dk_158 0 4 (dk_at dksX4_readCard_1 18 rfl rfl)
theorem dX4_readCard_45 : decode cX4_readCard 45 = .ok (.return_, 1) := dk_177 (dk_at dksX4_readCard_1 21 rfl rfl)
theorem dX4_readCard_46 : decode cX4_readCard 46 = .ok (.aload_n 0, 1) := dk_42 (dk_at dksX4_readCard_1 22 rfl rfl)
theorem dX4_readCard_47 : decode cX4_readCard 47 = .ok (.getfield 427, 3) := dk_180 1 171 (dk_at dksX4_readCard_2 0 rfl rfl)
theorem dX4_readCard_50 : decode cX4_readCard 50 = .ok (.istore_n 2, 1) := dk_61 (dk_at dksX4_readCard_2 3 rfl rfl)
theorem dX4_readCard_51 : decode cX4_readCard 51 = .ok (.aload_n 0, 1) := dk_42 (dk_at dksX4_readCard_2 4 rfl rfl)
theorem dX4_readCard_52 : decode cX4_readCard 52 = .ok (.getfield 101, 3) := dk_180 0 101 (dk_at dksX4_readCard_2 5 rfl rfl)
theorem dX4_readCard_55 : decode cX4_readCard 55 = .ok (.iload_n 2, 1) := dk_28 (dk_at dksX4_readCard_2 8 rfl rfl)
theorem dX4_readCard_56 : decode cX4_readCard 56 = .ok (.iload_n 1, 1) := dk_27 (dk_at dksX4_readCard_2 9 rfl rfl)
theorem dX4_readCard_57 : decode cX4_readCard 57 = .ok (.iastore, 1) := dk_79 (dk_at dksX4_readCard_2 10 rfl rfl)
theorem dX4_readCard_58 : decode cX4_readCard 58 = .ok (.aload_n 0, 1) := dk_42 (dk_at dksX4_readCard_2 11 rfl rfl)
theorem dX4_readCard_59 : decode cX4_readCard 59 = .ok (.getfield 116, 3) := dk_180 0 116 (dk_at dksX4_readCard_2 12 rfl rfl)
theorem dX4_readCard_62 : decode cX4_readCard 62 = .ok (.iload_n 2, 1) := dk_28 (dk_at dksX4_readCard_2 15 rfl rfl)
theorem dX4_readCard_63 : decode cX4_readCard 63 = .ok (.iconst 0, 1) := dk_3 (dk_at dksX4_readCard_2 16 rfl rfl)
theorem dX4_readCard_64 : decode cX4_readCard 64 = .ok (.iastore, 1) := dk_79 (dk_at dksX4_readCard_2 17 rfl rfl)
theorem dX4_readCard_65 : decode cX4_readCard 65 = .ok (.aload_n 0, 1) := dk_42 (dk_at dksX4_readCard_2 18 rfl rfl)
theorem dX4_readCard_66 : decode cX4_readCard 66 = .ok (.getfield 125, 3) := dk_180 0 125 (dk_at dksX4_readCard_2 19 rfl rfl)
theorem dX4_readCard_69 : decode cX4_readCard 69 = .ok (.iload_n 2, 1) := dk_28 (dk_at dksX4_readCard_2 22 rfl rfl)
theorem dX4_readCard_70 : decode cX4_readCard 70 = .ok (.lconst 0, 1) := dk_9 (dk_at dksX4_readCard_2 23 rfl rfl)
theorem dX4_readCard_71 : decode cX4_readCard 71 = .ok (.lastore, 1) := dk_80 (dk_at dksX4_readCard_3 0 rfl rfl)
theorem dX4_readCard_72 : decode cX4_readCard 72 = .ok (.aload_n 0, 1) := dk_42 (dk_at dksX4_readCard_3 1 rfl rfl)
theorem dX4_readCard_73 : decode cX4_readCard 73 = .ok (.invokevirtual 412, 3) := dk_182 1 156 (dk_at dksX4_readCard_3 2 rfl rfl)
theorem dX4_readCard_76 : decode cX4_readCard 76 = .ok (.iload_n 1, 1) := dk_27 (dk_at dksX4_readCard_3 5 rfl rfl)
theorem dX4_readCard_77 : decode cX4_readCard 77 = .ok (.bipush 6, 2) := dk_16 6 (dk_at dksX4_readCard_3 6 rfl rfl)
theorem dX4_readCard_79 : decode cX4_readCard 79 = .ok (.if_icmp .eq 9, 3) := dk_159 0 9 (dk_at dksX4_readCard_3 8 rfl rfl)
theorem dX4_readCard_82 : decode cX4_readCard 82 = .ok (.iload_n 1, 1) := dk_27 (dk_at dksX4_readCard_3 11 rfl rfl)
theorem dX4_readCard_83 : decode cX4_readCard 83 = .ok (.bipush 7, 2) := dk_16 7 (dk_at dksX4_readCard_3 12 rfl rfl)
theorem dX4_readCard_85 : decode cX4_readCard 85 = .ok (.if_icmp .ne 11, 3) := dk_160 0 11 (dk_at dksX4_readCard_3 14 rfl rfl)
theorem dX4_readCard_88 : decode cX4_readCard 88 = .ok (.aload_n 0, 1) := dk_42 (dk_at dksX4_readCard_3 17 rfl rfl)
theorem dX4_readCard_89 : decode cX4_readCard 89 = .ok (.iload_n 2, 1) := dk_28 (dk_at dksX4_readCard_3 18 rfl rfl)
theorem dX4_readCard_90 : decode cX4_readCard 90 = .ok (.invokevirtual 430, 3) := dk_182 1 174 (dk_at dksX4_readCard_3 19 rfl rfl)
theorem dX4_readCard_93 : decode cX4_readCard 93 = .ok (.goto 93, 3) := dk_167 0 93 (dk_at dksX4_readCard_4 0 rfl rfl)
theorem dX4_readCard_96 : decode cX4_readCard 96 = .ok (.aload_n 0, 1) := dk_42 (dk_at dksX4_readCard_4 3 rfl rfl)
theorem dX4_readCard_97 : decode cX4_readCard 97 = .ok (.getfield 104, 3) := dk_180 0 104 (dk_at dksX4_readCard_4 4 rfl rfl)
theorem dX4_readCard_100 : decode cX4_readCard 100 = .ok (.iload_n 2, 1) := dk_28 (dk_at dksX4_readCard_4 7 rfl rfl)
theorem dX4_readCard_101 : decode cX4_readCard 101 = .ok (.aload_n 0, 1) := dk_42 (dk_at dksX4_readCard_4 8 rfl rfl)
theorem dX4_readCard_102 : decode cX4_readCard 102 = .ok (.iconst 0, 1) := dk_3 (dk_at dksX4_readCard_4 9 rfl rfl)
theorem dX4_readCard_103 : decode cX4_readCard 103 = .ok (.bipush 19, 2) := dk_16 19 (dk_at dksX4_readCard_4 10 rfl rfl)
theorem dX4_readCard_105 : decode cX4_readCard 105 = .ok (.invokevirtual 433, 3) := dk_182 1 177 (dk_at dksX4_readCard_4 12 rfl rfl)
theorem dX4_readCard_108 : decode cX4_readCard 108 = .ok (.iastore, 1) := dk_79 (dk_at dksX4_readCard_4 15 rfl rfl)
theorem dX4_readCard_109 : decode cX4_readCard 109 = .ok (.iload_n 1, 1) := dk_27 (dk_at dksX4_readCard_4 16 rfl rfl)
theorem dX4_readCard_110 : decode cX4_readCard 110 = .ok (.ifCond .ne 8, 3) := dk_154 0 8 (dk_at dksX4_readCard_4 17 rfl rfl)
theorem dX4_readCard_113 : decode cX4_readCard 113 = .ok (.aload_n 0, 1) := dk_42 (dk_at dksX4_readCard_4 20 rfl rfl)
theorem dX4_readCard_114 : decode cX4_readCard 114 = .ok (.iload_n 2, 1) := dk_28 (dk_at dksX4_readCard_4 21 rfl rfl)
theorem dX4_readCard_115 : decode cX4_readCard 115 = .ok (.invokevirtual 436, 3) := dk_182 1 180 (dk_at dksX4_readCard_5 0 rfl rfl)
theorem dX4_readCard_118 : decode cX4_readCard 118 = .ok (.iload_n 1, 1) := dk_27 (dk_at dksX4_readCard_5 3 rfl rfl)
theorem dX4_readCard_119 : decode cX4_readCard 119 = .ok (.i2l, 1) := dk_133 (dk_at dksX4_readCard_5 4 rfl rfl)
theorem dX4_readCard_120 : decode cX4_readCard 120 = .ok (.lconst 1, 1) := dk_10 (dk_at dksX4_readCard_5 5 rfl rfl)
theorem dX4_readCard_121 : decode cX4_readCard 121 = .ok (.ldc2_w 340, 3) := dk_20 1 84 (dk_at dksX4_readCard_5 6 rfl rfl)
theorem dX4_readCard_124 : decode cX4_readCard 124 = .ok (.invokestatic 239, 3) := dk_184 0 239 (dk_at dksX4_readCard_5 9 rfl rfl)
theorem dX4_readCard_127 : decode cX4_readCard 127 = .ok (.ifCond .eq 16, 3) := dk_153 0 16 (dk_at dksX4_readCard_5 12 rfl rfl)
theorem dX4_readCard_130 : decode cX4_readCard 130 = .ok (.aload_n 0, 1) := dk_42 (dk_at dksX4_readCard_5 15 rfl rfl)
theorem dX4_readCard_131 : decode cX4_readCard 131 = .ok (.getfield 107, 3) := dk_180 0 107 (dk_at dksX4_readCard_5 16 rfl rfl)
theorem dX4_readCard_134 : decode cX4_readCard 134 = .ok (.iload_n 2, 1) := dk_28 (dk_at dksX4_readCard_5 19 rfl rfl)
theorem dX4_readCard_135 : decode cX4_readCard 135 = .ok (.aload_n 0, 1) := dk_42 (dk_at dksX4_readCard_5 20 rfl rfl)
theorem dX4_readCard_136 : decode cX4_readCard 136 = .ok (.iconst 0, 1) := dk_3 (dk_at dksX4_readCard_5 21 rfl rfl)
theorem dX4_readCard_137 : decode cX4_readCard 137 = .ok (.bipush 19, 2) := dk_16 19 (dk_at dksX4_readCard_5 22 rfl rfl)
theorem dX4_readCard_139 : decode cX4_readCard 139 = .ok (.invokevirtual 433, 3) := dk_182 1 177 (dk_at dksX4_readCard_6 0 rfl rfl)
theorem dX4_readCard_142 : decode cX4_readCard 142 = .ok (.iastore, 1) := dk_79 (dk_at dksX4_readCard_6 3 rfl rfl)
theorem dX4_readCard_143 : decode cX4_readCard 143 = .ok (.iload_n 1, 1) := dk_27 (dk_at dksX4_readCard_6 4 rfl rfl)
theorem dX4_readCard_144 : decode cX4_readCard 144 = .ok (.i2l, 1) := dk_133 (dk_at dksX4_readCard_6 5 rfl rfl)
theorem dX4_readCard_145 : decode cX4_readCard 145 = .ok (.lconst 1, 1) := dk_10 (dk_at dksX4_readCard_6 6 rfl rfl)
theorem dX4_readCard_146 : decode cX4_readCard 146 = .ok (.ldc2_w 340, 3) := dk_20 1 84 (dk_at dksX4_readCard_6 7 rfl rfl)
theorem dX4_readCard_149 : decode cX4_readCard 149 = .ok (.invokestatic 239, 3) := dk_184 0 239 (dk_at dksX4_readCard_6 10 rfl rfl)
theorem dX4_readCard_152 : decode cX4_readCard 152 = .ok (.ifCond .eq 16, 3) := dk_153 0 16 (dk_at dksX4_readCard_6 13 rfl rfl)
theorem dX4_readCard_155 : decode cX4_readCard 155 = .ok (.aload_n 0, 1) := dk_42 (dk_at dksX4_readCard_6 16 rfl rfl)
theorem dX4_readCard_156 : decode cX4_readCard 156 = .ok (.getfield 110, 3) := dk_180 0 110 (dk_at dksX4_readCard_6 17 rfl rfl)
theorem dX4_readCard_159 : decode cX4_readCard 159 = .ok (.iload_n 2, 1) := dk_28 (dk_at dksX4_readCard_6 20 rfl rfl)
theorem dX4_readCard_160 : decode cX4_readCard 160 = .ok (.aload_n 0, 1) := dk_42 (dk_at dksX4_readCard_6 21 rfl rfl)
theorem dX4_readCard_161 : decode cX4_readCard 161 = .ok (.iconst 0, 1) := dk_3 (dk_at dksX4_readCard_6 22 rfl rfl)
theorem dX4_readCard_162 : decode cX4_readCard 162 = .ok (.bipush 19, 2) := dk_16 19 (dk_at dksX4_readCard_7 0 rfl rfl)
theorem dX4_readCard_164 : decode cX4_readCard 164 = .ok (.invokevirtual 433, 3) := dk_182 1 177 (dk_at dksX4_readCard_7 2 rfl rfl)
theorem dX4_readCard_167 : decode cX4_readCard 167 = .ok (.iastore, 1) := dk_79 (dk_at dksX4_readCard_7 5 rfl rfl)
theorem dX4_readCard_168 : decode cX4_readCard 168 = .ok (.iload_n 1, 1) := dk_27 (dk_at dksX4_readCard_7 6 rfl rfl)
theorem dX4_readCard_169 : decode cX4_readCard 169 = .ok (.iconst 4, 1) := dk_7 (dk_at dksX4_readCard_7 7 rfl rfl)
theorem dX4_readCard_170 : decode cX4_readCard 170 = .ok (.if_icmp .ne 16, 3) := dk_160 0 16 (dk_at dksX4_readCard_7 8 rfl rfl)
theorem dX4_readCard_173 : decode cX4_readCard 173 = .ok (.aload_n 0, 1) := dk_42 (dk_at dksX4_readCard_7 11 rfl rfl)
theorem dX4_readCard_174 : decode cX4_readCard 174 = .ok (.getfield 113, 3) := dk_180 0 113 (dk_at dksX4_readCard_7 12 rfl rfl)
theorem dX4_readCard_177 : decode cX4_readCard 177 = .ok (.iload_n 2, 1) := dk_28 (dk_at dksX4_readCard_7 15 rfl rfl)
theorem dX4_readCard_178 : decode cX4_readCard 178 = .ok (.aload_n 0, 1) := dk_42 (dk_at dksX4_readCard_7 16 rfl rfl)
theorem dX4_readCard_179 : decode cX4_readCard 179 = .ok (.iconst 0, 1) := dk_3 (dk_at dksX4_readCard_7 17 rfl rfl)
theorem dX4_readCard_180 : decode cX4_readCard 180 = .ok (.bipush 19, 2) := dk_16 19 (dk_at dksX4_readCard_7 18 rfl rfl)
theorem dX4_readCard_182 : decode cX4_readCard 182 = .ok (.invokevirtual 433, 3) := dk_182 1 177 (dk_at dksX4_readCard_7 20 rfl rfl)
theorem dX4_readCard_185 : decode cX4_readCard 185 = .ok (.iastore, 1) := dk_79 (dk_at dksX4_readCard_7 23 rfl rfl)
theorem dX4_readCard_186 : decode cX4_readCard 186 = .ok (.aload_n 0, 1) := dk_42 (dk_at dksX4_readCard_8 0 rfl rfl)
theorem dX4_readCard_187 : decode cX4_readCard 187 = .ok (.getfield 400, 3) := dk_180 1 144 (dk_at dksX4_readCard_8 1 rfl rfl)
theorem dX4_readCard_190 : decode cX4_readCard 190 = .ok (.ifCond .ne 16, 3) := dk_154 0 16 (dk_at dksX4_readCard_8 4 rfl rfl)
theorem dX4_readCard_193 : decode cX4_readCard 193 = .ok (.aload_n 0, 1) := dk_42 (dk_at dksX4_readCard_8 7 rfl rfl)
theorem dX4_readCard_194 : decode cX4_readCard 194 = .ok (.bipush 59, 2) := dk_16 59 (dk_at dksX4_readCard_8 8 rfl rfl)
theorem dX4_readCard_196 : decode cX4_readCard 196 = .ok (.invokevirtual 439, 3) := dk_182 1 183 (dk_at dksX4_readCard_8 10 rfl rfl)
theorem dX4_readCard_199 : decode cX4_readCard 199 = .ok (.ifCond .ne 7, 3) := dk_154 0 7 (dk_at dksX4_readCard_8 13 rfl rfl)
theorem dX4_readCard_202 : decode cX4_readCard 202 = .ok (.aload_n 0, 1) := dk_42 (dk_at dksX4_readCard_8 16 rfl rfl)
theorem dX4_readCard_203 : decode cX4_readCard 203 = .ok (.invokevirtual 409, 3) := dk_182 1 153 (dk_at dksX4_readCard_8 17 rfl rfl)
theorem dX4_readCard_206 : decode cX4_readCard 206 = .ok (.aload_n 0, 1) := dk_42 (dk_at dksX4_readCard_8 20 rfl rfl)
theorem dX4_readCard_207 : decode cX4_readCard 207 = .ok (.getfield 400, 3) := dk_180 1 144 (dk_at dksX4_readCard_8 21 rfl rfl)
theorem dX4_readCard_210 : decode cX4_readCard 210 = .ok (.ifCond .le 4, 3) := dk_158 0 4 (dk_at dksX4_readCard_9 0 rfl rfl)
theorem dX4_readCard_213 : decode cX4_readCard 213 = .ok (.return_, 1) := dk_177 (dk_at dksX4_readCard_9 3 rfl rfl)
theorem dX4_readCard_214 : decode cX4_readCard 214 = .ok (.aload_n 0, 1) := dk_42 (dk_at dksX4_readCard_9 4 rfl rfl)
theorem dX4_readCard_215 : decode cX4_readCard 215 = .ok (.invokevirtual 412, 3) := dk_182 1 156 (dk_at dksX4_readCard_9 5 rfl rfl)
theorem dX4_readCard_218 : decode cX4_readCard 218 = .ok (.aload_n 0, 1) := dk_42 (dk_at dksX4_readCard_9 8 rfl rfl)
theorem dX4_readCard_219 : decode cX4_readCard 219 = .ok (.dup, 1) := dk_89 (dk_at dksX4_readCard_9 9 rfl rfl)
theorem dX4_readCard_220 : decode cX4_readCard 220 = .ok (.getfield 427, 3) := dk_180 1 171 (dk_at dksX4_readCard_9 10 rfl rfl)
theorem dX4_readCard_223 : decode cX4_readCard 223 = .ok (.iconst 1, 1) := dk_4 (dk_at dksX4_readCard_9 13 rfl rfl)
theorem dX4_readCard_224 : decode cX4_readCard 224 = .ok (.iadd, 1) := dk_96 (dk_at dksX4_readCard_9 14 rfl rfl)
theorem dX4_readCard_225 : decode cX4_readCard 225 = .ok (.putfield 427, 3) := dk_181 1 171 (dk_at dksX4_readCard_9 15 rfl rfl)
theorem dX4_readCard_228 : decode cX4_readCard 228 = .ok (.return_, 1) := dk_177 (dk_at dksX4_readCard_9 18 rfl rfl)
abbrev cX4_cardKind : ByteArray := prog_9_method_53_code
def yX4_cardKind : MethodName := ⟨RX4, "cardKind", "()I"⟩
def dkwX4_cardKind_7 : List UInt8 := [16, 7, 167, 0, 4, 2, 172]
abbrev dktX4_cardKind_7 : List UInt8 := dkwX4_cardKind_7 ++ []
def dkwX4_cardKind_6 : List UInt8 := [153, 0, 6, 16, 6, 172, 42, 16, 111, 16, 110, 3, 3, 3, 184, 1, 159, 182, 1, 163, 153, 0, 8]
abbrev dktX4_cardKind_6 : List UInt8 := dkwX4_cardKind_6 ++ dktX4_cardKind_7
def dkwX4_cardKind_5 : List UInt8 := [182, 1, 163, 153, 0, 5, 8, 172, 42, 16, 98, 16, 97, 16, 99, 16, 107, 3, 184, 1, 159, 182, 1, 163]
abbrev dktX4_cardKind_5 : List UInt8 := dkwX4_cardKind_5 ++ dktX4_cardKind_6
def dkwX4_cardKind_4 : List UInt8 := [182, 1, 163, 153, 0, 5, 7, 172, 42, 16, 112, 16, 114, 16, 105, 16, 110, 16, 116, 184, 1, 159]
abbrev dktX4_cardKind_4 : List UInt8 := dkwX4_cardKind_4 ++ dktX4_cardKind_5
def dkwX4_cardKind_3 : List UInt8 := [184, 1, 159, 182, 1, 163, 153, 0, 5, 6, 172, 42, 16, 100, 16, 105, 16, 118, 3, 3, 184, 1, 159]
abbrev dktX4_cardKind_3 : List UInt8 := dkwX4_cardKind_3 ++ dktX4_cardKind_4
def dkwX4_cardKind_2 : List UInt8 := [3, 3, 184, 1, 159, 182, 1, 163, 153, 0, 5, 5, 172, 42, 16, 109, 16, 117, 16, 108, 3, 3]
abbrev dktX4_cardKind_2 : List UInt8 := dkwX4_cardKind_2 ++ dktX4_cardKind_3
def dkwX4_cardKind_1 : List UInt8 := [16, 100, 16, 100, 3, 3, 184, 1, 159, 182, 1, 163, 153, 0, 5, 4, 172, 42, 16, 115, 16, 117, 16, 98]
abbrev dktX4_cardKind_1 : List UInt8 := dkwX4_cardKind_1 ++ dktX4_cardKind_2
def dkwX4_cardKind_0 : List UInt8 := [42, 16, 112, 16, 117, 16, 116, 3, 3, 184, 1, 159, 182, 1, 163, 153, 0, 5, 3, 172, 42, 16, 97]
abbrev dktX4_cardKind_0 : List UInt8 := dkwX4_cardKind_0 ++ dktX4_cardKind_1
theorem dksX4_cardKind_0 : cX4_cardKind.data.toList.drop 0 = dktX4_cardKind_0 := by decide +kernel
theorem dksX4_cardKind_1 : cX4_cardKind.data.toList.drop 23 = dktX4_cardKind_1 := dk_seg dksX4_cardKind_0 23 rfl rfl
theorem dksX4_cardKind_2 : cX4_cardKind.data.toList.drop 47 = dktX4_cardKind_2 := dk_seg dksX4_cardKind_1 24 rfl rfl
theorem dksX4_cardKind_3 : cX4_cardKind.data.toList.drop 69 = dktX4_cardKind_3 := dk_seg dksX4_cardKind_2 22 rfl rfl
theorem dksX4_cardKind_4 : cX4_cardKind.data.toList.drop 92 = dktX4_cardKind_4 := dk_seg dksX4_cardKind_3 23 rfl rfl
theorem dksX4_cardKind_5 : cX4_cardKind.data.toList.drop 114 = dktX4_cardKind_5 := dk_seg dksX4_cardKind_4 22 rfl rfl
theorem dksX4_cardKind_6 : cX4_cardKind.data.toList.drop 138 = dktX4_cardKind_6 := dk_seg dksX4_cardKind_5 24 rfl rfl
theorem dksX4_cardKind_7 : cX4_cardKind.data.toList.drop 161 = dktX4_cardKind_7 := dk_seg dksX4_cardKind_6 23 rfl rfl
theorem dX4_cardKind_0 : decode cX4_cardKind 0 = .ok (.aload_n 0, 1) := dk_42 (dk_at dksX4_cardKind_0 0 rfl rfl)
theorem dX4_cardKind_1 : decode cX4_cardKind 1 = .ok (.bipush 112, 2) := dk_16 112 (dk_at dksX4_cardKind_0 1 rfl rfl)
theorem dX4_cardKind_3 : decode cX4_cardKind 3 = .ok (.bipush 117, 2) := dk_16 117 (dk_at dksX4_cardKind_0 3 rfl rfl)
theorem dX4_cardKind_5 : decode cX4_cardKind 5 = .ok (.bipush 116, 2) := dk_16 116 (dk_at dksX4_cardKind_0 5 rfl rfl)
theorem dX4_cardKind_7 : decode cX4_cardKind 7 = .ok (.iconst 0, 1) := dk_3 (dk_at dksX4_cardKind_0 7 rfl rfl)
theorem dX4_cardKind_8 : decode cX4_cardKind 8 = .ok (.iconst 0, 1) := dk_3 (dk_at dksX4_cardKind_0 8 rfl rfl)
theorem dX4_cardKind_9 : decode cX4_cardKind 9 = .ok (.invokestatic 415, 3) := dk_184 1 159 (dk_at dksX4_cardKind_0 9 rfl rfl)
theorem dX4_cardKind_12 : decode cX4_cardKind 12 = .ok (.invokevirtual 419, 3) := dk_182 1 163 (dk_at dksX4_cardKind_0 12 rfl rfl)
theorem dX4_cardKind_15 : decode cX4_cardKind 15 = .ok (.ifCond .eq 5, 3) := dk_153 0 5 (dk_at dksX4_cardKind_0 15 rfl rfl)
theorem dX4_cardKind_18 : decode cX4_cardKind 18 = .ok (.iconst 0, 1) := dk_3 (dk_at dksX4_cardKind_0 18 rfl rfl)
theorem dX4_cardKind_19 : decode cX4_cardKind 19 = .ok (.ireturn, 1) := dk_172 (dk_at dksX4_cardKind_0 19 rfl rfl)
theorem dX4_cardKind_20 : decode cX4_cardKind 20 = .ok (.aload_n 0, 1) := dk_42 (dk_at dksX4_cardKind_0 20 rfl rfl)
theorem dX4_cardKind_21 : decode cX4_cardKind 21 = .ok (.bipush 97, 2) := dk_16 97 (dk_at dksX4_cardKind_0 21 rfl rfl)
theorem dX4_cardKind_23 : decode cX4_cardKind 23 = .ok (.bipush 100, 2) := dk_16 100 (dk_at dksX4_cardKind_1 0 rfl rfl)
theorem dX4_cardKind_25 : decode cX4_cardKind 25 = .ok (.bipush 100, 2) := dk_16 100 (dk_at dksX4_cardKind_1 2 rfl rfl)
theorem dX4_cardKind_27 : decode cX4_cardKind 27 = .ok (.iconst 0, 1) := dk_3 (dk_at dksX4_cardKind_1 4 rfl rfl)
theorem dX4_cardKind_28 : decode cX4_cardKind 28 = .ok (.iconst 0, 1) := dk_3 (dk_at dksX4_cardKind_1 5 rfl rfl)
theorem dX4_cardKind_29 : decode cX4_cardKind 29 = .ok (.invokestatic 415, 3) := dk_184 1 159 (dk_at dksX4_cardKind_1 6 rfl rfl)
theorem dX4_cardKind_32 : decode cX4_cardKind 32 = .ok (.invokevirtual 419, 3) := dk_182 1 163 (dk_at dksX4_cardKind_1 9 rfl rfl)
theorem dX4_cardKind_35 : decode cX4_cardKind 35 = .ok (.ifCond .eq 5, 3) := dk_153 0 5 (dk_at dksX4_cardKind_1 12 rfl rfl)
theorem dX4_cardKind_38 : decode cX4_cardKind 38 = .ok (.iconst 1, 1) := dk_4 (dk_at dksX4_cardKind_1 15 rfl rfl)
theorem dX4_cardKind_39 : decode cX4_cardKind 39 = .ok (.ireturn, 1) := dk_172 (dk_at dksX4_cardKind_1 16 rfl rfl)
theorem dX4_cardKind_40 : decode cX4_cardKind 40 = .ok (.aload_n 0, 1) := dk_42 (dk_at dksX4_cardKind_1 17 rfl rfl)
theorem dX4_cardKind_41 : decode cX4_cardKind 41 = .ok (.bipush 115, 2) := dk_16 115 (dk_at dksX4_cardKind_1 18 rfl rfl)
theorem dX4_cardKind_43 : decode cX4_cardKind 43 = .ok (.bipush 117, 2) := dk_16 117 (dk_at dksX4_cardKind_1 20 rfl rfl)
theorem dX4_cardKind_45 : decode cX4_cardKind 45 = .ok (.bipush 98, 2) := dk_16 98 (dk_at dksX4_cardKind_1 22 rfl rfl)
theorem dX4_cardKind_47 : decode cX4_cardKind 47 = .ok (.iconst 0, 1) := dk_3 (dk_at dksX4_cardKind_2 0 rfl rfl)
theorem dX4_cardKind_48 : decode cX4_cardKind 48 = .ok (.iconst 0, 1) := dk_3 (dk_at dksX4_cardKind_2 1 rfl rfl)
theorem dX4_cardKind_49 : decode cX4_cardKind 49 = .ok (.invokestatic 415, 3) := dk_184 1 159 (dk_at dksX4_cardKind_2 2 rfl rfl)
theorem dX4_cardKind_52 : decode cX4_cardKind 52 = .ok (.invokevirtual 419, 3) := dk_182 1 163 (dk_at dksX4_cardKind_2 5 rfl rfl)
theorem dX4_cardKind_55 : decode cX4_cardKind 55 = .ok (.ifCond .eq 5, 3) := dk_153 0 5 (dk_at dksX4_cardKind_2 8 rfl rfl)
theorem dX4_cardKind_58 : decode cX4_cardKind 58 = .ok (.iconst 2, 1) := dk_5 (dk_at dksX4_cardKind_2 11 rfl rfl)
theorem dX4_cardKind_59 : decode cX4_cardKind 59 = .ok (.ireturn, 1) := dk_172 (dk_at dksX4_cardKind_2 12 rfl rfl)
theorem dX4_cardKind_60 : decode cX4_cardKind 60 = .ok (.aload_n 0, 1) := dk_42 (dk_at dksX4_cardKind_2 13 rfl rfl)
theorem dX4_cardKind_61 : decode cX4_cardKind 61 = .ok (.bipush 109, 2) := dk_16 109 (dk_at dksX4_cardKind_2 14 rfl rfl)
theorem dX4_cardKind_63 : decode cX4_cardKind 63 = .ok (.bipush 117, 2) := dk_16 117 (dk_at dksX4_cardKind_2 16 rfl rfl)
theorem dX4_cardKind_65 : decode cX4_cardKind 65 = .ok (.bipush 108, 2) := dk_16 108 (dk_at dksX4_cardKind_2 18 rfl rfl)
theorem dX4_cardKind_67 : decode cX4_cardKind 67 = .ok (.iconst 0, 1) := dk_3 (dk_at dksX4_cardKind_2 20 rfl rfl)
theorem dX4_cardKind_68 : decode cX4_cardKind 68 = .ok (.iconst 0, 1) := dk_3 (dk_at dksX4_cardKind_2 21 rfl rfl)
theorem dX4_cardKind_69 : decode cX4_cardKind 69 = .ok (.invokestatic 415, 3) := dk_184 1 159 (dk_at dksX4_cardKind_3 0 rfl rfl)
theorem dX4_cardKind_72 : decode cX4_cardKind 72 = .ok (.invokevirtual 419, 3) := dk_182 1 163 (dk_at dksX4_cardKind_3 3 rfl rfl)
theorem dX4_cardKind_75 : decode cX4_cardKind 75 = .ok (.ifCond .eq 5, 3) := dk_153 0 5 (dk_at dksX4_cardKind_3 6 rfl rfl)
theorem dX4_cardKind_78 : decode cX4_cardKind 78 = .ok (.iconst 3, 1) := dk_6 (dk_at dksX4_cardKind_3 9 rfl rfl)
theorem dX4_cardKind_79 : decode cX4_cardKind 79 = .ok (.ireturn, 1) := dk_172 (dk_at dksX4_cardKind_3 10 rfl rfl)
theorem dX4_cardKind_80 : decode cX4_cardKind 80 = .ok (.aload_n 0, 1) := dk_42 (dk_at dksX4_cardKind_3 11 rfl rfl)
theorem dX4_cardKind_81 : decode cX4_cardKind 81 = .ok (.bipush 100, 2) := dk_16 100 (dk_at dksX4_cardKind_3 12 rfl rfl)
theorem dX4_cardKind_83 : decode cX4_cardKind 83 = .ok (.bipush 105, 2) := dk_16 105 (dk_at dksX4_cardKind_3 14 rfl rfl)
theorem dX4_cardKind_85 : decode cX4_cardKind 85 = .ok (.bipush 118, 2) := dk_16 118 (dk_at dksX4_cardKind_3 16 rfl rfl)
theorem dX4_cardKind_87 : decode cX4_cardKind 87 = .ok (.iconst 0, 1) := dk_3 (dk_at dksX4_cardKind_3 18 rfl rfl)
theorem dX4_cardKind_88 : decode cX4_cardKind 88 = .ok (.iconst 0, 1) := dk_3 (dk_at dksX4_cardKind_3 19 rfl rfl)
theorem dX4_cardKind_89 : decode cX4_cardKind 89 = .ok (.invokestatic 415, 3) := dk_184 1 159 (dk_at dksX4_cardKind_3 20 rfl rfl)
theorem dX4_cardKind_92 : decode cX4_cardKind 92 = .ok (.invokevirtual 419, 3) := dk_182 1 163 (dk_at dksX4_cardKind_4 0 rfl rfl)
theorem dX4_cardKind_95 : decode cX4_cardKind 95 = .ok (.ifCond .eq 5, 3) := dk_153 0 5 (dk_at dksX4_cardKind_4 3 rfl rfl)
theorem dX4_cardKind_98 : decode cX4_cardKind 98 = .ok (.iconst 4, 1) := dk_7 (dk_at dksX4_cardKind_4 6 rfl rfl)
theorem dX4_cardKind_99 : decode cX4_cardKind 99 = .ok (.ireturn, 1) := dk_172 (dk_at dksX4_cardKind_4 7 rfl rfl)
theorem dX4_cardKind_100 : decode cX4_cardKind 100 = .ok (.aload_n 0, 1) := dk_42 (dk_at dksX4_cardKind_4 8 rfl rfl)
theorem dX4_cardKind_101 : decode cX4_cardKind 101 = .ok (.bipush 112, 2) := dk_16 112 (dk_at dksX4_cardKind_4 9 rfl rfl)
theorem dX4_cardKind_103 : decode cX4_cardKind 103 = .ok (.bipush 114, 2) := dk_16 114 (dk_at dksX4_cardKind_4 11 rfl rfl)
theorem dX4_cardKind_105 : decode cX4_cardKind 105 = .ok (.bipush 105, 2) := dk_16 105 (dk_at dksX4_cardKind_4 13 rfl rfl)
theorem dX4_cardKind_107 : decode cX4_cardKind 107 = .ok (.bipush 110, 2) := dk_16 110 (dk_at dksX4_cardKind_4 15 rfl rfl)
theorem dX4_cardKind_109 : decode cX4_cardKind 109 = .ok (.bipush 116, 2) := dk_16 116 (dk_at dksX4_cardKind_4 17 rfl rfl)
theorem dX4_cardKind_111 : decode cX4_cardKind 111 = .ok (.invokestatic 415, 3) := dk_184 1 159 (dk_at dksX4_cardKind_4 19 rfl rfl)
theorem dX4_cardKind_114 : decode cX4_cardKind 114 = .ok (.invokevirtual 419, 3) := dk_182 1 163 (dk_at dksX4_cardKind_5 0 rfl rfl)
theorem dX4_cardKind_117 : decode cX4_cardKind 117 = .ok (.ifCond .eq 5, 3) := dk_153 0 5 (dk_at dksX4_cardKind_5 3 rfl rfl)
theorem dX4_cardKind_120 : decode cX4_cardKind 120 = .ok (.iconst 5, 1) := dk_8 (dk_at dksX4_cardKind_5 6 rfl rfl)
theorem dX4_cardKind_121 : decode cX4_cardKind 121 = .ok (.ireturn, 1) := dk_172 (dk_at dksX4_cardKind_5 7 rfl rfl)
theorem dX4_cardKind_122 : decode cX4_cardKind 122 = .ok (.aload_n 0, 1) := dk_42 (dk_at dksX4_cardKind_5 8 rfl rfl)
theorem dX4_cardKind_123 : decode cX4_cardKind 123 = .ok (.bipush 98, 2) := dk_16 98 (dk_at dksX4_cardKind_5 9 rfl rfl)
theorem dX4_cardKind_125 : decode cX4_cardKind 125 = .ok (.bipush 97, 2) := dk_16 97 (dk_at dksX4_cardKind_5 11 rfl rfl)
theorem dX4_cardKind_127 : decode cX4_cardKind 127 = .ok (.bipush 99, 2) := dk_16 99 (dk_at dksX4_cardKind_5 13 rfl rfl)
theorem dX4_cardKind_129 : decode cX4_cardKind 129 = .ok (.bipush 107, 2) := dk_16 107 (dk_at dksX4_cardKind_5 15 rfl rfl)
theorem dX4_cardKind_131 : decode cX4_cardKind 131 = .ok (.iconst 0, 1) := dk_3 (dk_at dksX4_cardKind_5 17 rfl rfl)
theorem dX4_cardKind_132 : decode cX4_cardKind 132 = .ok (.invokestatic 415, 3) := dk_184 1 159 (dk_at dksX4_cardKind_5 18 rfl rfl)
theorem dX4_cardKind_135 : decode cX4_cardKind 135 = .ok (.invokevirtual 419, 3) := dk_182 1 163 (dk_at dksX4_cardKind_5 21 rfl rfl)
theorem dX4_cardKind_138 : decode cX4_cardKind 138 = .ok (.ifCond .eq 6, 3) := dk_153 0 6 (dk_at dksX4_cardKind_6 0 rfl rfl)
theorem dX4_cardKind_141 : decode cX4_cardKind 141 = .ok (.bipush 6, 2) := dk_16 6 (dk_at dksX4_cardKind_6 3 rfl rfl)
theorem dX4_cardKind_143 : decode cX4_cardKind 143 = .ok (.ireturn, 1) := dk_172 (dk_at dksX4_cardKind_6 5 rfl rfl)
theorem dX4_cardKind_144 : decode cX4_cardKind 144 = .ok (.aload_n 0, 1) := dk_42 (dk_at dksX4_cardKind_6 6 rfl rfl)
theorem dX4_cardKind_145 : decode cX4_cardKind 145 = .ok (.bipush 111, 2) := dk_16 111 (dk_at dksX4_cardKind_6 7 rfl rfl)
theorem dX4_cardKind_147 : decode cX4_cardKind 147 = .ok (.bipush 110, 2) := dk_16 110 (dk_at dksX4_cardKind_6 9 rfl rfl)
theorem dX4_cardKind_149 : decode cX4_cardKind 149 = .ok (.iconst 0, 1) := dk_3 (dk_at dksX4_cardKind_6 11 rfl rfl)
theorem dX4_cardKind_150 : decode cX4_cardKind 150 = .ok (.iconst 0, 1) := dk_3 (dk_at dksX4_cardKind_6 12 rfl rfl)
theorem dX4_cardKind_151 : decode cX4_cardKind 151 = .ok (.iconst 0, 1) := dk_3 (dk_at dksX4_cardKind_6 13 rfl rfl)
theorem dX4_cardKind_152 : decode cX4_cardKind 152 = .ok (.invokestatic 415, 3) := dk_184 1 159 (dk_at dksX4_cardKind_6 14 rfl rfl)
theorem dX4_cardKind_155 : decode cX4_cardKind 155 = .ok (.invokevirtual 419, 3) := dk_182 1 163 (dk_at dksX4_cardKind_6 17 rfl rfl)
theorem dX4_cardKind_158 : decode cX4_cardKind 158 = .ok (.ifCond .eq 8, 3) := dk_153 0 8 (dk_at dksX4_cardKind_6 20 rfl rfl)
theorem dX4_cardKind_161 : decode cX4_cardKind 161 = .ok (.bipush 7, 2) := dk_16 7 (dk_at dksX4_cardKind_7 0 rfl rfl)
theorem dX4_cardKind_163 : decode cX4_cardKind 163 = .ok (.goto 4, 3) := dk_167 0 4 (dk_at dksX4_cardKind_7 2 rfl rfl)
theorem dX4_cardKind_166 : decode cX4_cardKind 166 = .ok (.iconst (-1), 1) := dk_2 (dk_at dksX4_cardKind_7 5 rfl rfl)
theorem dX4_cardKind_167 : decode cX4_cardKind 167 = .ok (.ireturn, 1) := dk_172 (dk_at dksX4_cardKind_7 6 rfl rfl)
abbrev cX4_spelled : ByteArray := prog_9_method_47_code
def yX4_spelled : MethodName := ⟨RX4, "spelled", "(IIIII)J"⟩
def dkwX4_spelled_4 : List UInt8 := [173]
abbrev dktX4_spelled_4 : List UInt8 := dkwX4_spelled_4 ++ []
def dkwX4_spelled_3 : List UInt8 := [21, 4, 158, 0, 20, 22, 5, 20, 1, 129, 105, 21, 4, 133, 97, 20, 1, 131, 101, 167, 0, 5, 22, 5]
abbrev dktX4_spelled_3 : List UInt8 := dkwX4_spelled_3 ++ dktX4_spelled_4
def dkwX4_spelled_2 : List UInt8 := [158, 0, 19, 22, 5, 20, 1, 129, 105, 29, 133, 97, 20, 1, 131, 101, 167, 0, 5, 22, 5, 55, 5]
abbrev dktX4_spelled_2 : List UInt8 := dkwX4_spelled_2 ++ dktX4_spelled_3
def dkwX4_spelled_1 : List UInt8 := [158, 0, 19, 22, 5, 20, 1, 129, 105, 28, 133, 97, 20, 1, 131, 101, 167, 0, 5, 22, 5, 55, 5, 29]
abbrev dktX4_spelled_1 : List UInt8 := dkwX4_spelled_1 ++ dktX4_spelled_2
def dkwX4_spelled_0 : List UInt8 := [26, 133, 20, 1, 131, 101, 55, 5, 22, 5, 20, 1, 129, 105, 27, 133, 97, 20, 1, 131, 101, 55, 5, 28]
abbrev dktX4_spelled_0 : List UInt8 := dkwX4_spelled_0 ++ dktX4_spelled_1
theorem dksX4_spelled_0 : cX4_spelled.data.toList.drop 0 = dktX4_spelled_0 := by decide +kernel
theorem dksX4_spelled_1 : cX4_spelled.data.toList.drop 24 = dktX4_spelled_1 := dk_seg dksX4_spelled_0 24 rfl rfl
theorem dksX4_spelled_2 : cX4_spelled.data.toList.drop 48 = dktX4_spelled_2 := dk_seg dksX4_spelled_1 24 rfl rfl
theorem dksX4_spelled_3 : cX4_spelled.data.toList.drop 71 = dktX4_spelled_3 := dk_seg dksX4_spelled_2 23 rfl rfl
theorem dksX4_spelled_4 : cX4_spelled.data.toList.drop 95 = dktX4_spelled_4 := dk_seg dksX4_spelled_3 24 rfl rfl
theorem dX4_spelled_0 : decode cX4_spelled 0 = .ok (.iload_n 0, 1) := dk_26 (dk_at dksX4_spelled_0 0 rfl rfl)
theorem dX4_spelled_1 : decode cX4_spelled 1 = .ok (.i2l, 1) := dk_133 (dk_at dksX4_spelled_0 1 rfl rfl)
theorem dX4_spelled_2 : decode cX4_spelled 2 = .ok (.ldc2_w 387, 3) := dk_20 1 131 (dk_at dksX4_spelled_0 2 rfl rfl)
theorem dX4_spelled_5 : decode cX4_spelled 5 = .ok (.lsub, 1) := dk_101 (dk_at dksX4_spelled_0 5 rfl rfl)
theorem dX4_spelled_6 : decode cX4_spelled 6 = .ok (.lstore 5, 2) := dk_55 5 (dk_at dksX4_spelled_0 6 rfl rfl)
theorem dX4_spelled_8 : decode cX4_spelled 8 = .ok (.lload 5, 2) := dk_22 5 (dk_at dksX4_spelled_0 8 rfl rfl)
theorem dX4_spelled_10 : decode cX4_spelled 10 = .ok (.ldc2_w 385, 3) := dk_20 1 129 (dk_at dksX4_spelled_0 10 rfl rfl)
theorem dX4_spelled_13 : decode cX4_spelled 13 = .ok (.lmul, 1) := dk_105 (dk_at dksX4_spelled_0 13 rfl rfl)
theorem dX4_spelled_14 : decode cX4_spelled 14 = .ok (.iload_n 1, 1) := dk_27 (dk_at dksX4_spelled_0 14 rfl rfl)
theorem dX4_spelled_15 : decode cX4_spelled 15 = .ok (.i2l, 1) := dk_133 (dk_at dksX4_spelled_0 15 rfl rfl)
theorem dX4_spelled_16 : decode cX4_spelled 16 = .ok (.ladd, 1) := dk_97 (dk_at dksX4_spelled_0 16 rfl rfl)
theorem dX4_spelled_17 : decode cX4_spelled 17 = .ok (.ldc2_w 387, 3) := dk_20 1 131 (dk_at dksX4_spelled_0 17 rfl rfl)
theorem dX4_spelled_20 : decode cX4_spelled 20 = .ok (.lsub, 1) := dk_101 (dk_at dksX4_spelled_0 20 rfl rfl)
theorem dX4_spelled_21 : decode cX4_spelled 21 = .ok (.lstore 5, 2) := dk_55 5 (dk_at dksX4_spelled_0 21 rfl rfl)
theorem dX4_spelled_23 : decode cX4_spelled 23 = .ok (.iload_n 2, 1) := dk_28 (dk_at dksX4_spelled_0 23 rfl rfl)
theorem dX4_spelled_24 : decode cX4_spelled 24 = .ok (.ifCond .le 19, 3) := dk_158 0 19 (dk_at dksX4_spelled_1 0 rfl rfl)
theorem dX4_spelled_27 : decode cX4_spelled 27 = .ok (.lload 5, 2) := dk_22 5 (dk_at dksX4_spelled_1 3 rfl rfl)
theorem dX4_spelled_29 : decode cX4_spelled 29 = .ok (.ldc2_w 385, 3) := dk_20 1 129 (dk_at dksX4_spelled_1 5 rfl rfl)
theorem dX4_spelled_32 : decode cX4_spelled 32 = .ok (.lmul, 1) := dk_105 (dk_at dksX4_spelled_1 8 rfl rfl)
theorem dX4_spelled_33 : decode cX4_spelled 33 = .ok (.iload_n 2, 1) := dk_28 (dk_at dksX4_spelled_1 9 rfl rfl)
theorem dX4_spelled_34 : decode cX4_spelled 34 = .ok (.i2l, 1) := dk_133 (dk_at dksX4_spelled_1 10 rfl rfl)
theorem dX4_spelled_35 : decode cX4_spelled 35 = .ok (.ladd, 1) := dk_97 (dk_at dksX4_spelled_1 11 rfl rfl)
theorem dX4_spelled_36 : decode cX4_spelled 36 = .ok (.ldc2_w 387, 3) := dk_20 1 131 (dk_at dksX4_spelled_1 12 rfl rfl)
theorem dX4_spelled_39 : decode cX4_spelled 39 = .ok (.lsub, 1) := dk_101 (dk_at dksX4_spelled_1 15 rfl rfl)
theorem dX4_spelled_40 : decode cX4_spelled 40 = .ok (.goto 5, 3) := dk_167 0 5 (dk_at dksX4_spelled_1 16 rfl rfl)
theorem dX4_spelled_43 : decode cX4_spelled 43 = .ok (.lload 5, 2) := dk_22 5 (dk_at dksX4_spelled_1 19 rfl rfl)
theorem dX4_spelled_45 : decode cX4_spelled 45 = .ok (.lstore 5, 2) := dk_55 5 (dk_at dksX4_spelled_1 21 rfl rfl)
theorem dX4_spelled_47 : decode cX4_spelled 47 = .ok (.iload_n 3, 1) := dk_29 (dk_at dksX4_spelled_1 23 rfl rfl)
theorem dX4_spelled_48 : decode cX4_spelled 48 = .ok (.ifCond .le 19, 3) := dk_158 0 19 (dk_at dksX4_spelled_2 0 rfl rfl)
theorem dX4_spelled_51 : decode cX4_spelled 51 = .ok (.lload 5, 2) := dk_22 5 (dk_at dksX4_spelled_2 3 rfl rfl)
theorem dX4_spelled_53 : decode cX4_spelled 53 = .ok (.ldc2_w 385, 3) := dk_20 1 129 (dk_at dksX4_spelled_2 5 rfl rfl)
theorem dX4_spelled_56 : decode cX4_spelled 56 = .ok (.lmul, 1) := dk_105 (dk_at dksX4_spelled_2 8 rfl rfl)
theorem dX4_spelled_57 : decode cX4_spelled 57 = .ok (.iload_n 3, 1) := dk_29 (dk_at dksX4_spelled_2 9 rfl rfl)
theorem dX4_spelled_58 : decode cX4_spelled 58 = .ok (.i2l, 1) := dk_133 (dk_at dksX4_spelled_2 10 rfl rfl)
theorem dX4_spelled_59 : decode cX4_spelled 59 = .ok (.ladd, 1) := dk_97 (dk_at dksX4_spelled_2 11 rfl rfl)
theorem dX4_spelled_60 : decode cX4_spelled 60 = .ok (.ldc2_w 387, 3) := dk_20 1 131 (dk_at dksX4_spelled_2 12 rfl rfl)
theorem dX4_spelled_63 : decode cX4_spelled 63 = .ok (.lsub, 1) := dk_101 (dk_at dksX4_spelled_2 15 rfl rfl)
theorem dX4_spelled_64 : decode cX4_spelled 64 = .ok (.goto 5, 3) := dk_167 0 5 (dk_at dksX4_spelled_2 16 rfl rfl)
theorem dX4_spelled_67 : decode cX4_spelled 67 = .ok (.lload 5, 2) := dk_22 5 (dk_at dksX4_spelled_2 19 rfl rfl)
theorem dX4_spelled_69 : decode cX4_spelled 69 = .ok (.lstore 5, 2) := dk_55 5 (dk_at dksX4_spelled_2 21 rfl rfl)
theorem dX4_spelled_71 : decode cX4_spelled 71 = .ok (.iload 4, 2) := dk_21 4 (dk_at dksX4_spelled_3 0 rfl rfl)
theorem dX4_spelled_73 : decode cX4_spelled 73 = .ok (.ifCond .le 20, 3) := dk_158 0 20 (dk_at dksX4_spelled_3 2 rfl rfl)
theorem dX4_spelled_76 : decode cX4_spelled 76 = .ok (.lload 5, 2) := dk_22 5 (dk_at dksX4_spelled_3 5 rfl rfl)
theorem dX4_spelled_78 : decode cX4_spelled 78 = .ok (.ldc2_w 385, 3) := dk_20 1 129 (dk_at dksX4_spelled_3 7 rfl rfl)
theorem dX4_spelled_81 : decode cX4_spelled 81 = .ok (.lmul, 1) := dk_105 (dk_at dksX4_spelled_3 10 rfl rfl)
theorem dX4_spelled_82 : decode cX4_spelled 82 = .ok (.iload 4, 2) := dk_21 4 (dk_at dksX4_spelled_3 11 rfl rfl)
theorem dX4_spelled_84 : decode cX4_spelled 84 = .ok (.i2l, 1) := dk_133 (dk_at dksX4_spelled_3 13 rfl rfl)
theorem dX4_spelled_85 : decode cX4_spelled 85 = .ok (.ladd, 1) := dk_97 (dk_at dksX4_spelled_3 14 rfl rfl)
theorem dX4_spelled_86 : decode cX4_spelled 86 = .ok (.ldc2_w 387, 3) := dk_20 1 131 (dk_at dksX4_spelled_3 15 rfl rfl)
theorem dX4_spelled_89 : decode cX4_spelled 89 = .ok (.lsub, 1) := dk_101 (dk_at dksX4_spelled_3 18 rfl rfl)
theorem dX4_spelled_90 : decode cX4_spelled 90 = .ok (.goto 5, 3) := dk_167 0 5 (dk_at dksX4_spelled_3 19 rfl rfl)
theorem dX4_spelled_93 : decode cX4_spelled 93 = .ok (.lload 5, 2) := dk_22 5 (dk_at dksX4_spelled_3 22 rfl rfl)
theorem dX4_spelled_95 : decode cX4_spelled 95 = .ok (.lreturn, 1) := dk_173 (dk_at dksX4_spelled_4 0 rfl rfl)
abbrev cX4_isWord : ByteArray := prog_9_method_48_code
def yX4_isWord : MethodName := ⟨RX4, "isWord", "(J)Z"⟩
def dkwX4_isWord_0 : List UInt8 := [42, 180, 1, 119, 4, 160, 0, 16, 42, 180, 1, 125, 31, 148, 154, 0, 7, 4, 167, 0, 4, 3, 172]
abbrev dktX4_isWord_0 : List UInt8 := dkwX4_isWord_0 ++ []
theorem dksX4_isWord_0 : cX4_isWord.data.toList.drop 0 = dktX4_isWord_0 := by decide +kernel
theorem dX4_isWord_0 : decode cX4_isWord 0 = .ok (.aload_n 0, 1) := dk_42 (dk_at dksX4_isWord_0 0 rfl rfl)
theorem dX4_isWord_1 : decode cX4_isWord 1 = .ok (.getfield 375, 3) := dk_180 1 119 (dk_at dksX4_isWord_0 1 rfl rfl)
theorem dX4_isWord_4 : decode cX4_isWord 4 = .ok (.iconst 1, 1) := dk_4 (dk_at dksX4_isWord_0 4 rfl rfl)
theorem dX4_isWord_5 : decode cX4_isWord 5 = .ok (.if_icmp .ne 16, 3) := dk_160 0 16 (dk_at dksX4_isWord_0 5 rfl rfl)
theorem dX4_isWord_8 : decode cX4_isWord 8 = .ok (.aload_n 0, 1) := dk_42 (dk_at dksX4_isWord_0 8 rfl rfl)
theorem dX4_isWord_9 : decode cX4_isWord 9 = .ok (.getfield 381, 3) := dk_180 1 125 (dk_at dksX4_isWord_0 9 rfl rfl)
theorem dX4_isWord_12 : decode cX4_isWord 12 = .ok (.lload_n 1, 1) := dk_31 (dk_at dksX4_isWord_0 12 rfl rfl)
theorem dX4_isWord_13 : decode cX4_isWord 13 = .ok (.lcmp, 1) := dk_148 (dk_at dksX4_isWord_0 13 rfl rfl)
theorem dX4_isWord_14 : decode cX4_isWord 14 = .ok (.ifCond .ne 7, 3) := dk_154 0 7 (dk_at dksX4_isWord_0 14 rfl rfl)
theorem dX4_isWord_17 : decode cX4_isWord 17 = .ok (.iconst 1, 1) := dk_4 (dk_at dksX4_isWord_0 17 rfl rfl)
theorem dX4_isWord_18 : decode cX4_isWord 18 = .ok (.goto 4, 3) := dk_167 0 4 (dk_at dksX4_isWord_0 18 rfl rfl)
theorem dX4_isWord_21 : decode cX4_isWord 21 = .ok (.iconst 0, 1) := dk_3 (dk_at dksX4_isWord_0 21 rfl rfl)
theorem dX4_isWord_22 : decode cX4_isWord 22 = .ok (.ireturn, 1) := dk_172 (dk_at dksX4_isWord_0 22 rfl rfl)
abbrev cX4_wrong : ByteArray := prog_9_method_51_code
def yX4_wrong : MethodName := ⟨RX4, "wrong", "()V"⟩
def dkwX4_wrong_0 : List UInt8 := [42, 42, 180, 1, 119, 7, 160, 0, 7, 4, 167, 0, 4, 5, 42, 180, 1, 113, 182, 1, 150, 177]
abbrev dktX4_wrong_0 : List UInt8 := dkwX4_wrong_0 ++ []
theorem dksX4_wrong_0 : cX4_wrong.data.toList.drop 0 = dktX4_wrong_0 := by decide +kernel
theorem dX4_wrong_0 : decode cX4_wrong 0 = .ok (.aload_n 0, 1) := dk_42 (dk_at dksX4_wrong_0 0 rfl rfl)
theorem dX4_wrong_1 : decode cX4_wrong 1 = .ok (.aload_n 0, 1) := dk_42 (dk_at dksX4_wrong_0 1 rfl rfl)
theorem dX4_wrong_2 : decode cX4_wrong 2 = .ok (.getfield 375, 3) := dk_180 1 119 (dk_at dksX4_wrong_0 2 rfl rfl)
theorem dX4_wrong_5 : decode cX4_wrong 5 = .ok (.iconst 4, 1) := dk_7 (dk_at dksX4_wrong_0 5 rfl rfl)
theorem dX4_wrong_6 : decode cX4_wrong 6 = .ok (.if_icmp .ne 7, 3) := dk_160 0 7 (dk_at dksX4_wrong_0 6 rfl rfl)
theorem dX4_wrong_9 : decode cX4_wrong 9 = .ok (.iconst 1, 1) := dk_4 (dk_at dksX4_wrong_0 9 rfl rfl)
theorem dX4_wrong_10 : decode cX4_wrong 10 = .ok (.goto 4, 3) := dk_167 0 4 (dk_at dksX4_wrong_0 10 rfl rfl)
theorem dX4_wrong_13 : decode cX4_wrong 13 = .ok (.iconst 2, 1) := dk_5 (dk_at dksX4_wrong_0 13 rfl rfl)
theorem dX4_wrong_14 : decode cX4_wrong 14 = .ok (.aload_n 0, 1) := dk_42 (dk_at dksX4_wrong_0 14 rfl rfl)
theorem dX4_wrong_15 : decode cX4_wrong 15 = .ok (.getfield 369, 3) := dk_180 1 113 (dk_at dksX4_wrong_0 15 rfl rfl)
theorem dX4_wrong_18 : decode cX4_wrong 18 = .ok (.invokevirtual 406, 3) := dk_182 1 150 (dk_at dksX4_wrong_0 18 rfl rfl)
theorem dX4_wrong_21 : decode cX4_wrong 21 = .ok (.return_, 1) := dk_177 (dk_at dksX4_wrong_0 21 rfl rfl)
abbrev cX4_fail : ByteArray := prog_9_method_50_code
def yX4_fail : MethodName := ⟨RX4, "fail", "(II)V"⟩
def dkwX4_fail_0 : List UInt8 := [42, 180, 1, 144, 158, 0, 4, 177, 42, 27, 181, 1, 144, 42, 28, 181, 1, 147, 177]
abbrev dktX4_fail_0 : List UInt8 := dkwX4_fail_0 ++ []
theorem dksX4_fail_0 : cX4_fail.data.toList.drop 0 = dktX4_fail_0 := by decide +kernel
theorem dX4_fail_0 : decode cX4_fail 0 = .ok (.aload_n 0, 1) := dk_42 (dk_at dksX4_fail_0 0 rfl rfl)
theorem dX4_fail_1 : decode cX4_fail 1 = .ok (.getfield 400, 3) := dk_180 1 144 (dk_at dksX4_fail_0 1 rfl rfl)
theorem dX4_fail_4 : decode cX4_fail 4 = .ok (.ifCond .le 4, 3) := dk_158 0 4 (dk_at dksX4_fail_0 4 rfl rfl)
theorem dX4_fail_7 : decode cX4_fail 7 = .ok (.return_, 1) := dk_177 (dk_at dksX4_fail_0 7 rfl rfl)
theorem dX4_fail_8 : decode cX4_fail 8 = .ok (.aload_n 0, 1) := dk_42 (dk_at dksX4_fail_0 8 rfl rfl)
theorem dX4_fail_9 : decode cX4_fail 9 = .ok (.iload_n 1, 1) := dk_27 (dk_at dksX4_fail_0 9 rfl rfl)
theorem dX4_fail_10 : decode cX4_fail 10 = .ok (.putfield 400, 3) := dk_181 1 144 (dk_at dksX4_fail_0 10 rfl rfl)
theorem dX4_fail_13 : decode cX4_fail 13 = .ok (.aload_n 0, 1) := dk_42 (dk_at dksX4_fail_0 13 rfl rfl)
theorem dX4_fail_14 : decode cX4_fail 14 = .ok (.iload_n 2, 1) := dk_28 (dk_at dksX4_fail_0 14 rfl rfl)
theorem dX4_fail_15 : decode cX4_fail 15 = .ok (.putfield 403, 3) := dk_181 1 147 (dk_at dksX4_fail_0 15 rfl rfl)
theorem dX4_fail_18 : decode cX4_fail 18 = .ok (.return_, 1) := dk_177 (dk_at dksX4_fail_0 18 rfl rfl)
abbrev cX4_readJump : ByteArray := prog_9_method_56_code
def yX4_readJump : MethodName := ⟨RX4, "readJump", "(I)V"⟩
def dkwX4_readJump_4 : List UInt8 := [180, 0, 116, 27, 28, 153, 0, 7, 4, 167, 0, 4, 5, 79, 42, 182, 1, 156, 177]
abbrev dktX4_readJump_4 : List UInt8 := dkwX4_readJump_4 ++ []
def dkwX4_readJump_3 : List UInt8 := [16, 100, 16, 111, 16, 119, 16, 110, 3, 184, 1, 159, 182, 1, 163, 154, 0, 8, 42, 182, 1, 153, 177, 42]
abbrev dktX4_readJump_3 : List UInt8 := dkwX4_readJump_3 ++ dktX4_readJump_4
def dkwX4_readJump_2 : List UInt8 := [42, 182, 1, 156, 42, 16, 117, 16, 112, 3, 3, 3, 184, 1, 159, 182, 1, 163, 61, 28, 154, 0, 27, 42]
abbrev dktX4_readJump_2 : List UInt8 := dkwX4_readJump_2 ++ dktX4_readJump_3
def dkwX4_readJump_1 : List UInt8 := [180, 1, 144, 157, 0, 20, 42, 16, 105, 16, 102, 3, 3, 3, 184, 1, 159, 182, 1, 163, 154, 0, 4, 177]
abbrev dktX4_readJump_1 : List UInt8 := dkwX4_readJump_1 ++ dktX4_readJump_2
def dkwX4_readJump_0 : List UInt8 := [42, 180, 0, 119, 27, 42, 180, 1, 113, 79, 42, 180, 0, 104, 27, 42, 4, 16, 40, 182, 1, 177, 79, 42]
abbrev dktX4_readJump_0 : List UInt8 := dkwX4_readJump_0 ++ dktX4_readJump_1
theorem dksX4_readJump_0 : cX4_readJump.data.toList.drop 0 = dktX4_readJump_0 := by decide +kernel
theorem dksX4_readJump_1 : cX4_readJump.data.toList.drop 24 = dktX4_readJump_1 := dk_seg dksX4_readJump_0 24 rfl rfl
theorem dksX4_readJump_2 : cX4_readJump.data.toList.drop 48 = dktX4_readJump_2 := dk_seg dksX4_readJump_1 24 rfl rfl
theorem dksX4_readJump_3 : cX4_readJump.data.toList.drop 72 = dktX4_readJump_3 := dk_seg dksX4_readJump_2 24 rfl rfl
theorem dksX4_readJump_4 : cX4_readJump.data.toList.drop 96 = dktX4_readJump_4 := dk_seg dksX4_readJump_3 24 rfl rfl
theorem dX4_readJump_0 : decode cX4_readJump 0 = .ok (.aload_n 0, 1) := dk_42 (dk_at dksX4_readJump_0 0 rfl rfl)
theorem dX4_readJump_1 : decode cX4_readJump 1 = .ok (.getfield 119, 3) := dk_180 0 119 (dk_at dksX4_readJump_0 1 rfl rfl)
theorem dX4_readJump_4 : decode cX4_readJump 4 = .ok (.iload_n 1, 1) := dk_27 (dk_at dksX4_readJump_0 4 rfl rfl)
theorem dX4_readJump_5 : decode cX4_readJump 5 = .ok (.aload_n 0, 1) := dk_42 (dk_at dksX4_readJump_0 5 rfl rfl)
theorem dX4_readJump_6 : decode cX4_readJump 6 = .ok (.getfield 369, 3) := dk_180 1 113 (dk_at dksX4_readJump_0 6 rfl rfl)
theorem dX4_readJump_9 : decode cX4_readJump 9 = .ok (.iastore, 1) := dk_79 (dk_at dksX4_readJump_0 9 rfl rfl)
theorem dX4_readJump_10 : decode cX4_readJump 10 = .ok (.aload_n 0, 1) := dk_42 (dk_at dksX4_readJump_0 10 rfl rfl)
theorem dX4_readJump_11 : decode cX4_readJump 11 = .ok (.getfield 104, 3) := dk_180 0 104 (dk_at dksX4_readJump_0 11 rfl rfl)
theorem dX4_readJump_14 : decode cX4_readJump 14 = .ok (.iload_n 1, 1) := dk_27 (dk_at dksX4_readJump_0 14 rfl rfl)
theorem dX4_readJump_15 : decode cX4_readJump 15 = .ok (.aload_n 0, 1) := dk_42 (dk_at dksX4_readJump_0 15 rfl rfl)
theorem dX4_readJump_16 : decode cX4_readJump 16 = .ok (.iconst 1, 1) := dk_4 (dk_at dksX4_readJump_0 16 rfl rfl)
theorem dX4_readJump_17 : decode cX4_readJump 17 = .ok (.bipush 40, 2) := dk_16 40 (dk_at dksX4_readJump_0 17 rfl rfl)
theorem dX4_readJump_19 : decode cX4_readJump 19 = .ok (.invokevirtual 433, 3) := dk_182 1 177 (dk_at dksX4_readJump_0 19 rfl rfl)
theorem dX4_readJump_22 : decode cX4_readJump 22 = .ok (.iastore, 1) := dk_79 (dk_at dksX4_readJump_0 22 rfl rfl)
theorem dX4_readJump_23 : decode cX4_readJump 23 = .ok (.aload_n 0, 1) := dk_42 (dk_at dksX4_readJump_0 23 rfl rfl)
theorem dX4_readJump_24 : decode cX4_readJump 24 = .ok (.getfield 400, 3) := dk_180 1 144 (dk_at dksX4_readJump_1 0 rfl rfl)
theorem dX4_readJump_27 : decode cX4_readJump 27 = .ok (.ifCond .gt 20, 3) := dk_157 0 20 (dk_at dksX4_readJump_1 3 rfl rfl)
theorem dX4_readJump_30 : decode cX4_readJump 30 = .ok (.aload_n 0, 1) := dk_42 (dk_at dksX4_readJump_1 6 rfl rfl)
theorem dX4_readJump_31 : decode cX4_readJump 31 = .ok (.bipush 105, 2) := dk_16 105 (dk_at dksX4_readJump_1 7 rfl rfl)
theorem dX4_readJump_33 : decode cX4_readJump 33 = .ok (.bipush 102, 2) := dk_16 102 (dk_at dksX4_readJump_1 9 rfl rfl)
theorem dX4_readJump_35 : decode cX4_readJump 35 = .ok (.iconst 0, 1) := dk_3 (dk_at dksX4_readJump_1 11 rfl rfl)
theorem dX4_readJump_36 : decode cX4_readJump 36 = .ok (.iconst 0, 1) := dk_3 (dk_at dksX4_readJump_1 12 rfl rfl)
theorem dX4_readJump_37 : decode cX4_readJump 37 = .ok (.iconst 0, 1) := dk_3 (dk_at dksX4_readJump_1 13 rfl rfl)
theorem dX4_readJump_38 : decode cX4_readJump 38 = .ok (.invokestatic 415, 3) := dk_184 1 159 (dk_at dksX4_readJump_1 14 rfl rfl)
theorem dX4_readJump_41 : decode cX4_readJump 41 = .ok (.invokevirtual 419, 3) := dk_182 1 163 (dk_at dksX4_readJump_1 17 rfl rfl)
theorem dX4_readJump_44 : decode cX4_readJump 44 = .ok (.ifCond .ne 4, 3) := dk_154 0 4 (dk_at dksX4_readJump_1 20 rfl rfl)
theorem dX4_readJump_47 : decode cX4_readJump 47 = .ok (.return_, 1) := dk_177 (dk_at dksX4_readJump_1 23 rfl rfl)
theorem dX4_readJump_48 : decode cX4_readJump 48 = .ok (.aload_n 0, 1) := dk_42 (dk_at dksX4_readJump_2 0 rfl rfl)
theorem dX4_readJump_49 : decode cX4_readJump 49 = .ok (.invokevirtual 412, 3) := dk_182 1 156 (dk_at dksX4_readJump_2 1 rfl rfl)
theorem dX4_readJump_52 : decode cX4_readJump 52 = .ok (.aload_n 0, 1) := dk_42 (dk_at dksX4_readJump_2 4 rfl rfl)
theorem dX4_readJump_53 : decode cX4_readJump 53 = .ok (.bipush 117, 2) := dk_16 117 (dk_at dksX4_readJump_2 5 rfl rfl)
theorem dX4_readJump_55 : decode cX4_readJump 55 = .ok (.bipush 112, 2) := dk_16 112 (dk_at dksX4_readJump_2 7 rfl rfl)
theorem dX4_readJump_57 : decode cX4_readJump 57 = .ok (.iconst 0, 1) := dk_3 (dk_at dksX4_readJump_2 9 rfl rfl)
theorem dX4_readJump_58 : decode cX4_readJump 58 = .ok (.iconst 0, 1) := dk_3 (dk_at dksX4_readJump_2 10 rfl rfl)
theorem dX4_readJump_59 : decode cX4_readJump 59 = .ok (.iconst 0, 1) := dk_3 (dk_at dksX4_readJump_2 11 rfl rfl)
theorem dX4_readJump_60 : decode cX4_readJump 60 = .ok (.invokestatic 415, 3) := dk_184 1 159 (dk_at dksX4_readJump_2 12 rfl rfl)
theorem dX4_readJump_63 : decode cX4_readJump 63 = .ok (.invokevirtual 419, 3) := dk_182 1 163 (dk_at dksX4_readJump_2 15 rfl rfl)
theorem dX4_readJump_66 : decode cX4_readJump 66 = .ok (.istore_n 2, 1) := dk_61 (dk_at dksX4_readJump_2 18 rfl rfl)
theorem dX4_readJump_67 : decode cX4_readJump 67 = .ok (.iload_n 2, 1) := dk_28 (dk_at dksX4_readJump_2 19 rfl rfl)
theorem dX4_readJump_68 : decode cX4_readJump 68 = .ok (.ifCond .ne 27, 3) := dk_154 0 27 (dk_at dksX4_readJump_2 20 rfl rfl)
theorem dX4_readJump_71 : decode cX4_readJump 71 = .ok (.aload_n 0, 1) := dk_42 (dk_at dksX4_readJump_2 23 rfl rfl)
theorem dX4_readJump_72 : decode cX4_readJump 72 = .ok (.bipush 100, 2) := dk_16 100 (dk_at dksX4_readJump_3 0 rfl rfl)
theorem dX4_readJump_74 : decode cX4_readJump 74 = .ok (.bipush 111, 2) := dk_16 111 (dk_at dksX4_readJump_3 2 rfl rfl)
theorem dX4_readJump_76 : decode cX4_readJump 76 = .ok (.bipush 119, 2) := dk_16 119 (dk_at dksX4_readJump_3 4 rfl rfl)
theorem dX4_readJump_78 : decode cX4_readJump 78 = .ok (.bipush 110, 2) := dk_16 110 (dk_at dksX4_readJump_3 6 rfl rfl)
theorem dX4_readJump_80 : decode cX4_readJump 80 = .ok (.iconst 0, 1) := dk_3 (dk_at dksX4_readJump_3 8 rfl rfl)
theorem dX4_readJump_81 : decode cX4_readJump 81 = .ok (.invokestatic 415, 3) := dk_184 1 159 (dk_at dksX4_readJump_3 9 rfl rfl)
theorem dX4_readJump_84 : decode cX4_readJump 84 = .ok (.invokevirtual 419, 3) := dk_182 1 163 (dk_at dksX4_readJump_3 12 rfl rfl)
theorem dX4_readJump_87 : decode cX4_readJump 87 = .ok (.ifCond .ne 8, 3) := dk_154 0 8 (dk_at dksX4_readJump_3 15 rfl rfl)
theorem dX4_readJump_90 : decode cX4_readJump 90 = .ok (.aload_n 0, 1) := dk_42 (dk_at dksX4_readJump_3 18 rfl rfl)
theorem dX4_readJump_91 : decode cX4_readJump 91 = .ok (.invokevirtual 409, 3) := dk_182 1 153 (dk_at dksX4_readJump_3 19 rfl rfl)
theorem dX4_readJump_94 : decode cX4_readJump 94 = .ok (.return_, 1) := dk_177 (dk_at dksX4_readJump_3 22 rfl rfl)
theorem dX4_readJump_95 : decode cX4_readJump 95 = .ok (.aload_n 0, 1) := dk_42 (dk_at dksX4_readJump_3 23 rfl rfl)
theorem dX4_readJump_96 : decode cX4_readJump 96 = .ok (.getfield 116, 3) := dk_180 0 116 (dk_at dksX4_readJump_4 0 rfl rfl)
theorem dX4_readJump_99 : decode cX4_readJump 99 = .ok (.iload_n 1, 1) := dk_27 (dk_at dksX4_readJump_4 3 rfl rfl)
theorem dX4_readJump_100 : decode cX4_readJump 100 = .ok (.iload_n 2, 1) := dk_28 (dk_at dksX4_readJump_4 4 rfl rfl)
theorem dX4_readJump_101 : decode cX4_readJump 101 = .ok (.ifCond .eq 7, 3) := dk_153 0 7 (dk_at dksX4_readJump_4 5 rfl rfl)
theorem dX4_readJump_104 : decode cX4_readJump 104 = .ok (.iconst 1, 1) := dk_4 (dk_at dksX4_readJump_4 8 rfl rfl)
theorem dX4_readJump_105 : decode cX4_readJump 105 = .ok (.goto 4, 3) := dk_167 0 4 (dk_at dksX4_readJump_4 9 rfl rfl)
theorem dX4_readJump_108 : decode cX4_readJump 108 = .ok (.iconst 2, 1) := dk_5 (dk_at dksX4_readJump_4 12 rfl rfl)
theorem dX4_readJump_109 : decode cX4_readJump 109 = .ok (.iastore, 1) := dk_79 (dk_at dksX4_readJump_4 13 rfl rfl)
theorem dX4_readJump_110 : decode cX4_readJump 110 = .ok (.aload_n 0, 1) := dk_42 (dk_at dksX4_readJump_4 14 rfl rfl)
theorem dX4_readJump_111 : decode cX4_readJump 111 = .ok (.invokevirtual 412, 3) := dk_182 1 156 (dk_at dksX4_readJump_4 15 rfl rfl)
theorem dX4_readJump_114 : decode cX4_readJump 114 = .ok (.return_, 1) := dk_177 (dk_at dksX4_readJump_4 18 rfl rfl)
abbrev cX4_count : ByteArray := prog_9_method_52_code
def yX4_count : MethodName := ⟨RX4, "count", "(II)I"⟩
def dkwX4_count_2 : List UInt8 := [182, 1, 150, 42, 180, 1, 144, 158, 0, 5, 3, 172, 42, 180, 1, 139, 136, 62, 42, 182, 1, 156, 29, 172]
abbrev dktX4_count_2 : List UInt8 := dkwX4_count_2 ++ []
def dkwX4_count_1 : List UInt8 := [154, 0, 26, 42, 180, 1, 139, 27, 133, 28, 133, 184, 0, 239, 154, 0, 12, 42, 7, 42, 180, 1, 113]
abbrev dktX4_count_1 : List UInt8 := dkwX4_count_1 ++ dktX4_count_2
def dkwX4_count_0 : List UInt8 := [42, 180, 1, 144, 154, 0, 15, 42, 180, 1, 119, 5, 159, 0, 7, 42, 182, 1, 153, 42, 180, 1, 144]
abbrev dktX4_count_0 : List UInt8 := dkwX4_count_0 ++ dktX4_count_1
theorem dksX4_count_0 : cX4_count.data.toList.drop 0 = dktX4_count_0 := by decide +kernel
theorem dksX4_count_1 : cX4_count.data.toList.drop 23 = dktX4_count_1 := dk_seg dksX4_count_0 23 rfl rfl
theorem dksX4_count_2 : cX4_count.data.toList.drop 46 = dktX4_count_2 := dk_seg dksX4_count_1 23 rfl rfl
theorem dX4_count_0 : decode cX4_count 0 = .ok (.aload_n 0, 1) := dk_42 (dk_at dksX4_count_0 0 rfl rfl)
theorem dX4_count_1 : decode cX4_count 1 = .ok (.getfield 400, 3) := dk_180 1 144 (dk_at dksX4_count_0 1 rfl rfl)
theorem dX4_count_4 : decode cX4_count 4 = .ok (.ifCond .ne 15, 3) := dk_154 0 15 (dk_at dksX4_count_0 4 rfl rfl)
theorem dX4_count_7 : decode cX4_count 7 = .ok (.aload_n 0, 1) := dk_42 (dk_at dksX4_count_0 7 rfl rfl)
theorem dX4_count_8 : decode cX4_count 8 = .ok (.getfield 375, 3) := dk_180 1 119 (dk_at dksX4_count_0 8 rfl rfl)
theorem dX4_count_11 : decode cX4_count 11 = .ok (.iconst 2, 1) := dk_5 (dk_at dksX4_count_0 11 rfl rfl)
theorem dX4_count_12 : decode cX4_count 12 = .ok (.if_icmp .eq 7, 3) := dk_159 0 7 (dk_at dksX4_count_0 12 rfl rfl)
theorem dX4_count_15 : decode cX4_count 15 = .ok (.aload_n 0, 1) := dk_42 (dk_at dksX4_count_0 15 rfl rfl)
theorem dX4_count_16 : decode cX4_count 16 = .ok (.invokevirtual 409, 3) := dk_182 1 153 (dk_at dksX4_count_0 16 rfl rfl)
theorem dX4_count_19 : decode cX4_count 19 = .ok (.aload_n 0, 1) := dk_42 (dk_at dksX4_count_0 19 rfl rfl)
theorem dX4_count_20 : decode cX4_count 20 = .ok (.getfield 400, 3) := dk_180 1 144 (dk_at dksX4_count_0 20 rfl rfl)
theorem dX4_count_23 : decode cX4_count 23 = .ok (.ifCond .ne 26, 3) := dk_154 0 26 (dk_at dksX4_count_1 0 rfl rfl)
theorem dX4_count_26 : decode cX4_count 26 = .ok (.aload_n 0, 1) := dk_42 (dk_at dksX4_count_1 3 rfl rfl)
theorem dX4_count_27 : decode cX4_count 27 = .ok (.getfield 395, 3) := dk_180 1 139 (dk_at dksX4_count_1 4 rfl rfl)
theorem dX4_count_30 : decode cX4_count 30 = .ok (.iload_n 1, 1) := dk_27 (dk_at dksX4_count_1 7 rfl rfl)
theorem dX4_count_31 : decode cX4_count 31 = .ok (.i2l, 1) := dk_133 (dk_at dksX4_count_1 8 rfl rfl)
theorem dX4_count_32 : decode cX4_count 32 = .ok (.iload_n 2, 1) := dk_28 (dk_at dksX4_count_1 9 rfl rfl)
theorem dX4_count_33 : decode cX4_count 33 = .ok (.i2l, 1) := dk_133 (dk_at dksX4_count_1 10 rfl rfl)
theorem dX4_count_34 : decode cX4_count 34 = .ok (.invokestatic 239, 3) := dk_184 0 239 (dk_at dksX4_count_1 11 rfl rfl)
theorem dX4_count_37 : decode cX4_count 37 = .ok (.ifCond .ne 12, 3) := dk_154 0 12 (dk_at dksX4_count_1 14 rfl rfl)
theorem dX4_count_40 : decode cX4_count 40 = .ok (.aload_n 0, 1) := dk_42 (dk_at dksX4_count_1 17 rfl rfl)
theorem dX4_count_41 : decode cX4_count 41 = .ok (.iconst 4, 1) := dk_7 (dk_at dksX4_count_1 18 rfl rfl)
theorem dX4_count_42 : decode cX4_count 42 = .ok (.aload_n 0, 1) := dk_42 (dk_at dksX4_count_1 19 rfl rfl)
theorem dX4_count_43 : decode cX4_count 43 = .ok (.getfield 369, 3) := dk_180 1 113 (dk_at dksX4_count_1 20 rfl rfl)
theorem dX4_count_46 : decode cX4_count 46 = .ok (.invokevirtual 406, 3) := dk_182 1 150 (dk_at dksX4_count_2 0 rfl rfl)
theorem dX4_count_49 : decode cX4_count 49 = .ok (.aload_n 0, 1) := dk_42 (dk_at dksX4_count_2 3 rfl rfl)
theorem dX4_count_50 : decode cX4_count 50 = .ok (.getfield 400, 3) := dk_180 1 144 (dk_at dksX4_count_2 4 rfl rfl)
theorem dX4_count_53 : decode cX4_count 53 = .ok (.ifCond .le 5, 3) := dk_158 0 5 (dk_at dksX4_count_2 7 rfl rfl)
theorem dX4_count_56 : decode cX4_count 56 = .ok (.iconst 0, 1) := dk_3 (dk_at dksX4_count_2 10 rfl rfl)
theorem dX4_count_57 : decode cX4_count 57 = .ok (.ireturn, 1) := dk_172 (dk_at dksX4_count_2 11 rfl rfl)
theorem dX4_count_58 : decode cX4_count 58 = .ok (.aload_n 0, 1) := dk_42 (dk_at dksX4_count_2 12 rfl rfl)
theorem dX4_count_59 : decode cX4_count 59 = .ok (.getfield 395, 3) := dk_180 1 139 (dk_at dksX4_count_2 13 rfl rfl)
theorem dX4_count_62 : decode cX4_count 62 = .ok (.l2i, 1) := dk_136 (dk_at dksX4_count_2 16 rfl rfl)
theorem dX4_count_63 : decode cX4_count 63 = .ok (.istore_n 3, 1) := dk_62 (dk_at dksX4_count_2 17 rfl rfl)
theorem dX4_count_64 : decode cX4_count 64 = .ok (.aload_n 0, 1) := dk_42 (dk_at dksX4_count_2 18 rfl rfl)
theorem dX4_count_65 : decode cX4_count 65 = .ok (.invokevirtual 412, 3) := dk_182 1 156 (dk_at dksX4_count_2 19 rfl rfl)
theorem dX4_count_68 : decode cX4_count 68 = .ok (.iload_n 3, 1) := dk_29 (dk_at dksX4_count_2 22 rfl rfl)
theorem dX4_count_69 : decode cX4_count 69 = .ok (.ireturn, 1) := dk_172 (dk_at dksX4_count_2 23 rfl rfl)
abbrev cX4_readWhole : ByteArray := prog_9_method_55_code
def yX4_readWhole : MethodName := ⟨RX4, "readWhole", "(I)V"⟩
def dkwX4_readWhole_2 : List UInt8 := [180, 1, 139, 117, 167, 0, 7, 42, 180, 1, 139, 80, 42, 182, 1, 156, 177]
abbrev dktX4_readWhole_2 : List UInt8 := dkwX4_readWhole_2 ++ []
def dkwX4_readWhole_1 : List UInt8 := [180, 1, 119, 5, 159, 0, 8, 42, 182, 1, 153, 177, 42, 180, 0, 125, 27, 28, 153, 0, 11, 42]
abbrev dktX4_readWhole_1 : List UInt8 := dkwX4_readWhole_1 ++ dktX4_readWhole_2
def dkwX4_readWhole_0 : List UInt8 := [42, 180, 1, 144, 158, 0, 4, 177, 42, 16, 45, 182, 1, 183, 61, 28, 153, 0, 7, 42, 182, 1, 156, 42]
abbrev dktX4_readWhole_0 : List UInt8 := dkwX4_readWhole_0 ++ dktX4_readWhole_1
theorem dksX4_readWhole_0 : cX4_readWhole.data.toList.drop 0 = dktX4_readWhole_0 := by decide +kernel
theorem dksX4_readWhole_1 : cX4_readWhole.data.toList.drop 24 = dktX4_readWhole_1 := dk_seg dksX4_readWhole_0 24 rfl rfl
theorem dksX4_readWhole_2 : cX4_readWhole.data.toList.drop 46 = dktX4_readWhole_2 := dk_seg dksX4_readWhole_1 22 rfl rfl
theorem dX4_readWhole_0 : decode cX4_readWhole 0 = .ok (.aload_n 0, 1) := dk_42 (dk_at dksX4_readWhole_0 0 rfl rfl)
theorem dX4_readWhole_1 : decode cX4_readWhole 1 = .ok (.getfield 400, 3) := dk_180 1 144 (dk_at dksX4_readWhole_0 1 rfl rfl)
theorem dX4_readWhole_4 : decode cX4_readWhole 4 = .ok (.ifCond .le 4, 3) := dk_158 0 4 (dk_at dksX4_readWhole_0 4 rfl rfl)
theorem dX4_readWhole_7 : decode cX4_readWhole 7 = .ok (.return_, 1) := dk_177 (dk_at dksX4_readWhole_0 7 rfl rfl)
theorem dX4_readWhole_8 : decode cX4_readWhole 8 = .ok (.aload_n 0, 1) := dk_42 (dk_at dksX4_readWhole_0 8 rfl rfl)
theorem dX4_readWhole_9 : decode cX4_readWhole 9 = .ok (.bipush 45, 2) := dk_16 45 (dk_at dksX4_readWhole_0 9 rfl rfl)
theorem dX4_readWhole_11 : decode cX4_readWhole 11 = .ok (.invokevirtual 439, 3) := dk_182 1 183 (dk_at dksX4_readWhole_0 11 rfl rfl)
theorem dX4_readWhole_14 : decode cX4_readWhole 14 = .ok (.istore_n 2, 1) := dk_61 (dk_at dksX4_readWhole_0 14 rfl rfl)
theorem dX4_readWhole_15 : decode cX4_readWhole 15 = .ok (.iload_n 2, 1) := dk_28 (dk_at dksX4_readWhole_0 15 rfl rfl)
theorem dX4_readWhole_16 : decode cX4_readWhole 16 = .ok (.ifCond .eq 7, 3) := dk_153 0 7 (dk_at dksX4_readWhole_0 16 rfl rfl)
theorem dX4_readWhole_19 : decode cX4_readWhole 19 = .ok (.aload_n 0, 1) := dk_42 (dk_at dksX4_readWhole_0 19 rfl rfl)
theorem dX4_readWhole_20 : decode cX4_readWhole 20 = .ok (.invokevirtual 412, 3) := dk_182 1 156 (dk_at dksX4_readWhole_0 20 rfl rfl)
theorem dX4_readWhole_23 : decode cX4_readWhole 23 = .ok (.aload_n 0, 1) := dk_42 (dk_at dksX4_readWhole_0 23 rfl rfl)
theorem dX4_readWhole_24 : decode cX4_readWhole 24 = .ok (.getfield 375, 3) := dk_180 1 119 (dk_at dksX4_readWhole_1 0 rfl rfl)
theorem dX4_readWhole_27 : decode cX4_readWhole 27 = .ok (.iconst 2, 1) := dk_5 (dk_at dksX4_readWhole_1 3 rfl rfl)
theorem dX4_readWhole_28 : decode cX4_readWhole 28 = .ok (.if_icmp .eq 8, 3) := dk_159 0 8 (dk_at dksX4_readWhole_1 4 rfl rfl)
theorem dX4_readWhole_31 : decode cX4_readWhole 31 = .ok (.aload_n 0, 1) := dk_42 (dk_at dksX4_readWhole_1 7 rfl rfl)
theorem dX4_readWhole_32 : decode cX4_readWhole 32 = .ok (.invokevirtual 409, 3) := dk_182 1 153 (dk_at dksX4_readWhole_1 8 rfl rfl)
theorem dX4_readWhole_35 : decode cX4_readWhole 35 = .ok (.return_, 1) := dk_177 (dk_at dksX4_readWhole_1 11 rfl rfl)
theorem dX4_readWhole_36 : decode cX4_readWhole 36 = .ok (.aload_n 0, 1) := dk_42 (dk_at dksX4_readWhole_1 12 rfl rfl)
theorem dX4_readWhole_37 : decode cX4_readWhole 37 = .ok (.getfield 125, 3) := dk_180 0 125 (dk_at dksX4_readWhole_1 13 rfl rfl)
theorem dX4_readWhole_40 : decode cX4_readWhole 40 = .ok (.iload_n 1, 1) := dk_27 (dk_at dksX4_readWhole_1 16 rfl rfl)
theorem dX4_readWhole_41 : decode cX4_readWhole 41 = .ok (.iload_n 2, 1) := dk_28 (dk_at dksX4_readWhole_1 17 rfl rfl)
theorem dX4_readWhole_42 : decode cX4_readWhole 42 = .ok (.ifCond .eq 11, 3) := dk_153 0 11 (dk_at dksX4_readWhole_1 18 rfl rfl)
theorem dX4_readWhole_45 : decode cX4_readWhole 45 = .ok (.aload_n 0, 1) := dk_42 (dk_at dksX4_readWhole_1 21 rfl rfl)
theorem dX4_readWhole_46 : decode cX4_readWhole 46 = .ok (.getfield 395, 3) := dk_180 1 139 (dk_at dksX4_readWhole_2 0 rfl rfl)
theorem dX4_readWhole_49 : decode cX4_readWhole 49 = .ok (.lneg, 1) := dk_117 (dk_at dksX4_readWhole_2 3 rfl rfl)
theorem dX4_readWhole_50 : decode cX4_readWhole 50 = .ok (.goto 7, 3) := dk_167 0 7 (dk_at dksX4_readWhole_2 4 rfl rfl)
theorem dX4_readWhole_53 : decode cX4_readWhole 53 = .ok (.aload_n 0, 1) := dk_42 (dk_at dksX4_readWhole_2 7 rfl rfl)
theorem dX4_readWhole_54 : decode cX4_readWhole 54 = .ok (.getfield 395, 3) := dk_180 1 139 (dk_at dksX4_readWhole_2 8 rfl rfl)
theorem dX4_readWhole_57 : decode cX4_readWhole 57 = .ok (.lastore, 1) := dk_80 (dk_at dksX4_readWhole_2 11 rfl rfl)
theorem dX4_readWhole_58 : decode cX4_readWhole 58 = .ok (.aload_n 0, 1) := dk_42 (dk_at dksX4_readWhole_2 12 rfl rfl)
theorem dX4_readWhole_59 : decode cX4_readWhole 59 = .ok (.invokevirtual 412, 3) := dk_182 1 156 (dk_at dksX4_readWhole_2 13 rfl rfl)
theorem dX4_readWhole_62 : decode cX4_readWhole 62 = .ok (.return_, 1) := dk_177 (dk_at dksX4_readWhole_2 16 rfl rfl)
abbrev cX4_isSign : ByteArray := prog_9_method_49_code
def yX4_isSign : MethodName := ⟨RX4, "isSign", "(I)Z"⟩
def dkwX4_isSign_0 : List UInt8 := [42, 180, 1, 119, 6, 160, 0, 17, 42, 180, 1, 139, 27, 133, 148, 154, 0, 7, 4, 167, 0, 4, 3, 172]
abbrev dktX4_isSign_0 : List UInt8 := dkwX4_isSign_0 ++ []
theorem dksX4_isSign_0 : cX4_isSign.data.toList.drop 0 = dktX4_isSign_0 := by decide +kernel
theorem dX4_isSign_0 : decode cX4_isSign 0 = .ok (.aload_n 0, 1) := dk_42 (dk_at dksX4_isSign_0 0 rfl rfl)
theorem dX4_isSign_1 : decode cX4_isSign 1 = .ok (.getfield 375, 3) := dk_180 1 119 (dk_at dksX4_isSign_0 1 rfl rfl)
theorem dX4_isSign_4 : decode cX4_isSign 4 = .ok (.iconst 3, 1) := dk_6 (dk_at dksX4_isSign_0 4 rfl rfl)
theorem dX4_isSign_5 : decode cX4_isSign 5 = .ok (.if_icmp .ne 17, 3) := dk_160 0 17 (dk_at dksX4_isSign_0 5 rfl rfl)
theorem dX4_isSign_8 : decode cX4_isSign 8 = .ok (.aload_n 0, 1) := dk_42 (dk_at dksX4_isSign_0 8 rfl rfl)
theorem dX4_isSign_9 : decode cX4_isSign 9 = .ok (.getfield 395, 3) := dk_180 1 139 (dk_at dksX4_isSign_0 9 rfl rfl)
theorem dX4_isSign_12 : decode cX4_isSign 12 = .ok (.iload_n 1, 1) := dk_27 (dk_at dksX4_isSign_0 12 rfl rfl)
theorem dX4_isSign_13 : decode cX4_isSign 13 = .ok (.i2l, 1) := dk_133 (dk_at dksX4_isSign_0 13 rfl rfl)
theorem dX4_isSign_14 : decode cX4_isSign 14 = .ok (.lcmp, 1) := dk_148 (dk_at dksX4_isSign_0 14 rfl rfl)
theorem dX4_isSign_15 : decode cX4_isSign 15 = .ok (.ifCond .ne 7, 3) := dk_154 0 7 (dk_at dksX4_isSign_0 15 rfl rfl)
theorem dX4_isSign_18 : decode cX4_isSign 18 = .ok (.iconst 1, 1) := dk_4 (dk_at dksX4_isSign_0 18 rfl rfl)
theorem dX4_isSign_19 : decode cX4_isSign 19 = .ok (.goto 4, 3) := dk_167 0 4 (dk_at dksX4_isSign_0 19 rfl rfl)
theorem dX4_isSign_22 : decode cX4_isSign 22 = .ok (.iconst 0, 1) := dk_3 (dk_at dksX4_isSign_0 22 rfl rfl)
theorem dX4_isSign_23 : decode cX4_isSign 23 = .ok (.ireturn, 1) := dk_172 (dk_at dksX4_isSign_0 23 rfl rfl)
abbrev cX4_fault : ByteArray := prog_9_method_60_code
def yX4_fault : MethodName := ⟨RX4, "fault", "(I)I"⟩
def dkwX4_fault_1 : List UInt8 := [180, 0, 77, 167, 0, 4, 2, 172]
abbrev dktX4_fault_1 : List UInt8 := dkwX4_fault_1 ++ []
def dkwX4_fault_0 : List UInt8 := [42, 3, 181, 0, 212, 27, 154, 0, 10, 42, 180, 0, 74, 167, 0, 16, 27, 4, 160, 0, 10, 42]
abbrev dktX4_fault_0 : List UInt8 := dkwX4_fault_0 ++ dktX4_fault_1
theorem dksX4_fault_0 : cX4_fault.data.toList.drop 0 = dktX4_fault_0 := by decide +kernel
theorem dksX4_fault_1 : cX4_fault.data.toList.drop 22 = dktX4_fault_1 := dk_seg dksX4_fault_0 22 rfl rfl
theorem dX4_fault_0 : decode cX4_fault 0 = .ok (.aload_n 0, 1) := dk_42 (dk_at dksX4_fault_0 0 rfl rfl)
theorem dX4_fault_1 : decode cX4_fault 1 = .ok (.iconst 0, 1) := dk_3 (dk_at dksX4_fault_0 1 rfl rfl)
theorem dX4_fault_2 : decode cX4_fault 2 = .ok (.putfield 212, 3) := dk_181 0 212 (dk_at dksX4_fault_0 2 rfl rfl)
theorem dX4_fault_5 : decode cX4_fault 5 = .ok (.iload_n 1, 1) := dk_27 (dk_at dksX4_fault_0 5 rfl rfl)
theorem dX4_fault_6 : decode cX4_fault 6 = .ok (.ifCond .ne 10, 3) := dk_154 0 10 (dk_at dksX4_fault_0 6 rfl rfl)
theorem dX4_fault_9 : decode cX4_fault 9 = .ok (.aload_n 0, 1) := dk_42 (dk_at dksX4_fault_0 9 rfl rfl)
theorem dX4_fault_10 : decode cX4_fault 10 = .ok (.getfield 74, 3) := dk_180 0 74 (dk_at dksX4_fault_0 10 rfl rfl)
theorem dX4_fault_13 : decode cX4_fault 13 = .ok (.goto 16, 3) := dk_167 0 16 (dk_at dksX4_fault_0 13 rfl rfl)
theorem dX4_fault_16 : decode cX4_fault 16 = .ok (.iload_n 1, 1) := dk_27 (dk_at dksX4_fault_0 16 rfl rfl)
theorem dX4_fault_17 : decode cX4_fault 17 = .ok (.iconst 1, 1) := dk_4 (dk_at dksX4_fault_0 17 rfl rfl)
theorem dX4_fault_18 : decode cX4_fault 18 = .ok (.if_icmp .ne 10, 3) := dk_160 0 10 (dk_at dksX4_fault_0 18 rfl rfl)
theorem dX4_fault_21 : decode cX4_fault 21 = .ok (.aload_n 0, 1) := dk_42 (dk_at dksX4_fault_0 21 rfl rfl)
theorem dX4_fault_22 : decode cX4_fault 22 = .ok (.getfield 77, 3) := dk_180 0 77 (dk_at dksX4_fault_1 0 rfl rfl)
theorem dX4_fault_25 : decode cX4_fault 25 = .ok (.goto 4, 3) := dk_167 0 4 (dk_at dksX4_fault_1 3 rfl rfl)
theorem dX4_fault_28 : decode cX4_fault 28 = .ok (.iconst (-1), 1) := dk_2 (dk_at dksX4_fault_1 6 rfl rfl)
theorem dX4_fault_29 : decode cX4_fault 29 = .ok (.ireturn, 1) := dk_172 (dk_at dksX4_fault_1 7 rfl rfl)
abbrev cX4_run : ByteArray := prog_9_method_65_code
def yX4_run : MethodName := ⟨RX4, "run", "()I"⟩
def dkwX4_run_6 : List UInt8 := [96, 181, 1, 229, 42, 27, 182, 1, 235, 60, 167, 255, 187, 42, 180, 1, 205, 172]
abbrev dktX4_run_6 : List UInt8 := dkwX4_run_6 ++ []
def dkwX4_run_5 : List UInt8 := [181, 1, 226, 42, 180, 1, 226, 158, 0, 11, 42, 27, 181, 0, 134, 167, 255, 206, 42, 89, 180, 1, 229, 4]
abbrev dktX4_run_5 : List UInt8 := dkwX4_run_5 ++ dktX4_run_6
def dkwX4_run_4 : List UInt8 := [162, 0, 60, 42, 42, 180, 1, 229, 17, 19, 136, 160, 0, 7, 7, 167, 0, 8, 42, 27, 182, 1, 232]
abbrev dktX4_run_4 : List UInt8 := dkwX4_run_4 ++ dktX4_run_5
def dkwX4_run_3 : List UInt8 := [2, 181, 0, 134, 42, 3, 181, 1, 229, 3, 60, 42, 180, 1, 226, 154, 0, 68, 27, 42, 180, 0, 80]
abbrev dktX4_run_3 : List UInt8 := dkwX4_run_3 ++ dktX4_run_4
def dkwX4_run_2 : List UInt8 := [181, 1, 223, 42, 3, 181, 1, 208, 42, 3, 181, 1, 205, 42, 3, 181, 1, 212, 42, 3, 181, 1, 226, 42]
abbrev dktX4_run_2 : List UInt8 := dkwX4_run_2 ++ dktX4_run_3
def dkwX4_run_1 : List UInt8 := [3, 60, 27, 16, 20, 162, 0, 16, 42, 180, 0, 128, 27, 9, 80, 132, 1, 1, 167, 255, 240, 42, 4]
abbrev dktX4_run_1 : List UInt8 := dkwX4_run_1 ++ dktX4_run_2
def dkwX4_run_0 : List UInt8 := [42, 3, 181, 0, 212, 42, 3, 181, 0, 215, 42, 180, 0, 80, 156, 0, 10, 42, 16, 8, 182, 0, 252, 172]
abbrev dktX4_run_0 : List UInt8 := dkwX4_run_0 ++ dktX4_run_1
theorem dksX4_run_0 : cX4_run.data.toList.drop 0 = dktX4_run_0 := by decide +kernel
theorem dksX4_run_1 : cX4_run.data.toList.drop 24 = dktX4_run_1 := dk_seg dksX4_run_0 24 rfl rfl
theorem dksX4_run_2 : cX4_run.data.toList.drop 47 = dktX4_run_2 := dk_seg dksX4_run_1 23 rfl rfl
theorem dksX4_run_3 : cX4_run.data.toList.drop 71 = dktX4_run_3 := dk_seg dksX4_run_2 24 rfl rfl
theorem dksX4_run_4 : cX4_run.data.toList.drop 94 = dktX4_run_4 := dk_seg dksX4_run_3 23 rfl rfl
theorem dksX4_run_5 : cX4_run.data.toList.drop 117 = dktX4_run_5 := dk_seg dksX4_run_4 23 rfl rfl
theorem dksX4_run_6 : cX4_run.data.toList.drop 141 = dktX4_run_6 := dk_seg dksX4_run_5 24 rfl rfl
theorem dX4_run_0 : decode cX4_run 0 = .ok (.aload_n 0, 1) := dk_42 (dk_at dksX4_run_0 0 rfl rfl)
theorem dX4_run_1 : decode cX4_run 1 = .ok (.iconst 0, 1) := dk_3 (dk_at dksX4_run_0 1 rfl rfl)
theorem dX4_run_2 : decode cX4_run 2 = .ok (.putfield 212, 3) := dk_181 0 212 (dk_at dksX4_run_0 2 rfl rfl)
theorem dX4_run_5 : decode cX4_run 5 = .ok (.aload_n 0, 1) := dk_42 (dk_at dksX4_run_0 5 rfl rfl)
theorem dX4_run_6 : decode cX4_run 6 = .ok (.iconst 0, 1) := dk_3 (dk_at dksX4_run_0 6 rfl rfl)
theorem dX4_run_7 : decode cX4_run 7 = .ok (.putfield 215, 3) := dk_181 0 215 (dk_at dksX4_run_0 7 rfl rfl)
theorem dX4_run_10 : decode cX4_run 10 = .ok (.aload_n 0, 1) := dk_42 (dk_at dksX4_run_0 10 rfl rfl)
theorem dX4_run_11 : decode cX4_run 11 = .ok (.getfield 80, 3) := dk_180 0 80 (dk_at dksX4_run_0 11 rfl rfl)
theorem dX4_run_14 : decode cX4_run 14 = .ok (.ifCond .ge 10, 3) := dk_156 0 10 (dk_at dksX4_run_0 14 rfl rfl)
theorem dX4_run_17 : decode cX4_run 17 = .ok (.aload_n 0, 1) := dk_42 (dk_at dksX4_run_0 17 rfl rfl)
theorem dX4_run_18 : decode cX4_run 18 = .ok (.bipush 8, 2) := dk_16 8 (dk_at dksX4_run_0 18 rfl rfl)
theorem dX4_run_20 : decode cX4_run 20 = .ok (.invokevirtual 252, 3) := dk_182 0 252 (dk_at dksX4_run_0 20 rfl rfl)
theorem dX4_run_23 : decode cX4_run 23 = .ok (.ireturn, 1) := dk_172 (dk_at dksX4_run_0 23 rfl rfl)
theorem dX4_run_24 : decode cX4_run 24 = .ok (.iconst 0, 1) := dk_3 (dk_at dksX4_run_1 0 rfl rfl)
theorem dX4_run_25 : decode cX4_run 25 = .ok (.istore_n 1, 1) := dk_60 (dk_at dksX4_run_1 1 rfl rfl)
theorem dX4_run_26 : decode cX4_run 26 = .ok (.iload_n 1, 1) := dk_27 (dk_at dksX4_run_1 2 rfl rfl)
theorem dX4_run_27 : decode cX4_run 27 = .ok (.bipush 20, 2) := dk_16 20 (dk_at dksX4_run_1 3 rfl rfl)
theorem dX4_run_29 : decode cX4_run 29 = .ok (.if_icmp .ge 16, 3) := dk_162 0 16 (dk_at dksX4_run_1 5 rfl rfl)
theorem dX4_run_32 : decode cX4_run 32 = .ok (.aload_n 0, 1) := dk_42 (dk_at dksX4_run_1 8 rfl rfl)
theorem dX4_run_33 : decode cX4_run 33 = .ok (.getfield 128, 3) := dk_180 0 128 (dk_at dksX4_run_1 9 rfl rfl)
theorem dX4_run_36 : decode cX4_run 36 = .ok (.iload_n 1, 1) := dk_27 (dk_at dksX4_run_1 12 rfl rfl)
theorem dX4_run_37 : decode cX4_run 37 = .ok (.lconst 0, 1) := dk_9 (dk_at dksX4_run_1 13 rfl rfl)
theorem dX4_run_38 : decode cX4_run 38 = .ok (.lastore, 1) := dk_80 (dk_at dksX4_run_1 14 rfl rfl)
theorem dX4_run_39 : decode cX4_run 39 = .ok (.iinc 1 1, 3) := dk_132 1 1 (dk_at dksX4_run_1 15 rfl rfl)
theorem dX4_run_42 : decode cX4_run 42 = .ok (.goto (-16), 3) := dk_167 255 240 (dk_at dksX4_run_1 18 rfl rfl)
theorem dX4_run_45 : decode cX4_run 45 = .ok (.aload_n 0, 1) := dk_42 (dk_at dksX4_run_1 21 rfl rfl)
theorem dX4_run_46 : decode cX4_run 46 = .ok (.iconst 1, 1) := dk_4 (dk_at dksX4_run_1 22 rfl rfl)
theorem dX4_run_47 : decode cX4_run 47 = .ok (.putfield 479, 3) := dk_181 1 223 (dk_at dksX4_run_2 0 rfl rfl)
theorem dX4_run_50 : decode cX4_run 50 = .ok (.aload_n 0, 1) := dk_42 (dk_at dksX4_run_2 3 rfl rfl)
theorem dX4_run_51 : decode cX4_run 51 = .ok (.iconst 0, 1) := dk_3 (dk_at dksX4_run_2 4 rfl rfl)
theorem dX4_run_52 : decode cX4_run 52 = .ok (.putfield 464, 3) := dk_181 1 208 (dk_at dksX4_run_2 5 rfl rfl)
theorem dX4_run_55 : decode cX4_run 55 = .ok (.aload_n 0, 1) := dk_42 (dk_at dksX4_run_2 8 rfl rfl)
theorem dX4_run_56 : decode cX4_run 56 = .ok (.iconst 0, 1) := dk_3 (dk_at dksX4_run_2 9 rfl rfl)
theorem dX4_run_57 : decode cX4_run 57 = .ok (.putfield 461, 3) := dk_181 1 205 (dk_at dksX4_run_2 10 rfl rfl)
theorem dX4_run_60 : decode cX4_run 60 = .ok (.aload_n 0, 1) := dk_42 (dk_at dksX4_run_2 13 rfl rfl)
theorem dX4_run_61 : decode cX4_run 61 = .ok (.iconst 0, 1) := dk_3 (dk_at dksX4_run_2 14 rfl rfl)
theorem dX4_run_62 : decode cX4_run 62 = .ok (.putfield 468, 3) := dk_181 1 212 (dk_at dksX4_run_2 15 rfl rfl)
theorem dX4_run_65 : decode cX4_run 65 = .ok (.aload_n 0, 1) := dk_42 (dk_at dksX4_run_2 18 rfl rfl)
theorem dX4_run_66 : decode cX4_run 66 = .ok (.iconst 0, 1) := dk_3 (dk_at dksX4_run_2 19 rfl rfl)
theorem dX4_run_67 : decode cX4_run 67 = .ok (.putfield 482, 3) := dk_181 1 226 (dk_at dksX4_run_2 20 rfl rfl)
theorem dX4_run_70 : decode cX4_run 70 = .ok (.aload_n 0, 1) := dk_42 (dk_at dksX4_run_2 23 rfl rfl)
theorem dX4_run_71 : decode cX4_run 71 = .ok (.iconst (-1), 1) := dk_2 (dk_at dksX4_run_3 0 rfl rfl)
theorem dX4_run_72 : decode cX4_run 72 = .ok (.putfield 134, 3) := dk_181 0 134 (dk_at dksX4_run_3 1 rfl rfl)
theorem dX4_run_75 : decode cX4_run 75 = .ok (.aload_n 0, 1) := dk_42 (dk_at dksX4_run_3 4 rfl rfl)
theorem dX4_run_76 : decode cX4_run 76 = .ok (.iconst 0, 1) := dk_3 (dk_at dksX4_run_3 5 rfl rfl)
theorem dX4_run_77 : decode cX4_run 77 = .ok (.putfield 485, 3) := dk_181 1 229 (dk_at dksX4_run_3 6 rfl rfl)
theorem dX4_run_80 : decode cX4_run 80 = .ok (.iconst 0, 1) := dk_3 (dk_at dksX4_run_3 9 rfl rfl)
theorem dX4_run_81 : decode cX4_run 81 = .ok (.istore_n 1, 1) := dk_60 (dk_at dksX4_run_3 10 rfl rfl)
theorem dX4_run_82 : decode cX4_run 82 = .ok (.aload_n 0, 1) := dk_42 (dk_at dksX4_run_3 11 rfl rfl)
theorem dX4_run_83 : decode cX4_run 83 = .ok (.getfield 482, 3) := dk_180 1 226 (dk_at dksX4_run_3 12 rfl rfl)
theorem dX4_run_86 : decode cX4_run 86 = .ok (.ifCond .ne 68, 3) := dk_154 0 68 (dk_at dksX4_run_3 15 rfl rfl)
theorem dX4_run_89 : decode cX4_run 89 = .ok (.iload_n 1, 1) := dk_27 (dk_at dksX4_run_3 18 rfl rfl)
theorem dX4_run_90 : decode cX4_run 90 = .ok (.aload_n 0, 1) := dk_42 (dk_at dksX4_run_3 19 rfl rfl)
theorem dX4_run_91 : decode cX4_run 91 = .ok (.getfield 80, 3) := dk_180 0 80 (dk_at dksX4_run_3 20 rfl rfl)
theorem dX4_run_94 : decode cX4_run 94 = .ok (.if_icmp .ge 60, 3) := dk_162 0 60 (dk_at dksX4_run_4 0 rfl rfl)
theorem dX4_run_97 : decode cX4_run 97 = .ok (.aload_n 0, 1) := dk_42 (dk_at dksX4_run_4 3 rfl rfl)
theorem dX4_run_98 : decode cX4_run 98 = .ok (.aload_n 0, 1) := dk_42 (dk_at dksX4_run_4 4 rfl rfl)
theorem dX4_run_99 : decode cX4_run 99 = .ok (.getfield 485, 3) := dk_180 1 229 (dk_at dksX4_run_4 5 rfl rfl)
theorem dX4_run_102 : decode cX4_run 102 = .ok (.sipush 5000, 3) := dk_17 19 136 (dk_at dksX4_run_4 8 rfl rfl)
theorem dX4_run_105 : decode cX4_run 105 = .ok (.if_icmp .ne 7, 3) := dk_160 0 7 (dk_at dksX4_run_4 11 rfl rfl)
theorem dX4_run_108 : decode cX4_run 108 = .ok (.iconst 4, 1) := dk_7 (dk_at dksX4_run_4 14 rfl rfl)
theorem dX4_run_109 : decode cX4_run 109 = .ok (.goto 8, 3) := dk_167 0 8 (dk_at dksX4_run_4 15 rfl rfl)
theorem dX4_run_112 : decode cX4_run 112 = .ok (.aload_n 0, 1) := dk_42 (dk_at dksX4_run_4 18 rfl rfl)
theorem dX4_run_113 : decode cX4_run 113 = .ok (.iload_n 1, 1) := dk_27 (dk_at dksX4_run_4 19 rfl rfl)
theorem dX4_run_114 : decode cX4_run 114 = .ok (.invokevirtual 488, 3) := dk_182 1 232 (dk_at dksX4_run_4 20 rfl rfl)
theorem dX4_run_117 : decode cX4_run 117 = .ok (.putfield 482, 3) := dk_181 1 226 (dk_at dksX4_run_5 0 rfl rfl)
theorem dX4_run_120 : decode cX4_run 120 = .ok (.aload_n 0, 1) := dk_42 (dk_at dksX4_run_5 3 rfl rfl)
theorem dX4_run_121 : decode cX4_run 121 = .ok (.getfield 482, 3) := dk_180 1 226 (dk_at dksX4_run_5 4 rfl rfl)
theorem dX4_run_124 : decode cX4_run 124 = .ok (.ifCond .le 11, 3) := dk_158 0 11 (dk_at dksX4_run_5 7 rfl rfl)
theorem dX4_run_127 : decode cX4_run 127 = .ok (.aload_n 0, 1) := dk_42 (dk_at dksX4_run_5 10 rfl rfl)
theorem dX4_run_128 : decode cX4_run 128 = .ok (.iload_n 1, 1) := dk_27 (dk_at dksX4_run_5 11 rfl rfl)
theorem dX4_run_129 : decode cX4_run 129 = .ok (.putfield 134, 3) := dk_181 0 134 (dk_at dksX4_run_5 12 rfl rfl)
theorem dX4_run_132 : decode cX4_run 132 = .ok (.goto (-50), 3) := dk_167 255 206 (dk_at dksX4_run_5 15 rfl rfl)
theorem dX4_run_135 : decode cX4_run 135 = .ok (.aload_n 0, 1) := dk_42 (dk_at dksX4_run_5 18 rfl rfl)
theorem dX4_run_136 : decode cX4_run 136 = .ok (.dup, 1) := dk_89 (dk_at dksX4_run_5 19 rfl rfl)
theorem dX4_run_137 : decode cX4_run 137 = .ok (.getfield 485, 3) := dk_180 1 229 (dk_at dksX4_run_5 20 rfl rfl)
theorem dX4_run_140 : decode cX4_run 140 = .ok (.iconst 1, 1) := dk_4 (dk_at dksX4_run_5 23 rfl rfl)
theorem dX4_run_141 : decode cX4_run 141 = .ok (.iadd, 1) := dk_96 (dk_at dksX4_run_6 0 rfl rfl)
theorem dX4_run_142 : decode cX4_run 142 = .ok (.putfield 485, 3) := dk_181 1 229 (dk_at dksX4_run_6 1 rfl rfl)
theorem dX4_run_145 : decode cX4_run 145 = .ok (.aload_n 0, 1) := dk_42 (dk_at dksX4_run_6 4 rfl rfl)
theorem dX4_run_146 : decode cX4_run 146 = .ok (.iload_n 1, 1) := dk_27 (dk_at dksX4_run_6 5 rfl rfl)
theorem dX4_run_147 : decode cX4_run 147 = .ok (.invokevirtual 491, 3) := dk_182 1 235 (dk_at dksX4_run_6 6 rfl rfl)
theorem dX4_run_150 : decode cX4_run 150 = .ok (.istore_n 1, 1) := dk_60 (dk_at dksX4_run_6 9 rfl rfl)
theorem dX4_run_151 : decode cX4_run 151 = .ok (.goto (-69), 3) := dk_167 255 187 (dk_at dksX4_run_6 10 rfl rfl)
theorem dX4_run_154 : decode cX4_run 154 = .ok (.aload_n 0, 1) := dk_42 (dk_at dksX4_run_6 13 rfl rfl)
theorem dX4_run_155 : decode cX4_run 155 = .ok (.getfield 461, 3) := dk_180 1 205 (dk_at dksX4_run_6 14 rfl rfl)
theorem dX4_run_158 : decode cX4_run 158 = .ok (.ireturn, 1) := dk_172 (dk_at dksX4_run_6 17 rfl rfl)
abbrev cX4_alarms : ByteArray := prog_9_method_62_code
def yX4_alarms : MethodName := ⟨RX4, "alarms", "(I)I"⟩
def dkwX4_alarms_7 : List UInt8 := [180, 1, 205, 16, 40, 160, 0, 7, 6, 167, 0, 4, 3, 172, 3, 172]
abbrev dktX4_alarms_7 : List UInt8 := dkwX4_alarms_7 ++ []
def dkwX4_alarms_6 : List UInt8 := [153, 0, 7, 4, 167, 0, 4, 3, 172, 22, 4, 9, 148, 154, 0, 7, 5, 167, 0, 4, 3, 172, 42]
abbrev dktX4_alarms_6 : List UInt8 := dkwX4_alarms_6 ++ dktX4_alarms_7
def dkwX4_alarms_5 : List UInt8 := [184, 1, 195, 20, 1, 199, 148, 158, 0, 7, 4, 167, 0, 4, 3, 172, 32, 22, 4, 184, 1, 201]
abbrev dktX4_alarms_5 : List UInt8 := dkwX4_alarms_5 ++ dktX4_alarms_6
def dkwX4_alarms_4 : List UInt8 := [32, 22, 4, 97, 184, 1, 195, 20, 1, 199, 148, 158, 0, 7, 4, 167, 0, 4, 3, 172, 32, 22, 4, 101]
abbrev dktX4_alarms_4 : List UInt8 := dkwX4_alarms_4 ++ dktX4_alarms_5
def dkwX4_alarms_3 : List UInt8 := [170, 0, 0, 0, 116, 0, 0, 0, 1, 0, 0, 0, 5, 0, 0, 0, 33, 0, 0, 0, 53, 0, 0, 0, 73, 0, 0, 0, 88, 0, 0, 0, 101]
abbrev dktX4_alarms_3 : List UInt8 := dkwX4_alarms_3 ++ dktX4_alarms_4
def dkwX4_alarms_2 : List UInt8 := [55, 4, 42, 180, 0, 83, 27, 46]
abbrev dktX4_alarms_2 : List UInt8 := dkwX4_alarms_2 ++ dktX4_alarms_3
def dkwX4_alarms_1 : List UInt8 := [42, 180, 0, 128, 42, 180, 0, 86, 27, 46, 47, 65, 42, 180, 0, 128, 42, 180, 0, 89, 27, 46, 47]
abbrev dktX4_alarms_1 : List UInt8 := dkwX4_alarms_1 ++ dktX4_alarms_2
def dkwX4_alarms_0 : List UInt8 := [42, 180, 0, 83, 27, 46, 16, 6, 159, 0, 14, 42, 180, 0, 83, 27, 46, 16, 7, 160, 0, 5, 3, 172]
abbrev dktX4_alarms_0 : List UInt8 := dkwX4_alarms_0 ++ dktX4_alarms_1
theorem dksX4_alarms_0 : cX4_alarms.data.toList.drop 0 = dktX4_alarms_0 := by decide +kernel
theorem dksX4_alarms_1 : cX4_alarms.data.toList.drop 24 = dktX4_alarms_1 := dk_seg dksX4_alarms_0 24 rfl rfl
theorem dksX4_alarms_2 : cX4_alarms.data.toList.drop 47 = dktX4_alarms_2 := dk_seg dksX4_alarms_1 23 rfl rfl
theorem dksX4_alarms_3 : cX4_alarms.data.toList.drop 55 = dktX4_alarms_3 := dk_seg dksX4_alarms_2 8 rfl rfl
theorem dksX4_alarms_4 : cX4_alarms.data.toList.drop 88 = dktX4_alarms_4 := dk_seg dksX4_alarms_3 33 rfl rfl
theorem dksX4_alarms_5 : cX4_alarms.data.toList.drop 112 = dktX4_alarms_5 := dk_seg dksX4_alarms_4 24 rfl rfl
theorem dksX4_alarms_6 : cX4_alarms.data.toList.drop 134 = dktX4_alarms_6 := dk_seg dksX4_alarms_5 22 rfl rfl
theorem dksX4_alarms_7 : cX4_alarms.data.toList.drop 157 = dktX4_alarms_7 := dk_seg dksX4_alarms_6 23 rfl rfl
theorem dX4_alarms_0 : decode cX4_alarms 0 = .ok (.aload_n 0, 1) := dk_42 (dk_at dksX4_alarms_0 0 rfl rfl)
theorem dX4_alarms_1 : decode cX4_alarms 1 = .ok (.getfield 83, 3) := dk_180 0 83 (dk_at dksX4_alarms_0 1 rfl rfl)
theorem dX4_alarms_4 : decode cX4_alarms 4 = .ok (.iload_n 1, 1) := dk_27 (dk_at dksX4_alarms_0 4 rfl rfl)
theorem dX4_alarms_5 : decode cX4_alarms 5 = .ok (.iaload, 1) := dk_46 (dk_at dksX4_alarms_0 5 rfl rfl)
theorem dX4_alarms_6 : decode cX4_alarms 6 = .ok (.bipush 6, 2) := dk_16 6 (dk_at dksX4_alarms_0 6 rfl rfl)
theorem dX4_alarms_8 : decode cX4_alarms 8 = .ok (.if_icmp .eq 14, 3) := dk_159 0 14 (dk_at dksX4_alarms_0 8 rfl rfl)
theorem dX4_alarms_11 : decode cX4_alarms 11 = .ok (.aload_n 0, 1) := dk_42 (dk_at dksX4_alarms_0 11 rfl rfl)
theorem dX4_alarms_12 : decode cX4_alarms 12 = .ok (.getfield 83, 3) := dk_180 0 83 (dk_at dksX4_alarms_0 12 rfl rfl)
theorem dX4_alarms_15 : decode cX4_alarms 15 = .ok (.iload_n 1, 1) := dk_27 (dk_at dksX4_alarms_0 15 rfl rfl)
theorem dX4_alarms_16 : decode cX4_alarms 16 = .ok (.iaload, 1) := dk_46 (dk_at dksX4_alarms_0 16 rfl rfl)
theorem dX4_alarms_17 : decode cX4_alarms 17 = .ok (.bipush 7, 2) := dk_16 7 (dk_at dksX4_alarms_0 17 rfl rfl)
theorem dX4_alarms_19 : decode cX4_alarms 19 = .ok (.if_icmp .ne 5, 3) := dk_160 0 5 (dk_at dksX4_alarms_0 19 rfl rfl)
theorem dX4_alarms_22 : decode cX4_alarms 22 = .ok (.iconst 0, 1) := dk_3 (dk_at dksX4_alarms_0 22 rfl rfl)
theorem dX4_alarms_23 : decode cX4_alarms 23 = .ok (.ireturn, 1) := dk_172 (dk_at dksX4_alarms_0 23 rfl rfl)
theorem dX4_alarms_24 : decode cX4_alarms 24 = .ok (.aload_n 0, 1) := dk_42 (dk_at dksX4_alarms_1 0 rfl rfl)
theorem dX4_alarms_25 : decode cX4_alarms 25 = .ok (.getfield 128, 3) := dk_180 0 128 (dk_at dksX4_alarms_1 1 rfl rfl)
theorem dX4_alarms_28 : decode cX4_alarms 28 = .ok (.aload_n 0, 1) := dk_42 (dk_at dksX4_alarms_1 4 rfl rfl)
theorem dX4_alarms_29 : decode cX4_alarms 29 = .ok (.getfield 86, 3) := dk_180 0 86 (dk_at dksX4_alarms_1 5 rfl rfl)
theorem dX4_alarms_32 : decode cX4_alarms 32 = .ok (.iload_n 1, 1) := dk_27 (dk_at dksX4_alarms_1 8 rfl rfl)
theorem dX4_alarms_33 : decode cX4_alarms 33 = .ok (.iaload, 1) := dk_46 (dk_at dksX4_alarms_1 9 rfl rfl)
theorem dX4_alarms_34 : decode cX4_alarms 34 = .ok (.laload, 1) := dk_47 (dk_at dksX4_alarms_1 10 rfl rfl)
theorem dX4_alarms_35 : decode cX4_alarms 35 = .ok (.lstore_n 2, 1) := dk_65 (dk_at dksX4_alarms_1 11 rfl rfl)
theorem dX4_alarms_36 : decode cX4_alarms 36 = .ok (.aload_n 0, 1) := dk_42 (dk_at dksX4_alarms_1 12 rfl rfl)
theorem dX4_alarms_37 : decode cX4_alarms 37 = .ok (.getfield 128, 3) := dk_180 0 128 (dk_at dksX4_alarms_1 13 rfl rfl)
theorem dX4_alarms_40 : decode cX4_alarms 40 = .ok (.aload_n 0, 1) := dk_42 (dk_at dksX4_alarms_1 16 rfl rfl)
theorem dX4_alarms_41 : decode cX4_alarms 41 = .ok (.getfield 89, 3) := dk_180 0 89 (dk_at dksX4_alarms_1 17 rfl rfl)
theorem dX4_alarms_44 : decode cX4_alarms 44 = .ok (.iload_n 1, 1) := dk_27 (dk_at dksX4_alarms_1 20 rfl rfl)
theorem dX4_alarms_45 : decode cX4_alarms 45 = .ok (.iaload, 1) := dk_46 (dk_at dksX4_alarms_1 21 rfl rfl)
theorem dX4_alarms_46 : decode cX4_alarms 46 = .ok (.laload, 1) := dk_47 (dk_at dksX4_alarms_1 22 rfl rfl)
theorem dX4_alarms_47 : decode cX4_alarms 47 = .ok (.lstore 4, 2) := dk_55 4 (dk_at dksX4_alarms_2 0 rfl rfl)
theorem dX4_alarms_49 : decode cX4_alarms 49 = .ok (.aload_n 0, 1) := dk_42 (dk_at dksX4_alarms_2 2 rfl rfl)
theorem dX4_alarms_50 : decode cX4_alarms 50 = .ok (.getfield 83, 3) := dk_180 0 83 (dk_at dksX4_alarms_2 3 rfl rfl)
theorem dX4_alarms_53 : decode cX4_alarms 53 = .ok (.iload_n 1, 1) := dk_27 (dk_at dksX4_alarms_2 6 rfl rfl)
theorem dX4_alarms_54 : decode cX4_alarms 54 = .ok (.iaload, 1) := dk_46 (dk_at dksX4_alarms_2 7 rfl rfl)
theorem dX4_alarms_55 : decode cX4_alarms 55 = .ok (.tableswitch 116 1 5 #[33, 53, 73, 88, 101], 33) := by decide +kernel
theorem dX4_alarms_88 : decode cX4_alarms 88 = .ok (.lload_n 2, 1) := dk_32 (dk_at dksX4_alarms_4 0 rfl rfl)
theorem dX4_alarms_89 : decode cX4_alarms 89 = .ok (.lload 4, 2) := dk_22 4 (dk_at dksX4_alarms_4 1 rfl rfl)
theorem dX4_alarms_91 : decode cX4_alarms 91 = .ok (.ladd, 1) := dk_97 (dk_at dksX4_alarms_4 3 rfl rfl)
theorem dX4_alarms_92 : decode cX4_alarms 92 = .ok (.invokestatic 451, 3) := dk_184 1 195 (dk_at dksX4_alarms_4 4 rfl rfl)
theorem dX4_alarms_95 : decode cX4_alarms 95 = .ok (.ldc2_w 455, 3) := dk_20 1 199 (dk_at dksX4_alarms_4 7 rfl rfl)
theorem dX4_alarms_98 : decode cX4_alarms 98 = .ok (.lcmp, 1) := dk_148 (dk_at dksX4_alarms_4 10 rfl rfl)
theorem dX4_alarms_99 : decode cX4_alarms 99 = .ok (.ifCond .le 7, 3) := dk_158 0 7 (dk_at dksX4_alarms_4 11 rfl rfl)
theorem dX4_alarms_102 : decode cX4_alarms 102 = .ok (.iconst 1, 1) := dk_4 (dk_at dksX4_alarms_4 14 rfl rfl)
theorem dX4_alarms_103 : decode cX4_alarms 103 = .ok (.goto 4, 3) := dk_167 0 4 (dk_at dksX4_alarms_4 15 rfl rfl)
theorem dX4_alarms_106 : decode cX4_alarms 106 = .ok (.iconst 0, 1) := dk_3 (dk_at dksX4_alarms_4 18 rfl rfl)
theorem dX4_alarms_107 : decode cX4_alarms 107 = .ok (.ireturn, 1) := dk_172 (dk_at dksX4_alarms_4 19 rfl rfl)
theorem dX4_alarms_108 : decode cX4_alarms 108 = .ok (.lload_n 2, 1) := dk_32 (dk_at dksX4_alarms_4 20 rfl rfl)
theorem dX4_alarms_109 : decode cX4_alarms 109 = .ok (.lload 4, 2) := dk_22 4 (dk_at dksX4_alarms_4 21 rfl rfl)
theorem dX4_alarms_111 : decode cX4_alarms 111 = .ok (.lsub, 1) := dk_101 (dk_at dksX4_alarms_4 23 rfl rfl)
theorem dX4_alarms_112 : decode cX4_alarms 112 = .ok (.invokestatic 451, 3) := dk_184 1 195 (dk_at dksX4_alarms_5 0 rfl rfl)
theorem dX4_alarms_115 : decode cX4_alarms 115 = .ok (.ldc2_w 455, 3) := dk_20 1 199 (dk_at dksX4_alarms_5 3 rfl rfl)
theorem dX4_alarms_118 : decode cX4_alarms 118 = .ok (.lcmp, 1) := dk_148 (dk_at dksX4_alarms_5 6 rfl rfl)
theorem dX4_alarms_119 : decode cX4_alarms 119 = .ok (.ifCond .le 7, 3) := dk_158 0 7 (dk_at dksX4_alarms_5 7 rfl rfl)
theorem dX4_alarms_122 : decode cX4_alarms 122 = .ok (.iconst 1, 1) := dk_4 (dk_at dksX4_alarms_5 10 rfl rfl)
theorem dX4_alarms_123 : decode cX4_alarms 123 = .ok (.goto 4, 3) := dk_167 0 4 (dk_at dksX4_alarms_5 11 rfl rfl)
theorem dX4_alarms_126 : decode cX4_alarms 126 = .ok (.iconst 0, 1) := dk_3 (dk_at dksX4_alarms_5 14 rfl rfl)
theorem dX4_alarms_127 : decode cX4_alarms 127 = .ok (.ireturn, 1) := dk_172 (dk_at dksX4_alarms_5 15 rfl rfl)
theorem dX4_alarms_128 : decode cX4_alarms 128 = .ok (.lload_n 2, 1) := dk_32 (dk_at dksX4_alarms_5 16 rfl rfl)
theorem dX4_alarms_129 : decode cX4_alarms 129 = .ok (.lload 4, 2) := dk_22 4 (dk_at dksX4_alarms_5 17 rfl rfl)
theorem dX4_alarms_131 : decode cX4_alarms 131 = .ok (.invokestatic 457, 3) := dk_184 1 201 (dk_at dksX4_alarms_5 19 rfl rfl)
theorem dX4_alarms_134 : decode cX4_alarms 134 = .ok (.ifCond .eq 7, 3) := dk_153 0 7 (dk_at dksX4_alarms_6 0 rfl rfl)
theorem dX4_alarms_137 : decode cX4_alarms 137 = .ok (.iconst 1, 1) := dk_4 (dk_at dksX4_alarms_6 3 rfl rfl)
theorem dX4_alarms_138 : decode cX4_alarms 138 = .ok (.goto 4, 3) := dk_167 0 4 (dk_at dksX4_alarms_6 4 rfl rfl)
theorem dX4_alarms_141 : decode cX4_alarms 141 = .ok (.iconst 0, 1) := dk_3 (dk_at dksX4_alarms_6 7 rfl rfl)
theorem dX4_alarms_142 : decode cX4_alarms 142 = .ok (.ireturn, 1) := dk_172 (dk_at dksX4_alarms_6 8 rfl rfl)
theorem dX4_alarms_143 : decode cX4_alarms 143 = .ok (.lload 4, 2) := dk_22 4 (dk_at dksX4_alarms_6 9 rfl rfl)
theorem dX4_alarms_145 : decode cX4_alarms 145 = .ok (.lconst 0, 1) := dk_9 (dk_at dksX4_alarms_6 11 rfl rfl)
theorem dX4_alarms_146 : decode cX4_alarms 146 = .ok (.lcmp, 1) := dk_148 (dk_at dksX4_alarms_6 12 rfl rfl)
theorem dX4_alarms_147 : decode cX4_alarms 147 = .ok (.ifCond .ne 7, 3) := dk_154 0 7 (dk_at dksX4_alarms_6 13 rfl rfl)
theorem dX4_alarms_150 : decode cX4_alarms 150 = .ok (.iconst 2, 1) := dk_5 (dk_at dksX4_alarms_6 16 rfl rfl)
theorem dX4_alarms_151 : decode cX4_alarms 151 = .ok (.goto 4, 3) := dk_167 0 4 (dk_at dksX4_alarms_6 17 rfl rfl)
theorem dX4_alarms_154 : decode cX4_alarms 154 = .ok (.iconst 0, 1) := dk_3 (dk_at dksX4_alarms_6 20 rfl rfl)
theorem dX4_alarms_155 : decode cX4_alarms 155 = .ok (.ireturn, 1) := dk_172 (dk_at dksX4_alarms_6 21 rfl rfl)
theorem dX4_alarms_156 : decode cX4_alarms 156 = .ok (.aload_n 0, 1) := dk_42 (dk_at dksX4_alarms_6 22 rfl rfl)
theorem dX4_alarms_157 : decode cX4_alarms 157 = .ok (.getfield 461, 3) := dk_180 1 205 (dk_at dksX4_alarms_7 0 rfl rfl)
theorem dX4_alarms_160 : decode cX4_alarms 160 = .ok (.bipush 40, 2) := dk_16 40 (dk_at dksX4_alarms_7 3 rfl rfl)
theorem dX4_alarms_162 : decode cX4_alarms 162 = .ok (.if_icmp .ne 7, 3) := dk_160 0 7 (dk_at dksX4_alarms_7 5 rfl rfl)
theorem dX4_alarms_165 : decode cX4_alarms 165 = .ok (.iconst 3, 1) := dk_6 (dk_at dksX4_alarms_7 8 rfl rfl)
theorem dX4_alarms_166 : decode cX4_alarms 166 = .ok (.goto 4, 3) := dk_167 0 4 (dk_at dksX4_alarms_7 9 rfl rfl)
theorem dX4_alarms_169 : decode cX4_alarms 169 = .ok (.iconst 0, 1) := dk_3 (dk_at dksX4_alarms_7 12 rfl rfl)
theorem dX4_alarms_170 : decode cX4_alarms 170 = .ok (.ireturn, 1) := dk_172 (dk_at dksX4_alarms_7 13 rfl rfl)
theorem dX4_alarms_171 : decode cX4_alarms 171 = .ok (.iconst 0, 1) := dk_3 (dk_at dksX4_alarms_7 14 rfl rfl)
theorem dX4_alarms_172 : decode cX4_alarms 172 = .ok (.ireturn, 1) := dk_172 (dk_at dksX4_alarms_7 15 rfl rfl)
abbrev cX4_isOver : ByteArray := prog_9_method_61_code
def yX4_isOver : MethodName := ⟨RX4, "isOver", "(JJ)Z"⟩
def dkwX4_isOver_1 : List UInt8 := [167, 0, 4, 3, 172]
abbrev dktX4_isOver_1 : List UInt8 := dkwX4_isOver_1 ++ []
def dkwX4_isOver_0 : List UInt8 := [30, 9, 148, 153, 0, 23, 32, 184, 1, 195, 20, 1, 199, 30, 184, 1, 195, 109, 148, 158, 0, 7, 4]
abbrev dktX4_isOver_0 : List UInt8 := dkwX4_isOver_0 ++ dktX4_isOver_1
theorem dksX4_isOver_0 : cX4_isOver.data.toList.drop 0 = dktX4_isOver_0 := by decide +kernel
theorem dksX4_isOver_1 : cX4_isOver.data.toList.drop 23 = dktX4_isOver_1 := dk_seg dksX4_isOver_0 23 rfl rfl
theorem dX4_isOver_0 : decode cX4_isOver 0 = .ok (.lload_n 0, 1) := dk_30 (dk_at dksX4_isOver_0 0 rfl rfl)
theorem dX4_isOver_1 : decode cX4_isOver 1 = .ok (.lconst 0, 1) := dk_9 (dk_at dksX4_isOver_0 1 rfl rfl)
theorem dX4_isOver_2 : decode cX4_isOver 2 = .ok (.lcmp, 1) := dk_148 (dk_at dksX4_isOver_0 2 rfl rfl)
theorem dX4_isOver_3 : decode cX4_isOver 3 = .ok (.ifCond .eq 23, 3) := dk_153 0 23 (dk_at dksX4_isOver_0 3 rfl rfl)
theorem dX4_isOver_6 : decode cX4_isOver 6 = .ok (.lload_n 2, 1) := dk_32 (dk_at dksX4_isOver_0 6 rfl rfl)
theorem dX4_isOver_7 : decode cX4_isOver 7 = .ok (.invokestatic 451, 3) := dk_184 1 195 (dk_at dksX4_isOver_0 7 rfl rfl)
theorem dX4_isOver_10 : decode cX4_isOver 10 = .ok (.ldc2_w 455, 3) := dk_20 1 199 (dk_at dksX4_isOver_0 10 rfl rfl)
theorem dX4_isOver_13 : decode cX4_isOver 13 = .ok (.lload_n 0, 1) := dk_30 (dk_at dksX4_isOver_0 13 rfl rfl)
theorem dX4_isOver_14 : decode cX4_isOver 14 = .ok (.invokestatic 451, 3) := dk_184 1 195 (dk_at dksX4_isOver_0 14 rfl rfl)
theorem dX4_isOver_17 : decode cX4_isOver 17 = .ok (.ldiv, 1) := dk_109 (dk_at dksX4_isOver_0 17 rfl rfl)
theorem dX4_isOver_18 : decode cX4_isOver 18 = .ok (.lcmp, 1) := dk_148 (dk_at dksX4_isOver_0 18 rfl rfl)
theorem dX4_isOver_19 : decode cX4_isOver 19 = .ok (.ifCond .le 7, 3) := dk_158 0 7 (dk_at dksX4_isOver_0 19 rfl rfl)
theorem dX4_isOver_22 : decode cX4_isOver 22 = .ok (.iconst 1, 1) := dk_4 (dk_at dksX4_isOver_0 22 rfl rfl)
theorem dX4_isOver_23 : decode cX4_isOver 23 = .ok (.goto 4, 3) := dk_167 0 4 (dk_at dksX4_isOver_1 0 rfl rfl)
theorem dX4_isOver_26 : decode cX4_isOver 26 = .ok (.iconst 0, 1) := dk_3 (dk_at dksX4_isOver_1 3 rfl rfl)
theorem dX4_isOver_27 : decode cX4_isOver 27 = .ok (.ireturn, 1) := dk_172 (dk_at dksX4_isOver_1 4 rfl rfl)
abbrev cX4_does : ByteArray := prog_9_method_64_code
def yX4_does : MethodName := ⟨RX4, "does", "(I)I"⟩
def dkwX4_does_16 : List UInt8 := [153, 0, 14, 27, 42, 180, 0, 86, 27, 46, 96, 167, 0, 6, 27, 4, 96, 172]
abbrev dktX4_does_16 : List UInt8 := dkwX4_does_16 ++ []
def dkwX4_does_15 : List UInt8 := [21, 6, 153, 0, 14, 27, 42, 180, 0, 86, 27, 46, 100, 167, 0, 6, 27, 4, 96, 172, 21, 6]
abbrev dktX4_does_15 : List UInt8 := dkwX4_does_15 ++ dktX4_does_16
def dkwX4_does_14 : List UInt8 := [42, 89, 180, 1, 212, 21, 6, 153, 0, 12, 42, 180, 0, 86, 27, 46, 167, 0, 4, 3, 96, 181, 1, 212]
abbrev dktX4_does_14 : List UInt8 := dkwX4_does_14 ++ dktX4_does_15
def dkwX4_does_13 : List UInt8 := [42, 89, 180, 1, 205, 4, 96, 181, 1, 205, 42, 89, 180, 1, 212, 4, 96, 181, 1, 212, 27, 4, 96, 172]
abbrev dktX4_does_13 : List UInt8 := dkwX4_does_13 ++ dktX4_does_14
def dkwX4_does_12 : List UInt8 := [180, 0, 95, 27, 46, 32, 22, 4, 113, 80, 27, 4, 96, 172, 42, 180, 0, 131, 42, 180, 1, 205, 32, 80]
abbrev dktX4_does_12 : List UInt8 := dkwX4_does_12 ++ dktX4_does_13
def dkwX4_does_11 : List UInt8 := [182, 1, 219, 96, 96, 181, 1, 212, 42, 27, 32, 22, 4, 109, 182, 1, 215, 42, 180, 0, 128, 42]
abbrev dktX4_does_11 : List UInt8 := dkwX4_does_11 ++ dktX4_does_12
def dkwX4_does_10 : List UInt8 := [105, 182, 1, 215, 27, 4, 96, 172, 42, 89, 180, 1, 212, 6, 42, 32, 22, 4, 109, 184, 1, 195]
abbrev dktX4_does_10 : List UInt8 := dkwX4_does_10 ++ dktX4_does_11
def dkwX4_does_9 : List UInt8 := [42, 89, 180, 1, 212, 5, 42, 32, 184, 1, 195, 182, 1, 219, 96, 96, 181, 1, 212, 42, 27, 32, 22, 4]
abbrev dktX4_does_9 : List UInt8 := dkwX4_does_9 ++ dktX4_does_10
def dkwX4_does_8 : List UInt8 := [167, 0, 7, 32, 22, 4, 101, 182, 1, 215, 42, 89, 180, 1, 212, 5, 96, 181, 1, 212, 27, 4, 96, 172]
abbrev dktX4_does_8 : List UInt8 := dkwX4_does_8 ++ dktX4_does_9
def dkwX4_does_7 : List UInt8 := [181, 1, 212, 27, 4, 96, 172, 42, 27, 42, 180, 0, 83, 27, 46, 4, 160, 0, 10, 32, 22, 4, 97]
abbrev dktX4_does_7 : List UInt8 := dkwX4_does_7 ++ dktX4_does_8
def dkwX4_does_6 : List UInt8 := [42, 180, 0, 128, 42, 180, 0, 86, 27, 46, 42, 180, 0, 122, 27, 47, 80, 42, 89, 180, 1, 212, 4, 96]
abbrev dktX4_does_6 : List UInt8 := dkwX4_does_6 ++ dktX4_does_7
def dkwX4_does_5 : List UInt8 := [170, 0, 0, 0, 0, 0, 1, 19, 0, 0, 0, 0, 0, 0, 0, 6, 0, 0, 0, 44, 0, 0, 0, 75, 0, 0, 0, 75, 0, 0, 0, 115, 0, 0, 0, 147, 0, 0, 0, 197, 0, 0, 0, 231]
abbrev dktX4_does_5 : List UInt8 := dkwX4_does_5 ++ dktX4_does_6
def dkwX4_does_4 : List UInt8 := [160, 0, 7, 4, 167, 0, 4, 3, 160, 0, 7, 4, 167, 0, 4, 3, 54, 6, 42, 180, 0, 83, 27, 46]
abbrev dktX4_does_4 : List UInt8 := dkwX4_does_4 ++ dktX4_does_5
def dkwX4_does_3 : List UInt8 := [55, 4, 42, 180, 0, 98, 27, 46, 153, 0, 25, 42, 180, 1, 208, 42, 180, 0, 98, 27, 46, 4]
abbrev dktX4_does_3 : List UInt8 := dkwX4_does_3 ++ dktX4_does_4
def dkwX4_does_2 : List UInt8 := [20, 1, 84, 184, 0, 239, 153, 0, 17, 42, 180, 0, 128, 42, 180, 0, 89, 27, 46, 47, 167, 0, 4, 9]
abbrev dktX4_does_2 : List UInt8 := dkwX4_does_2 ++ dktX4_does_3
def dkwX4_does_1 : List UInt8 := [167, 0, 14, 42, 180, 0, 128, 42, 180, 0, 86, 27, 46, 47, 65, 42, 180, 0, 83, 27, 46, 133, 10]
abbrev dktX4_does_1 : List UInt8 := dkwX4_does_1 ++ dktX4_does_2
def dkwX4_does_0 : List UInt8 := [42, 180, 0, 83, 27, 46, 16, 6, 159, 0, 14, 42, 180, 0, 83, 27, 46, 16, 7, 160, 0, 7, 9]
abbrev dktX4_does_0 : List UInt8 := dkwX4_does_0 ++ dktX4_does_1
theorem dksX4_does_0 : cX4_does.data.toList.drop 0 = dktX4_does_0 := by decide +kernel
theorem dksX4_does_1 : cX4_does.data.toList.drop 23 = dktX4_does_1 := dk_seg dksX4_does_0 23 rfl rfl
theorem dksX4_does_2 : cX4_does.data.toList.drop 46 = dktX4_does_2 := dk_seg dksX4_does_1 23 rfl rfl
theorem dksX4_does_3 : cX4_does.data.toList.drop 70 = dktX4_does_3 := dk_seg dksX4_does_2 24 rfl rfl
theorem dksX4_does_4 : cX4_does.data.toList.drop 92 = dktX4_does_4 := dk_seg dksX4_does_3 22 rfl rfl
theorem dksX4_does_5 : cX4_does.data.toList.drop 116 = dktX4_does_5 := dk_seg dksX4_does_4 24 rfl rfl
theorem dksX4_does_6 : cX4_does.data.toList.drop 160 = dktX4_does_6 := dk_seg dksX4_does_5 44 rfl rfl
theorem dksX4_does_7 : cX4_does.data.toList.drop 184 = dktX4_does_7 := dk_seg dksX4_does_6 24 rfl rfl
theorem dksX4_does_8 : cX4_does.data.toList.drop 207 = dktX4_does_8 := dk_seg dksX4_does_7 23 rfl rfl
theorem dksX4_does_9 : cX4_does.data.toList.drop 231 = dktX4_does_9 := dk_seg dksX4_does_8 24 rfl rfl
theorem dksX4_does_10 : cX4_does.data.toList.drop 255 = dktX4_does_10 := dk_seg dksX4_does_9 24 rfl rfl
theorem dksX4_does_11 : cX4_does.data.toList.drop 277 = dktX4_does_11 := dk_seg dksX4_does_10 22 rfl rfl
theorem dksX4_does_12 : cX4_does.data.toList.drop 299 = dktX4_does_12 := dk_seg dksX4_does_11 22 rfl rfl
theorem dksX4_does_13 : cX4_does.data.toList.drop 323 = dktX4_does_13 := dk_seg dksX4_does_12 24 rfl rfl
theorem dksX4_does_14 : cX4_does.data.toList.drop 347 = dktX4_does_14 := dk_seg dksX4_does_13 24 rfl rfl
theorem dksX4_does_15 : cX4_does.data.toList.drop 371 = dktX4_does_15 := dk_seg dksX4_does_14 24 rfl rfl
theorem dksX4_does_16 : cX4_does.data.toList.drop 393 = dktX4_does_16 := dk_seg dksX4_does_15 22 rfl rfl
theorem dX4_does_0 : decode cX4_does 0 = .ok (.aload_n 0, 1) := dk_42 (dk_at dksX4_does_0 0 rfl rfl)
theorem dX4_does_1 : decode cX4_does 1 = .ok (.getfield 83, 3) := dk_180 0 83 (dk_at dksX4_does_0 1 rfl rfl)
theorem dX4_does_4 : decode cX4_does 4 = .ok (.iload_n 1, 1) := dk_27 (dk_at dksX4_does_0 4 rfl rfl)
theorem dX4_does_5 : decode cX4_does 5 = .ok (.iaload, 1) := dk_46 (dk_at dksX4_does_0 5 rfl rfl)
theorem dX4_does_6 : decode cX4_does 6 = .ok (.bipush 6, 2) := dk_16 6 (dk_at dksX4_does_0 6 rfl rfl)
theorem dX4_does_8 : decode cX4_does 8 = .ok (.if_icmp .eq 14, 3) := dk_159 0 14 (dk_at dksX4_does_0 8 rfl rfl)
theorem dX4_does_11 : decode cX4_does 11 = .ok (.aload_n 0, 1) := dk_42 (dk_at dksX4_does_0 11 rfl rfl)
theorem dX4_does_12 : decode cX4_does 12 = .ok (.getfield 83, 3) := dk_180 0 83 (dk_at dksX4_does_0 12 rfl rfl)
theorem dX4_does_15 : decode cX4_does 15 = .ok (.iload_n 1, 1) := dk_27 (dk_at dksX4_does_0 15 rfl rfl)
theorem dX4_does_16 : decode cX4_does 16 = .ok (.iaload, 1) := dk_46 (dk_at dksX4_does_0 16 rfl rfl)
theorem dX4_does_17 : decode cX4_does 17 = .ok (.bipush 7, 2) := dk_16 7 (dk_at dksX4_does_0 17 rfl rfl)
theorem dX4_does_19 : decode cX4_does 19 = .ok (.if_icmp .ne 7, 3) := dk_160 0 7 (dk_at dksX4_does_0 19 rfl rfl)
theorem dX4_does_22 : decode cX4_does 22 = .ok (.lconst 0, 1) := dk_9 (dk_at dksX4_does_0 22 rfl rfl)
theorem dX4_does_23 : decode cX4_does 23 = .ok (.goto 14, 3) := dk_167 0 14 (dk_at dksX4_does_1 0 rfl rfl)
theorem dX4_does_26 : decode cX4_does 26 = .ok (.aload_n 0, 1) := dk_42 (dk_at dksX4_does_1 3 rfl rfl)
theorem dX4_does_27 : decode cX4_does 27 = .ok (.getfield 128, 3) := dk_180 0 128 (dk_at dksX4_does_1 4 rfl rfl)
theorem dX4_does_30 : decode cX4_does 30 = .ok (.aload_n 0, 1) := dk_42 (dk_at dksX4_does_1 7 rfl rfl)
theorem dX4_does_31 : decode cX4_does 31 = .ok (.getfield 86, 3) := dk_180 0 86 (dk_at dksX4_does_1 8 rfl rfl)
theorem dX4_does_34 : decode cX4_does 34 = .ok (.iload_n 1, 1) := dk_27 (dk_at dksX4_does_1 11 rfl rfl)
theorem dX4_does_35 : decode cX4_does 35 = .ok (.iaload, 1) := dk_46 (dk_at dksX4_does_1 12 rfl rfl)
theorem dX4_does_36 : decode cX4_does 36 = .ok (.laload, 1) := dk_47 (dk_at dksX4_does_1 13 rfl rfl)
theorem dX4_does_37 : decode cX4_does 37 = .ok (.lstore_n 2, 1) := dk_65 (dk_at dksX4_does_1 14 rfl rfl)
theorem dX4_does_38 : decode cX4_does 38 = .ok (.aload_n 0, 1) := dk_42 (dk_at dksX4_does_1 15 rfl rfl)
theorem dX4_does_39 : decode cX4_does 39 = .ok (.getfield 83, 3) := dk_180 0 83 (dk_at dksX4_does_1 16 rfl rfl)
theorem dX4_does_42 : decode cX4_does 42 = .ok (.iload_n 1, 1) := dk_27 (dk_at dksX4_does_1 19 rfl rfl)
theorem dX4_does_43 : decode cX4_does 43 = .ok (.iaload, 1) := dk_46 (dk_at dksX4_does_1 20 rfl rfl)
theorem dX4_does_44 : decode cX4_does 44 = .ok (.i2l, 1) := dk_133 (dk_at dksX4_does_1 21 rfl rfl)
theorem dX4_does_45 : decode cX4_does 45 = .ok (.lconst 1, 1) := dk_10 (dk_at dksX4_does_1 22 rfl rfl)
theorem dX4_does_46 : decode cX4_does 46 = .ok (.ldc2_w 340, 3) := dk_20 1 84 (dk_at dksX4_does_2 0 rfl rfl)
theorem dX4_does_49 : decode cX4_does 49 = .ok (.invokestatic 239, 3) := dk_184 0 239 (dk_at dksX4_does_2 3 rfl rfl)
theorem dX4_does_52 : decode cX4_does 52 = .ok (.ifCond .eq 17, 3) := dk_153 0 17 (dk_at dksX4_does_2 6 rfl rfl)
theorem dX4_does_55 : decode cX4_does 55 = .ok (.aload_n 0, 1) := dk_42 (dk_at dksX4_does_2 9 rfl rfl)
theorem dX4_does_56 : decode cX4_does 56 = .ok (.getfield 128, 3) := dk_180 0 128 (dk_at dksX4_does_2 10 rfl rfl)
theorem dX4_does_59 : decode cX4_does 59 = .ok (.aload_n 0, 1) := dk_42 (dk_at dksX4_does_2 13 rfl rfl)
theorem dX4_does_60 : decode cX4_does 60 = .ok (.getfield 89, 3) := dk_180 0 89 (dk_at dksX4_does_2 14 rfl rfl)
theorem dX4_does_63 : decode cX4_does 63 = .ok (.iload_n 1, 1) := dk_27 (dk_at dksX4_does_2 17 rfl rfl)
theorem dX4_does_64 : decode cX4_does 64 = .ok (.iaload, 1) := dk_46 (dk_at dksX4_does_2 18 rfl rfl)
theorem dX4_does_65 : decode cX4_does 65 = .ok (.laload, 1) := dk_47 (dk_at dksX4_does_2 19 rfl rfl)
theorem dX4_does_66 : decode cX4_does 66 = .ok (.goto 4, 3) := dk_167 0 4 (dk_at dksX4_does_2 20 rfl rfl)
theorem dX4_does_69 : decode cX4_does 69 = .ok (.lconst 0, 1) := dk_9 (dk_at dksX4_does_2 23 rfl rfl)
theorem dX4_does_70 : decode cX4_does 70 = .ok (.lstore 4, 2) := dk_55 4 (dk_at dksX4_does_3 0 rfl rfl)
theorem dX4_does_72 : decode cX4_does 72 = .ok (.aload_n 0, 1) := dk_42 (dk_at dksX4_does_3 2 rfl rfl)
theorem dX4_does_73 : decode cX4_does 73 = .ok (.getfield 98, 3) := dk_180 0 98 (dk_at dksX4_does_3 3 rfl rfl)
theorem dX4_does_76 : decode cX4_does 76 = .ok (.iload_n 1, 1) := dk_27 (dk_at dksX4_does_3 6 rfl rfl)
theorem dX4_does_77 : decode cX4_does 77 = .ok (.iaload, 1) := dk_46 (dk_at dksX4_does_3 7 rfl rfl)
theorem dX4_does_78 : decode cX4_does 78 = .ok (.ifCond .eq 25, 3) := dk_153 0 25 (dk_at dksX4_does_3 8 rfl rfl)
theorem dX4_does_81 : decode cX4_does 81 = .ok (.aload_n 0, 1) := dk_42 (dk_at dksX4_does_3 11 rfl rfl)
theorem dX4_does_82 : decode cX4_does 82 = .ok (.getfield 464, 3) := dk_180 1 208 (dk_at dksX4_does_3 12 rfl rfl)
theorem dX4_does_85 : decode cX4_does 85 = .ok (.aload_n 0, 1) := dk_42 (dk_at dksX4_does_3 15 rfl rfl)
theorem dX4_does_86 : decode cX4_does 86 = .ok (.getfield 98, 3) := dk_180 0 98 (dk_at dksX4_does_3 16 rfl rfl)
theorem dX4_does_89 : decode cX4_does 89 = .ok (.iload_n 1, 1) := dk_27 (dk_at dksX4_does_3 19 rfl rfl)
theorem dX4_does_90 : decode cX4_does 90 = .ok (.iaload, 1) := dk_46 (dk_at dksX4_does_3 20 rfl rfl)
theorem dX4_does_91 : decode cX4_does 91 = .ok (.iconst 1, 1) := dk_4 (dk_at dksX4_does_3 21 rfl rfl)
theorem dX4_does_92 : decode cX4_does 92 = .ok (.if_icmp .ne 7, 3) := dk_160 0 7 (dk_at dksX4_does_4 0 rfl rfl)
theorem dX4_does_95 : decode cX4_does 95 = .ok (.iconst 1, 1) := dk_4 (dk_at dksX4_does_4 3 rfl rfl)
theorem dX4_does_96 : decode cX4_does 96 = .ok (.goto 4, 3) := dk_167 0 4 (dk_at dksX4_does_4 4 rfl rfl)
theorem dX4_does_99 : decode cX4_does 99 = .ok (.iconst 0, 1) := dk_3 (dk_at dksX4_does_4 7 rfl rfl)
theorem dX4_does_100 : decode cX4_does 100 = .ok (.if_icmp .ne 7, 3) := dk_160 0 7 (dk_at dksX4_does_4 8 rfl rfl)
theorem dX4_does_103 : decode cX4_does 103 = .ok (.iconst 1, 1) := dk_4 (dk_at dksX4_does_4 11 rfl rfl)
theorem dX4_does_104 : decode cX4_does 104 = .ok (.goto 4, 3) := dk_167 0 4 (dk_at dksX4_does_4 12 rfl rfl)
theorem dX4_does_107 : decode cX4_does 107 = .ok (.iconst 0, 1) := dk_3 (dk_at dksX4_does_4 15 rfl rfl)
theorem dX4_does_108 : decode cX4_does 108 = .ok (.istore 6, 2) := dk_54 6 (dk_at dksX4_does_4 16 rfl rfl)
theorem dX4_does_110 : decode cX4_does 110 = .ok (.aload_n 0, 1) := dk_42 (dk_at dksX4_does_4 18 rfl rfl)
theorem dX4_does_111 : decode cX4_does 111 = .ok (.getfield 83, 3) := dk_180 0 83 (dk_at dksX4_does_4 19 rfl rfl)
theorem dX4_does_114 : decode cX4_does 114 = .ok (.iload_n 1, 1) := dk_27 (dk_at dksX4_does_4 22 rfl rfl)
theorem dX4_does_115 : decode cX4_does 115 = .ok (.iaload, 1) := dk_46 (dk_at dksX4_does_4 23 rfl rfl)
theorem dX4_does_116 : decode cX4_does 116 = .ok (.tableswitch 275 0 6 #[44, 75, 75, 115, 147, 197, 231], 44) := by decide +kernel
theorem dX4_does_160 : decode cX4_does 160 = .ok (.aload_n 0, 1) := dk_42 (dk_at dksX4_does_6 0 rfl rfl)
theorem dX4_does_161 : decode cX4_does 161 = .ok (.getfield 128, 3) := dk_180 0 128 (dk_at dksX4_does_6 1 rfl rfl)
theorem dX4_does_164 : decode cX4_does 164 = .ok (.aload_n 0, 1) := dk_42 (dk_at dksX4_does_6 4 rfl rfl)
theorem dX4_does_165 : decode cX4_does 165 = .ok (.getfield 86, 3) := dk_180 0 86 (dk_at dksX4_does_6 5 rfl rfl)
theorem dX4_does_168 : decode cX4_does 168 = .ok (.iload_n 1, 1) := dk_27 (dk_at dksX4_does_6 8 rfl rfl)
theorem dX4_does_169 : decode cX4_does 169 = .ok (.iaload, 1) := dk_46 (dk_at dksX4_does_6 9 rfl rfl)
theorem dX4_does_170 : decode cX4_does 170 = .ok (.aload_n 0, 1) := dk_42 (dk_at dksX4_does_6 10 rfl rfl)
theorem dX4_does_171 : decode cX4_does 171 = .ok (.getfield 122, 3) := dk_180 0 122 (dk_at dksX4_does_6 11 rfl rfl)
theorem dX4_does_174 : decode cX4_does 174 = .ok (.iload_n 1, 1) := dk_27 (dk_at dksX4_does_6 14 rfl rfl)
theorem dX4_does_175 : decode cX4_does 175 = .ok (.laload, 1) := dk_47 (dk_at dksX4_does_6 15 rfl rfl)
theorem dX4_does_176 : decode cX4_does 176 = .ok (.lastore, 1) := dk_80 (dk_at dksX4_does_6 16 rfl rfl)
theorem dX4_does_177 : decode cX4_does 177 = .ok (.aload_n 0, 1) := dk_42 (dk_at dksX4_does_6 17 rfl rfl)
theorem dX4_does_178 : decode cX4_does 178 = .ok (.dup, 1) := dk_89 (dk_at dksX4_does_6 18 rfl rfl)
theorem dX4_does_179 : decode cX4_does 179 = .ok (.getfield 468, 3) := dk_180 1 212 (dk_at dksX4_does_6 19 rfl rfl)
theorem dX4_does_182 : decode cX4_does 182 = .ok (.iconst 1, 1) := dk_4 (dk_at dksX4_does_6 22 rfl rfl)
theorem dX4_does_183 : decode cX4_does 183 = .ok (.iadd, 1) := dk_96 (dk_at dksX4_does_6 23 rfl rfl)
theorem dX4_does_184 : decode cX4_does 184 = .ok (.putfield 468, 3) := dk_181 1 212 (dk_at dksX4_does_7 0 rfl rfl)
theorem dX4_does_187 : decode cX4_does 187 = .ok (.iload_n 1, 1) := dk_27 (dk_at dksX4_does_7 3 rfl rfl)
theorem dX4_does_188 : decode cX4_does 188 = .ok (.iconst 1, 1) := dk_4 (dk_at dksX4_does_7 4 rfl rfl)
theorem dX4_does_189 : decode cX4_does 189 = .ok (.iadd, 1) := dk_96 (dk_at dksX4_does_7 5 rfl rfl)
theorem dX4_does_190 : decode cX4_does 190 = .ok (.ireturn, 1) := dk_172 (dk_at dksX4_does_7 6 rfl rfl)
theorem dX4_does_191 : decode cX4_does 191 = .ok (.aload_n 0, 1) := dk_42 (dk_at dksX4_does_7 7 rfl rfl)
theorem dX4_does_192 : decode cX4_does 192 = .ok (.iload_n 1, 1) := dk_27 (dk_at dksX4_does_7 8 rfl rfl)
theorem dX4_does_193 : decode cX4_does 193 = .ok (.aload_n 0, 1) := dk_42 (dk_at dksX4_does_7 9 rfl rfl)
theorem dX4_does_194 : decode cX4_does 194 = .ok (.getfield 83, 3) := dk_180 0 83 (dk_at dksX4_does_7 10 rfl rfl)
theorem dX4_does_197 : decode cX4_does 197 = .ok (.iload_n 1, 1) := dk_27 (dk_at dksX4_does_7 13 rfl rfl)
theorem dX4_does_198 : decode cX4_does 198 = .ok (.iaload, 1) := dk_46 (dk_at dksX4_does_7 14 rfl rfl)
theorem dX4_does_199 : decode cX4_does 199 = .ok (.iconst 1, 1) := dk_4 (dk_at dksX4_does_7 15 rfl rfl)
theorem dX4_does_200 : decode cX4_does 200 = .ok (.if_icmp .ne 10, 3) := dk_160 0 10 (dk_at dksX4_does_7 16 rfl rfl)
theorem dX4_does_203 : decode cX4_does 203 = .ok (.lload_n 2, 1) := dk_32 (dk_at dksX4_does_7 19 rfl rfl)
theorem dX4_does_204 : decode cX4_does 204 = .ok (.lload 4, 2) := dk_22 4 (dk_at dksX4_does_7 20 rfl rfl)
theorem dX4_does_206 : decode cX4_does 206 = .ok (.ladd, 1) := dk_97 (dk_at dksX4_does_7 22 rfl rfl)
theorem dX4_does_207 : decode cX4_does 207 = .ok (.goto 7, 3) := dk_167 0 7 (dk_at dksX4_does_8 0 rfl rfl)
theorem dX4_does_210 : decode cX4_does 210 = .ok (.lload_n 2, 1) := dk_32 (dk_at dksX4_does_8 3 rfl rfl)
theorem dX4_does_211 : decode cX4_does 211 = .ok (.lload 4, 2) := dk_22 4 (dk_at dksX4_does_8 4 rfl rfl)
theorem dX4_does_213 : decode cX4_does 213 = .ok (.lsub, 1) := dk_101 (dk_at dksX4_does_8 6 rfl rfl)
theorem dX4_does_214 : decode cX4_does 214 = .ok (.invokevirtual 471, 3) := dk_182 1 215 (dk_at dksX4_does_8 7 rfl rfl)
theorem dX4_does_217 : decode cX4_does 217 = .ok (.aload_n 0, 1) := dk_42 (dk_at dksX4_does_8 10 rfl rfl)
theorem dX4_does_218 : decode cX4_does 218 = .ok (.dup, 1) := dk_89 (dk_at dksX4_does_8 11 rfl rfl)
theorem dX4_does_219 : decode cX4_does 219 = .ok (.getfield 468, 3) := dk_180 1 212 (dk_at dksX4_does_8 12 rfl rfl)
theorem dX4_does_222 : decode cX4_does 222 = .ok (.iconst 2, 1) := dk_5 (dk_at dksX4_does_8 15 rfl rfl)
theorem dX4_does_223 : decode cX4_does 223 = .ok (.iadd, 1) := dk_96 (dk_at dksX4_does_8 16 rfl rfl)
theorem dX4_does_224 : decode cX4_does 224 = .ok (.putfield 468, 3) := dk_181 1 212 (dk_at dksX4_does_8 17 rfl rfl)
theorem dX4_does_227 : decode cX4_does 227 = .ok (.iload_n 1, 1) := dk_27 (dk_at dksX4_does_8 20 rfl rfl)
theorem dX4_does_228 : decode cX4_does 228 = .ok (.iconst 1, 1) := dk_4 (dk_at dksX4_does_8 21 rfl rfl)
theorem dX4_does_229 : decode cX4_does 229 = .ok (.iadd, 1) := dk_96 (dk_at dksX4_does_8 22 rfl rfl)
theorem dX4_does_230 : decode cX4_does 230 = .ok (.ireturn, 1) := dk_172 (dk_at dksX4_does_8 23 rfl rfl)
theorem dX4_does_231 : decode cX4_does 231 = .ok (.aload_n 0, 1) := dk_42 (dk_at dksX4_does_9 0 rfl rfl)
theorem dX4_does_232 : decode cX4_does 232 = .ok (.dup, 1) := dk_89 (dk_at dksX4_does_9 1 rfl rfl)
theorem dX4_does_233 : decode cX4_does 233 = .ok (.getfield 468, 3) := dk_180 1 212 (dk_at dksX4_does_9 2 rfl rfl)
theorem dX4_does_236 : decode cX4_does 236 = .ok (.iconst 2, 1) := dk_5 (dk_at dksX4_does_9 5 rfl rfl)
theorem dX4_does_237 : decode cX4_does 237 = .ok (.aload_n 0, 1) := dk_42 (dk_at dksX4_does_9 6 rfl rfl)
theorem dX4_does_238 : decode cX4_does 238 = .ok (.lload_n 2, 1) := dk_32 (dk_at dksX4_does_9 7 rfl rfl)
theorem dX4_does_239 : decode cX4_does 239 = .ok (.invokestatic 451, 3) := dk_184 1 195 (dk_at dksX4_does_9 8 rfl rfl)
theorem dX4_does_242 : decode cX4_does 242 = .ok (.invokevirtual 475, 3) := dk_182 1 219 (dk_at dksX4_does_9 11 rfl rfl)
theorem dX4_does_245 : decode cX4_does 245 = .ok (.iadd, 1) := dk_96 (dk_at dksX4_does_9 14 rfl rfl)
theorem dX4_does_246 : decode cX4_does 246 = .ok (.iadd, 1) := dk_96 (dk_at dksX4_does_9 15 rfl rfl)
theorem dX4_does_247 : decode cX4_does 247 = .ok (.putfield 468, 3) := dk_181 1 212 (dk_at dksX4_does_9 16 rfl rfl)
theorem dX4_does_250 : decode cX4_does 250 = .ok (.aload_n 0, 1) := dk_42 (dk_at dksX4_does_9 19 rfl rfl)
theorem dX4_does_251 : decode cX4_does 251 = .ok (.iload_n 1, 1) := dk_27 (dk_at dksX4_does_9 20 rfl rfl)
theorem dX4_does_252 : decode cX4_does 252 = .ok (.lload_n 2, 1) := dk_32 (dk_at dksX4_does_9 21 rfl rfl)
theorem dX4_does_253 : decode cX4_does 253 = .ok (.lload 4, 2) := dk_22 4 (dk_at dksX4_does_9 22 rfl rfl)
theorem dX4_does_255 : decode cX4_does 255 = .ok (.lmul, 1) := dk_105 (dk_at dksX4_does_10 0 rfl rfl)
theorem dX4_does_256 : decode cX4_does 256 = .ok (.invokevirtual 471, 3) := dk_182 1 215 (dk_at dksX4_does_10 1 rfl rfl)
theorem dX4_does_259 : decode cX4_does 259 = .ok (.iload_n 1, 1) := dk_27 (dk_at dksX4_does_10 4 rfl rfl)
theorem dX4_does_260 : decode cX4_does 260 = .ok (.iconst 1, 1) := dk_4 (dk_at dksX4_does_10 5 rfl rfl)
theorem dX4_does_261 : decode cX4_does 261 = .ok (.iadd, 1) := dk_96 (dk_at dksX4_does_10 6 rfl rfl)
theorem dX4_does_262 : decode cX4_does 262 = .ok (.ireturn, 1) := dk_172 (dk_at dksX4_does_10 7 rfl rfl)
theorem dX4_does_263 : decode cX4_does 263 = .ok (.aload_n 0, 1) := dk_42 (dk_at dksX4_does_10 8 rfl rfl)
theorem dX4_does_264 : decode cX4_does 264 = .ok (.dup, 1) := dk_89 (dk_at dksX4_does_10 9 rfl rfl)
theorem dX4_does_265 : decode cX4_does 265 = .ok (.getfield 468, 3) := dk_180 1 212 (dk_at dksX4_does_10 10 rfl rfl)
theorem dX4_does_268 : decode cX4_does 268 = .ok (.iconst 3, 1) := dk_6 (dk_at dksX4_does_10 13 rfl rfl)
theorem dX4_does_269 : decode cX4_does 269 = .ok (.aload_n 0, 1) := dk_42 (dk_at dksX4_does_10 14 rfl rfl)
theorem dX4_does_270 : decode cX4_does 270 = .ok (.lload_n 2, 1) := dk_32 (dk_at dksX4_does_10 15 rfl rfl)
theorem dX4_does_271 : decode cX4_does 271 = .ok (.lload 4, 2) := dk_22 4 (dk_at dksX4_does_10 16 rfl rfl)
theorem dX4_does_273 : decode cX4_does 273 = .ok (.ldiv, 1) := dk_109 (dk_at dksX4_does_10 18 rfl rfl)
theorem dX4_does_274 : decode cX4_does 274 = .ok (.invokestatic 451, 3) := dk_184 1 195 (dk_at dksX4_does_10 19 rfl rfl)
theorem dX4_does_277 : decode cX4_does 277 = .ok (.invokevirtual 475, 3) := dk_182 1 219 (dk_at dksX4_does_11 0 rfl rfl)
theorem dX4_does_280 : decode cX4_does 280 = .ok (.iadd, 1) := dk_96 (dk_at dksX4_does_11 3 rfl rfl)
theorem dX4_does_281 : decode cX4_does 281 = .ok (.iadd, 1) := dk_96 (dk_at dksX4_does_11 4 rfl rfl)
theorem dX4_does_282 : decode cX4_does 282 = .ok (.putfield 468, 3) := dk_181 1 212 (dk_at dksX4_does_11 5 rfl rfl)
theorem dX4_does_285 : decode cX4_does 285 = .ok (.aload_n 0, 1) := dk_42 (dk_at dksX4_does_11 8 rfl rfl)
theorem dX4_does_286 : decode cX4_does 286 = .ok (.iload_n 1, 1) := dk_27 (dk_at dksX4_does_11 9 rfl rfl)
theorem dX4_does_287 : decode cX4_does 287 = .ok (.lload_n 2, 1) := dk_32 (dk_at dksX4_does_11 10 rfl rfl)
theorem dX4_does_288 : decode cX4_does 288 = .ok (.lload 4, 2) := dk_22 4 (dk_at dksX4_does_11 11 rfl rfl)
theorem dX4_does_290 : decode cX4_does 290 = .ok (.ldiv, 1) := dk_109 (dk_at dksX4_does_11 13 rfl rfl)
theorem dX4_does_291 : decode cX4_does 291 = .ok (.invokevirtual 471, 3) := dk_182 1 215 (dk_at dksX4_does_11 14 rfl rfl)
theorem dX4_does_294 : decode cX4_does 294 = .ok (.aload_n 0, 1) := dk_42 (dk_at dksX4_does_11 17 rfl rfl)
theorem dX4_does_295 : decode cX4_does 295 = .ok (.getfield 128, 3) := dk_180 0 128 (dk_at dksX4_does_11 18 rfl rfl)
theorem dX4_does_298 : decode cX4_does 298 = .ok (.aload_n 0, 1) := dk_42 (dk_at dksX4_does_11 21 rfl rfl)
theorem dX4_does_299 : decode cX4_does 299 = .ok (.getfield 95, 3) := dk_180 0 95 (dk_at dksX4_does_12 0 rfl rfl)
theorem dX4_does_302 : decode cX4_does 302 = .ok (.iload_n 1, 1) := dk_27 (dk_at dksX4_does_12 3 rfl rfl)
theorem dX4_does_303 : decode cX4_does 303 = .ok (.iaload, 1) := dk_46 (dk_at dksX4_does_12 4 rfl rfl)
theorem dX4_does_304 : decode cX4_does 304 = .ok (.lload_n 2, 1) := dk_32 (dk_at dksX4_does_12 5 rfl rfl)
theorem dX4_does_305 : decode cX4_does 305 = .ok (.lload 4, 2) := dk_22 4 (dk_at dksX4_does_12 6 rfl rfl)
theorem dX4_does_307 : decode cX4_does 307 = .ok (.lrem, 1) := dk_113 (dk_at dksX4_does_12 8 rfl rfl)
theorem dX4_does_308 : decode cX4_does 308 = .ok (.lastore, 1) := dk_80 (dk_at dksX4_does_12 9 rfl rfl)
theorem dX4_does_309 : decode cX4_does 309 = .ok (.iload_n 1, 1) := dk_27 (dk_at dksX4_does_12 10 rfl rfl)
theorem dX4_does_310 : decode cX4_does 310 = .ok (.iconst 1, 1) := dk_4 (dk_at dksX4_does_12 11 rfl rfl)
theorem dX4_does_311 : decode cX4_does 311 = .ok (.iadd, 1) := dk_96 (dk_at dksX4_does_12 12 rfl rfl)
theorem dX4_does_312 : decode cX4_does 312 = .ok (.ireturn, 1) := dk_172 (dk_at dksX4_does_12 13 rfl rfl)
theorem dX4_does_313 : decode cX4_does 313 = .ok (.aload_n 0, 1) := dk_42 (dk_at dksX4_does_12 14 rfl rfl)
theorem dX4_does_314 : decode cX4_does 314 = .ok (.getfield 131, 3) := dk_180 0 131 (dk_at dksX4_does_12 15 rfl rfl)
theorem dX4_does_317 : decode cX4_does 317 = .ok (.aload_n 0, 1) := dk_42 (dk_at dksX4_does_12 18 rfl rfl)
theorem dX4_does_318 : decode cX4_does 318 = .ok (.getfield 461, 3) := dk_180 1 205 (dk_at dksX4_does_12 19 rfl rfl)
theorem dX4_does_321 : decode cX4_does 321 = .ok (.lload_n 2, 1) := dk_32 (dk_at dksX4_does_12 22 rfl rfl)
theorem dX4_does_322 : decode cX4_does 322 = .ok (.lastore, 1) := dk_80 (dk_at dksX4_does_12 23 rfl rfl)
theorem dX4_does_323 : decode cX4_does 323 = .ok (.aload_n 0, 1) := dk_42 (dk_at dksX4_does_13 0 rfl rfl)
theorem dX4_does_324 : decode cX4_does 324 = .ok (.dup, 1) := dk_89 (dk_at dksX4_does_13 1 rfl rfl)
theorem dX4_does_325 : decode cX4_does 325 = .ok (.getfield 461, 3) := dk_180 1 205 (dk_at dksX4_does_13 2 rfl rfl)
theorem dX4_does_328 : decode cX4_does 328 = .ok (.iconst 1, 1) := dk_4 (dk_at dksX4_does_13 5 rfl rfl)
theorem dX4_does_329 : decode cX4_does 329 = .ok (.iadd, 1) := dk_96 (dk_at dksX4_does_13 6 rfl rfl)
theorem dX4_does_330 : decode cX4_does 330 = .ok (.putfield 461, 3) := dk_181 1 205 (dk_at dksX4_does_13 7 rfl rfl)
theorem dX4_does_333 : decode cX4_does 333 = .ok (.aload_n 0, 1) := dk_42 (dk_at dksX4_does_13 10 rfl rfl)
theorem dX4_does_334 : decode cX4_does 334 = .ok (.dup, 1) := dk_89 (dk_at dksX4_does_13 11 rfl rfl)
theorem dX4_does_335 : decode cX4_does 335 = .ok (.getfield 468, 3) := dk_180 1 212 (dk_at dksX4_does_13 12 rfl rfl)
theorem dX4_does_338 : decode cX4_does 338 = .ok (.iconst 1, 1) := dk_4 (dk_at dksX4_does_13 15 rfl rfl)
theorem dX4_does_339 : decode cX4_does 339 = .ok (.iadd, 1) := dk_96 (dk_at dksX4_does_13 16 rfl rfl)
theorem dX4_does_340 : decode cX4_does 340 = .ok (.putfield 468, 3) := dk_181 1 212 (dk_at dksX4_does_13 17 rfl rfl)
theorem dX4_does_343 : decode cX4_does 343 = .ok (.iload_n 1, 1) := dk_27 (dk_at dksX4_does_13 20 rfl rfl)
theorem dX4_does_344 : decode cX4_does 344 = .ok (.iconst 1, 1) := dk_4 (dk_at dksX4_does_13 21 rfl rfl)
theorem dX4_does_345 : decode cX4_does 345 = .ok (.iadd, 1) := dk_96 (dk_at dksX4_does_13 22 rfl rfl)
theorem dX4_does_346 : decode cX4_does 346 = .ok (.ireturn, 1) := dk_172 (dk_at dksX4_does_13 23 rfl rfl)
theorem dX4_does_347 : decode cX4_does 347 = .ok (.aload_n 0, 1) := dk_42 (dk_at dksX4_does_14 0 rfl rfl)
theorem dX4_does_348 : decode cX4_does 348 = .ok (.dup, 1) := dk_89 (dk_at dksX4_does_14 1 rfl rfl)
theorem dX4_does_349 : decode cX4_does 349 = .ok (.getfield 468, 3) := dk_180 1 212 (dk_at dksX4_does_14 2 rfl rfl)
theorem dX4_does_352 : decode cX4_does 352 = .ok (.iload 6, 2) := dk_21 6 (dk_at dksX4_does_14 5 rfl rfl)
theorem dX4_does_354 : decode cX4_does 354 = .ok (.ifCond .eq 12, 3) := dk_153 0 12 (dk_at dksX4_does_14 7 rfl rfl)
theorem dX4_does_357 : decode cX4_does 357 = .ok (.aload_n 0, 1) := dk_42 (dk_at dksX4_does_14 10 rfl rfl)
theorem dX4_does_358 : decode cX4_does 358 = .ok (.getfield 86, 3) := dk_180 0 86 (dk_at dksX4_does_14 11 rfl rfl)
theorem dX4_does_361 : decode cX4_does 361 = .ok (.iload_n 1, 1) := dk_27 (dk_at dksX4_does_14 14 rfl rfl)
theorem dX4_does_362 : decode cX4_does 362 = .ok (.iaload, 1) := dk_46 (dk_at dksX4_does_14 15 rfl rfl)
theorem dX4_does_363 : decode cX4_does 363 = .ok (.goto 4, 3) := dk_167 0 4 (dk_at dksX4_does_14 16 rfl rfl)
theorem dX4_does_366 : decode cX4_does 366 = .ok (.iconst 0, 1) := dk_3 (dk_at dksX4_does_14 19 rfl rfl)
theorem dX4_does_367 : decode cX4_does 367 = .ok (.iadd, 1) := dk_96 (dk_at dksX4_does_14 20 rfl rfl)
theorem dX4_does_368 : decode cX4_does 368 = .ok (.putfield 468, 3) := dk_181 1 212 (dk_at dksX4_does_14 21 rfl rfl)
theorem dX4_does_371 : decode cX4_does 371 = .ok (.iload 6, 2) := dk_21 6 (dk_at dksX4_does_15 0 rfl rfl)
theorem dX4_does_373 : decode cX4_does 373 = .ok (.ifCond .eq 14, 3) := dk_153 0 14 (dk_at dksX4_does_15 2 rfl rfl)
theorem dX4_does_376 : decode cX4_does 376 = .ok (.iload_n 1, 1) := dk_27 (dk_at dksX4_does_15 5 rfl rfl)
theorem dX4_does_377 : decode cX4_does 377 = .ok (.aload_n 0, 1) := dk_42 (dk_at dksX4_does_15 6 rfl rfl)
theorem dX4_does_378 : decode cX4_does 378 = .ok (.getfield 86, 3) := dk_180 0 86 (dk_at dksX4_does_15 7 rfl rfl)
theorem dX4_does_381 : decode cX4_does 381 = .ok (.iload_n 1, 1) := dk_27 (dk_at dksX4_does_15 10 rfl rfl)
theorem dX4_does_382 : decode cX4_does 382 = .ok (.iaload, 1) := dk_46 (dk_at dksX4_does_15 11 rfl rfl)
theorem dX4_does_383 : decode cX4_does 383 = .ok (.isub, 1) := dk_100 (dk_at dksX4_does_15 12 rfl rfl)
theorem dX4_does_384 : decode cX4_does 384 = .ok (.goto 6, 3) := dk_167 0 6 (dk_at dksX4_does_15 13 rfl rfl)
theorem dX4_does_387 : decode cX4_does 387 = .ok (.iload_n 1, 1) := dk_27 (dk_at dksX4_does_15 16 rfl rfl)
theorem dX4_does_388 : decode cX4_does 388 = .ok (.iconst 1, 1) := dk_4 (dk_at dksX4_does_15 17 rfl rfl)
theorem dX4_does_389 : decode cX4_does 389 = .ok (.iadd, 1) := dk_96 (dk_at dksX4_does_15 18 rfl rfl)
theorem dX4_does_390 : decode cX4_does 390 = .ok (.ireturn, 1) := dk_172 (dk_at dksX4_does_15 19 rfl rfl)
theorem dX4_does_391 : decode cX4_does 391 = .ok (.iload 6, 2) := dk_21 6 (dk_at dksX4_does_15 20 rfl rfl)
theorem dX4_does_393 : decode cX4_does 393 = .ok (.ifCond .eq 14, 3) := dk_153 0 14 (dk_at dksX4_does_16 0 rfl rfl)
theorem dX4_does_396 : decode cX4_does 396 = .ok (.iload_n 1, 1) := dk_27 (dk_at dksX4_does_16 3 rfl rfl)
theorem dX4_does_397 : decode cX4_does 397 = .ok (.aload_n 0, 1) := dk_42 (dk_at dksX4_does_16 4 rfl rfl)
theorem dX4_does_398 : decode cX4_does 398 = .ok (.getfield 86, 3) := dk_180 0 86 (dk_at dksX4_does_16 5 rfl rfl)
theorem dX4_does_401 : decode cX4_does 401 = .ok (.iload_n 1, 1) := dk_27 (dk_at dksX4_does_16 8 rfl rfl)
theorem dX4_does_402 : decode cX4_does 402 = .ok (.iaload, 1) := dk_46 (dk_at dksX4_does_16 9 rfl rfl)
theorem dX4_does_403 : decode cX4_does 403 = .ok (.iadd, 1) := dk_96 (dk_at dksX4_does_16 10 rfl rfl)
theorem dX4_does_404 : decode cX4_does 404 = .ok (.goto 6, 3) := dk_167 0 6 (dk_at dksX4_does_16 11 rfl rfl)
theorem dX4_does_407 : decode cX4_does 407 = .ok (.iload_n 1, 1) := dk_27 (dk_at dksX4_does_16 14 rfl rfl)
theorem dX4_does_408 : decode cX4_does 408 = .ok (.iconst 1, 1) := dk_4 (dk_at dksX4_does_16 15 rfl rfl)
theorem dX4_does_409 : decode cX4_does 409 = .ok (.iadd, 1) := dk_96 (dk_at dksX4_does_16 16 rfl rfl)
theorem dX4_does_410 : decode cX4_does 410 = .ok (.ireturn, 1) := dk_172 (dk_at dksX4_does_16 17 rfl rfl)
abbrev cX4_comes : ByteArray := prog_9_method_63_code
def yX4_comes : MethodName := ⟨RX4, "comes", "(IJ)V"⟩
def dkwX4_comes_1 : List UInt8 := [181, 1, 208, 177]
abbrev dktX4_comes_1 : List UInt8 := dkwX4_comes_1 ++ []
def dkwX4_comes_0 : List UInt8 := [42, 180, 0, 128, 42, 180, 0, 92, 27, 46, 32, 80, 42, 32, 9, 148, 156, 0, 7, 4, 167, 0, 4, 3]
abbrev dktX4_comes_0 : List UInt8 := dkwX4_comes_0 ++ dktX4_comes_1
theorem dksX4_comes_0 : cX4_comes.data.toList.drop 0 = dktX4_comes_0 := by decide +kernel
theorem dksX4_comes_1 : cX4_comes.data.toList.drop 24 = dktX4_comes_1 := dk_seg dksX4_comes_0 24 rfl rfl
theorem dX4_comes_0 : decode cX4_comes 0 = .ok (.aload_n 0, 1) := dk_42 (dk_at dksX4_comes_0 0 rfl rfl)
theorem dX4_comes_1 : decode cX4_comes 1 = .ok (.getfield 128, 3) := dk_180 0 128 (dk_at dksX4_comes_0 1 rfl rfl)
theorem dX4_comes_4 : decode cX4_comes 4 = .ok (.aload_n 0, 1) := dk_42 (dk_at dksX4_comes_0 4 rfl rfl)
theorem dX4_comes_5 : decode cX4_comes 5 = .ok (.getfield 92, 3) := dk_180 0 92 (dk_at dksX4_comes_0 5 rfl rfl)
theorem dX4_comes_8 : decode cX4_comes 8 = .ok (.iload_n 1, 1) := dk_27 (dk_at dksX4_comes_0 8 rfl rfl)
theorem dX4_comes_9 : decode cX4_comes 9 = .ok (.iaload, 1) := dk_46 (dk_at dksX4_comes_0 9 rfl rfl)
theorem dX4_comes_10 : decode cX4_comes 10 = .ok (.lload_n 2, 1) := dk_32 (dk_at dksX4_comes_0 10 rfl rfl)
theorem dX4_comes_11 : decode cX4_comes 11 = .ok (.lastore, 1) := dk_80 (dk_at dksX4_comes_0 11 rfl rfl)
theorem dX4_comes_12 : decode cX4_comes 12 = .ok (.aload_n 0, 1) := dk_42 (dk_at dksX4_comes_0 12 rfl rfl)
theorem dX4_comes_13 : decode cX4_comes 13 = .ok (.lload_n 2, 1) := dk_32 (dk_at dksX4_comes_0 13 rfl rfl)
theorem dX4_comes_14 : decode cX4_comes 14 = .ok (.lconst 0, 1) := dk_9 (dk_at dksX4_comes_0 14 rfl rfl)
theorem dX4_comes_15 : decode cX4_comes 15 = .ok (.lcmp, 1) := dk_148 (dk_at dksX4_comes_0 15 rfl rfl)
theorem dX4_comes_16 : decode cX4_comes 16 = .ok (.ifCond .ge 7, 3) := dk_156 0 7 (dk_at dksX4_comes_0 16 rfl rfl)
theorem dX4_comes_19 : decode cX4_comes 19 = .ok (.iconst 1, 1) := dk_4 (dk_at dksX4_comes_0 19 rfl rfl)
theorem dX4_comes_20 : decode cX4_comes 20 = .ok (.goto 4, 3) := dk_167 0 4 (dk_at dksX4_comes_0 20 rfl rfl)
theorem dX4_comes_23 : decode cX4_comes 23 = .ok (.iconst 0, 1) := dk_3 (dk_at dksX4_comes_0 23 rfl rfl)
theorem dX4_comes_24 : decode cX4_comes 24 = .ok (.putfield 464, 3) := dk_181 1 208 (dk_at dksX4_comes_1 0 rfl rfl)
theorem dX4_comes_27 : decode cX4_comes 27 = .ok (.return_, 1) := dk_177 (dk_at dksX4_comes_1 3 rfl rfl)
abbrev cX4_fewest : ByteArray := prog_9_method_69_code
def yX4_fewest : MethodName := ⟨RX4, "fewest", "(J)I"⟩
def dkwX4_fewest_12 : List UInt8 := [167, 255, 157, 42, 180, 0, 137, 3, 46, 172]
abbrev dktX4_fewest_12 : List UInt8 := dkwX4_fewest_12 ++ []
def dkwX4_fewest_11 : List UInt8 := [167, 0, 8, 21, 7, 16, 10, 100, 79, 21, 8, 153, 0, 7, 3, 167, 0, 4, 4, 54, 5, 132, 6, 1]
abbrev dktX4_fewest_11 : List UInt8 := dkwX4_fewest_11 ++ dktX4_fewest_12
def dkwX4_fewest_10 : List UInt8 := [160, 0, 7, 4, 167, 0, 4, 3, 54, 8, 42, 180, 0, 140, 21, 6, 21, 8, 153, 0, 8, 21, 7]
abbrev dktX4_fewest_10 : List UInt8 := dkwX4_fewest_10 ++ dktX4_fewest_11
def dkwX4_fewest_9 : List UInt8 := [42, 180, 0, 137, 5, 21, 6, 104, 5, 96, 46, 96, 42, 180, 0, 137, 5, 21, 6, 104, 21, 5, 96, 46]
abbrev dktX4_fewest_9 : List UInt8 := dkwX4_fewest_9 ++ dktX4_fewest_10
def dkwX4_fewest_8 : List UInt8 := [162, 0, 98, 42, 180, 0, 143, 21, 6, 46, 21, 5, 96, 54, 7, 21, 7, 16, 9, 163, 0, 36, 21, 7]
abbrev dktX4_fewest_8 : List UInt8 := dkwX4_fewest_8 ++ dktX4_fewest_9
def dkwX4_fewest_7 : List UInt8 := [132, 6, 1, 167, 255, 156, 132, 5, 255, 167, 255, 142, 3, 54, 5, 3, 54, 6, 21, 6, 16, 13]
abbrev dktX4_fewest_7 : List UInt8 := dkwX4_fewest_7 ++ dktX4_fewest_8
def dkwX4_fewest_6 : List UInt8 := [17, 3, 232, 54, 9, 42, 180, 0, 137, 5, 21, 5, 104, 21, 6, 96, 21, 8, 21, 9, 184, 1, 240, 79]
abbrev dktX4_fewest_6 : List UInt8 := dkwX4_fewest_6 ++ dktX4_fewest_7
def dkwX4_fewest_5 : List UInt8 := [161, 0, 23, 16, 10, 21, 7, 100, 42, 180, 0, 137, 5, 21, 5, 104, 6, 96, 46, 96, 167, 0, 6]
abbrev dktX4_fewest_5 : List UInt8 := dkwX4_fewest_5 ++ dktX4_fewest_6
def dkwX4_fewest_4 : List UInt8 := [42, 180, 0, 137, 5, 21, 5, 104, 5, 96, 46, 96, 167, 0, 6, 17, 3, 232, 54, 8, 21, 7, 4]
abbrev dktX4_fewest_4 : List UInt8 := dkwX4_fewest_4 ++ dktX4_fewest_5
def dkwX4_fewest_3 : List UInt8 := [162, 0, 100, 42, 180, 0, 143, 21, 5, 46, 21, 6, 96, 54, 7, 21, 7, 16, 9, 163, 0, 20, 21, 7]
abbrev dktX4_fewest_3 : List UInt8 := dkwX4_fewest_3 ++ dktX4_fewest_4
def dkwX4_fewest_2 : List UInt8 := [180, 0, 137, 16, 27, 17, 3, 232, 79, 16, 12, 54, 5, 21, 5, 155, 0, 115, 3, 54, 6, 21, 6, 5]
abbrev dktX4_fewest_2 : List UInt8 := dkwX4_fewest_2 ++ dktX4_fewest_3
def dkwX4_fewest_1 : List UInt8 := [79, 33, 20, 1, 79, 109, 66, 132, 5, 1, 167, 255, 227, 42, 180, 0, 137, 16, 26, 3, 79, 42]
abbrev dktX4_fewest_1 : List UInt8 := dkwX4_fewest_1 ++ dktX4_fewest_2
def dkwX4_fewest_0 : List UInt8 := [31, 66, 3, 54, 5, 21, 5, 16, 14, 162, 0, 28, 42, 180, 0, 143, 21, 5, 33, 20, 1, 79, 113, 136]
abbrev dktX4_fewest_0 : List UInt8 := dkwX4_fewest_0 ++ dktX4_fewest_1
theorem dksX4_fewest_0 : cX4_fewest.data.toList.drop 0 = dktX4_fewest_0 := by decide +kernel
theorem dksX4_fewest_1 : cX4_fewest.data.toList.drop 24 = dktX4_fewest_1 := dk_seg dksX4_fewest_0 24 rfl rfl
theorem dksX4_fewest_2 : cX4_fewest.data.toList.drop 46 = dktX4_fewest_2 := dk_seg dksX4_fewest_1 22 rfl rfl
theorem dksX4_fewest_3 : cX4_fewest.data.toList.drop 70 = dktX4_fewest_3 := dk_seg dksX4_fewest_2 24 rfl rfl
theorem dksX4_fewest_4 : cX4_fewest.data.toList.drop 94 = dktX4_fewest_4 := dk_seg dksX4_fewest_3 24 rfl rfl
theorem dksX4_fewest_5 : cX4_fewest.data.toList.drop 117 = dktX4_fewest_5 := dk_seg dksX4_fewest_4 23 rfl rfl
theorem dksX4_fewest_6 : cX4_fewest.data.toList.drop 140 = dktX4_fewest_6 := dk_seg dksX4_fewest_5 23 rfl rfl
theorem dksX4_fewest_7 : cX4_fewest.data.toList.drop 164 = dktX4_fewest_7 := dk_seg dksX4_fewest_6 24 rfl rfl
theorem dksX4_fewest_8 : cX4_fewest.data.toList.drop 186 = dktX4_fewest_8 := dk_seg dksX4_fewest_7 22 rfl rfl
theorem dksX4_fewest_9 : cX4_fewest.data.toList.drop 210 = dktX4_fewest_9 := dk_seg dksX4_fewest_8 24 rfl rfl
theorem dksX4_fewest_10 : cX4_fewest.data.toList.drop 234 = dktX4_fewest_10 := dk_seg dksX4_fewest_9 24 rfl rfl
theorem dksX4_fewest_11 : cX4_fewest.data.toList.drop 257 = dktX4_fewest_11 := dk_seg dksX4_fewest_10 23 rfl rfl
theorem dksX4_fewest_12 : cX4_fewest.data.toList.drop 281 = dktX4_fewest_12 := dk_seg dksX4_fewest_11 24 rfl rfl
theorem dX4_fewest_0 : decode cX4_fewest 0 = .ok (.lload_n 1, 1) := dk_31 (dk_at dksX4_fewest_0 0 rfl rfl)
theorem dX4_fewest_1 : decode cX4_fewest 1 = .ok (.lstore_n 3, 1) := dk_66 (dk_at dksX4_fewest_0 1 rfl rfl)
theorem dX4_fewest_2 : decode cX4_fewest 2 = .ok (.iconst 0, 1) := dk_3 (dk_at dksX4_fewest_0 2 rfl rfl)
theorem dX4_fewest_3 : decode cX4_fewest 3 = .ok (.istore 5, 2) := dk_54 5 (dk_at dksX4_fewest_0 3 rfl rfl)
theorem dX4_fewest_5 : decode cX4_fewest 5 = .ok (.iload 5, 2) := dk_21 5 (dk_at dksX4_fewest_0 5 rfl rfl)
theorem dX4_fewest_7 : decode cX4_fewest 7 = .ok (.bipush 14, 2) := dk_16 14 (dk_at dksX4_fewest_0 7 rfl rfl)
theorem dX4_fewest_9 : decode cX4_fewest 9 = .ok (.if_icmp .ge 28, 3) := dk_162 0 28 (dk_at dksX4_fewest_0 9 rfl rfl)
theorem dX4_fewest_12 : decode cX4_fewest 12 = .ok (.aload_n 0, 1) := dk_42 (dk_at dksX4_fewest_0 12 rfl rfl)
theorem dX4_fewest_13 : decode cX4_fewest 13 = .ok (.getfield 143, 3) := dk_180 0 143 (dk_at dksX4_fewest_0 13 rfl rfl)
theorem dX4_fewest_16 : decode cX4_fewest 16 = .ok (.iload 5, 2) := dk_21 5 (dk_at dksX4_fewest_0 16 rfl rfl)
theorem dX4_fewest_18 : decode cX4_fewest 18 = .ok (.lload_n 3, 1) := dk_33 (dk_at dksX4_fewest_0 18 rfl rfl)
theorem dX4_fewest_19 : decode cX4_fewest 19 = .ok (.ldc2_w 335, 3) := dk_20 1 79 (dk_at dksX4_fewest_0 19 rfl rfl)
theorem dX4_fewest_22 : decode cX4_fewest 22 = .ok (.lrem, 1) := dk_113 (dk_at dksX4_fewest_0 22 rfl rfl)
theorem dX4_fewest_23 : decode cX4_fewest 23 = .ok (.l2i, 1) := dk_136 (dk_at dksX4_fewest_0 23 rfl rfl)
theorem dX4_fewest_24 : decode cX4_fewest 24 = .ok (.iastore, 1) := dk_79 (dk_at dksX4_fewest_1 0 rfl rfl)
theorem dX4_fewest_25 : decode cX4_fewest 25 = .ok (.lload_n 3, 1) := dk_33 (dk_at dksX4_fewest_1 1 rfl rfl)
theorem dX4_fewest_26 : decode cX4_fewest 26 = .ok (.ldc2_w 335, 3) := dk_20 1 79 (dk_at dksX4_fewest_1 2 rfl rfl)
theorem dX4_fewest_29 : decode cX4_fewest 29 = .ok (.ldiv, 1) := dk_109 (dk_at dksX4_fewest_1 5 rfl rfl)
theorem dX4_fewest_30 : decode cX4_fewest 30 = .ok (.lstore_n 3, 1) := dk_66 (dk_at dksX4_fewest_1 6 rfl rfl)
theorem dX4_fewest_31 : decode cX4_fewest 31 = .ok (.iinc 5 1, 3) := dk_132 5 1 (dk_at dksX4_fewest_1 7 rfl rfl)
theorem dX4_fewest_34 : decode cX4_fewest 34 = .ok (.goto (-29), 3) := dk_167 255 227 (dk_at dksX4_fewest_1 10 rfl rfl)
theorem dX4_fewest_37 : decode cX4_fewest 37 = .ok (.aload_n 0, 1) := dk_42 (dk_at dksX4_fewest_1 13 rfl rfl)
theorem dX4_fewest_38 : decode cX4_fewest 38 = .ok (.getfield 137, 3) := dk_180 0 137 (dk_at dksX4_fewest_1 14 rfl rfl)
theorem dX4_fewest_41 : decode cX4_fewest 41 = .ok (.bipush 26, 2) := dk_16 26 (dk_at dksX4_fewest_1 17 rfl rfl)
theorem dX4_fewest_43 : decode cX4_fewest 43 = .ok (.iconst 0, 1) := dk_3 (dk_at dksX4_fewest_1 19 rfl rfl)
theorem dX4_fewest_44 : decode cX4_fewest 44 = .ok (.iastore, 1) := dk_79 (dk_at dksX4_fewest_1 20 rfl rfl)
theorem dX4_fewest_45 : decode cX4_fewest 45 = .ok (.aload_n 0, 1) := dk_42 (dk_at dksX4_fewest_1 21 rfl rfl)
theorem dX4_fewest_46 : decode cX4_fewest 46 = .ok (.getfield 137, 3) := dk_180 0 137 (dk_at dksX4_fewest_2 0 rfl rfl)
theorem dX4_fewest_49 : decode cX4_fewest 49 = .ok (.bipush 27, 2) := dk_16 27 (dk_at dksX4_fewest_2 3 rfl rfl)
theorem dX4_fewest_51 : decode cX4_fewest 51 = .ok (.sipush 1000, 3) := dk_17 3 232 (dk_at dksX4_fewest_2 5 rfl rfl)
theorem dX4_fewest_54 : decode cX4_fewest 54 = .ok (.iastore, 1) := dk_79 (dk_at dksX4_fewest_2 8 rfl rfl)
theorem dX4_fewest_55 : decode cX4_fewest 55 = .ok (.bipush 12, 2) := dk_16 12 (dk_at dksX4_fewest_2 9 rfl rfl)
theorem dX4_fewest_57 : decode cX4_fewest 57 = .ok (.istore 5, 2) := dk_54 5 (dk_at dksX4_fewest_2 11 rfl rfl)
theorem dX4_fewest_59 : decode cX4_fewest 59 = .ok (.iload 5, 2) := dk_21 5 (dk_at dksX4_fewest_2 13 rfl rfl)
theorem dX4_fewest_61 : decode cX4_fewest 61 = .ok (.ifCond .lt 115, 3) := dk_155 0 115 (dk_at dksX4_fewest_2 15 rfl rfl)
theorem dX4_fewest_64 : decode cX4_fewest 64 = .ok (.iconst 0, 1) := dk_3 (dk_at dksX4_fewest_2 18 rfl rfl)
theorem dX4_fewest_65 : decode cX4_fewest 65 = .ok (.istore 6, 2) := dk_54 6 (dk_at dksX4_fewest_2 19 rfl rfl)
theorem dX4_fewest_67 : decode cX4_fewest 67 = .ok (.iload 6, 2) := dk_21 6 (dk_at dksX4_fewest_2 21 rfl rfl)
theorem dX4_fewest_69 : decode cX4_fewest 69 = .ok (.iconst 2, 1) := dk_5 (dk_at dksX4_fewest_2 23 rfl rfl)
theorem dX4_fewest_70 : decode cX4_fewest 70 = .ok (.if_icmp .ge 100, 3) := dk_162 0 100 (dk_at dksX4_fewest_3 0 rfl rfl)
theorem dX4_fewest_73 : decode cX4_fewest 73 = .ok (.aload_n 0, 1) := dk_42 (dk_at dksX4_fewest_3 3 rfl rfl)
theorem dX4_fewest_74 : decode cX4_fewest 74 = .ok (.getfield 143, 3) := dk_180 0 143 (dk_at dksX4_fewest_3 4 rfl rfl)
theorem dX4_fewest_77 : decode cX4_fewest 77 = .ok (.iload 5, 2) := dk_21 5 (dk_at dksX4_fewest_3 7 rfl rfl)
theorem dX4_fewest_79 : decode cX4_fewest 79 = .ok (.iaload, 1) := dk_46 (dk_at dksX4_fewest_3 9 rfl rfl)
theorem dX4_fewest_80 : decode cX4_fewest 80 = .ok (.iload 6, 2) := dk_21 6 (dk_at dksX4_fewest_3 10 rfl rfl)
theorem dX4_fewest_82 : decode cX4_fewest 82 = .ok (.iadd, 1) := dk_96 (dk_at dksX4_fewest_3 12 rfl rfl)
theorem dX4_fewest_83 : decode cX4_fewest 83 = .ok (.istore 7, 2) := dk_54 7 (dk_at dksX4_fewest_3 13 rfl rfl)
theorem dX4_fewest_85 : decode cX4_fewest 85 = .ok (.iload 7, 2) := dk_21 7 (dk_at dksX4_fewest_3 15 rfl rfl)
theorem dX4_fewest_87 : decode cX4_fewest 87 = .ok (.bipush 9, 2) := dk_16 9 (dk_at dksX4_fewest_3 17 rfl rfl)
theorem dX4_fewest_89 : decode cX4_fewest 89 = .ok (.if_icmp .gt 20, 3) := dk_163 0 20 (dk_at dksX4_fewest_3 19 rfl rfl)
theorem dX4_fewest_92 : decode cX4_fewest 92 = .ok (.iload 7, 2) := dk_21 7 (dk_at dksX4_fewest_3 22 rfl rfl)
theorem dX4_fewest_94 : decode cX4_fewest 94 = .ok (.aload_n 0, 1) := dk_42 (dk_at dksX4_fewest_4 0 rfl rfl)
theorem dX4_fewest_95 : decode cX4_fewest 95 = .ok (.getfield 137, 3) := dk_180 0 137 (dk_at dksX4_fewest_4 1 rfl rfl)
theorem dX4_fewest_98 : decode cX4_fewest 98 = .ok (.iconst 2, 1) := dk_5 (dk_at dksX4_fewest_4 4 rfl rfl)
theorem dX4_fewest_99 : decode cX4_fewest 99 = .ok (.iload 5, 2) := dk_21 5 (dk_at dksX4_fewest_4 5 rfl rfl)
theorem dX4_fewest_101 : decode cX4_fewest 101 = .ok (.imul, 1) := dk_104 (dk_at dksX4_fewest_4 7 rfl rfl)
theorem dX4_fewest_102 : decode cX4_fewest 102 = .ok (.iconst 2, 1) := dk_5 (dk_at dksX4_fewest_4 8 rfl rfl)
theorem dX4_fewest_103 : decode cX4_fewest 103 = .ok (.iadd, 1) := dk_96 (dk_at dksX4_fewest_4 9 rfl rfl)
theorem dX4_fewest_104 : decode cX4_fewest 104 = .ok (.iaload, 1) := dk_46 (dk_at dksX4_fewest_4 10 rfl rfl)
theorem dX4_fewest_105 : decode cX4_fewest 105 = .ok (.iadd, 1) := dk_96 (dk_at dksX4_fewest_4 11 rfl rfl)
theorem dX4_fewest_106 : decode cX4_fewest 106 = .ok (.goto 6, 3) := dk_167 0 6 (dk_at dksX4_fewest_4 12 rfl rfl)
theorem dX4_fewest_109 : decode cX4_fewest 109 = .ok (.sipush 1000, 3) := dk_17 3 232 (dk_at dksX4_fewest_4 15 rfl rfl)
theorem dX4_fewest_112 : decode cX4_fewest 112 = .ok (.istore 8, 2) := dk_54 8 (dk_at dksX4_fewest_4 18 rfl rfl)
theorem dX4_fewest_114 : decode cX4_fewest 114 = .ok (.iload 7, 2) := dk_21 7 (dk_at dksX4_fewest_4 20 rfl rfl)
theorem dX4_fewest_116 : decode cX4_fewest 116 = .ok (.iconst 1, 1) := dk_4 (dk_at dksX4_fewest_4 22 rfl rfl)
theorem dX4_fewest_117 : decode cX4_fewest 117 = .ok (.if_icmp .lt 23, 3) := dk_161 0 23 (dk_at dksX4_fewest_5 0 rfl rfl)
theorem dX4_fewest_120 : decode cX4_fewest 120 = .ok (.bipush 10, 2) := dk_16 10 (dk_at dksX4_fewest_5 3 rfl rfl)
theorem dX4_fewest_122 : decode cX4_fewest 122 = .ok (.iload 7, 2) := dk_21 7 (dk_at dksX4_fewest_5 5 rfl rfl)
theorem dX4_fewest_124 : decode cX4_fewest 124 = .ok (.isub, 1) := dk_100 (dk_at dksX4_fewest_5 7 rfl rfl)
theorem dX4_fewest_125 : decode cX4_fewest 125 = .ok (.aload_n 0, 1) := dk_42 (dk_at dksX4_fewest_5 8 rfl rfl)
theorem dX4_fewest_126 : decode cX4_fewest 126 = .ok (.getfield 137, 3) := dk_180 0 137 (dk_at dksX4_fewest_5 9 rfl rfl)
theorem dX4_fewest_129 : decode cX4_fewest 129 = .ok (.iconst 2, 1) := dk_5 (dk_at dksX4_fewest_5 12 rfl rfl)
theorem dX4_fewest_130 : decode cX4_fewest 130 = .ok (.iload 5, 2) := dk_21 5 (dk_at dksX4_fewest_5 13 rfl rfl)
theorem dX4_fewest_132 : decode cX4_fewest 132 = .ok (.imul, 1) := dk_104 (dk_at dksX4_fewest_5 15 rfl rfl)
theorem dX4_fewest_133 : decode cX4_fewest 133 = .ok (.iconst 3, 1) := dk_6 (dk_at dksX4_fewest_5 16 rfl rfl)
theorem dX4_fewest_134 : decode cX4_fewest 134 = .ok (.iadd, 1) := dk_96 (dk_at dksX4_fewest_5 17 rfl rfl)
theorem dX4_fewest_135 : decode cX4_fewest 135 = .ok (.iaload, 1) := dk_46 (dk_at dksX4_fewest_5 18 rfl rfl)
theorem dX4_fewest_136 : decode cX4_fewest 136 = .ok (.iadd, 1) := dk_96 (dk_at dksX4_fewest_5 19 rfl rfl)
theorem dX4_fewest_137 : decode cX4_fewest 137 = .ok (.goto 6, 3) := dk_167 0 6 (dk_at dksX4_fewest_5 20 rfl rfl)
theorem dX4_fewest_140 : decode cX4_fewest 140 = .ok (.sipush 1000, 3) := dk_17 3 232 (dk_at dksX4_fewest_6 0 rfl rfl)
theorem dX4_fewest_143 : decode cX4_fewest 143 = .ok (.istore 9, 2) := dk_54 9 (dk_at dksX4_fewest_6 3 rfl rfl)
theorem dX4_fewest_145 : decode cX4_fewest 145 = .ok (.aload_n 0, 1) := dk_42 (dk_at dksX4_fewest_6 5 rfl rfl)
theorem dX4_fewest_146 : decode cX4_fewest 146 = .ok (.getfield 137, 3) := dk_180 0 137 (dk_at dksX4_fewest_6 6 rfl rfl)
theorem dX4_fewest_149 : decode cX4_fewest 149 = .ok (.iconst 2, 1) := dk_5 (dk_at dksX4_fewest_6 9 rfl rfl)
theorem dX4_fewest_150 : decode cX4_fewest 150 = .ok (.iload 5, 2) := dk_21 5 (dk_at dksX4_fewest_6 10 rfl rfl)
theorem dX4_fewest_152 : decode cX4_fewest 152 = .ok (.imul, 1) := dk_104 (dk_at dksX4_fewest_6 12 rfl rfl)
theorem dX4_fewest_153 : decode cX4_fewest 153 = .ok (.iload 6, 2) := dk_21 6 (dk_at dksX4_fewest_6 13 rfl rfl)
theorem dX4_fewest_155 : decode cX4_fewest 155 = .ok (.iadd, 1) := dk_96 (dk_at dksX4_fewest_6 15 rfl rfl)
theorem dX4_fewest_156 : decode cX4_fewest 156 = .ok (.iload 8, 2) := dk_21 8 (dk_at dksX4_fewest_6 16 rfl rfl)
theorem dX4_fewest_158 : decode cX4_fewest 158 = .ok (.iload 9, 2) := dk_21 9 (dk_at dksX4_fewest_6 18 rfl rfl)
theorem dX4_fewest_160 : decode cX4_fewest 160 = .ok (.invokestatic 496, 3) := dk_184 1 240 (dk_at dksX4_fewest_6 20 rfl rfl)
theorem dX4_fewest_163 : decode cX4_fewest 163 = .ok (.iastore, 1) := dk_79 (dk_at dksX4_fewest_6 23 rfl rfl)
theorem dX4_fewest_164 : decode cX4_fewest 164 = .ok (.iinc 6 1, 3) := dk_132 6 1 (dk_at dksX4_fewest_7 0 rfl rfl)
theorem dX4_fewest_167 : decode cX4_fewest 167 = .ok (.goto (-100), 3) := dk_167 255 156 (dk_at dksX4_fewest_7 3 rfl rfl)
theorem dX4_fewest_170 : decode cX4_fewest 170 = .ok (.iinc 5 (-1), 3) := dk_132 5 255 (dk_at dksX4_fewest_7 6 rfl rfl)
theorem dX4_fewest_173 : decode cX4_fewest 173 = .ok (.goto (-114), 3) := dk_167 255 142 (dk_at dksX4_fewest_7 9 rfl rfl)
theorem dX4_fewest_176 : decode cX4_fewest 176 = .ok (.iconst 0, 1) := dk_3 (dk_at dksX4_fewest_7 12 rfl rfl)
theorem dX4_fewest_177 : decode cX4_fewest 177 = .ok (.istore 5, 2) := dk_54 5 (dk_at dksX4_fewest_7 13 rfl rfl)
theorem dX4_fewest_179 : decode cX4_fewest 179 = .ok (.iconst 0, 1) := dk_3 (dk_at dksX4_fewest_7 15 rfl rfl)
theorem dX4_fewest_180 : decode cX4_fewest 180 = .ok (.istore 6, 2) := dk_54 6 (dk_at dksX4_fewest_7 16 rfl rfl)
theorem dX4_fewest_182 : decode cX4_fewest 182 = .ok (.iload 6, 2) := dk_21 6 (dk_at dksX4_fewest_7 18 rfl rfl)
theorem dX4_fewest_184 : decode cX4_fewest 184 = .ok (.bipush 13, 2) := dk_16 13 (dk_at dksX4_fewest_7 20 rfl rfl)
theorem dX4_fewest_186 : decode cX4_fewest 186 = .ok (.if_icmp .ge 98, 3) := dk_162 0 98 (dk_at dksX4_fewest_8 0 rfl rfl)
theorem dX4_fewest_189 : decode cX4_fewest 189 = .ok (.aload_n 0, 1) := dk_42 (dk_at dksX4_fewest_8 3 rfl rfl)
theorem dX4_fewest_190 : decode cX4_fewest 190 = .ok (.getfield 143, 3) := dk_180 0 143 (dk_at dksX4_fewest_8 4 rfl rfl)
theorem dX4_fewest_193 : decode cX4_fewest 193 = .ok (.iload 6, 2) := dk_21 6 (dk_at dksX4_fewest_8 7 rfl rfl)
theorem dX4_fewest_195 : decode cX4_fewest 195 = .ok (.iaload, 1) := dk_46 (dk_at dksX4_fewest_8 9 rfl rfl)
theorem dX4_fewest_196 : decode cX4_fewest 196 = .ok (.iload 5, 2) := dk_21 5 (dk_at dksX4_fewest_8 10 rfl rfl)
theorem dX4_fewest_198 : decode cX4_fewest 198 = .ok (.iadd, 1) := dk_96 (dk_at dksX4_fewest_8 12 rfl rfl)
theorem dX4_fewest_199 : decode cX4_fewest 199 = .ok (.istore 7, 2) := dk_54 7 (dk_at dksX4_fewest_8 13 rfl rfl)
theorem dX4_fewest_201 : decode cX4_fewest 201 = .ok (.iload 7, 2) := dk_21 7 (dk_at dksX4_fewest_8 15 rfl rfl)
theorem dX4_fewest_203 : decode cX4_fewest 203 = .ok (.bipush 9, 2) := dk_16 9 (dk_at dksX4_fewest_8 17 rfl rfl)
theorem dX4_fewest_205 : decode cX4_fewest 205 = .ok (.if_icmp .gt 36, 3) := dk_163 0 36 (dk_at dksX4_fewest_8 19 rfl rfl)
theorem dX4_fewest_208 : decode cX4_fewest 208 = .ok (.iload 7, 2) := dk_21 7 (dk_at dksX4_fewest_8 22 rfl rfl)
theorem dX4_fewest_210 : decode cX4_fewest 210 = .ok (.aload_n 0, 1) := dk_42 (dk_at dksX4_fewest_9 0 rfl rfl)
theorem dX4_fewest_211 : decode cX4_fewest 211 = .ok (.getfield 137, 3) := dk_180 0 137 (dk_at dksX4_fewest_9 1 rfl rfl)
theorem dX4_fewest_214 : decode cX4_fewest 214 = .ok (.iconst 2, 1) := dk_5 (dk_at dksX4_fewest_9 4 rfl rfl)
theorem dX4_fewest_215 : decode cX4_fewest 215 = .ok (.iload 6, 2) := dk_21 6 (dk_at dksX4_fewest_9 5 rfl rfl)
theorem dX4_fewest_217 : decode cX4_fewest 217 = .ok (.imul, 1) := dk_104 (dk_at dksX4_fewest_9 7 rfl rfl)
theorem dX4_fewest_218 : decode cX4_fewest 218 = .ok (.iconst 2, 1) := dk_5 (dk_at dksX4_fewest_9 8 rfl rfl)
theorem dX4_fewest_219 : decode cX4_fewest 219 = .ok (.iadd, 1) := dk_96 (dk_at dksX4_fewest_9 9 rfl rfl)
theorem dX4_fewest_220 : decode cX4_fewest 220 = .ok (.iaload, 1) := dk_46 (dk_at dksX4_fewest_9 10 rfl rfl)
theorem dX4_fewest_221 : decode cX4_fewest 221 = .ok (.iadd, 1) := dk_96 (dk_at dksX4_fewest_9 11 rfl rfl)
theorem dX4_fewest_222 : decode cX4_fewest 222 = .ok (.aload_n 0, 1) := dk_42 (dk_at dksX4_fewest_9 12 rfl rfl)
theorem dX4_fewest_223 : decode cX4_fewest 223 = .ok (.getfield 137, 3) := dk_180 0 137 (dk_at dksX4_fewest_9 13 rfl rfl)
theorem dX4_fewest_226 : decode cX4_fewest 226 = .ok (.iconst 2, 1) := dk_5 (dk_at dksX4_fewest_9 16 rfl rfl)
theorem dX4_fewest_227 : decode cX4_fewest 227 = .ok (.iload 6, 2) := dk_21 6 (dk_at dksX4_fewest_9 17 rfl rfl)
theorem dX4_fewest_229 : decode cX4_fewest 229 = .ok (.imul, 1) := dk_104 (dk_at dksX4_fewest_9 19 rfl rfl)
theorem dX4_fewest_230 : decode cX4_fewest 230 = .ok (.iload 5, 2) := dk_21 5 (dk_at dksX4_fewest_9 20 rfl rfl)
theorem dX4_fewest_232 : decode cX4_fewest 232 = .ok (.iadd, 1) := dk_96 (dk_at dksX4_fewest_9 22 rfl rfl)
theorem dX4_fewest_233 : decode cX4_fewest 233 = .ok (.iaload, 1) := dk_46 (dk_at dksX4_fewest_9 23 rfl rfl)
theorem dX4_fewest_234 : decode cX4_fewest 234 = .ok (.if_icmp .ne 7, 3) := dk_160 0 7 (dk_at dksX4_fewest_10 0 rfl rfl)
theorem dX4_fewest_237 : decode cX4_fewest 237 = .ok (.iconst 1, 1) := dk_4 (dk_at dksX4_fewest_10 3 rfl rfl)
theorem dX4_fewest_238 : decode cX4_fewest 238 = .ok (.goto 4, 3) := dk_167 0 4 (dk_at dksX4_fewest_10 4 rfl rfl)
theorem dX4_fewest_241 : decode cX4_fewest 241 = .ok (.iconst 0, 1) := dk_3 (dk_at dksX4_fewest_10 7 rfl rfl)
theorem dX4_fewest_242 : decode cX4_fewest 242 = .ok (.istore 8, 2) := dk_54 8 (dk_at dksX4_fewest_10 8 rfl rfl)
theorem dX4_fewest_244 : decode cX4_fewest 244 = .ok (.aload_n 0, 1) := dk_42 (dk_at dksX4_fewest_10 10 rfl rfl)
theorem dX4_fewest_245 : decode cX4_fewest 245 = .ok (.getfield 140, 3) := dk_180 0 140 (dk_at dksX4_fewest_10 11 rfl rfl)
theorem dX4_fewest_248 : decode cX4_fewest 248 = .ok (.iload 6, 2) := dk_21 6 (dk_at dksX4_fewest_10 14 rfl rfl)
theorem dX4_fewest_250 : decode cX4_fewest 250 = .ok (.iload 8, 2) := dk_21 8 (dk_at dksX4_fewest_10 16 rfl rfl)
theorem dX4_fewest_252 : decode cX4_fewest 252 = .ok (.ifCond .eq 8, 3) := dk_153 0 8 (dk_at dksX4_fewest_10 18 rfl rfl)
theorem dX4_fewest_255 : decode cX4_fewest 255 = .ok (.iload 7, 2) := dk_21 7 (dk_at dksX4_fewest_10 21 rfl rfl)
theorem dX4_fewest_257 : decode cX4_fewest 257 = .ok (.goto 8, 3) := dk_167 0 8 (dk_at dksX4_fewest_11 0 rfl rfl)
theorem dX4_fewest_260 : decode cX4_fewest 260 = .ok (.iload 7, 2) := dk_21 7 (dk_at dksX4_fewest_11 3 rfl rfl)
theorem dX4_fewest_262 : decode cX4_fewest 262 = .ok (.bipush 10, 2) := dk_16 10 (dk_at dksX4_fewest_11 5 rfl rfl)
theorem dX4_fewest_264 : decode cX4_fewest 264 = .ok (.isub, 1) := dk_100 (dk_at dksX4_fewest_11 7 rfl rfl)
theorem dX4_fewest_265 : decode cX4_fewest 265 = .ok (.iastore, 1) := dk_79 (dk_at dksX4_fewest_11 8 rfl rfl)
theorem dX4_fewest_266 : decode cX4_fewest 266 = .ok (.iload 8, 2) := dk_21 8 (dk_at dksX4_fewest_11 9 rfl rfl)
theorem dX4_fewest_268 : decode cX4_fewest 268 = .ok (.ifCond .eq 7, 3) := dk_153 0 7 (dk_at dksX4_fewest_11 11 rfl rfl)
theorem dX4_fewest_271 : decode cX4_fewest 271 = .ok (.iconst 0, 1) := dk_3 (dk_at dksX4_fewest_11 14 rfl rfl)
theorem dX4_fewest_272 : decode cX4_fewest 272 = .ok (.goto 4, 3) := dk_167 0 4 (dk_at dksX4_fewest_11 15 rfl rfl)
theorem dX4_fewest_275 : decode cX4_fewest 275 = .ok (.iconst 1, 1) := dk_4 (dk_at dksX4_fewest_11 18 rfl rfl)
theorem dX4_fewest_276 : decode cX4_fewest 276 = .ok (.istore 5, 2) := dk_54 5 (dk_at dksX4_fewest_11 19 rfl rfl)
theorem dX4_fewest_278 : decode cX4_fewest 278 = .ok (.iinc 6 1, 3) := dk_132 6 1 (dk_at dksX4_fewest_11 21 rfl rfl)
theorem dX4_fewest_281 : decode cX4_fewest 281 = .ok (.goto (-99), 3) := dk_167 255 157 (dk_at dksX4_fewest_12 0 rfl rfl)
theorem dX4_fewest_284 : decode cX4_fewest 284 = .ok (.aload_n 0, 1) := dk_42 (dk_at dksX4_fewest_12 3 rfl rfl)
theorem dX4_fewest_285 : decode cX4_fewest 285 = .ok (.getfield 137, 3) := dk_180 0 137 (dk_at dksX4_fewest_12 4 rfl rfl)
theorem dX4_fewest_288 : decode cX4_fewest 288 = .ok (.iconst 0, 1) := dk_3 (dk_at dksX4_fewest_12 7 rfl rfl)
theorem dX4_fewest_289 : decode cX4_fewest 289 = .ok (.iaload, 1) := dk_46 (dk_at dksX4_fewest_12 8 rfl rfl)
theorem dX4_fewest_290 : decode cX4_fewest 290 = .ok (.ireturn, 1) := dk_172 (dk_at dksX4_fewest_12 9 rfl rfl)
abbrev cX4_ran : ByteArray := prog_9_method_66_code
def yX4_ran : MethodName := ⟨RX4, "ran", "(I)I"⟩
def dkwX4_ran_3 : List UInt8 := [180, 0, 134, 167, 0, 7, 42, 180, 1, 229, 172]
abbrev dktX4_ran_3 : List UInt8 := dkwX4_ran_3 ++ []
def dkwX4_ran_2 : List UInt8 := [180, 1, 212, 167, 0, 31, 27, 4, 160, 0, 10, 42, 180, 1, 226, 167, 0, 19, 27, 5, 160, 0, 10, 42]
abbrev dktX4_ran_2 : List UInt8 := dkwX4_ran_2 ++ dktX4_ran_3
def dkwX4_ran_1 : List UInt8 := [182, 0, 252, 172, 42, 180, 1, 223, 154, 0, 10, 42, 16, 8, 182, 0, 252, 172, 27, 154, 0, 10, 42]
abbrev dktX4_ran_1 : List UInt8 := dkwX4_ran_1 ++ dktX4_ran_2
def dkwX4_ran_0 : List UInt8 := [42, 3, 181, 0, 212, 42, 3, 181, 0, 215, 27, 133, 9, 20, 1, 77, 184, 0, 239, 154, 0, 9, 42, 8]
abbrev dktX4_ran_0 : List UInt8 := dkwX4_ran_0 ++ dktX4_ran_1
theorem dksX4_ran_0 : cX4_ran.data.toList.drop 0 = dktX4_ran_0 := by decide +kernel
theorem dksX4_ran_1 : cX4_ran.data.toList.drop 24 = dktX4_ran_1 := dk_seg dksX4_ran_0 24 rfl rfl
theorem dksX4_ran_2 : cX4_ran.data.toList.drop 47 = dktX4_ran_2 := dk_seg dksX4_ran_1 23 rfl rfl
theorem dksX4_ran_3 : cX4_ran.data.toList.drop 71 = dktX4_ran_3 := dk_seg dksX4_ran_2 24 rfl rfl
theorem dX4_ran_0 : decode cX4_ran 0 = .ok (.aload_n 0, 1) := dk_42 (dk_at dksX4_ran_0 0 rfl rfl)
theorem dX4_ran_1 : decode cX4_ran 1 = .ok (.iconst 0, 1) := dk_3 (dk_at dksX4_ran_0 1 rfl rfl)
theorem dX4_ran_2 : decode cX4_ran 2 = .ok (.putfield 212, 3) := dk_181 0 212 (dk_at dksX4_ran_0 2 rfl rfl)
theorem dX4_ran_5 : decode cX4_ran 5 = .ok (.aload_n 0, 1) := dk_42 (dk_at dksX4_ran_0 5 rfl rfl)
theorem dX4_ran_6 : decode cX4_ran 6 = .ok (.iconst 0, 1) := dk_3 (dk_at dksX4_ran_0 6 rfl rfl)
theorem dX4_ran_7 : decode cX4_ran 7 = .ok (.putfield 215, 3) := dk_181 0 215 (dk_at dksX4_ran_0 7 rfl rfl)
theorem dX4_ran_10 : decode cX4_ran 10 = .ok (.iload_n 1, 1) := dk_27 (dk_at dksX4_ran_0 10 rfl rfl)
theorem dX4_ran_11 : decode cX4_ran 11 = .ok (.i2l, 1) := dk_133 (dk_at dksX4_ran_0 11 rfl rfl)
theorem dX4_ran_12 : decode cX4_ran 12 = .ok (.lconst 0, 1) := dk_9 (dk_at dksX4_ran_0 12 rfl rfl)
theorem dX4_ran_13 : decode cX4_ran 13 = .ok (.ldc2_w 333, 3) := dk_20 1 77 (dk_at dksX4_ran_0 13 rfl rfl)
theorem dX4_ran_16 : decode cX4_ran 16 = .ok (.invokestatic 239, 3) := dk_184 0 239 (dk_at dksX4_ran_0 16 rfl rfl)
theorem dX4_ran_19 : decode cX4_ran 19 = .ok (.ifCond .ne 9, 3) := dk_154 0 9 (dk_at dksX4_ran_0 19 rfl rfl)
theorem dX4_ran_22 : decode cX4_ran 22 = .ok (.aload_n 0, 1) := dk_42 (dk_at dksX4_ran_0 22 rfl rfl)
theorem dX4_ran_23 : decode cX4_ran 23 = .ok (.iconst 5, 1) := dk_8 (dk_at dksX4_ran_0 23 rfl rfl)
theorem dX4_ran_24 : decode cX4_ran 24 = .ok (.invokevirtual 252, 3) := dk_182 0 252 (dk_at dksX4_ran_1 0 rfl rfl)
theorem dX4_ran_27 : decode cX4_ran 27 = .ok (.ireturn, 1) := dk_172 (dk_at dksX4_ran_1 3 rfl rfl)
theorem dX4_ran_28 : decode cX4_ran 28 = .ok (.aload_n 0, 1) := dk_42 (dk_at dksX4_ran_1 4 rfl rfl)
theorem dX4_ran_29 : decode cX4_ran 29 = .ok (.getfield 479, 3) := dk_180 1 223 (dk_at dksX4_ran_1 5 rfl rfl)
theorem dX4_ran_32 : decode cX4_ran 32 = .ok (.ifCond .ne 10, 3) := dk_154 0 10 (dk_at dksX4_ran_1 8 rfl rfl)
theorem dX4_ran_35 : decode cX4_ran 35 = .ok (.aload_n 0, 1) := dk_42 (dk_at dksX4_ran_1 11 rfl rfl)
theorem dX4_ran_36 : decode cX4_ran 36 = .ok (.bipush 8, 2) := dk_16 8 (dk_at dksX4_ran_1 12 rfl rfl)
theorem dX4_ran_38 : decode cX4_ran 38 = .ok (.invokevirtual 252, 3) := dk_182 0 252 (dk_at dksX4_ran_1 14 rfl rfl)
theorem dX4_ran_41 : decode cX4_ran 41 = .ok (.ireturn, 1) := dk_172 (dk_at dksX4_ran_1 17 rfl rfl)
theorem dX4_ran_42 : decode cX4_ran 42 = .ok (.iload_n 1, 1) := dk_27 (dk_at dksX4_ran_1 18 rfl rfl)
theorem dX4_ran_43 : decode cX4_ran 43 = .ok (.ifCond .ne 10, 3) := dk_154 0 10 (dk_at dksX4_ran_1 19 rfl rfl)
theorem dX4_ran_46 : decode cX4_ran 46 = .ok (.aload_n 0, 1) := dk_42 (dk_at dksX4_ran_1 22 rfl rfl)
theorem dX4_ran_47 : decode cX4_ran 47 = .ok (.getfield 468, 3) := dk_180 1 212 (dk_at dksX4_ran_2 0 rfl rfl)
theorem dX4_ran_50 : decode cX4_ran 50 = .ok (.goto 31, 3) := dk_167 0 31 (dk_at dksX4_ran_2 3 rfl rfl)
theorem dX4_ran_53 : decode cX4_ran 53 = .ok (.iload_n 1, 1) := dk_27 (dk_at dksX4_ran_2 6 rfl rfl)
theorem dX4_ran_54 : decode cX4_ran 54 = .ok (.iconst 1, 1) := dk_4 (dk_at dksX4_ran_2 7 rfl rfl)
theorem dX4_ran_55 : decode cX4_ran 55 = .ok (.if_icmp .ne 10, 3) := dk_160 0 10 (dk_at dksX4_ran_2 8 rfl rfl)
theorem dX4_ran_58 : decode cX4_ran 58 = .ok (.aload_n 0, 1) := dk_42 (dk_at dksX4_ran_2 11 rfl rfl)
theorem dX4_ran_59 : decode cX4_ran 59 = .ok (.getfield 482, 3) := dk_180 1 226 (dk_at dksX4_ran_2 12 rfl rfl)
theorem dX4_ran_62 : decode cX4_ran 62 = .ok (.goto 19, 3) := dk_167 0 19 (dk_at dksX4_ran_2 15 rfl rfl)
theorem dX4_ran_65 : decode cX4_ran 65 = .ok (.iload_n 1, 1) := dk_27 (dk_at dksX4_ran_2 18 rfl rfl)
theorem dX4_ran_66 : decode cX4_ran 66 = .ok (.iconst 2, 1) := dk_5 (dk_at dksX4_ran_2 19 rfl rfl)
theorem dX4_ran_67 : decode cX4_ran 67 = .ok (.if_icmp .ne 10, 3) := dk_160 0 10 (dk_at dksX4_ran_2 20 rfl rfl)
theorem dX4_ran_70 : decode cX4_ran 70 = .ok (.aload_n 0, 1) := dk_42 (dk_at dksX4_ran_2 23 rfl rfl)
theorem dX4_ran_71 : decode cX4_ran 71 = .ok (.getfield 134, 3) := dk_180 0 134 (dk_at dksX4_ran_3 0 rfl rfl)
theorem dX4_ran_74 : decode cX4_ran 74 = .ok (.goto 7, 3) := dk_167 0 7 (dk_at dksX4_ran_3 3 rfl rfl)
theorem dX4_ran_77 : decode cX4_ran 77 = .ok (.aload_n 0, 1) := dk_42 (dk_at dksX4_ran_3 6 rfl rfl)
theorem dX4_ran_78 : decode cX4_ran 78 = .ok (.getfield 485, 3) := dk_180 1 229 (dk_at dksX4_ran_3 7 rfl rfl)
theorem dX4_ran_81 : decode cX4_ran 81 = .ok (.ireturn, 1) := dk_172 (dk_at dksX4_ran_3 10 rfl rfl)
abbrev cX4_printed : ByteArray := prog_9_method_67_code
def yX4_printed : MethodName := ⟨RX4, "printed", "(I)J"⟩
def dkwX4_printed_1 : List UInt8 := [153, 0, 12, 42, 180, 0, 131, 27, 47, 167, 0, 10, 42, 16, 8, 182, 0, 252, 133, 173]
abbrev dktX4_printed_1 : List UInt8 := dkwX4_printed_1 ++ []
def dkwX4_printed_0 : List UInt8 := [42, 3, 181, 0, 212, 42, 3, 181, 0, 215, 27, 133, 9, 42, 180, 1, 205, 4, 100, 133, 184, 0, 239]
abbrev dktX4_printed_0 : List UInt8 := dkwX4_printed_0 ++ dktX4_printed_1
theorem dksX4_printed_0 : cX4_printed.data.toList.drop 0 = dktX4_printed_0 := by decide +kernel
theorem dksX4_printed_1 : cX4_printed.data.toList.drop 23 = dktX4_printed_1 := dk_seg dksX4_printed_0 23 rfl rfl
theorem dX4_printed_0 : decode cX4_printed 0 = .ok (.aload_n 0, 1) := dk_42 (dk_at dksX4_printed_0 0 rfl rfl)
theorem dX4_printed_1 : decode cX4_printed 1 = .ok (.iconst 0, 1) := dk_3 (dk_at dksX4_printed_0 1 rfl rfl)
theorem dX4_printed_2 : decode cX4_printed 2 = .ok (.putfield 212, 3) := dk_181 0 212 (dk_at dksX4_printed_0 2 rfl rfl)
theorem dX4_printed_5 : decode cX4_printed 5 = .ok (.aload_n 0, 1) := dk_42 (dk_at dksX4_printed_0 5 rfl rfl)
theorem dX4_printed_6 : decode cX4_printed 6 = .ok (.iconst 0, 1) := dk_3 (dk_at dksX4_printed_0 6 rfl rfl)
theorem dX4_printed_7 : decode cX4_printed 7 = .ok (.putfield 215, 3) := dk_181 0 215 (dk_at dksX4_printed_0 7 rfl rfl)
theorem dX4_printed_10 : decode cX4_printed 10 = .ok (.iload_n 1, 1) := dk_27 (dk_at dksX4_printed_0 10 rfl rfl)
theorem dX4_printed_11 : decode cX4_printed 11 = .ok (.i2l, 1) := dk_133 (dk_at dksX4_printed_0 11 rfl rfl)
theorem dX4_printed_12 : decode cX4_printed 12 = .ok (.lconst 0, 1) := dk_9 (dk_at dksX4_printed_0 12 rfl rfl)
theorem dX4_printed_13 : decode cX4_printed 13 = .ok (.aload_n 0, 1) := dk_42 (dk_at dksX4_printed_0 13 rfl rfl)
theorem dX4_printed_14 : decode cX4_printed 14 = .ok (.getfield 461, 3) := dk_180 1 205 (dk_at dksX4_printed_0 14 rfl rfl)
theorem dX4_printed_17 : decode cX4_printed 17 = .ok (.iconst 1, 1) := dk_4 (dk_at dksX4_printed_0 17 rfl rfl)
theorem dX4_printed_18 : decode cX4_printed 18 = .ok (.isub, 1) := dk_100 (dk_at dksX4_printed_0 18 rfl rfl)
theorem dX4_printed_19 : decode cX4_printed 19 = .ok (.i2l, 1) := dk_133 (dk_at dksX4_printed_0 19 rfl rfl)
theorem dX4_printed_20 : decode cX4_printed 20 = .ok (.invokestatic 239, 3) := dk_184 0 239 (dk_at dksX4_printed_0 20 rfl rfl)
theorem dX4_printed_23 : decode cX4_printed 23 = .ok (.ifCond .eq 12, 3) := dk_153 0 12 (dk_at dksX4_printed_1 0 rfl rfl)
theorem dX4_printed_26 : decode cX4_printed 26 = .ok (.aload_n 0, 1) := dk_42 (dk_at dksX4_printed_1 3 rfl rfl)
theorem dX4_printed_27 : decode cX4_printed 27 = .ok (.getfield 131, 3) := dk_180 0 131 (dk_at dksX4_printed_1 4 rfl rfl)
theorem dX4_printed_30 : decode cX4_printed 30 = .ok (.iload_n 1, 1) := dk_27 (dk_at dksX4_printed_1 7 rfl rfl)
theorem dX4_printed_31 : decode cX4_printed 31 = .ok (.laload, 1) := dk_47 (dk_at dksX4_printed_1 8 rfl rfl)
theorem dX4_printed_32 : decode cX4_printed 32 = .ok (.goto 10, 3) := dk_167 0 10 (dk_at dksX4_printed_1 9 rfl rfl)
theorem dX4_printed_35 : decode cX4_printed 35 = .ok (.aload_n 0, 1) := dk_42 (dk_at dksX4_printed_1 12 rfl rfl)
theorem dX4_printed_36 : decode cX4_printed 36 = .ok (.bipush 8, 2) := dk_16 8 (dk_at dksX4_printed_1 13 rfl rfl)
theorem dX4_printed_38 : decode cX4_printed 38 = .ok (.invokevirtual 252, 3) := dk_182 0 252 (dk_at dksX4_printed_1 15 rfl rfl)
theorem dX4_printed_41 : decode cX4_printed 41 = .ok (.i2l, 1) := dk_133 (dk_at dksX4_printed_1 18 rfl rfl)
theorem dX4_printed_42 : decode cX4_printed 42 = .ok (.lreturn, 1) := dk_173 (dk_at dksX4_printed_1 19 rfl rfl)
abbrev cX4_place : ByteArray := prog_9_method_68_code
def yX4_place : MethodName := ⟨RX4, "place", "(I)J"⟩
def dkwX4_place_2 : List UInt8 := [182, 0, 252, 133, 173]
abbrev dktX4_place_2 : List UInt8 := dkwX4_place_2 ++ []
def dkwX4_place_1 : List UInt8 := [182, 0, 252, 133, 173, 42, 180, 1, 223, 153, 0, 12, 42, 180, 0, 128, 27, 47, 167, 0, 10, 42, 16, 8]
abbrev dktX4_place_1 : List UInt8 := dkwX4_place_1 ++ dktX4_place_2
def dkwX4_place_0 : List UInt8 := [42, 3, 181, 0, 212, 42, 3, 181, 0, 215, 27, 133, 9, 20, 1, 238, 184, 0, 239, 154, 0, 10, 42, 5]
abbrev dktX4_place_0 : List UInt8 := dkwX4_place_0 ++ dktX4_place_1
theorem dksX4_place_0 : cX4_place.data.toList.drop 0 = dktX4_place_0 := by decide +kernel
theorem dksX4_place_1 : cX4_place.data.toList.drop 24 = dktX4_place_1 := dk_seg dksX4_place_0 24 rfl rfl
theorem dksX4_place_2 : cX4_place.data.toList.drop 48 = dktX4_place_2 := dk_seg dksX4_place_1 24 rfl rfl
theorem dX4_place_0 : decode cX4_place 0 = .ok (.aload_n 0, 1) := dk_42 (dk_at dksX4_place_0 0 rfl rfl)
theorem dX4_place_1 : decode cX4_place 1 = .ok (.iconst 0, 1) := dk_3 (dk_at dksX4_place_0 1 rfl rfl)
theorem dX4_place_2 : decode cX4_place 2 = .ok (.putfield 212, 3) := dk_181 0 212 (dk_at dksX4_place_0 2 rfl rfl)
theorem dX4_place_5 : decode cX4_place 5 = .ok (.aload_n 0, 1) := dk_42 (dk_at dksX4_place_0 5 rfl rfl)
theorem dX4_place_6 : decode cX4_place 6 = .ok (.iconst 0, 1) := dk_3 (dk_at dksX4_place_0 6 rfl rfl)
theorem dX4_place_7 : decode cX4_place 7 = .ok (.putfield 215, 3) := dk_181 0 215 (dk_at dksX4_place_0 7 rfl rfl)
theorem dX4_place_10 : decode cX4_place 10 = .ok (.iload_n 1, 1) := dk_27 (dk_at dksX4_place_0 10 rfl rfl)
theorem dX4_place_11 : decode cX4_place 11 = .ok (.i2l, 1) := dk_133 (dk_at dksX4_place_0 11 rfl rfl)
theorem dX4_place_12 : decode cX4_place 12 = .ok (.lconst 0, 1) := dk_9 (dk_at dksX4_place_0 12 rfl rfl)
theorem dX4_place_13 : decode cX4_place 13 = .ok (.ldc2_w 494, 3) := dk_20 1 238 (dk_at dksX4_place_0 13 rfl rfl)
theorem dX4_place_16 : decode cX4_place 16 = .ok (.invokestatic 239, 3) := dk_184 0 239 (dk_at dksX4_place_0 16 rfl rfl)
theorem dX4_place_19 : decode cX4_place 19 = .ok (.ifCond .ne 10, 3) := dk_154 0 10 (dk_at dksX4_place_0 19 rfl rfl)
theorem dX4_place_22 : decode cX4_place 22 = .ok (.aload_n 0, 1) := dk_42 (dk_at dksX4_place_0 22 rfl rfl)
theorem dX4_place_23 : decode cX4_place 23 = .ok (.iconst 2, 1) := dk_5 (dk_at dksX4_place_0 23 rfl rfl)
theorem dX4_place_24 : decode cX4_place 24 = .ok (.invokevirtual 252, 3) := dk_182 0 252 (dk_at dksX4_place_1 0 rfl rfl)
theorem dX4_place_27 : decode cX4_place 27 = .ok (.i2l, 1) := dk_133 (dk_at dksX4_place_1 3 rfl rfl)
theorem dX4_place_28 : decode cX4_place 28 = .ok (.lreturn, 1) := dk_173 (dk_at dksX4_place_1 4 rfl rfl)
theorem dX4_place_29 : decode cX4_place 29 = .ok (.aload_n 0, 1) := dk_42 (dk_at dksX4_place_1 5 rfl rfl)
theorem dX4_place_30 : decode cX4_place 30 = .ok (.getfield 479, 3) := dk_180 1 223 (dk_at dksX4_place_1 6 rfl rfl)
theorem dX4_place_33 : decode cX4_place 33 = .ok (.ifCond .eq 12, 3) := dk_153 0 12 (dk_at dksX4_place_1 9 rfl rfl)
theorem dX4_place_36 : decode cX4_place 36 = .ok (.aload_n 0, 1) := dk_42 (dk_at dksX4_place_1 12 rfl rfl)
theorem dX4_place_37 : decode cX4_place 37 = .ok (.getfield 128, 3) := dk_180 0 128 (dk_at dksX4_place_1 13 rfl rfl)
theorem dX4_place_40 : decode cX4_place 40 = .ok (.iload_n 1, 1) := dk_27 (dk_at dksX4_place_1 16 rfl rfl)
theorem dX4_place_41 : decode cX4_place 41 = .ok (.laload, 1) := dk_47 (dk_at dksX4_place_1 17 rfl rfl)
theorem dX4_place_42 : decode cX4_place 42 = .ok (.goto 10, 3) := dk_167 0 10 (dk_at dksX4_place_1 18 rfl rfl)
theorem dX4_place_45 : decode cX4_place 45 = .ok (.aload_n 0, 1) := dk_42 (dk_at dksX4_place_1 21 rfl rfl)
theorem dX4_place_46 : decode cX4_place 46 = .ok (.bipush 8, 2) := dk_16 8 (dk_at dksX4_place_1 22 rfl rfl)
theorem dX4_place_48 : decode cX4_place 48 = .ok (.invokevirtual 252, 3) := dk_182 0 252 (dk_at dksX4_place_2 0 rfl rfl)
theorem dX4_place_51 : decode cX4_place 51 = .ok (.i2l, 1) := dk_133 (dk_at dksX4_place_2 3 rfl rfl)
theorem dX4_place_52 : decode cX4_place 52 = .ok (.lreturn, 1) := dk_173 (dk_at dksX4_place_2 4 rfl rfl)
abbrev cX4_turns : ByteArray := prog_9_method_70_code
def yX4_turns : MethodName := ⟨RX4, "turns", "(J)I"⟩
def dkwX4_turns_1 : List UInt8 := [182, 1, 219, 167, 0, 8, 42, 8, 182, 0, 252, 172]
abbrev dktX4_turns_1 : List UInt8 := dkwX4_turns_1 ++ []
def dkwX4_turns_0 : List UInt8 := [42, 3, 181, 0, 212, 42, 3, 181, 0, 215, 31, 9, 20, 1, 199, 184, 0, 239, 153, 0, 11, 42, 31]
abbrev dktX4_turns_0 : List UInt8 := dkwX4_turns_0 ++ dktX4_turns_1
theorem dksX4_turns_0 : cX4_turns.data.toList.drop 0 = dktX4_turns_0 := by decide +kernel
theorem dksX4_turns_1 : cX4_turns.data.toList.drop 23 = dktX4_turns_1 := dk_seg dksX4_turns_0 23 rfl rfl
theorem dX4_turns_0 : decode cX4_turns 0 = .ok (.aload_n 0, 1) := dk_42 (dk_at dksX4_turns_0 0 rfl rfl)
theorem dX4_turns_1 : decode cX4_turns 1 = .ok (.iconst 0, 1) := dk_3 (dk_at dksX4_turns_0 1 rfl rfl)
theorem dX4_turns_2 : decode cX4_turns 2 = .ok (.putfield 212, 3) := dk_181 0 212 (dk_at dksX4_turns_0 2 rfl rfl)
theorem dX4_turns_5 : decode cX4_turns 5 = .ok (.aload_n 0, 1) := dk_42 (dk_at dksX4_turns_0 5 rfl rfl)
theorem dX4_turns_6 : decode cX4_turns 6 = .ok (.iconst 0, 1) := dk_3 (dk_at dksX4_turns_0 6 rfl rfl)
theorem dX4_turns_7 : decode cX4_turns 7 = .ok (.putfield 215, 3) := dk_181 0 215 (dk_at dksX4_turns_0 7 rfl rfl)
theorem dX4_turns_10 : decode cX4_turns 10 = .ok (.lload_n 1, 1) := dk_31 (dk_at dksX4_turns_0 10 rfl rfl)
theorem dX4_turns_11 : decode cX4_turns 11 = .ok (.lconst 0, 1) := dk_9 (dk_at dksX4_turns_0 11 rfl rfl)
theorem dX4_turns_12 : decode cX4_turns 12 = .ok (.ldc2_w 455, 3) := dk_20 1 199 (dk_at dksX4_turns_0 12 rfl rfl)
theorem dX4_turns_15 : decode cX4_turns 15 = .ok (.invokestatic 239, 3) := dk_184 0 239 (dk_at dksX4_turns_0 15 rfl rfl)
theorem dX4_turns_18 : decode cX4_turns 18 = .ok (.ifCond .eq 11, 3) := dk_153 0 11 (dk_at dksX4_turns_0 18 rfl rfl)
theorem dX4_turns_21 : decode cX4_turns 21 = .ok (.aload_n 0, 1) := dk_42 (dk_at dksX4_turns_0 21 rfl rfl)
theorem dX4_turns_22 : decode cX4_turns 22 = .ok (.lload_n 1, 1) := dk_31 (dk_at dksX4_turns_0 22 rfl rfl)
theorem dX4_turns_23 : decode cX4_turns 23 = .ok (.invokevirtual 475, 3) := dk_182 1 219 (dk_at dksX4_turns_1 0 rfl rfl)
theorem dX4_turns_26 : decode cX4_turns 26 = .ok (.goto 8, 3) := dk_167 0 8 (dk_at dksX4_turns_1 3 rfl rfl)
theorem dX4_turns_29 : decode cX4_turns 29 = .ok (.aload_n 0, 1) := dk_42 (dk_at dksX4_turns_1 6 rfl rfl)
theorem dX4_turns_30 : decode cX4_turns 30 = .ok (.iconst 5, 1) := dk_8 (dk_at dksX4_turns_1 7 rfl rfl)
theorem dX4_turns_31 : decode cX4_turns 31 = .ok (.invokevirtual 252, 3) := dk_182 0 252 (dk_at dksX4_turns_1 8 rfl rfl)
theorem dX4_turns_34 : decode cX4_turns 34 = .ok (.ireturn, 1) := dk_172 (dk_at dksX4_turns_1 11 rfl rfl)
abbrev cX4_turnsAt : ByteArray := prog_9_method_71_code
def yX4_turnsAt : MethodName := ⟨RX4, "turnsAt", "(JI)I"⟩
def dkwX4_turnsAt_2 : List UInt8 := [180, 0, 140, 29, 46, 172]
abbrev dktX4_turnsAt_2 : List UInt8 := dkwX4_turnsAt_2 ++ []
def dkwX4_turnsAt_1 : List UInt8 := [20, 0, 250, 184, 0, 239, 154, 0, 9, 42, 8, 182, 0, 252, 172, 42, 31, 182, 1, 219, 87, 42]
abbrev dktX4_turnsAt_1 : List UInt8 := dkwX4_turnsAt_1 ++ dktX4_turnsAt_2
def dkwX4_turnsAt_0 : List UInt8 := [42, 3, 181, 0, 212, 42, 3, 181, 0, 215, 31, 9, 20, 1, 199, 184, 0, 239, 153, 0, 15, 29, 133, 9]
abbrev dktX4_turnsAt_0 : List UInt8 := dkwX4_turnsAt_0 ++ dktX4_turnsAt_1
theorem dksX4_turnsAt_0 : cX4_turnsAt.data.toList.drop 0 = dktX4_turnsAt_0 := by decide +kernel
theorem dksX4_turnsAt_1 : cX4_turnsAt.data.toList.drop 24 = dktX4_turnsAt_1 := dk_seg dksX4_turnsAt_0 24 rfl rfl
theorem dksX4_turnsAt_2 : cX4_turnsAt.data.toList.drop 46 = dktX4_turnsAt_2 := dk_seg dksX4_turnsAt_1 22 rfl rfl
theorem dX4_turnsAt_0 : decode cX4_turnsAt 0 = .ok (.aload_n 0, 1) := dk_42 (dk_at dksX4_turnsAt_0 0 rfl rfl)
theorem dX4_turnsAt_1 : decode cX4_turnsAt 1 = .ok (.iconst 0, 1) := dk_3 (dk_at dksX4_turnsAt_0 1 rfl rfl)
theorem dX4_turnsAt_2 : decode cX4_turnsAt 2 = .ok (.putfield 212, 3) := dk_181 0 212 (dk_at dksX4_turnsAt_0 2 rfl rfl)
theorem dX4_turnsAt_5 : decode cX4_turnsAt 5 = .ok (.aload_n 0, 1) := dk_42 (dk_at dksX4_turnsAt_0 5 rfl rfl)
theorem dX4_turnsAt_6 : decode cX4_turnsAt 6 = .ok (.iconst 0, 1) := dk_3 (dk_at dksX4_turnsAt_0 6 rfl rfl)
theorem dX4_turnsAt_7 : decode cX4_turnsAt 7 = .ok (.putfield 215, 3) := dk_181 0 215 (dk_at dksX4_turnsAt_0 7 rfl rfl)
theorem dX4_turnsAt_10 : decode cX4_turnsAt 10 = .ok (.lload_n 1, 1) := dk_31 (dk_at dksX4_turnsAt_0 10 rfl rfl)
theorem dX4_turnsAt_11 : decode cX4_turnsAt 11 = .ok (.lconst 0, 1) := dk_9 (dk_at dksX4_turnsAt_0 11 rfl rfl)
theorem dX4_turnsAt_12 : decode cX4_turnsAt 12 = .ok (.ldc2_w 455, 3) := dk_20 1 199 (dk_at dksX4_turnsAt_0 12 rfl rfl)
theorem dX4_turnsAt_15 : decode cX4_turnsAt 15 = .ok (.invokestatic 239, 3) := dk_184 0 239 (dk_at dksX4_turnsAt_0 15 rfl rfl)
theorem dX4_turnsAt_18 : decode cX4_turnsAt 18 = .ok (.ifCond .eq 15, 3) := dk_153 0 15 (dk_at dksX4_turnsAt_0 18 rfl rfl)
theorem dX4_turnsAt_21 : decode cX4_turnsAt 21 = .ok (.iload_n 3, 1) := dk_29 (dk_at dksX4_turnsAt_0 21 rfl rfl)
theorem dX4_turnsAt_22 : decode cX4_turnsAt 22 = .ok (.i2l, 1) := dk_133 (dk_at dksX4_turnsAt_0 22 rfl rfl)
theorem dX4_turnsAt_23 : decode cX4_turnsAt 23 = .ok (.lconst 0, 1) := dk_9 (dk_at dksX4_turnsAt_0 23 rfl rfl)
theorem dX4_turnsAt_24 : decode cX4_turnsAt 24 = .ok (.ldc2_w 250, 3) := dk_20 0 250 (dk_at dksX4_turnsAt_1 0 rfl rfl)
theorem dX4_turnsAt_27 : decode cX4_turnsAt 27 = .ok (.invokestatic 239, 3) := dk_184 0 239 (dk_at dksX4_turnsAt_1 3 rfl rfl)
theorem dX4_turnsAt_30 : decode cX4_turnsAt 30 = .ok (.ifCond .ne 9, 3) := dk_154 0 9 (dk_at dksX4_turnsAt_1 6 rfl rfl)
theorem dX4_turnsAt_33 : decode cX4_turnsAt 33 = .ok (.aload_n 0, 1) := dk_42 (dk_at dksX4_turnsAt_1 9 rfl rfl)
theorem dX4_turnsAt_34 : decode cX4_turnsAt 34 = .ok (.iconst 5, 1) := dk_8 (dk_at dksX4_turnsAt_1 10 rfl rfl)
theorem dX4_turnsAt_35 : decode cX4_turnsAt 35 = .ok (.invokevirtual 252, 3) := dk_182 0 252 (dk_at dksX4_turnsAt_1 11 rfl rfl)
theorem dX4_turnsAt_38 : decode cX4_turnsAt 38 = .ok (.ireturn, 1) := dk_172 (dk_at dksX4_turnsAt_1 14 rfl rfl)
theorem dX4_turnsAt_39 : decode cX4_turnsAt 39 = .ok (.aload_n 0, 1) := dk_42 (dk_at dksX4_turnsAt_1 15 rfl rfl)
theorem dX4_turnsAt_40 : decode cX4_turnsAt 40 = .ok (.lload_n 1, 1) := dk_31 (dk_at dksX4_turnsAt_1 16 rfl rfl)
theorem dX4_turnsAt_41 : decode cX4_turnsAt 41 = .ok (.invokevirtual 475, 3) := dk_182 1 219 (dk_at dksX4_turnsAt_1 17 rfl rfl)
theorem dX4_turnsAt_44 : decode cX4_turnsAt 44 = .ok (.pop, 1) := dk_87 (dk_at dksX4_turnsAt_1 20 rfl rfl)
theorem dX4_turnsAt_45 : decode cX4_turnsAt 45 = .ok (.aload_n 0, 1) := dk_42 (dk_at dksX4_turnsAt_1 21 rfl rfl)
theorem dX4_turnsAt_46 : decode cX4_turnsAt 46 = .ok (.getfield 140, 3) := dk_180 0 140 (dk_at dksX4_turnsAt_2 0 rfl rfl)
theorem dX4_turnsAt_49 : decode cX4_turnsAt 49 = .ok (.iload_n 3, 1) := dk_29 (dk_at dksX4_turnsAt_2 3 rfl rfl)
theorem dX4_turnsAt_50 : decode cX4_turnsAt 50 = .ok (.iaload, 1) := dk_46 (dk_at dksX4_turnsAt_2 4 rfl rfl)
theorem dX4_turnsAt_51 : decode cX4_turnsAt 51 = .ok (.ireturn, 1) := dk_172 (dk_at dksX4_turnsAt_2 5 rfl rfl)
abbrev cX4_errata : ByteArray := prog_9_method_77_code
def yX4_errata : MethodName := ⟨RX4, "errata", "(IIII)I"⟩
def dkwX4_errata_15 : List UInt8 := [132, 6, 1, 167, 255, 219, 21, 5, 172]
abbrev dktX4_errata_15 : List UInt8 := dkwX4_errata_15 ++ []
def dkwX4_errata_14 : List UInt8 := [21, 6, 42, 180, 0, 158, 21, 6, 46, 79, 42, 180, 0, 209, 21, 6, 42, 180, 0, 161, 21, 6, 46, 79]
abbrev dktX4_errata_14 : List UInt8 := dkwX4_errata_14 ++ dktX4_errata_15
def dkwX4_errata_13 : List UInt8 := [182, 0, 252, 172, 42, 21, 5, 181, 2, 5, 3, 54, 6, 21, 6, 5, 162, 0, 37, 42, 180, 0, 206]
abbrev dktX4_errata_13 : List UInt8 := dkwX4_errata_13 ++ dktX4_errata_14
def dkwX4_errata_12 : List UInt8 := [54, 5, 132, 7, 1, 167, 255, 224, 132, 6, 1, 167, 255, 201, 21, 5, 156, 0, 10, 42, 16, 8]
abbrev dktX4_errata_12 : List UInt8 := dkwX4_errata_12 ++ dktX4_errata_13
def dkwX4_errata_11 : List UInt8 := [162, 0, 32, 21, 5, 156, 0, 27, 42, 28, 29, 21, 4, 21, 6, 21, 7, 182, 2, 2, 153, 0, 6, 5]
abbrev dktX4_errata_11 : List UInt8 := dkwX4_errata_11 ++ dktX4_errata_12
def dkwX4_errata_10 : List UInt8 := [54, 6, 21, 6, 28, 162, 0, 55, 21, 5, 156, 0, 50, 21, 6, 4, 96, 54, 7, 21, 7, 28]
abbrev dktX4_errata_10 : List UInt8 := dkwX4_errata_10 ++ dktX4_errata_11
def dkwX4_errata_9 : List UInt8 := [28, 29, 21, 4, 21, 6, 21, 6, 182, 2, 2, 153, 0, 6, 4, 54, 5, 132, 6, 1, 167, 255, 224, 3]
abbrev dktX4_errata_9 : List UInt8 := dkwX4_errata_9 ++ dktX4_errata_10
def dkwX4_errata_8 : List UInt8 := [182, 1, 250, 153, 0, 6, 3, 54, 5, 3, 54, 6, 21, 6, 28, 162, 0, 32, 21, 5, 156, 0, 27, 42]
abbrev dktX4_errata_8 : List UInt8 := dkwX4_errata_8 ++ dktX4_errata_9
def dkwX4_errata_7 : List UInt8 := [162, 0, 15, 42, 21, 5, 182, 1, 255, 132, 5, 1, 167, 255, 241, 2, 54, 5, 42, 28, 29, 21, 4]
abbrev dktX4_errata_7 : List UInt8 := dkwX4_errata_7 ++ dktX4_errata_8
def dkwX4_errata_6 : List UInt8 := [21, 5, 42, 27, 21, 5, 182, 0, 255, 80, 132, 5, 1, 167, 255, 233, 3, 54, 5, 21, 5, 28]
abbrev dktX4_errata_6 : List UInt8 := dkwX4_errata_6 ++ dktX4_errata_7
def dkwX4_errata_5 : List UInt8 := [8, 182, 0, 252, 172, 132, 5, 1, 167, 255, 224, 3, 54, 5, 21, 5, 28, 162, 0, 23, 42, 180, 0, 146]
abbrev dktX4_errata_5 : List UInt8 := dkwX4_errata_5 ++ dktX4_errata_6
def dkwX4_errata_4 : List UInt8 := [21, 5, 28, 162, 0, 32, 42, 27, 21, 5, 182, 0, 255, 9, 20, 1, 253, 184, 0, 239, 154, 0, 9, 42]
abbrev dktX4_errata_4 : List UInt8 := dkwX4_errata_4 ++ dktX4_errata_5
def dkwX4_errata_3 : List UInt8 := [182, 0, 252, 172, 42, 180, 0, 13, 27, 46, 28, 162, 0, 9, 42, 7, 182, 0, 252, 172, 3, 54, 5]
abbrev dktX4_errata_3 : List UInt8 := dkwX4_errata_3 ++ dktX4_errata_4
def dkwX4_errata_2 : List UInt8 := [153, 0, 21, 29, 28, 162, 0, 16, 21, 4, 133, 9, 20, 1, 32, 184, 0, 239, 154, 0, 9, 42, 8]
abbrev dktX4_errata_2 : List UInt8 := dkwX4_errata_2 ++ dktX4_errata_3
def dkwX4_errata_1 : List UInt8 := [133, 20, 1, 77, 20, 1, 86, 184, 0, 239, 153, 0, 33, 29, 133, 10, 20, 1, 84, 184, 0, 239]
abbrev dktX4_errata_1 : List UInt8 := dkwX4_errata_1 ++ dktX4_errata_2
def dkwX4_errata_0 : List UInt8 := [42, 3, 181, 0, 212, 42, 42, 27, 182, 0, 222, 181, 0, 215, 42, 180, 0, 215, 158, 0, 5, 2, 172, 28]
abbrev dktX4_errata_0 : List UInt8 := dkwX4_errata_0 ++ dktX4_errata_1
theorem dksX4_errata_0 : cX4_errata.data.toList.drop 0 = dktX4_errata_0 := by decide +kernel
theorem dksX4_errata_1 : cX4_errata.data.toList.drop 24 = dktX4_errata_1 := dk_seg dksX4_errata_0 24 rfl rfl
theorem dksX4_errata_2 : cX4_errata.data.toList.drop 46 = dktX4_errata_2 := dk_seg dksX4_errata_1 22 rfl rfl
theorem dksX4_errata_3 : cX4_errata.data.toList.drop 69 = dktX4_errata_3 := dk_seg dksX4_errata_2 23 rfl rfl
theorem dksX4_errata_4 : cX4_errata.data.toList.drop 92 = dktX4_errata_4 := dk_seg dksX4_errata_3 23 rfl rfl
theorem dksX4_errata_5 : cX4_errata.data.toList.drop 116 = dktX4_errata_5 := dk_seg dksX4_errata_4 24 rfl rfl
theorem dksX4_errata_6 : cX4_errata.data.toList.drop 140 = dktX4_errata_6 := dk_seg dksX4_errata_5 24 rfl rfl
theorem dksX4_errata_7 : cX4_errata.data.toList.drop 162 = dktX4_errata_7 := dk_seg dksX4_errata_6 22 rfl rfl
theorem dksX4_errata_8 : cX4_errata.data.toList.drop 185 = dktX4_errata_8 := dk_seg dksX4_errata_7 23 rfl rfl
theorem dksX4_errata_9 : cX4_errata.data.toList.drop 209 = dktX4_errata_9 := dk_seg dksX4_errata_8 24 rfl rfl
theorem dksX4_errata_10 : cX4_errata.data.toList.drop 233 = dktX4_errata_10 := dk_seg dksX4_errata_9 24 rfl rfl
theorem dksX4_errata_11 : cX4_errata.data.toList.drop 255 = dktX4_errata_11 := dk_seg dksX4_errata_10 22 rfl rfl
theorem dksX4_errata_12 : cX4_errata.data.toList.drop 279 = dktX4_errata_12 := dk_seg dksX4_errata_11 24 rfl rfl
theorem dksX4_errata_13 : cX4_errata.data.toList.drop 301 = dktX4_errata_13 := dk_seg dksX4_errata_12 22 rfl rfl
theorem dksX4_errata_14 : cX4_errata.data.toList.drop 324 = dktX4_errata_14 := dk_seg dksX4_errata_13 23 rfl rfl
theorem dksX4_errata_15 : cX4_errata.data.toList.drop 348 = dktX4_errata_15 := dk_seg dksX4_errata_14 24 rfl rfl
theorem dX4_errata_0 : decode cX4_errata 0 = .ok (.aload_n 0, 1) := dk_42 (dk_at dksX4_errata_0 0 rfl rfl)
theorem dX4_errata_1 : decode cX4_errata 1 = .ok (.iconst 0, 1) := dk_3 (dk_at dksX4_errata_0 1 rfl rfl)
theorem dX4_errata_2 : decode cX4_errata 2 = .ok (.putfield 212, 3) := dk_181 0 212 (dk_at dksX4_errata_0 2 rfl rfl)
theorem dX4_errata_5 : decode cX4_errata 5 = .ok (.aload_n 0, 1) := dk_42 (dk_at dksX4_errata_0 5 rfl rfl)
theorem dX4_errata_6 : decode cX4_errata 6 = .ok (.aload_n 0, 1) := dk_42 (dk_at dksX4_errata_0 6 rfl rfl)
theorem dX4_errata_7 : decode cX4_errata 7 = .ok (.iload_n 1, 1) := dk_27 (dk_at dksX4_errata_0 7 rfl rfl)
theorem dX4_errata_8 : decode cX4_errata 8 = .ok (.invokevirtual 222, 3) := dk_182 0 222 (dk_at dksX4_errata_0 8 rfl rfl)
theorem dX4_errata_11 : decode cX4_errata 11 = .ok (.putfield 215, 3) := dk_181 0 215 (dk_at dksX4_errata_0 11 rfl rfl)
theorem dX4_errata_14 : decode cX4_errata 14 = .ok (.aload_n 0, 1) := dk_42 (dk_at dksX4_errata_0 14 rfl rfl)
theorem dX4_errata_15 : decode cX4_errata 15 = .ok (.getfield 215, 3) := dk_180 0 215 (dk_at dksX4_errata_0 15 rfl rfl)
theorem dX4_errata_18 : decode cX4_errata 18 = .ok (.ifCond .le 5, 3) := dk_158 0 5 (dk_at dksX4_errata_0 18 rfl rfl)
theorem dX4_errata_21 : decode cX4_errata 21 = .ok (.iconst (-1), 1) := dk_2 (dk_at dksX4_errata_0 21 rfl rfl)
theorem dX4_errata_22 : decode cX4_errata 22 = .ok (.ireturn, 1) := dk_172 (dk_at dksX4_errata_0 22 rfl rfl)
theorem dX4_errata_23 : decode cX4_errata 23 = .ok (.iload_n 2, 1) := dk_28 (dk_at dksX4_errata_0 23 rfl rfl)
theorem dX4_errata_24 : decode cX4_errata 24 = .ok (.i2l, 1) := dk_133 (dk_at dksX4_errata_1 0 rfl rfl)
theorem dX4_errata_25 : decode cX4_errata 25 = .ok (.ldc2_w 333, 3) := dk_20 1 77 (dk_at dksX4_errata_1 1 rfl rfl)
theorem dX4_errata_28 : decode cX4_errata 28 = .ok (.ldc2_w 342, 3) := dk_20 1 86 (dk_at dksX4_errata_1 4 rfl rfl)
theorem dX4_errata_31 : decode cX4_errata 31 = .ok (.invokestatic 239, 3) := dk_184 0 239 (dk_at dksX4_errata_1 7 rfl rfl)
theorem dX4_errata_34 : decode cX4_errata 34 = .ok (.ifCond .eq 33, 3) := dk_153 0 33 (dk_at dksX4_errata_1 10 rfl rfl)
theorem dX4_errata_37 : decode cX4_errata 37 = .ok (.iload_n 3, 1) := dk_29 (dk_at dksX4_errata_1 13 rfl rfl)
theorem dX4_errata_38 : decode cX4_errata 38 = .ok (.i2l, 1) := dk_133 (dk_at dksX4_errata_1 14 rfl rfl)
theorem dX4_errata_39 : decode cX4_errata 39 = .ok (.lconst 1, 1) := dk_10 (dk_at dksX4_errata_1 15 rfl rfl)
theorem dX4_errata_40 : decode cX4_errata 40 = .ok (.ldc2_w 340, 3) := dk_20 1 84 (dk_at dksX4_errata_1 16 rfl rfl)
theorem dX4_errata_43 : decode cX4_errata 43 = .ok (.invokestatic 239, 3) := dk_184 0 239 (dk_at dksX4_errata_1 19 rfl rfl)
theorem dX4_errata_46 : decode cX4_errata 46 = .ok (.ifCond .eq 21, 3) := dk_153 0 21 (dk_at dksX4_errata_2 0 rfl rfl)
theorem dX4_errata_49 : decode cX4_errata 49 = .ok (.iload_n 3, 1) := dk_29 (dk_at dksX4_errata_2 3 rfl rfl)
theorem dX4_errata_50 : decode cX4_errata 50 = .ok (.iload_n 2, 1) := dk_28 (dk_at dksX4_errata_2 4 rfl rfl)
theorem dX4_errata_51 : decode cX4_errata 51 = .ok (.if_icmp .ge 16, 3) := dk_162 0 16 (dk_at dksX4_errata_2 5 rfl rfl)
theorem dX4_errata_54 : decode cX4_errata 54 = .ok (.iload 4, 2) := dk_21 4 (dk_at dksX4_errata_2 8 rfl rfl)
theorem dX4_errata_56 : decode cX4_errata 56 = .ok (.i2l, 1) := dk_133 (dk_at dksX4_errata_2 10 rfl rfl)
theorem dX4_errata_57 : decode cX4_errata 57 = .ok (.lconst 0, 1) := dk_9 (dk_at dksX4_errata_2 11 rfl rfl)
theorem dX4_errata_58 : decode cX4_errata 58 = .ok (.ldc2_w 288, 3) := dk_20 1 32 (dk_at dksX4_errata_2 12 rfl rfl)
theorem dX4_errata_61 : decode cX4_errata 61 = .ok (.invokestatic 239, 3) := dk_184 0 239 (dk_at dksX4_errata_2 15 rfl rfl)
theorem dX4_errata_64 : decode cX4_errata 64 = .ok (.ifCond .ne 9, 3) := dk_154 0 9 (dk_at dksX4_errata_2 18 rfl rfl)
theorem dX4_errata_67 : decode cX4_errata 67 = .ok (.aload_n 0, 1) := dk_42 (dk_at dksX4_errata_2 21 rfl rfl)
theorem dX4_errata_68 : decode cX4_errata 68 = .ok (.iconst 5, 1) := dk_8 (dk_at dksX4_errata_2 22 rfl rfl)
theorem dX4_errata_69 : decode cX4_errata 69 = .ok (.invokevirtual 252, 3) := dk_182 0 252 (dk_at dksX4_errata_3 0 rfl rfl)
theorem dX4_errata_72 : decode cX4_errata 72 = .ok (.ireturn, 1) := dk_172 (dk_at dksX4_errata_3 3 rfl rfl)
theorem dX4_errata_73 : decode cX4_errata 73 = .ok (.aload_n 0, 1) := dk_42 (dk_at dksX4_errata_3 4 rfl rfl)
theorem dX4_errata_74 : decode cX4_errata 74 = .ok (.getfield 13, 3) := dk_180 0 13 (dk_at dksX4_errata_3 5 rfl rfl)
theorem dX4_errata_77 : decode cX4_errata 77 = .ok (.iload_n 1, 1) := dk_27 (dk_at dksX4_errata_3 8 rfl rfl)
theorem dX4_errata_78 : decode cX4_errata 78 = .ok (.iaload, 1) := dk_46 (dk_at dksX4_errata_3 9 rfl rfl)
theorem dX4_errata_79 : decode cX4_errata 79 = .ok (.iload_n 2, 1) := dk_28 (dk_at dksX4_errata_3 10 rfl rfl)
theorem dX4_errata_80 : decode cX4_errata 80 = .ok (.if_icmp .ge 9, 3) := dk_162 0 9 (dk_at dksX4_errata_3 11 rfl rfl)
theorem dX4_errata_83 : decode cX4_errata 83 = .ok (.aload_n 0, 1) := dk_42 (dk_at dksX4_errata_3 14 rfl rfl)
theorem dX4_errata_84 : decode cX4_errata 84 = .ok (.iconst 4, 1) := dk_7 (dk_at dksX4_errata_3 15 rfl rfl)
theorem dX4_errata_85 : decode cX4_errata 85 = .ok (.invokevirtual 252, 3) := dk_182 0 252 (dk_at dksX4_errata_3 16 rfl rfl)
theorem dX4_errata_88 : decode cX4_errata 88 = .ok (.ireturn, 1) := dk_172 (dk_at dksX4_errata_3 19 rfl rfl)
theorem dX4_errata_89 : decode cX4_errata 89 = .ok (.iconst 0, 1) := dk_3 (dk_at dksX4_errata_3 20 rfl rfl)
theorem dX4_errata_90 : decode cX4_errata 90 = .ok (.istore 5, 2) := dk_54 5 (dk_at dksX4_errata_3 21 rfl rfl)
theorem dX4_errata_92 : decode cX4_errata 92 = .ok (.iload 5, 2) := dk_21 5 (dk_at dksX4_errata_4 0 rfl rfl)
theorem dX4_errata_94 : decode cX4_errata 94 = .ok (.iload_n 2, 1) := dk_28 (dk_at dksX4_errata_4 2 rfl rfl)
theorem dX4_errata_95 : decode cX4_errata 95 = .ok (.if_icmp .ge 32, 3) := dk_162 0 32 (dk_at dksX4_errata_4 3 rfl rfl)
theorem dX4_errata_98 : decode cX4_errata 98 = .ok (.aload_n 0, 1) := dk_42 (dk_at dksX4_errata_4 6 rfl rfl)
theorem dX4_errata_99 : decode cX4_errata 99 = .ok (.iload_n 1, 1) := dk_27 (dk_at dksX4_errata_4 7 rfl rfl)
theorem dX4_errata_100 : decode cX4_errata 100 = .ok (.iload 5, 2) := dk_21 5 (dk_at dksX4_errata_4 8 rfl rfl)
theorem dX4_errata_102 : decode cX4_errata 102 = .ok (.invokevirtual 255, 3) := dk_182 0 255 (dk_at dksX4_errata_4 10 rfl rfl)
theorem dX4_errata_105 : decode cX4_errata 105 = .ok (.lconst 0, 1) := dk_9 (dk_at dksX4_errata_4 13 rfl rfl)
theorem dX4_errata_106 : decode cX4_errata 106 = .ok (.ldc2_w 509, 3) := dk_20 1 253 (dk_at dksX4_errata_4 14 rfl rfl)
theorem dX4_errata_109 : decode cX4_errata 109 = .ok (.invokestatic 239, 3) := dk_184 0 239 (dk_at dksX4_errata_4 17 rfl rfl)
theorem dX4_errata_112 : decode cX4_errata 112 = .ok (.ifCond .ne 9, 3) := dk_154 0 9 (dk_at dksX4_errata_4 20 rfl rfl)
theorem dX4_errata_115 : decode cX4_errata 115 = .ok (.aload_n 0, 1) := dk_42 (dk_at dksX4_errata_4 23 rfl rfl)
theorem dX4_errata_116 : decode cX4_errata 116 = .ok (.iconst 5, 1) := dk_8 (dk_at dksX4_errata_5 0 rfl rfl)
theorem dX4_errata_117 : decode cX4_errata 117 = .ok (.invokevirtual 252, 3) := dk_182 0 252 (dk_at dksX4_errata_5 1 rfl rfl)
theorem dX4_errata_120 : decode cX4_errata 120 = .ok (.ireturn, 1) := dk_172 (dk_at dksX4_errata_5 4 rfl rfl)
theorem dX4_errata_121 : decode cX4_errata 121 = .ok (.iinc 5 1, 3) := dk_132 5 1 (dk_at dksX4_errata_5 5 rfl rfl)
theorem dX4_errata_124 : decode cX4_errata 124 = .ok (.goto (-32), 3) := dk_167 255 224 (dk_at dksX4_errata_5 8 rfl rfl)
theorem dX4_errata_127 : decode cX4_errata 127 = .ok (.iconst 0, 1) := dk_3 (dk_at dksX4_errata_5 11 rfl rfl)
theorem dX4_errata_128 : decode cX4_errata 128 = .ok (.istore 5, 2) := dk_54 5 (dk_at dksX4_errata_5 12 rfl rfl)
theorem dX4_errata_130 : decode cX4_errata 130 = .ok (.iload 5, 2) := dk_21 5 (dk_at dksX4_errata_5 14 rfl rfl)
theorem dX4_errata_132 : decode cX4_errata 132 = .ok (.iload_n 2, 1) := dk_28 (dk_at dksX4_errata_5 16 rfl rfl)
theorem dX4_errata_133 : decode cX4_errata 133 = .ok (.if_icmp .ge 23, 3) := dk_162 0 23 (dk_at dksX4_errata_5 17 rfl rfl)
theorem dX4_errata_136 : decode cX4_errata 136 = .ok (.aload_n 0, 1) := dk_42 (dk_at dksX4_errata_5 20 rfl rfl)
theorem dX4_errata_137 : decode cX4_errata 137 = .ok (.getfield 146, 3) := dk_180 0 146 (dk_at dksX4_errata_5 21 rfl rfl)
theorem dX4_errata_140 : decode cX4_errata 140 = .ok (.iload 5, 2) := dk_21 5 (dk_at dksX4_errata_6 0 rfl rfl)
theorem dX4_errata_142 : decode cX4_errata 142 = .ok (.aload_n 0, 1) := dk_42 (dk_at dksX4_errata_6 2 rfl rfl)
theorem dX4_errata_143 : decode cX4_errata 143 = .ok (.iload_n 1, 1) := dk_27 (dk_at dksX4_errata_6 3 rfl rfl)
theorem dX4_errata_144 : decode cX4_errata 144 = .ok (.iload 5, 2) := dk_21 5 (dk_at dksX4_errata_6 4 rfl rfl)
theorem dX4_errata_146 : decode cX4_errata 146 = .ok (.invokevirtual 255, 3) := dk_182 0 255 (dk_at dksX4_errata_6 6 rfl rfl)
theorem dX4_errata_149 : decode cX4_errata 149 = .ok (.lastore, 1) := dk_80 (dk_at dksX4_errata_6 9 rfl rfl)
theorem dX4_errata_150 : decode cX4_errata 150 = .ok (.iinc 5 1, 3) := dk_132 5 1 (dk_at dksX4_errata_6 10 rfl rfl)
theorem dX4_errata_153 : decode cX4_errata 153 = .ok (.goto (-23), 3) := dk_167 255 233 (dk_at dksX4_errata_6 13 rfl rfl)
theorem dX4_errata_156 : decode cX4_errata 156 = .ok (.iconst 0, 1) := dk_3 (dk_at dksX4_errata_6 16 rfl rfl)
theorem dX4_errata_157 : decode cX4_errata 157 = .ok (.istore 5, 2) := dk_54 5 (dk_at dksX4_errata_6 17 rfl rfl)
theorem dX4_errata_159 : decode cX4_errata 159 = .ok (.iload 5, 2) := dk_21 5 (dk_at dksX4_errata_6 19 rfl rfl)
theorem dX4_errata_161 : decode cX4_errata 161 = .ok (.iload_n 2, 1) := dk_28 (dk_at dksX4_errata_6 21 rfl rfl)
theorem dX4_errata_162 : decode cX4_errata 162 = .ok (.if_icmp .ge 15, 3) := dk_162 0 15 (dk_at dksX4_errata_7 0 rfl rfl)
theorem dX4_errata_165 : decode cX4_errata 165 = .ok (.aload_n 0, 1) := dk_42 (dk_at dksX4_errata_7 3 rfl rfl)
theorem dX4_errata_166 : decode cX4_errata 166 = .ok (.iload 5, 2) := dk_21 5 (dk_at dksX4_errata_7 4 rfl rfl)
theorem dX4_errata_168 : decode cX4_errata 168 = .ok (.invokevirtual 511, 3) := dk_182 1 255 (dk_at dksX4_errata_7 6 rfl rfl)
theorem dX4_errata_171 : decode cX4_errata 171 = .ok (.iinc 5 1, 3) := dk_132 5 1 (dk_at dksX4_errata_7 9 rfl rfl)
theorem dX4_errata_174 : decode cX4_errata 174 = .ok (.goto (-15), 3) := dk_167 255 241 (dk_at dksX4_errata_7 12 rfl rfl)
theorem dX4_errata_177 : decode cX4_errata 177 = .ok (.iconst (-1), 1) := dk_2 (dk_at dksX4_errata_7 15 rfl rfl)
theorem dX4_errata_178 : decode cX4_errata 178 = .ok (.istore 5, 2) := dk_54 5 (dk_at dksX4_errata_7 16 rfl rfl)
theorem dX4_errata_180 : decode cX4_errata 180 = .ok (.aload_n 0, 1) := dk_42 (dk_at dksX4_errata_7 18 rfl rfl)
theorem dX4_errata_181 : decode cX4_errata 181 = .ok (.iload_n 2, 1) := dk_28 (dk_at dksX4_errata_7 19 rfl rfl)
theorem dX4_errata_182 : decode cX4_errata 182 = .ok (.iload_n 3, 1) := dk_29 (dk_at dksX4_errata_7 20 rfl rfl)
theorem dX4_errata_183 : decode cX4_errata 183 = .ok (.iload 4, 2) := dk_21 4 (dk_at dksX4_errata_7 21 rfl rfl)
theorem dX4_errata_185 : decode cX4_errata 185 = .ok (.invokevirtual 506, 3) := dk_182 1 250 (dk_at dksX4_errata_8 0 rfl rfl)
theorem dX4_errata_188 : decode cX4_errata 188 = .ok (.ifCond .eq 6, 3) := dk_153 0 6 (dk_at dksX4_errata_8 3 rfl rfl)
theorem dX4_errata_191 : decode cX4_errata 191 = .ok (.iconst 0, 1) := dk_3 (dk_at dksX4_errata_8 6 rfl rfl)
theorem dX4_errata_192 : decode cX4_errata 192 = .ok (.istore 5, 2) := dk_54 5 (dk_at dksX4_errata_8 7 rfl rfl)
theorem dX4_errata_194 : decode cX4_errata 194 = .ok (.iconst 0, 1) := dk_3 (dk_at dksX4_errata_8 9 rfl rfl)
theorem dX4_errata_195 : decode cX4_errata 195 = .ok (.istore 6, 2) := dk_54 6 (dk_at dksX4_errata_8 10 rfl rfl)
theorem dX4_errata_197 : decode cX4_errata 197 = .ok (.iload 6, 2) := dk_21 6 (dk_at dksX4_errata_8 12 rfl rfl)
theorem dX4_errata_199 : decode cX4_errata 199 = .ok (.iload_n 2, 1) := dk_28 (dk_at dksX4_errata_8 14 rfl rfl)
theorem dX4_errata_200 : decode cX4_errata 200 = .ok (.if_icmp .ge 32, 3) := dk_162 0 32 (dk_at dksX4_errata_8 15 rfl rfl)
theorem dX4_errata_203 : decode cX4_errata 203 = .ok (.iload 5, 2) := dk_21 5 (dk_at dksX4_errata_8 18 rfl rfl)
theorem dX4_errata_205 : decode cX4_errata 205 = .ok (.ifCond .ge 27, 3) := dk_156 0 27 (dk_at dksX4_errata_8 20 rfl rfl)
theorem dX4_errata_208 : decode cX4_errata 208 = .ok (.aload_n 0, 1) := dk_42 (dk_at dksX4_errata_8 23 rfl rfl)
theorem dX4_errata_209 : decode cX4_errata 209 = .ok (.iload_n 2, 1) := dk_28 (dk_at dksX4_errata_9 0 rfl rfl)
theorem dX4_errata_210 : decode cX4_errata 210 = .ok (.iload_n 3, 1) := dk_29 (dk_at dksX4_errata_9 1 rfl rfl)
theorem dX4_errata_211 : decode cX4_errata 211 = .ok (.iload 4, 2) := dk_21 4 (dk_at dksX4_errata_9 2 rfl rfl)
theorem dX4_errata_213 : decode cX4_errata 213 = .ok (.iload 6, 2) := dk_21 6 (dk_at dksX4_errata_9 4 rfl rfl)
theorem dX4_errata_215 : decode cX4_errata 215 = .ok (.iload 6, 2) := dk_21 6 (dk_at dksX4_errata_9 6 rfl rfl)
theorem dX4_errata_217 : decode cX4_errata 217 = .ok (.invokevirtual 514, 3) := dk_182 2 2 (dk_at dksX4_errata_9 8 rfl rfl)
theorem dX4_errata_220 : decode cX4_errata 220 = .ok (.ifCond .eq 6, 3) := dk_153 0 6 (dk_at dksX4_errata_9 11 rfl rfl)
theorem dX4_errata_223 : decode cX4_errata 223 = .ok (.iconst 1, 1) := dk_4 (dk_at dksX4_errata_9 14 rfl rfl)
theorem dX4_errata_224 : decode cX4_errata 224 = .ok (.istore 5, 2) := dk_54 5 (dk_at dksX4_errata_9 15 rfl rfl)
theorem dX4_errata_226 : decode cX4_errata 226 = .ok (.iinc 6 1, 3) := dk_132 6 1 (dk_at dksX4_errata_9 17 rfl rfl)
theorem dX4_errata_229 : decode cX4_errata 229 = .ok (.goto (-32), 3) := dk_167 255 224 (dk_at dksX4_errata_9 20 rfl rfl)
theorem dX4_errata_232 : decode cX4_errata 232 = .ok (.iconst 0, 1) := dk_3 (dk_at dksX4_errata_9 23 rfl rfl)
theorem dX4_errata_233 : decode cX4_errata 233 = .ok (.istore 6, 2) := dk_54 6 (dk_at dksX4_errata_10 0 rfl rfl)
theorem dX4_errata_235 : decode cX4_errata 235 = .ok (.iload 6, 2) := dk_21 6 (dk_at dksX4_errata_10 2 rfl rfl)
theorem dX4_errata_237 : decode cX4_errata 237 = .ok (.iload_n 2, 1) := dk_28 (dk_at dksX4_errata_10 4 rfl rfl)
theorem dX4_errata_238 : decode cX4_errata 238 = .ok (.if_icmp .ge 55, 3) := dk_162 0 55 (dk_at dksX4_errata_10 5 rfl rfl)
theorem dX4_errata_241 : decode cX4_errata 241 = .ok (.iload 5, 2) := dk_21 5 (dk_at dksX4_errata_10 8 rfl rfl)
theorem dX4_errata_243 : decode cX4_errata 243 = .ok (.ifCond .ge 50, 3) := dk_156 0 50 (dk_at dksX4_errata_10 10 rfl rfl)
theorem dX4_errata_246 : decode cX4_errata 246 = .ok (.iload 6, 2) := dk_21 6 (dk_at dksX4_errata_10 13 rfl rfl)
theorem dX4_errata_248 : decode cX4_errata 248 = .ok (.iconst 1, 1) := dk_4 (dk_at dksX4_errata_10 15 rfl rfl)
theorem dX4_errata_249 : decode cX4_errata 249 = .ok (.iadd, 1) := dk_96 (dk_at dksX4_errata_10 16 rfl rfl)
theorem dX4_errata_250 : decode cX4_errata 250 = .ok (.istore 7, 2) := dk_54 7 (dk_at dksX4_errata_10 17 rfl rfl)
theorem dX4_errata_252 : decode cX4_errata 252 = .ok (.iload 7, 2) := dk_21 7 (dk_at dksX4_errata_10 19 rfl rfl)
theorem dX4_errata_254 : decode cX4_errata 254 = .ok (.iload_n 2, 1) := dk_28 (dk_at dksX4_errata_10 21 rfl rfl)
theorem dX4_errata_255 : decode cX4_errata 255 = .ok (.if_icmp .ge 32, 3) := dk_162 0 32 (dk_at dksX4_errata_11 0 rfl rfl)
theorem dX4_errata_258 : decode cX4_errata 258 = .ok (.iload 5, 2) := dk_21 5 (dk_at dksX4_errata_11 3 rfl rfl)
theorem dX4_errata_260 : decode cX4_errata 260 = .ok (.ifCond .ge 27, 3) := dk_156 0 27 (dk_at dksX4_errata_11 5 rfl rfl)
theorem dX4_errata_263 : decode cX4_errata 263 = .ok (.aload_n 0, 1) := dk_42 (dk_at dksX4_errata_11 8 rfl rfl)
theorem dX4_errata_264 : decode cX4_errata 264 = .ok (.iload_n 2, 1) := dk_28 (dk_at dksX4_errata_11 9 rfl rfl)
theorem dX4_errata_265 : decode cX4_errata 265 = .ok (.iload_n 3, 1) := dk_29 (dk_at dksX4_errata_11 10 rfl rfl)
theorem dX4_errata_266 : decode cX4_errata 266 = .ok (.iload 4, 2) := dk_21 4 (dk_at dksX4_errata_11 11 rfl rfl)
theorem dX4_errata_268 : decode cX4_errata 268 = .ok (.iload 6, 2) := dk_21 6 (dk_at dksX4_errata_11 13 rfl rfl)
theorem dX4_errata_270 : decode cX4_errata 270 = .ok (.iload 7, 2) := dk_21 7 (dk_at dksX4_errata_11 15 rfl rfl)
theorem dX4_errata_272 : decode cX4_errata 272 = .ok (.invokevirtual 514, 3) := dk_182 2 2 (dk_at dksX4_errata_11 17 rfl rfl)
theorem dX4_errata_275 : decode cX4_errata 275 = .ok (.ifCond .eq 6, 3) := dk_153 0 6 (dk_at dksX4_errata_11 20 rfl rfl)
theorem dX4_errata_278 : decode cX4_errata 278 = .ok (.iconst 2, 1) := dk_5 (dk_at dksX4_errata_11 23 rfl rfl)
theorem dX4_errata_279 : decode cX4_errata 279 = .ok (.istore 5, 2) := dk_54 5 (dk_at dksX4_errata_12 0 rfl rfl)
theorem dX4_errata_281 : decode cX4_errata 281 = .ok (.iinc 7 1, 3) := dk_132 7 1 (dk_at dksX4_errata_12 2 rfl rfl)
theorem dX4_errata_284 : decode cX4_errata 284 = .ok (.goto (-32), 3) := dk_167 255 224 (dk_at dksX4_errata_12 5 rfl rfl)
theorem dX4_errata_287 : decode cX4_errata 287 = .ok (.iinc 6 1, 3) := dk_132 6 1 (dk_at dksX4_errata_12 8 rfl rfl)
theorem dX4_errata_290 : decode cX4_errata 290 = .ok (.goto (-55), 3) := dk_167 255 201 (dk_at dksX4_errata_12 11 rfl rfl)
theorem dX4_errata_293 : decode cX4_errata 293 = .ok (.iload 5, 2) := dk_21 5 (dk_at dksX4_errata_12 14 rfl rfl)
theorem dX4_errata_295 : decode cX4_errata 295 = .ok (.ifCond .ge 10, 3) := dk_156 0 10 (dk_at dksX4_errata_12 16 rfl rfl)
theorem dX4_errata_298 : decode cX4_errata 298 = .ok (.aload_n 0, 1) := dk_42 (dk_at dksX4_errata_12 19 rfl rfl)
theorem dX4_errata_299 : decode cX4_errata 299 = .ok (.bipush 8, 2) := dk_16 8 (dk_at dksX4_errata_12 20 rfl rfl)
theorem dX4_errata_301 : decode cX4_errata 301 = .ok (.invokevirtual 252, 3) := dk_182 0 252 (dk_at dksX4_errata_13 0 rfl rfl)
theorem dX4_errata_304 : decode cX4_errata 304 = .ok (.ireturn, 1) := dk_172 (dk_at dksX4_errata_13 3 rfl rfl)
theorem dX4_errata_305 : decode cX4_errata 305 = .ok (.aload_n 0, 1) := dk_42 (dk_at dksX4_errata_13 4 rfl rfl)
theorem dX4_errata_306 : decode cX4_errata 306 = .ok (.iload 5, 2) := dk_21 5 (dk_at dksX4_errata_13 5 rfl rfl)
theorem dX4_errata_308 : decode cX4_errata 308 = .ok (.putfield 517, 3) := dk_181 2 5 (dk_at dksX4_errata_13 7 rfl rfl)
theorem dX4_errata_311 : decode cX4_errata 311 = .ok (.iconst 0, 1) := dk_3 (dk_at dksX4_errata_13 10 rfl rfl)
theorem dX4_errata_312 : decode cX4_errata 312 = .ok (.istore 6, 2) := dk_54 6 (dk_at dksX4_errata_13 11 rfl rfl)
theorem dX4_errata_314 : decode cX4_errata 314 = .ok (.iload 6, 2) := dk_21 6 (dk_at dksX4_errata_13 13 rfl rfl)
theorem dX4_errata_316 : decode cX4_errata 316 = .ok (.iconst 2, 1) := dk_5 (dk_at dksX4_errata_13 15 rfl rfl)
theorem dX4_errata_317 : decode cX4_errata 317 = .ok (.if_icmp .ge 37, 3) := dk_162 0 37 (dk_at dksX4_errata_13 16 rfl rfl)
theorem dX4_errata_320 : decode cX4_errata 320 = .ok (.aload_n 0, 1) := dk_42 (dk_at dksX4_errata_13 19 rfl rfl)
theorem dX4_errata_321 : decode cX4_errata 321 = .ok (.getfield 206, 3) := dk_180 0 206 (dk_at dksX4_errata_13 20 rfl rfl)
theorem dX4_errata_324 : decode cX4_errata 324 = .ok (.iload 6, 2) := dk_21 6 (dk_at dksX4_errata_14 0 rfl rfl)
theorem dX4_errata_326 : decode cX4_errata 326 = .ok (.aload_n 0, 1) := dk_42 (dk_at dksX4_errata_14 2 rfl rfl)
theorem dX4_errata_327 : decode cX4_errata 327 = .ok (.getfield 158, 3) := dk_180 0 158 (dk_at dksX4_errata_14 3 rfl rfl)
theorem dX4_errata_330 : decode cX4_errata 330 = .ok (.iload 6, 2) := dk_21 6 (dk_at dksX4_errata_14 6 rfl rfl)
theorem dX4_errata_332 : decode cX4_errata 332 = .ok (.iaload, 1) := dk_46 (dk_at dksX4_errata_14 8 rfl rfl)
theorem dX4_errata_333 : decode cX4_errata 333 = .ok (.iastore, 1) := dk_79 (dk_at dksX4_errata_14 9 rfl rfl)
theorem dX4_errata_334 : decode cX4_errata 334 = .ok (.aload_n 0, 1) := dk_42 (dk_at dksX4_errata_14 10 rfl rfl)
theorem dX4_errata_335 : decode cX4_errata 335 = .ok (.getfield 209, 3) := dk_180 0 209 (dk_at dksX4_errata_14 11 rfl rfl)
theorem dX4_errata_338 : decode cX4_errata 338 = .ok (.iload 6, 2) := dk_21 6 (dk_at dksX4_errata_14 14 rfl rfl)
theorem dX4_errata_340 : decode cX4_errata 340 = .ok (.aload_n 0, 1) := dk_42 (dk_at dksX4_errata_14 16 rfl rfl)
theorem dX4_errata_341 : decode cX4_errata 341 = .ok (.getfield 161, 3) := dk_180 0 161 (dk_at dksX4_errata_14 17 rfl rfl)
theorem dX4_errata_344 : decode cX4_errata 344 = .ok (.iload 6, 2) := dk_21 6 (dk_at dksX4_errata_14 20 rfl rfl)
theorem dX4_errata_346 : decode cX4_errata 346 = .ok (.iaload, 1) := dk_46 (dk_at dksX4_errata_14 22 rfl rfl)
theorem dX4_errata_347 : decode cX4_errata 347 = .ok (.iastore, 1) := dk_79 (dk_at dksX4_errata_14 23 rfl rfl)
theorem dX4_errata_348 : decode cX4_errata 348 = .ok (.iinc 6 1, 3) := dk_132 6 1 (dk_at dksX4_errata_15 0 rfl rfl)
theorem dX4_errata_351 : decode cX4_errata 351 = .ok (.goto (-37), 3) := dk_167 255 219 (dk_at dksX4_errata_15 3 rfl rfl)
theorem dX4_errata_354 : decode cX4_errata 354 = .ok (.iload 5, 2) := dk_21 5 (dk_at dksX4_errata_15 6 rfl rfl)
theorem dX4_errata_356 : decode cX4_errata 356 = .ok (.ireturn, 1) := dk_172 (dk_at dksX4_errata_15 8 rfl rfl)
abbrev cX4_corrects : ByteArray := prog_9_method_73_code
def yX4_corrects : MethodName := ⟨RX4, "corrects", "(I)V"⟩
def dkwX4_corrects_6 : List UInt8 := [104, 62, 132, 4, 1, 167, 255, 130, 177]
abbrev dktX4_corrects_6 : List UInt8 := dkwX4_corrects_6 ++ []
def dkwX4_corrects_5 : List UInt8 := [100, 29, 104, 16, 10, 104, 96, 182, 1, 243, 29, 21, 4, 16, 7, 162, 0, 8, 16, 10, 167, 0, 4, 4]
abbrev dktX4_corrects_5 : List UInt8 := dkwX4_corrects_5 ++ dktX4_corrects_6
def dkwX4_corrects_4 : List UInt8 := [54, 6, 21, 6, 21, 5, 159, 0, 28, 42, 27, 28, 21, 6, 21, 5, 100, 29, 104, 96, 21, 5, 21, 6]
abbrev dktX4_corrects_4 : List UInt8 := dkwX4_corrects_4 ++ dktX4_corrects_5
def dkwX4_corrects_3 : List UInt8 := [167, 255, 225, 21, 4, 16, 7, 162, 0, 15, 28, 29, 108, 16, 10, 108, 16, 10, 112, 167, 0, 5, 21, 5]
abbrev dktX4_corrects_3 : List UInt8 := dkwX4_corrects_3 ++ dktX4_corrects_4
def dkwX4_corrects_2 : List UInt8 := [21, 5, 159, 0, 17, 42, 27, 28, 21, 6, 21, 5, 100, 29, 104, 96, 182, 1, 243, 132, 6, 1]
abbrev dktX4_corrects_2 : List UInt8 := dkwX4_corrects_2 ++ dktX4_corrects_3
def dkwX4_corrects_1 : List UInt8 := [162, 0, 125, 28, 29, 108, 16, 10, 112, 54, 5, 3, 54, 6, 21, 6, 16, 10, 162, 0, 30, 21, 6]
abbrev dktX4_corrects_1 : List UInt8 := dkwX4_corrects_1 ++ dktX4_corrects_2
def dkwX4_corrects_0 : List UInt8 := [42, 180, 0, 146, 27, 47, 136, 61, 42, 180, 0, 155, 27, 3, 79, 4, 62, 3, 54, 4, 21, 4, 16, 8]
abbrev dktX4_corrects_0 : List UInt8 := dkwX4_corrects_0 ++ dktX4_corrects_1
theorem dksX4_corrects_0 : cX4_corrects.data.toList.drop 0 = dktX4_corrects_0 := by decide +kernel
theorem dksX4_corrects_1 : cX4_corrects.data.toList.drop 24 = dktX4_corrects_1 := dk_seg dksX4_corrects_0 24 rfl rfl
theorem dksX4_corrects_2 : cX4_corrects.data.toList.drop 47 = dktX4_corrects_2 := dk_seg dksX4_corrects_1 23 rfl rfl
theorem dksX4_corrects_3 : cX4_corrects.data.toList.drop 69 = dktX4_corrects_3 := dk_seg dksX4_corrects_2 22 rfl rfl
theorem dksX4_corrects_4 : cX4_corrects.data.toList.drop 93 = dktX4_corrects_4 := dk_seg dksX4_corrects_3 24 rfl rfl
theorem dksX4_corrects_5 : cX4_corrects.data.toList.drop 117 = dktX4_corrects_5 := dk_seg dksX4_corrects_4 24 rfl rfl
theorem dksX4_corrects_6 : cX4_corrects.data.toList.drop 141 = dktX4_corrects_6 := dk_seg dksX4_corrects_5 24 rfl rfl
theorem dX4_corrects_0 : decode cX4_corrects 0 = .ok (.aload_n 0, 1) := dk_42 (dk_at dksX4_corrects_0 0 rfl rfl)
theorem dX4_corrects_1 : decode cX4_corrects 1 = .ok (.getfield 146, 3) := dk_180 0 146 (dk_at dksX4_corrects_0 1 rfl rfl)
theorem dX4_corrects_4 : decode cX4_corrects 4 = .ok (.iload_n 1, 1) := dk_27 (dk_at dksX4_corrects_0 4 rfl rfl)
theorem dX4_corrects_5 : decode cX4_corrects 5 = .ok (.laload, 1) := dk_47 (dk_at dksX4_corrects_0 5 rfl rfl)
theorem dX4_corrects_6 : decode cX4_corrects 6 = .ok (.l2i, 1) := dk_136 (dk_at dksX4_corrects_0 6 rfl rfl)
theorem dX4_corrects_7 : decode cX4_corrects 7 = .ok (.istore_n 2, 1) := dk_61 (dk_at dksX4_corrects_0 7 rfl rfl)
theorem dX4_corrects_8 : decode cX4_corrects 8 = .ok (.aload_n 0, 1) := dk_42 (dk_at dksX4_corrects_0 8 rfl rfl)
theorem dX4_corrects_9 : decode cX4_corrects 9 = .ok (.getfield 155, 3) := dk_180 0 155 (dk_at dksX4_corrects_0 9 rfl rfl)
theorem dX4_corrects_12 : decode cX4_corrects 12 = .ok (.iload_n 1, 1) := dk_27 (dk_at dksX4_corrects_0 12 rfl rfl)
theorem dX4_corrects_13 : decode cX4_corrects 13 = .ok (.iconst 0, 1) := dk_3 (dk_at dksX4_corrects_0 13 rfl rfl)
theorem dX4_corrects_14 : decode cX4_corrects 14 = .ok (.iastore, 1) := dk_79 (dk_at dksX4_corrects_0 14 rfl rfl)
theorem dX4_corrects_15 : decode cX4_corrects 15 = .ok (.iconst 1, 1) := dk_4 (dk_at dksX4_corrects_0 15 rfl rfl)
theorem dX4_corrects_16 : decode cX4_corrects 16 = .ok (.istore_n 3, 1) := dk_62 (dk_at dksX4_corrects_0 16 rfl rfl)
theorem dX4_corrects_17 : decode cX4_corrects 17 = .ok (.iconst 0, 1) := dk_3 (dk_at dksX4_corrects_0 17 rfl rfl)
theorem dX4_corrects_18 : decode cX4_corrects 18 = .ok (.istore 4, 2) := dk_54 4 (dk_at dksX4_corrects_0 18 rfl rfl)
theorem dX4_corrects_20 : decode cX4_corrects 20 = .ok (.iload 4, 2) := dk_21 4 (dk_at dksX4_corrects_0 20 rfl rfl)
theorem dX4_corrects_22 : decode cX4_corrects 22 = .ok (.bipush 8, 2) := dk_16 8 (dk_at dksX4_corrects_0 22 rfl rfl)
theorem dX4_corrects_24 : decode cX4_corrects 24 = .ok (.if_icmp .ge 125, 3) := dk_162 0 125 (dk_at dksX4_corrects_1 0 rfl rfl)
theorem dX4_corrects_27 : decode cX4_corrects 27 = .ok (.iload_n 2, 1) := dk_28 (dk_at dksX4_corrects_1 3 rfl rfl)
theorem dX4_corrects_28 : decode cX4_corrects 28 = .ok (.iload_n 3, 1) := dk_29 (dk_at dksX4_corrects_1 4 rfl rfl)
theorem dX4_corrects_29 : decode cX4_corrects 29 = .ok (.idiv, 1) := dk_108 (dk_at dksX4_corrects_1 5 rfl rfl)
theorem dX4_corrects_30 : decode cX4_corrects 30 = .ok (.bipush 10, 2) := dk_16 10 (dk_at dksX4_corrects_1 6 rfl rfl)
theorem dX4_corrects_32 : decode cX4_corrects 32 = .ok (.irem, 1) := dk_112 (dk_at dksX4_corrects_1 8 rfl rfl)
theorem dX4_corrects_33 : decode cX4_corrects 33 = .ok (.istore 5, 2) := dk_54 5 (dk_at dksX4_corrects_1 9 rfl rfl)
theorem dX4_corrects_35 : decode cX4_corrects 35 = .ok (.iconst 0, 1) := dk_3 (dk_at dksX4_corrects_1 11 rfl rfl)
theorem dX4_corrects_36 : decode cX4_corrects 36 = .ok (.istore 6, 2) := dk_54 6 (dk_at dksX4_corrects_1 12 rfl rfl)
theorem dX4_corrects_38 : decode cX4_corrects 38 = .ok (.iload 6, 2) := dk_21 6 (dk_at dksX4_corrects_1 14 rfl rfl)
theorem dX4_corrects_40 : decode cX4_corrects 40 = .ok (.bipush 10, 2) := dk_16 10 (dk_at dksX4_corrects_1 16 rfl rfl)
theorem dX4_corrects_42 : decode cX4_corrects 42 = .ok (.if_icmp .ge 30, 3) := dk_162 0 30 (dk_at dksX4_corrects_1 18 rfl rfl)
theorem dX4_corrects_45 : decode cX4_corrects 45 = .ok (.iload 6, 2) := dk_21 6 (dk_at dksX4_corrects_1 21 rfl rfl)
theorem dX4_corrects_47 : decode cX4_corrects 47 = .ok (.iload 5, 2) := dk_21 5 (dk_at dksX4_corrects_2 0 rfl rfl)
theorem dX4_corrects_49 : decode cX4_corrects 49 = .ok (.if_icmp .eq 17, 3) := dk_159 0 17 (dk_at dksX4_corrects_2 2 rfl rfl)
theorem dX4_corrects_52 : decode cX4_corrects 52 = .ok (.aload_n 0, 1) := dk_42 (dk_at dksX4_corrects_2 5 rfl rfl)
theorem dX4_corrects_53 : decode cX4_corrects 53 = .ok (.iload_n 1, 1) := dk_27 (dk_at dksX4_corrects_2 6 rfl rfl)
theorem dX4_corrects_54 : decode cX4_corrects 54 = .ok (.iload_n 2, 1) := dk_28 (dk_at dksX4_corrects_2 7 rfl rfl)
theorem dX4_corrects_55 : decode cX4_corrects 55 = .ok (.iload 6, 2) := dk_21 6 (dk_at dksX4_corrects_2 8 rfl rfl)
theorem dX4_corrects_57 : decode cX4_corrects 57 = .ok (.iload 5, 2) := dk_21 5 (dk_at dksX4_corrects_2 10 rfl rfl)
theorem dX4_corrects_59 : decode cX4_corrects 59 = .ok (.isub, 1) := dk_100 (dk_at dksX4_corrects_2 12 rfl rfl)
theorem dX4_corrects_60 : decode cX4_corrects 60 = .ok (.iload_n 3, 1) := dk_29 (dk_at dksX4_corrects_2 13 rfl rfl)
theorem dX4_corrects_61 : decode cX4_corrects 61 = .ok (.imul, 1) := dk_104 (dk_at dksX4_corrects_2 14 rfl rfl)
theorem dX4_corrects_62 : decode cX4_corrects 62 = .ok (.iadd, 1) := dk_96 (dk_at dksX4_corrects_2 15 rfl rfl)
theorem dX4_corrects_63 : decode cX4_corrects 63 = .ok (.invokevirtual 499, 3) := dk_182 1 243 (dk_at dksX4_corrects_2 16 rfl rfl)
theorem dX4_corrects_66 : decode cX4_corrects 66 = .ok (.iinc 6 1, 3) := dk_132 6 1 (dk_at dksX4_corrects_2 19 rfl rfl)
theorem dX4_corrects_69 : decode cX4_corrects 69 = .ok (.goto (-31), 3) := dk_167 255 225 (dk_at dksX4_corrects_3 0 rfl rfl)
theorem dX4_corrects_72 : decode cX4_corrects 72 = .ok (.iload 4, 2) := dk_21 4 (dk_at dksX4_corrects_3 3 rfl rfl)
theorem dX4_corrects_74 : decode cX4_corrects 74 = .ok (.bipush 7, 2) := dk_16 7 (dk_at dksX4_corrects_3 5 rfl rfl)
theorem dX4_corrects_76 : decode cX4_corrects 76 = .ok (.if_icmp .ge 15, 3) := dk_162 0 15 (dk_at dksX4_corrects_3 7 rfl rfl)
theorem dX4_corrects_79 : decode cX4_corrects 79 = .ok (.iload_n 2, 1) := dk_28 (dk_at dksX4_corrects_3 10 rfl rfl)
theorem dX4_corrects_80 : decode cX4_corrects 80 = .ok (.iload_n 3, 1) := dk_29 (dk_at dksX4_corrects_3 11 rfl rfl)
theorem dX4_corrects_81 : decode cX4_corrects 81 = .ok (.idiv, 1) := dk_108 (dk_at dksX4_corrects_3 12 rfl rfl)
theorem dX4_corrects_82 : decode cX4_corrects 82 = .ok (.bipush 10, 2) := dk_16 10 (dk_at dksX4_corrects_3 13 rfl rfl)
theorem dX4_corrects_84 : decode cX4_corrects 84 = .ok (.idiv, 1) := dk_108 (dk_at dksX4_corrects_3 15 rfl rfl)
theorem dX4_corrects_85 : decode cX4_corrects 85 = .ok (.bipush 10, 2) := dk_16 10 (dk_at dksX4_corrects_3 16 rfl rfl)
theorem dX4_corrects_87 : decode cX4_corrects 87 = .ok (.irem, 1) := dk_112 (dk_at dksX4_corrects_3 18 rfl rfl)
theorem dX4_corrects_88 : decode cX4_corrects 88 = .ok (.goto 5, 3) := dk_167 0 5 (dk_at dksX4_corrects_3 19 rfl rfl)
theorem dX4_corrects_91 : decode cX4_corrects 91 = .ok (.iload 5, 2) := dk_21 5 (dk_at dksX4_corrects_3 22 rfl rfl)
theorem dX4_corrects_93 : decode cX4_corrects 93 = .ok (.istore 6, 2) := dk_54 6 (dk_at dksX4_corrects_4 0 rfl rfl)
theorem dX4_corrects_95 : decode cX4_corrects 95 = .ok (.iload 6, 2) := dk_21 6 (dk_at dksX4_corrects_4 2 rfl rfl)
theorem dX4_corrects_97 : decode cX4_corrects 97 = .ok (.iload 5, 2) := dk_21 5 (dk_at dksX4_corrects_4 4 rfl rfl)
theorem dX4_corrects_99 : decode cX4_corrects 99 = .ok (.if_icmp .eq 28, 3) := dk_159 0 28 (dk_at dksX4_corrects_4 6 rfl rfl)
theorem dX4_corrects_102 : decode cX4_corrects 102 = .ok (.aload_n 0, 1) := dk_42 (dk_at dksX4_corrects_4 9 rfl rfl)
theorem dX4_corrects_103 : decode cX4_corrects 103 = .ok (.iload_n 1, 1) := dk_27 (dk_at dksX4_corrects_4 10 rfl rfl)
theorem dX4_corrects_104 : decode cX4_corrects 104 = .ok (.iload_n 2, 1) := dk_28 (dk_at dksX4_corrects_4 11 rfl rfl)
theorem dX4_corrects_105 : decode cX4_corrects 105 = .ok (.iload 6, 2) := dk_21 6 (dk_at dksX4_corrects_4 12 rfl rfl)
theorem dX4_corrects_107 : decode cX4_corrects 107 = .ok (.iload 5, 2) := dk_21 5 (dk_at dksX4_corrects_4 14 rfl rfl)
theorem dX4_corrects_109 : decode cX4_corrects 109 = .ok (.isub, 1) := dk_100 (dk_at dksX4_corrects_4 16 rfl rfl)
theorem dX4_corrects_110 : decode cX4_corrects 110 = .ok (.iload_n 3, 1) := dk_29 (dk_at dksX4_corrects_4 17 rfl rfl)
theorem dX4_corrects_111 : decode cX4_corrects 111 = .ok (.imul, 1) := dk_104 (dk_at dksX4_corrects_4 18 rfl rfl)
theorem dX4_corrects_112 : decode cX4_corrects 112 = .ok (.iadd, 1) := dk_96 (dk_at dksX4_corrects_4 19 rfl rfl)
theorem dX4_corrects_113 : decode cX4_corrects 113 = .ok (.iload 5, 2) := dk_21 5 (dk_at dksX4_corrects_4 20 rfl rfl)
theorem dX4_corrects_115 : decode cX4_corrects 115 = .ok (.iload 6, 2) := dk_21 6 (dk_at dksX4_corrects_4 22 rfl rfl)
theorem dX4_corrects_117 : decode cX4_corrects 117 = .ok (.isub, 1) := dk_100 (dk_at dksX4_corrects_5 0 rfl rfl)
theorem dX4_corrects_118 : decode cX4_corrects 118 = .ok (.iload_n 3, 1) := dk_29 (dk_at dksX4_corrects_5 1 rfl rfl)
theorem dX4_corrects_119 : decode cX4_corrects 119 = .ok (.imul, 1) := dk_104 (dk_at dksX4_corrects_5 2 rfl rfl)
theorem dX4_corrects_120 : decode cX4_corrects 120 = .ok (.bipush 10, 2) := dk_16 10 (dk_at dksX4_corrects_5 3 rfl rfl)
theorem dX4_corrects_122 : decode cX4_corrects 122 = .ok (.imul, 1) := dk_104 (dk_at dksX4_corrects_5 5 rfl rfl)
theorem dX4_corrects_123 : decode cX4_corrects 123 = .ok (.iadd, 1) := dk_96 (dk_at dksX4_corrects_5 6 rfl rfl)
theorem dX4_corrects_124 : decode cX4_corrects 124 = .ok (.invokevirtual 499, 3) := dk_182 1 243 (dk_at dksX4_corrects_5 7 rfl rfl)
theorem dX4_corrects_127 : decode cX4_corrects 127 = .ok (.iload_n 3, 1) := dk_29 (dk_at dksX4_corrects_5 10 rfl rfl)
theorem dX4_corrects_128 : decode cX4_corrects 128 = .ok (.iload 4, 2) := dk_21 4 (dk_at dksX4_corrects_5 11 rfl rfl)
theorem dX4_corrects_130 : decode cX4_corrects 130 = .ok (.bipush 7, 2) := dk_16 7 (dk_at dksX4_corrects_5 13 rfl rfl)
theorem dX4_corrects_132 : decode cX4_corrects 132 = .ok (.if_icmp .ge 8, 3) := dk_162 0 8 (dk_at dksX4_corrects_5 15 rfl rfl)
theorem dX4_corrects_135 : decode cX4_corrects 135 = .ok (.bipush 10, 2) := dk_16 10 (dk_at dksX4_corrects_5 18 rfl rfl)
theorem dX4_corrects_137 : decode cX4_corrects 137 = .ok (.goto 4, 3) := dk_167 0 4 (dk_at dksX4_corrects_5 20 rfl rfl)
theorem dX4_corrects_140 : decode cX4_corrects 140 = .ok (.iconst 1, 1) := dk_4 (dk_at dksX4_corrects_5 23 rfl rfl)
theorem dX4_corrects_141 : decode cX4_corrects 141 = .ok (.imul, 1) := dk_104 (dk_at dksX4_corrects_6 0 rfl rfl)
theorem dX4_corrects_142 : decode cX4_corrects 142 = .ok (.istore_n 3, 1) := dk_62 (dk_at dksX4_corrects_6 1 rfl rfl)
theorem dX4_corrects_143 : decode cX4_corrects 143 = .ok (.iinc 4 1, 3) := dk_132 4 1 (dk_at dksX4_corrects_6 2 rfl rfl)
theorem dX4_corrects_146 : decode cX4_corrects 146 = .ok (.goto (-126), 3) := dk_167 255 130 (dk_at dksX4_corrects_6 5 rfl rfl)
theorem dX4_corrects_149 : decode cX4_corrects 149 = .ok (.return_, 1) := dk_177 (dk_at dksX4_corrects_6 8 rfl rfl)
abbrev cX4_varies : ByteArray := prog_9_method_74_code
def yX4_varies : MethodName := ⟨RX4, "varies", "(II)V"⟩
def dkwX4_varies_5 : List UInt8 := [96, 79, 177]
abbrev dktX4_varies_5 : List UInt8 := dkwX4_varies_5 ++ []
def dkwX4_varies_4 : List UInt8 := [47, 80, 132, 4, 255, 167, 255, 231, 42, 180, 0, 152, 29, 28, 133, 80, 42, 180, 0, 155, 27, 92, 46, 4]
abbrev dktX4_varies_4 : List UInt8 := dkwX4_varies_4 ++ dktX4_varies_5
def dkwX4_varies_3 : List UInt8 := [46, 96, 54, 4, 21, 4, 29, 164, 0, 25, 42, 180, 0, 152, 21, 4, 42, 180, 0, 152, 21, 4, 4, 100]
abbrev dktX4_varies_3 : List UInt8 := dkwX4_varies_3 ++ dktX4_varies_4
def dkwX4_varies_2 : List UInt8 := [42, 180, 0, 152, 29, 4, 100, 47, 28, 133, 148, 154, 0, 4, 177, 16, 80, 27, 104, 42, 180, 0, 155, 27]
abbrev dktX4_varies_2 : List UInt8 := dkwX4_varies_2 ++ dktX4_varies_3
def dkwX4_varies_1 : List UInt8 := [29, 4, 100, 47, 28, 133, 148, 158, 0, 9, 132, 3, 255, 167, 255, 231, 29, 16, 80, 27, 104, 164, 0, 18]
abbrev dktX4_varies_1 : List UInt8 := dkwX4_varies_1 ++ dktX4_varies_2
def dkwX4_varies_0 : List UInt8 := [16, 80, 27, 104, 42, 180, 0, 155, 27, 46, 96, 62, 29, 16, 80, 27, 104, 164, 0, 23, 42, 180, 0, 152]
abbrev dktX4_varies_0 : List UInt8 := dkwX4_varies_0 ++ dktX4_varies_1
theorem dksX4_varies_0 : cX4_varies.data.toList.drop 0 = dktX4_varies_0 := by decide +kernel
theorem dksX4_varies_1 : cX4_varies.data.toList.drop 24 = dktX4_varies_1 := dk_seg dksX4_varies_0 24 rfl rfl
theorem dksX4_varies_2 : cX4_varies.data.toList.drop 48 = dktX4_varies_2 := dk_seg dksX4_varies_1 24 rfl rfl
theorem dksX4_varies_3 : cX4_varies.data.toList.drop 72 = dktX4_varies_3 := dk_seg dksX4_varies_2 24 rfl rfl
theorem dksX4_varies_4 : cX4_varies.data.toList.drop 96 = dktX4_varies_4 := dk_seg dksX4_varies_3 24 rfl rfl
theorem dksX4_varies_5 : cX4_varies.data.toList.drop 120 = dktX4_varies_5 := dk_seg dksX4_varies_4 24 rfl rfl
theorem dX4_varies_0 : decode cX4_varies 0 = .ok (.bipush 80, 2) := dk_16 80 (dk_at dksX4_varies_0 0 rfl rfl)
theorem dX4_varies_2 : decode cX4_varies 2 = .ok (.iload_n 1, 1) := dk_27 (dk_at dksX4_varies_0 2 rfl rfl)
theorem dX4_varies_3 : decode cX4_varies 3 = .ok (.imul, 1) := dk_104 (dk_at dksX4_varies_0 3 rfl rfl)
theorem dX4_varies_4 : decode cX4_varies 4 = .ok (.aload_n 0, 1) := dk_42 (dk_at dksX4_varies_0 4 rfl rfl)
theorem dX4_varies_5 : decode cX4_varies 5 = .ok (.getfield 155, 3) := dk_180 0 155 (dk_at dksX4_varies_0 5 rfl rfl)
theorem dX4_varies_8 : decode cX4_varies 8 = .ok (.iload_n 1, 1) := dk_27 (dk_at dksX4_varies_0 8 rfl rfl)
theorem dX4_varies_9 : decode cX4_varies 9 = .ok (.iaload, 1) := dk_46 (dk_at dksX4_varies_0 9 rfl rfl)
theorem dX4_varies_10 : decode cX4_varies 10 = .ok (.iadd, 1) := dk_96 (dk_at dksX4_varies_0 10 rfl rfl)
theorem dX4_varies_11 : decode cX4_varies 11 = .ok (.istore_n 3, 1) := dk_62 (dk_at dksX4_varies_0 11 rfl rfl)
theorem dX4_varies_12 : decode cX4_varies 12 = .ok (.iload_n 3, 1) := dk_29 (dk_at dksX4_varies_0 12 rfl rfl)
theorem dX4_varies_13 : decode cX4_varies 13 = .ok (.bipush 80, 2) := dk_16 80 (dk_at dksX4_varies_0 13 rfl rfl)
theorem dX4_varies_15 : decode cX4_varies 15 = .ok (.iload_n 1, 1) := dk_27 (dk_at dksX4_varies_0 15 rfl rfl)
theorem dX4_varies_16 : decode cX4_varies 16 = .ok (.imul, 1) := dk_104 (dk_at dksX4_varies_0 16 rfl rfl)
theorem dX4_varies_17 : decode cX4_varies 17 = .ok (.if_icmp .le 23, 3) := dk_164 0 23 (dk_at dksX4_varies_0 17 rfl rfl)
theorem dX4_varies_20 : decode cX4_varies 20 = .ok (.aload_n 0, 1) := dk_42 (dk_at dksX4_varies_0 20 rfl rfl)
theorem dX4_varies_21 : decode cX4_varies 21 = .ok (.getfield 152, 3) := dk_180 0 152 (dk_at dksX4_varies_0 21 rfl rfl)
theorem dX4_varies_24 : decode cX4_varies 24 = .ok (.iload_n 3, 1) := dk_29 (dk_at dksX4_varies_1 0 rfl rfl)
theorem dX4_varies_25 : decode cX4_varies 25 = .ok (.iconst 1, 1) := dk_4 (dk_at dksX4_varies_1 1 rfl rfl)
theorem dX4_varies_26 : decode cX4_varies 26 = .ok (.isub, 1) := dk_100 (dk_at dksX4_varies_1 2 rfl rfl)
theorem dX4_varies_27 : decode cX4_varies 27 = .ok (.laload, 1) := dk_47 (dk_at dksX4_varies_1 3 rfl rfl)
theorem dX4_varies_28 : decode cX4_varies 28 = .ok (.iload_n 2, 1) := dk_28 (dk_at dksX4_varies_1 4 rfl rfl)
theorem dX4_varies_29 : decode cX4_varies 29 = .ok (.i2l, 1) := dk_133 (dk_at dksX4_varies_1 5 rfl rfl)
theorem dX4_varies_30 : decode cX4_varies 30 = .ok (.lcmp, 1) := dk_148 (dk_at dksX4_varies_1 6 rfl rfl)
theorem dX4_varies_31 : decode cX4_varies 31 = .ok (.ifCond .le 9, 3) := dk_158 0 9 (dk_at dksX4_varies_1 7 rfl rfl)
theorem dX4_varies_34 : decode cX4_varies 34 = .ok (.iinc 3 (-1), 3) := dk_132 3 255 (dk_at dksX4_varies_1 10 rfl rfl)
theorem dX4_varies_37 : decode cX4_varies 37 = .ok (.goto (-25), 3) := dk_167 255 231 (dk_at dksX4_varies_1 13 rfl rfl)
theorem dX4_varies_40 : decode cX4_varies 40 = .ok (.iload_n 3, 1) := dk_29 (dk_at dksX4_varies_1 16 rfl rfl)
theorem dX4_varies_41 : decode cX4_varies 41 = .ok (.bipush 80, 2) := dk_16 80 (dk_at dksX4_varies_1 17 rfl rfl)
theorem dX4_varies_43 : decode cX4_varies 43 = .ok (.iload_n 1, 1) := dk_27 (dk_at dksX4_varies_1 19 rfl rfl)
theorem dX4_varies_44 : decode cX4_varies 44 = .ok (.imul, 1) := dk_104 (dk_at dksX4_varies_1 20 rfl rfl)
theorem dX4_varies_45 : decode cX4_varies 45 = .ok (.if_icmp .le 18, 3) := dk_164 0 18 (dk_at dksX4_varies_1 21 rfl rfl)
theorem dX4_varies_48 : decode cX4_varies 48 = .ok (.aload_n 0, 1) := dk_42 (dk_at dksX4_varies_2 0 rfl rfl)
theorem dX4_varies_49 : decode cX4_varies 49 = .ok (.getfield 152, 3) := dk_180 0 152 (dk_at dksX4_varies_2 1 rfl rfl)
theorem dX4_varies_52 : decode cX4_varies 52 = .ok (.iload_n 3, 1) := dk_29 (dk_at dksX4_varies_2 4 rfl rfl)
theorem dX4_varies_53 : decode cX4_varies 53 = .ok (.iconst 1, 1) := dk_4 (dk_at dksX4_varies_2 5 rfl rfl)
theorem dX4_varies_54 : decode cX4_varies 54 = .ok (.isub, 1) := dk_100 (dk_at dksX4_varies_2 6 rfl rfl)
theorem dX4_varies_55 : decode cX4_varies 55 = .ok (.laload, 1) := dk_47 (dk_at dksX4_varies_2 7 rfl rfl)
theorem dX4_varies_56 : decode cX4_varies 56 = .ok (.iload_n 2, 1) := dk_28 (dk_at dksX4_varies_2 8 rfl rfl)
theorem dX4_varies_57 : decode cX4_varies 57 = .ok (.i2l, 1) := dk_133 (dk_at dksX4_varies_2 9 rfl rfl)
theorem dX4_varies_58 : decode cX4_varies 58 = .ok (.lcmp, 1) := dk_148 (dk_at dksX4_varies_2 10 rfl rfl)
theorem dX4_varies_59 : decode cX4_varies 59 = .ok (.ifCond .ne 4, 3) := dk_154 0 4 (dk_at dksX4_varies_2 11 rfl rfl)
theorem dX4_varies_62 : decode cX4_varies 62 = .ok (.return_, 1) := dk_177 (dk_at dksX4_varies_2 14 rfl rfl)
theorem dX4_varies_63 : decode cX4_varies 63 = .ok (.bipush 80, 2) := dk_16 80 (dk_at dksX4_varies_2 15 rfl rfl)
theorem dX4_varies_65 : decode cX4_varies 65 = .ok (.iload_n 1, 1) := dk_27 (dk_at dksX4_varies_2 17 rfl rfl)
theorem dX4_varies_66 : decode cX4_varies 66 = .ok (.imul, 1) := dk_104 (dk_at dksX4_varies_2 18 rfl rfl)
theorem dX4_varies_67 : decode cX4_varies 67 = .ok (.aload_n 0, 1) := dk_42 (dk_at dksX4_varies_2 19 rfl rfl)
theorem dX4_varies_68 : decode cX4_varies 68 = .ok (.getfield 155, 3) := dk_180 0 155 (dk_at dksX4_varies_2 20 rfl rfl)
theorem dX4_varies_71 : decode cX4_varies 71 = .ok (.iload_n 1, 1) := dk_27 (dk_at dksX4_varies_2 23 rfl rfl)
theorem dX4_varies_72 : decode cX4_varies 72 = .ok (.iaload, 1) := dk_46 (dk_at dksX4_varies_3 0 rfl rfl)
theorem dX4_varies_73 : decode cX4_varies 73 = .ok (.iadd, 1) := dk_96 (dk_at dksX4_varies_3 1 rfl rfl)
theorem dX4_varies_74 : decode cX4_varies 74 = .ok (.istore 4, 2) := dk_54 4 (dk_at dksX4_varies_3 2 rfl rfl)
theorem dX4_varies_76 : decode cX4_varies 76 = .ok (.iload 4, 2) := dk_21 4 (dk_at dksX4_varies_3 4 rfl rfl)
theorem dX4_varies_78 : decode cX4_varies 78 = .ok (.iload_n 3, 1) := dk_29 (dk_at dksX4_varies_3 6 rfl rfl)
theorem dX4_varies_79 : decode cX4_varies 79 = .ok (.if_icmp .le 25, 3) := dk_164 0 25 (dk_at dksX4_varies_3 7 rfl rfl)
theorem dX4_varies_82 : decode cX4_varies 82 = .ok (.aload_n 0, 1) := dk_42 (dk_at dksX4_varies_3 10 rfl rfl)
theorem dX4_varies_83 : decode cX4_varies 83 = .ok (.getfield 152, 3) := dk_180 0 152 (dk_at dksX4_varies_3 11 rfl rfl)
theorem dX4_varies_86 : decode cX4_varies 86 = .ok (.iload 4, 2) := dk_21 4 (dk_at dksX4_varies_3 14 rfl rfl)
theorem dX4_varies_88 : decode cX4_varies 88 = .ok (.aload_n 0, 1) := dk_42 (dk_at dksX4_varies_3 16 rfl rfl)
theorem dX4_varies_89 : decode cX4_varies 89 = .ok (.getfield 152, 3) := dk_180 0 152 (dk_at dksX4_varies_3 17 rfl rfl)
theorem dX4_varies_92 : decode cX4_varies 92 = .ok (.iload 4, 2) := dk_21 4 (dk_at dksX4_varies_3 20 rfl rfl)
theorem dX4_varies_94 : decode cX4_varies 94 = .ok (.iconst 1, 1) := dk_4 (dk_at dksX4_varies_3 22 rfl rfl)
theorem dX4_varies_95 : decode cX4_varies 95 = .ok (.isub, 1) := dk_100 (dk_at dksX4_varies_3 23 rfl rfl)
theorem dX4_varies_96 : decode cX4_varies 96 = .ok (.laload, 1) := dk_47 (dk_at dksX4_varies_4 0 rfl rfl)
theorem dX4_varies_97 : decode cX4_varies 97 = .ok (.lastore, 1) := dk_80 (dk_at dksX4_varies_4 1 rfl rfl)
theorem dX4_varies_98 : decode cX4_varies 98 = .ok (.iinc 4 (-1), 3) := dk_132 4 255 (dk_at dksX4_varies_4 2 rfl rfl)
theorem dX4_varies_101 : decode cX4_varies 101 = .ok (.goto (-25), 3) := dk_167 255 231 (dk_at dksX4_varies_4 5 rfl rfl)
theorem dX4_varies_104 : decode cX4_varies 104 = .ok (.aload_n 0, 1) := dk_42 (dk_at dksX4_varies_4 8 rfl rfl)
theorem dX4_varies_105 : decode cX4_varies 105 = .ok (.getfield 152, 3) := dk_180 0 152 (dk_at dksX4_varies_4 9 rfl rfl)
theorem dX4_varies_108 : decode cX4_varies 108 = .ok (.iload_n 3, 1) := dk_29 (dk_at dksX4_varies_4 12 rfl rfl)
theorem dX4_varies_109 : decode cX4_varies 109 = .ok (.iload_n 2, 1) := dk_28 (dk_at dksX4_varies_4 13 rfl rfl)
theorem dX4_varies_110 : decode cX4_varies 110 = .ok (.i2l, 1) := dk_133 (dk_at dksX4_varies_4 14 rfl rfl)
theorem dX4_varies_111 : decode cX4_varies 111 = .ok (.lastore, 1) := dk_80 (dk_at dksX4_varies_4 15 rfl rfl)
theorem dX4_varies_112 : decode cX4_varies 112 = .ok (.aload_n 0, 1) := dk_42 (dk_at dksX4_varies_4 16 rfl rfl)
theorem dX4_varies_113 : decode cX4_varies 113 = .ok (.getfield 155, 3) := dk_180 0 155 (dk_at dksX4_varies_4 17 rfl rfl)
theorem dX4_varies_116 : decode cX4_varies 116 = .ok (.iload_n 1, 1) := dk_27 (dk_at dksX4_varies_4 20 rfl rfl)
theorem dX4_varies_117 : decode cX4_varies 117 = .ok (.dup2, 1) := dk_92 (dk_at dksX4_varies_4 21 rfl rfl)
theorem dX4_varies_118 : decode cX4_varies 118 = .ok (.iaload, 1) := dk_46 (dk_at dksX4_varies_4 22 rfl rfl)
theorem dX4_varies_119 : decode cX4_varies 119 = .ok (.iconst 1, 1) := dk_4 (dk_at dksX4_varies_4 23 rfl rfl)
theorem dX4_varies_120 : decode cX4_varies 120 = .ok (.iadd, 1) := dk_96 (dk_at dksX4_varies_5 0 rfl rfl)
theorem dX4_varies_121 : decode cX4_varies 121 = .ok (.iastore, 1) := dk_79 (dk_at dksX4_varies_5 1 rfl rfl)
theorem dX4_varies_122 : decode cX4_varies 122 = .ok (.return_, 1) := dk_177 (dk_at dksX4_varies_5 2 rfl rfl)
abbrev cX4_isSmooth : ByteArray := prog_9_method_72_code
def yX4_isSmooth : MethodName := ⟨RX4, "isSmooth", "(III)Z"⟩
def dkwX4_isSmooth_5 : List UInt8 := [172]
abbrev dktX4_isSmooth_5 : List UInt8 := dkwX4_isSmooth_5 ++ []
def dkwX4_isSmooth_4 : List UInt8 := [180, 0, 149, 21, 4, 47, 184, 1, 195, 29, 133, 148, 158, 0, 5, 3, 172, 132, 4, 1, 167, 255, 229, 4]
abbrev dktX4_isSmooth_4 : List UInt8 := dkwX4_isSmooth_4 ++ dktX4_isSmooth_5
def dkwX4_isSmooth_3 : List UInt8 := [132, 5, 255, 167, 255, 227, 132, 4, 1, 167, 255, 210, 28, 54, 4, 21, 4, 27, 162, 0, 27, 42]
abbrev dktX4_isSmooth_3 : List UInt8 := dkwX4_isSmooth_3 ++ dktX4_isSmooth_4
def dkwX4_isSmooth_2 : List UInt8 := [161, 0, 28, 42, 180, 0, 149, 21, 5, 92, 47, 42, 180, 0, 149, 21, 5, 4, 100, 47, 101, 80]
abbrev dktX4_isSmooth_2 : List UInt8 := dkwX4_isSmooth_2 ++ dktX4_isSmooth_3
def dkwX4_isSmooth_1 : List UInt8 := [132, 4, 1, 167, 255, 233, 4, 54, 4, 21, 4, 28, 163, 0, 46, 27, 4, 100, 54, 5, 21, 5, 21, 4]
abbrev dktX4_isSmooth_1 : List UInt8 := dkwX4_isSmooth_1 ++ dktX4_isSmooth_2
def dkwX4_isSmooth_0 : List UInt8 := [3, 54, 4, 21, 4, 27, 162, 0, 23, 42, 180, 0, 149, 21, 4, 42, 180, 0, 146, 21, 4, 47, 80]
abbrev dktX4_isSmooth_0 : List UInt8 := dkwX4_isSmooth_0 ++ dktX4_isSmooth_1
theorem dksX4_isSmooth_0 : cX4_isSmooth.data.toList.drop 0 = dktX4_isSmooth_0 := by decide +kernel
theorem dksX4_isSmooth_1 : cX4_isSmooth.data.toList.drop 23 = dktX4_isSmooth_1 := dk_seg dksX4_isSmooth_0 23 rfl rfl
theorem dksX4_isSmooth_2 : cX4_isSmooth.data.toList.drop 47 = dktX4_isSmooth_2 := dk_seg dksX4_isSmooth_1 24 rfl rfl
theorem dksX4_isSmooth_3 : cX4_isSmooth.data.toList.drop 69 = dktX4_isSmooth_3 := dk_seg dksX4_isSmooth_2 22 rfl rfl
theorem dksX4_isSmooth_4 : cX4_isSmooth.data.toList.drop 91 = dktX4_isSmooth_4 := dk_seg dksX4_isSmooth_3 22 rfl rfl
theorem dksX4_isSmooth_5 : cX4_isSmooth.data.toList.drop 115 = dktX4_isSmooth_5 := dk_seg dksX4_isSmooth_4 24 rfl rfl
theorem dX4_isSmooth_0 : decode cX4_isSmooth 0 = .ok (.iconst 0, 1) := dk_3 (dk_at dksX4_isSmooth_0 0 rfl rfl)
theorem dX4_isSmooth_1 : decode cX4_isSmooth 1 = .ok (.istore 4, 2) := dk_54 4 (dk_at dksX4_isSmooth_0 1 rfl rfl)
theorem dX4_isSmooth_3 : decode cX4_isSmooth 3 = .ok (.iload 4, 2) := dk_21 4 (dk_at dksX4_isSmooth_0 3 rfl rfl)
theorem dX4_isSmooth_5 : decode cX4_isSmooth 5 = .ok (.iload_n 1, 1) := dk_27 (dk_at dksX4_isSmooth_0 5 rfl rfl)
theorem dX4_isSmooth_6 : decode cX4_isSmooth 6 = .ok (.if_icmp .ge 23, 3) := dk_162 0 23 (dk_at dksX4_isSmooth_0 6 rfl rfl)
theorem dX4_isSmooth_9 : decode cX4_isSmooth 9 = .ok (.aload_n 0, 1) := dk_42 (dk_at dksX4_isSmooth_0 9 rfl rfl)
theorem dX4_isSmooth_10 : decode cX4_isSmooth 10 = .ok (.getfield 149, 3) := dk_180 0 149 (dk_at dksX4_isSmooth_0 10 rfl rfl)
theorem dX4_isSmooth_13 : decode cX4_isSmooth 13 = .ok (.iload 4, 2) := dk_21 4 (dk_at dksX4_isSmooth_0 13 rfl rfl)
theorem dX4_isSmooth_15 : decode cX4_isSmooth 15 = .ok (.aload_n 0, 1) := dk_42 (dk_at dksX4_isSmooth_0 15 rfl rfl)
theorem dX4_isSmooth_16 : decode cX4_isSmooth 16 = .ok (.getfield 146, 3) := dk_180 0 146 (dk_at dksX4_isSmooth_0 16 rfl rfl)
theorem dX4_isSmooth_19 : decode cX4_isSmooth 19 = .ok (.iload 4, 2) := dk_21 4 (dk_at dksX4_isSmooth_0 19 rfl rfl)
theorem dX4_isSmooth_21 : decode cX4_isSmooth 21 = .ok (.laload, 1) := dk_47 (dk_at dksX4_isSmooth_0 21 rfl rfl)
theorem dX4_isSmooth_22 : decode cX4_isSmooth 22 = .ok (.lastore, 1) := dk_80 (dk_at dksX4_isSmooth_0 22 rfl rfl)
theorem dX4_isSmooth_23 : decode cX4_isSmooth 23 = .ok (.iinc 4 1, 3) := dk_132 4 1 (dk_at dksX4_isSmooth_1 0 rfl rfl)
theorem dX4_isSmooth_26 : decode cX4_isSmooth 26 = .ok (.goto (-23), 3) := dk_167 255 233 (dk_at dksX4_isSmooth_1 3 rfl rfl)
theorem dX4_isSmooth_29 : decode cX4_isSmooth 29 = .ok (.iconst 1, 1) := dk_4 (dk_at dksX4_isSmooth_1 6 rfl rfl)
theorem dX4_isSmooth_30 : decode cX4_isSmooth 30 = .ok (.istore 4, 2) := dk_54 4 (dk_at dksX4_isSmooth_1 7 rfl rfl)
theorem dX4_isSmooth_32 : decode cX4_isSmooth 32 = .ok (.iload 4, 2) := dk_21 4 (dk_at dksX4_isSmooth_1 9 rfl rfl)
theorem dX4_isSmooth_34 : decode cX4_isSmooth 34 = .ok (.iload_n 2, 1) := dk_28 (dk_at dksX4_isSmooth_1 11 rfl rfl)
theorem dX4_isSmooth_35 : decode cX4_isSmooth 35 = .ok (.if_icmp .gt 46, 3) := dk_163 0 46 (dk_at dksX4_isSmooth_1 12 rfl rfl)
theorem dX4_isSmooth_38 : decode cX4_isSmooth 38 = .ok (.iload_n 1, 1) := dk_27 (dk_at dksX4_isSmooth_1 15 rfl rfl)
theorem dX4_isSmooth_39 : decode cX4_isSmooth 39 = .ok (.iconst 1, 1) := dk_4 (dk_at dksX4_isSmooth_1 16 rfl rfl)
theorem dX4_isSmooth_40 : decode cX4_isSmooth 40 = .ok (.isub, 1) := dk_100 (dk_at dksX4_isSmooth_1 17 rfl rfl)
theorem dX4_isSmooth_41 : decode cX4_isSmooth 41 = .ok (.istore 5, 2) := dk_54 5 (dk_at dksX4_isSmooth_1 18 rfl rfl)
theorem dX4_isSmooth_43 : decode cX4_isSmooth 43 = .ok (.iload 5, 2) := dk_21 5 (dk_at dksX4_isSmooth_1 20 rfl rfl)
theorem dX4_isSmooth_45 : decode cX4_isSmooth 45 = .ok (.iload 4, 2) := dk_21 4 (dk_at dksX4_isSmooth_1 22 rfl rfl)
theorem dX4_isSmooth_47 : decode cX4_isSmooth 47 = .ok (.if_icmp .lt 28, 3) := dk_161 0 28 (dk_at dksX4_isSmooth_2 0 rfl rfl)
theorem dX4_isSmooth_50 : decode cX4_isSmooth 50 = .ok (.aload_n 0, 1) := dk_42 (dk_at dksX4_isSmooth_2 3 rfl rfl)
theorem dX4_isSmooth_51 : decode cX4_isSmooth 51 = .ok (.getfield 149, 3) := dk_180 0 149 (dk_at dksX4_isSmooth_2 4 rfl rfl)
theorem dX4_isSmooth_54 : decode cX4_isSmooth 54 = .ok (.iload 5, 2) := dk_21 5 (dk_at dksX4_isSmooth_2 7 rfl rfl)
theorem dX4_isSmooth_56 : decode cX4_isSmooth 56 = .ok (.dup2, 1) := dk_92 (dk_at dksX4_isSmooth_2 9 rfl rfl)
theorem dX4_isSmooth_57 : decode cX4_isSmooth 57 = .ok (.laload, 1) := dk_47 (dk_at dksX4_isSmooth_2 10 rfl rfl)
theorem dX4_isSmooth_58 : decode cX4_isSmooth 58 = .ok (.aload_n 0, 1) := dk_42 (dk_at dksX4_isSmooth_2 11 rfl rfl)
theorem dX4_isSmooth_59 : decode cX4_isSmooth 59 = .ok (.getfield 149, 3) := dk_180 0 149 (dk_at dksX4_isSmooth_2 12 rfl rfl)
theorem dX4_isSmooth_62 : decode cX4_isSmooth 62 = .ok (.iload 5, 2) := dk_21 5 (dk_at dksX4_isSmooth_2 15 rfl rfl)
theorem dX4_isSmooth_64 : decode cX4_isSmooth 64 = .ok (.iconst 1, 1) := dk_4 (dk_at dksX4_isSmooth_2 17 rfl rfl)
theorem dX4_isSmooth_65 : decode cX4_isSmooth 65 = .ok (.isub, 1) := dk_100 (dk_at dksX4_isSmooth_2 18 rfl rfl)
theorem dX4_isSmooth_66 : decode cX4_isSmooth 66 = .ok (.laload, 1) := dk_47 (dk_at dksX4_isSmooth_2 19 rfl rfl)
theorem dX4_isSmooth_67 : decode cX4_isSmooth 67 = .ok (.lsub, 1) := dk_101 (dk_at dksX4_isSmooth_2 20 rfl rfl)
theorem dX4_isSmooth_68 : decode cX4_isSmooth 68 = .ok (.lastore, 1) := dk_80 (dk_at dksX4_isSmooth_2 21 rfl rfl)
theorem dX4_isSmooth_69 : decode cX4_isSmooth 69 = .ok (.iinc 5 (-1), 3) := dk_132 5 255 (dk_at dksX4_isSmooth_3 0 rfl rfl)
theorem dX4_isSmooth_72 : decode cX4_isSmooth 72 = .ok (.goto (-29), 3) := dk_167 255 227 (dk_at dksX4_isSmooth_3 3 rfl rfl)
theorem dX4_isSmooth_75 : decode cX4_isSmooth 75 = .ok (.iinc 4 1, 3) := dk_132 4 1 (dk_at dksX4_isSmooth_3 6 rfl rfl)
theorem dX4_isSmooth_78 : decode cX4_isSmooth 78 = .ok (.goto (-46), 3) := dk_167 255 210 (dk_at dksX4_isSmooth_3 9 rfl rfl)
theorem dX4_isSmooth_81 : decode cX4_isSmooth 81 = .ok (.iload_n 2, 1) := dk_28 (dk_at dksX4_isSmooth_3 12 rfl rfl)
theorem dX4_isSmooth_82 : decode cX4_isSmooth 82 = .ok (.istore 4, 2) := dk_54 4 (dk_at dksX4_isSmooth_3 13 rfl rfl)
theorem dX4_isSmooth_84 : decode cX4_isSmooth 84 = .ok (.iload 4, 2) := dk_21 4 (dk_at dksX4_isSmooth_3 15 rfl rfl)
theorem dX4_isSmooth_86 : decode cX4_isSmooth 86 = .ok (.iload_n 1, 1) := dk_27 (dk_at dksX4_isSmooth_3 17 rfl rfl)
theorem dX4_isSmooth_87 : decode cX4_isSmooth 87 = .ok (.if_icmp .ge 27, 3) := dk_162 0 27 (dk_at dksX4_isSmooth_3 18 rfl rfl)
theorem dX4_isSmooth_90 : decode cX4_isSmooth 90 = .ok (.aload_n 0, 1) := dk_42 (dk_at dksX4_isSmooth_3 21 rfl rfl)
theorem dX4_isSmooth_91 : decode cX4_isSmooth 91 = .ok (.getfield 149, 3) := dk_180 0 149 (dk_at dksX4_isSmooth_4 0 rfl rfl)
theorem dX4_isSmooth_94 : decode cX4_isSmooth 94 = .ok (.iload 4, 2) := dk_21 4 (dk_at dksX4_isSmooth_4 3 rfl rfl)
theorem dX4_isSmooth_96 : decode cX4_isSmooth 96 = .ok (.laload, 1) := dk_47 (dk_at dksX4_isSmooth_4 5 rfl rfl)
theorem dX4_isSmooth_97 : decode cX4_isSmooth 97 = .ok (.invokestatic 451, 3) := dk_184 1 195 (dk_at dksX4_isSmooth_4 6 rfl rfl)
theorem dX4_isSmooth_100 : decode cX4_isSmooth 100 = .ok (.iload_n 3, 1) := dk_29 (dk_at dksX4_isSmooth_4 9 rfl rfl)
theorem dX4_isSmooth_101 : decode cX4_isSmooth 101 = .ok (.i2l, 1) := dk_133 (dk_at dksX4_isSmooth_4 10 rfl rfl)
theorem dX4_isSmooth_102 : decode cX4_isSmooth 102 = .ok (.lcmp, 1) := dk_148 (dk_at dksX4_isSmooth_4 11 rfl rfl)
theorem dX4_isSmooth_103 : decode cX4_isSmooth 103 = .ok (.ifCond .le 5, 3) := dk_158 0 5 (dk_at dksX4_isSmooth_4 12 rfl rfl)
theorem dX4_isSmooth_106 : decode cX4_isSmooth 106 = .ok (.iconst 0, 1) := dk_3 (dk_at dksX4_isSmooth_4 15 rfl rfl)
theorem dX4_isSmooth_107 : decode cX4_isSmooth 107 = .ok (.ireturn, 1) := dk_172 (dk_at dksX4_isSmooth_4 16 rfl rfl)
theorem dX4_isSmooth_108 : decode cX4_isSmooth 108 = .ok (.iinc 4 1, 3) := dk_132 4 1 (dk_at dksX4_isSmooth_4 17 rfl rfl)
theorem dX4_isSmooth_111 : decode cX4_isSmooth 111 = .ok (.goto (-27), 3) := dk_167 255 229 (dk_at dksX4_isSmooth_4 20 rfl rfl)
theorem dX4_isSmooth_114 : decode cX4_isSmooth 114 = .ok (.iconst 1, 1) := dk_4 (dk_at dksX4_isSmooth_4 23 rfl rfl)
theorem dX4_isSmooth_115 : decode cX4_isSmooth 115 = .ok (.ireturn, 1) := dk_172 (dk_at dksX4_isSmooth_5 0 rfl rfl)
abbrev cX4_corrected : ByteArray := prog_9_method_76_code
def yX4_corrected : MethodName := ⟨RX4, "corrected", "(IIIII)Z"⟩
def dkwX4_corrected_9 : List UInt8 := [80, 132, 10, 1, 167, 255, 77, 42, 180, 0, 146, 21, 4, 22, 6, 80, 3, 172]
abbrev dktX4_corrected_9 : List UInt8 := dkwX4_corrected_9 ++ []
def dkwX4_corrected_8 : List UInt8 := [180, 0, 146, 21, 5, 21, 4, 21, 5, 160, 0, 13, 42, 180, 0, 146, 21, 5, 47, 167, 0, 5, 22, 8]
abbrev dktX4_corrected_8 : List UInt8 := dkwX4_corrected_8 ++ dktX4_corrected_9
def dkwX4_corrected_7 : List UInt8 := [79, 42, 180, 0, 161, 4, 42, 180, 0, 146, 21, 5, 47, 136, 79, 4, 172, 132, 11, 1, 167, 255, 144, 42]
abbrev dktX4_corrected_7 : List UInt8 := dkwX4_corrected_7 ++ dktX4_corrected_8
def dkwX4_corrected_6 : List UInt8 := [21, 4, 79, 42, 180, 0, 161, 3, 42, 180, 0, 146, 21, 4, 47, 136, 79, 42, 180, 0, 158, 4, 21, 5]
abbrev dktX4_corrected_6 : List UInt8 := dkwX4_corrected_6 ++ dktX4_corrected_7
def dkwX4_corrected_5 : List UInt8 := [104, 21, 11, 96, 47, 80, 42, 27, 28, 29, 182, 1, 250, 154, 0, 6, 167, 0, 49, 42, 180, 0, 158, 3]
abbrev dktX4_corrected_5 : List UInt8 := dkwX4_corrected_5 ++ dktX4_corrected_6
def dkwX4_corrected_4 : List UInt8 := [162, 0, 95, 21, 4, 21, 5, 159, 0, 23, 42, 180, 0, 146, 21, 5, 42, 180, 0, 152, 16, 80, 21, 5]
abbrev dktX4_corrected_4 : List UInt8 := dkwX4_corrected_4 ++ dktX4_corrected_5
def dkwX4_corrected_3 : List UInt8 := [54, 11, 21, 11, 21, 4, 21, 5, 160, 0, 7, 4, 167, 0, 10, 42, 180, 0, 155, 21, 5, 46]
abbrev dktX4_corrected_3 : List UInt8 := dkwX4_corrected_3 ++ dktX4_corrected_4
def dkwX4_corrected_2 : List UInt8 := [162, 0, 173, 42, 180, 0, 146, 21, 4, 42, 180, 0, 152, 16, 80, 21, 4, 104, 21, 10, 96, 47, 80, 3]
abbrev dktX4_corrected_2 : List UInt8 := dkwX4_corrected_2 ++ dktX4_corrected_3
def dkwX4_corrected_1 : List UInt8 := [55, 6, 42, 180, 0, 146, 21, 5, 47, 55, 8, 3, 54, 10, 21, 10, 42, 180, 0, 155, 21, 4, 46]
abbrev dktX4_corrected_1 : List UInt8 := dkwX4_corrected_1 ++ dktX4_corrected_2
def dkwX4_corrected_0 : List UInt8 := [42, 27, 28, 29, 21, 4, 21, 5, 182, 1, 246, 154, 0, 5, 3, 172, 42, 180, 0, 146, 21, 4, 47]
abbrev dktX4_corrected_0 : List UInt8 := dkwX4_corrected_0 ++ dktX4_corrected_1
theorem dksX4_corrected_0 : cX4_corrected.data.toList.drop 0 = dktX4_corrected_0 := by decide +kernel
theorem dksX4_corrected_1 : cX4_corrected.data.toList.drop 23 = dktX4_corrected_1 := dk_seg dksX4_corrected_0 23 rfl rfl
theorem dksX4_corrected_2 : cX4_corrected.data.toList.drop 46 = dktX4_corrected_2 := dk_seg dksX4_corrected_1 23 rfl rfl
theorem dksX4_corrected_3 : cX4_corrected.data.toList.drop 70 = dktX4_corrected_3 := dk_seg dksX4_corrected_2 24 rfl rfl
theorem dksX4_corrected_4 : cX4_corrected.data.toList.drop 92 = dktX4_corrected_4 := dk_seg dksX4_corrected_3 22 rfl rfl
theorem dksX4_corrected_5 : cX4_corrected.data.toList.drop 116 = dktX4_corrected_5 := dk_seg dksX4_corrected_4 24 rfl rfl
theorem dksX4_corrected_6 : cX4_corrected.data.toList.drop 140 = dktX4_corrected_6 := dk_seg dksX4_corrected_5 24 rfl rfl
theorem dksX4_corrected_7 : cX4_corrected.data.toList.drop 164 = dktX4_corrected_7 := dk_seg dksX4_corrected_6 24 rfl rfl
theorem dksX4_corrected_8 : cX4_corrected.data.toList.drop 188 = dktX4_corrected_8 := dk_seg dksX4_corrected_7 24 rfl rfl
theorem dksX4_corrected_9 : cX4_corrected.data.toList.drop 212 = dktX4_corrected_9 := dk_seg dksX4_corrected_8 24 rfl rfl
theorem dX4_corrected_0 : decode cX4_corrected 0 = .ok (.aload_n 0, 1) := dk_42 (dk_at dksX4_corrected_0 0 rfl rfl)
theorem dX4_corrected_1 : decode cX4_corrected 1 = .ok (.iload_n 1, 1) := dk_27 (dk_at dksX4_corrected_0 1 rfl rfl)
theorem dX4_corrected_2 : decode cX4_corrected 2 = .ok (.iload_n 2, 1) := dk_28 (dk_at dksX4_corrected_0 2 rfl rfl)
theorem dX4_corrected_3 : decode cX4_corrected 3 = .ok (.iload_n 3, 1) := dk_29 (dk_at dksX4_corrected_0 3 rfl rfl)
theorem dX4_corrected_4 : decode cX4_corrected 4 = .ok (.iload 4, 2) := dk_21 4 (dk_at dksX4_corrected_0 4 rfl rfl)
theorem dX4_corrected_6 : decode cX4_corrected 6 = .ok (.iload 5, 2) := dk_21 5 (dk_at dksX4_corrected_0 6 rfl rfl)
theorem dX4_corrected_8 : decode cX4_corrected 8 = .ok (.invokevirtual 502, 3) := dk_182 1 246 (dk_at dksX4_corrected_0 8 rfl rfl)
theorem dX4_corrected_11 : decode cX4_corrected 11 = .ok (.ifCond .ne 5, 3) := dk_154 0 5 (dk_at dksX4_corrected_0 11 rfl rfl)
theorem dX4_corrected_14 : decode cX4_corrected 14 = .ok (.iconst 0, 1) := dk_3 (dk_at dksX4_corrected_0 14 rfl rfl)
theorem dX4_corrected_15 : decode cX4_corrected 15 = .ok (.ireturn, 1) := dk_172 (dk_at dksX4_corrected_0 15 rfl rfl)
theorem dX4_corrected_16 : decode cX4_corrected 16 = .ok (.aload_n 0, 1) := dk_42 (dk_at dksX4_corrected_0 16 rfl rfl)
theorem dX4_corrected_17 : decode cX4_corrected 17 = .ok (.getfield 146, 3) := dk_180 0 146 (dk_at dksX4_corrected_0 17 rfl rfl)
theorem dX4_corrected_20 : decode cX4_corrected 20 = .ok (.iload 4, 2) := dk_21 4 (dk_at dksX4_corrected_0 20 rfl rfl)
theorem dX4_corrected_22 : decode cX4_corrected 22 = .ok (.laload, 1) := dk_47 (dk_at dksX4_corrected_0 22 rfl rfl)
theorem dX4_corrected_23 : decode cX4_corrected 23 = .ok (.lstore 6, 2) := dk_55 6 (dk_at dksX4_corrected_1 0 rfl rfl)
theorem dX4_corrected_25 : decode cX4_corrected 25 = .ok (.aload_n 0, 1) := dk_42 (dk_at dksX4_corrected_1 2 rfl rfl)
theorem dX4_corrected_26 : decode cX4_corrected 26 = .ok (.getfield 146, 3) := dk_180 0 146 (dk_at dksX4_corrected_1 3 rfl rfl)
theorem dX4_corrected_29 : decode cX4_corrected 29 = .ok (.iload 5, 2) := dk_21 5 (dk_at dksX4_corrected_1 6 rfl rfl)
theorem dX4_corrected_31 : decode cX4_corrected 31 = .ok (.laload, 1) := dk_47 (dk_at dksX4_corrected_1 8 rfl rfl)
theorem dX4_corrected_32 : decode cX4_corrected 32 = .ok (.lstore 8, 2) := dk_55 8 (dk_at dksX4_corrected_1 9 rfl rfl)
theorem dX4_corrected_34 : decode cX4_corrected 34 = .ok (.iconst 0, 1) := dk_3 (dk_at dksX4_corrected_1 11 rfl rfl)
theorem dX4_corrected_35 : decode cX4_corrected 35 = .ok (.istore 10, 2) := dk_54 10 (dk_at dksX4_corrected_1 12 rfl rfl)
theorem dX4_corrected_37 : decode cX4_corrected 37 = .ok (.iload 10, 2) := dk_21 10 (dk_at dksX4_corrected_1 14 rfl rfl)
theorem dX4_corrected_39 : decode cX4_corrected 39 = .ok (.aload_n 0, 1) := dk_42 (dk_at dksX4_corrected_1 16 rfl rfl)
theorem dX4_corrected_40 : decode cX4_corrected 40 = .ok (.getfield 155, 3) := dk_180 0 155 (dk_at dksX4_corrected_1 17 rfl rfl)
theorem dX4_corrected_43 : decode cX4_corrected 43 = .ok (.iload 4, 2) := dk_21 4 (dk_at dksX4_corrected_1 20 rfl rfl)
theorem dX4_corrected_45 : decode cX4_corrected 45 = .ok (.iaload, 1) := dk_46 (dk_at dksX4_corrected_1 22 rfl rfl)
theorem dX4_corrected_46 : decode cX4_corrected 46 = .ok (.if_icmp .ge 173, 3) := dk_162 0 173 (dk_at dksX4_corrected_2 0 rfl rfl)
theorem dX4_corrected_49 : decode cX4_corrected 49 = .ok (.aload_n 0, 1) := dk_42 (dk_at dksX4_corrected_2 3 rfl rfl)
theorem dX4_corrected_50 : decode cX4_corrected 50 = .ok (.getfield 146, 3) := dk_180 0 146 (dk_at dksX4_corrected_2 4 rfl rfl)
theorem dX4_corrected_53 : decode cX4_corrected 53 = .ok (.iload 4, 2) := dk_21 4 (dk_at dksX4_corrected_2 7 rfl rfl)
theorem dX4_corrected_55 : decode cX4_corrected 55 = .ok (.aload_n 0, 1) := dk_42 (dk_at dksX4_corrected_2 9 rfl rfl)
theorem dX4_corrected_56 : decode cX4_corrected 56 = .ok (.getfield 152, 3) := dk_180 0 152 (dk_at dksX4_corrected_2 10 rfl rfl)
theorem dX4_corrected_59 : decode cX4_corrected 59 = .ok (.bipush 80, 2) := dk_16 80 (dk_at dksX4_corrected_2 13 rfl rfl)
theorem dX4_corrected_61 : decode cX4_corrected 61 = .ok (.iload 4, 2) := dk_21 4 (dk_at dksX4_corrected_2 15 rfl rfl)
theorem dX4_corrected_63 : decode cX4_corrected 63 = .ok (.imul, 1) := dk_104 (dk_at dksX4_corrected_2 17 rfl rfl)
theorem dX4_corrected_64 : decode cX4_corrected 64 = .ok (.iload 10, 2) := dk_21 10 (dk_at dksX4_corrected_2 18 rfl rfl)
theorem dX4_corrected_66 : decode cX4_corrected 66 = .ok (.iadd, 1) := dk_96 (dk_at dksX4_corrected_2 20 rfl rfl)
theorem dX4_corrected_67 : decode cX4_corrected 67 = .ok (.laload, 1) := dk_47 (dk_at dksX4_corrected_2 21 rfl rfl)
theorem dX4_corrected_68 : decode cX4_corrected 68 = .ok (.lastore, 1) := dk_80 (dk_at dksX4_corrected_2 22 rfl rfl)
theorem dX4_corrected_69 : decode cX4_corrected 69 = .ok (.iconst 0, 1) := dk_3 (dk_at dksX4_corrected_2 23 rfl rfl)
theorem dX4_corrected_70 : decode cX4_corrected 70 = .ok (.istore 11, 2) := dk_54 11 (dk_at dksX4_corrected_3 0 rfl rfl)
theorem dX4_corrected_72 : decode cX4_corrected 72 = .ok (.iload 11, 2) := dk_21 11 (dk_at dksX4_corrected_3 2 rfl rfl)
theorem dX4_corrected_74 : decode cX4_corrected 74 = .ok (.iload 4, 2) := dk_21 4 (dk_at dksX4_corrected_3 4 rfl rfl)
theorem dX4_corrected_76 : decode cX4_corrected 76 = .ok (.iload 5, 2) := dk_21 5 (dk_at dksX4_corrected_3 6 rfl rfl)
theorem dX4_corrected_78 : decode cX4_corrected 78 = .ok (.if_icmp .ne 7, 3) := dk_160 0 7 (dk_at dksX4_corrected_3 8 rfl rfl)
theorem dX4_corrected_81 : decode cX4_corrected 81 = .ok (.iconst 1, 1) := dk_4 (dk_at dksX4_corrected_3 11 rfl rfl)
theorem dX4_corrected_82 : decode cX4_corrected 82 = .ok (.goto 10, 3) := dk_167 0 10 (dk_at dksX4_corrected_3 12 rfl rfl)
theorem dX4_corrected_85 : decode cX4_corrected 85 = .ok (.aload_n 0, 1) := dk_42 (dk_at dksX4_corrected_3 15 rfl rfl)
theorem dX4_corrected_86 : decode cX4_corrected 86 = .ok (.getfield 155, 3) := dk_180 0 155 (dk_at dksX4_corrected_3 16 rfl rfl)
theorem dX4_corrected_89 : decode cX4_corrected 89 = .ok (.iload 5, 2) := dk_21 5 (dk_at dksX4_corrected_3 19 rfl rfl)
theorem dX4_corrected_91 : decode cX4_corrected 91 = .ok (.iaload, 1) := dk_46 (dk_at dksX4_corrected_3 21 rfl rfl)
theorem dX4_corrected_92 : decode cX4_corrected 92 = .ok (.if_icmp .ge 95, 3) := dk_162 0 95 (dk_at dksX4_corrected_4 0 rfl rfl)
theorem dX4_corrected_95 : decode cX4_corrected 95 = .ok (.iload 4, 2) := dk_21 4 (dk_at dksX4_corrected_4 3 rfl rfl)
theorem dX4_corrected_97 : decode cX4_corrected 97 = .ok (.iload 5, 2) := dk_21 5 (dk_at dksX4_corrected_4 5 rfl rfl)
theorem dX4_corrected_99 : decode cX4_corrected 99 = .ok (.if_icmp .eq 23, 3) := dk_159 0 23 (dk_at dksX4_corrected_4 7 rfl rfl)
theorem dX4_corrected_102 : decode cX4_corrected 102 = .ok (.aload_n 0, 1) := dk_42 (dk_at dksX4_corrected_4 10 rfl rfl)
theorem dX4_corrected_103 : decode cX4_corrected 103 = .ok (.getfield 146, 3) := dk_180 0 146 (dk_at dksX4_corrected_4 11 rfl rfl)
theorem dX4_corrected_106 : decode cX4_corrected 106 = .ok (.iload 5, 2) := dk_21 5 (dk_at dksX4_corrected_4 14 rfl rfl)
theorem dX4_corrected_108 : decode cX4_corrected 108 = .ok (.aload_n 0, 1) := dk_42 (dk_at dksX4_corrected_4 16 rfl rfl)
theorem dX4_corrected_109 : decode cX4_corrected 109 = .ok (.getfield 152, 3) := dk_180 0 152 (dk_at dksX4_corrected_4 17 rfl rfl)
theorem dX4_corrected_112 : decode cX4_corrected 112 = .ok (.bipush 80, 2) := dk_16 80 (dk_at dksX4_corrected_4 20 rfl rfl)
theorem dX4_corrected_114 : decode cX4_corrected 114 = .ok (.iload 5, 2) := dk_21 5 (dk_at dksX4_corrected_4 22 rfl rfl)
theorem dX4_corrected_116 : decode cX4_corrected 116 = .ok (.imul, 1) := dk_104 (dk_at dksX4_corrected_5 0 rfl rfl)
theorem dX4_corrected_117 : decode cX4_corrected 117 = .ok (.iload 11, 2) := dk_21 11 (dk_at dksX4_corrected_5 1 rfl rfl)
theorem dX4_corrected_119 : decode cX4_corrected 119 = .ok (.iadd, 1) := dk_96 (dk_at dksX4_corrected_5 3 rfl rfl)
theorem dX4_corrected_120 : decode cX4_corrected 120 = .ok (.laload, 1) := dk_47 (dk_at dksX4_corrected_5 4 rfl rfl)
theorem dX4_corrected_121 : decode cX4_corrected 121 = .ok (.lastore, 1) := dk_80 (dk_at dksX4_corrected_5 5 rfl rfl)
theorem dX4_corrected_122 : decode cX4_corrected 122 = .ok (.aload_n 0, 1) := dk_42 (dk_at dksX4_corrected_5 6 rfl rfl)
theorem dX4_corrected_123 : decode cX4_corrected 123 = .ok (.iload_n 1, 1) := dk_27 (dk_at dksX4_corrected_5 7 rfl rfl)
theorem dX4_corrected_124 : decode cX4_corrected 124 = .ok (.iload_n 2, 1) := dk_28 (dk_at dksX4_corrected_5 8 rfl rfl)
theorem dX4_corrected_125 : decode cX4_corrected 125 = .ok (.iload_n 3, 1) := dk_29 (dk_at dksX4_corrected_5 9 rfl rfl)
theorem dX4_corrected_126 : decode cX4_corrected 126 = .ok (.invokevirtual 506, 3) := dk_182 1 250 (dk_at dksX4_corrected_5 10 rfl rfl)
theorem dX4_corrected_129 : decode cX4_corrected 129 = .ok (.ifCond .ne 6, 3) := dk_154 0 6 (dk_at dksX4_corrected_5 13 rfl rfl)
theorem dX4_corrected_132 : decode cX4_corrected 132 = .ok (.goto 49, 3) := dk_167 0 49 (dk_at dksX4_corrected_5 16 rfl rfl)
theorem dX4_corrected_135 : decode cX4_corrected 135 = .ok (.aload_n 0, 1) := dk_42 (dk_at dksX4_corrected_5 19 rfl rfl)
theorem dX4_corrected_136 : decode cX4_corrected 136 = .ok (.getfield 158, 3) := dk_180 0 158 (dk_at dksX4_corrected_5 20 rfl rfl)
theorem dX4_corrected_139 : decode cX4_corrected 139 = .ok (.iconst 0, 1) := dk_3 (dk_at dksX4_corrected_5 23 rfl rfl)
theorem dX4_corrected_140 : decode cX4_corrected 140 = .ok (.iload 4, 2) := dk_21 4 (dk_at dksX4_corrected_6 0 rfl rfl)
theorem dX4_corrected_142 : decode cX4_corrected 142 = .ok (.iastore, 1) := dk_79 (dk_at dksX4_corrected_6 2 rfl rfl)
theorem dX4_corrected_143 : decode cX4_corrected 143 = .ok (.aload_n 0, 1) := dk_42 (dk_at dksX4_corrected_6 3 rfl rfl)
theorem dX4_corrected_144 : decode cX4_corrected 144 = .ok (.getfield 161, 3) := dk_180 0 161 (dk_at dksX4_corrected_6 4 rfl rfl)
theorem dX4_corrected_147 : decode cX4_corrected 147 = .ok (.iconst 0, 1) := dk_3 (dk_at dksX4_corrected_6 7 rfl rfl)
theorem dX4_corrected_148 : decode cX4_corrected 148 = .ok (.aload_n 0, 1) := dk_42 (dk_at dksX4_corrected_6 8 rfl rfl)
theorem dX4_corrected_149 : decode cX4_corrected 149 = .ok (.getfield 146, 3) := dk_180 0 146 (dk_at dksX4_corrected_6 9 rfl rfl)
theorem dX4_corrected_152 : decode cX4_corrected 152 = .ok (.iload 4, 2) := dk_21 4 (dk_at dksX4_corrected_6 12 rfl rfl)
theorem dX4_corrected_154 : decode cX4_corrected 154 = .ok (.laload, 1) := dk_47 (dk_at dksX4_corrected_6 14 rfl rfl)
theorem dX4_corrected_155 : decode cX4_corrected 155 = .ok (.l2i, 1) := dk_136 (dk_at dksX4_corrected_6 15 rfl rfl)
theorem dX4_corrected_156 : decode cX4_corrected 156 = .ok (.iastore, 1) := dk_79 (dk_at dksX4_corrected_6 16 rfl rfl)
theorem dX4_corrected_157 : decode cX4_corrected 157 = .ok (.aload_n 0, 1) := dk_42 (dk_at dksX4_corrected_6 17 rfl rfl)
theorem dX4_corrected_158 : decode cX4_corrected 158 = .ok (.getfield 158, 3) := dk_180 0 158 (dk_at dksX4_corrected_6 18 rfl rfl)
theorem dX4_corrected_161 : decode cX4_corrected 161 = .ok (.iconst 1, 1) := dk_4 (dk_at dksX4_corrected_6 21 rfl rfl)
theorem dX4_corrected_162 : decode cX4_corrected 162 = .ok (.iload 5, 2) := dk_21 5 (dk_at dksX4_corrected_6 22 rfl rfl)
theorem dX4_corrected_164 : decode cX4_corrected 164 = .ok (.iastore, 1) := dk_79 (dk_at dksX4_corrected_7 0 rfl rfl)
theorem dX4_corrected_165 : decode cX4_corrected 165 = .ok (.aload_n 0, 1) := dk_42 (dk_at dksX4_corrected_7 1 rfl rfl)
theorem dX4_corrected_166 : decode cX4_corrected 166 = .ok (.getfield 161, 3) := dk_180 0 161 (dk_at dksX4_corrected_7 2 rfl rfl)
theorem dX4_corrected_169 : decode cX4_corrected 169 = .ok (.iconst 1, 1) := dk_4 (dk_at dksX4_corrected_7 5 rfl rfl)
theorem dX4_corrected_170 : decode cX4_corrected 170 = .ok (.aload_n 0, 1) := dk_42 (dk_at dksX4_corrected_7 6 rfl rfl)
theorem dX4_corrected_171 : decode cX4_corrected 171 = .ok (.getfield 146, 3) := dk_180 0 146 (dk_at dksX4_corrected_7 7 rfl rfl)
theorem dX4_corrected_174 : decode cX4_corrected 174 = .ok (.iload 5, 2) := dk_21 5 (dk_at dksX4_corrected_7 10 rfl rfl)
theorem dX4_corrected_176 : decode cX4_corrected 176 = .ok (.laload, 1) := dk_47 (dk_at dksX4_corrected_7 12 rfl rfl)
theorem dX4_corrected_177 : decode cX4_corrected 177 = .ok (.l2i, 1) := dk_136 (dk_at dksX4_corrected_7 13 rfl rfl)
theorem dX4_corrected_178 : decode cX4_corrected 178 = .ok (.iastore, 1) := dk_79 (dk_at dksX4_corrected_7 14 rfl rfl)
theorem dX4_corrected_179 : decode cX4_corrected 179 = .ok (.iconst 1, 1) := dk_4 (dk_at dksX4_corrected_7 15 rfl rfl)
theorem dX4_corrected_180 : decode cX4_corrected 180 = .ok (.ireturn, 1) := dk_172 (dk_at dksX4_corrected_7 16 rfl rfl)
theorem dX4_corrected_181 : decode cX4_corrected 181 = .ok (.iinc 11 1, 3) := dk_132 11 1 (dk_at dksX4_corrected_7 17 rfl rfl)
theorem dX4_corrected_184 : decode cX4_corrected 184 = .ok (.goto (-112), 3) := dk_167 255 144 (dk_at dksX4_corrected_7 20 rfl rfl)
theorem dX4_corrected_187 : decode cX4_corrected 187 = .ok (.aload_n 0, 1) := dk_42 (dk_at dksX4_corrected_7 23 rfl rfl)
theorem dX4_corrected_188 : decode cX4_corrected 188 = .ok (.getfield 146, 3) := dk_180 0 146 (dk_at dksX4_corrected_8 0 rfl rfl)
theorem dX4_corrected_191 : decode cX4_corrected 191 = .ok (.iload 5, 2) := dk_21 5 (dk_at dksX4_corrected_8 3 rfl rfl)
theorem dX4_corrected_193 : decode cX4_corrected 193 = .ok (.iload 4, 2) := dk_21 4 (dk_at dksX4_corrected_8 5 rfl rfl)
theorem dX4_corrected_195 : decode cX4_corrected 195 = .ok (.iload 5, 2) := dk_21 5 (dk_at dksX4_corrected_8 7 rfl rfl)
theorem dX4_corrected_197 : decode cX4_corrected 197 = .ok (.if_icmp .ne 13, 3) := dk_160 0 13 (dk_at dksX4_corrected_8 9 rfl rfl)
theorem dX4_corrected_200 : decode cX4_corrected 200 = .ok (.aload_n 0, 1) := dk_42 (dk_at dksX4_corrected_8 12 rfl rfl)
theorem dX4_corrected_201 : decode cX4_corrected 201 = .ok (.getfield 146, 3) := dk_180 0 146 (dk_at dksX4_corrected_8 13 rfl rfl)
theorem dX4_corrected_204 : decode cX4_corrected 204 = .ok (.iload 5, 2) := dk_21 5 (dk_at dksX4_corrected_8 16 rfl rfl)
theorem dX4_corrected_206 : decode cX4_corrected 206 = .ok (.laload, 1) := dk_47 (dk_at dksX4_corrected_8 18 rfl rfl)
theorem dX4_corrected_207 : decode cX4_corrected 207 = .ok (.goto 5, 3) := dk_167 0 5 (dk_at dksX4_corrected_8 19 rfl rfl)
theorem dX4_corrected_210 : decode cX4_corrected 210 = .ok (.lload 8, 2) := dk_22 8 (dk_at dksX4_corrected_8 22 rfl rfl)
theorem dX4_corrected_212 : decode cX4_corrected 212 = .ok (.lastore, 1) := dk_80 (dk_at dksX4_corrected_9 0 rfl rfl)
theorem dX4_corrected_213 : decode cX4_corrected 213 = .ok (.iinc 10 1, 3) := dk_132 10 1 (dk_at dksX4_corrected_9 1 rfl rfl)
theorem dX4_corrected_216 : decode cX4_corrected 216 = .ok (.goto (-179), 3) := dk_167 255 77 (dk_at dksX4_corrected_9 4 rfl rfl)
theorem dX4_corrected_219 : decode cX4_corrected 219 = .ok (.aload_n 0, 1) := dk_42 (dk_at dksX4_corrected_9 7 rfl rfl)
theorem dX4_corrected_220 : decode cX4_corrected 220 = .ok (.getfield 146, 3) := dk_180 0 146 (dk_at dksX4_corrected_9 8 rfl rfl)
theorem dX4_corrected_223 : decode cX4_corrected 223 = .ok (.iload 4, 2) := dk_21 4 (dk_at dksX4_corrected_9 11 rfl rfl)
theorem dX4_corrected_225 : decode cX4_corrected 225 = .ok (.lload 6, 2) := dk_22 6 (dk_at dksX4_corrected_9 13 rfl rfl)
theorem dX4_corrected_227 : decode cX4_corrected 227 = .ok (.lastore, 1) := dk_80 (dk_at dksX4_corrected_9 15 rfl rfl)
theorem dX4_corrected_228 : decode cX4_corrected 228 = .ok (.iconst 0, 1) := dk_3 (dk_at dksX4_corrected_9 16 rfl rfl)
theorem dX4_corrected_229 : decode cX4_corrected 229 = .ok (.ireturn, 1) := dk_172 (dk_at dksX4_corrected_9 17 rfl rfl)
abbrev cX4_isElsewhere : ByteArray := prog_9_method_75_code
def yX4_isElsewhere : MethodName := ⟨RX4, "isElsewhere", "(IIIII)Z"⟩
def dkwX4_isElsewhere_6 : List UInt8 := [154, 0, 5, 3, 172, 132, 6, 1, 167, 255, 195, 4, 172]
abbrev dktX4_isElsewhere_6 : List UInt8 := dkwX4_isElsewhere_6 ++ []
def dkwX4_isElsewhere_5 : List UInt8 := [21, 6, 133, 184, 0, 239, 154, 0, 22, 21, 5, 133, 21, 6, 28, 100, 133, 21, 6, 133, 184, 0, 239]
abbrev dktX4_isElsewhere_5 : List UInt8 := dkwX4_isElsewhere_5 ++ dktX4_isElsewhere_6
def dkwX4_isElsewhere_4 : List UInt8 := [180, 0, 149, 21, 6, 47, 184, 1, 195, 29, 133, 148, 158, 0, 39, 21, 4, 133, 21, 6, 28, 100, 133]
abbrev dktX4_isElsewhere_4 : List UInt8 := dkwX4_isElsewhere_4 ++ dktX4_isElsewhere_5
def dkwX4_isElsewhere_3 : List UInt8 := [132, 7, 255, 167, 255, 227, 132, 6, 1, 167, 255, 210, 28, 54, 6, 21, 6, 27, 162, 0, 61, 42]
abbrev dktX4_isElsewhere_3 : List UInt8 := dkwX4_isElsewhere_3 ++ dktX4_isElsewhere_4
def dkwX4_isElsewhere_2 : List UInt8 := [161, 0, 28, 42, 180, 0, 149, 21, 7, 92, 47, 42, 180, 0, 149, 21, 7, 4, 100, 47, 101, 80]
abbrev dktX4_isElsewhere_2 : List UInt8 := dkwX4_isElsewhere_2 ++ dktX4_isElsewhere_3
def dkwX4_isElsewhere_1 : List UInt8 := [132, 6, 1, 167, 255, 233, 4, 54, 6, 21, 6, 28, 163, 0, 46, 27, 4, 100, 54, 7, 21, 7, 21, 6]
abbrev dktX4_isElsewhere_1 : List UInt8 := dkwX4_isElsewhere_1 ++ dktX4_isElsewhere_2
def dkwX4_isElsewhere_0 : List UInt8 := [3, 54, 6, 21, 6, 27, 162, 0, 23, 42, 180, 0, 149, 21, 6, 42, 180, 0, 146, 21, 6, 47, 80]
abbrev dktX4_isElsewhere_0 : List UInt8 := dkwX4_isElsewhere_0 ++ dktX4_isElsewhere_1
theorem dksX4_isElsewhere_0 : cX4_isElsewhere.data.toList.drop 0 = dktX4_isElsewhere_0 := by decide +kernel
theorem dksX4_isElsewhere_1 : cX4_isElsewhere.data.toList.drop 23 = dktX4_isElsewhere_1 := dk_seg dksX4_isElsewhere_0 23 rfl rfl
theorem dksX4_isElsewhere_2 : cX4_isElsewhere.data.toList.drop 47 = dktX4_isElsewhere_2 := dk_seg dksX4_isElsewhere_1 24 rfl rfl
theorem dksX4_isElsewhere_3 : cX4_isElsewhere.data.toList.drop 69 = dktX4_isElsewhere_3 := dk_seg dksX4_isElsewhere_2 22 rfl rfl
theorem dksX4_isElsewhere_4 : cX4_isElsewhere.data.toList.drop 91 = dktX4_isElsewhere_4 := dk_seg dksX4_isElsewhere_3 22 rfl rfl
theorem dksX4_isElsewhere_5 : cX4_isElsewhere.data.toList.drop 114 = dktX4_isElsewhere_5 := dk_seg dksX4_isElsewhere_4 23 rfl rfl
theorem dksX4_isElsewhere_6 : cX4_isElsewhere.data.toList.drop 137 = dktX4_isElsewhere_6 := dk_seg dksX4_isElsewhere_5 23 rfl rfl
theorem dX4_isElsewhere_0 : decode cX4_isElsewhere 0 = .ok (.iconst 0, 1) := dk_3 (dk_at dksX4_isElsewhere_0 0 rfl rfl)
theorem dX4_isElsewhere_1 : decode cX4_isElsewhere 1 = .ok (.istore 6, 2) := dk_54 6 (dk_at dksX4_isElsewhere_0 1 rfl rfl)
theorem dX4_isElsewhere_3 : decode cX4_isElsewhere 3 = .ok (.iload 6, 2) := dk_21 6 (dk_at dksX4_isElsewhere_0 3 rfl rfl)
theorem dX4_isElsewhere_5 : decode cX4_isElsewhere 5 = .ok (.iload_n 1, 1) := dk_27 (dk_at dksX4_isElsewhere_0 5 rfl rfl)
theorem dX4_isElsewhere_6 : decode cX4_isElsewhere 6 = .ok (.if_icmp .ge 23, 3) := dk_162 0 23 (dk_at dksX4_isElsewhere_0 6 rfl rfl)
theorem dX4_isElsewhere_9 : decode cX4_isElsewhere 9 = .ok (.aload_n 0, 1) := dk_42 (dk_at dksX4_isElsewhere_0 9 rfl rfl)
theorem dX4_isElsewhere_10 : decode cX4_isElsewhere 10 = .ok (.getfield 149, 3) := dk_180 0 149 (dk_at dksX4_isElsewhere_0 10 rfl rfl)
theorem dX4_isElsewhere_13 : decode cX4_isElsewhere 13 = .ok (.iload 6, 2) := dk_21 6 (dk_at dksX4_isElsewhere_0 13 rfl rfl)
theorem dX4_isElsewhere_15 : decode cX4_isElsewhere 15 = .ok (.aload_n 0, 1) := dk_42 (dk_at dksX4_isElsewhere_0 15 rfl rfl)
theorem dX4_isElsewhere_16 : decode cX4_isElsewhere 16 = .ok (.getfield 146, 3) := dk_180 0 146 (dk_at dksX4_isElsewhere_0 16 rfl rfl)
theorem dX4_isElsewhere_19 : decode cX4_isElsewhere 19 = .ok (.iload 6, 2) := dk_21 6 (dk_at dksX4_isElsewhere_0 19 rfl rfl)
theorem dX4_isElsewhere_21 : decode cX4_isElsewhere 21 = .ok (.laload, 1) := dk_47 (dk_at dksX4_isElsewhere_0 21 rfl rfl)
theorem dX4_isElsewhere_22 : decode cX4_isElsewhere 22 = .ok (.lastore, 1) := dk_80 (dk_at dksX4_isElsewhere_0 22 rfl rfl)
theorem dX4_isElsewhere_23 : decode cX4_isElsewhere 23 = .ok (.iinc 6 1, 3) := dk_132 6 1 (dk_at dksX4_isElsewhere_1 0 rfl rfl)
theorem dX4_isElsewhere_26 : decode cX4_isElsewhere 26 = .ok (.goto (-23), 3) := dk_167 255 233 (dk_at dksX4_isElsewhere_1 3 rfl rfl)
theorem dX4_isElsewhere_29 : decode cX4_isElsewhere 29 = .ok (.iconst 1, 1) := dk_4 (dk_at dksX4_isElsewhere_1 6 rfl rfl)
theorem dX4_isElsewhere_30 : decode cX4_isElsewhere 30 = .ok (.istore 6, 2) := dk_54 6 (dk_at dksX4_isElsewhere_1 7 rfl rfl)
theorem dX4_isElsewhere_32 : decode cX4_isElsewhere 32 = .ok (.iload 6, 2) := dk_21 6 (dk_at dksX4_isElsewhere_1 9 rfl rfl)
theorem dX4_isElsewhere_34 : decode cX4_isElsewhere 34 = .ok (.iload_n 2, 1) := dk_28 (dk_at dksX4_isElsewhere_1 11 rfl rfl)
theorem dX4_isElsewhere_35 : decode cX4_isElsewhere 35 = .ok (.if_icmp .gt 46, 3) := dk_163 0 46 (dk_at dksX4_isElsewhere_1 12 rfl rfl)
theorem dX4_isElsewhere_38 : decode cX4_isElsewhere 38 = .ok (.iload_n 1, 1) := dk_27 (dk_at dksX4_isElsewhere_1 15 rfl rfl)
theorem dX4_isElsewhere_39 : decode cX4_isElsewhere 39 = .ok (.iconst 1, 1) := dk_4 (dk_at dksX4_isElsewhere_1 16 rfl rfl)
theorem dX4_isElsewhere_40 : decode cX4_isElsewhere 40 = .ok (.isub, 1) := dk_100 (dk_at dksX4_isElsewhere_1 17 rfl rfl)
theorem dX4_isElsewhere_41 : decode cX4_isElsewhere 41 = .ok (.istore 7, 2) := dk_54 7 (dk_at dksX4_isElsewhere_1 18 rfl rfl)
theorem dX4_isElsewhere_43 : decode cX4_isElsewhere 43 = .ok (.iload 7, 2) := dk_21 7 (dk_at dksX4_isElsewhere_1 20 rfl rfl)
theorem dX4_isElsewhere_45 : decode cX4_isElsewhere 45 = .ok (.iload 6, 2) := dk_21 6 (dk_at dksX4_isElsewhere_1 22 rfl rfl)
theorem dX4_isElsewhere_47 : decode cX4_isElsewhere 47 = .ok (.if_icmp .lt 28, 3) := dk_161 0 28 (dk_at dksX4_isElsewhere_2 0 rfl rfl)
theorem dX4_isElsewhere_50 : decode cX4_isElsewhere 50 = .ok (.aload_n 0, 1) := dk_42 (dk_at dksX4_isElsewhere_2 3 rfl rfl)
theorem dX4_isElsewhere_51 : decode cX4_isElsewhere 51 = .ok (.getfield 149, 3) := dk_180 0 149 (dk_at dksX4_isElsewhere_2 4 rfl rfl)
theorem dX4_isElsewhere_54 : decode cX4_isElsewhere 54 = .ok (.iload 7, 2) := dk_21 7 (dk_at dksX4_isElsewhere_2 7 rfl rfl)
theorem dX4_isElsewhere_56 : decode cX4_isElsewhere 56 = .ok (.dup2, 1) := dk_92 (dk_at dksX4_isElsewhere_2 9 rfl rfl)
theorem dX4_isElsewhere_57 : decode cX4_isElsewhere 57 = .ok (.laload, 1) := dk_47 (dk_at dksX4_isElsewhere_2 10 rfl rfl)
theorem dX4_isElsewhere_58 : decode cX4_isElsewhere 58 = .ok (.aload_n 0, 1) := dk_42 (dk_at dksX4_isElsewhere_2 11 rfl rfl)
theorem dX4_isElsewhere_59 : decode cX4_isElsewhere 59 = .ok (.getfield 149, 3) := dk_180 0 149 (dk_at dksX4_isElsewhere_2 12 rfl rfl)
theorem dX4_isElsewhere_62 : decode cX4_isElsewhere 62 = .ok (.iload 7, 2) := dk_21 7 (dk_at dksX4_isElsewhere_2 15 rfl rfl)
theorem dX4_isElsewhere_64 : decode cX4_isElsewhere 64 = .ok (.iconst 1, 1) := dk_4 (dk_at dksX4_isElsewhere_2 17 rfl rfl)
theorem dX4_isElsewhere_65 : decode cX4_isElsewhere 65 = .ok (.isub, 1) := dk_100 (dk_at dksX4_isElsewhere_2 18 rfl rfl)
theorem dX4_isElsewhere_66 : decode cX4_isElsewhere 66 = .ok (.laload, 1) := dk_47 (dk_at dksX4_isElsewhere_2 19 rfl rfl)
theorem dX4_isElsewhere_67 : decode cX4_isElsewhere 67 = .ok (.lsub, 1) := dk_101 (dk_at dksX4_isElsewhere_2 20 rfl rfl)
theorem dX4_isElsewhere_68 : decode cX4_isElsewhere 68 = .ok (.lastore, 1) := dk_80 (dk_at dksX4_isElsewhere_2 21 rfl rfl)
theorem dX4_isElsewhere_69 : decode cX4_isElsewhere 69 = .ok (.iinc 7 (-1), 3) := dk_132 7 255 (dk_at dksX4_isElsewhere_3 0 rfl rfl)
theorem dX4_isElsewhere_72 : decode cX4_isElsewhere 72 = .ok (.goto (-29), 3) := dk_167 255 227 (dk_at dksX4_isElsewhere_3 3 rfl rfl)
theorem dX4_isElsewhere_75 : decode cX4_isElsewhere 75 = .ok (.iinc 6 1, 3) := dk_132 6 1 (dk_at dksX4_isElsewhere_3 6 rfl rfl)
theorem dX4_isElsewhere_78 : decode cX4_isElsewhere 78 = .ok (.goto (-46), 3) := dk_167 255 210 (dk_at dksX4_isElsewhere_3 9 rfl rfl)
theorem dX4_isElsewhere_81 : decode cX4_isElsewhere 81 = .ok (.iload_n 2, 1) := dk_28 (dk_at dksX4_isElsewhere_3 12 rfl rfl)
theorem dX4_isElsewhere_82 : decode cX4_isElsewhere 82 = .ok (.istore 6, 2) := dk_54 6 (dk_at dksX4_isElsewhere_3 13 rfl rfl)
theorem dX4_isElsewhere_84 : decode cX4_isElsewhere 84 = .ok (.iload 6, 2) := dk_21 6 (dk_at dksX4_isElsewhere_3 15 rfl rfl)
theorem dX4_isElsewhere_86 : decode cX4_isElsewhere 86 = .ok (.iload_n 1, 1) := dk_27 (dk_at dksX4_isElsewhere_3 17 rfl rfl)
theorem dX4_isElsewhere_87 : decode cX4_isElsewhere 87 = .ok (.if_icmp .ge 61, 3) := dk_162 0 61 (dk_at dksX4_isElsewhere_3 18 rfl rfl)
theorem dX4_isElsewhere_90 : decode cX4_isElsewhere 90 = .ok (.aload_n 0, 1) := dk_42 (dk_at dksX4_isElsewhere_3 21 rfl rfl)
theorem dX4_isElsewhere_91 : decode cX4_isElsewhere 91 = .ok (.getfield 149, 3) := dk_180 0 149 (dk_at dksX4_isElsewhere_4 0 rfl rfl)
theorem dX4_isElsewhere_94 : decode cX4_isElsewhere 94 = .ok (.iload 6, 2) := dk_21 6 (dk_at dksX4_isElsewhere_4 3 rfl rfl)
theorem dX4_isElsewhere_96 : decode cX4_isElsewhere 96 = .ok (.laload, 1) := dk_47 (dk_at dksX4_isElsewhere_4 5 rfl rfl)
theorem dX4_isElsewhere_97 : decode cX4_isElsewhere 97 = .ok (.invokestatic 451, 3) := dk_184 1 195 (dk_at dksX4_isElsewhere_4 6 rfl rfl)
theorem dX4_isElsewhere_100 : decode cX4_isElsewhere 100 = .ok (.iload_n 3, 1) := dk_29 (dk_at dksX4_isElsewhere_4 9 rfl rfl)
theorem dX4_isElsewhere_101 : decode cX4_isElsewhere 101 = .ok (.i2l, 1) := dk_133 (dk_at dksX4_isElsewhere_4 10 rfl rfl)
theorem dX4_isElsewhere_102 : decode cX4_isElsewhere 102 = .ok (.lcmp, 1) := dk_148 (dk_at dksX4_isElsewhere_4 11 rfl rfl)
theorem dX4_isElsewhere_103 : decode cX4_isElsewhere 103 = .ok (.ifCond .le 39, 3) := dk_158 0 39 (dk_at dksX4_isElsewhere_4 12 rfl rfl)
theorem dX4_isElsewhere_106 : decode cX4_isElsewhere 106 = .ok (.iload 4, 2) := dk_21 4 (dk_at dksX4_isElsewhere_4 15 rfl rfl)
theorem dX4_isElsewhere_108 : decode cX4_isElsewhere 108 = .ok (.i2l, 1) := dk_133 (dk_at dksX4_isElsewhere_4 17 rfl rfl)
theorem dX4_isElsewhere_109 : decode cX4_isElsewhere 109 = .ok (.iload 6, 2) := dk_21 6 (dk_at dksX4_isElsewhere_4 18 rfl rfl)
theorem dX4_isElsewhere_111 : decode cX4_isElsewhere 111 = .ok (.iload_n 2, 1) := dk_28 (dk_at dksX4_isElsewhere_4 20 rfl rfl)
theorem dX4_isElsewhere_112 : decode cX4_isElsewhere 112 = .ok (.isub, 1) := dk_100 (dk_at dksX4_isElsewhere_4 21 rfl rfl)
theorem dX4_isElsewhere_113 : decode cX4_isElsewhere 113 = .ok (.i2l, 1) := dk_133 (dk_at dksX4_isElsewhere_4 22 rfl rfl)
theorem dX4_isElsewhere_114 : decode cX4_isElsewhere 114 = .ok (.iload 6, 2) := dk_21 6 (dk_at dksX4_isElsewhere_5 0 rfl rfl)
theorem dX4_isElsewhere_116 : decode cX4_isElsewhere 116 = .ok (.i2l, 1) := dk_133 (dk_at dksX4_isElsewhere_5 2 rfl rfl)
theorem dX4_isElsewhere_117 : decode cX4_isElsewhere 117 = .ok (.invokestatic 239, 3) := dk_184 0 239 (dk_at dksX4_isElsewhere_5 3 rfl rfl)
theorem dX4_isElsewhere_120 : decode cX4_isElsewhere 120 = .ok (.ifCond .ne 22, 3) := dk_154 0 22 (dk_at dksX4_isElsewhere_5 6 rfl rfl)
theorem dX4_isElsewhere_123 : decode cX4_isElsewhere 123 = .ok (.iload 5, 2) := dk_21 5 (dk_at dksX4_isElsewhere_5 9 rfl rfl)
theorem dX4_isElsewhere_125 : decode cX4_isElsewhere 125 = .ok (.i2l, 1) := dk_133 (dk_at dksX4_isElsewhere_5 11 rfl rfl)
theorem dX4_isElsewhere_126 : decode cX4_isElsewhere 126 = .ok (.iload 6, 2) := dk_21 6 (dk_at dksX4_isElsewhere_5 12 rfl rfl)
theorem dX4_isElsewhere_128 : decode cX4_isElsewhere 128 = .ok (.iload_n 2, 1) := dk_28 (dk_at dksX4_isElsewhere_5 14 rfl rfl)
theorem dX4_isElsewhere_129 : decode cX4_isElsewhere 129 = .ok (.isub, 1) := dk_100 (dk_at dksX4_isElsewhere_5 15 rfl rfl)
theorem dX4_isElsewhere_130 : decode cX4_isElsewhere 130 = .ok (.i2l, 1) := dk_133 (dk_at dksX4_isElsewhere_5 16 rfl rfl)
theorem dX4_isElsewhere_131 : decode cX4_isElsewhere 131 = .ok (.iload 6, 2) := dk_21 6 (dk_at dksX4_isElsewhere_5 17 rfl rfl)
theorem dX4_isElsewhere_133 : decode cX4_isElsewhere 133 = .ok (.i2l, 1) := dk_133 (dk_at dksX4_isElsewhere_5 19 rfl rfl)
theorem dX4_isElsewhere_134 : decode cX4_isElsewhere 134 = .ok (.invokestatic 239, 3) := dk_184 0 239 (dk_at dksX4_isElsewhere_5 20 rfl rfl)
theorem dX4_isElsewhere_137 : decode cX4_isElsewhere 137 = .ok (.ifCond .ne 5, 3) := dk_154 0 5 (dk_at dksX4_isElsewhere_6 0 rfl rfl)
theorem dX4_isElsewhere_140 : decode cX4_isElsewhere 140 = .ok (.iconst 0, 1) := dk_3 (dk_at dksX4_isElsewhere_6 3 rfl rfl)
theorem dX4_isElsewhere_141 : decode cX4_isElsewhere 141 = .ok (.ireturn, 1) := dk_172 (dk_at dksX4_isElsewhere_6 4 rfl rfl)
theorem dX4_isElsewhere_142 : decode cX4_isElsewhere 142 = .ok (.iinc 6 1, 3) := dk_132 6 1 (dk_at dksX4_isElsewhere_6 5 rfl rfl)
theorem dX4_isElsewhere_145 : decode cX4_isElsewhere 145 = .ok (.goto (-61), 3) := dk_167 255 195 (dk_at dksX4_isElsewhere_6 8 rfl rfl)
theorem dX4_isElsewhere_148 : decode cX4_isElsewhere 148 = .ok (.iconst 1, 1) := dk_4 (dk_at dksX4_isElsewhere_6 11 rfl rfl)
theorem dX4_isElsewhere_149 : decode cX4_isElsewhere 149 = .ok (.ireturn, 1) := dk_172 (dk_at dksX4_isElsewhere_6 12 rfl rfl)
abbrev cX4_right : ByteArray := prog_9_method_78_code
def yX4_right : MethodName := ⟨RX4, "right", "(II)I"⟩
def dkwX4_right_2 : List UInt8 := [182, 0, 252, 172, 28, 154, 0, 12, 42, 180, 0, 206, 27, 46, 167, 0, 9, 42, 180, 0, 209, 27, 46, 172]
abbrev dktX4_right_2 : List UInt8 := dkwX4_right_2 ++ []
def dkwX4_right_1 : List UInt8 := [182, 0, 252, 172, 27, 133, 9, 42, 180, 2, 5, 4, 100, 133, 184, 0, 239, 154, 0, 10, 42, 16, 8]
abbrev dktX4_right_1 : List UInt8 := dkwX4_right_1 ++ dktX4_right_2
def dkwX4_right_0 : List UInt8 := [42, 3, 181, 0, 212, 42, 3, 181, 0, 215, 28, 133, 9, 10, 184, 0, 239, 154, 0, 9, 42, 8]
abbrev dktX4_right_0 : List UInt8 := dkwX4_right_0 ++ dktX4_right_1
theorem dksX4_right_0 : cX4_right.data.toList.drop 0 = dktX4_right_0 := by decide +kernel
theorem dksX4_right_1 : cX4_right.data.toList.drop 22 = dktX4_right_1 := dk_seg dksX4_right_0 22 rfl rfl
theorem dksX4_right_2 : cX4_right.data.toList.drop 45 = dktX4_right_2 := dk_seg dksX4_right_1 23 rfl rfl
theorem dX4_right_0 : decode cX4_right 0 = .ok (.aload_n 0, 1) := dk_42 (dk_at dksX4_right_0 0 rfl rfl)
theorem dX4_right_1 : decode cX4_right 1 = .ok (.iconst 0, 1) := dk_3 (dk_at dksX4_right_0 1 rfl rfl)
theorem dX4_right_2 : decode cX4_right 2 = .ok (.putfield 212, 3) := dk_181 0 212 (dk_at dksX4_right_0 2 rfl rfl)
theorem dX4_right_5 : decode cX4_right 5 = .ok (.aload_n 0, 1) := dk_42 (dk_at dksX4_right_0 5 rfl rfl)
theorem dX4_right_6 : decode cX4_right 6 = .ok (.iconst 0, 1) := dk_3 (dk_at dksX4_right_0 6 rfl rfl)
theorem dX4_right_7 : decode cX4_right 7 = .ok (.putfield 215, 3) := dk_181 0 215 (dk_at dksX4_right_0 7 rfl rfl)
theorem dX4_right_10 : decode cX4_right 10 = .ok (.iload_n 2, 1) := dk_28 (dk_at dksX4_right_0 10 rfl rfl)
theorem dX4_right_11 : decode cX4_right 11 = .ok (.i2l, 1) := dk_133 (dk_at dksX4_right_0 11 rfl rfl)
theorem dX4_right_12 : decode cX4_right 12 = .ok (.lconst 0, 1) := dk_9 (dk_at dksX4_right_0 12 rfl rfl)
theorem dX4_right_13 : decode cX4_right 13 = .ok (.lconst 1, 1) := dk_10 (dk_at dksX4_right_0 13 rfl rfl)
theorem dX4_right_14 : decode cX4_right 14 = .ok (.invokestatic 239, 3) := dk_184 0 239 (dk_at dksX4_right_0 14 rfl rfl)
theorem dX4_right_17 : decode cX4_right 17 = .ok (.ifCond .ne 9, 3) := dk_154 0 9 (dk_at dksX4_right_0 17 rfl rfl)
theorem dX4_right_20 : decode cX4_right 20 = .ok (.aload_n 0, 1) := dk_42 (dk_at dksX4_right_0 20 rfl rfl)
theorem dX4_right_21 : decode cX4_right 21 = .ok (.iconst 5, 1) := dk_8 (dk_at dksX4_right_0 21 rfl rfl)
theorem dX4_right_22 : decode cX4_right 22 = .ok (.invokevirtual 252, 3) := dk_182 0 252 (dk_at dksX4_right_1 0 rfl rfl)
theorem dX4_right_25 : decode cX4_right 25 = .ok (.ireturn, 1) := dk_172 (dk_at dksX4_right_1 3 rfl rfl)
theorem dX4_right_26 : decode cX4_right 26 = .ok (.iload_n 1, 1) := dk_27 (dk_at dksX4_right_1 4 rfl rfl)
theorem dX4_right_27 : decode cX4_right 27 = .ok (.i2l, 1) := dk_133 (dk_at dksX4_right_1 5 rfl rfl)
theorem dX4_right_28 : decode cX4_right 28 = .ok (.lconst 0, 1) := dk_9 (dk_at dksX4_right_1 6 rfl rfl)
theorem dX4_right_29 : decode cX4_right 29 = .ok (.aload_n 0, 1) := dk_42 (dk_at dksX4_right_1 7 rfl rfl)
theorem dX4_right_30 : decode cX4_right 30 = .ok (.getfield 517, 3) := dk_180 2 5 (dk_at dksX4_right_1 8 rfl rfl)
theorem dX4_right_33 : decode cX4_right 33 = .ok (.iconst 1, 1) := dk_4 (dk_at dksX4_right_1 11 rfl rfl)
theorem dX4_right_34 : decode cX4_right 34 = .ok (.isub, 1) := dk_100 (dk_at dksX4_right_1 12 rfl rfl)
theorem dX4_right_35 : decode cX4_right 35 = .ok (.i2l, 1) := dk_133 (dk_at dksX4_right_1 13 rfl rfl)
theorem dX4_right_36 : decode cX4_right 36 = .ok (.invokestatic 239, 3) := dk_184 0 239 (dk_at dksX4_right_1 14 rfl rfl)
theorem dX4_right_39 : decode cX4_right 39 = .ok (.ifCond .ne 10, 3) := dk_154 0 10 (dk_at dksX4_right_1 17 rfl rfl)
theorem dX4_right_42 : decode cX4_right 42 = .ok (.aload_n 0, 1) := dk_42 (dk_at dksX4_right_1 20 rfl rfl)
theorem dX4_right_43 : decode cX4_right 43 = .ok (.bipush 8, 2) := dk_16 8 (dk_at dksX4_right_1 21 rfl rfl)
theorem dX4_right_45 : decode cX4_right 45 = .ok (.invokevirtual 252, 3) := dk_182 0 252 (dk_at dksX4_right_2 0 rfl rfl)
theorem dX4_right_48 : decode cX4_right 48 = .ok (.ireturn, 1) := dk_172 (dk_at dksX4_right_2 3 rfl rfl)
theorem dX4_right_49 : decode cX4_right 49 = .ok (.iload_n 2, 1) := dk_28 (dk_at dksX4_right_2 4 rfl rfl)
theorem dX4_right_50 : decode cX4_right 50 = .ok (.ifCond .ne 12, 3) := dk_154 0 12 (dk_at dksX4_right_2 5 rfl rfl)
theorem dX4_right_53 : decode cX4_right 53 = .ok (.aload_n 0, 1) := dk_42 (dk_at dksX4_right_2 8 rfl rfl)
theorem dX4_right_54 : decode cX4_right 54 = .ok (.getfield 206, 3) := dk_180 0 206 (dk_at dksX4_right_2 9 rfl rfl)
theorem dX4_right_57 : decode cX4_right 57 = .ok (.iload_n 1, 1) := dk_27 (dk_at dksX4_right_2 12 rfl rfl)
theorem dX4_right_58 : decode cX4_right 58 = .ok (.iaload, 1) := dk_46 (dk_at dksX4_right_2 13 rfl rfl)
theorem dX4_right_59 : decode cX4_right 59 = .ok (.goto 9, 3) := dk_167 0 9 (dk_at dksX4_right_2 14 rfl rfl)
theorem dX4_right_62 : decode cX4_right 62 = .ok (.aload_n 0, 1) := dk_42 (dk_at dksX4_right_2 17 rfl rfl)
theorem dX4_right_63 : decode cX4_right 63 = .ok (.getfield 209, 3) := dk_180 0 209 (dk_at dksX4_right_2 18 rfl rfl)
theorem dX4_right_66 : decode cX4_right 66 = .ok (.iload_n 1, 1) := dk_27 (dk_at dksX4_right_2 21 rfl rfl)
theorem dX4_right_67 : decode cX4_right 67 = .ok (.iaload, 1) := dk_46 (dk_at dksX4_right_2 22 rfl rfl)
theorem dX4_right_68 : decode cX4_right 68 = .ok (.ireturn, 1) := dk_172 (dk_at dksX4_right_2 23 rfl rfl)
abbrev cX4_cast : ByteArray := prog_9_method_81_code
def yX4_cast : MethodName := ⟨RX4, "cast", "(III)Z"⟩
def dkwX4_cast_4 : List UInt8 := [180, 2, 18, 29, 79, 42, 89, 180, 2, 18, 4, 96, 181, 2, 18, 42, 27, 181, 2, 21, 4, 172]
abbrev dktX4_cast_4 : List UInt8 := dkwX4_cast_4 ++ []
def dkwX4_cast_3 : List UInt8 := [42, 16, 12, 182, 0, 218, 172, 42, 180, 0, 164, 42, 180, 2, 18, 28, 79, 42, 180, 0, 167, 42]
abbrev dktX4_cast_3 : List UInt8 := dkwX4_cast_3 ++ dktX4_cast_4
def dkwX4_cast_2 : List UInt8 := [42, 180, 2, 18, 16, 100, 160, 0, 10, 42, 16, 7, 182, 0, 218, 172, 27, 42, 180, 2, 21, 162, 0, 10]
abbrev dktX4_cast_2 : List UInt8 := dkwX4_cast_2 ++ dktX4_cast_3
def dkwX4_cast_1 : List UInt8 := [133, 9, 20, 2, 13, 184, 0, 239, 153, 0, 10, 29, 184, 2, 15, 154, 0, 9, 42, 8, 182, 0, 218, 172]
abbrev dktX4_cast_1 : List UInt8 := dkwX4_cast_1 ++ dktX4_cast_2
def dkwX4_cast_0 : List UInt8 := [42, 3, 181, 0, 212, 42, 3, 181, 0, 215, 28, 184, 2, 10, 154, 0, 9, 42, 5, 182, 0, 218, 172, 27]
abbrev dktX4_cast_0 : List UInt8 := dkwX4_cast_0 ++ dktX4_cast_1
theorem dksX4_cast_0 : cX4_cast.data.toList.drop 0 = dktX4_cast_0 := by decide +kernel
theorem dksX4_cast_1 : cX4_cast.data.toList.drop 24 = dktX4_cast_1 := dk_seg dksX4_cast_0 24 rfl rfl
theorem dksX4_cast_2 : cX4_cast.data.toList.drop 48 = dktX4_cast_2 := dk_seg dksX4_cast_1 24 rfl rfl
theorem dksX4_cast_3 : cX4_cast.data.toList.drop 72 = dktX4_cast_3 := dk_seg dksX4_cast_2 24 rfl rfl
theorem dksX4_cast_4 : cX4_cast.data.toList.drop 94 = dktX4_cast_4 := dk_seg dksX4_cast_3 22 rfl rfl
theorem dX4_cast_0 : decode cX4_cast 0 = .ok (.aload_n 0, 1) := dk_42 (dk_at dksX4_cast_0 0 rfl rfl)
theorem dX4_cast_1 : decode cX4_cast 1 = .ok (.iconst 0, 1) := dk_3 (dk_at dksX4_cast_0 1 rfl rfl)
theorem dX4_cast_2 : decode cX4_cast 2 = .ok (.putfield 212, 3) := dk_181 0 212 (dk_at dksX4_cast_0 2 rfl rfl)
theorem dX4_cast_5 : decode cX4_cast 5 = .ok (.aload_n 0, 1) := dk_42 (dk_at dksX4_cast_0 5 rfl rfl)
theorem dX4_cast_6 : decode cX4_cast 6 = .ok (.iconst 0, 1) := dk_3 (dk_at dksX4_cast_0 6 rfl rfl)
theorem dX4_cast_7 : decode cX4_cast 7 = .ok (.putfield 215, 3) := dk_181 0 215 (dk_at dksX4_cast_0 7 rfl rfl)
theorem dX4_cast_10 : decode cX4_cast 10 = .ok (.iload_n 2, 1) := dk_28 (dk_at dksX4_cast_0 10 rfl rfl)
theorem dX4_cast_11 : decode cX4_cast 11 = .ok (.invokestatic 522, 3) := dk_184 2 10 (dk_at dksX4_cast_0 11 rfl rfl)
theorem dX4_cast_14 : decode cX4_cast 14 = .ok (.ifCond .ne 9, 3) := dk_154 0 9 (dk_at dksX4_cast_0 14 rfl rfl)
theorem dX4_cast_17 : decode cX4_cast 17 = .ok (.aload_n 0, 1) := dk_42 (dk_at dksX4_cast_0 17 rfl rfl)
theorem dX4_cast_18 : decode cX4_cast 18 = .ok (.iconst 2, 1) := dk_5 (dk_at dksX4_cast_0 18 rfl rfl)
theorem dX4_cast_19 : decode cX4_cast 19 = .ok (.invokevirtual 218, 3) := dk_182 0 218 (dk_at dksX4_cast_0 19 rfl rfl)
theorem dX4_cast_22 : decode cX4_cast 22 = .ok (.ireturn, 1) := dk_172 (dk_at dksX4_cast_0 22 rfl rfl)
theorem dX4_cast_23 : decode cX4_cast 23 = .ok (.iload_n 1, 1) := dk_27 (dk_at dksX4_cast_0 23 rfl rfl)
theorem dX4_cast_24 : decode cX4_cast 24 = .ok (.i2l, 1) := dk_133 (dk_at dksX4_cast_1 0 rfl rfl)
theorem dX4_cast_25 : decode cX4_cast 25 = .ok (.lconst 0, 1) := dk_9 (dk_at dksX4_cast_1 1 rfl rfl)
theorem dX4_cast_26 : decode cX4_cast 26 = .ok (.ldc2_w 525, 3) := dk_20 2 13 (dk_at dksX4_cast_1 2 rfl rfl)
theorem dX4_cast_29 : decode cX4_cast 29 = .ok (.invokestatic 239, 3) := dk_184 0 239 (dk_at dksX4_cast_1 5 rfl rfl)
theorem dX4_cast_32 : decode cX4_cast 32 = .ok (.ifCond .eq 10, 3) := dk_153 0 10 (dk_at dksX4_cast_1 8 rfl rfl)
theorem dX4_cast_35 : decode cX4_cast 35 = .ok (.iload_n 3, 1) := dk_29 (dk_at dksX4_cast_1 11 rfl rfl)
theorem dX4_cast_36 : decode cX4_cast 36 = .ok (.invokestatic 527, 3) := dk_184 2 15 (dk_at dksX4_cast_1 12 rfl rfl)
theorem dX4_cast_39 : decode cX4_cast 39 = .ok (.ifCond .ne 9, 3) := dk_154 0 9 (dk_at dksX4_cast_1 15 rfl rfl)
theorem dX4_cast_42 : decode cX4_cast 42 = .ok (.aload_n 0, 1) := dk_42 (dk_at dksX4_cast_1 18 rfl rfl)
theorem dX4_cast_43 : decode cX4_cast 43 = .ok (.iconst 5, 1) := dk_8 (dk_at dksX4_cast_1 19 rfl rfl)
theorem dX4_cast_44 : decode cX4_cast 44 = .ok (.invokevirtual 218, 3) := dk_182 0 218 (dk_at dksX4_cast_1 20 rfl rfl)
theorem dX4_cast_47 : decode cX4_cast 47 = .ok (.ireturn, 1) := dk_172 (dk_at dksX4_cast_1 23 rfl rfl)
theorem dX4_cast_48 : decode cX4_cast 48 = .ok (.aload_n 0, 1) := dk_42 (dk_at dksX4_cast_2 0 rfl rfl)
theorem dX4_cast_49 : decode cX4_cast 49 = .ok (.getfield 530, 3) := dk_180 2 18 (dk_at dksX4_cast_2 1 rfl rfl)
theorem dX4_cast_52 : decode cX4_cast 52 = .ok (.bipush 100, 2) := dk_16 100 (dk_at dksX4_cast_2 4 rfl rfl)
theorem dX4_cast_54 : decode cX4_cast 54 = .ok (.if_icmp .ne 10, 3) := dk_160 0 10 (dk_at dksX4_cast_2 6 rfl rfl)
theorem dX4_cast_57 : decode cX4_cast 57 = .ok (.aload_n 0, 1) := dk_42 (dk_at dksX4_cast_2 9 rfl rfl)
theorem dX4_cast_58 : decode cX4_cast 58 = .ok (.bipush 7, 2) := dk_16 7 (dk_at dksX4_cast_2 10 rfl rfl)
theorem dX4_cast_60 : decode cX4_cast 60 = .ok (.invokevirtual 218, 3) := dk_182 0 218 (dk_at dksX4_cast_2 12 rfl rfl)
theorem dX4_cast_63 : decode cX4_cast 63 = .ok (.ireturn, 1) := dk_172 (dk_at dksX4_cast_2 15 rfl rfl)
theorem dX4_cast_64 : decode cX4_cast 64 = .ok (.iload_n 1, 1) := dk_27 (dk_at dksX4_cast_2 16 rfl rfl)
theorem dX4_cast_65 : decode cX4_cast 65 = .ok (.aload_n 0, 1) := dk_42 (dk_at dksX4_cast_2 17 rfl rfl)
theorem dX4_cast_66 : decode cX4_cast 66 = .ok (.getfield 533, 3) := dk_180 2 21 (dk_at dksX4_cast_2 18 rfl rfl)
theorem dX4_cast_69 : decode cX4_cast 69 = .ok (.if_icmp .ge 10, 3) := dk_162 0 10 (dk_at dksX4_cast_2 21 rfl rfl)
theorem dX4_cast_72 : decode cX4_cast 72 = .ok (.aload_n 0, 1) := dk_42 (dk_at dksX4_cast_3 0 rfl rfl)
theorem dX4_cast_73 : decode cX4_cast 73 = .ok (.bipush 12, 2) := dk_16 12 (dk_at dksX4_cast_3 1 rfl rfl)
theorem dX4_cast_75 : decode cX4_cast 75 = .ok (.invokevirtual 218, 3) := dk_182 0 218 (dk_at dksX4_cast_3 3 rfl rfl)
theorem dX4_cast_78 : decode cX4_cast 78 = .ok (.ireturn, 1) := dk_172 (dk_at dksX4_cast_3 6 rfl rfl)
theorem dX4_cast_79 : decode cX4_cast 79 = .ok (.aload_n 0, 1) := dk_42 (dk_at dksX4_cast_3 7 rfl rfl)
theorem dX4_cast_80 : decode cX4_cast 80 = .ok (.getfield 164, 3) := dk_180 0 164 (dk_at dksX4_cast_3 8 rfl rfl)
theorem dX4_cast_83 : decode cX4_cast 83 = .ok (.aload_n 0, 1) := dk_42 (dk_at dksX4_cast_3 11 rfl rfl)
theorem dX4_cast_84 : decode cX4_cast 84 = .ok (.getfield 530, 3) := dk_180 2 18 (dk_at dksX4_cast_3 12 rfl rfl)
theorem dX4_cast_87 : decode cX4_cast 87 = .ok (.iload_n 2, 1) := dk_28 (dk_at dksX4_cast_3 15 rfl rfl)
theorem dX4_cast_88 : decode cX4_cast 88 = .ok (.iastore, 1) := dk_79 (dk_at dksX4_cast_3 16 rfl rfl)
theorem dX4_cast_89 : decode cX4_cast 89 = .ok (.aload_n 0, 1) := dk_42 (dk_at dksX4_cast_3 17 rfl rfl)
theorem dX4_cast_90 : decode cX4_cast 90 = .ok (.getfield 167, 3) := dk_180 0 167 (dk_at dksX4_cast_3 18 rfl rfl)
theorem dX4_cast_93 : decode cX4_cast 93 = .ok (.aload_n 0, 1) := dk_42 (dk_at dksX4_cast_3 21 rfl rfl)
theorem dX4_cast_94 : decode cX4_cast 94 = .ok (.getfield 530, 3) := dk_180 2 18 (dk_at dksX4_cast_4 0 rfl rfl)
theorem dX4_cast_97 : decode cX4_cast 97 = .ok (.iload_n 3, 1) := dk_29 (dk_at dksX4_cast_4 3 rfl rfl)
theorem dX4_cast_98 : decode cX4_cast 98 = .ok (.iastore, 1) := dk_79 (dk_at dksX4_cast_4 4 rfl rfl)
theorem dX4_cast_99 : decode cX4_cast 99 = .ok (.aload_n 0, 1) := dk_42 (dk_at dksX4_cast_4 5 rfl rfl)
theorem dX4_cast_100 : decode cX4_cast 100 = .ok (.dup, 1) := dk_89 (dk_at dksX4_cast_4 6 rfl rfl)
theorem dX4_cast_101 : decode cX4_cast 101 = .ok (.getfield 530, 3) := dk_180 2 18 (dk_at dksX4_cast_4 7 rfl rfl)
theorem dX4_cast_104 : decode cX4_cast 104 = .ok (.iconst 1, 1) := dk_4 (dk_at dksX4_cast_4 10 rfl rfl)
theorem dX4_cast_105 : decode cX4_cast 105 = .ok (.iadd, 1) := dk_96 (dk_at dksX4_cast_4 11 rfl rfl)
theorem dX4_cast_106 : decode cX4_cast 106 = .ok (.putfield 530, 3) := dk_181 2 18 (dk_at dksX4_cast_4 12 rfl rfl)
theorem dX4_cast_109 : decode cX4_cast 109 = .ok (.aload_n 0, 1) := dk_42 (dk_at dksX4_cast_4 15 rfl rfl)
theorem dX4_cast_110 : decode cX4_cast 110 = .ok (.iload_n 1, 1) := dk_27 (dk_at dksX4_cast_4 16 rfl rfl)
theorem dX4_cast_111 : decode cX4_cast 111 = .ok (.putfield 533, 3) := dk_181 2 21 (dk_at dksX4_cast_4 17 rfl rfl)
theorem dX4_cast_114 : decode cX4_cast 114 = .ok (.iconst 1, 1) := dk_4 (dk_at dksX4_cast_4 20 rfl rfl)
theorem dX4_cast_115 : decode cX4_cast 115 = .ok (.ireturn, 1) := dk_172 (dk_at dksX4_cast_4 21 rfl rfl)
abbrev cX4_isRow : ByteArray := prog_9_method_79_code
def yX4_isRow : MethodName := ⟨RX4, "isRow", "(I)Z"⟩
def dkwX4_isRow_0 : List UInt8 := [26, 133, 9, 20, 2, 8, 184, 0, 239, 172]
abbrev dktX4_isRow_0 : List UInt8 := dkwX4_isRow_0 ++ []
theorem dksX4_isRow_0 : cX4_isRow.data.toList.drop 0 = dktX4_isRow_0 := by decide +kernel
theorem dX4_isRow_0 : decode cX4_isRow 0 = .ok (.iload_n 0, 1) := dk_26 (dk_at dksX4_isRow_0 0 rfl rfl)
theorem dX4_isRow_1 : decode cX4_isRow 1 = .ok (.i2l, 1) := dk_133 (dk_at dksX4_isRow_0 1 rfl rfl)
theorem dX4_isRow_2 : decode cX4_isRow 2 = .ok (.lconst 0, 1) := dk_9 (dk_at dksX4_isRow_0 2 rfl rfl)
theorem dX4_isRow_3 : decode cX4_isRow 3 = .ok (.ldc2_w 520, 3) := dk_20 2 8 (dk_at dksX4_isRow_0 3 rfl rfl)
theorem dX4_isRow_6 : decode cX4_isRow 6 = .ok (.invokestatic 239, 3) := dk_184 0 239 (dk_at dksX4_isRow_0 6 rfl rfl)
theorem dX4_isRow_9 : decode cX4_isRow 9 = .ok (.ireturn, 1) := dk_172 (dk_at dksX4_isRow_0 9 rfl rfl)
abbrev cX4_isNumber : ByteArray := prog_9_method_80_code
def yX4_isNumber : MethodName := ⟨RX4, "isNumber", "(I)Z"⟩
def dkwX4_isNumber_0 : List UInt8 := [26, 133, 20, 1, 18, 20, 1, 20, 184, 0, 239, 172]
abbrev dktX4_isNumber_0 : List UInt8 := dkwX4_isNumber_0 ++ []
theorem dksX4_isNumber_0 : cX4_isNumber.data.toList.drop 0 = dktX4_isNumber_0 := by decide +kernel
theorem dX4_isNumber_0 : decode cX4_isNumber 0 = .ok (.iload_n 0, 1) := dk_26 (dk_at dksX4_isNumber_0 0 rfl rfl)
theorem dX4_isNumber_1 : decode cX4_isNumber 1 = .ok (.i2l, 1) := dk_133 (dk_at dksX4_isNumber_0 1 rfl rfl)
theorem dX4_isNumber_2 : decode cX4_isNumber 2 = .ok (.ldc2_w 274, 3) := dk_20 1 18 (dk_at dksX4_isNumber_0 2 rfl rfl)
theorem dX4_isNumber_5 : decode cX4_isNumber 5 = .ok (.ldc2_w 276, 3) := dk_20 1 20 (dk_at dksX4_isNumber_0 5 rfl rfl)
theorem dX4_isNumber_8 : decode cX4_isNumber 8 = .ok (.invokestatic 239, 3) := dk_184 0 239 (dk_at dksX4_isNumber_0 8 rfl rfl)
theorem dX4_isNumber_11 : decode cX4_isNumber 11 = .ok (.ireturn, 1) := dk_172 (dk_at dksX4_isNumber_0 11 rfl rfl)
abbrev cX4_print : ByteArray := prog_9_method_82_code
def yX4_print : MethodName := ⟨RX4, "print", "(II)I"⟩
def dkwX4_print_5 : List UInt8 := [181, 2, 27, 42, 27, 181, 2, 21, 42, 180, 2, 27, 172]
abbrev dktX4_print_5 : List UInt8 := dkwX4_print_5 ++ []
def dkwX4_print_4 : List UInt8 := [42, 180, 2, 18, 79, 42, 89, 180, 2, 24, 4, 96, 181, 2, 24, 42, 89, 180, 2, 27, 28, 96]
abbrev dktX4_print_4 : List UInt8 := dkwX4_print_4 ++ dktX4_print_5
def dkwX4_print_3 : List UInt8 := [172, 42, 180, 0, 170, 42, 180, 2, 24, 42, 180, 2, 27, 4, 96, 79, 42, 180, 0, 173, 42, 180, 2, 24]
abbrev dktX4_print_3 : List UInt8 := dkwX4_print_3 ++ dktX4_print_4
def dkwX4_print_2 : List UInt8 := [160, 0, 10, 42, 16, 7, 182, 0, 252, 172, 27, 42, 180, 2, 21, 162, 0, 10, 42, 16, 12, 182, 0, 252]
abbrev dktX4_print_2 : List UInt8 := dkwX4_print_2 ++ dktX4_print_3
def dkwX4_print_1 : List UInt8 := [10, 20, 1, 32, 184, 0, 239, 154, 0, 9, 42, 8, 182, 0, 252, 172, 42, 180, 2, 24, 16, 20]
abbrev dktX4_print_1 : List UInt8 := dkwX4_print_1 ++ dktX4_print_2
def dkwX4_print_0 : List UInt8 := [42, 3, 181, 0, 212, 42, 3, 181, 0, 215, 27, 133, 9, 20, 2, 13, 184, 0, 239, 153, 0, 15, 28, 133]
abbrev dktX4_print_0 : List UInt8 := dkwX4_print_0 ++ dktX4_print_1
theorem dksX4_print_0 : cX4_print.data.toList.drop 0 = dktX4_print_0 := by decide +kernel
theorem dksX4_print_1 : cX4_print.data.toList.drop 24 = dktX4_print_1 := dk_seg dksX4_print_0 24 rfl rfl
theorem dksX4_print_2 : cX4_print.data.toList.drop 46 = dktX4_print_2 := dk_seg dksX4_print_1 22 rfl rfl
theorem dksX4_print_3 : cX4_print.data.toList.drop 70 = dktX4_print_3 := dk_seg dksX4_print_2 24 rfl rfl
theorem dksX4_print_4 : cX4_print.data.toList.drop 94 = dktX4_print_4 := dk_seg dksX4_print_3 24 rfl rfl
theorem dksX4_print_5 : cX4_print.data.toList.drop 116 = dktX4_print_5 := dk_seg dksX4_print_4 22 rfl rfl
theorem dX4_print_0 : decode cX4_print 0 = .ok (.aload_n 0, 1) := dk_42 (dk_at dksX4_print_0 0 rfl rfl)
theorem dX4_print_1 : decode cX4_print 1 = .ok (.iconst 0, 1) := dk_3 (dk_at dksX4_print_0 1 rfl rfl)
theorem dX4_print_2 : decode cX4_print 2 = .ok (.putfield 212, 3) := dk_181 0 212 (dk_at dksX4_print_0 2 rfl rfl)
theorem dX4_print_5 : decode cX4_print 5 = .ok (.aload_n 0, 1) := dk_42 (dk_at dksX4_print_0 5 rfl rfl)
theorem dX4_print_6 : decode cX4_print 6 = .ok (.iconst 0, 1) := dk_3 (dk_at dksX4_print_0 6 rfl rfl)
theorem dX4_print_7 : decode cX4_print 7 = .ok (.putfield 215, 3) := dk_181 0 215 (dk_at dksX4_print_0 7 rfl rfl)
theorem dX4_print_10 : decode cX4_print 10 = .ok (.iload_n 1, 1) := dk_27 (dk_at dksX4_print_0 10 rfl rfl)
theorem dX4_print_11 : decode cX4_print 11 = .ok (.i2l, 1) := dk_133 (dk_at dksX4_print_0 11 rfl rfl)
theorem dX4_print_12 : decode cX4_print 12 = .ok (.lconst 0, 1) := dk_9 (dk_at dksX4_print_0 12 rfl rfl)
theorem dX4_print_13 : decode cX4_print 13 = .ok (.ldc2_w 525, 3) := dk_20 2 13 (dk_at dksX4_print_0 13 rfl rfl)
theorem dX4_print_16 : decode cX4_print 16 = .ok (.invokestatic 239, 3) := dk_184 0 239 (dk_at dksX4_print_0 16 rfl rfl)
theorem dX4_print_19 : decode cX4_print 19 = .ok (.ifCond .eq 15, 3) := dk_153 0 15 (dk_at dksX4_print_0 19 rfl rfl)
theorem dX4_print_22 : decode cX4_print 22 = .ok (.iload_n 2, 1) := dk_28 (dk_at dksX4_print_0 22 rfl rfl)
theorem dX4_print_23 : decode cX4_print 23 = .ok (.i2l, 1) := dk_133 (dk_at dksX4_print_0 23 rfl rfl)
theorem dX4_print_24 : decode cX4_print 24 = .ok (.lconst 1, 1) := dk_10 (dk_at dksX4_print_1 0 rfl rfl)
theorem dX4_print_25 : decode cX4_print 25 = .ok (.ldc2_w 288, 3) := dk_20 1 32 (dk_at dksX4_print_1 1 rfl rfl)
theorem dX4_print_28 : decode cX4_print 28 = .ok (.invokestatic 239, 3) := dk_184 0 239 (dk_at dksX4_print_1 4 rfl rfl)
theorem dX4_print_31 : decode cX4_print 31 = .ok (.ifCond .ne 9, 3) := dk_154 0 9 (dk_at dksX4_print_1 7 rfl rfl)
theorem dX4_print_34 : decode cX4_print 34 = .ok (.aload_n 0, 1) := dk_42 (dk_at dksX4_print_1 10 rfl rfl)
theorem dX4_print_35 : decode cX4_print 35 = .ok (.iconst 5, 1) := dk_8 (dk_at dksX4_print_1 11 rfl rfl)
theorem dX4_print_36 : decode cX4_print 36 = .ok (.invokevirtual 252, 3) := dk_182 0 252 (dk_at dksX4_print_1 12 rfl rfl)
theorem dX4_print_39 : decode cX4_print 39 = .ok (.ireturn, 1) := dk_172 (dk_at dksX4_print_1 15 rfl rfl)
theorem dX4_print_40 : decode cX4_print 40 = .ok (.aload_n 0, 1) := dk_42 (dk_at dksX4_print_1 16 rfl rfl)
theorem dX4_print_41 : decode cX4_print 41 = .ok (.getfield 536, 3) := dk_180 2 24 (dk_at dksX4_print_1 17 rfl rfl)
theorem dX4_print_44 : decode cX4_print 44 = .ok (.bipush 20, 2) := dk_16 20 (dk_at dksX4_print_1 20 rfl rfl)
theorem dX4_print_46 : decode cX4_print 46 = .ok (.if_icmp .ne 10, 3) := dk_160 0 10 (dk_at dksX4_print_2 0 rfl rfl)
theorem dX4_print_49 : decode cX4_print 49 = .ok (.aload_n 0, 1) := dk_42 (dk_at dksX4_print_2 3 rfl rfl)
theorem dX4_print_50 : decode cX4_print 50 = .ok (.bipush 7, 2) := dk_16 7 (dk_at dksX4_print_2 4 rfl rfl)
theorem dX4_print_52 : decode cX4_print 52 = .ok (.invokevirtual 252, 3) := dk_182 0 252 (dk_at dksX4_print_2 6 rfl rfl)
theorem dX4_print_55 : decode cX4_print 55 = .ok (.ireturn, 1) := dk_172 (dk_at dksX4_print_2 9 rfl rfl)
theorem dX4_print_56 : decode cX4_print 56 = .ok (.iload_n 1, 1) := dk_27 (dk_at dksX4_print_2 10 rfl rfl)
theorem dX4_print_57 : decode cX4_print 57 = .ok (.aload_n 0, 1) := dk_42 (dk_at dksX4_print_2 11 rfl rfl)
theorem dX4_print_58 : decode cX4_print 58 = .ok (.getfield 533, 3) := dk_180 2 21 (dk_at dksX4_print_2 12 rfl rfl)
theorem dX4_print_61 : decode cX4_print 61 = .ok (.if_icmp .ge 10, 3) := dk_162 0 10 (dk_at dksX4_print_2 15 rfl rfl)
theorem dX4_print_64 : decode cX4_print 64 = .ok (.aload_n 0, 1) := dk_42 (dk_at dksX4_print_2 18 rfl rfl)
theorem dX4_print_65 : decode cX4_print 65 = .ok (.bipush 12, 2) := dk_16 12 (dk_at dksX4_print_2 19 rfl rfl)
theorem dX4_print_67 : decode cX4_print 67 = .ok (.invokevirtual 252, 3) := dk_182 0 252 (dk_at dksX4_print_2 21 rfl rfl)
theorem dX4_print_70 : decode cX4_print 70 = .ok (.ireturn, 1) := dk_172 (dk_at dksX4_print_3 0 rfl rfl)
theorem dX4_print_71 : decode cX4_print 71 = .ok (.aload_n 0, 1) := dk_42 (dk_at dksX4_print_3 1 rfl rfl)
theorem dX4_print_72 : decode cX4_print 72 = .ok (.getfield 170, 3) := dk_180 0 170 (dk_at dksX4_print_3 2 rfl rfl)
theorem dX4_print_75 : decode cX4_print 75 = .ok (.aload_n 0, 1) := dk_42 (dk_at dksX4_print_3 5 rfl rfl)
theorem dX4_print_76 : decode cX4_print 76 = .ok (.getfield 536, 3) := dk_180 2 24 (dk_at dksX4_print_3 6 rfl rfl)
theorem dX4_print_79 : decode cX4_print 79 = .ok (.aload_n 0, 1) := dk_42 (dk_at dksX4_print_3 9 rfl rfl)
theorem dX4_print_80 : decode cX4_print 80 = .ok (.getfield 539, 3) := dk_180 2 27 (dk_at dksX4_print_3 10 rfl rfl)
theorem dX4_print_83 : decode cX4_print 83 = .ok (.iconst 1, 1) := dk_4 (dk_at dksX4_print_3 13 rfl rfl)
theorem dX4_print_84 : decode cX4_print 84 = .ok (.iadd, 1) := dk_96 (dk_at dksX4_print_3 14 rfl rfl)
theorem dX4_print_85 : decode cX4_print 85 = .ok (.iastore, 1) := dk_79 (dk_at dksX4_print_3 15 rfl rfl)
theorem dX4_print_86 : decode cX4_print 86 = .ok (.aload_n 0, 1) := dk_42 (dk_at dksX4_print_3 16 rfl rfl)
theorem dX4_print_87 : decode cX4_print 87 = .ok (.getfield 173, 3) := dk_180 0 173 (dk_at dksX4_print_3 17 rfl rfl)
theorem dX4_print_90 : decode cX4_print 90 = .ok (.aload_n 0, 1) := dk_42 (dk_at dksX4_print_3 20 rfl rfl)
theorem dX4_print_91 : decode cX4_print 91 = .ok (.getfield 536, 3) := dk_180 2 24 (dk_at dksX4_print_3 21 rfl rfl)
theorem dX4_print_94 : decode cX4_print 94 = .ok (.aload_n 0, 1) := dk_42 (dk_at dksX4_print_4 0 rfl rfl)
theorem dX4_print_95 : decode cX4_print 95 = .ok (.getfield 530, 3) := dk_180 2 18 (dk_at dksX4_print_4 1 rfl rfl)
theorem dX4_print_98 : decode cX4_print 98 = .ok (.iastore, 1) := dk_79 (dk_at dksX4_print_4 4 rfl rfl)
theorem dX4_print_99 : decode cX4_print 99 = .ok (.aload_n 0, 1) := dk_42 (dk_at dksX4_print_4 5 rfl rfl)
theorem dX4_print_100 : decode cX4_print 100 = .ok (.dup, 1) := dk_89 (dk_at dksX4_print_4 6 rfl rfl)
theorem dX4_print_101 : decode cX4_print 101 = .ok (.getfield 536, 3) := dk_180 2 24 (dk_at dksX4_print_4 7 rfl rfl)
theorem dX4_print_104 : decode cX4_print 104 = .ok (.iconst 1, 1) := dk_4 (dk_at dksX4_print_4 10 rfl rfl)
theorem dX4_print_105 : decode cX4_print 105 = .ok (.iadd, 1) := dk_96 (dk_at dksX4_print_4 11 rfl rfl)
theorem dX4_print_106 : decode cX4_print 106 = .ok (.putfield 536, 3) := dk_181 2 24 (dk_at dksX4_print_4 12 rfl rfl)
theorem dX4_print_109 : decode cX4_print 109 = .ok (.aload_n 0, 1) := dk_42 (dk_at dksX4_print_4 15 rfl rfl)
theorem dX4_print_110 : decode cX4_print 110 = .ok (.dup, 1) := dk_89 (dk_at dksX4_print_4 16 rfl rfl)
theorem dX4_print_111 : decode cX4_print 111 = .ok (.getfield 539, 3) := dk_180 2 27 (dk_at dksX4_print_4 17 rfl rfl)
theorem dX4_print_114 : decode cX4_print 114 = .ok (.iload_n 2, 1) := dk_28 (dk_at dksX4_print_4 20 rfl rfl)
theorem dX4_print_115 : decode cX4_print 115 = .ok (.iadd, 1) := dk_96 (dk_at dksX4_print_4 21 rfl rfl)
theorem dX4_print_116 : decode cX4_print 116 = .ok (.putfield 539, 3) := dk_181 2 27 (dk_at dksX4_print_5 0 rfl rfl)
theorem dX4_print_119 : decode cX4_print 119 = .ok (.aload_n 0, 1) := dk_42 (dk_at dksX4_print_5 3 rfl rfl)
theorem dX4_print_120 : decode cX4_print 120 = .ok (.iload_n 1, 1) := dk_27 (dk_at dksX4_print_5 4 rfl rfl)
theorem dX4_print_121 : decode cX4_print 121 = .ok (.putfield 533, 3) := dk_181 2 21 (dk_at dksX4_print_5 5 rfl rfl)
theorem dX4_print_124 : decode cX4_print 124 = .ok (.aload_n 0, 1) := dk_42 (dk_at dksX4_print_5 8 rfl rfl)
theorem dX4_print_125 : decode cX4_print 125 = .ok (.getfield 539, 3) := dk_180 2 27 (dk_at dksX4_print_5 9 rfl rfl)
theorem dX4_print_128 : decode cX4_print 128 = .ok (.ireturn, 1) := dk_172 (dk_at dksX4_print_5 12 rfl rfl)
abbrev cX4_tell : ByteArray := prog_9_method_83_code
def yX4_tell : MethodName := ⟨RX4, "tell", "(III)Z"⟩
def dkwX4_tell_5 : List UInt8 := [181, 2, 30, 42, 27, 181, 2, 21, 4, 172]
abbrev dktX4_tell_5 : List UInt8 := dkwX4_tell_5 ++ []
def dkwX4_tell_4 : List UInt8 := [180, 2, 30, 28, 79, 42, 180, 0, 182, 42, 180, 2, 30, 29, 79, 42, 89, 180, 2, 30, 4, 96]
abbrev dktX4_tell_4 : List UInt8 := dkwX4_tell_4 ++ dktX4_tell_5
def dkwX4_tell_3 : List UInt8 := [42, 16, 12, 182, 0, 218, 172, 42, 180, 0, 176, 42, 180, 2, 30, 27, 79, 42, 180, 0, 179, 42]
abbrev dktX4_tell_3 : List UInt8 := dkwX4_tell_3 ++ dktX4_tell_4
def dkwX4_tell_2 : List UInt8 := [42, 180, 2, 30, 16, 60, 160, 0, 10, 42, 16, 7, 182, 0, 218, 172, 27, 42, 180, 2, 21, 162, 0, 10]
abbrev dktX4_tell_2 : List UInt8 := dkwX4_tell_2 ++ dktX4_tell_3
def dkwX4_tell_1 : List UInt8 := [133, 9, 20, 2, 13, 184, 0, 239, 153, 0, 10, 29, 184, 2, 15, 154, 0, 9, 42, 8, 182, 0, 218, 172]
abbrev dktX4_tell_1 : List UInt8 := dkwX4_tell_1 ++ dktX4_tell_2
def dkwX4_tell_0 : List UInt8 := [42, 3, 181, 0, 212, 42, 3, 181, 0, 215, 28, 184, 2, 10, 154, 0, 9, 42, 5, 182, 0, 218, 172, 27]
abbrev dktX4_tell_0 : List UInt8 := dkwX4_tell_0 ++ dktX4_tell_1
theorem dksX4_tell_0 : cX4_tell.data.toList.drop 0 = dktX4_tell_0 := by decide +kernel
theorem dksX4_tell_1 : cX4_tell.data.toList.drop 24 = dktX4_tell_1 := dk_seg dksX4_tell_0 24 rfl rfl
theorem dksX4_tell_2 : cX4_tell.data.toList.drop 48 = dktX4_tell_2 := dk_seg dksX4_tell_1 24 rfl rfl
theorem dksX4_tell_3 : cX4_tell.data.toList.drop 72 = dktX4_tell_3 := dk_seg dksX4_tell_2 24 rfl rfl
theorem dksX4_tell_4 : cX4_tell.data.toList.drop 94 = dktX4_tell_4 := dk_seg dksX4_tell_3 22 rfl rfl
theorem dksX4_tell_5 : cX4_tell.data.toList.drop 116 = dktX4_tell_5 := dk_seg dksX4_tell_4 22 rfl rfl
theorem dX4_tell_0 : decode cX4_tell 0 = .ok (.aload_n 0, 1) := dk_42 (dk_at dksX4_tell_0 0 rfl rfl)
theorem dX4_tell_1 : decode cX4_tell 1 = .ok (.iconst 0, 1) := dk_3 (dk_at dksX4_tell_0 1 rfl rfl)
theorem dX4_tell_2 : decode cX4_tell 2 = .ok (.putfield 212, 3) := dk_181 0 212 (dk_at dksX4_tell_0 2 rfl rfl)
theorem dX4_tell_5 : decode cX4_tell 5 = .ok (.aload_n 0, 1) := dk_42 (dk_at dksX4_tell_0 5 rfl rfl)
theorem dX4_tell_6 : decode cX4_tell 6 = .ok (.iconst 0, 1) := dk_3 (dk_at dksX4_tell_0 6 rfl rfl)
theorem dX4_tell_7 : decode cX4_tell 7 = .ok (.putfield 215, 3) := dk_181 0 215 (dk_at dksX4_tell_0 7 rfl rfl)
theorem dX4_tell_10 : decode cX4_tell 10 = .ok (.iload_n 2, 1) := dk_28 (dk_at dksX4_tell_0 10 rfl rfl)
theorem dX4_tell_11 : decode cX4_tell 11 = .ok (.invokestatic 522, 3) := dk_184 2 10 (dk_at dksX4_tell_0 11 rfl rfl)
theorem dX4_tell_14 : decode cX4_tell 14 = .ok (.ifCond .ne 9, 3) := dk_154 0 9 (dk_at dksX4_tell_0 14 rfl rfl)
theorem dX4_tell_17 : decode cX4_tell 17 = .ok (.aload_n 0, 1) := dk_42 (dk_at dksX4_tell_0 17 rfl rfl)
theorem dX4_tell_18 : decode cX4_tell 18 = .ok (.iconst 2, 1) := dk_5 (dk_at dksX4_tell_0 18 rfl rfl)
theorem dX4_tell_19 : decode cX4_tell 19 = .ok (.invokevirtual 218, 3) := dk_182 0 218 (dk_at dksX4_tell_0 19 rfl rfl)
theorem dX4_tell_22 : decode cX4_tell 22 = .ok (.ireturn, 1) := dk_172 (dk_at dksX4_tell_0 22 rfl rfl)
theorem dX4_tell_23 : decode cX4_tell 23 = .ok (.iload_n 1, 1) := dk_27 (dk_at dksX4_tell_0 23 rfl rfl)
theorem dX4_tell_24 : decode cX4_tell 24 = .ok (.i2l, 1) := dk_133 (dk_at dksX4_tell_1 0 rfl rfl)
theorem dX4_tell_25 : decode cX4_tell 25 = .ok (.lconst 0, 1) := dk_9 (dk_at dksX4_tell_1 1 rfl rfl)
theorem dX4_tell_26 : decode cX4_tell 26 = .ok (.ldc2_w 525, 3) := dk_20 2 13 (dk_at dksX4_tell_1 2 rfl rfl)
theorem dX4_tell_29 : decode cX4_tell 29 = .ok (.invokestatic 239, 3) := dk_184 0 239 (dk_at dksX4_tell_1 5 rfl rfl)
theorem dX4_tell_32 : decode cX4_tell 32 = .ok (.ifCond .eq 10, 3) := dk_153 0 10 (dk_at dksX4_tell_1 8 rfl rfl)
theorem dX4_tell_35 : decode cX4_tell 35 = .ok (.iload_n 3, 1) := dk_29 (dk_at dksX4_tell_1 11 rfl rfl)
theorem dX4_tell_36 : decode cX4_tell 36 = .ok (.invokestatic 527, 3) := dk_184 2 15 (dk_at dksX4_tell_1 12 rfl rfl)
theorem dX4_tell_39 : decode cX4_tell 39 = .ok (.ifCond .ne 9, 3) := dk_154 0 9 (dk_at dksX4_tell_1 15 rfl rfl)
theorem dX4_tell_42 : decode cX4_tell 42 = .ok (.aload_n 0, 1) := dk_42 (dk_at dksX4_tell_1 18 rfl rfl)
theorem dX4_tell_43 : decode cX4_tell 43 = .ok (.iconst 5, 1) := dk_8 (dk_at dksX4_tell_1 19 rfl rfl)
theorem dX4_tell_44 : decode cX4_tell 44 = .ok (.invokevirtual 218, 3) := dk_182 0 218 (dk_at dksX4_tell_1 20 rfl rfl)
theorem dX4_tell_47 : decode cX4_tell 47 = .ok (.ireturn, 1) := dk_172 (dk_at dksX4_tell_1 23 rfl rfl)
theorem dX4_tell_48 : decode cX4_tell 48 = .ok (.aload_n 0, 1) := dk_42 (dk_at dksX4_tell_2 0 rfl rfl)
theorem dX4_tell_49 : decode cX4_tell 49 = .ok (.getfield 542, 3) := dk_180 2 30 (dk_at dksX4_tell_2 1 rfl rfl)
theorem dX4_tell_52 : decode cX4_tell 52 = .ok (.bipush 60, 2) := dk_16 60 (dk_at dksX4_tell_2 4 rfl rfl)
theorem dX4_tell_54 : decode cX4_tell 54 = .ok (.if_icmp .ne 10, 3) := dk_160 0 10 (dk_at dksX4_tell_2 6 rfl rfl)
theorem dX4_tell_57 : decode cX4_tell 57 = .ok (.aload_n 0, 1) := dk_42 (dk_at dksX4_tell_2 9 rfl rfl)
theorem dX4_tell_58 : decode cX4_tell 58 = .ok (.bipush 7, 2) := dk_16 7 (dk_at dksX4_tell_2 10 rfl rfl)
theorem dX4_tell_60 : decode cX4_tell 60 = .ok (.invokevirtual 218, 3) := dk_182 0 218 (dk_at dksX4_tell_2 12 rfl rfl)
theorem dX4_tell_63 : decode cX4_tell 63 = .ok (.ireturn, 1) := dk_172 (dk_at dksX4_tell_2 15 rfl rfl)
theorem dX4_tell_64 : decode cX4_tell 64 = .ok (.iload_n 1, 1) := dk_27 (dk_at dksX4_tell_2 16 rfl rfl)
theorem dX4_tell_65 : decode cX4_tell 65 = .ok (.aload_n 0, 1) := dk_42 (dk_at dksX4_tell_2 17 rfl rfl)
theorem dX4_tell_66 : decode cX4_tell 66 = .ok (.getfield 533, 3) := dk_180 2 21 (dk_at dksX4_tell_2 18 rfl rfl)
theorem dX4_tell_69 : decode cX4_tell 69 = .ok (.if_icmp .ge 10, 3) := dk_162 0 10 (dk_at dksX4_tell_2 21 rfl rfl)
theorem dX4_tell_72 : decode cX4_tell 72 = .ok (.aload_n 0, 1) := dk_42 (dk_at dksX4_tell_3 0 rfl rfl)
theorem dX4_tell_73 : decode cX4_tell 73 = .ok (.bipush 12, 2) := dk_16 12 (dk_at dksX4_tell_3 1 rfl rfl)
theorem dX4_tell_75 : decode cX4_tell 75 = .ok (.invokevirtual 218, 3) := dk_182 0 218 (dk_at dksX4_tell_3 3 rfl rfl)
theorem dX4_tell_78 : decode cX4_tell 78 = .ok (.ireturn, 1) := dk_172 (dk_at dksX4_tell_3 6 rfl rfl)
theorem dX4_tell_79 : decode cX4_tell 79 = .ok (.aload_n 0, 1) := dk_42 (dk_at dksX4_tell_3 7 rfl rfl)
theorem dX4_tell_80 : decode cX4_tell 80 = .ok (.getfield 176, 3) := dk_180 0 176 (dk_at dksX4_tell_3 8 rfl rfl)
theorem dX4_tell_83 : decode cX4_tell 83 = .ok (.aload_n 0, 1) := dk_42 (dk_at dksX4_tell_3 11 rfl rfl)
theorem dX4_tell_84 : decode cX4_tell 84 = .ok (.getfield 542, 3) := dk_180 2 30 (dk_at dksX4_tell_3 12 rfl rfl)
theorem dX4_tell_87 : decode cX4_tell 87 = .ok (.iload_n 1, 1) := dk_27 (dk_at dksX4_tell_3 15 rfl rfl)
theorem dX4_tell_88 : decode cX4_tell 88 = .ok (.iastore, 1) := dk_79 (dk_at dksX4_tell_3 16 rfl rfl)
theorem dX4_tell_89 : decode cX4_tell 89 = .ok (.aload_n 0, 1) := dk_42 (dk_at dksX4_tell_3 17 rfl rfl)
theorem dX4_tell_90 : decode cX4_tell 90 = .ok (.getfield 179, 3) := dk_180 0 179 (dk_at dksX4_tell_3 18 rfl rfl)
theorem dX4_tell_93 : decode cX4_tell 93 = .ok (.aload_n 0, 1) := dk_42 (dk_at dksX4_tell_3 21 rfl rfl)
theorem dX4_tell_94 : decode cX4_tell 94 = .ok (.getfield 542, 3) := dk_180 2 30 (dk_at dksX4_tell_4 0 rfl rfl)
theorem dX4_tell_97 : decode cX4_tell 97 = .ok (.iload_n 2, 1) := dk_28 (dk_at dksX4_tell_4 3 rfl rfl)
theorem dX4_tell_98 : decode cX4_tell 98 = .ok (.iastore, 1) := dk_79 (dk_at dksX4_tell_4 4 rfl rfl)
theorem dX4_tell_99 : decode cX4_tell 99 = .ok (.aload_n 0, 1) := dk_42 (dk_at dksX4_tell_4 5 rfl rfl)
theorem dX4_tell_100 : decode cX4_tell 100 = .ok (.getfield 182, 3) := dk_180 0 182 (dk_at dksX4_tell_4 6 rfl rfl)
theorem dX4_tell_103 : decode cX4_tell 103 = .ok (.aload_n 0, 1) := dk_42 (dk_at dksX4_tell_4 9 rfl rfl)
theorem dX4_tell_104 : decode cX4_tell 104 = .ok (.getfield 542, 3) := dk_180 2 30 (dk_at dksX4_tell_4 10 rfl rfl)
theorem dX4_tell_107 : decode cX4_tell 107 = .ok (.iload_n 3, 1) := dk_29 (dk_at dksX4_tell_4 13 rfl rfl)
theorem dX4_tell_108 : decode cX4_tell 108 = .ok (.iastore, 1) := dk_79 (dk_at dksX4_tell_4 14 rfl rfl)
theorem dX4_tell_109 : decode cX4_tell 109 = .ok (.aload_n 0, 1) := dk_42 (dk_at dksX4_tell_4 15 rfl rfl)
theorem dX4_tell_110 : decode cX4_tell 110 = .ok (.dup, 1) := dk_89 (dk_at dksX4_tell_4 16 rfl rfl)
theorem dX4_tell_111 : decode cX4_tell 111 = .ok (.getfield 542, 3) := dk_180 2 30 (dk_at dksX4_tell_4 17 rfl rfl)
theorem dX4_tell_114 : decode cX4_tell 114 = .ok (.iconst 1, 1) := dk_4 (dk_at dksX4_tell_4 20 rfl rfl)
theorem dX4_tell_115 : decode cX4_tell 115 = .ok (.iadd, 1) := dk_96 (dk_at dksX4_tell_4 21 rfl rfl)
theorem dX4_tell_116 : decode cX4_tell 116 = .ok (.putfield 542, 3) := dk_181 2 30 (dk_at dksX4_tell_5 0 rfl rfl)
theorem dX4_tell_119 : decode cX4_tell 119 = .ok (.aload_n 0, 1) := dk_42 (dk_at dksX4_tell_5 3 rfl rfl)
theorem dX4_tell_120 : decode cX4_tell 120 = .ok (.iload_n 1, 1) := dk_27 (dk_at dksX4_tell_5 4 rfl rfl)
theorem dX4_tell_121 : decode cX4_tell 121 = .ok (.putfield 533, 3) := dk_181 2 21 (dk_at dksX4_tell_5 5 rfl rfl)
theorem dX4_tell_124 : decode cX4_tell 124 = .ok (.iconst 1, 1) := dk_4 (dk_at dksX4_tell_5 8 rfl rfl)
theorem dX4_tell_125 : decode cX4_tell 125 = .ok (.ireturn, 1) := dk_172 (dk_at dksX4_tell_5 9 rfl rfl)
abbrev cX4_says : ByteArray := prog_9_method_87_code
def yX4_says : MethodName := ⟨RX4, "says", "(II)I"⟩
def dkwX4_says_2 : List UInt8 := [182, 0, 252, 172]
abbrev dktX4_says_2 : List UInt8 := dkwX4_says_2 ++ []
def dkwX4_says_1 : List UInt8 := [27, 182, 2, 33, 153, 0, 16, 42, 42, 27, 182, 2, 36, 28, 182, 2, 39, 167, 0, 9, 42, 16, 8]
abbrev dktX4_says_1 : List UInt8 := dkwX4_says_1 ++ dktX4_says_2
def dkwX4_says_0 : List UInt8 := [42, 3, 181, 0, 212, 42, 3, 181, 0, 215, 28, 184, 2, 10, 154, 0, 9, 42, 5, 182, 0, 252, 172, 42]
abbrev dktX4_says_0 : List UInt8 := dkwX4_says_0 ++ dktX4_says_1
theorem dksX4_says_0 : cX4_says.data.toList.drop 0 = dktX4_says_0 := by decide +kernel
theorem dksX4_says_1 : cX4_says.data.toList.drop 24 = dktX4_says_1 := dk_seg dksX4_says_0 24 rfl rfl
theorem dksX4_says_2 : cX4_says.data.toList.drop 47 = dktX4_says_2 := dk_seg dksX4_says_1 23 rfl rfl
theorem dX4_says_0 : decode cX4_says 0 = .ok (.aload_n 0, 1) := dk_42 (dk_at dksX4_says_0 0 rfl rfl)
theorem dX4_says_1 : decode cX4_says 1 = .ok (.iconst 0, 1) := dk_3 (dk_at dksX4_says_0 1 rfl rfl)
theorem dX4_says_2 : decode cX4_says 2 = .ok (.putfield 212, 3) := dk_181 0 212 (dk_at dksX4_says_0 2 rfl rfl)
theorem dX4_says_5 : decode cX4_says 5 = .ok (.aload_n 0, 1) := dk_42 (dk_at dksX4_says_0 5 rfl rfl)
theorem dX4_says_6 : decode cX4_says 6 = .ok (.iconst 0, 1) := dk_3 (dk_at dksX4_says_0 6 rfl rfl)
theorem dX4_says_7 : decode cX4_says 7 = .ok (.putfield 215, 3) := dk_181 0 215 (dk_at dksX4_says_0 7 rfl rfl)
theorem dX4_says_10 : decode cX4_says 10 = .ok (.iload_n 2, 1) := dk_28 (dk_at dksX4_says_0 10 rfl rfl)
theorem dX4_says_11 : decode cX4_says 11 = .ok (.invokestatic 522, 3) := dk_184 2 10 (dk_at dksX4_says_0 11 rfl rfl)
theorem dX4_says_14 : decode cX4_says 14 = .ok (.ifCond .ne 9, 3) := dk_154 0 9 (dk_at dksX4_says_0 14 rfl rfl)
theorem dX4_says_17 : decode cX4_says 17 = .ok (.aload_n 0, 1) := dk_42 (dk_at dksX4_says_0 17 rfl rfl)
theorem dX4_says_18 : decode cX4_says 18 = .ok (.iconst 2, 1) := dk_5 (dk_at dksX4_says_0 18 rfl rfl)
theorem dX4_says_19 : decode cX4_says 19 = .ok (.invokevirtual 252, 3) := dk_182 0 252 (dk_at dksX4_says_0 19 rfl rfl)
theorem dX4_says_22 : decode cX4_says 22 = .ok (.ireturn, 1) := dk_172 (dk_at dksX4_says_0 22 rfl rfl)
theorem dX4_says_23 : decode cX4_says 23 = .ok (.aload_n 0, 1) := dk_42 (dk_at dksX4_says_0 23 rfl rfl)
theorem dX4_says_24 : decode cX4_says 24 = .ok (.iload_n 1, 1) := dk_27 (dk_at dksX4_says_1 0 rfl rfl)
theorem dX4_says_25 : decode cX4_says 25 = .ok (.invokevirtual 545, 3) := dk_182 2 33 (dk_at dksX4_says_1 1 rfl rfl)
theorem dX4_says_28 : decode cX4_says 28 = .ok (.ifCond .eq 16, 3) := dk_153 0 16 (dk_at dksX4_says_1 4 rfl rfl)
theorem dX4_says_31 : decode cX4_says 31 = .ok (.aload_n 0, 1) := dk_42 (dk_at dksX4_says_1 7 rfl rfl)
theorem dX4_says_32 : decode cX4_says 32 = .ok (.aload_n 0, 1) := dk_42 (dk_at dksX4_says_1 8 rfl rfl)
theorem dX4_says_33 : decode cX4_says 33 = .ok (.iload_n 1, 1) := dk_27 (dk_at dksX4_says_1 9 rfl rfl)
theorem dX4_says_34 : decode cX4_says 34 = .ok (.invokevirtual 548, 3) := dk_182 2 36 (dk_at dksX4_says_1 10 rfl rfl)
theorem dX4_says_37 : decode cX4_says 37 = .ok (.iload_n 2, 1) := dk_28 (dk_at dksX4_says_1 13 rfl rfl)
theorem dX4_says_38 : decode cX4_says 38 = .ok (.invokevirtual 551, 3) := dk_182 2 39 (dk_at dksX4_says_1 14 rfl rfl)
theorem dX4_says_41 : decode cX4_says 41 = .ok (.goto 9, 3) := dk_167 0 9 (dk_at dksX4_says_1 17 rfl rfl)
theorem dX4_says_44 : decode cX4_says 44 = .ok (.aload_n 0, 1) := dk_42 (dk_at dksX4_says_1 20 rfl rfl)
theorem dX4_says_45 : decode cX4_says 45 = .ok (.bipush 8, 2) := dk_16 8 (dk_at dksX4_says_1 21 rfl rfl)
theorem dX4_says_47 : decode cX4_says 47 = .ok (.invokevirtual 252, 3) := dk_182 0 252 (dk_at dksX4_says_2 0 rfl rfl)
theorem dX4_says_50 : decode cX4_says 50 = .ok (.ireturn, 1) := dk_172 (dk_at dksX4_says_2 3 rfl rfl)
abbrev cX4_isCopy : ByteArray := prog_9_method_84_code
def yX4_isCopy : MethodName := ⟨RX4, "isCopy", "(I)Z"⟩
def dkwX4_isCopy_0 : List UInt8 := [27, 133, 10, 42, 180, 2, 27, 133, 184, 0, 239, 172]
abbrev dktX4_isCopy_0 : List UInt8 := dkwX4_isCopy_0 ++ []
theorem dksX4_isCopy_0 : cX4_isCopy.data.toList.drop 0 = dktX4_isCopy_0 := by decide +kernel
theorem dX4_isCopy_0 : decode cX4_isCopy 0 = .ok (.iload_n 1, 1) := dk_27 (dk_at dksX4_isCopy_0 0 rfl rfl)
theorem dX4_isCopy_1 : decode cX4_isCopy 1 = .ok (.i2l, 1) := dk_133 (dk_at dksX4_isCopy_0 1 rfl rfl)
theorem dX4_isCopy_2 : decode cX4_isCopy 2 = .ok (.lconst 1, 1) := dk_10 (dk_at dksX4_isCopy_0 2 rfl rfl)
theorem dX4_isCopy_3 : decode cX4_isCopy 3 = .ok (.aload_n 0, 1) := dk_42 (dk_at dksX4_isCopy_0 3 rfl rfl)
theorem dX4_isCopy_4 : decode cX4_isCopy 4 = .ok (.getfield 539, 3) := dk_180 2 27 (dk_at dksX4_isCopy_0 4 rfl rfl)
theorem dX4_isCopy_7 : decode cX4_isCopy 7 = .ok (.i2l, 1) := dk_133 (dk_at dksX4_isCopy_0 7 rfl rfl)
theorem dX4_isCopy_8 : decode cX4_isCopy 8 = .ok (.invokestatic 239, 3) := dk_184 0 239 (dk_at dksX4_isCopy_0 8 rfl rfl)
theorem dX4_isCopy_11 : decode cX4_isCopy 11 = .ok (.ireturn, 1) := dk_172 (dk_at dksX4_isCopy_0 11 rfl rfl)
abbrev cX4_printingOf : ByteArray := prog_9_method_85_code
def yX4_printingOf : MethodName := ⟨RX4, "printingOf", "(I)I"⟩
def dkwX4_printingOf_1 : List UInt8 := [172]
abbrev dktX4_printingOf_1 : List UInt8 := dkwX4_printingOf_1 ++ []
def dkwX4_printingOf_0 : List UInt8 := [42, 180, 2, 24, 4, 100, 61, 42, 180, 0, 170, 28, 46, 27, 164, 0, 9, 132, 2, 255, 167, 255, 243, 28]
abbrev dktX4_printingOf_0 : List UInt8 := dkwX4_printingOf_0 ++ dktX4_printingOf_1
theorem dksX4_printingOf_0 : cX4_printingOf.data.toList.drop 0 = dktX4_printingOf_0 := by decide +kernel
theorem dksX4_printingOf_1 : cX4_printingOf.data.toList.drop 24 = dktX4_printingOf_1 := dk_seg dksX4_printingOf_0 24 rfl rfl
theorem dX4_printingOf_0 : decode cX4_printingOf 0 = .ok (.aload_n 0, 1) := dk_42 (dk_at dksX4_printingOf_0 0 rfl rfl)
theorem dX4_printingOf_1 : decode cX4_printingOf 1 = .ok (.getfield 536, 3) := dk_180 2 24 (dk_at dksX4_printingOf_0 1 rfl rfl)
theorem dX4_printingOf_4 : decode cX4_printingOf 4 = .ok (.iconst 1, 1) := dk_4 (dk_at dksX4_printingOf_0 4 rfl rfl)
theorem dX4_printingOf_5 : decode cX4_printingOf 5 = .ok (.isub, 1) := dk_100 (dk_at dksX4_printingOf_0 5 rfl rfl)
theorem dX4_printingOf_6 : decode cX4_printingOf 6 = .ok (.istore_n 2, 1) := dk_61 (dk_at dksX4_printingOf_0 6 rfl rfl)
theorem dX4_printingOf_7 : decode cX4_printingOf 7 = .ok (.aload_n 0, 1) := dk_42 (dk_at dksX4_printingOf_0 7 rfl rfl)
theorem dX4_printingOf_8 : decode cX4_printingOf 8 = .ok (.getfield 170, 3) := dk_180 0 170 (dk_at dksX4_printingOf_0 8 rfl rfl)
theorem dX4_printingOf_11 : decode cX4_printingOf 11 = .ok (.iload_n 2, 1) := dk_28 (dk_at dksX4_printingOf_0 11 rfl rfl)
theorem dX4_printingOf_12 : decode cX4_printingOf 12 = .ok (.iaload, 1) := dk_46 (dk_at dksX4_printingOf_0 12 rfl rfl)
theorem dX4_printingOf_13 : decode cX4_printingOf 13 = .ok (.iload_n 1, 1) := dk_27 (dk_at dksX4_printingOf_0 13 rfl rfl)
theorem dX4_printingOf_14 : decode cX4_printingOf 14 = .ok (.if_icmp .le 9, 3) := dk_164 0 9 (dk_at dksX4_printingOf_0 14 rfl rfl)
theorem dX4_printingOf_17 : decode cX4_printingOf 17 = .ok (.iinc 2 (-1), 3) := dk_132 2 255 (dk_at dksX4_printingOf_0 17 rfl rfl)
theorem dX4_printingOf_20 : decode cX4_printingOf 20 = .ok (.goto (-13), 3) := dk_167 255 243 (dk_at dksX4_printingOf_0 20 rfl rfl)
theorem dX4_printingOf_23 : decode cX4_printingOf 23 = .ok (.iload_n 2, 1) := dk_28 (dk_at dksX4_printingOf_0 23 rfl rfl)
theorem dX4_printingOf_24 : decode cX4_printingOf 24 = .ok (.ireturn, 1) := dk_172 (dk_at dksX4_printingOf_1 0 rfl rfl)
abbrev cX4_saysOf : ByteArray := prog_9_method_86_code
def yX4_saysOf : MethodName := ⟨RX4, "saysOf", "(II)I"⟩
def dkwX4_saysOf_1 : List UInt8 := [160, 0, 11, 42, 180, 0, 167, 21, 4, 46, 62, 132, 4, 1, 167, 255, 223, 29, 172]
abbrev dktX4_saysOf_1 : List UInt8 := dkwX4_saysOf_1 ++ []
def dkwX4_saysOf_0 : List UInt8 := [3, 62, 3, 54, 4, 21, 4, 42, 180, 0, 173, 27, 46, 162, 0, 28, 42, 180, 0, 164, 21, 4, 46, 28]
abbrev dktX4_saysOf_0 : List UInt8 := dkwX4_saysOf_0 ++ dktX4_saysOf_1
theorem dksX4_saysOf_0 : cX4_saysOf.data.toList.drop 0 = dktX4_saysOf_0 := by decide +kernel
theorem dksX4_saysOf_1 : cX4_saysOf.data.toList.drop 24 = dktX4_saysOf_1 := dk_seg dksX4_saysOf_0 24 rfl rfl
theorem dX4_saysOf_0 : decode cX4_saysOf 0 = .ok (.iconst 0, 1) := dk_3 (dk_at dksX4_saysOf_0 0 rfl rfl)
theorem dX4_saysOf_1 : decode cX4_saysOf 1 = .ok (.istore_n 3, 1) := dk_62 (dk_at dksX4_saysOf_0 1 rfl rfl)
theorem dX4_saysOf_2 : decode cX4_saysOf 2 = .ok (.iconst 0, 1) := dk_3 (dk_at dksX4_saysOf_0 2 rfl rfl)
theorem dX4_saysOf_3 : decode cX4_saysOf 3 = .ok (.istore 4, 2) := dk_54 4 (dk_at dksX4_saysOf_0 3 rfl rfl)
theorem dX4_saysOf_5 : decode cX4_saysOf 5 = .ok (.iload 4, 2) := dk_21 4 (dk_at dksX4_saysOf_0 5 rfl rfl)
theorem dX4_saysOf_7 : decode cX4_saysOf 7 = .ok (.aload_n 0, 1) := dk_42 (dk_at dksX4_saysOf_0 7 rfl rfl)
theorem dX4_saysOf_8 : decode cX4_saysOf 8 = .ok (.getfield 173, 3) := dk_180 0 173 (dk_at dksX4_saysOf_0 8 rfl rfl)
theorem dX4_saysOf_11 : decode cX4_saysOf 11 = .ok (.iload_n 1, 1) := dk_27 (dk_at dksX4_saysOf_0 11 rfl rfl)
theorem dX4_saysOf_12 : decode cX4_saysOf 12 = .ok (.iaload, 1) := dk_46 (dk_at dksX4_saysOf_0 12 rfl rfl)
theorem dX4_saysOf_13 : decode cX4_saysOf 13 = .ok (.if_icmp .ge 28, 3) := dk_162 0 28 (dk_at dksX4_saysOf_0 13 rfl rfl)
theorem dX4_saysOf_16 : decode cX4_saysOf 16 = .ok (.aload_n 0, 1) := dk_42 (dk_at dksX4_saysOf_0 16 rfl rfl)
theorem dX4_saysOf_17 : decode cX4_saysOf 17 = .ok (.getfield 164, 3) := dk_180 0 164 (dk_at dksX4_saysOf_0 17 rfl rfl)
theorem dX4_saysOf_20 : decode cX4_saysOf 20 = .ok (.iload 4, 2) := dk_21 4 (dk_at dksX4_saysOf_0 20 rfl rfl)
theorem dX4_saysOf_22 : decode cX4_saysOf 22 = .ok (.iaload, 1) := dk_46 (dk_at dksX4_saysOf_0 22 rfl rfl)
theorem dX4_saysOf_23 : decode cX4_saysOf 23 = .ok (.iload_n 2, 1) := dk_28 (dk_at dksX4_saysOf_0 23 rfl rfl)
theorem dX4_saysOf_24 : decode cX4_saysOf 24 = .ok (.if_icmp .ne 11, 3) := dk_160 0 11 (dk_at dksX4_saysOf_1 0 rfl rfl)
theorem dX4_saysOf_27 : decode cX4_saysOf 27 = .ok (.aload_n 0, 1) := dk_42 (dk_at dksX4_saysOf_1 3 rfl rfl)
theorem dX4_saysOf_28 : decode cX4_saysOf 28 = .ok (.getfield 167, 3) := dk_180 0 167 (dk_at dksX4_saysOf_1 4 rfl rfl)
theorem dX4_saysOf_31 : decode cX4_saysOf 31 = .ok (.iload 4, 2) := dk_21 4 (dk_at dksX4_saysOf_1 7 rfl rfl)
theorem dX4_saysOf_33 : decode cX4_saysOf 33 = .ok (.iaload, 1) := dk_46 (dk_at dksX4_saysOf_1 9 rfl rfl)
theorem dX4_saysOf_34 : decode cX4_saysOf 34 = .ok (.istore_n 3, 1) := dk_62 (dk_at dksX4_saysOf_1 10 rfl rfl)
theorem dX4_saysOf_35 : decode cX4_saysOf 35 = .ok (.iinc 4 1, 3) := dk_132 4 1 (dk_at dksX4_saysOf_1 11 rfl rfl)
theorem dX4_saysOf_38 : decode cX4_saysOf 38 = .ok (.goto (-33), 3) := dk_167 255 223 (dk_at dksX4_saysOf_1 14 rfl rfl)
theorem dX4_saysOf_41 : decode cX4_saysOf 41 = .ok (.iload_n 3, 1) := dk_29 (dk_at dksX4_saysOf_1 17 rfl rfl)
theorem dX4_saysOf_42 : decode cX4_saysOf 42 = .ok (.ireturn, 1) := dk_172 (dk_at dksX4_saysOf_1 18 rfl rfl)
abbrev cX4_wrong_2 : ByteArray := prog_9_method_89_code
def yX4_wrong_2 : MethodName := ⟨RX4, "wrong", "(II)I"⟩
def dkwX4_wrong_2_2 : List UInt8 := [167, 0, 9, 42, 16, 8, 182, 0, 252, 172]
abbrev dktX4_wrong_2_2 : List UInt8 := dkwX4_wrong_2_2 ++ []
def dkwX4_wrong_2_1 : List UInt8 := [182, 0, 252, 172, 42, 27, 182, 2, 33, 153, 0, 16, 42, 42, 27, 182, 2, 36, 28, 182, 2, 42]
abbrev dktX4_wrong_2_1 : List UInt8 := dkwX4_wrong_2_1 ++ dktX4_wrong_2_2
def dkwX4_wrong_2_0 : List UInt8 := [42, 3, 181, 0, 212, 42, 3, 181, 0, 215, 28, 133, 9, 20, 2, 13, 184, 0, 239, 154, 0, 9, 42, 8]
abbrev dktX4_wrong_2_0 : List UInt8 := dkwX4_wrong_2_0 ++ dktX4_wrong_2_1
theorem dksX4_wrong_2_0 : cX4_wrong_2.data.toList.drop 0 = dktX4_wrong_2_0 := by decide +kernel
theorem dksX4_wrong_2_1 : cX4_wrong_2.data.toList.drop 24 = dktX4_wrong_2_1 := dk_seg dksX4_wrong_2_0 24 rfl rfl
theorem dksX4_wrong_2_2 : cX4_wrong_2.data.toList.drop 46 = dktX4_wrong_2_2 := dk_seg dksX4_wrong_2_1 22 rfl rfl
theorem dX4_wrong_2_0 : decode cX4_wrong_2 0 = .ok (.aload_n 0, 1) := dk_42 (dk_at dksX4_wrong_2_0 0 rfl rfl)
theorem dX4_wrong_2_1 : decode cX4_wrong_2 1 = .ok (.iconst 0, 1) := dk_3 (dk_at dksX4_wrong_2_0 1 rfl rfl)
theorem dX4_wrong_2_2 : decode cX4_wrong_2 2 = .ok (.putfield 212, 3) := dk_181 0 212 (dk_at dksX4_wrong_2_0 2 rfl rfl)
theorem dX4_wrong_2_5 : decode cX4_wrong_2 5 = .ok (.aload_n 0, 1) := dk_42 (dk_at dksX4_wrong_2_0 5 rfl rfl)
theorem dX4_wrong_2_6 : decode cX4_wrong_2 6 = .ok (.iconst 0, 1) := dk_3 (dk_at dksX4_wrong_2_0 6 rfl rfl)
theorem dX4_wrong_2_7 : decode cX4_wrong_2 7 = .ok (.putfield 215, 3) := dk_181 0 215 (dk_at dksX4_wrong_2_0 7 rfl rfl)
theorem dX4_wrong_2_10 : decode cX4_wrong_2 10 = .ok (.iload_n 2, 1) := dk_28 (dk_at dksX4_wrong_2_0 10 rfl rfl)
theorem dX4_wrong_2_11 : decode cX4_wrong_2 11 = .ok (.i2l, 1) := dk_133 (dk_at dksX4_wrong_2_0 11 rfl rfl)
theorem dX4_wrong_2_12 : decode cX4_wrong_2 12 = .ok (.lconst 0, 1) := dk_9 (dk_at dksX4_wrong_2_0 12 rfl rfl)
theorem dX4_wrong_2_13 : decode cX4_wrong_2 13 = .ok (.ldc2_w 525, 3) := dk_20 2 13 (dk_at dksX4_wrong_2_0 13 rfl rfl)
theorem dX4_wrong_2_16 : decode cX4_wrong_2 16 = .ok (.invokestatic 239, 3) := dk_184 0 239 (dk_at dksX4_wrong_2_0 16 rfl rfl)
theorem dX4_wrong_2_19 : decode cX4_wrong_2 19 = .ok (.ifCond .ne 9, 3) := dk_154 0 9 (dk_at dksX4_wrong_2_0 19 rfl rfl)
theorem dX4_wrong_2_22 : decode cX4_wrong_2 22 = .ok (.aload_n 0, 1) := dk_42 (dk_at dksX4_wrong_2_0 22 rfl rfl)
theorem dX4_wrong_2_23 : decode cX4_wrong_2 23 = .ok (.iconst 5, 1) := dk_8 (dk_at dksX4_wrong_2_0 23 rfl rfl)
theorem dX4_wrong_2_24 : decode cX4_wrong_2 24 = .ok (.invokevirtual 252, 3) := dk_182 0 252 (dk_at dksX4_wrong_2_1 0 rfl rfl)
theorem dX4_wrong_2_27 : decode cX4_wrong_2 27 = .ok (.ireturn, 1) := dk_172 (dk_at dksX4_wrong_2_1 3 rfl rfl)
theorem dX4_wrong_2_28 : decode cX4_wrong_2 28 = .ok (.aload_n 0, 1) := dk_42 (dk_at dksX4_wrong_2_1 4 rfl rfl)
theorem dX4_wrong_2_29 : decode cX4_wrong_2 29 = .ok (.iload_n 1, 1) := dk_27 (dk_at dksX4_wrong_2_1 5 rfl rfl)
theorem dX4_wrong_2_30 : decode cX4_wrong_2 30 = .ok (.invokevirtual 545, 3) := dk_182 2 33 (dk_at dksX4_wrong_2_1 6 rfl rfl)
theorem dX4_wrong_2_33 : decode cX4_wrong_2 33 = .ok (.ifCond .eq 16, 3) := dk_153 0 16 (dk_at dksX4_wrong_2_1 9 rfl rfl)
theorem dX4_wrong_2_36 : decode cX4_wrong_2 36 = .ok (.aload_n 0, 1) := dk_42 (dk_at dksX4_wrong_2_1 12 rfl rfl)
theorem dX4_wrong_2_37 : decode cX4_wrong_2 37 = .ok (.aload_n 0, 1) := dk_42 (dk_at dksX4_wrong_2_1 13 rfl rfl)
theorem dX4_wrong_2_38 : decode cX4_wrong_2 38 = .ok (.iload_n 1, 1) := dk_27 (dk_at dksX4_wrong_2_1 14 rfl rfl)
theorem dX4_wrong_2_39 : decode cX4_wrong_2 39 = .ok (.invokevirtual 548, 3) := dk_182 2 36 (dk_at dksX4_wrong_2_1 15 rfl rfl)
theorem dX4_wrong_2_42 : decode cX4_wrong_2 42 = .ok (.iload_n 2, 1) := dk_28 (dk_at dksX4_wrong_2_1 18 rfl rfl)
theorem dX4_wrong_2_43 : decode cX4_wrong_2 43 = .ok (.invokevirtual 554, 3) := dk_182 2 42 (dk_at dksX4_wrong_2_1 19 rfl rfl)
theorem dX4_wrong_2_46 : decode cX4_wrong_2 46 = .ok (.goto 9, 3) := dk_167 0 9 (dk_at dksX4_wrong_2_2 0 rfl rfl)
theorem dX4_wrong_2_49 : decode cX4_wrong_2 49 = .ok (.aload_n 0, 1) := dk_42 (dk_at dksX4_wrong_2_2 3 rfl rfl)
theorem dX4_wrong_2_50 : decode cX4_wrong_2 50 = .ok (.bipush 8, 2) := dk_16 8 (dk_at dksX4_wrong_2_2 4 rfl rfl)
theorem dX4_wrong_2_52 : decode cX4_wrong_2 52 = .ok (.invokevirtual 252, 3) := dk_182 0 252 (dk_at dksX4_wrong_2_2 6 rfl rfl)
theorem dX4_wrong_2_55 : decode cX4_wrong_2 55 = .ok (.ireturn, 1) := dk_172 (dk_at dksX4_wrong_2_2 9 rfl rfl)
abbrev cX4_wrongOf : ByteArray := prog_9_method_88_code
def yX4_wrongOf : MethodName := ⟨RX4, "wrongOf", "(II)I"⟩
def dkwX4_wrongOf_4 : List UInt8 := [167, 255, 168, 29, 172]
abbrev dktX4_wrongOf_4 : List UInt8 := dkwX4_wrongOf_4 ++ []
def dkwX4_wrongOf_3 : List UInt8 := [21, 5, 46, 42, 27, 21, 4, 182, 2, 39, 159, 0, 7, 4, 167, 0, 4, 3, 96, 62, 132, 4, 1]
abbrev dktX4_wrongOf_3 : List UInt8 := dkwX4_wrongOf_3 ++ dktX4_wrongOf_4
def dkwX4_wrongOf_2 : List UInt8 := [163, 0, 7, 21, 6, 54, 5, 132, 6, 1, 167, 255, 217, 29, 21, 5, 155, 0, 24, 42, 180, 0, 182]
abbrev dktX4_wrongOf_2 : List UInt8 := dkwX4_wrongOf_2 ++ dktX4_wrongOf_3
def dkwX4_wrongOf_1 : List UInt8 := [162, 0, 36, 42, 180, 0, 179, 21, 6, 46, 21, 4, 160, 0, 18, 42, 180, 0, 176, 21, 6, 46, 28]
abbrev dktX4_wrongOf_1 : List UInt8 := dkwX4_wrongOf_1 ++ dktX4_wrongOf_2
def dkwX4_wrongOf_0 : List UInt8 := [3, 62, 3, 54, 4, 21, 4, 16, 40, 162, 0, 87, 2, 54, 5, 3, 54, 6, 21, 6, 42, 180, 2, 30]
abbrev dktX4_wrongOf_0 : List UInt8 := dkwX4_wrongOf_0 ++ dktX4_wrongOf_1
theorem dksX4_wrongOf_0 : cX4_wrongOf.data.toList.drop 0 = dktX4_wrongOf_0 := by decide +kernel
theorem dksX4_wrongOf_1 : cX4_wrongOf.data.toList.drop 24 = dktX4_wrongOf_1 := dk_seg dksX4_wrongOf_0 24 rfl rfl
theorem dksX4_wrongOf_2 : cX4_wrongOf.data.toList.drop 47 = dktX4_wrongOf_2 := dk_seg dksX4_wrongOf_1 23 rfl rfl
theorem dksX4_wrongOf_3 : cX4_wrongOf.data.toList.drop 70 = dktX4_wrongOf_3 := dk_seg dksX4_wrongOf_2 23 rfl rfl
theorem dksX4_wrongOf_4 : cX4_wrongOf.data.toList.drop 93 = dktX4_wrongOf_4 := dk_seg dksX4_wrongOf_3 23 rfl rfl
theorem dX4_wrongOf_0 : decode cX4_wrongOf 0 = .ok (.iconst 0, 1) := dk_3 (dk_at dksX4_wrongOf_0 0 rfl rfl)
theorem dX4_wrongOf_1 : decode cX4_wrongOf 1 = .ok (.istore_n 3, 1) := dk_62 (dk_at dksX4_wrongOf_0 1 rfl rfl)
theorem dX4_wrongOf_2 : decode cX4_wrongOf 2 = .ok (.iconst 0, 1) := dk_3 (dk_at dksX4_wrongOf_0 2 rfl rfl)
theorem dX4_wrongOf_3 : decode cX4_wrongOf 3 = .ok (.istore 4, 2) := dk_54 4 (dk_at dksX4_wrongOf_0 3 rfl rfl)
theorem dX4_wrongOf_5 : decode cX4_wrongOf 5 = .ok (.iload 4, 2) := dk_21 4 (dk_at dksX4_wrongOf_0 5 rfl rfl)
theorem dX4_wrongOf_7 : decode cX4_wrongOf 7 = .ok (.bipush 40, 2) := dk_16 40 (dk_at dksX4_wrongOf_0 7 rfl rfl)
theorem dX4_wrongOf_9 : decode cX4_wrongOf 9 = .ok (.if_icmp .ge 87, 3) := dk_162 0 87 (dk_at dksX4_wrongOf_0 9 rfl rfl)
theorem dX4_wrongOf_12 : decode cX4_wrongOf 12 = .ok (.iconst (-1), 1) := dk_2 (dk_at dksX4_wrongOf_0 12 rfl rfl)
theorem dX4_wrongOf_13 : decode cX4_wrongOf 13 = .ok (.istore 5, 2) := dk_54 5 (dk_at dksX4_wrongOf_0 13 rfl rfl)
theorem dX4_wrongOf_15 : decode cX4_wrongOf 15 = .ok (.iconst 0, 1) := dk_3 (dk_at dksX4_wrongOf_0 15 rfl rfl)
theorem dX4_wrongOf_16 : decode cX4_wrongOf 16 = .ok (.istore 6, 2) := dk_54 6 (dk_at dksX4_wrongOf_0 16 rfl rfl)
theorem dX4_wrongOf_18 : decode cX4_wrongOf 18 = .ok (.iload 6, 2) := dk_21 6 (dk_at dksX4_wrongOf_0 18 rfl rfl)
theorem dX4_wrongOf_20 : decode cX4_wrongOf 20 = .ok (.aload_n 0, 1) := dk_42 (dk_at dksX4_wrongOf_0 20 rfl rfl)
theorem dX4_wrongOf_21 : decode cX4_wrongOf 21 = .ok (.getfield 542, 3) := dk_180 2 30 (dk_at dksX4_wrongOf_0 21 rfl rfl)
theorem dX4_wrongOf_24 : decode cX4_wrongOf 24 = .ok (.if_icmp .ge 36, 3) := dk_162 0 36 (dk_at dksX4_wrongOf_1 0 rfl rfl)
theorem dX4_wrongOf_27 : decode cX4_wrongOf 27 = .ok (.aload_n 0, 1) := dk_42 (dk_at dksX4_wrongOf_1 3 rfl rfl)
theorem dX4_wrongOf_28 : decode cX4_wrongOf 28 = .ok (.getfield 179, 3) := dk_180 0 179 (dk_at dksX4_wrongOf_1 4 rfl rfl)
theorem dX4_wrongOf_31 : decode cX4_wrongOf 31 = .ok (.iload 6, 2) := dk_21 6 (dk_at dksX4_wrongOf_1 7 rfl rfl)
theorem dX4_wrongOf_33 : decode cX4_wrongOf 33 = .ok (.iaload, 1) := dk_46 (dk_at dksX4_wrongOf_1 9 rfl rfl)
theorem dX4_wrongOf_34 : decode cX4_wrongOf 34 = .ok (.iload 4, 2) := dk_21 4 (dk_at dksX4_wrongOf_1 10 rfl rfl)
theorem dX4_wrongOf_36 : decode cX4_wrongOf 36 = .ok (.if_icmp .ne 18, 3) := dk_160 0 18 (dk_at dksX4_wrongOf_1 12 rfl rfl)
theorem dX4_wrongOf_39 : decode cX4_wrongOf 39 = .ok (.aload_n 0, 1) := dk_42 (dk_at dksX4_wrongOf_1 15 rfl rfl)
theorem dX4_wrongOf_40 : decode cX4_wrongOf 40 = .ok (.getfield 176, 3) := dk_180 0 176 (dk_at dksX4_wrongOf_1 16 rfl rfl)
theorem dX4_wrongOf_43 : decode cX4_wrongOf 43 = .ok (.iload 6, 2) := dk_21 6 (dk_at dksX4_wrongOf_1 19 rfl rfl)
theorem dX4_wrongOf_45 : decode cX4_wrongOf 45 = .ok (.iaload, 1) := dk_46 (dk_at dksX4_wrongOf_1 21 rfl rfl)
theorem dX4_wrongOf_46 : decode cX4_wrongOf 46 = .ok (.iload_n 2, 1) := dk_28 (dk_at dksX4_wrongOf_1 22 rfl rfl)
theorem dX4_wrongOf_47 : decode cX4_wrongOf 47 = .ok (.if_icmp .gt 7, 3) := dk_163 0 7 (dk_at dksX4_wrongOf_2 0 rfl rfl)
theorem dX4_wrongOf_50 : decode cX4_wrongOf 50 = .ok (.iload 6, 2) := dk_21 6 (dk_at dksX4_wrongOf_2 3 rfl rfl)
theorem dX4_wrongOf_52 : decode cX4_wrongOf 52 = .ok (.istore 5, 2) := dk_54 5 (dk_at dksX4_wrongOf_2 5 rfl rfl)
theorem dX4_wrongOf_54 : decode cX4_wrongOf 54 = .ok (.iinc 6 1, 3) := dk_132 6 1 (dk_at dksX4_wrongOf_2 7 rfl rfl)
theorem dX4_wrongOf_57 : decode cX4_wrongOf 57 = .ok (.goto (-39), 3) := dk_167 255 217 (dk_at dksX4_wrongOf_2 10 rfl rfl)
theorem dX4_wrongOf_60 : decode cX4_wrongOf 60 = .ok (.iload_n 3, 1) := dk_29 (dk_at dksX4_wrongOf_2 13 rfl rfl)
theorem dX4_wrongOf_61 : decode cX4_wrongOf 61 = .ok (.iload 5, 2) := dk_21 5 (dk_at dksX4_wrongOf_2 14 rfl rfl)
theorem dX4_wrongOf_63 : decode cX4_wrongOf 63 = .ok (.ifCond .lt 24, 3) := dk_155 0 24 (dk_at dksX4_wrongOf_2 16 rfl rfl)
theorem dX4_wrongOf_66 : decode cX4_wrongOf 66 = .ok (.aload_n 0, 1) := dk_42 (dk_at dksX4_wrongOf_2 19 rfl rfl)
theorem dX4_wrongOf_67 : decode cX4_wrongOf 67 = .ok (.getfield 182, 3) := dk_180 0 182 (dk_at dksX4_wrongOf_2 20 rfl rfl)
theorem dX4_wrongOf_70 : decode cX4_wrongOf 70 = .ok (.iload 5, 2) := dk_21 5 (dk_at dksX4_wrongOf_3 0 rfl rfl)
theorem dX4_wrongOf_72 : decode cX4_wrongOf 72 = .ok (.iaload, 1) := dk_46 (dk_at dksX4_wrongOf_3 2 rfl rfl)
theorem dX4_wrongOf_73 : decode cX4_wrongOf 73 = .ok (.aload_n 0, 1) := dk_42 (dk_at dksX4_wrongOf_3 3 rfl rfl)
theorem dX4_wrongOf_74 : decode cX4_wrongOf 74 = .ok (.iload_n 1, 1) := dk_27 (dk_at dksX4_wrongOf_3 4 rfl rfl)
theorem dX4_wrongOf_75 : decode cX4_wrongOf 75 = .ok (.iload 4, 2) := dk_21 4 (dk_at dksX4_wrongOf_3 5 rfl rfl)
theorem dX4_wrongOf_77 : decode cX4_wrongOf 77 = .ok (.invokevirtual 551, 3) := dk_182 2 39 (dk_at dksX4_wrongOf_3 7 rfl rfl)
theorem dX4_wrongOf_80 : decode cX4_wrongOf 80 = .ok (.if_icmp .eq 7, 3) := dk_159 0 7 (dk_at dksX4_wrongOf_3 10 rfl rfl)
theorem dX4_wrongOf_83 : decode cX4_wrongOf 83 = .ok (.iconst 1, 1) := dk_4 (dk_at dksX4_wrongOf_3 13 rfl rfl)
theorem dX4_wrongOf_84 : decode cX4_wrongOf 84 = .ok (.goto 4, 3) := dk_167 0 4 (dk_at dksX4_wrongOf_3 14 rfl rfl)
theorem dX4_wrongOf_87 : decode cX4_wrongOf 87 = .ok (.iconst 0, 1) := dk_3 (dk_at dksX4_wrongOf_3 17 rfl rfl)
theorem dX4_wrongOf_88 : decode cX4_wrongOf 88 = .ok (.iadd, 1) := dk_96 (dk_at dksX4_wrongOf_3 18 rfl rfl)
theorem dX4_wrongOf_89 : decode cX4_wrongOf 89 = .ok (.istore_n 3, 1) := dk_62 (dk_at dksX4_wrongOf_3 19 rfl rfl)
theorem dX4_wrongOf_90 : decode cX4_wrongOf 90 = .ok (.iinc 4 1, 3) := dk_132 4 1 (dk_at dksX4_wrongOf_3 20 rfl rfl)
theorem dX4_wrongOf_93 : decode cX4_wrongOf 93 = .ok (.goto (-88), 3) := dk_167 255 168 (dk_at dksX4_wrongOf_4 0 rfl rfl)
theorem dX4_wrongOf_96 : decode cX4_wrongOf 96 = .ok (.iload_n 3, 1) := dk_29 (dk_at dksX4_wrongOf_4 3 rfl rfl)
theorem dX4_wrongOf_97 : decode cX4_wrongOf 97 = .ok (.ireturn, 1) := dk_172 (dk_at dksX4_wrongOf_4 4 rfl rfl)
abbrev cX4_bad : ByteArray := prog_9_method_90_code
def yX4_bad : MethodName := ⟨RX4, "bad", "(I)I"⟩
def dkwX4_bad_4 : List UInt8 := [28, 172]
abbrev dktX4_bad_4 : List UInt8 := dkwX4_bad_4 ++ []
def dkwX4_bad_3 : List UInt8 := [167, 0, 9, 42, 180, 2, 27, 4, 96, 42, 180, 0, 170, 29, 46, 100, 96, 61, 132, 3, 1, 167, 255, 199]
abbrev dktX4_bad_3 : List UInt8 := dkwX4_bad_3 ++ dktX4_bad_4
def dkwX4_bad_2 : List UInt8 := [158, 0, 40, 28, 29, 4, 96, 42, 180, 2, 24, 162, 0, 14, 42, 180, 0, 170, 29, 4, 96, 46]
abbrev dktX4_bad_2 : List UInt8 := dkwX4_bad_2 ++ dktX4_bad_3
def dkwX4_bad_1 : List UInt8 := [182, 0, 252, 172, 3, 61, 3, 62, 29, 42, 180, 2, 24, 162, 0, 55, 42, 29, 27, 182, 2, 42]
abbrev dktX4_bad_1 : List UInt8 := dkwX4_bad_1 ++ dktX4_bad_2
def dkwX4_bad_0 : List UInt8 := [42, 3, 181, 0, 212, 42, 3, 181, 0, 215, 27, 133, 9, 20, 2, 13, 184, 0, 239, 154, 0, 9, 42, 8]
abbrev dktX4_bad_0 : List UInt8 := dkwX4_bad_0 ++ dktX4_bad_1
theorem dksX4_bad_0 : cX4_bad.data.toList.drop 0 = dktX4_bad_0 := by decide +kernel
theorem dksX4_bad_1 : cX4_bad.data.toList.drop 24 = dktX4_bad_1 := dk_seg dksX4_bad_0 24 rfl rfl
theorem dksX4_bad_2 : cX4_bad.data.toList.drop 46 = dktX4_bad_2 := dk_seg dksX4_bad_1 22 rfl rfl
theorem dksX4_bad_3 : cX4_bad.data.toList.drop 68 = dktX4_bad_3 := dk_seg dksX4_bad_2 22 rfl rfl
theorem dksX4_bad_4 : cX4_bad.data.toList.drop 92 = dktX4_bad_4 := dk_seg dksX4_bad_3 24 rfl rfl
theorem dX4_bad_0 : decode cX4_bad 0 = .ok (.aload_n 0, 1) := dk_42 (dk_at dksX4_bad_0 0 rfl rfl)
theorem dX4_bad_1 : decode cX4_bad 1 = .ok (.iconst 0, 1) := dk_3 (dk_at dksX4_bad_0 1 rfl rfl)
theorem dX4_bad_2 : decode cX4_bad 2 = .ok (.putfield 212, 3) := dk_181 0 212 (dk_at dksX4_bad_0 2 rfl rfl)
theorem dX4_bad_5 : decode cX4_bad 5 = .ok (.aload_n 0, 1) := dk_42 (dk_at dksX4_bad_0 5 rfl rfl)
theorem dX4_bad_6 : decode cX4_bad 6 = .ok (.iconst 0, 1) := dk_3 (dk_at dksX4_bad_0 6 rfl rfl)
theorem dX4_bad_7 : decode cX4_bad 7 = .ok (.putfield 215, 3) := dk_181 0 215 (dk_at dksX4_bad_0 7 rfl rfl)
theorem dX4_bad_10 : decode cX4_bad 10 = .ok (.iload_n 1, 1) := dk_27 (dk_at dksX4_bad_0 10 rfl rfl)
theorem dX4_bad_11 : decode cX4_bad 11 = .ok (.i2l, 1) := dk_133 (dk_at dksX4_bad_0 11 rfl rfl)
theorem dX4_bad_12 : decode cX4_bad 12 = .ok (.lconst 0, 1) := dk_9 (dk_at dksX4_bad_0 12 rfl rfl)
theorem dX4_bad_13 : decode cX4_bad 13 = .ok (.ldc2_w 525, 3) := dk_20 2 13 (dk_at dksX4_bad_0 13 rfl rfl)
theorem dX4_bad_16 : decode cX4_bad 16 = .ok (.invokestatic 239, 3) := dk_184 0 239 (dk_at dksX4_bad_0 16 rfl rfl)
theorem dX4_bad_19 : decode cX4_bad 19 = .ok (.ifCond .ne 9, 3) := dk_154 0 9 (dk_at dksX4_bad_0 19 rfl rfl)
theorem dX4_bad_22 : decode cX4_bad 22 = .ok (.aload_n 0, 1) := dk_42 (dk_at dksX4_bad_0 22 rfl rfl)
theorem dX4_bad_23 : decode cX4_bad 23 = .ok (.iconst 5, 1) := dk_8 (dk_at dksX4_bad_0 23 rfl rfl)
theorem dX4_bad_24 : decode cX4_bad 24 = .ok (.invokevirtual 252, 3) := dk_182 0 252 (dk_at dksX4_bad_1 0 rfl rfl)
theorem dX4_bad_27 : decode cX4_bad 27 = .ok (.ireturn, 1) := dk_172 (dk_at dksX4_bad_1 3 rfl rfl)
theorem dX4_bad_28 : decode cX4_bad 28 = .ok (.iconst 0, 1) := dk_3 (dk_at dksX4_bad_1 4 rfl rfl)
theorem dX4_bad_29 : decode cX4_bad 29 = .ok (.istore_n 2, 1) := dk_61 (dk_at dksX4_bad_1 5 rfl rfl)
theorem dX4_bad_30 : decode cX4_bad 30 = .ok (.iconst 0, 1) := dk_3 (dk_at dksX4_bad_1 6 rfl rfl)
theorem dX4_bad_31 : decode cX4_bad 31 = .ok (.istore_n 3, 1) := dk_62 (dk_at dksX4_bad_1 7 rfl rfl)
theorem dX4_bad_32 : decode cX4_bad 32 = .ok (.iload_n 3, 1) := dk_29 (dk_at dksX4_bad_1 8 rfl rfl)
theorem dX4_bad_33 : decode cX4_bad 33 = .ok (.aload_n 0, 1) := dk_42 (dk_at dksX4_bad_1 9 rfl rfl)
theorem dX4_bad_34 : decode cX4_bad 34 = .ok (.getfield 536, 3) := dk_180 2 24 (dk_at dksX4_bad_1 10 rfl rfl)
theorem dX4_bad_37 : decode cX4_bad 37 = .ok (.if_icmp .ge 55, 3) := dk_162 0 55 (dk_at dksX4_bad_1 13 rfl rfl)
theorem dX4_bad_40 : decode cX4_bad 40 = .ok (.aload_n 0, 1) := dk_42 (dk_at dksX4_bad_1 16 rfl rfl)
theorem dX4_bad_41 : decode cX4_bad 41 = .ok (.iload_n 3, 1) := dk_29 (dk_at dksX4_bad_1 17 rfl rfl)
theorem dX4_bad_42 : decode cX4_bad 42 = .ok (.iload_n 1, 1) := dk_27 (dk_at dksX4_bad_1 18 rfl rfl)
theorem dX4_bad_43 : decode cX4_bad 43 = .ok (.invokevirtual 554, 3) := dk_182 2 42 (dk_at dksX4_bad_1 19 rfl rfl)
theorem dX4_bad_46 : decode cX4_bad 46 = .ok (.ifCond .le 40, 3) := dk_158 0 40 (dk_at dksX4_bad_2 0 rfl rfl)
theorem dX4_bad_49 : decode cX4_bad 49 = .ok (.iload_n 2, 1) := dk_28 (dk_at dksX4_bad_2 3 rfl rfl)
theorem dX4_bad_50 : decode cX4_bad 50 = .ok (.iload_n 3, 1) := dk_29 (dk_at dksX4_bad_2 4 rfl rfl)
theorem dX4_bad_51 : decode cX4_bad 51 = .ok (.iconst 1, 1) := dk_4 (dk_at dksX4_bad_2 5 rfl rfl)
theorem dX4_bad_52 : decode cX4_bad 52 = .ok (.iadd, 1) := dk_96 (dk_at dksX4_bad_2 6 rfl rfl)
theorem dX4_bad_53 : decode cX4_bad 53 = .ok (.aload_n 0, 1) := dk_42 (dk_at dksX4_bad_2 7 rfl rfl)
theorem dX4_bad_54 : decode cX4_bad 54 = .ok (.getfield 536, 3) := dk_180 2 24 (dk_at dksX4_bad_2 8 rfl rfl)
theorem dX4_bad_57 : decode cX4_bad 57 = .ok (.if_icmp .ge 14, 3) := dk_162 0 14 (dk_at dksX4_bad_2 11 rfl rfl)
theorem dX4_bad_60 : decode cX4_bad 60 = .ok (.aload_n 0, 1) := dk_42 (dk_at dksX4_bad_2 14 rfl rfl)
theorem dX4_bad_61 : decode cX4_bad 61 = .ok (.getfield 170, 3) := dk_180 0 170 (dk_at dksX4_bad_2 15 rfl rfl)
theorem dX4_bad_64 : decode cX4_bad 64 = .ok (.iload_n 3, 1) := dk_29 (dk_at dksX4_bad_2 18 rfl rfl)
theorem dX4_bad_65 : decode cX4_bad 65 = .ok (.iconst 1, 1) := dk_4 (dk_at dksX4_bad_2 19 rfl rfl)
theorem dX4_bad_66 : decode cX4_bad 66 = .ok (.iadd, 1) := dk_96 (dk_at dksX4_bad_2 20 rfl rfl)
theorem dX4_bad_67 : decode cX4_bad 67 = .ok (.iaload, 1) := dk_46 (dk_at dksX4_bad_2 21 rfl rfl)
theorem dX4_bad_68 : decode cX4_bad 68 = .ok (.goto 9, 3) := dk_167 0 9 (dk_at dksX4_bad_3 0 rfl rfl)
theorem dX4_bad_71 : decode cX4_bad 71 = .ok (.aload_n 0, 1) := dk_42 (dk_at dksX4_bad_3 3 rfl rfl)
theorem dX4_bad_72 : decode cX4_bad 72 = .ok (.getfield 539, 3) := dk_180 2 27 (dk_at dksX4_bad_3 4 rfl rfl)
theorem dX4_bad_75 : decode cX4_bad 75 = .ok (.iconst 1, 1) := dk_4 (dk_at dksX4_bad_3 7 rfl rfl)
theorem dX4_bad_76 : decode cX4_bad 76 = .ok (.iadd, 1) := dk_96 (dk_at dksX4_bad_3 8 rfl rfl)
theorem dX4_bad_77 : decode cX4_bad 77 = .ok (.aload_n 0, 1) := dk_42 (dk_at dksX4_bad_3 9 rfl rfl)
theorem dX4_bad_78 : decode cX4_bad 78 = .ok (.getfield 170, 3) := dk_180 0 170 (dk_at dksX4_bad_3 10 rfl rfl)
theorem dX4_bad_81 : decode cX4_bad 81 = .ok (.iload_n 3, 1) := dk_29 (dk_at dksX4_bad_3 13 rfl rfl)
theorem dX4_bad_82 : decode cX4_bad 82 = .ok (.iaload, 1) := dk_46 (dk_at dksX4_bad_3 14 rfl rfl)
theorem dX4_bad_83 : decode cX4_bad 83 = .ok (.isub, 1) := dk_100 (dk_at dksX4_bad_3 15 rfl rfl)
theorem dX4_bad_84 : decode cX4_bad 84 = .ok (.iadd, 1) := dk_96 (dk_at dksX4_bad_3 16 rfl rfl)
theorem dX4_bad_85 : decode cX4_bad 85 = .ok (.istore_n 2, 1) := dk_61 (dk_at dksX4_bad_3 17 rfl rfl)
theorem dX4_bad_86 : decode cX4_bad 86 = .ok (.iinc 3 1, 3) := dk_132 3 1 (dk_at dksX4_bad_3 18 rfl rfl)
theorem dX4_bad_89 : decode cX4_bad 89 = .ok (.goto (-57), 3) := dk_167 255 199 (dk_at dksX4_bad_3 21 rfl rfl)
theorem dX4_bad_92 : decode cX4_bad 92 = .ok (.iload_n 2, 1) := dk_28 (dk_at dksX4_bad_4 0 rfl rfl)
theorem dX4_bad_93 : decode cX4_bad 93 = .ok (.ireturn, 1) := dk_172 (dk_at dksX4_bad_4 1 rfl rfl)
abbrev cX4_job : ByteArray := prog_9_method_91_code
def yX4_job : MethodName := ⟨RX4, "job", "(III)I"⟩
def dkwX4_job_4 : List UInt8 := [180, 2, 45, 29, 79, 42, 89, 180, 2, 45, 4, 96, 181, 2, 45, 42, 180, 2, 45, 4, 100, 172]
abbrev dktX4_job_4 : List UInt8 := dkwX4_job_4 ++ []
def dkwX4_job_3 : List UInt8 := [180, 0, 185, 42, 180, 2, 45, 27, 79, 42, 180, 0, 188, 42, 180, 2, 45, 28, 79, 42, 180, 0, 191, 42]
abbrev dktX4_job_3 : List UInt8 := dkwX4_job_3 ++ dktX4_job_4
def dkwX4_job_2 : List UInt8 := [42, 8, 182, 0, 252, 172, 42, 180, 2, 45, 16, 7, 160, 0, 10, 42, 16, 7, 182, 0, 252, 172, 42]
abbrev dktX4_job_2 : List UInt8 := dkwX4_job_2 ++ dktX4_job_3
def dkwX4_job_1 : List UInt8 := [28, 133, 10, 20, 0, 250, 184, 0, 239, 153, 0, 15, 29, 133, 10, 20, 1, 32, 184, 0, 239, 154, 0, 9]
abbrev dktX4_job_1 : List UInt8 := dkwX4_job_1 ++ dktX4_job_2
def dkwX4_job_0 : List UInt8 := [42, 3, 181, 0, 212, 42, 3, 181, 0, 215, 27, 133, 20, 0, 246, 20, 0, 248, 184, 0, 239, 153, 0, 27]
abbrev dktX4_job_0 : List UInt8 := dkwX4_job_0 ++ dktX4_job_1
theorem dksX4_job_0 : cX4_job.data.toList.drop 0 = dktX4_job_0 := by decide +kernel
theorem dksX4_job_1 : cX4_job.data.toList.drop 24 = dktX4_job_1 := dk_seg dksX4_job_0 24 rfl rfl
theorem dksX4_job_2 : cX4_job.data.toList.drop 48 = dktX4_job_2 := dk_seg dksX4_job_1 24 rfl rfl
theorem dksX4_job_3 : cX4_job.data.toList.drop 71 = dktX4_job_3 := dk_seg dksX4_job_2 23 rfl rfl
theorem dksX4_job_4 : cX4_job.data.toList.drop 95 = dktX4_job_4 := dk_seg dksX4_job_3 24 rfl rfl
theorem dX4_job_0 : decode cX4_job 0 = .ok (.aload_n 0, 1) := dk_42 (dk_at dksX4_job_0 0 rfl rfl)
theorem dX4_job_1 : decode cX4_job 1 = .ok (.iconst 0, 1) := dk_3 (dk_at dksX4_job_0 1 rfl rfl)
theorem dX4_job_2 : decode cX4_job 2 = .ok (.putfield 212, 3) := dk_181 0 212 (dk_at dksX4_job_0 2 rfl rfl)
theorem dX4_job_5 : decode cX4_job 5 = .ok (.aload_n 0, 1) := dk_42 (dk_at dksX4_job_0 5 rfl rfl)
theorem dX4_job_6 : decode cX4_job 6 = .ok (.iconst 0, 1) := dk_3 (dk_at dksX4_job_0 6 rfl rfl)
theorem dX4_job_7 : decode cX4_job 7 = .ok (.putfield 215, 3) := dk_181 0 215 (dk_at dksX4_job_0 7 rfl rfl)
theorem dX4_job_10 : decode cX4_job 10 = .ok (.iload_n 1, 1) := dk_27 (dk_at dksX4_job_0 10 rfl rfl)
theorem dX4_job_11 : decode cX4_job 11 = .ok (.i2l, 1) := dk_133 (dk_at dksX4_job_0 11 rfl rfl)
theorem dX4_job_12 : decode cX4_job 12 = .ok (.ldc2_w 246, 3) := dk_20 0 246 (dk_at dksX4_job_0 12 rfl rfl)
theorem dX4_job_15 : decode cX4_job 15 = .ok (.ldc2_w 248, 3) := dk_20 0 248 (dk_at dksX4_job_0 15 rfl rfl)
theorem dX4_job_18 : decode cX4_job 18 = .ok (.invokestatic 239, 3) := dk_184 0 239 (dk_at dksX4_job_0 18 rfl rfl)
theorem dX4_job_21 : decode cX4_job 21 = .ok (.ifCond .eq 27, 3) := dk_153 0 27 (dk_at dksX4_job_0 21 rfl rfl)
theorem dX4_job_24 : decode cX4_job 24 = .ok (.iload_n 2, 1) := dk_28 (dk_at dksX4_job_1 0 rfl rfl)
theorem dX4_job_25 : decode cX4_job 25 = .ok (.i2l, 1) := dk_133 (dk_at dksX4_job_1 1 rfl rfl)
theorem dX4_job_26 : decode cX4_job 26 = .ok (.lconst 1, 1) := dk_10 (dk_at dksX4_job_1 2 rfl rfl)
theorem dX4_job_27 : decode cX4_job 27 = .ok (.ldc2_w 250, 3) := dk_20 0 250 (dk_at dksX4_job_1 3 rfl rfl)
theorem dX4_job_30 : decode cX4_job 30 = .ok (.invokestatic 239, 3) := dk_184 0 239 (dk_at dksX4_job_1 6 rfl rfl)
theorem dX4_job_33 : decode cX4_job 33 = .ok (.ifCond .eq 15, 3) := dk_153 0 15 (dk_at dksX4_job_1 9 rfl rfl)
theorem dX4_job_36 : decode cX4_job 36 = .ok (.iload_n 3, 1) := dk_29 (dk_at dksX4_job_1 12 rfl rfl)
theorem dX4_job_37 : decode cX4_job 37 = .ok (.i2l, 1) := dk_133 (dk_at dksX4_job_1 13 rfl rfl)
theorem dX4_job_38 : decode cX4_job 38 = .ok (.lconst 1, 1) := dk_10 (dk_at dksX4_job_1 14 rfl rfl)
theorem dX4_job_39 : decode cX4_job 39 = .ok (.ldc2_w 288, 3) := dk_20 1 32 (dk_at dksX4_job_1 15 rfl rfl)
theorem dX4_job_42 : decode cX4_job 42 = .ok (.invokestatic 239, 3) := dk_184 0 239 (dk_at dksX4_job_1 18 rfl rfl)
theorem dX4_job_45 : decode cX4_job 45 = .ok (.ifCond .ne 9, 3) := dk_154 0 9 (dk_at dksX4_job_1 21 rfl rfl)
theorem dX4_job_48 : decode cX4_job 48 = .ok (.aload_n 0, 1) := dk_42 (dk_at dksX4_job_2 0 rfl rfl)
theorem dX4_job_49 : decode cX4_job 49 = .ok (.iconst 5, 1) := dk_8 (dk_at dksX4_job_2 1 rfl rfl)
theorem dX4_job_50 : decode cX4_job 50 = .ok (.invokevirtual 252, 3) := dk_182 0 252 (dk_at dksX4_job_2 2 rfl rfl)
theorem dX4_job_53 : decode cX4_job 53 = .ok (.ireturn, 1) := dk_172 (dk_at dksX4_job_2 5 rfl rfl)
theorem dX4_job_54 : decode cX4_job 54 = .ok (.aload_n 0, 1) := dk_42 (dk_at dksX4_job_2 6 rfl rfl)
theorem dX4_job_55 : decode cX4_job 55 = .ok (.getfield 557, 3) := dk_180 2 45 (dk_at dksX4_job_2 7 rfl rfl)
theorem dX4_job_58 : decode cX4_job 58 = .ok (.bipush 7, 2) := dk_16 7 (dk_at dksX4_job_2 10 rfl rfl)
theorem dX4_job_60 : decode cX4_job 60 = .ok (.if_icmp .ne 10, 3) := dk_160 0 10 (dk_at dksX4_job_2 12 rfl rfl)
theorem dX4_job_63 : decode cX4_job 63 = .ok (.aload_n 0, 1) := dk_42 (dk_at dksX4_job_2 15 rfl rfl)
theorem dX4_job_64 : decode cX4_job 64 = .ok (.bipush 7, 2) := dk_16 7 (dk_at dksX4_job_2 16 rfl rfl)
theorem dX4_job_66 : decode cX4_job 66 = .ok (.invokevirtual 252, 3) := dk_182 0 252 (dk_at dksX4_job_2 18 rfl rfl)
theorem dX4_job_69 : decode cX4_job 69 = .ok (.ireturn, 1) := dk_172 (dk_at dksX4_job_2 21 rfl rfl)
theorem dX4_job_70 : decode cX4_job 70 = .ok (.aload_n 0, 1) := dk_42 (dk_at dksX4_job_2 22 rfl rfl)
theorem dX4_job_71 : decode cX4_job 71 = .ok (.getfield 185, 3) := dk_180 0 185 (dk_at dksX4_job_3 0 rfl rfl)
theorem dX4_job_74 : decode cX4_job 74 = .ok (.aload_n 0, 1) := dk_42 (dk_at dksX4_job_3 3 rfl rfl)
theorem dX4_job_75 : decode cX4_job 75 = .ok (.getfield 557, 3) := dk_180 2 45 (dk_at dksX4_job_3 4 rfl rfl)
theorem dX4_job_78 : decode cX4_job 78 = .ok (.iload_n 1, 1) := dk_27 (dk_at dksX4_job_3 7 rfl rfl)
theorem dX4_job_79 : decode cX4_job 79 = .ok (.iastore, 1) := dk_79 (dk_at dksX4_job_3 8 rfl rfl)
theorem dX4_job_80 : decode cX4_job 80 = .ok (.aload_n 0, 1) := dk_42 (dk_at dksX4_job_3 9 rfl rfl)
theorem dX4_job_81 : decode cX4_job 81 = .ok (.getfield 188, 3) := dk_180 0 188 (dk_at dksX4_job_3 10 rfl rfl)
theorem dX4_job_84 : decode cX4_job 84 = .ok (.aload_n 0, 1) := dk_42 (dk_at dksX4_job_3 13 rfl rfl)
theorem dX4_job_85 : decode cX4_job 85 = .ok (.getfield 557, 3) := dk_180 2 45 (dk_at dksX4_job_3 14 rfl rfl)
theorem dX4_job_88 : decode cX4_job 88 = .ok (.iload_n 2, 1) := dk_28 (dk_at dksX4_job_3 17 rfl rfl)
theorem dX4_job_89 : decode cX4_job 89 = .ok (.iastore, 1) := dk_79 (dk_at dksX4_job_3 18 rfl rfl)
theorem dX4_job_90 : decode cX4_job 90 = .ok (.aload_n 0, 1) := dk_42 (dk_at dksX4_job_3 19 rfl rfl)
theorem dX4_job_91 : decode cX4_job 91 = .ok (.getfield 191, 3) := dk_180 0 191 (dk_at dksX4_job_3 20 rfl rfl)
theorem dX4_job_94 : decode cX4_job 94 = .ok (.aload_n 0, 1) := dk_42 (dk_at dksX4_job_3 23 rfl rfl)
theorem dX4_job_95 : decode cX4_job 95 = .ok (.getfield 557, 3) := dk_180 2 45 (dk_at dksX4_job_4 0 rfl rfl)
theorem dX4_job_98 : decode cX4_job 98 = .ok (.iload_n 3, 1) := dk_29 (dk_at dksX4_job_4 3 rfl rfl)
theorem dX4_job_99 : decode cX4_job 99 = .ok (.iastore, 1) := dk_79 (dk_at dksX4_job_4 4 rfl rfl)
theorem dX4_job_100 : decode cX4_job 100 = .ok (.aload_n 0, 1) := dk_42 (dk_at dksX4_job_4 5 rfl rfl)
theorem dX4_job_101 : decode cX4_job 101 = .ok (.dup, 1) := dk_89 (dk_at dksX4_job_4 6 rfl rfl)
theorem dX4_job_102 : decode cX4_job 102 = .ok (.getfield 557, 3) := dk_180 2 45 (dk_at dksX4_job_4 7 rfl rfl)
theorem dX4_job_105 : decode cX4_job 105 = .ok (.iconst 1, 1) := dk_4 (dk_at dksX4_job_4 10 rfl rfl)
theorem dX4_job_106 : decode cX4_job 106 = .ok (.iadd, 1) := dk_96 (dk_at dksX4_job_4 11 rfl rfl)
theorem dX4_job_107 : decode cX4_job 107 = .ok (.putfield 557, 3) := dk_181 2 45 (dk_at dksX4_job_4 12 rfl rfl)
theorem dX4_job_110 : decode cX4_job 110 = .ok (.aload_n 0, 1) := dk_42 (dk_at dksX4_job_4 15 rfl rfl)
theorem dX4_job_111 : decode cX4_job 111 = .ok (.getfield 557, 3) := dk_180 2 45 (dk_at dksX4_job_4 16 rfl rfl)
theorem dX4_job_114 : decode cX4_job 114 = .ok (.iconst 1, 1) := dk_4 (dk_at dksX4_job_4 19 rfl rfl)
theorem dX4_job_115 : decode cX4_job 115 = .ok (.isub, 1) := dk_100 (dk_at dksX4_job_4 20 rfl rfl)
theorem dX4_job_116 : decode cX4_job 116 = .ok (.ireturn, 1) := dk_172 (dk_at dksX4_job_4 21 rfl rfl)
abbrev cX4_part : ByteArray := prog_9_method_94_code
def yX4_part : MethodName := ⟨RX4, "part", "()I"⟩
def dkwX4_part_1 : List UInt8 := [182, 0, 252, 167, 0, 4, 27, 172]
abbrev dktX4_part_1 : List UInt8 := dkwX4_part_1 ++ []
def dkwX4_part_0 : List UInt8 := [42, 3, 181, 0, 212, 42, 3, 181, 0, 215, 42, 182, 2, 54, 60, 27, 156, 0, 12, 42, 16, 9]
abbrev dktX4_part_0 : List UInt8 := dkwX4_part_0 ++ dktX4_part_1
theorem dksX4_part_0 : cX4_part.data.toList.drop 0 = dktX4_part_0 := by decide +kernel
theorem dksX4_part_1 : cX4_part.data.toList.drop 22 = dktX4_part_1 := dk_seg dksX4_part_0 22 rfl rfl
theorem dX4_part_0 : decode cX4_part 0 = .ok (.aload_n 0, 1) := dk_42 (dk_at dksX4_part_0 0 rfl rfl)
theorem dX4_part_1 : decode cX4_part 1 = .ok (.iconst 0, 1) := dk_3 (dk_at dksX4_part_0 1 rfl rfl)
theorem dX4_part_2 : decode cX4_part 2 = .ok (.putfield 212, 3) := dk_181 0 212 (dk_at dksX4_part_0 2 rfl rfl)
theorem dX4_part_5 : decode cX4_part 5 = .ok (.aload_n 0, 1) := dk_42 (dk_at dksX4_part_0 5 rfl rfl)
theorem dX4_part_6 : decode cX4_part 6 = .ok (.iconst 0, 1) := dk_3 (dk_at dksX4_part_0 6 rfl rfl)
theorem dX4_part_7 : decode cX4_part 7 = .ok (.putfield 215, 3) := dk_181 0 215 (dk_at dksX4_part_0 7 rfl rfl)
theorem dX4_part_10 : decode cX4_part 10 = .ok (.aload_n 0, 1) := dk_42 (dk_at dksX4_part_0 10 rfl rfl)
theorem dX4_part_11 : decode cX4_part 11 = .ok (.invokevirtual 566, 3) := dk_182 2 54 (dk_at dksX4_part_0 11 rfl rfl)
theorem dX4_part_14 : decode cX4_part 14 = .ok (.istore_n 1, 1) := dk_60 (dk_at dksX4_part_0 14 rfl rfl)
theorem dX4_part_15 : decode cX4_part 15 = .ok (.iload_n 1, 1) := dk_27 (dk_at dksX4_part_0 15 rfl rfl)
theorem dX4_part_16 : decode cX4_part 16 = .ok (.ifCond .ge 12, 3) := dk_156 0 12 (dk_at dksX4_part_0 16 rfl rfl)
theorem dX4_part_19 : decode cX4_part 19 = .ok (.aload_n 0, 1) := dk_42 (dk_at dksX4_part_0 19 rfl rfl)
theorem dX4_part_20 : decode cX4_part 20 = .ok (.bipush 9, 2) := dk_16 9 (dk_at dksX4_part_0 20 rfl rfl)
theorem dX4_part_22 : decode cX4_part 22 = .ok (.invokevirtual 252, 3) := dk_182 0 252 (dk_at dksX4_part_1 0 rfl rfl)
theorem dX4_part_25 : decode cX4_part 25 = .ok (.goto 4, 3) := dk_167 0 4 (dk_at dksX4_part_1 3 rfl rfl)
theorem dX4_part_28 : decode cX4_part 28 = .ok (.iload_n 1, 1) := dk_27 (dk_at dksX4_part_1 6 rfl rfl)
theorem dX4_part_29 : decode cX4_part 29 = .ok (.ireturn, 1) := dk_172 (dk_at dksX4_part_1 7 rfl rfl)
abbrev cX4_parts : ByteArray := prog_9_method_92_code
def yX4_parts : MethodName := ⟨RX4, "parts", "()I"⟩
def dkwX4_parts_6 : List UInt8 := [132, 3, 1, 167, 255, 144, 28, 172]
abbrev dktX4_parts_6 : List UInt8 := dkwX4_parts_6 ++ []
def dkwX4_parts_5 : List UInt8 := [162, 0, 23, 42, 180, 0, 194, 21, 6, 42, 180, 0, 197, 21, 6, 46, 79, 132, 6, 1, 167, 255, 230]
abbrev dktX4_parts_5 : List UInt8 := dkwX4_parts_5 ++ dktX4_parts_6
def dkwX4_parts_4 : List UInt8 := [155, 0, 12, 21, 5, 28, 161, 0, 6, 167, 0, 38, 21, 5, 61, 3, 54, 6, 21, 6, 42, 180, 2, 45]
abbrev dktX4_parts_4 : List UInt8 := dkwX4_parts_4 ++ dktX4_parts_5
def dkwX4_parts_3 : List UInt8 := [180, 0, 236, 108, 54, 4, 132, 5, 255, 167, 255, 225, 42, 182, 2, 48, 54, 5, 21, 5, 155, 0, 51, 28]
abbrev dktX4_parts_3 : List UInt8 := dkwX4_parts_3 ++ dktX4_parts_4
def dkwX4_parts_2 : List UInt8 := [21, 5, 155, 0, 32, 42, 180, 0, 197, 21, 5, 21, 4, 42, 180, 0, 236, 112, 79, 21, 4, 42]
abbrev dktX4_parts_2 : List UInt8 := dkwX4_parts_2 ++ dktX4_parts_3
def dkwX4_parts_1 : List UInt8 := [167, 255, 238, 2, 61, 3, 62, 29, 27, 162, 0, 113, 29, 54, 4, 42, 180, 2, 45, 4, 100, 54, 5]
abbrev dktX4_parts_1 : List UInt8 := dkwX4_parts_1 ++ dktX4_parts_2
def dkwX4_parts_0 : List UInt8 := [4, 60, 3, 61, 28, 42, 180, 2, 45, 162, 0, 16, 27, 42, 180, 0, 236, 104, 60, 132, 2, 1]
abbrev dktX4_parts_0 : List UInt8 := dkwX4_parts_0 ++ dktX4_parts_1
theorem dksX4_parts_0 : cX4_parts.data.toList.drop 0 = dktX4_parts_0 := by decide +kernel
theorem dksX4_parts_1 : cX4_parts.data.toList.drop 22 = dktX4_parts_1 := dk_seg dksX4_parts_0 22 rfl rfl
theorem dksX4_parts_2 : cX4_parts.data.toList.drop 45 = dktX4_parts_2 := dk_seg dksX4_parts_1 23 rfl rfl
theorem dksX4_parts_3 : cX4_parts.data.toList.drop 67 = dktX4_parts_3 := dk_seg dksX4_parts_2 22 rfl rfl
theorem dksX4_parts_4 : cX4_parts.data.toList.drop 91 = dktX4_parts_4 := dk_seg dksX4_parts_3 24 rfl rfl
theorem dksX4_parts_5 : cX4_parts.data.toList.drop 115 = dktX4_parts_5 := dk_seg dksX4_parts_4 24 rfl rfl
theorem dksX4_parts_6 : cX4_parts.data.toList.drop 138 = dktX4_parts_6 := dk_seg dksX4_parts_5 23 rfl rfl
theorem dX4_parts_0 : decode cX4_parts 0 = .ok (.iconst 1, 1) := dk_4 (dk_at dksX4_parts_0 0 rfl rfl)
theorem dX4_parts_1 : decode cX4_parts 1 = .ok (.istore_n 1, 1) := dk_60 (dk_at dksX4_parts_0 1 rfl rfl)
theorem dX4_parts_2 : decode cX4_parts 2 = .ok (.iconst 0, 1) := dk_3 (dk_at dksX4_parts_0 2 rfl rfl)
theorem dX4_parts_3 : decode cX4_parts 3 = .ok (.istore_n 2, 1) := dk_61 (dk_at dksX4_parts_0 3 rfl rfl)
theorem dX4_parts_4 : decode cX4_parts 4 = .ok (.iload_n 2, 1) := dk_28 (dk_at dksX4_parts_0 4 rfl rfl)
theorem dX4_parts_5 : decode cX4_parts 5 = .ok (.aload_n 0, 1) := dk_42 (dk_at dksX4_parts_0 5 rfl rfl)
theorem dX4_parts_6 : decode cX4_parts 6 = .ok (.getfield 557, 3) := dk_180 2 45 (dk_at dksX4_parts_0 6 rfl rfl)
theorem dX4_parts_9 : decode cX4_parts 9 = .ok (.if_icmp .ge 16, 3) := dk_162 0 16 (dk_at dksX4_parts_0 9 rfl rfl)
theorem dX4_parts_12 : decode cX4_parts 12 = .ok (.iload_n 1, 1) := dk_27 (dk_at dksX4_parts_0 12 rfl rfl)
theorem dX4_parts_13 : decode cX4_parts 13 = .ok (.aload_n 0, 1) := dk_42 (dk_at dksX4_parts_0 13 rfl rfl)
theorem dX4_parts_14 : decode cX4_parts 14 = .ok (.getfield 236, 3) := dk_180 0 236 (dk_at dksX4_parts_0 14 rfl rfl)
theorem dX4_parts_17 : decode cX4_parts 17 = .ok (.imul, 1) := dk_104 (dk_at dksX4_parts_0 17 rfl rfl)
theorem dX4_parts_18 : decode cX4_parts 18 = .ok (.istore_n 1, 1) := dk_60 (dk_at dksX4_parts_0 18 rfl rfl)
theorem dX4_parts_19 : decode cX4_parts 19 = .ok (.iinc 2 1, 3) := dk_132 2 1 (dk_at dksX4_parts_0 19 rfl rfl)
theorem dX4_parts_22 : decode cX4_parts 22 = .ok (.goto (-18), 3) := dk_167 255 238 (dk_at dksX4_parts_1 0 rfl rfl)
theorem dX4_parts_25 : decode cX4_parts 25 = .ok (.iconst (-1), 1) := dk_2 (dk_at dksX4_parts_1 3 rfl rfl)
theorem dX4_parts_26 : decode cX4_parts 26 = .ok (.istore_n 2, 1) := dk_61 (dk_at dksX4_parts_1 4 rfl rfl)
theorem dX4_parts_27 : decode cX4_parts 27 = .ok (.iconst 0, 1) := dk_3 (dk_at dksX4_parts_1 5 rfl rfl)
theorem dX4_parts_28 : decode cX4_parts 28 = .ok (.istore_n 3, 1) := dk_62 (dk_at dksX4_parts_1 6 rfl rfl)
theorem dX4_parts_29 : decode cX4_parts 29 = .ok (.iload_n 3, 1) := dk_29 (dk_at dksX4_parts_1 7 rfl rfl)
theorem dX4_parts_30 : decode cX4_parts 30 = .ok (.iload_n 1, 1) := dk_27 (dk_at dksX4_parts_1 8 rfl rfl)
theorem dX4_parts_31 : decode cX4_parts 31 = .ok (.if_icmp .ge 113, 3) := dk_162 0 113 (dk_at dksX4_parts_1 9 rfl rfl)
theorem dX4_parts_34 : decode cX4_parts 34 = .ok (.iload_n 3, 1) := dk_29 (dk_at dksX4_parts_1 12 rfl rfl)
theorem dX4_parts_35 : decode cX4_parts 35 = .ok (.istore 4, 2) := dk_54 4 (dk_at dksX4_parts_1 13 rfl rfl)
theorem dX4_parts_37 : decode cX4_parts 37 = .ok (.aload_n 0, 1) := dk_42 (dk_at dksX4_parts_1 15 rfl rfl)
theorem dX4_parts_38 : decode cX4_parts 38 = .ok (.getfield 557, 3) := dk_180 2 45 (dk_at dksX4_parts_1 16 rfl rfl)
theorem dX4_parts_41 : decode cX4_parts 41 = .ok (.iconst 1, 1) := dk_4 (dk_at dksX4_parts_1 19 rfl rfl)
theorem dX4_parts_42 : decode cX4_parts 42 = .ok (.isub, 1) := dk_100 (dk_at dksX4_parts_1 20 rfl rfl)
theorem dX4_parts_43 : decode cX4_parts 43 = .ok (.istore 5, 2) := dk_54 5 (dk_at dksX4_parts_1 21 rfl rfl)
theorem dX4_parts_45 : decode cX4_parts 45 = .ok (.iload 5, 2) := dk_21 5 (dk_at dksX4_parts_2 0 rfl rfl)
theorem dX4_parts_47 : decode cX4_parts 47 = .ok (.ifCond .lt 32, 3) := dk_155 0 32 (dk_at dksX4_parts_2 2 rfl rfl)
theorem dX4_parts_50 : decode cX4_parts 50 = .ok (.aload_n 0, 1) := dk_42 (dk_at dksX4_parts_2 5 rfl rfl)
theorem dX4_parts_51 : decode cX4_parts 51 = .ok (.getfield 197, 3) := dk_180 0 197 (dk_at dksX4_parts_2 6 rfl rfl)
theorem dX4_parts_54 : decode cX4_parts 54 = .ok (.iload 5, 2) := dk_21 5 (dk_at dksX4_parts_2 9 rfl rfl)
theorem dX4_parts_56 : decode cX4_parts 56 = .ok (.iload 4, 2) := dk_21 4 (dk_at dksX4_parts_2 11 rfl rfl)
theorem dX4_parts_58 : decode cX4_parts 58 = .ok (.aload_n 0, 1) := dk_42 (dk_at dksX4_parts_2 13 rfl rfl)
theorem dX4_parts_59 : decode cX4_parts 59 = .ok (.getfield 236, 3) := dk_180 0 236 (dk_at dksX4_parts_2 14 rfl rfl)
theorem dX4_parts_62 : decode cX4_parts 62 = .ok (.irem, 1) := dk_112 (dk_at dksX4_parts_2 17 rfl rfl)
theorem dX4_parts_63 : decode cX4_parts 63 = .ok (.iastore, 1) := dk_79 (dk_at dksX4_parts_2 18 rfl rfl)
theorem dX4_parts_64 : decode cX4_parts 64 = .ok (.iload 4, 2) := dk_21 4 (dk_at dksX4_parts_2 19 rfl rfl)
theorem dX4_parts_66 : decode cX4_parts 66 = .ok (.aload_n 0, 1) := dk_42 (dk_at dksX4_parts_2 21 rfl rfl)
theorem dX4_parts_67 : decode cX4_parts 67 = .ok (.getfield 236, 3) := dk_180 0 236 (dk_at dksX4_parts_3 0 rfl rfl)
theorem dX4_parts_70 : decode cX4_parts 70 = .ok (.idiv, 1) := dk_108 (dk_at dksX4_parts_3 3 rfl rfl)
theorem dX4_parts_71 : decode cX4_parts 71 = .ok (.istore 4, 2) := dk_54 4 (dk_at dksX4_parts_3 4 rfl rfl)
theorem dX4_parts_73 : decode cX4_parts 73 = .ok (.iinc 5 (-1), 3) := dk_132 5 255 (dk_at dksX4_parts_3 6 rfl rfl)
theorem dX4_parts_76 : decode cX4_parts 76 = .ok (.goto (-31), 3) := dk_167 255 225 (dk_at dksX4_parts_3 9 rfl rfl)
theorem dX4_parts_79 : decode cX4_parts 79 = .ok (.aload_n 0, 1) := dk_42 (dk_at dksX4_parts_3 12 rfl rfl)
theorem dX4_parts_80 : decode cX4_parts 80 = .ok (.invokevirtual 560, 3) := dk_182 2 48 (dk_at dksX4_parts_3 13 rfl rfl)
theorem dX4_parts_83 : decode cX4_parts 83 = .ok (.istore 5, 2) := dk_54 5 (dk_at dksX4_parts_3 16 rfl rfl)
theorem dX4_parts_85 : decode cX4_parts 85 = .ok (.iload 5, 2) := dk_21 5 (dk_at dksX4_parts_3 18 rfl rfl)
theorem dX4_parts_87 : decode cX4_parts 87 = .ok (.ifCond .lt 51, 3) := dk_155 0 51 (dk_at dksX4_parts_3 20 rfl rfl)
theorem dX4_parts_90 : decode cX4_parts 90 = .ok (.iload_n 2, 1) := dk_28 (dk_at dksX4_parts_3 23 rfl rfl)
theorem dX4_parts_91 : decode cX4_parts 91 = .ok (.ifCond .lt 12, 3) := dk_155 0 12 (dk_at dksX4_parts_4 0 rfl rfl)
theorem dX4_parts_94 : decode cX4_parts 94 = .ok (.iload 5, 2) := dk_21 5 (dk_at dksX4_parts_4 3 rfl rfl)
theorem dX4_parts_96 : decode cX4_parts 96 = .ok (.iload_n 2, 1) := dk_28 (dk_at dksX4_parts_4 5 rfl rfl)
theorem dX4_parts_97 : decode cX4_parts 97 = .ok (.if_icmp .lt 6, 3) := dk_161 0 6 (dk_at dksX4_parts_4 6 rfl rfl)
theorem dX4_parts_100 : decode cX4_parts 100 = .ok (.goto 38, 3) := dk_167 0 38 (dk_at dksX4_parts_4 9 rfl rfl)
theorem dX4_parts_103 : decode cX4_parts 103 = .ok (.iload 5, 2) := dk_21 5 (dk_at dksX4_parts_4 12 rfl rfl)
theorem dX4_parts_105 : decode cX4_parts 105 = .ok (.istore_n 2, 1) := dk_61 (dk_at dksX4_parts_4 14 rfl rfl)
theorem dX4_parts_106 : decode cX4_parts 106 = .ok (.iconst 0, 1) := dk_3 (dk_at dksX4_parts_4 15 rfl rfl)
theorem dX4_parts_107 : decode cX4_parts 107 = .ok (.istore 6, 2) := dk_54 6 (dk_at dksX4_parts_4 16 rfl rfl)
theorem dX4_parts_109 : decode cX4_parts 109 = .ok (.iload 6, 2) := dk_21 6 (dk_at dksX4_parts_4 18 rfl rfl)
theorem dX4_parts_111 : decode cX4_parts 111 = .ok (.aload_n 0, 1) := dk_42 (dk_at dksX4_parts_4 20 rfl rfl)
theorem dX4_parts_112 : decode cX4_parts 112 = .ok (.getfield 557, 3) := dk_180 2 45 (dk_at dksX4_parts_4 21 rfl rfl)
theorem dX4_parts_115 : decode cX4_parts 115 = .ok (.if_icmp .ge 23, 3) := dk_162 0 23 (dk_at dksX4_parts_5 0 rfl rfl)
theorem dX4_parts_118 : decode cX4_parts 118 = .ok (.aload_n 0, 1) := dk_42 (dk_at dksX4_parts_5 3 rfl rfl)
theorem dX4_parts_119 : decode cX4_parts 119 = .ok (.getfield 194, 3) := dk_180 0 194 (dk_at dksX4_parts_5 4 rfl rfl)
theorem dX4_parts_122 : decode cX4_parts 122 = .ok (.iload 6, 2) := dk_21 6 (dk_at dksX4_parts_5 7 rfl rfl)
theorem dX4_parts_124 : decode cX4_parts 124 = .ok (.aload_n 0, 1) := dk_42 (dk_at dksX4_parts_5 9 rfl rfl)
theorem dX4_parts_125 : decode cX4_parts 125 = .ok (.getfield 197, 3) := dk_180 0 197 (dk_at dksX4_parts_5 10 rfl rfl)
theorem dX4_parts_128 : decode cX4_parts 128 = .ok (.iload 6, 2) := dk_21 6 (dk_at dksX4_parts_5 13 rfl rfl)
theorem dX4_parts_130 : decode cX4_parts 130 = .ok (.iaload, 1) := dk_46 (dk_at dksX4_parts_5 15 rfl rfl)
theorem dX4_parts_131 : decode cX4_parts 131 = .ok (.iastore, 1) := dk_79 (dk_at dksX4_parts_5 16 rfl rfl)
theorem dX4_parts_132 : decode cX4_parts 132 = .ok (.iinc 6 1, 3) := dk_132 6 1 (dk_at dksX4_parts_5 17 rfl rfl)
theorem dX4_parts_135 : decode cX4_parts 135 = .ok (.goto (-26), 3) := dk_167 255 230 (dk_at dksX4_parts_5 20 rfl rfl)
theorem dX4_parts_138 : decode cX4_parts 138 = .ok (.iinc 3 1, 3) := dk_132 3 1 (dk_at dksX4_parts_6 0 rfl rfl)
theorem dX4_parts_141 : decode cX4_parts 141 = .ok (.goto (-112), 3) := dk_167 255 144 (dk_at dksX4_parts_6 3 rfl rfl)
theorem dX4_parts_144 : decode cX4_parts 144 = .ok (.iload_n 2, 1) := dk_28 (dk_at dksX4_parts_6 6 rfl rfl)
theorem dX4_parts_145 : decode cX4_parts 145 = .ok (.ireturn, 1) := dk_172 (dk_at dksX4_parts_6 7 rfl rfl)
abbrev cX4_mostOf : ByteArray := prog_9_method_93_code
def yX4_mostOf : MethodName := ⟨RX4, "mostOf", "()I"⟩
def dkwX4_mostOf_4 : List UInt8 := [184, 2, 51, 60, 132, 2, 1, 167, 255, 180, 27, 172]
abbrev dktX4_mostOf_4 : List UInt8 := dkwX4_mostOf_4 ++ []
def dkwX4_mostOf_3 : List UInt8 := [2, 172, 42, 180, 0, 200, 29, 92, 46, 42, 180, 0, 191, 28, 46, 96, 79, 27, 42, 180, 0, 200, 29, 46]
abbrev dktX4_mostOf_3 : List UInt8 := dkwX4_mostOf_3 ++ dktX4_mostOf_4
def dkwX4_mostOf_2 : List UInt8 := [42, 180, 0, 185, 28, 46, 161, 0, 18, 42, 180, 0, 23, 29, 46, 42, 180, 0, 188, 28, 46, 162, 0, 5]
abbrev dktX4_mostOf_2 : List UInt8 := dkwX4_mostOf_2 ++ dktX4_mostOf_3
def dkwX4_mostOf_1 : List UInt8 := [60, 3, 61, 28, 42, 180, 2, 45, 162, 0, 74, 42, 180, 0, 197, 28, 46, 62, 42, 180, 0, 20, 29, 46]
abbrev dktX4_mostOf_1 : List UInt8 := dkwX4_mostOf_1 ++ dktX4_mostOf_2
def dkwX4_mostOf_0 : List UInt8 := [3, 60, 27, 42, 180, 0, 236, 162, 0, 16, 42, 180, 0, 200, 27, 3, 79, 132, 1, 1, 167, 255, 238, 3]
abbrev dktX4_mostOf_0 : List UInt8 := dkwX4_mostOf_0 ++ dktX4_mostOf_1
theorem dksX4_mostOf_0 : cX4_mostOf.data.toList.drop 0 = dktX4_mostOf_0 := by decide +kernel
theorem dksX4_mostOf_1 : cX4_mostOf.data.toList.drop 24 = dktX4_mostOf_1 := dk_seg dksX4_mostOf_0 24 rfl rfl
theorem dksX4_mostOf_2 : cX4_mostOf.data.toList.drop 48 = dktX4_mostOf_2 := dk_seg dksX4_mostOf_1 24 rfl rfl
theorem dksX4_mostOf_3 : cX4_mostOf.data.toList.drop 72 = dktX4_mostOf_3 := dk_seg dksX4_mostOf_2 24 rfl rfl
theorem dksX4_mostOf_4 : cX4_mostOf.data.toList.drop 96 = dktX4_mostOf_4 := dk_seg dksX4_mostOf_3 24 rfl rfl
theorem dX4_mostOf_0 : decode cX4_mostOf 0 = .ok (.iconst 0, 1) := dk_3 (dk_at dksX4_mostOf_0 0 rfl rfl)
theorem dX4_mostOf_1 : decode cX4_mostOf 1 = .ok (.istore_n 1, 1) := dk_60 (dk_at dksX4_mostOf_0 1 rfl rfl)
theorem dX4_mostOf_2 : decode cX4_mostOf 2 = .ok (.iload_n 1, 1) := dk_27 (dk_at dksX4_mostOf_0 2 rfl rfl)
theorem dX4_mostOf_3 : decode cX4_mostOf 3 = .ok (.aload_n 0, 1) := dk_42 (dk_at dksX4_mostOf_0 3 rfl rfl)
theorem dX4_mostOf_4 : decode cX4_mostOf 4 = .ok (.getfield 236, 3) := dk_180 0 236 (dk_at dksX4_mostOf_0 4 rfl rfl)
theorem dX4_mostOf_7 : decode cX4_mostOf 7 = .ok (.if_icmp .ge 16, 3) := dk_162 0 16 (dk_at dksX4_mostOf_0 7 rfl rfl)
theorem dX4_mostOf_10 : decode cX4_mostOf 10 = .ok (.aload_n 0, 1) := dk_42 (dk_at dksX4_mostOf_0 10 rfl rfl)
theorem dX4_mostOf_11 : decode cX4_mostOf 11 = .ok (.getfield 200, 3) := dk_180 0 200 (dk_at dksX4_mostOf_0 11 rfl rfl)
theorem dX4_mostOf_14 : decode cX4_mostOf 14 = .ok (.iload_n 1, 1) := dk_27 (dk_at dksX4_mostOf_0 14 rfl rfl)
theorem dX4_mostOf_15 : decode cX4_mostOf 15 = .ok (.iconst 0, 1) := dk_3 (dk_at dksX4_mostOf_0 15 rfl rfl)
theorem dX4_mostOf_16 : decode cX4_mostOf 16 = .ok (.iastore, 1) := dk_79 (dk_at dksX4_mostOf_0 16 rfl rfl)
theorem dX4_mostOf_17 : decode cX4_mostOf 17 = .ok (.iinc 1 1, 3) := dk_132 1 1 (dk_at dksX4_mostOf_0 17 rfl rfl)
theorem dX4_mostOf_20 : decode cX4_mostOf 20 = .ok (.goto (-18), 3) := dk_167 255 238 (dk_at dksX4_mostOf_0 20 rfl rfl)
theorem dX4_mostOf_23 : decode cX4_mostOf 23 = .ok (.iconst 0, 1) := dk_3 (dk_at dksX4_mostOf_0 23 rfl rfl)
theorem dX4_mostOf_24 : decode cX4_mostOf 24 = .ok (.istore_n 1, 1) := dk_60 (dk_at dksX4_mostOf_1 0 rfl rfl)
theorem dX4_mostOf_25 : decode cX4_mostOf 25 = .ok (.iconst 0, 1) := dk_3 (dk_at dksX4_mostOf_1 1 rfl rfl)
theorem dX4_mostOf_26 : decode cX4_mostOf 26 = .ok (.istore_n 2, 1) := dk_61 (dk_at dksX4_mostOf_1 2 rfl rfl)
theorem dX4_mostOf_27 : decode cX4_mostOf 27 = .ok (.iload_n 2, 1) := dk_28 (dk_at dksX4_mostOf_1 3 rfl rfl)
theorem dX4_mostOf_28 : decode cX4_mostOf 28 = .ok (.aload_n 0, 1) := dk_42 (dk_at dksX4_mostOf_1 4 rfl rfl)
theorem dX4_mostOf_29 : decode cX4_mostOf 29 = .ok (.getfield 557, 3) := dk_180 2 45 (dk_at dksX4_mostOf_1 5 rfl rfl)
theorem dX4_mostOf_32 : decode cX4_mostOf 32 = .ok (.if_icmp .ge 74, 3) := dk_162 0 74 (dk_at dksX4_mostOf_1 8 rfl rfl)
theorem dX4_mostOf_35 : decode cX4_mostOf 35 = .ok (.aload_n 0, 1) := dk_42 (dk_at dksX4_mostOf_1 11 rfl rfl)
theorem dX4_mostOf_36 : decode cX4_mostOf 36 = .ok (.getfield 197, 3) := dk_180 0 197 (dk_at dksX4_mostOf_1 12 rfl rfl)
theorem dX4_mostOf_39 : decode cX4_mostOf 39 = .ok (.iload_n 2, 1) := dk_28 (dk_at dksX4_mostOf_1 15 rfl rfl)
theorem dX4_mostOf_40 : decode cX4_mostOf 40 = .ok (.iaload, 1) := dk_46 (dk_at dksX4_mostOf_1 16 rfl rfl)
theorem dX4_mostOf_41 : decode cX4_mostOf 41 = .ok (.istore_n 3, 1) := dk_62 (dk_at dksX4_mostOf_1 17 rfl rfl)
theorem dX4_mostOf_42 : decode cX4_mostOf 42 = .ok (.aload_n 0, 1) := dk_42 (dk_at dksX4_mostOf_1 18 rfl rfl)
theorem dX4_mostOf_43 : decode cX4_mostOf 43 = .ok (.getfield 20, 3) := dk_180 0 20 (dk_at dksX4_mostOf_1 19 rfl rfl)
theorem dX4_mostOf_46 : decode cX4_mostOf 46 = .ok (.iload_n 3, 1) := dk_29 (dk_at dksX4_mostOf_1 22 rfl rfl)
theorem dX4_mostOf_47 : decode cX4_mostOf 47 = .ok (.iaload, 1) := dk_46 (dk_at dksX4_mostOf_1 23 rfl rfl)
theorem dX4_mostOf_48 : decode cX4_mostOf 48 = .ok (.aload_n 0, 1) := dk_42 (dk_at dksX4_mostOf_2 0 rfl rfl)
theorem dX4_mostOf_49 : decode cX4_mostOf 49 = .ok (.getfield 185, 3) := dk_180 0 185 (dk_at dksX4_mostOf_2 1 rfl rfl)
theorem dX4_mostOf_52 : decode cX4_mostOf 52 = .ok (.iload_n 2, 1) := dk_28 (dk_at dksX4_mostOf_2 4 rfl rfl)
theorem dX4_mostOf_53 : decode cX4_mostOf 53 = .ok (.iaload, 1) := dk_46 (dk_at dksX4_mostOf_2 5 rfl rfl)
theorem dX4_mostOf_54 : decode cX4_mostOf 54 = .ok (.if_icmp .lt 18, 3) := dk_161 0 18 (dk_at dksX4_mostOf_2 6 rfl rfl)
theorem dX4_mostOf_57 : decode cX4_mostOf 57 = .ok (.aload_n 0, 1) := dk_42 (dk_at dksX4_mostOf_2 9 rfl rfl)
theorem dX4_mostOf_58 : decode cX4_mostOf 58 = .ok (.getfield 23, 3) := dk_180 0 23 (dk_at dksX4_mostOf_2 10 rfl rfl)
theorem dX4_mostOf_61 : decode cX4_mostOf 61 = .ok (.iload_n 3, 1) := dk_29 (dk_at dksX4_mostOf_2 13 rfl rfl)
theorem dX4_mostOf_62 : decode cX4_mostOf 62 = .ok (.iaload, 1) := dk_46 (dk_at dksX4_mostOf_2 14 rfl rfl)
theorem dX4_mostOf_63 : decode cX4_mostOf 63 = .ok (.aload_n 0, 1) := dk_42 (dk_at dksX4_mostOf_2 15 rfl rfl)
theorem dX4_mostOf_64 : decode cX4_mostOf 64 = .ok (.getfield 188, 3) := dk_180 0 188 (dk_at dksX4_mostOf_2 16 rfl rfl)
theorem dX4_mostOf_67 : decode cX4_mostOf 67 = .ok (.iload_n 2, 1) := dk_28 (dk_at dksX4_mostOf_2 19 rfl rfl)
theorem dX4_mostOf_68 : decode cX4_mostOf 68 = .ok (.iaload, 1) := dk_46 (dk_at dksX4_mostOf_2 20 rfl rfl)
theorem dX4_mostOf_69 : decode cX4_mostOf 69 = .ok (.if_icmp .ge 5, 3) := dk_162 0 5 (dk_at dksX4_mostOf_2 21 rfl rfl)
theorem dX4_mostOf_72 : decode cX4_mostOf 72 = .ok (.iconst (-1), 1) := dk_2 (dk_at dksX4_mostOf_3 0 rfl rfl)
theorem dX4_mostOf_73 : decode cX4_mostOf 73 = .ok (.ireturn, 1) := dk_172 (dk_at dksX4_mostOf_3 1 rfl rfl)
theorem dX4_mostOf_74 : decode cX4_mostOf 74 = .ok (.aload_n 0, 1) := dk_42 (dk_at dksX4_mostOf_3 2 rfl rfl)
theorem dX4_mostOf_75 : decode cX4_mostOf 75 = .ok (.getfield 200, 3) := dk_180 0 200 (dk_at dksX4_mostOf_3 3 rfl rfl)
theorem dX4_mostOf_78 : decode cX4_mostOf 78 = .ok (.iload_n 3, 1) := dk_29 (dk_at dksX4_mostOf_3 6 rfl rfl)
theorem dX4_mostOf_79 : decode cX4_mostOf 79 = .ok (.dup2, 1) := dk_92 (dk_at dksX4_mostOf_3 7 rfl rfl)
theorem dX4_mostOf_80 : decode cX4_mostOf 80 = .ok (.iaload, 1) := dk_46 (dk_at dksX4_mostOf_3 8 rfl rfl)
theorem dX4_mostOf_81 : decode cX4_mostOf 81 = .ok (.aload_n 0, 1) := dk_42 (dk_at dksX4_mostOf_3 9 rfl rfl)
theorem dX4_mostOf_82 : decode cX4_mostOf 82 = .ok (.getfield 191, 3) := dk_180 0 191 (dk_at dksX4_mostOf_3 10 rfl rfl)
theorem dX4_mostOf_85 : decode cX4_mostOf 85 = .ok (.iload_n 2, 1) := dk_28 (dk_at dksX4_mostOf_3 13 rfl rfl)
theorem dX4_mostOf_86 : decode cX4_mostOf 86 = .ok (.iaload, 1) := dk_46 (dk_at dksX4_mostOf_3 14 rfl rfl)
theorem dX4_mostOf_87 : decode cX4_mostOf 87 = .ok (.iadd, 1) := dk_96 (dk_at dksX4_mostOf_3 15 rfl rfl)
theorem dX4_mostOf_88 : decode cX4_mostOf 88 = .ok (.iastore, 1) := dk_79 (dk_at dksX4_mostOf_3 16 rfl rfl)
theorem dX4_mostOf_89 : decode cX4_mostOf 89 = .ok (.iload_n 1, 1) := dk_27 (dk_at dksX4_mostOf_3 17 rfl rfl)
theorem dX4_mostOf_90 : decode cX4_mostOf 90 = .ok (.aload_n 0, 1) := dk_42 (dk_at dksX4_mostOf_3 18 rfl rfl)
theorem dX4_mostOf_91 : decode cX4_mostOf 91 = .ok (.getfield 200, 3) := dk_180 0 200 (dk_at dksX4_mostOf_3 19 rfl rfl)
theorem dX4_mostOf_94 : decode cX4_mostOf 94 = .ok (.iload_n 3, 1) := dk_29 (dk_at dksX4_mostOf_3 22 rfl rfl)
theorem dX4_mostOf_95 : decode cX4_mostOf 95 = .ok (.iaload, 1) := dk_46 (dk_at dksX4_mostOf_3 23 rfl rfl)
theorem dX4_mostOf_96 : decode cX4_mostOf 96 = .ok (.invokestatic 563, 3) := dk_184 2 51 (dk_at dksX4_mostOf_4 0 rfl rfl)
theorem dX4_mostOf_99 : decode cX4_mostOf 99 = .ok (.istore_n 1, 1) := dk_60 (dk_at dksX4_mostOf_4 3 rfl rfl)
theorem dX4_mostOf_100 : decode cX4_mostOf 100 = .ok (.iinc 2 1, 3) := dk_132 2 1 (dk_at dksX4_mostOf_4 4 rfl rfl)
theorem dX4_mostOf_103 : decode cX4_mostOf 103 = .ok (.goto (-76), 3) := dk_167 255 180 (dk_at dksX4_mostOf_4 7 rfl rfl)
theorem dX4_mostOf_106 : decode cX4_mostOf 106 = .ok (.iload_n 1, 1) := dk_27 (dk_at dksX4_mostOf_4 10 rfl rfl)
theorem dX4_mostOf_107 : decode cX4_mostOf 107 = .ok (.ireturn, 1) := dk_172 (dk_at dksX4_mostOf_4 11 rfl rfl)
abbrev cX4_partOf : ByteArray := prog_9_method_95_code
def yX4_partOf : MethodName := ⟨RX4, "partOf", "(I)I"⟩
def dkwX4_partOf_2 : List UInt8 := [167, 0, 9, 42, 180, 0, 194, 27, 46, 172]
abbrev dktX4_partOf_2 : List UInt8 := dkwX4_partOf_2 ++ []
def dkwX4_partOf_1 : List UInt8 := [154, 0, 9, 42, 5, 182, 0, 252, 172, 42, 182, 2, 54, 156, 0, 12, 42, 16, 9, 182, 0, 252]
abbrev dktX4_partOf_1 : List UInt8 := dkwX4_partOf_1 ++ dktX4_partOf_2
def dkwX4_partOf_0 : List UInt8 := [42, 3, 181, 0, 212, 42, 3, 181, 0, 215, 27, 133, 9, 42, 180, 2, 45, 4, 100, 133, 184, 0, 239]
abbrev dktX4_partOf_0 : List UInt8 := dkwX4_partOf_0 ++ dktX4_partOf_1
theorem dksX4_partOf_0 : cX4_partOf.data.toList.drop 0 = dktX4_partOf_0 := by decide +kernel
theorem dksX4_partOf_1 : cX4_partOf.data.toList.drop 23 = dktX4_partOf_1 := dk_seg dksX4_partOf_0 23 rfl rfl
theorem dksX4_partOf_2 : cX4_partOf.data.toList.drop 45 = dktX4_partOf_2 := dk_seg dksX4_partOf_1 22 rfl rfl
theorem dX4_partOf_0 : decode cX4_partOf 0 = .ok (.aload_n 0, 1) := dk_42 (dk_at dksX4_partOf_0 0 rfl rfl)
theorem dX4_partOf_1 : decode cX4_partOf 1 = .ok (.iconst 0, 1) := dk_3 (dk_at dksX4_partOf_0 1 rfl rfl)
theorem dX4_partOf_2 : decode cX4_partOf 2 = .ok (.putfield 212, 3) := dk_181 0 212 (dk_at dksX4_partOf_0 2 rfl rfl)
theorem dX4_partOf_5 : decode cX4_partOf 5 = .ok (.aload_n 0, 1) := dk_42 (dk_at dksX4_partOf_0 5 rfl rfl)
theorem dX4_partOf_6 : decode cX4_partOf 6 = .ok (.iconst 0, 1) := dk_3 (dk_at dksX4_partOf_0 6 rfl rfl)
theorem dX4_partOf_7 : decode cX4_partOf 7 = .ok (.putfield 215, 3) := dk_181 0 215 (dk_at dksX4_partOf_0 7 rfl rfl)
theorem dX4_partOf_10 : decode cX4_partOf 10 = .ok (.iload_n 1, 1) := dk_27 (dk_at dksX4_partOf_0 10 rfl rfl)
theorem dX4_partOf_11 : decode cX4_partOf 11 = .ok (.i2l, 1) := dk_133 (dk_at dksX4_partOf_0 11 rfl rfl)
theorem dX4_partOf_12 : decode cX4_partOf 12 = .ok (.lconst 0, 1) := dk_9 (dk_at dksX4_partOf_0 12 rfl rfl)
theorem dX4_partOf_13 : decode cX4_partOf 13 = .ok (.aload_n 0, 1) := dk_42 (dk_at dksX4_partOf_0 13 rfl rfl)
theorem dX4_partOf_14 : decode cX4_partOf 14 = .ok (.getfield 557, 3) := dk_180 2 45 (dk_at dksX4_partOf_0 14 rfl rfl)
theorem dX4_partOf_17 : decode cX4_partOf 17 = .ok (.iconst 1, 1) := dk_4 (dk_at dksX4_partOf_0 17 rfl rfl)
theorem dX4_partOf_18 : decode cX4_partOf 18 = .ok (.isub, 1) := dk_100 (dk_at dksX4_partOf_0 18 rfl rfl)
theorem dX4_partOf_19 : decode cX4_partOf 19 = .ok (.i2l, 1) := dk_133 (dk_at dksX4_partOf_0 19 rfl rfl)
theorem dX4_partOf_20 : decode cX4_partOf 20 = .ok (.invokestatic 239, 3) := dk_184 0 239 (dk_at dksX4_partOf_0 20 rfl rfl)
theorem dX4_partOf_23 : decode cX4_partOf 23 = .ok (.ifCond .ne 9, 3) := dk_154 0 9 (dk_at dksX4_partOf_1 0 rfl rfl)
theorem dX4_partOf_26 : decode cX4_partOf 26 = .ok (.aload_n 0, 1) := dk_42 (dk_at dksX4_partOf_1 3 rfl rfl)
theorem dX4_partOf_27 : decode cX4_partOf 27 = .ok (.iconst 2, 1) := dk_5 (dk_at dksX4_partOf_1 4 rfl rfl)
theorem dX4_partOf_28 : decode cX4_partOf 28 = .ok (.invokevirtual 252, 3) := dk_182 0 252 (dk_at dksX4_partOf_1 5 rfl rfl)
theorem dX4_partOf_31 : decode cX4_partOf 31 = .ok (.ireturn, 1) := dk_172 (dk_at dksX4_partOf_1 8 rfl rfl)
theorem dX4_partOf_32 : decode cX4_partOf 32 = .ok (.aload_n 0, 1) := dk_42 (dk_at dksX4_partOf_1 9 rfl rfl)
theorem dX4_partOf_33 : decode cX4_partOf 33 = .ok (.invokevirtual 566, 3) := dk_182 2 54 (dk_at dksX4_partOf_1 10 rfl rfl)
theorem dX4_partOf_36 : decode cX4_partOf 36 = .ok (.ifCond .ge 12, 3) := dk_156 0 12 (dk_at dksX4_partOf_1 13 rfl rfl)
theorem dX4_partOf_39 : decode cX4_partOf 39 = .ok (.aload_n 0, 1) := dk_42 (dk_at dksX4_partOf_1 16 rfl rfl)
theorem dX4_partOf_40 : decode cX4_partOf 40 = .ok (.bipush 9, 2) := dk_16 9 (dk_at dksX4_partOf_1 17 rfl rfl)
theorem dX4_partOf_42 : decode cX4_partOf 42 = .ok (.invokevirtual 252, 3) := dk_182 0 252 (dk_at dksX4_partOf_1 19 rfl rfl)
theorem dX4_partOf_45 : decode cX4_partOf 45 = .ok (.goto 9, 3) := dk_167 0 9 (dk_at dksX4_partOf_2 0 rfl rfl)
theorem dX4_partOf_48 : decode cX4_partOf 48 = .ok (.aload_n 0, 1) := dk_42 (dk_at dksX4_partOf_2 3 rfl rfl)
theorem dX4_partOf_49 : decode cX4_partOf 49 = .ok (.getfield 194, 3) := dk_180 0 194 (dk_at dksX4_partOf_2 4 rfl rfl)
theorem dX4_partOf_52 : decode cX4_partOf 52 = .ok (.iload_n 1, 1) := dk_27 (dk_at dksX4_partOf_2 7 rfl rfl)
theorem dX4_partOf_53 : decode cX4_partOf 53 = .ok (.iaload, 1) := dk_46 (dk_at dksX4_partOf_2 8 rfl rfl)
theorem dX4_partOf_54 : decode cX4_partOf 54 = .ok (.ireturn, 1) := dk_172 (dk_at dksX4_partOf_2 9 rfl rfl)
theorem q102 : (Jvm.Cond.initialized "WheelTablesModel") ∈ lw_all := lw_g (lw_at lw_m1 8 rfl) rfl
theorem q1123 : (Jvm.Cond.instantiable "WheelTablesModel" (99 : Nat)) ∈ lw_all := lw_g (lw_at lw_m5 69 rfl) rfl
theorem q1125 : (Jvm.Cond.instanceMethod ({ cls := "WheelTablesModel", name := "<init>", desc := "()V" } : Jvm.MethodName)) ∈ lw_all := lw_g (lw_at lw_m5 71 rfl) rfl
theorem q1126 : (Jvm.Cond.code ({ cls := "WheelTablesModel", name := "<init>", desc := "()V" } : Jvm.MethodName) prog_9_method_1_code (2 : Nat) (Option.none : Option Jvm.ClassFile.FieldType)) ∈ lw_all := lw_g (lw_at lw_m5 72 rfl) rfl
theorem q1127 : (Jvm.Cond.methodLink "WheelTablesModel" (1 : Nat) ({ cls := "java/lang/Object", name := "<init>", desc := "()V" } : Jvm.MethodName)) ∈ lw_all := lw_g (lw_at lw_m5 73 rfl) rfl
theorem q1128 : (Jvm.Cond.fieldLink "WheelTablesModel" (215 : Nat) "WheelTablesModel" "status" "I") ∈ lw_all := lw_g (lw_at lw_m5 74 rfl) rfl
theorem q1129 : (Jvm.Cond.fieldLink "WheelTablesModel" (212 : Nat) "WheelTablesModel" "thrown" "I") ∈ lw_all := lw_g (lw_at lw_m5 75 rfl) rfl
theorem q1130 : (Jvm.Cond.fieldLink "WheelTablesModel" (7 : Nat) "WheelTablesModel" "traySort" "[I") ∈ lw_all := lw_g (lw_at lw_m5 76 rfl) rfl
theorem q1131 : (Jvm.Cond.fieldLink "WheelTablesModel" (13 : Nat) "WheelTablesModel" "trayMany" "[I") ∈ lw_all := lw_g (lw_at lw_m5 77 rfl) rfl
theorem q1132 : (Jvm.Cond.fieldLink "WheelTablesModel" (16 : Nat) "WheelTablesModel" "numbers" "[J") ∈ lw_all := lw_g (lw_at lw_m5 78 rfl) rfl
theorem q1133 : (Jvm.Cond.fieldLink "WheelTablesModel" (236 : Nat) "WheelTablesModel" "engines" "I") ∈ lw_all := lw_g (lw_at lw_m5 79 rfl) rfl
theorem q1134 : (Jvm.Cond.fieldLink "WheelTablesModel" (20 : Nat) "WheelTablesModel" "axes" "[I") ∈ lw_all := lw_g (lw_at lw_m5 80 rfl) rfl
theorem q1135 : (Jvm.Cond.fieldLink "WheelTablesModel" (23 : Nat) "WheelTablesModel" "wheels" "[I") ∈ lw_all := lw_g (lw_at lw_m5 81 rfl) rfl
theorem q1136 : (Jvm.Cond.fieldLink "WheelTablesModel" (26 : Nat) "WheelTablesModel" "turned" "[I") ∈ lw_all := lw_g (lw_at lw_m5 82 rfl) rfl
theorem q1137 : (Jvm.Cond.fieldLink "WheelTablesModel" (29 : Nat) "WheelTablesModel" "radix" "[I") ∈ lw_all := lw_g (lw_at lw_m5 83 rfl) rfl
theorem q1138 : (Jvm.Cond.fieldLink "WheelTablesModel" (32 : Nat) "WheelTablesModel" "figure" "[I") ∈ lw_all := lw_g (lw_at lw_m5 84 rfl) rfl
theorem q1139 : (Jvm.Cond.fieldLink "WheelTablesModel" (35 : Nat) "WheelTablesModel" "copy" "[I") ∈ lw_all := lw_g (lw_at lw_m5 85 rfl) rfl
theorem q1140 : (Jvm.Cond.fieldLink "WheelTablesModel" (38 : Nat) "WheelTablesModel" "mishaps" "[I") ∈ lw_all := lw_g (lw_at lw_m5 86 rfl) rfl
theorem q1141 : (Jvm.Cond.fieldLink "WheelTablesModel" (41 : Nat) "WheelTablesModel" "mishapTurn" "[I") ∈ lw_all := lw_g (lw_at lw_m5 87 rfl) rfl
theorem q1142 : (Jvm.Cond.fieldLink "WheelTablesModel" (44 : Nat) "WheelTablesModel" "mishapAxis" "[I") ∈ lw_all := lw_g (lw_at lw_m5 88 rfl) rfl
theorem q1143 : (Jvm.Cond.fieldLink "WheelTablesModel" (47 : Nat) "WheelTablesModel" "mishapWheel" "[I") ∈ lw_all := lw_g (lw_at lw_m5 89 rfl) rfl
theorem q1144 : (Jvm.Cond.fieldLink "WheelTablesModel" (50 : Nat) "WheelTablesModel" "mishapKind" "[I") ∈ lw_all := lw_g (lw_at lw_m5 90 rfl) rfl
theorem q1145 : (Jvm.Cond.fieldLink "WheelTablesModel" (53 : Nat) "WheelTablesModel" "isWarned" "[Z") ∈ lw_all := lw_g (lw_at lw_m5 91 rfl) rfl
theorem q1146 : (Jvm.Cond.fieldLink "WheelTablesModel" (57 : Nat) "WheelTablesModel" "tryTurn" "I") ∈ lw_all := lw_g (lw_at lw_m5 92 rfl) rfl
theorem q1147 : (Jvm.Cond.fieldLink "WheelTablesModel" (290 : Nat) "WheelTablesModel" "tryAxis" "I") ∈ lw_all := lw_g (lw_at lw_m5 93 rfl) rfl
theorem q1148 : (Jvm.Cond.fieldLink "WheelTablesModel" (293 : Nat) "WheelTablesModel" "tryWheel" "I") ∈ lw_all := lw_g (lw_at lw_m5 94 rfl) rfl
theorem q1149 : (Jvm.Cond.fieldLink "WheelTablesModel" (296 : Nat) "WheelTablesModel" "tryKind" "I") ∈ lw_all := lw_g (lw_at lw_m5 95 rfl) rfl
theorem q1150 : (Jvm.Cond.fieldLink "WheelTablesModel" (61 : Nat) "WheelTablesModel" "causeTurn" "I") ∈ lw_all := lw_g (lw_at lw_m5 96 rfl) rfl
theorem q1151 : (Jvm.Cond.fieldLink "WheelTablesModel" (324 : Nat) "WheelTablesModel" "causeAxis" "I") ∈ lw_all := lw_g (lw_at lw_m5 97 rfl) rfl
theorem q1152 : (Jvm.Cond.fieldLink "WheelTablesModel" (327 : Nat) "WheelTablesModel" "causeWheel" "I") ∈ lw_all := lw_g (lw_at lw_m5 98 rfl) rfl
theorem q1153 : (Jvm.Cond.fieldLink "WheelTablesModel" (330 : Nat) "WheelTablesModel" "causeKind" "I") ∈ lw_all := lw_g (lw_at lw_m5 99 rfl) rfl
theorem q1154 : (Jvm.Cond.fieldLink "WheelTablesModel" (64 : Nat) "WheelTablesModel" "differences" "[J") ∈ lw_all := lw_g (lw_at lw_m5 100 rfl) rfl
theorem q1155 : (Jvm.Cond.fieldLink "WheelTablesModel" (67 : Nat) "WheelTablesModel" "shown" "[J") ∈ lw_all := lw_g (lw_at lw_m5 101 rfl) rfl
theorem q1156 : (Jvm.Cond.fieldLink "WheelTablesModel" (70 : Nat) "WheelTablesModel" "tape" "[B") ∈ lw_all := lw_g (lw_at lw_m5 102 rfl) rfl
theorem q1157 : (Jvm.Cond.fieldLink "WheelTablesModel" (442 : Nat) "WheelTablesModel" "taped" "I") ∈ lw_all := lw_g (lw_at lw_m5 103 rfl) rfl
theorem q1158 : (Jvm.Cond.fieldLink "WheelTablesModel" (363 : Nat) "WheelTablesModel" "textEnd" "I") ∈ lw_all := lw_g (lw_at lw_m5 104 rfl) rfl
theorem q1159 : (Jvm.Cond.fieldLink "WheelTablesModel" (74 : Nat) "WheelTablesModel" "faultKind" "I") ∈ lw_all := lw_g (lw_at lw_m5 105 rfl) rfl
theorem q1160 : (Jvm.Cond.fieldLink "WheelTablesModel" (77 : Nat) "WheelTablesModel" "faultAt" "I") ∈ lw_all := lw_g (lw_at lw_m5 106 rfl) rfl
theorem q1161 : (Jvm.Cond.fieldLink "WheelTablesModel" (400 : Nat) "WheelTablesModel" "bad" "I") ∈ lw_all := lw_g (lw_at lw_m5 107 rfl) rfl
theorem q1162 : (Jvm.Cond.fieldLink "WheelTablesModel" (403 : Nat) "WheelTablesModel" "badAt" "I") ∈ lw_all := lw_g (lw_at lw_m5 108 rfl) rfl
theorem q1163 : (Jvm.Cond.fieldLink "WheelTablesModel" (375 : Nat) "WheelTablesModel" "sort" "I") ∈ lw_all := lw_g (lw_at lw_m5 109 rfl) rfl
theorem q1164 : (Jvm.Cond.fieldLink "WheelTablesModel" (369 : Nat) "WheelTablesModel" "at" "I") ∈ lw_all := lw_g (lw_at lw_m5 110 rfl) rfl
theorem q1165 : (Jvm.Cond.fieldLink "WheelTablesModel" (366 : Nat) "WheelTablesModel" "behind" "I") ∈ lw_all := lw_g (lw_at lw_m5 111 rfl) rfl
theorem q1166 : (Jvm.Cond.fieldLink "WheelTablesModel" (389 : Nat) "WheelTablesModel" "letters" "I") ∈ lw_all := lw_g (lw_at lw_m5 112 rfl) rfl
theorem q1167 : (Jvm.Cond.fieldLink "WheelTablesModel" (381 : Nat) "WheelTablesModel" "word" "J") ∈ lw_all := lw_g (lw_at lw_m5 113 rfl) rfl
theorem q1168 : (Jvm.Cond.fieldLink "WheelTablesModel" (395 : Nat) "WheelTablesModel" "number" "J") ∈ lw_all := lw_g (lw_at lw_m5 114 rfl) rfl
theorem q1169 : (Jvm.Cond.fieldLink "WheelTablesModel" (80 : Nat) "WheelTablesModel" "cardMany" "I") ∈ lw_all := lw_g (lw_at lw_m5 115 rfl) rfl
theorem q1170 : (Jvm.Cond.fieldLink "WheelTablesModel" (427 : Nat) "WheelTablesModel" "newMany" "I") ∈ lw_all := lw_g (lw_at lw_m5 116 rfl) rfl
theorem q1171 : (Jvm.Cond.fieldLink "WheelTablesModel" (83 : Nat) "WheelTablesModel" "kind" "[I") ∈ lw_all := lw_g (lw_at lw_m5 117 rfl) rfl
theorem q1172 : (Jvm.Cond.fieldLink "WheelTablesModel" (86 : Nat) "WheelTablesModel" "a" "[I") ∈ lw_all := lw_g (lw_at lw_m5 118 rfl) rfl
theorem q1173 : (Jvm.Cond.fieldLink "WheelTablesModel" (89 : Nat) "WheelTablesModel" "b" "[I") ∈ lw_all := lw_g (lw_at lw_m5 119 rfl) rfl
theorem q1174 : (Jvm.Cond.fieldLink "WheelTablesModel" (92 : Nat) "WheelTablesModel" "c" "[I") ∈ lw_all := lw_g (lw_at lw_m5 120 rfl) rfl
theorem q1175 : (Jvm.Cond.fieldLink "WheelTablesModel" (95 : Nat) "WheelTablesModel" "d" "[I") ∈ lw_all := lw_g (lw_at lw_m5 121 rfl) rfl
theorem q1176 : (Jvm.Cond.fieldLink "WheelTablesModel" (98 : Nat) "WheelTablesModel" "when" "[I") ∈ lw_all := lw_g (lw_at lw_m5 122 rfl) rfl
theorem q1177 : (Jvm.Cond.fieldLink "WheelTablesModel" (101 : Nat) "WheelTablesModel" "newKind" "[I") ∈ lw_all := lw_g (lw_at lw_m5 123 rfl) rfl
theorem q1178 : (Jvm.Cond.fieldLink "WheelTablesModel" (104 : Nat) "WheelTablesModel" "newA" "[I") ∈ lw_all := lw_g (lw_at lw_m5 124 rfl) rfl
theorem q1179 : (Jvm.Cond.fieldLink "WheelTablesModel" (107 : Nat) "WheelTablesModel" "newB" "[I") ∈ lw_all := lw_g (lw_at lw_m5 125 rfl) rfl
theorem q1180 : (Jvm.Cond.fieldLink "WheelTablesModel" (110 : Nat) "WheelTablesModel" "newC" "[I") ∈ lw_all := lw_g (lw_at lw_m5 126 rfl) rfl
theorem q1181 : (Jvm.Cond.fieldLink "WheelTablesModel" (113 : Nat) "WheelTablesModel" "newD" "[I") ∈ lw_all := lw_g (lw_at lw_m5 127 rfl) rfl
theorem q1182 : (Jvm.Cond.fieldLink "WheelTablesModel" (116 : Nat) "WheelTablesModel" "newWhen" "[I") ∈ lw_all := lw_g (lw_at lw_m5 128 rfl) rfl
theorem q1183 : (Jvm.Cond.fieldLink "WheelTablesModel" (119 : Nat) "WheelTablesModel" "jumpAt" "[I") ∈ lw_all := lw_g (lw_at lw_m5 129 rfl) rfl
theorem q1184 : (Jvm.Cond.fieldLink "WheelTablesModel" (122 : Nat) "WheelTablesModel" "whole" "[J") ∈ lw_all := lw_g (lw_at lw_m5 130 rfl) rfl
theorem q1185 : (Jvm.Cond.fieldLink "WheelTablesModel" (125 : Nat) "WheelTablesModel" "newWhole" "[J") ∈ lw_all := lw_g (lw_at lw_m5 131 rfl) rfl
theorem q1186 : (Jvm.Cond.fieldLink "WheelTablesModel" (128 : Nat) "WheelTablesModel" "places" "[J") ∈ lw_all := lw_g (lw_at lw_m5 132 rfl) rfl
theorem q1187 : (Jvm.Cond.fieldLink "WheelTablesModel" (131 : Nat) "WheelTablesModel" "prints" "[J") ∈ lw_all := lw_g (lw_at lw_m5 133 rfl) rfl
theorem q1188 : (Jvm.Cond.fieldLink "WheelTablesModel" (479 : Nat) "WheelTablesModel" "hasRun" "Z") ∈ lw_all := lw_g (lw_at lw_m5 134 rfl) rfl
theorem q1189 : (Jvm.Cond.fieldLink "WheelTablesModel" (464 : Nat) "WheelTablesModel" "isUp" "Z") ∈ lw_all := lw_g (lw_at lw_m5 135 rfl) rfl
theorem q1190 : (Jvm.Cond.fieldLink "WheelTablesModel" (461 : Nat) "WheelTablesModel" "printMany" "I") ∈ lw_all := lw_g (lw_at lw_m5 136 rfl) rfl
theorem q1191 : (Jvm.Cond.fieldLink "WheelTablesModel" (468 : Nat) "WheelTablesModel" "cranks" "I") ∈ lw_all := lw_g (lw_at lw_m5 137 rfl) rfl
theorem q1192 : (Jvm.Cond.fieldLink "WheelTablesModel" (482 : Nat) "WheelTablesModel" "alarm" "I") ∈ lw_all := lw_g (lw_at lw_m5 138 rfl) rfl
theorem q1193 : (Jvm.Cond.fieldLink "WheelTablesModel" (134 : Nat) "WheelTablesModel" "alarmAt" "I") ∈ lw_all := lw_g (lw_at lw_m5 139 rfl) rfl
theorem q1194 : (Jvm.Cond.fieldLink "WheelTablesModel" (485 : Nat) "WheelTablesModel" "cardsDone" "I") ∈ lw_all := lw_g (lw_at lw_m5 140 rfl) rfl
theorem q1195 : (Jvm.Cond.fieldLink "WheelTablesModel" (137 : Nat) "WheelTablesModel" "least" "[I") ∈ lw_all := lw_g (lw_at lw_m5 141 rfl) rfl
theorem q1196 : (Jvm.Cond.fieldLink "WheelTablesModel" (140 : Nat) "WheelTablesModel" "figureOf" "[I") ∈ lw_all := lw_g (lw_at lw_m5 142 rfl) rfl
theorem q1197 : (Jvm.Cond.fieldLink "WheelTablesModel" (143 : Nat) "WheelTablesModel" "digitsOf" "[I") ∈ lw_all := lw_g (lw_at lw_m5 143 rfl) rfl
theorem q1198 : (Jvm.Cond.fieldLink "WheelTablesModel" (146 : Nat) "WheelTablesModel" "table" "[J") ∈ lw_all := lw_g (lw_at lw_m5 144 rfl) rfl
theorem q1199 : (Jvm.Cond.fieldLink "WheelTablesModel" (149 : Nat) "WheelTablesModel" "left" "[J") ∈ lw_all := lw_g (lw_at lw_m5 145 rfl) rfl
theorem q1200 : (Jvm.Cond.fieldLink "WheelTablesModel" (152 : Nat) "WheelTablesModel" "variants" "[J") ∈ lw_all := lw_g (lw_at lw_m5 146 rfl) rfl
theorem q1201 : (Jvm.Cond.fieldLink "WheelTablesModel" (155 : Nat) "WheelTablesModel" "variantMany" "[I") ∈ lw_all := lw_g (lw_at lw_m5 147 rfl) rfl
theorem q1202 : (Jvm.Cond.fieldLink "WheelTablesModel" (517 : Nat) "WheelTablesModel" "rightMany" "I") ∈ lw_all := lw_g (lw_at lw_m5 148 rfl) rfl
theorem q1203 : (Jvm.Cond.fieldLink "WheelTablesModel" (158 : Nat) "WheelTablesModel" "rightAt" "[I") ∈ lw_all := lw_g (lw_at lw_m5 149 rfl) rfl
theorem q1204 : (Jvm.Cond.fieldLink "WheelTablesModel" (161 : Nat) "WheelTablesModel" "rightNumber" "[I") ∈ lw_all := lw_g (lw_at lw_m5 150 rfl) rfl
theorem q1205 : (Jvm.Cond.fieldLink "WheelTablesModel" (533 : Nat) "WheelTablesModel" "day" "I") ∈ lw_all := lw_g (lw_at lw_m5 151 rfl) rfl
theorem q1206 : (Jvm.Cond.fieldLink "WheelTablesModel" (530 : Nat) "WheelTablesModel" "casts" "I") ∈ lw_all := lw_g (lw_at lw_m5 152 rfl) rfl
theorem q1207 : (Jvm.Cond.fieldLink "WheelTablesModel" (536 : Nat) "WheelTablesModel" "printings" "I") ∈ lw_all := lw_g (lw_at lw_m5 153 rfl) rfl
theorem q1208 : (Jvm.Cond.fieldLink "WheelTablesModel" (539 : Nat) "WheelTablesModel" "copies" "I") ∈ lw_all := lw_g (lw_at lw_m5 154 rfl) rfl
theorem q1209 : (Jvm.Cond.fieldLink "WheelTablesModel" (542 : Nat) "WheelTablesModel" "tells" "I") ∈ lw_all := lw_g (lw_at lw_m5 155 rfl) rfl
theorem q1210 : (Jvm.Cond.fieldLink "WheelTablesModel" (557 : Nat) "WheelTablesModel" "jobs" "I") ∈ lw_all := lw_g (lw_at lw_m5 156 rfl) rfl
theorem q1211 : (Jvm.Cond.fieldLink "WheelTablesModel" (164 : Nat) "WheelTablesModel" "castRow" "[I") ∈ lw_all := lw_g (lw_at lw_m5 157 rfl) rfl
theorem q1212 : (Jvm.Cond.fieldLink "WheelTablesModel" (167 : Nat) "WheelTablesModel" "castNumber" "[I") ∈ lw_all := lw_g (lw_at lw_m5 158 rfl) rfl
theorem q1213 : (Jvm.Cond.fieldLink "WheelTablesModel" (170 : Nat) "WheelTablesModel" "printFrom" "[I") ∈ lw_all := lw_g (lw_at lw_m5 159 rfl) rfl
theorem q1214 : (Jvm.Cond.fieldLink "WheelTablesModel" (173 : Nat) "WheelTablesModel" "printCasts" "[I") ∈ lw_all := lw_g (lw_at lw_m5 160 rfl) rfl
theorem q1215 : (Jvm.Cond.fieldLink "WheelTablesModel" (176 : Nat) "WheelTablesModel" "toldDay" "[I") ∈ lw_all := lw_g (lw_at lw_m5 161 rfl) rfl
theorem q1216 : (Jvm.Cond.fieldLink "WheelTablesModel" (179 : Nat) "WheelTablesModel" "toldRow" "[I") ∈ lw_all := lw_g (lw_at lw_m5 162 rfl) rfl
theorem q1217 : (Jvm.Cond.fieldLink "WheelTablesModel" (182 : Nat) "WheelTablesModel" "toldNumber" "[I") ∈ lw_all := lw_g (lw_at lw_m5 163 rfl) rfl
theorem q1218 : (Jvm.Cond.fieldLink "WheelTablesModel" (185 : Nat) "WheelTablesModel" "jobAxes" "[I") ∈ lw_all := lw_g (lw_at lw_m5 164 rfl) rfl
theorem q1219 : (Jvm.Cond.fieldLink "WheelTablesModel" (188 : Nat) "WheelTablesModel" "jobWheels" "[I") ∈ lw_all := lw_g (lw_at lw_m5 165 rfl) rfl
theorem q1220 : (Jvm.Cond.fieldLink "WheelTablesModel" (191 : Nat) "WheelTablesModel" "jobTurns" "[I") ∈ lw_all := lw_g (lw_at lw_m5 166 rfl) rfl
theorem q1221 : (Jvm.Cond.fieldLink "WheelTablesModel" (194 : Nat) "WheelTablesModel" "parted" "[I") ∈ lw_all := lw_g (lw_at lw_m5 167 rfl) rfl
theorem q1222 : (Jvm.Cond.fieldLink "WheelTablesModel" (197 : Nat) "WheelTablesModel" "tried" "[I") ∈ lw_all := lw_g (lw_at lw_m5 168 rfl) rfl
theorem q1223 : (Jvm.Cond.fieldLink "WheelTablesModel" (200 : Nat) "WheelTablesModel" "load" "[I") ∈ lw_all := lw_g (lw_at lw_m5 169 rfl) rfl
theorem q1224 : (Jvm.Cond.fieldLink "WheelTablesModel" (203 : Nat) "WheelTablesModel" "steps" "[J") ∈ lw_all := lw_g (lw_at lw_m5 170 rfl) rfl
theorem q1225 : (Jvm.Cond.fieldLink "WheelTablesModel" (206 : Nat) "WheelTablesModel" "foundAt" "[I") ∈ lw_all := lw_g (lw_at lw_m5 171 rfl) rfl
theorem q1226 : (Jvm.Cond.fieldLink "WheelTablesModel" (209 : Nat) "WheelTablesModel" "foundNumber" "[I") ∈ lw_all := lw_g (lw_at lw_m5 172 rfl) rfl
theorem q1227 : (Jvm.Cond.lays "WheelTablesModel" "WheelTablesModel" "status" "I") ∈ lw_all := lw_g (lw_at lw_m5 173 rfl) rfl
theorem q1228 : (Jvm.Cond.soleField "WheelTablesModel" "status") ∈ lw_all := lw_g (lw_at lw_m5 174 rfl) rfl
theorem q1229 : (Jvm.Cond.lays "WheelTablesModel" "WheelTablesModel" "thrown" "I") ∈ lw_all := lw_g (lw_at lw_m5 175 rfl) rfl
theorem q1230 : (Jvm.Cond.soleField "WheelTablesModel" "thrown") ∈ lw_all := lw_g (lw_at lw_m5 176 rfl) rfl
theorem q1231 : (Jvm.Cond.laysFinal "WheelTablesModel" "WheelTablesModel" "traySort" "[I") ∈ lw_all := lw_g (lw_at lw_m5 177 rfl) rfl
theorem q1232 : (Jvm.Cond.soleField "WheelTablesModel" "traySort") ∈ lw_all := lw_g (lw_at lw_m5 178 rfl) rfl
theorem q1233 : (Jvm.Cond.laysFinal "WheelTablesModel" "WheelTablesModel" "trayMany" "[I") ∈ lw_all := lw_g (lw_at lw_m5 179 rfl) rfl
theorem q1234 : (Jvm.Cond.soleField "WheelTablesModel" "trayMany") ∈ lw_all := lw_g (lw_at lw_m5 180 rfl) rfl
theorem q1235 : (Jvm.Cond.laysFinal "WheelTablesModel" "WheelTablesModel" "numbers" "[J") ∈ lw_all := lw_g (lw_at lw_m5 181 rfl) rfl
theorem q1236 : (Jvm.Cond.soleField "WheelTablesModel" "numbers") ∈ lw_all := lw_g (lw_at lw_m5 182 rfl) rfl
theorem q1237 : (Jvm.Cond.lays "WheelTablesModel" "WheelTablesModel" "engines" "I") ∈ lw_all := lw_g (lw_at lw_m5 183 rfl) rfl
theorem q1238 : (Jvm.Cond.soleField "WheelTablesModel" "engines") ∈ lw_all := lw_g (lw_at lw_m5 184 rfl) rfl
theorem q1239 : (Jvm.Cond.laysFinal "WheelTablesModel" "WheelTablesModel" "axes" "[I") ∈ lw_all := lw_g (lw_at lw_m5 185 rfl) rfl
theorem q1240 : (Jvm.Cond.soleField "WheelTablesModel" "axes") ∈ lw_all := lw_g (lw_at lw_m5 186 rfl) rfl
theorem q1241 : (Jvm.Cond.laysFinal "WheelTablesModel" "WheelTablesModel" "wheels" "[I") ∈ lw_all := lw_g (lw_at lw_m5 187 rfl) rfl
theorem q1242 : (Jvm.Cond.soleField "WheelTablesModel" "wheels") ∈ lw_all := lw_g (lw_at lw_m5 188 rfl) rfl
theorem q1243 : (Jvm.Cond.laysFinal "WheelTablesModel" "WheelTablesModel" "turned" "[I") ∈ lw_all := lw_g (lw_at lw_m5 189 rfl) rfl
theorem q1244 : (Jvm.Cond.soleField "WheelTablesModel" "turned") ∈ lw_all := lw_g (lw_at lw_m5 190 rfl) rfl
theorem q1245 : (Jvm.Cond.laysFinal "WheelTablesModel" "WheelTablesModel" "radix" "[I") ∈ lw_all := lw_g (lw_at lw_m5 191 rfl) rfl
theorem q1246 : (Jvm.Cond.soleField "WheelTablesModel" "radix") ∈ lw_all := lw_g (lw_at lw_m5 192 rfl) rfl
theorem q1247 : (Jvm.Cond.laysFinal "WheelTablesModel" "WheelTablesModel" "figure" "[I") ∈ lw_all := lw_g (lw_at lw_m5 193 rfl) rfl
theorem q1248 : (Jvm.Cond.soleField "WheelTablesModel" "figure") ∈ lw_all := lw_g (lw_at lw_m5 194 rfl) rfl
theorem q1249 : (Jvm.Cond.laysFinal "WheelTablesModel" "WheelTablesModel" "copy" "[I") ∈ lw_all := lw_g (lw_at lw_m5 195 rfl) rfl
theorem q1250 : (Jvm.Cond.soleField "WheelTablesModel" "copy") ∈ lw_all := lw_g (lw_at lw_m5 196 rfl) rfl
theorem q1251 : (Jvm.Cond.laysFinal "WheelTablesModel" "WheelTablesModel" "mishaps" "[I") ∈ lw_all := lw_g (lw_at lw_m5 197 rfl) rfl
theorem q1252 : (Jvm.Cond.soleField "WheelTablesModel" "mishaps") ∈ lw_all := lw_g (lw_at lw_m5 198 rfl) rfl
theorem q1253 : (Jvm.Cond.laysFinal "WheelTablesModel" "WheelTablesModel" "mishapTurn" "[I") ∈ lw_all := lw_g (lw_at lw_m5 199 rfl) rfl
theorem q1254 : (Jvm.Cond.soleField "WheelTablesModel" "mishapTurn") ∈ lw_all := lw_g (lw_at lw_m5 200 rfl) rfl
theorem q1255 : (Jvm.Cond.laysFinal "WheelTablesModel" "WheelTablesModel" "mishapAxis" "[I") ∈ lw_all := lw_g (lw_at lw_m5 201 rfl) rfl
theorem q1256 : (Jvm.Cond.soleField "WheelTablesModel" "mishapAxis") ∈ lw_all := lw_g (lw_at lw_m5 202 rfl) rfl
theorem q1257 : (Jvm.Cond.laysFinal "WheelTablesModel" "WheelTablesModel" "mishapWheel" "[I") ∈ lw_all := lw_g (lw_at lw_m5 203 rfl) rfl
theorem q1258 : (Jvm.Cond.soleField "WheelTablesModel" "mishapWheel") ∈ lw_all := lw_g (lw_at lw_m5 204 rfl) rfl
theorem q1259 : (Jvm.Cond.laysFinal "WheelTablesModel" "WheelTablesModel" "mishapKind" "[I") ∈ lw_all := lw_g (lw_at lw_m5 205 rfl) rfl
theorem q1260 : (Jvm.Cond.soleField "WheelTablesModel" "mishapKind") ∈ lw_all := lw_g (lw_at lw_m5 206 rfl) rfl
theorem q1261 : (Jvm.Cond.laysFinal "WheelTablesModel" "WheelTablesModel" "isWarned" "[Z") ∈ lw_all := lw_g (lw_at lw_m5 207 rfl) rfl
theorem q1262 : (Jvm.Cond.soleField "WheelTablesModel" "isWarned") ∈ lw_all := lw_g (lw_at lw_m5 208 rfl) rfl
theorem q1263 : (Jvm.Cond.lays "WheelTablesModel" "WheelTablesModel" "tryTurn" "I") ∈ lw_all := lw_g (lw_at lw_m5 209 rfl) rfl
theorem q1264 : (Jvm.Cond.soleField "WheelTablesModel" "tryTurn") ∈ lw_all := lw_g (lw_at lw_m5 210 rfl) rfl
theorem q1265 : (Jvm.Cond.lays "WheelTablesModel" "WheelTablesModel" "tryAxis" "I") ∈ lw_all := lw_g (lw_at lw_m5 211 rfl) rfl
theorem q1266 : (Jvm.Cond.soleField "WheelTablesModel" "tryAxis") ∈ lw_all := lw_g (lw_at lw_m5 212 rfl) rfl
theorem q1267 : (Jvm.Cond.lays "WheelTablesModel" "WheelTablesModel" "tryWheel" "I") ∈ lw_all := lw_g (lw_at lw_m5 213 rfl) rfl
theorem q1268 : (Jvm.Cond.soleField "WheelTablesModel" "tryWheel") ∈ lw_all := lw_g (lw_at lw_m5 214 rfl) rfl
theorem q1269 : (Jvm.Cond.lays "WheelTablesModel" "WheelTablesModel" "tryKind" "I") ∈ lw_all := lw_g (lw_at lw_m5 215 rfl) rfl
theorem q1270 : (Jvm.Cond.soleField "WheelTablesModel" "tryKind") ∈ lw_all := lw_g (lw_at lw_m5 216 rfl) rfl
theorem q1271 : (Jvm.Cond.lays "WheelTablesModel" "WheelTablesModel" "causeTurn" "I") ∈ lw_all := lw_g (lw_at lw_m5 217 rfl) rfl
theorem q1272 : (Jvm.Cond.soleField "WheelTablesModel" "causeTurn") ∈ lw_all := lw_g (lw_at lw_m5 218 rfl) rfl
theorem q1273 : (Jvm.Cond.lays "WheelTablesModel" "WheelTablesModel" "causeAxis" "I") ∈ lw_all := lw_g (lw_at lw_m5 219 rfl) rfl
theorem q1274 : (Jvm.Cond.soleField "WheelTablesModel" "causeAxis") ∈ lw_all := lw_g (lw_at lw_m5 220 rfl) rfl
theorem q1275 : (Jvm.Cond.lays "WheelTablesModel" "WheelTablesModel" "causeWheel" "I") ∈ lw_all := lw_g (lw_at lw_m5 221 rfl) rfl
theorem q1276 : (Jvm.Cond.soleField "WheelTablesModel" "causeWheel") ∈ lw_all := lw_g (lw_at lw_m5 222 rfl) rfl
theorem q1277 : (Jvm.Cond.lays "WheelTablesModel" "WheelTablesModel" "causeKind" "I") ∈ lw_all := lw_g (lw_at lw_m5 223 rfl) rfl
theorem q1278 : (Jvm.Cond.soleField "WheelTablesModel" "causeKind") ∈ lw_all := lw_g (lw_at lw_m5 224 rfl) rfl
theorem q1279 : (Jvm.Cond.laysFinal "WheelTablesModel" "WheelTablesModel" "differences" "[J") ∈ lw_all := lw_g (lw_at lw_m5 225 rfl) rfl
theorem q1280 : (Jvm.Cond.soleField "WheelTablesModel" "differences") ∈ lw_all := lw_g (lw_at lw_m5 226 rfl) rfl
theorem q1281 : (Jvm.Cond.laysFinal "WheelTablesModel" "WheelTablesModel" "shown" "[J") ∈ lw_all := lw_g (lw_at lw_m5 227 rfl) rfl
theorem q1282 : (Jvm.Cond.soleField "WheelTablesModel" "shown") ∈ lw_all := lw_g (lw_at lw_m5 228 rfl) rfl
theorem q1283 : (Jvm.Cond.laysFinal "WheelTablesModel" "WheelTablesModel" "tape" "[B") ∈ lw_all := lw_g (lw_at lw_m5 229 rfl) rfl
theorem q1284 : (Jvm.Cond.soleField "WheelTablesModel" "tape") ∈ lw_all := lw_g (lw_at lw_m5 230 rfl) rfl
theorem q1285 : (Jvm.Cond.lays "WheelTablesModel" "WheelTablesModel" "taped" "I") ∈ lw_all := lw_g (lw_at lw_m5 231 rfl) rfl
theorem q1286 : (Jvm.Cond.soleField "WheelTablesModel" "taped") ∈ lw_all := lw_g (lw_at lw_m5 232 rfl) rfl
theorem q1287 : (Jvm.Cond.lays "WheelTablesModel" "WheelTablesModel" "textEnd" "I") ∈ lw_all := lw_g (lw_at lw_m5 233 rfl) rfl
theorem q1288 : (Jvm.Cond.soleField "WheelTablesModel" "textEnd") ∈ lw_all := lw_g (lw_at lw_m5 234 rfl) rfl
theorem q1289 : (Jvm.Cond.lays "WheelTablesModel" "WheelTablesModel" "faultKind" "I") ∈ lw_all := lw_g (lw_at lw_m5 235 rfl) rfl
theorem q1290 : (Jvm.Cond.soleField "WheelTablesModel" "faultKind") ∈ lw_all := lw_g (lw_at lw_m5 236 rfl) rfl
theorem q1291 : (Jvm.Cond.lays "WheelTablesModel" "WheelTablesModel" "faultAt" "I") ∈ lw_all := lw_g (lw_at lw_m5 237 rfl) rfl
theorem q1292 : (Jvm.Cond.soleField "WheelTablesModel" "faultAt") ∈ lw_all := lw_g (lw_at lw_m5 238 rfl) rfl
theorem q1293 : (Jvm.Cond.lays "WheelTablesModel" "WheelTablesModel" "bad" "I") ∈ lw_all := lw_g (lw_at lw_m5 239 rfl) rfl
theorem q1294 : (Jvm.Cond.soleField "WheelTablesModel" "bad") ∈ lw_all := lw_g (lw_at lw_m6 0 rfl) rfl
theorem q1295 : (Jvm.Cond.lays "WheelTablesModel" "WheelTablesModel" "badAt" "I") ∈ lw_all := lw_g (lw_at lw_m6 1 rfl) rfl
theorem q1296 : (Jvm.Cond.soleField "WheelTablesModel" "badAt") ∈ lw_all := lw_g (lw_at lw_m6 2 rfl) rfl
theorem q1297 : (Jvm.Cond.lays "WheelTablesModel" "WheelTablesModel" "sort" "I") ∈ lw_all := lw_g (lw_at lw_m6 3 rfl) rfl
theorem q1298 : (Jvm.Cond.soleField "WheelTablesModel" "sort") ∈ lw_all := lw_g (lw_at lw_m6 4 rfl) rfl
theorem q1299 : (Jvm.Cond.lays "WheelTablesModel" "WheelTablesModel" "at" "I") ∈ lw_all := lw_g (lw_at lw_m6 5 rfl) rfl
theorem q1300 : (Jvm.Cond.soleField "WheelTablesModel" "at") ∈ lw_all := lw_g (lw_at lw_m6 6 rfl) rfl
theorem q1301 : (Jvm.Cond.lays "WheelTablesModel" "WheelTablesModel" "behind" "I") ∈ lw_all := lw_g (lw_at lw_m6 7 rfl) rfl
theorem q1302 : (Jvm.Cond.soleField "WheelTablesModel" "behind") ∈ lw_all := lw_g (lw_at lw_m6 8 rfl) rfl
theorem q1303 : (Jvm.Cond.lays "WheelTablesModel" "WheelTablesModel" "letters" "I") ∈ lw_all := lw_g (lw_at lw_m6 9 rfl) rfl
theorem q1304 : (Jvm.Cond.soleField "WheelTablesModel" "letters") ∈ lw_all := lw_g (lw_at lw_m6 10 rfl) rfl
theorem q1305 : (Jvm.Cond.lays "WheelTablesModel" "WheelTablesModel" "word" "J") ∈ lw_all := lw_g (lw_at lw_m6 11 rfl) rfl
theorem q1306 : (Jvm.Cond.soleField "WheelTablesModel" "word") ∈ lw_all := lw_g (lw_at lw_m6 12 rfl) rfl
theorem q1307 : (Jvm.Cond.lays "WheelTablesModel" "WheelTablesModel" "number" "J") ∈ lw_all := lw_g (lw_at lw_m6 13 rfl) rfl
theorem q1308 : (Jvm.Cond.soleField "WheelTablesModel" "number") ∈ lw_all := lw_g (lw_at lw_m6 14 rfl) rfl
theorem q1309 : (Jvm.Cond.lays "WheelTablesModel" "WheelTablesModel" "cardMany" "I") ∈ lw_all := lw_g (lw_at lw_m6 15 rfl) rfl
theorem q1310 : (Jvm.Cond.soleField "WheelTablesModel" "cardMany") ∈ lw_all := lw_g (lw_at lw_m6 16 rfl) rfl
theorem q1311 : (Jvm.Cond.lays "WheelTablesModel" "WheelTablesModel" "newMany" "I") ∈ lw_all := lw_g (lw_at lw_m6 17 rfl) rfl
theorem q1312 : (Jvm.Cond.soleField "WheelTablesModel" "newMany") ∈ lw_all := lw_g (lw_at lw_m6 18 rfl) rfl
theorem q1313 : (Jvm.Cond.laysFinal "WheelTablesModel" "WheelTablesModel" "kind" "[I") ∈ lw_all := lw_g (lw_at lw_m6 19 rfl) rfl
theorem q1314 : (Jvm.Cond.soleField "WheelTablesModel" "kind") ∈ lw_all := lw_g (lw_at lw_m6 20 rfl) rfl
theorem q1315 : (Jvm.Cond.laysFinal "WheelTablesModel" "WheelTablesModel" "a" "[I") ∈ lw_all := lw_g (lw_at lw_m6 21 rfl) rfl
theorem q1316 : (Jvm.Cond.soleField "WheelTablesModel" "a") ∈ lw_all := lw_g (lw_at lw_m6 22 rfl) rfl
theorem q1317 : (Jvm.Cond.laysFinal "WheelTablesModel" "WheelTablesModel" "b" "[I") ∈ lw_all := lw_g (lw_at lw_m6 23 rfl) rfl
theorem q1318 : (Jvm.Cond.soleField "WheelTablesModel" "b") ∈ lw_all := lw_g (lw_at lw_m6 24 rfl) rfl
theorem q1319 : (Jvm.Cond.laysFinal "WheelTablesModel" "WheelTablesModel" "c" "[I") ∈ lw_all := lw_g (lw_at lw_m6 25 rfl) rfl
theorem q1320 : (Jvm.Cond.soleField "WheelTablesModel" "c") ∈ lw_all := lw_g (lw_at lw_m6 26 rfl) rfl
theorem q1321 : (Jvm.Cond.laysFinal "WheelTablesModel" "WheelTablesModel" "d" "[I") ∈ lw_all := lw_g (lw_at lw_m6 27 rfl) rfl
theorem q1322 : (Jvm.Cond.soleField "WheelTablesModel" "d") ∈ lw_all := lw_g (lw_at lw_m6 28 rfl) rfl
theorem q1323 : (Jvm.Cond.laysFinal "WheelTablesModel" "WheelTablesModel" "when" "[I") ∈ lw_all := lw_g (lw_at lw_m6 29 rfl) rfl
theorem q1324 : (Jvm.Cond.soleField "WheelTablesModel" "when") ∈ lw_all := lw_g (lw_at lw_m6 30 rfl) rfl
theorem q1325 : (Jvm.Cond.laysFinal "WheelTablesModel" "WheelTablesModel" "newKind" "[I") ∈ lw_all := lw_g (lw_at lw_m6 31 rfl) rfl
theorem q1326 : (Jvm.Cond.soleField "WheelTablesModel" "newKind") ∈ lw_all := lw_g (lw_at lw_m6 32 rfl) rfl
theorem q1327 : (Jvm.Cond.laysFinal "WheelTablesModel" "WheelTablesModel" "newA" "[I") ∈ lw_all := lw_g (lw_at lw_m6 33 rfl) rfl
theorem q1328 : (Jvm.Cond.soleField "WheelTablesModel" "newA") ∈ lw_all := lw_g (lw_at lw_m6 34 rfl) rfl
theorem q1329 : (Jvm.Cond.laysFinal "WheelTablesModel" "WheelTablesModel" "newB" "[I") ∈ lw_all := lw_g (lw_at lw_m6 35 rfl) rfl
theorem q1330 : (Jvm.Cond.soleField "WheelTablesModel" "newB") ∈ lw_all := lw_g (lw_at lw_m6 36 rfl) rfl
theorem q1331 : (Jvm.Cond.laysFinal "WheelTablesModel" "WheelTablesModel" "newC" "[I") ∈ lw_all := lw_g (lw_at lw_m6 37 rfl) rfl
theorem q1332 : (Jvm.Cond.soleField "WheelTablesModel" "newC") ∈ lw_all := lw_g (lw_at lw_m6 38 rfl) rfl
theorem q1333 : (Jvm.Cond.laysFinal "WheelTablesModel" "WheelTablesModel" "newD" "[I") ∈ lw_all := lw_g (lw_at lw_m6 39 rfl) rfl
theorem q1334 : (Jvm.Cond.soleField "WheelTablesModel" "newD") ∈ lw_all := lw_g (lw_at lw_m6 40 rfl) rfl
theorem q1335 : (Jvm.Cond.laysFinal "WheelTablesModel" "WheelTablesModel" "newWhen" "[I") ∈ lw_all := lw_g (lw_at lw_m6 41 rfl) rfl
theorem q1336 : (Jvm.Cond.soleField "WheelTablesModel" "newWhen") ∈ lw_all := lw_g (lw_at lw_m6 42 rfl) rfl
theorem q1337 : (Jvm.Cond.laysFinal "WheelTablesModel" "WheelTablesModel" "jumpAt" "[I") ∈ lw_all := lw_g (lw_at lw_m6 43 rfl) rfl
theorem q1338 : (Jvm.Cond.soleField "WheelTablesModel" "jumpAt") ∈ lw_all := lw_g (lw_at lw_m6 44 rfl) rfl
theorem q1339 : (Jvm.Cond.laysFinal "WheelTablesModel" "WheelTablesModel" "whole" "[J") ∈ lw_all := lw_g (lw_at lw_m6 45 rfl) rfl
theorem q1340 : (Jvm.Cond.soleField "WheelTablesModel" "whole") ∈ lw_all := lw_g (lw_at lw_m6 46 rfl) rfl
theorem q1341 : (Jvm.Cond.laysFinal "WheelTablesModel" "WheelTablesModel" "newWhole" "[J") ∈ lw_all := lw_g (lw_at lw_m6 47 rfl) rfl
theorem q1342 : (Jvm.Cond.soleField "WheelTablesModel" "newWhole") ∈ lw_all := lw_g (lw_at lw_m6 48 rfl) rfl
theorem q1343 : (Jvm.Cond.laysFinal "WheelTablesModel" "WheelTablesModel" "places" "[J") ∈ lw_all := lw_g (lw_at lw_m6 49 rfl) rfl
theorem q1344 : (Jvm.Cond.soleField "WheelTablesModel" "places") ∈ lw_all := lw_g (lw_at lw_m6 50 rfl) rfl
theorem q1345 : (Jvm.Cond.laysFinal "WheelTablesModel" "WheelTablesModel" "prints" "[J") ∈ lw_all := lw_g (lw_at lw_m6 51 rfl) rfl
theorem q1346 : (Jvm.Cond.soleField "WheelTablesModel" "prints") ∈ lw_all := lw_g (lw_at lw_m6 52 rfl) rfl
theorem q1347 : (Jvm.Cond.lays "WheelTablesModel" "WheelTablesModel" "hasRun" "Z") ∈ lw_all := lw_g (lw_at lw_m6 53 rfl) rfl
theorem q1348 : (Jvm.Cond.soleField "WheelTablesModel" "hasRun") ∈ lw_all := lw_g (lw_at lw_m6 54 rfl) rfl
theorem q1349 : (Jvm.Cond.lays "WheelTablesModel" "WheelTablesModel" "isUp" "Z") ∈ lw_all := lw_g (lw_at lw_m6 55 rfl) rfl
theorem q1350 : (Jvm.Cond.soleField "WheelTablesModel" "isUp") ∈ lw_all := lw_g (lw_at lw_m6 56 rfl) rfl
theorem q1351 : (Jvm.Cond.lays "WheelTablesModel" "WheelTablesModel" "printMany" "I") ∈ lw_all := lw_g (lw_at lw_m6 57 rfl) rfl
theorem q1352 : (Jvm.Cond.soleField "WheelTablesModel" "printMany") ∈ lw_all := lw_g (lw_at lw_m6 58 rfl) rfl
theorem q1353 : (Jvm.Cond.lays "WheelTablesModel" "WheelTablesModel" "cranks" "I") ∈ lw_all := lw_g (lw_at lw_m6 59 rfl) rfl
theorem q1354 : (Jvm.Cond.soleField "WheelTablesModel" "cranks") ∈ lw_all := lw_g (lw_at lw_m6 60 rfl) rfl
theorem q1355 : (Jvm.Cond.lays "WheelTablesModel" "WheelTablesModel" "alarm" "I") ∈ lw_all := lw_g (lw_at lw_m6 61 rfl) rfl
theorem q1356 : (Jvm.Cond.soleField "WheelTablesModel" "alarm") ∈ lw_all := lw_g (lw_at lw_m6 62 rfl) rfl
theorem q1357 : (Jvm.Cond.lays "WheelTablesModel" "WheelTablesModel" "alarmAt" "I") ∈ lw_all := lw_g (lw_at lw_m6 63 rfl) rfl
theorem q1358 : (Jvm.Cond.soleField "WheelTablesModel" "alarmAt") ∈ lw_all := lw_g (lw_at lw_m6 64 rfl) rfl
theorem q1359 : (Jvm.Cond.lays "WheelTablesModel" "WheelTablesModel" "cardsDone" "I") ∈ lw_all := lw_g (lw_at lw_m6 65 rfl) rfl
theorem q1360 : (Jvm.Cond.soleField "WheelTablesModel" "cardsDone") ∈ lw_all := lw_g (lw_at lw_m6 66 rfl) rfl
theorem q1361 : (Jvm.Cond.laysFinal "WheelTablesModel" "WheelTablesModel" "least" "[I") ∈ lw_all := lw_g (lw_at lw_m6 67 rfl) rfl
theorem q1362 : (Jvm.Cond.soleField "WheelTablesModel" "least") ∈ lw_all := lw_g (lw_at lw_m6 68 rfl) rfl
theorem q1363 : (Jvm.Cond.laysFinal "WheelTablesModel" "WheelTablesModel" "figureOf" "[I") ∈ lw_all := lw_g (lw_at lw_m6 69 rfl) rfl
theorem q1364 : (Jvm.Cond.soleField "WheelTablesModel" "figureOf") ∈ lw_all := lw_g (lw_at lw_m6 70 rfl) rfl
theorem q1365 : (Jvm.Cond.laysFinal "WheelTablesModel" "WheelTablesModel" "digitsOf" "[I") ∈ lw_all := lw_g (lw_at lw_m6 71 rfl) rfl
theorem q1366 : (Jvm.Cond.soleField "WheelTablesModel" "digitsOf") ∈ lw_all := lw_g (lw_at lw_m6 72 rfl) rfl
theorem q1367 : (Jvm.Cond.laysFinal "WheelTablesModel" "WheelTablesModel" "table" "[J") ∈ lw_all := lw_g (lw_at lw_m6 73 rfl) rfl
theorem q1368 : (Jvm.Cond.soleField "WheelTablesModel" "table") ∈ lw_all := lw_g (lw_at lw_m6 74 rfl) rfl
theorem q1369 : (Jvm.Cond.laysFinal "WheelTablesModel" "WheelTablesModel" "left" "[J") ∈ lw_all := lw_g (lw_at lw_m6 75 rfl) rfl
theorem q1370 : (Jvm.Cond.soleField "WheelTablesModel" "left") ∈ lw_all := lw_g (lw_at lw_m6 76 rfl) rfl
theorem q1371 : (Jvm.Cond.laysFinal "WheelTablesModel" "WheelTablesModel" "variants" "[J") ∈ lw_all := lw_g (lw_at lw_m6 77 rfl) rfl
theorem q1372 : (Jvm.Cond.soleField "WheelTablesModel" "variants") ∈ lw_all := lw_g (lw_at lw_m6 78 rfl) rfl
theorem q1373 : (Jvm.Cond.laysFinal "WheelTablesModel" "WheelTablesModel" "variantMany" "[I") ∈ lw_all := lw_g (lw_at lw_m6 79 rfl) rfl
theorem q1374 : (Jvm.Cond.soleField "WheelTablesModel" "variantMany") ∈ lw_all := lw_g (lw_at lw_m6 80 rfl) rfl
theorem q1375 : (Jvm.Cond.lays "WheelTablesModel" "WheelTablesModel" "rightMany" "I") ∈ lw_all := lw_g (lw_at lw_m6 81 rfl) rfl
theorem q1376 : (Jvm.Cond.soleField "WheelTablesModel" "rightMany") ∈ lw_all := lw_g (lw_at lw_m6 82 rfl) rfl
theorem q1377 : (Jvm.Cond.laysFinal "WheelTablesModel" "WheelTablesModel" "rightAt" "[I") ∈ lw_all := lw_g (lw_at lw_m6 83 rfl) rfl
theorem q1378 : (Jvm.Cond.soleField "WheelTablesModel" "rightAt") ∈ lw_all := lw_g (lw_at lw_m6 84 rfl) rfl
theorem q1379 : (Jvm.Cond.laysFinal "WheelTablesModel" "WheelTablesModel" "rightNumber" "[I") ∈ lw_all := lw_g (lw_at lw_m6 85 rfl) rfl
theorem q1380 : (Jvm.Cond.soleField "WheelTablesModel" "rightNumber") ∈ lw_all := lw_g (lw_at lw_m6 86 rfl) rfl
theorem q1381 : (Jvm.Cond.lays "WheelTablesModel" "WheelTablesModel" "day" "I") ∈ lw_all := lw_g (lw_at lw_m6 87 rfl) rfl
theorem q1382 : (Jvm.Cond.soleField "WheelTablesModel" "day") ∈ lw_all := lw_g (lw_at lw_m6 88 rfl) rfl
theorem q1383 : (Jvm.Cond.lays "WheelTablesModel" "WheelTablesModel" "casts" "I") ∈ lw_all := lw_g (lw_at lw_m6 89 rfl) rfl
theorem q1384 : (Jvm.Cond.soleField "WheelTablesModel" "casts") ∈ lw_all := lw_g (lw_at lw_m6 90 rfl) rfl
theorem q1385 : (Jvm.Cond.lays "WheelTablesModel" "WheelTablesModel" "printings" "I") ∈ lw_all := lw_g (lw_at lw_m6 91 rfl) rfl
theorem q1386 : (Jvm.Cond.soleField "WheelTablesModel" "printings") ∈ lw_all := lw_g (lw_at lw_m6 92 rfl) rfl
theorem q1387 : (Jvm.Cond.lays "WheelTablesModel" "WheelTablesModel" "copies" "I") ∈ lw_all := lw_g (lw_at lw_m6 93 rfl) rfl
theorem q1388 : (Jvm.Cond.soleField "WheelTablesModel" "copies") ∈ lw_all := lw_g (lw_at lw_m6 94 rfl) rfl
theorem q1389 : (Jvm.Cond.lays "WheelTablesModel" "WheelTablesModel" "tells" "I") ∈ lw_all := lw_g (lw_at lw_m6 95 rfl) rfl
theorem q1390 : (Jvm.Cond.soleField "WheelTablesModel" "tells") ∈ lw_all := lw_g (lw_at lw_m6 96 rfl) rfl
theorem q1391 : (Jvm.Cond.lays "WheelTablesModel" "WheelTablesModel" "jobs" "I") ∈ lw_all := lw_g (lw_at lw_m6 97 rfl) rfl
theorem q1392 : (Jvm.Cond.soleField "WheelTablesModel" "jobs") ∈ lw_all := lw_g (lw_at lw_m6 98 rfl) rfl
theorem q1393 : (Jvm.Cond.laysFinal "WheelTablesModel" "WheelTablesModel" "castRow" "[I") ∈ lw_all := lw_g (lw_at lw_m6 99 rfl) rfl
theorem q1394 : (Jvm.Cond.soleField "WheelTablesModel" "castRow") ∈ lw_all := lw_g (lw_at lw_m6 100 rfl) rfl
theorem q1395 : (Jvm.Cond.laysFinal "WheelTablesModel" "WheelTablesModel" "castNumber" "[I") ∈ lw_all := lw_g (lw_at lw_m6 101 rfl) rfl
theorem q1396 : (Jvm.Cond.soleField "WheelTablesModel" "castNumber") ∈ lw_all := lw_g (lw_at lw_m6 102 rfl) rfl
theorem q1397 : (Jvm.Cond.laysFinal "WheelTablesModel" "WheelTablesModel" "printFrom" "[I") ∈ lw_all := lw_g (lw_at lw_m6 103 rfl) rfl
theorem q1398 : (Jvm.Cond.soleField "WheelTablesModel" "printFrom") ∈ lw_all := lw_g (lw_at lw_m6 104 rfl) rfl
theorem q1399 : (Jvm.Cond.laysFinal "WheelTablesModel" "WheelTablesModel" "printCasts" "[I") ∈ lw_all := lw_g (lw_at lw_m6 105 rfl) rfl
theorem q1400 : (Jvm.Cond.soleField "WheelTablesModel" "printCasts") ∈ lw_all := lw_g (lw_at lw_m6 106 rfl) rfl
theorem q1401 : (Jvm.Cond.laysFinal "WheelTablesModel" "WheelTablesModel" "toldDay" "[I") ∈ lw_all := lw_g (lw_at lw_m6 107 rfl) rfl
theorem q1402 : (Jvm.Cond.soleField "WheelTablesModel" "toldDay") ∈ lw_all := lw_g (lw_at lw_m6 108 rfl) rfl
theorem q1403 : (Jvm.Cond.laysFinal "WheelTablesModel" "WheelTablesModel" "toldRow" "[I") ∈ lw_all := lw_g (lw_at lw_m6 109 rfl) rfl
theorem q1404 : (Jvm.Cond.soleField "WheelTablesModel" "toldRow") ∈ lw_all := lw_g (lw_at lw_m6 110 rfl) rfl
theorem q1405 : (Jvm.Cond.laysFinal "WheelTablesModel" "WheelTablesModel" "toldNumber" "[I") ∈ lw_all := lw_g (lw_at lw_m6 111 rfl) rfl
theorem q1406 : (Jvm.Cond.soleField "WheelTablesModel" "toldNumber") ∈ lw_all := lw_g (lw_at lw_m6 112 rfl) rfl
theorem q1407 : (Jvm.Cond.laysFinal "WheelTablesModel" "WheelTablesModel" "jobAxes" "[I") ∈ lw_all := lw_g (lw_at lw_m6 113 rfl) rfl
theorem q1408 : (Jvm.Cond.soleField "WheelTablesModel" "jobAxes") ∈ lw_all := lw_g (lw_at lw_m6 114 rfl) rfl
theorem q1409 : (Jvm.Cond.laysFinal "WheelTablesModel" "WheelTablesModel" "jobWheels" "[I") ∈ lw_all := lw_g (lw_at lw_m6 115 rfl) rfl
theorem q1410 : (Jvm.Cond.soleField "WheelTablesModel" "jobWheels") ∈ lw_all := lw_g (lw_at lw_m6 116 rfl) rfl
theorem q1411 : (Jvm.Cond.laysFinal "WheelTablesModel" "WheelTablesModel" "jobTurns" "[I") ∈ lw_all := lw_g (lw_at lw_m6 117 rfl) rfl
theorem q1412 : (Jvm.Cond.soleField "WheelTablesModel" "jobTurns") ∈ lw_all := lw_g (lw_at lw_m6 118 rfl) rfl
theorem q1413 : (Jvm.Cond.laysFinal "WheelTablesModel" "WheelTablesModel" "parted" "[I") ∈ lw_all := lw_g (lw_at lw_m6 119 rfl) rfl
theorem q1414 : (Jvm.Cond.soleField "WheelTablesModel" "parted") ∈ lw_all := lw_g (lw_at lw_m6 120 rfl) rfl
theorem q1415 : (Jvm.Cond.laysFinal "WheelTablesModel" "WheelTablesModel" "tried" "[I") ∈ lw_all := lw_g (lw_at lw_m6 121 rfl) rfl
theorem q1416 : (Jvm.Cond.soleField "WheelTablesModel" "tried") ∈ lw_all := lw_g (lw_at lw_m6 122 rfl) rfl
theorem q1417 : (Jvm.Cond.laysFinal "WheelTablesModel" "WheelTablesModel" "load" "[I") ∈ lw_all := lw_g (lw_at lw_m6 123 rfl) rfl
theorem q1418 : (Jvm.Cond.soleField "WheelTablesModel" "load") ∈ lw_all := lw_g (lw_at lw_m6 124 rfl) rfl
theorem q1419 : (Jvm.Cond.laysFinal "WheelTablesModel" "WheelTablesModel" "steps" "[J") ∈ lw_all := lw_g (lw_at lw_m6 125 rfl) rfl
theorem q1420 : (Jvm.Cond.soleField "WheelTablesModel" "steps") ∈ lw_all := lw_g (lw_at lw_m6 126 rfl) rfl
theorem q1421 : (Jvm.Cond.laysFinal "WheelTablesModel" "WheelTablesModel" "foundAt" "[I") ∈ lw_all := lw_g (lw_at lw_m6 127 rfl) rfl
theorem q1422 : (Jvm.Cond.soleField "WheelTablesModel" "foundAt") ∈ lw_all := lw_g (lw_at lw_m6 128 rfl) rfl
theorem q1423 : (Jvm.Cond.laysFinal "WheelTablesModel" "WheelTablesModel" "foundNumber" "[I") ∈ lw_all := lw_g (lw_at lw_m6 129 rfl) rfl
theorem q1424 : (Jvm.Cond.soleField "WheelTablesModel" "foundNumber") ∈ lw_all := lw_g (lw_at lw_m6 130 rfl) rfl
theorem q1425 : (Jvm.Cond.superclass "WheelTablesModel" "java/lang/Object") ∈ lw_all := lw_g (lw_at lw_m6 131 rfl) rfl
theorem q1427 : (Jvm.Cond.instanceMethod ({ cls := "WheelTablesModel", name := "status", desc := "()I" } : Jvm.MethodName)) ∈ lw_all := lw_g (lw_at lw_m6 133 rfl) rfl
theorem q1428 : (Jvm.Cond.selects "WheelTablesModel" ({ cls := "WheelTablesModel", name := "status", desc := "()I" } : Jvm.MethodName) ({ cls := "WheelTablesModel", name := "status", desc := "()I" } : Jvm.MethodName)) ∈ lw_all := lw_g (lw_at lw_m6 134 rfl) rfl
theorem q1429 : (Jvm.Cond.code ({ cls := "WheelTablesModel", name := "status", desc := "()I" } : Jvm.MethodName) prog_9_method_3_code (1 : Nat) (Option.some Jvm.ClassFile.FieldType.int)) ∈ lw_all := lw_g (lw_at lw_m6 135 rfl) rfl
theorem q1431 : (Jvm.Cond.instanceMethod ({ cls := "WheelTablesModel", name := "tray", desc := "(III)Z" } : Jvm.MethodName)) ∈ lw_all := lw_g (lw_at lw_m6 137 rfl) rfl
theorem q1432 : (Jvm.Cond.selects "WheelTablesModel" ({ cls := "WheelTablesModel", name := "tray", desc := "(III)Z" } : Jvm.MethodName) ({ cls := "WheelTablesModel", name := "tray", desc := "(III)Z" } : Jvm.MethodName)) ∈ lw_all := lw_g (lw_at lw_m6 138 rfl) rfl
theorem q1433 : (Jvm.Cond.code ({ cls := "WheelTablesModel", name := "tray", desc := "(III)Z" } : Jvm.MethodName) prog_9_method_8_code (5 : Nat) (Option.some Jvm.ClassFile.FieldType.boolean)) ∈ lw_all := lw_g (lw_at lw_m6 139 rfl) rfl
theorem q1434 : (Jvm.Cond.methodLink "WheelTablesModel" (218 : Nat) ({ cls := "WheelTablesModel", name := "no", desc := "(I)Z" } : Jvm.MethodName)) ∈ lw_all := lw_g (lw_at lw_m6 140 rfl) rfl
theorem q1435 : (Jvm.Cond.privateMethod ({ cls := "WheelTablesModel", name := "no", desc := "(I)Z" } : Jvm.MethodName)) ∈ lw_tbl := lw_at lw_m6 141 rfl
theorem q1436 : (Jvm.Cond.instanceMethod ({ cls := "WheelTablesModel", name := "no", desc := "(I)Z" } : Jvm.MethodName)) ∈ lw_all := lw_g (lw_at lw_m6 142 rfl) rfl
theorem q1437 : (Jvm.Cond.code ({ cls := "WheelTablesModel", name := "no", desc := "(I)Z" } : Jvm.MethodName) prog_9_method_5_code (2 : Nat) (Option.some Jvm.ClassFile.FieldType.boolean)) ∈ lw_all := lw_g (lw_at lw_m6 143 rfl) rfl
theorem q1439 : (Jvm.Cond.instanceMethod ({ cls := "WheelTablesModel", name := "write", desc := "(IIJ)Z" } : Jvm.MethodName)) ∈ lw_all := lw_g (lw_at lw_m6 145 rfl) rfl
theorem q1440 : (Jvm.Cond.selects "WheelTablesModel" ({ cls := "WheelTablesModel", name := "write", desc := "(IIJ)Z" } : Jvm.MethodName) ({ cls := "WheelTablesModel", name := "write", desc := "(IIJ)Z" } : Jvm.MethodName)) ∈ lw_all := lw_g (lw_at lw_m6 146 rfl) rfl
theorem q1441 : (Jvm.Cond.code ({ cls := "WheelTablesModel", name := "write", desc := "(IIJ)Z" } : Jvm.MethodName) prog_9_method_11_code (5 : Nat) (Option.some Jvm.ClassFile.FieldType.boolean)) ∈ lw_all := lw_g (lw_at lw_m6 147 rfl) rfl
theorem q1442 : (Jvm.Cond.methodLink "WheelTablesModel" (226 : Nat) ({ cls := "WheelTablesModel", name := "placed", desc := "(II)I" } : Jvm.MethodName)) ∈ lw_all := lw_g (lw_at lw_m6 148 rfl) rfl
theorem q1443 : (Jvm.Cond.privateMethod ({ cls := "WheelTablesModel", name := "placed", desc := "(II)I" } : Jvm.MethodName)) ∈ lw_tbl := lw_at lw_m6 149 rfl
theorem q1444 : (Jvm.Cond.instanceMethod ({ cls := "WheelTablesModel", name := "placed", desc := "(II)I" } : Jvm.MethodName)) ∈ lw_all := lw_g (lw_at lw_m6 150 rfl) rfl
theorem q1445 : (Jvm.Cond.code ({ cls := "WheelTablesModel", name := "placed", desc := "(II)I" } : Jvm.MethodName) prog_9_method_10_code (4 : Nat) (Option.some Jvm.ClassFile.FieldType.int)) ∈ lw_all := lw_g (lw_at lw_m6 151 rfl) rfl
theorem q1446 : (Jvm.Cond.methodLink "WheelTablesModel" (222 : Nat) ({ cls := "WheelTablesModel", name := "trayed", desc := "(I)I" } : Jvm.MethodName)) ∈ lw_all := lw_g (lw_at lw_m6 152 rfl) rfl
theorem q1447 : (Jvm.Cond.privateMethod ({ cls := "WheelTablesModel", name := "trayed", desc := "(I)I" } : Jvm.MethodName)) ∈ lw_tbl := lw_at lw_m6 153 rfl
theorem q1448 : (Jvm.Cond.instanceMethod ({ cls := "WheelTablesModel", name := "trayed", desc := "(I)I" } : Jvm.MethodName)) ∈ lw_all := lw_g (lw_at lw_m6 154 rfl) rfl
theorem q1449 : (Jvm.Cond.code ({ cls := "WheelTablesModel", name := "trayed", desc := "(I)I" } : Jvm.MethodName) prog_9_method_9_code (2 : Nat) (Option.some Jvm.ClassFile.FieldType.int)) ∈ lw_all := lw_g (lw_at lw_m6 155 rfl) rfl
theorem q1450 : (Jvm.Cond.methodLink "WheelTablesModel" (230 : Nat) ({ cls := "WheelTablesModel", name := "cut", desc := "(IJ)J" } : Jvm.MethodName)) ∈ lw_all := lw_g (lw_at lw_m6 156 rfl) rfl
theorem q1451 : (Jvm.Cond.static ({ cls := "WheelTablesModel", name := "cut", desc := "(IJ)J" } : Jvm.MethodName)) ∈ lw_all := lw_g (lw_at lw_m6 157 rfl) rfl
theorem q1452 : (Jvm.Cond.code ({ cls := "WheelTablesModel", name := "cut", desc := "(IJ)J" } : Jvm.MethodName) prog_9_method_7_code (3 : Nat) (Option.some Jvm.ClassFile.FieldType.long)) ∈ lw_all := lw_g (lw_at lw_m6 158 rfl) rfl
theorem q1454 : (Jvm.Cond.instanceMethod ({ cls := "WheelTablesModel", name := "read", desc := "(II)J" } : Jvm.MethodName)) ∈ lw_all := lw_g (lw_at lw_m6 160 rfl) rfl
theorem q1455 : (Jvm.Cond.selects "WheelTablesModel" ({ cls := "WheelTablesModel", name := "read", desc := "(II)J" } : Jvm.MethodName) ({ cls := "WheelTablesModel", name := "read", desc := "(II)J" } : Jvm.MethodName)) ∈ lw_all := lw_g (lw_at lw_m6 161 rfl) rfl
theorem q1456 : (Jvm.Cond.code ({ cls := "WheelTablesModel", name := "read", desc := "(II)J" } : Jvm.MethodName) prog_9_method_12_code (3 : Nat) (Option.some Jvm.ClassFile.FieldType.long)) ∈ lw_all := lw_g (lw_at lw_m6 162 rfl) rfl
theorem q1457 : (Jvm.Cond.constantLong "WheelTablesModel" (234 : Nat) (-1 : Int64)) ∈ lw_all := lw_g (lw_at lw_m6 163 rfl) rfl
theorem q1459 : (Jvm.Cond.instanceMethod ({ cls := "WheelTablesModel", name := "pour", desc := "(IIIII)Z" } : Jvm.MethodName)) ∈ lw_all := lw_g (lw_at lw_m6 165 rfl) rfl
theorem q1460 : (Jvm.Cond.selects "WheelTablesModel" ({ cls := "WheelTablesModel", name := "pour", desc := "(IIIII)Z" } : Jvm.MethodName) ({ cls := "WheelTablesModel", name := "pour", desc := "(IIIII)Z" } : Jvm.MethodName)) ∈ lw_all := lw_g (lw_at lw_m6 166 rfl) rfl
theorem q1461 : (Jvm.Cond.code ({ cls := "WheelTablesModel", name := "pour", desc := "(IIIII)Z" } : Jvm.MethodName) prog_9_method_13_code (9 : Nat) (Option.some Jvm.ClassFile.FieldType.boolean)) ∈ lw_all := lw_g (lw_at lw_m6 167 rfl) rfl
theorem q1463 : (Jvm.Cond.instanceMethod ({ cls := "WheelTablesModel", name := "engine", desc := "(III)I" } : Jvm.MethodName)) ∈ lw_all := lw_g (lw_at lw_m6 169 rfl) rfl
theorem q1464 : (Jvm.Cond.selects "WheelTablesModel" ({ cls := "WheelTablesModel", name := "engine", desc := "(III)I" } : Jvm.MethodName) ({ cls := "WheelTablesModel", name := "engine", desc := "(III)I" } : Jvm.MethodName)) ∈ lw_all := lw_g (lw_at lw_m6 170 rfl) rfl
theorem q1465 : (Jvm.Cond.code ({ cls := "WheelTablesModel", name := "engine", desc := "(III)I" } : Jvm.MethodName) prog_9_method_18_code (5 : Nat) (Option.some Jvm.ClassFile.FieldType.int)) ∈ lw_all := lw_g (lw_at lw_m6 171 rfl) rfl
theorem q1466 : (Jvm.Cond.constantLong "WheelTablesModel" (246 : Nat) (2 : Int64)) ∈ lw_all := lw_g (lw_at lw_m6 172 rfl) rfl
theorem q1467 : (Jvm.Cond.constantLong "WheelTablesModel" (248 : Nat) (7 : Int64)) ∈ lw_all := lw_g (lw_at lw_m6 173 rfl) rfl
theorem q1468 : (Jvm.Cond.methodLink "WheelTablesModel" (239 : Nat) ({ cls := "WheelTablesModel", name := "isIn", desc := "(JJJ)Z" } : Jvm.MethodName)) ∈ lw_all := lw_g (lw_at lw_m6 174 rfl) rfl
theorem q1469 : (Jvm.Cond.static ({ cls := "WheelTablesModel", name := "isIn", desc := "(JJJ)Z" } : Jvm.MethodName)) ∈ lw_all := lw_g (lw_at lw_m6 175 rfl) rfl
theorem q1470 : (Jvm.Cond.code ({ cls := "WheelTablesModel", name := "isIn", desc := "(JJJ)Z" } : Jvm.MethodName) prog_9_method_6_code (6 : Nat) (Option.some Jvm.ClassFile.FieldType.boolean)) ∈ lw_all := lw_g (lw_at lw_m6 176 rfl) rfl
theorem q1471 : (Jvm.Cond.constantLong "WheelTablesModel" (250 : Nat) (12 : Int64)) ∈ lw_all := lw_g (lw_at lw_m6 177 rfl) rfl
theorem q1472 : (Jvm.Cond.methodLink "WheelTablesModel" (252 : Nat) ({ cls := "WheelTablesModel", name := "refuse", desc := "(I)I" } : Jvm.MethodName)) ∈ lw_all := lw_g (lw_at lw_m6 178 rfl) rfl
theorem q1473 : (Jvm.Cond.privateMethod ({ cls := "WheelTablesModel", name := "refuse", desc := "(I)I" } : Jvm.MethodName)) ∈ lw_tbl := lw_at lw_m6 179 rfl
theorem q1474 : (Jvm.Cond.instanceMethod ({ cls := "WheelTablesModel", name := "refuse", desc := "(I)I" } : Jvm.MethodName)) ∈ lw_all := lw_g (lw_at lw_m6 180 rfl) rfl
theorem q1475 : (Jvm.Cond.code ({ cls := "WheelTablesModel", name := "refuse", desc := "(I)I" } : Jvm.MethodName) prog_9_method_4_code (2 : Nat) (Option.some Jvm.ClassFile.FieldType.int)) ∈ lw_all := lw_g (lw_at lw_m6 181 rfl) rfl
theorem q1476 : (Jvm.Cond.methodLink "WheelTablesModel" (255 : Nat) ({ cls := "WheelTablesModel", name := "numberOf", desc := "(II)J" } : Jvm.MethodName)) ∈ lw_all := lw_g (lw_at lw_m6 182 rfl) rfl
theorem q1477 : (Jvm.Cond.privateMethod ({ cls := "WheelTablesModel", name := "numberOf", desc := "(II)J" } : Jvm.MethodName)) ∈ lw_tbl := lw_at lw_m6 183 rfl
theorem q1478 : (Jvm.Cond.instanceMethod ({ cls := "WheelTablesModel", name := "numberOf", desc := "(II)J" } : Jvm.MethodName)) ∈ lw_all := lw_g (lw_at lw_m6 184 rfl) rfl
theorem q1479 : (Jvm.Cond.code ({ cls := "WheelTablesModel", name := "numberOf", desc := "(II)J" } : Jvm.MethodName) prog_9_method_17_code (3 : Nat) (Option.some Jvm.ClassFile.FieldType.long)) ∈ lw_all := lw_g (lw_at lw_m6 185 rfl) rfl
theorem q1481 : (Jvm.Cond.instanceMethod ({ cls := "WheelTablesModel", name := "figure", desc := "(III)I" } : Jvm.MethodName)) ∈ lw_all := lw_g (lw_at lw_m6 187 rfl) rfl
theorem q1482 : (Jvm.Cond.selects "WheelTablesModel" ({ cls := "WheelTablesModel", name := "figure", desc := "(III)I" } : Jvm.MethodName) ({ cls := "WheelTablesModel", name := "figure", desc := "(III)I" } : Jvm.MethodName)) ∈ lw_all := lw_g (lw_at lw_m6 188 rfl) rfl
theorem q1483 : (Jvm.Cond.code ({ cls := "WheelTablesModel", name := "figure", desc := "(III)I" } : Jvm.MethodName) prog_9_method_19_code (4 : Nat) (Option.some Jvm.ClassFile.FieldType.int)) ∈ lw_all := lw_g (lw_at lw_m6 189 rfl) rfl
theorem q1484 : (Jvm.Cond.methodLink "WheelTablesModel" (259 : Nat) ({ cls := "WheelTablesModel", name := "isWheel", desc := "(III)Z" } : Jvm.MethodName)) ∈ lw_all := lw_g (lw_at lw_m6 190 rfl) rfl
theorem q1485 : (Jvm.Cond.privateMethod ({ cls := "WheelTablesModel", name := "isWheel", desc := "(III)Z" } : Jvm.MethodName)) ∈ lw_tbl := lw_at lw_m6 191 rfl
theorem q1486 : (Jvm.Cond.instanceMethod ({ cls := "WheelTablesModel", name := "isWheel", desc := "(III)Z" } : Jvm.MethodName)) ∈ lw_all := lw_g (lw_at lw_m6 192 rfl) rfl
theorem q1487 : (Jvm.Cond.code ({ cls := "WheelTablesModel", name := "isWheel", desc := "(III)Z" } : Jvm.MethodName) prog_9_method_15_code (4 : Nat) (Option.some Jvm.ClassFile.FieldType.boolean)) ∈ lw_all := lw_g (lw_at lw_m6 193 rfl) rfl
theorem q1488 : (Jvm.Cond.methodLink "WheelTablesModel" (243 : Nat) ({ cls := "WheelTablesModel", name := "isEngine", desc := "(I)Z" } : Jvm.MethodName)) ∈ lw_all := lw_g (lw_at lw_m6 194 rfl) rfl
theorem q1489 : (Jvm.Cond.privateMethod ({ cls := "WheelTablesModel", name := "isEngine", desc := "(I)Z" } : Jvm.MethodName)) ∈ lw_tbl := lw_at lw_m6 195 rfl
theorem q1490 : (Jvm.Cond.instanceMethod ({ cls := "WheelTablesModel", name := "isEngine", desc := "(I)Z" } : Jvm.MethodName)) ∈ lw_all := lw_g (lw_at lw_m6 196 rfl) rfl
theorem q1491 : (Jvm.Cond.code ({ cls := "WheelTablesModel", name := "isEngine", desc := "(I)Z" } : Jvm.MethodName) prog_9_method_14_code (2 : Nat) (Option.some Jvm.ClassFile.FieldType.boolean)) ∈ lw_all := lw_g (lw_at lw_m6 197 rfl) rfl
theorem q1492 : (Jvm.Cond.methodLink "WheelTablesModel" (263 : Nat) ({ cls := "WheelTablesModel", name := "cell", desc := "(III)I" } : Jvm.MethodName)) ∈ lw_all := lw_g (lw_at lw_m6 198 rfl) rfl
theorem q1493 : (Jvm.Cond.static ({ cls := "WheelTablesModel", name := "cell", desc := "(III)I" } : Jvm.MethodName)) ∈ lw_all := lw_g (lw_at lw_m6 199 rfl) rfl
theorem q1494 : (Jvm.Cond.code ({ cls := "WheelTablesModel", name := "cell", desc := "(III)I" } : Jvm.MethodName) prog_9_method_16_code (3 : Nat) (Option.some Jvm.ClassFile.FieldType.int)) ∈ lw_all := lw_g (lw_at lw_m6 200 rfl) rfl
theorem q1496 : (Jvm.Cond.instanceMethod ({ cls := "WheelTablesModel", name := "put", desc := "(IIII)Z" } : Jvm.MethodName)) ∈ lw_all := lw_g (lw_at lw_m6 202 rfl) rfl
theorem q1497 : (Jvm.Cond.selects "WheelTablesModel" ({ cls := "WheelTablesModel", name := "put", desc := "(IIII)Z" } : Jvm.MethodName) ({ cls := "WheelTablesModel", name := "put", desc := "(IIII)Z" } : Jvm.MethodName)) ∈ lw_all := lw_g (lw_at lw_m6 203 rfl) rfl
theorem q1498 : (Jvm.Cond.code ({ cls := "WheelTablesModel", name := "put", desc := "(IIII)Z" } : Jvm.MethodName) prog_9_method_20_code (5 : Nat) (Option.some Jvm.ClassFile.FieldType.boolean)) ∈ lw_all := lw_g (lw_at lw_m6 204 rfl) rfl
theorem q1500 : (Jvm.Cond.instanceMethod ({ cls := "WheelTablesModel", name := "number", desc := "(II)J" } : Jvm.MethodName)) ∈ lw_all := lw_g (lw_at lw_m6 206 rfl) rfl
theorem q1501 : (Jvm.Cond.selects "WheelTablesModel" ({ cls := "WheelTablesModel", name := "number", desc := "(II)J" } : Jvm.MethodName) ({ cls := "WheelTablesModel", name := "number", desc := "(II)J" } : Jvm.MethodName)) ∈ lw_all := lw_g (lw_at lw_m6 207 rfl) rfl
theorem q1502 : (Jvm.Cond.code ({ cls := "WheelTablesModel", name := "number", desc := "(II)J" } : Jvm.MethodName) prog_9_method_22_code (3 : Nat) (Option.some Jvm.ClassFile.FieldType.long)) ∈ lw_all := lw_g (lw_at lw_m6 208 rfl) rfl
theorem q1503 : (Jvm.Cond.methodLink "WheelTablesModel" (267 : Nat) ({ cls := "WheelTablesModel", name := "onAxis", desc := "(II)J" } : Jvm.MethodName)) ∈ lw_all := lw_g (lw_at lw_m6 209 rfl) rfl
theorem q1504 : (Jvm.Cond.privateMethod ({ cls := "WheelTablesModel", name := "onAxis", desc := "(II)J" } : Jvm.MethodName)) ∈ lw_tbl := lw_at lw_m6 210 rfl
theorem q1505 : (Jvm.Cond.instanceMethod ({ cls := "WheelTablesModel", name := "onAxis", desc := "(II)J" } : Jvm.MethodName)) ∈ lw_all := lw_g (lw_at lw_m6 211 rfl) rfl
theorem q1506 : (Jvm.Cond.code ({ cls := "WheelTablesModel", name := "onAxis", desc := "(II)J" } : Jvm.MethodName) prog_9_method_21_code (6 : Nat) (Option.some Jvm.ClassFile.FieldType.long)) ∈ lw_all := lw_g (lw_at lw_m6 212 rfl) rfl
theorem q1508 : (Jvm.Cond.instanceMethod ({ cls := "WheelTablesModel", name := "set", desc := "(III)Z" } : Jvm.MethodName)) ∈ lw_all := lw_g (lw_at lw_m6 214 rfl) rfl
theorem q1509 : (Jvm.Cond.selects "WheelTablesModel" ({ cls := "WheelTablesModel", name := "set", desc := "(III)Z" } : Jvm.MethodName) ({ cls := "WheelTablesModel", name := "set", desc := "(III)Z" } : Jvm.MethodName)) ∈ lw_all := lw_g (lw_at lw_m6 215 rfl) rfl
theorem q1510 : (Jvm.Cond.code ({ cls := "WheelTablesModel", name := "set", desc := "(III)Z" } : Jvm.MethodName) prog_9_method_25_code (10 : Nat) (Option.some Jvm.ClassFile.FieldType.boolean)) ∈ lw_all := lw_g (lw_at lw_m6 216 rfl) rfl
theorem q1511 : (Jvm.Cond.constantLong "WheelTablesModel" (274 : Nat) (-1000000000 : Int64)) ∈ lw_all := lw_g (lw_at lw_m6 217 rfl) rfl
theorem q1512 : (Jvm.Cond.constantLong "WheelTablesModel" (276 : Nat) (1000000000 : Int64)) ∈ lw_all := lw_g (lw_at lw_m6 218 rfl) rfl
theorem q1513 : (Jvm.Cond.methodLink "WheelTablesModel" (278 : Nat) ({ cls := "WheelTablesModel", name := "back", desc := "(I)V" } : Jvm.MethodName)) ∈ lw_all := lw_g (lw_at lw_m6 219 rfl) rfl
theorem q1514 : (Jvm.Cond.privateMethod ({ cls := "WheelTablesModel", name := "back", desc := "(I)V" } : Jvm.MethodName)) ∈ lw_tbl := lw_at lw_m6 220 rfl
theorem q1515 : (Jvm.Cond.instanceMethod ({ cls := "WheelTablesModel", name := "back", desc := "(I)V" } : Jvm.MethodName)) ∈ lw_all := lw_g (lw_at lw_m6 221 rfl) rfl
theorem q1516 : (Jvm.Cond.code ({ cls := "WheelTablesModel", name := "back", desc := "(I)V" } : Jvm.MethodName) prog_9_method_23_code (4 : Nat) (Option.none : Option Jvm.ClassFile.FieldType)) ∈ lw_all := lw_g (lw_at lw_m6 222 rfl) rfl
theorem q1517 : (Jvm.Cond.methodLink "WheelTablesModel" (270 : Nat) ({ cls := "WheelTablesModel", name := "ahead", desc := "(II)V" } : Jvm.MethodName)) ∈ lw_all := lw_g (lw_at lw_m6 223 rfl) rfl
theorem q1518 : (Jvm.Cond.privateMethod ({ cls := "WheelTablesModel", name := "ahead", desc := "(II)V" } : Jvm.MethodName)) ∈ lw_tbl := lw_at lw_m6 224 rfl
theorem q1519 : (Jvm.Cond.instanceMethod ({ cls := "WheelTablesModel", name := "ahead", desc := "(II)V" } : Jvm.MethodName)) ∈ lw_all := lw_g (lw_at lw_m6 225 rfl) rfl
theorem q1520 : (Jvm.Cond.code ({ cls := "WheelTablesModel", name := "ahead", desc := "(II)V" } : Jvm.MethodName) prog_9_method_24_code (3 : Nat) (Option.none : Option Jvm.ClassFile.FieldType)) ∈ lw_all := lw_g (lw_at lw_m6 226 rfl) rfl
theorem q1521 : (Jvm.Cond.methodLink "WheelTablesModel" (282 : Nat) ({ cls := "java/lang/Math", name := "floorMod", desc := "(JJ)J" } : Jvm.MethodName)) ∈ lw_all := lw_g (lw_at lw_m6 227 rfl) rfl
theorem q1523 : (Jvm.Cond.instanceMethod ({ cls := "WheelTablesModel", name := "mishap", desc := "(IIIII)Z" } : Jvm.MethodName)) ∈ lw_all := lw_g (lw_at lw_m6 229 rfl) rfl
theorem q1524 : (Jvm.Cond.selects "WheelTablesModel" ({ cls := "WheelTablesModel", name := "mishap", desc := "(IIIII)Z" } : Jvm.MethodName) ({ cls := "WheelTablesModel", name := "mishap", desc := "(IIIII)Z" } : Jvm.MethodName)) ∈ lw_all := lw_g (lw_at lw_m6 230 rfl) rfl
theorem q1525 : (Jvm.Cond.code ({ cls := "WheelTablesModel", name := "mishap", desc := "(IIIII)Z" } : Jvm.MethodName) prog_9_method_26_code (7 : Nat) (Option.some Jvm.ClassFile.FieldType.boolean)) ∈ lw_all := lw_g (lw_at lw_m6 231 rfl) rfl
theorem q1526 : (Jvm.Cond.constantLong "WheelTablesModel" (288 : Nat) (1000 : Int64)) ∈ lw_all := lw_g (lw_at lw_m6 232 rfl) rfl
theorem q1528 : (Jvm.Cond.instanceMethod ({ cls := "WheelTablesModel", name := "mend", desc := "(I)Z" } : Jvm.MethodName)) ∈ lw_all := lw_g (lw_at lw_m6 234 rfl) rfl
theorem q1529 : (Jvm.Cond.selects "WheelTablesModel" ({ cls := "WheelTablesModel", name := "mend", desc := "(I)Z" } : Jvm.MethodName) ({ cls := "WheelTablesModel", name := "mend", desc := "(I)Z" } : Jvm.MethodName)) ∈ lw_all := lw_g (lw_at lw_m6 235 rfl) rfl
theorem q1530 : (Jvm.Cond.code ({ cls := "WheelTablesModel", name := "mend", desc := "(I)Z" } : Jvm.MethodName) prog_9_method_27_code (2 : Nat) (Option.some Jvm.ClassFile.FieldType.boolean)) ∈ lw_all := lw_g (lw_at lw_m6 236 rfl) rfl
theorem q1532 : (Jvm.Cond.instanceMethod ({ cls := "WheelTablesModel", name := "turn", desc := "(II)I" } : Jvm.MethodName)) ∈ lw_all := lw_g (lw_at lw_m6 238 rfl) rfl
theorem q1533 : (Jvm.Cond.selects "WheelTablesModel" ({ cls := "WheelTablesModel", name := "turn", desc := "(II)I" } : Jvm.MethodName) ({ cls := "WheelTablesModel", name := "turn", desc := "(II)I" } : Jvm.MethodName)) ∈ lw_all := lw_g (lw_at lw_m6 239 rfl) rfl
theorem q1534 : (Jvm.Cond.code ({ cls := "WheelTablesModel", name := "turn", desc := "(II)I" } : Jvm.MethodName) prog_9_method_31_code (4 : Nat) (Option.some Jvm.ClassFile.FieldType.int)) ∈ lw_all := lw_g (lw_at lw_m7 0 rfl) rfl
theorem q1535 : (Jvm.Cond.constantLong "WheelTablesModel" (307 : Nat) (200 : Int64)) ∈ lw_all := lw_g (lw_at lw_m7 1 rfl) rfl
theorem q1536 : (Jvm.Cond.methodLink "WheelTablesModel" (309 : Nat) ({ cls := "WheelTablesModel", name := "turnOne", desc := "(IIZ)V" } : Jvm.MethodName)) ∈ lw_all := lw_g (lw_at lw_m7 2 rfl) rfl
theorem q1537 : (Jvm.Cond.privateMethod ({ cls := "WheelTablesModel", name := "turnOne", desc := "(IIZ)V" } : Jvm.MethodName)) ∈ lw_tbl := lw_at lw_m7 3 rfl
theorem q1538 : (Jvm.Cond.instanceMethod ({ cls := "WheelTablesModel", name := "turnOne", desc := "(IIZ)V" } : Jvm.MethodName)) ∈ lw_all := lw_g (lw_at lw_m7 4 rfl) rfl
theorem q1539 : (Jvm.Cond.code ({ cls := "WheelTablesModel", name := "turnOne", desc := "(IIZ)V" } : Jvm.MethodName) prog_9_method_30_code (9 : Nat) (Option.none : Option Jvm.ClassFile.FieldType)) ∈ lw_all := lw_g (lw_at lw_m7 5 rfl) rfl
theorem q1540 : (Jvm.Cond.methodLink "WheelTablesModel" (303 : Nat) ({ cls := "WheelTablesModel", name := "adds", desc := "(IIIZ)V" } : Jvm.MethodName)) ∈ lw_all := lw_g (lw_at lw_m7 6 rfl) rfl
theorem q1541 : (Jvm.Cond.privateMethod ({ cls := "WheelTablesModel", name := "adds", desc := "(IIIZ)V" } : Jvm.MethodName)) ∈ lw_tbl := lw_at lw_m7 7 rfl
theorem q1542 : (Jvm.Cond.instanceMethod ({ cls := "WheelTablesModel", name := "adds", desc := "(IIIZ)V" } : Jvm.MethodName)) ∈ lw_all := lw_g (lw_at lw_m7 8 rfl) rfl
theorem q1543 : (Jvm.Cond.code ({ cls := "WheelTablesModel", name := "adds", desc := "(IIIZ)V" } : Jvm.MethodName) prog_9_method_29_code (9 : Nat) (Option.none : Option Jvm.ClassFile.FieldType)) ∈ lw_all := lw_g (lw_at lw_m7 9 rfl) rfl
theorem q1544 : (Jvm.Cond.methodLink "WheelTablesModel" (299 : Nat) ({ cls := "WheelTablesModel", name := "mishapped", desc := "(IIIIIZ)I" } : Jvm.MethodName)) ∈ lw_all := lw_g (lw_at lw_m7 10 rfl) rfl
theorem q1545 : (Jvm.Cond.privateMethod ({ cls := "WheelTablesModel", name := "mishapped", desc := "(IIIIIZ)I" } : Jvm.MethodName)) ∈ lw_tbl := lw_at lw_m7 11 rfl
theorem q1546 : (Jvm.Cond.instanceMethod ({ cls := "WheelTablesModel", name := "mishapped", desc := "(IIIIIZ)I" } : Jvm.MethodName)) ∈ lw_all := lw_g (lw_at lw_m7 12 rfl) rfl
theorem q1547 : (Jvm.Cond.code ({ cls := "WheelTablesModel", name := "mishapped", desc := "(IIIIIZ)I" } : Jvm.MethodName) prog_9_method_28_code (9 : Nat) (Option.some Jvm.ClassFile.FieldType.int)) ∈ lw_all := lw_g (lw_at lw_m7 13 rfl) rfl
theorem q1549 : (Jvm.Cond.instanceMethod ({ cls := "WheelTablesModel", name := "sheet", desc := "(III)Z" } : Jvm.MethodName)) ∈ lw_all := lw_g (lw_at lw_m7 15 rfl) rfl
theorem q1550 : (Jvm.Cond.selects "WheelTablesModel" ({ cls := "WheelTablesModel", name := "sheet", desc := "(III)Z" } : Jvm.MethodName) ({ cls := "WheelTablesModel", name := "sheet", desc := "(III)Z" } : Jvm.MethodName)) ∈ lw_all := lw_g (lw_at lw_m7 16 rfl) rfl
theorem q1551 : (Jvm.Cond.code ({ cls := "WheelTablesModel", name := "sheet", desc := "(III)Z" } : Jvm.MethodName) prog_9_method_34_code (5 : Nat) (Option.some Jvm.ClassFile.FieldType.boolean)) ∈ lw_all := lw_g (lw_at lw_m7 17 rfl) rfl
theorem q1552 : (Jvm.Cond.methodLink "WheelTablesModel" (315 : Nat) ({ cls := "WheelTablesModel", name := "asksSheet", desc := "(III)I" } : Jvm.MethodName)) ∈ lw_all := lw_g (lw_at lw_m7 18 rfl) rfl
theorem q1553 : (Jvm.Cond.privateMethod ({ cls := "WheelTablesModel", name := "asksSheet", desc := "(III)I" } : Jvm.MethodName)) ∈ lw_tbl := lw_at lw_m7 19 rfl
theorem q1554 : (Jvm.Cond.instanceMethod ({ cls := "WheelTablesModel", name := "asksSheet", desc := "(III)I" } : Jvm.MethodName)) ∈ lw_all := lw_g (lw_at lw_m7 20 rfl) rfl
theorem q1555 : (Jvm.Cond.code ({ cls := "WheelTablesModel", name := "asksSheet", desc := "(III)I" } : Jvm.MethodName) prog_9_method_33_code (4 : Nat) (Option.some Jvm.ClassFile.FieldType.int)) ∈ lw_all := lw_g (lw_at lw_m7 21 rfl) rfl
theorem q1556 : (Jvm.Cond.constantLong "WheelTablesModel" (313 : Nat) (60 : Int64)) ∈ lw_all := lw_g (lw_at lw_m7 22 rfl) rfl
theorem q1557 : (Jvm.Cond.methodLink "WheelTablesModel" (318 : Nat) ({ cls := "WheelTablesModel", name := "cutTo", desc := "(IJ)J" } : Jvm.MethodName)) ∈ lw_all := lw_g (lw_at lw_m7 23 rfl) rfl
theorem q1558 : (Jvm.Cond.static ({ cls := "WheelTablesModel", name := "cutTo", desc := "(IJ)J" } : Jvm.MethodName)) ∈ lw_all := lw_g (lw_at lw_m7 24 rfl) rfl
theorem q1559 : (Jvm.Cond.code ({ cls := "WheelTablesModel", name := "cutTo", desc := "(IJ)J" } : Jvm.MethodName) prog_9_method_32_code (3 : Nat) (Option.some Jvm.ClassFile.FieldType.long)) ∈ lw_all := lw_g (lw_at lw_m7 25 rfl) rfl
theorem q1561 : (Jvm.Cond.instanceMethod ({ cls := "WheelTablesModel", name := "explain", desc := "(III)I" } : Jvm.MethodName)) ∈ lw_all := lw_g (lw_at lw_m7 27 rfl) rfl
theorem q1562 : (Jvm.Cond.selects "WheelTablesModel" ({ cls := "WheelTablesModel", name := "explain", desc := "(III)I" } : Jvm.MethodName) ({ cls := "WheelTablesModel", name := "explain", desc := "(III)I" } : Jvm.MethodName)) ∈ lw_all := lw_g (lw_at lw_m7 28 rfl) rfl
theorem q1563 : (Jvm.Cond.code ({ cls := "WheelTablesModel", name := "explain", desc := "(III)I" } : Jvm.MethodName) prog_9_method_36_code (6 : Nat) (Option.some Jvm.ClassFile.FieldType.int)) ∈ lw_all := lw_g (lw_at lw_m7 29 rfl) rfl
theorem q1564 : (Jvm.Cond.methodLink "WheelTablesModel" (321 : Nat) ({ cls := "WheelTablesModel", name := "shows", desc := "(III)Z" } : Jvm.MethodName)) ∈ lw_all := lw_g (lw_at lw_m7 30 rfl) rfl
theorem q1565 : (Jvm.Cond.privateMethod ({ cls := "WheelTablesModel", name := "shows", desc := "(III)Z" } : Jvm.MethodName)) ∈ lw_tbl := lw_at lw_m7 31 rfl
theorem q1566 : (Jvm.Cond.instanceMethod ({ cls := "WheelTablesModel", name := "shows", desc := "(III)Z" } : Jvm.MethodName)) ∈ lw_all := lw_g (lw_at lw_m7 32 rfl) rfl
theorem q1567 : (Jvm.Cond.code ({ cls := "WheelTablesModel", name := "shows", desc := "(III)Z" } : Jvm.MethodName) prog_9_method_35_code (6 : Nat) (Option.some Jvm.ClassFile.FieldType.boolean)) ∈ lw_all := lw_g (lw_at lw_m7 33 rfl) rfl
theorem q1569 : (Jvm.Cond.instanceMethod ({ cls := "WheelTablesModel", name := "because", desc := "(I)I" } : Jvm.MethodName)) ∈ lw_all := lw_g (lw_at lw_m7 35 rfl) rfl
theorem q1570 : (Jvm.Cond.selects "WheelTablesModel" ({ cls := "WheelTablesModel", name := "because", desc := "(I)I" } : Jvm.MethodName) ({ cls := "WheelTablesModel", name := "because", desc := "(I)I" } : Jvm.MethodName)) ∈ lw_all := lw_g (lw_at lw_m7 36 rfl) rfl
theorem q1571 : (Jvm.Cond.code ({ cls := "WheelTablesModel", name := "because", desc := "(I)I" } : Jvm.MethodName) prog_9_method_37_code (2 : Nat) (Option.some Jvm.ClassFile.FieldType.int)) ∈ lw_all := lw_g (lw_at lw_m7 37 rfl) rfl
theorem q1572 : (Jvm.Cond.constantLong "WheelTablesModel" (333 : Nat) (3 : Int64)) ∈ lw_all := lw_g (lw_at lw_m7 38 rfl) rfl
theorem q1574 : (Jvm.Cond.instanceMethod ({ cls := "WheelTablesModel", name := "finer", desc := "(IIII)I" } : Jvm.MethodName)) ∈ lw_all := lw_g (lw_at lw_m7 40 rfl) rfl
theorem q1575 : (Jvm.Cond.selects "WheelTablesModel" ({ cls := "WheelTablesModel", name := "finer", desc := "(IIII)I" } : Jvm.MethodName) ({ cls := "WheelTablesModel", name := "finer", desc := "(IIII)I" } : Jvm.MethodName)) ∈ lw_all := lw_g (lw_at lw_m7 41 rfl) rfl
theorem q1576 : (Jvm.Cond.code ({ cls := "WheelTablesModel", name := "finer", desc := "(IIII)I" } : Jvm.MethodName) prog_9_method_41_code (8 : Nat) (Option.some Jvm.ClassFile.FieldType.int)) ∈ lw_all := lw_g (lw_at lw_m7 42 rfl) rfl
theorem q1577 : (Jvm.Cond.constantLong "WheelTablesModel" (340 : Nat) (4 : Int64)) ∈ lw_all := lw_g (lw_at lw_m7 43 rfl) rfl
theorem q1578 : (Jvm.Cond.constantLong "WheelTablesModel" (342 : Nat) (20 : Int64)) ∈ lw_all := lw_g (lw_at lw_m7 44 rfl) rfl
theorem q1579 : (Jvm.Cond.constantLong "WheelTablesModel" (344 : Nat) (-10000 : Int64)) ∈ lw_all := lw_g (lw_at lw_m7 45 rfl) rfl
theorem q1580 : (Jvm.Cond.constantLong "WheelTablesModel" (346 : Nat) (10000 : Int64)) ∈ lw_all := lw_g (lw_at lw_m7 46 rfl) rfl
theorem q1581 : (Jvm.Cond.methodLink "WheelTablesModel" (348 : Nat) ({ cls := "WheelTablesModel", name := "isEnough", desc := "(IIIJI)Z" } : Jvm.MethodName)) ∈ lw_all := lw_g (lw_at lw_m7 47 rfl) rfl
theorem q1582 : (Jvm.Cond.privateMethod ({ cls := "WheelTablesModel", name := "isEnough", desc := "(IIIJI)Z" } : Jvm.MethodName)) ∈ lw_tbl := lw_at lw_m7 48 rfl
theorem q1583 : (Jvm.Cond.instanceMethod ({ cls := "WheelTablesModel", name := "isEnough", desc := "(IIIJI)Z" } : Jvm.MethodName)) ∈ lw_all := lw_g (lw_at lw_m7 49 rfl) rfl
theorem q1584 : (Jvm.Cond.code ({ cls := "WheelTablesModel", name := "isEnough", desc := "(IIIJI)Z" } : Jvm.MethodName) prog_9_method_42_code (12 : Nat) (Option.some Jvm.ClassFile.FieldType.boolean)) ∈ lw_all := lw_g (lw_at lw_m7 50 rfl) rfl
theorem q1585 : (Jvm.Cond.methodLink "WheelTablesModel" (352 : Nat) ({ cls := "WheelTablesModel", name := "times10", desc := "(I)J" } : Jvm.MethodName)) ∈ lw_all := lw_g (lw_at lw_m7 51 rfl) rfl
theorem q1586 : (Jvm.Cond.static ({ cls := "WheelTablesModel", name := "times10", desc := "(I)J" } : Jvm.MethodName)) ∈ lw_all := lw_g (lw_at lw_m7 52 rfl) rfl
theorem q1587 : (Jvm.Cond.code ({ cls := "WheelTablesModel", name := "times10", desc := "(I)J" } : Jvm.MethodName) prog_9_method_38_code (4 : Nat) (Option.some Jvm.ClassFile.FieldType.long)) ∈ lw_all := lw_g (lw_at lw_m7 53 rfl) rfl
theorem q1588 : (Jvm.Cond.constantLong "WheelTablesModel" (335 : Nat) (10 : Int64)) ∈ lw_all := lw_g (lw_at lw_m7 54 rfl) rfl
theorem q1589 : (Jvm.Cond.methodLink "WheelTablesModel" (356 : Nat) ({ cls := "WheelTablesModel", name := "atPart", desc := "(III)J" } : Jvm.MethodName)) ∈ lw_all := lw_g (lw_at lw_m7 55 rfl) rfl
theorem q1590 : (Jvm.Cond.privateMethod ({ cls := "WheelTablesModel", name := "atPart", desc := "(III)J" } : Jvm.MethodName)) ∈ lw_tbl := lw_at lw_m7 56 rfl
theorem q1591 : (Jvm.Cond.instanceMethod ({ cls := "WheelTablesModel", name := "atPart", desc := "(III)J" } : Jvm.MethodName)) ∈ lw_all := lw_g (lw_at lw_m7 57 rfl) rfl
theorem q1592 : (Jvm.Cond.code ({ cls := "WheelTablesModel", name := "atPart", desc := "(III)J" } : Jvm.MethodName) prog_9_method_40_code (13 : Nat) (Option.some Jvm.ClassFile.FieldType.long)) ∈ lw_all := lw_g (lw_at lw_m7 58 rfl) rfl
theorem q1593 : (Jvm.Cond.methodLink "WheelTablesModel" (337 : Nat) ({ cls := "java/lang/Math", name := "floorDiv", desc := "(JJ)J" } : Jvm.MethodName)) ∈ lw_all := lw_g (lw_at lw_m7 59 rfl) rfl
theorem q1594 : (Jvm.Cond.methodLink "WheelTablesModel" (360 : Nat) ({ cls := "WheelTablesModel", name := "nearest", desc := "(JJ)J" } : Jvm.MethodName)) ∈ lw_all := lw_g (lw_at lw_m7 60 rfl) rfl
theorem q1595 : (Jvm.Cond.static ({ cls := "WheelTablesModel", name := "nearest", desc := "(JJ)J" } : Jvm.MethodName)) ∈ lw_all := lw_g (lw_at lw_m7 61 rfl) rfl
theorem q1596 : (Jvm.Cond.code ({ cls := "WheelTablesModel", name := "nearest", desc := "(JJ)J" } : Jvm.MethodName) prog_9_method_39_code (4 : Nat) (Option.some Jvm.ClassFile.FieldType.long)) ∈ lw_all := lw_g (lw_at lw_m7 62 rfl) rfl
theorem q1598 : (Jvm.Cond.instanceMethod ({ cls := "WheelTablesModel", name := "feed", desc := "(IIIII)I" } : Jvm.MethodName)) ∈ lw_all := lw_g (lw_at lw_m7 64 rfl) rfl
theorem q1599 : (Jvm.Cond.selects "WheelTablesModel" ({ cls := "WheelTablesModel", name := "feed", desc := "(IIIII)I" } : Jvm.MethodName) ({ cls := "WheelTablesModel", name := "feed", desc := "(IIIII)I" } : Jvm.MethodName)) ∈ lw_all := lw_g (lw_at lw_m7 65 rfl) rfl
theorem q1600 : (Jvm.Cond.code ({ cls := "WheelTablesModel", name := "feed", desc := "(IIIII)I" } : Jvm.MethodName) prog_9_method_57_code (6 : Nat) (Option.some Jvm.ClassFile.FieldType.int)) ∈ lw_all := lw_g (lw_at lw_m7 66 rfl) rfl
theorem q1601 : (Jvm.Cond.methodLink "WheelTablesModel" (445 : Nat) ({ cls := "WheelTablesModel", name := "lay", desc := "(I)V" } : Jvm.MethodName)) ∈ lw_all := lw_g (lw_at lw_m7 67 rfl) rfl
theorem q1602 : (Jvm.Cond.privateMethod ({ cls := "WheelTablesModel", name := "lay", desc := "(I)V" } : Jvm.MethodName)) ∈ lw_tbl := lw_at lw_m7 68 rfl
theorem q1603 : (Jvm.Cond.instanceMethod ({ cls := "WheelTablesModel", name := "lay", desc := "(I)V" } : Jvm.MethodName)) ∈ lw_all := lw_g (lw_at lw_m7 69 rfl) rfl
theorem q1604 : (Jvm.Cond.code ({ cls := "WheelTablesModel", name := "lay", desc := "(I)V" } : Jvm.MethodName) prog_9_method_58_code (3 : Nat) (Option.none : Option Jvm.ClassFile.FieldType)) ∈ lw_all := lw_g (lw_at lw_m7 70 rfl) rfl
theorem q1606 : (Jvm.Cond.instanceMethod ({ cls := "WheelTablesModel", name := "cards", desc := "(I)I" } : Jvm.MethodName)) ∈ lw_all := lw_g (lw_at lw_m7 72 rfl) rfl
theorem q1607 : (Jvm.Cond.selects "WheelTablesModel" ({ cls := "WheelTablesModel", name := "cards", desc := "(I)I" } : Jvm.MethodName) ({ cls := "WheelTablesModel", name := "cards", desc := "(I)I" } : Jvm.MethodName)) ∈ lw_all := lw_g (lw_at lw_m7 73 rfl) rfl
theorem q1608 : (Jvm.Cond.code ({ cls := "WheelTablesModel", name := "cards", desc := "(I)I" } : Jvm.MethodName) prog_9_method_59_code (4 : Nat) (Option.some Jvm.ClassFile.FieldType.int)) ∈ lw_all := lw_g (lw_at lw_m7 74 rfl) rfl
theorem q1609 : (Jvm.Cond.methodLink "WheelTablesModel" (412 : Nat) ({ cls := "WheelTablesModel", name := "next", desc := "()V" } : Jvm.MethodName)) ∈ lw_all := lw_g (lw_at lw_m7 75 rfl) rfl
theorem q1610 : (Jvm.Cond.privateMethod ({ cls := "WheelTablesModel", name := "next", desc := "()V" } : Jvm.MethodName)) ∈ lw_tbl := lw_at lw_m7 76 rfl
theorem q1611 : (Jvm.Cond.instanceMethod ({ cls := "WheelTablesModel", name := "next", desc := "()V" } : Jvm.MethodName)) ∈ lw_all := lw_g (lw_at lw_m7 77 rfl) rfl
theorem q1612 : (Jvm.Cond.code ({ cls := "WheelTablesModel", name := "next", desc := "()V" } : Jvm.MethodName) prog_9_method_46_code (2 : Nat) (Option.none : Option Jvm.ClassFile.FieldType)) ∈ lw_all := lw_g (lw_at lw_m7 78 rfl) rfl
theorem q1613 : (Jvm.Cond.methodLink "WheelTablesModel" (372 : Nat) ({ cls := "WheelTablesModel", name := "look", desc := "(I)I" } : Jvm.MethodName)) ∈ lw_all := lw_g (lw_at lw_m7 79 rfl) rfl
theorem q1614 : (Jvm.Cond.privateMethod ({ cls := "WheelTablesModel", name := "look", desc := "(I)I" } : Jvm.MethodName)) ∈ lw_tbl := lw_at lw_m7 80 rfl
theorem q1615 : (Jvm.Cond.instanceMethod ({ cls := "WheelTablesModel", name := "look", desc := "(I)I" } : Jvm.MethodName)) ∈ lw_all := lw_g (lw_at lw_m7 81 rfl) rfl
theorem q1616 : (Jvm.Cond.code ({ cls := "WheelTablesModel", name := "look", desc := "(I)I" } : Jvm.MethodName) prog_9_method_43_code (2 : Nat) (Option.some Jvm.ClassFile.FieldType.int)) ∈ lw_all := lw_g (lw_at lw_m7 82 rfl) rfl
theorem q1617 : (Jvm.Cond.methodLink "WheelTablesModel" (378 : Nat) ({ cls := "WheelTablesModel", name := "isLetter", desc := "(I)Z" } : Jvm.MethodName)) ∈ lw_all := lw_g (lw_at lw_m7 83 rfl) rfl
theorem q1618 : (Jvm.Cond.static ({ cls := "WheelTablesModel", name := "isLetter", desc := "(I)Z" } : Jvm.MethodName)) ∈ lw_all := lw_g (lw_at lw_m7 84 rfl) rfl
theorem q1619 : (Jvm.Cond.code ({ cls := "WheelTablesModel", name := "isLetter", desc := "(I)Z" } : Jvm.MethodName) prog_9_method_44_code (1 : Nat) (Option.some Jvm.ClassFile.FieldType.boolean)) ∈ lw_all := lw_g (lw_at lw_m7 85 rfl) rfl
theorem q1620 : (Jvm.Cond.constantLong "WheelTablesModel" (385 : Nat) (32 : Int64)) ∈ lw_all := lw_g (lw_at lw_m7 86 rfl) rfl
theorem q1621 : (Jvm.Cond.constantLong "WheelTablesModel" (387 : Nat) (96 : Int64)) ∈ lw_all := lw_g (lw_at lw_m7 87 rfl) rfl
theorem q1622 : (Jvm.Cond.methodLink "WheelTablesModel" (392 : Nat) ({ cls := "WheelTablesModel", name := "isDigit", desc := "(I)Z" } : Jvm.MethodName)) ∈ lw_all := lw_g (lw_at lw_m7 88 rfl) rfl
theorem q1623 : (Jvm.Cond.static ({ cls := "WheelTablesModel", name := "isDigit", desc := "(I)Z" } : Jvm.MethodName)) ∈ lw_all := lw_g (lw_at lw_m7 89 rfl) rfl
theorem q1624 : (Jvm.Cond.code ({ cls := "WheelTablesModel", name := "isDigit", desc := "(I)Z" } : Jvm.MethodName) prog_9_method_45_code (1 : Nat) (Option.some Jvm.ClassFile.FieldType.boolean)) ∈ lw_all := lw_g (lw_at lw_m7 90 rfl) rfl
theorem q1625 : (Jvm.Cond.constantLong "WheelTablesModel" (398 : Nat) (48 : Int64)) ∈ lw_all := lw_g (lw_at lw_m7 91 rfl) rfl
theorem q1626 : (Jvm.Cond.methodLink "WheelTablesModel" (448 : Nat) ({ cls := "WheelTablesModel", name := "readCard", desc := "()V" } : Jvm.MethodName)) ∈ lw_all := lw_g (lw_at lw_m7 92 rfl) rfl
theorem q1627 : (Jvm.Cond.privateMethod ({ cls := "WheelTablesModel", name := "readCard", desc := "()V" } : Jvm.MethodName)) ∈ lw_tbl := lw_at lw_m7 93 rfl
theorem q1628 : (Jvm.Cond.instanceMethod ({ cls := "WheelTablesModel", name := "readCard", desc := "()V" } : Jvm.MethodName)) ∈ lw_all := lw_g (lw_at lw_m7 94 rfl) rfl
theorem q1629 : (Jvm.Cond.code ({ cls := "WheelTablesModel", name := "readCard", desc := "()V" } : Jvm.MethodName) prog_9_method_54_code (3 : Nat) (Option.none : Option Jvm.ClassFile.FieldType)) ∈ lw_all := lw_g (lw_at lw_m7 95 rfl) rfl
theorem q1630 : (Jvm.Cond.methodLink "WheelTablesModel" (423 : Nat) ({ cls := "WheelTablesModel", name := "cardKind", desc := "()I" } : Jvm.MethodName)) ∈ lw_all := lw_g (lw_at lw_m7 96 rfl) rfl
theorem q1631 : (Jvm.Cond.privateMethod ({ cls := "WheelTablesModel", name := "cardKind", desc := "()I" } : Jvm.MethodName)) ∈ lw_tbl := lw_at lw_m7 97 rfl
theorem q1632 : (Jvm.Cond.instanceMethod ({ cls := "WheelTablesModel", name := "cardKind", desc := "()I" } : Jvm.MethodName)) ∈ lw_all := lw_g (lw_at lw_m7 98 rfl) rfl
theorem q1633 : (Jvm.Cond.code ({ cls := "WheelTablesModel", name := "cardKind", desc := "()I" } : Jvm.MethodName) prog_9_method_53_code (1 : Nat) (Option.some Jvm.ClassFile.FieldType.int)) ∈ lw_all := lw_g (lw_at lw_m7 99 rfl) rfl
theorem q1634 : (Jvm.Cond.methodLink "WheelTablesModel" (415 : Nat) ({ cls := "WheelTablesModel", name := "spelled", desc := "(IIIII)J" } : Jvm.MethodName)) ∈ lw_all := lw_g (lw_at lw_m7 100 rfl) rfl
theorem q1635 : (Jvm.Cond.static ({ cls := "WheelTablesModel", name := "spelled", desc := "(IIIII)J" } : Jvm.MethodName)) ∈ lw_all := lw_g (lw_at lw_m7 101 rfl) rfl
theorem q1636 : (Jvm.Cond.code ({ cls := "WheelTablesModel", name := "spelled", desc := "(IIIII)J" } : Jvm.MethodName) prog_9_method_47_code (7 : Nat) (Option.some Jvm.ClassFile.FieldType.long)) ∈ lw_all := lw_g (lw_at lw_m7 102 rfl) rfl
theorem q1637 : (Jvm.Cond.methodLink "WheelTablesModel" (419 : Nat) ({ cls := "WheelTablesModel", name := "isWord", desc := "(J)Z" } : Jvm.MethodName)) ∈ lw_all := lw_g (lw_at lw_m7 103 rfl) rfl
theorem q1638 : (Jvm.Cond.privateMethod ({ cls := "WheelTablesModel", name := "isWord", desc := "(J)Z" } : Jvm.MethodName)) ∈ lw_tbl := lw_at lw_m7 104 rfl
theorem q1639 : (Jvm.Cond.instanceMethod ({ cls := "WheelTablesModel", name := "isWord", desc := "(J)Z" } : Jvm.MethodName)) ∈ lw_all := lw_g (lw_at lw_m7 105 rfl) rfl
theorem q1640 : (Jvm.Cond.code ({ cls := "WheelTablesModel", name := "isWord", desc := "(J)Z" } : Jvm.MethodName) prog_9_method_48_code (3 : Nat) (Option.some Jvm.ClassFile.FieldType.boolean)) ∈ lw_all := lw_g (lw_at lw_m7 106 rfl) rfl
theorem q1641 : (Jvm.Cond.methodLink "WheelTablesModel" (409 : Nat) ({ cls := "WheelTablesModel", name := "wrong", desc := "()V" } : Jvm.MethodName)) ∈ lw_all := lw_g (lw_at lw_m7 107 rfl) rfl
theorem q1642 : (Jvm.Cond.privateMethod ({ cls := "WheelTablesModel", name := "wrong", desc := "()V" } : Jvm.MethodName)) ∈ lw_tbl := lw_at lw_m7 108 rfl
theorem q1643 : (Jvm.Cond.instanceMethod ({ cls := "WheelTablesModel", name := "wrong", desc := "()V" } : Jvm.MethodName)) ∈ lw_all := lw_g (lw_at lw_m7 109 rfl) rfl
theorem q1644 : (Jvm.Cond.code ({ cls := "WheelTablesModel", name := "wrong", desc := "()V" } : Jvm.MethodName) prog_9_method_51_code (1 : Nat) (Option.none : Option Jvm.ClassFile.FieldType)) ∈ lw_all := lw_g (lw_at lw_m7 110 rfl) rfl
theorem q1645 : (Jvm.Cond.methodLink "WheelTablesModel" (406 : Nat) ({ cls := "WheelTablesModel", name := "fail", desc := "(II)V" } : Jvm.MethodName)) ∈ lw_all := lw_g (lw_at lw_m7 111 rfl) rfl
theorem q1646 : (Jvm.Cond.privateMethod ({ cls := "WheelTablesModel", name := "fail", desc := "(II)V" } : Jvm.MethodName)) ∈ lw_tbl := lw_at lw_m7 112 rfl
theorem q1647 : (Jvm.Cond.instanceMethod ({ cls := "WheelTablesModel", name := "fail", desc := "(II)V" } : Jvm.MethodName)) ∈ lw_all := lw_g (lw_at lw_m7 113 rfl) rfl
theorem q1648 : (Jvm.Cond.code ({ cls := "WheelTablesModel", name := "fail", desc := "(II)V" } : Jvm.MethodName) prog_9_method_50_code (3 : Nat) (Option.none : Option Jvm.ClassFile.FieldType)) ∈ lw_all := lw_g (lw_at lw_m7 114 rfl) rfl
theorem q1649 : (Jvm.Cond.methodLink "WheelTablesModel" (430 : Nat) ({ cls := "WheelTablesModel", name := "readJump", desc := "(I)V" } : Jvm.MethodName)) ∈ lw_all := lw_g (lw_at lw_m7 115 rfl) rfl
theorem q1650 : (Jvm.Cond.privateMethod ({ cls := "WheelTablesModel", name := "readJump", desc := "(I)V" } : Jvm.MethodName)) ∈ lw_tbl := lw_at lw_m7 116 rfl
theorem q1651 : (Jvm.Cond.instanceMethod ({ cls := "WheelTablesModel", name := "readJump", desc := "(I)V" } : Jvm.MethodName)) ∈ lw_all := lw_g (lw_at lw_m7 117 rfl) rfl
theorem q1652 : (Jvm.Cond.code ({ cls := "WheelTablesModel", name := "readJump", desc := "(I)V" } : Jvm.MethodName) prog_9_method_56_code (3 : Nat) (Option.none : Option Jvm.ClassFile.FieldType)) ∈ lw_all := lw_g (lw_at lw_m7 118 rfl) rfl
theorem q1653 : (Jvm.Cond.methodLink "WheelTablesModel" (433 : Nat) ({ cls := "WheelTablesModel", name := "count", desc := "(II)I" } : Jvm.MethodName)) ∈ lw_all := lw_g (lw_at lw_m7 119 rfl) rfl
theorem q1654 : (Jvm.Cond.privateMethod ({ cls := "WheelTablesModel", name := "count", desc := "(II)I" } : Jvm.MethodName)) ∈ lw_tbl := lw_at lw_m7 120 rfl
theorem q1655 : (Jvm.Cond.instanceMethod ({ cls := "WheelTablesModel", name := "count", desc := "(II)I" } : Jvm.MethodName)) ∈ lw_all := lw_g (lw_at lw_m7 121 rfl) rfl
theorem q1656 : (Jvm.Cond.code ({ cls := "WheelTablesModel", name := "count", desc := "(II)I" } : Jvm.MethodName) prog_9_method_52_code (4 : Nat) (Option.some Jvm.ClassFile.FieldType.int)) ∈ lw_all := lw_g (lw_at lw_m7 122 rfl) rfl
theorem q1657 : (Jvm.Cond.methodLink "WheelTablesModel" (436 : Nat) ({ cls := "WheelTablesModel", name := "readWhole", desc := "(I)V" } : Jvm.MethodName)) ∈ lw_all := lw_g (lw_at lw_m7 123 rfl) rfl
theorem q1658 : (Jvm.Cond.privateMethod ({ cls := "WheelTablesModel", name := "readWhole", desc := "(I)V" } : Jvm.MethodName)) ∈ lw_tbl := lw_at lw_m7 124 rfl
theorem q1659 : (Jvm.Cond.instanceMethod ({ cls := "WheelTablesModel", name := "readWhole", desc := "(I)V" } : Jvm.MethodName)) ∈ lw_all := lw_g (lw_at lw_m7 125 rfl) rfl
theorem q1660 : (Jvm.Cond.code ({ cls := "WheelTablesModel", name := "readWhole", desc := "(I)V" } : Jvm.MethodName) prog_9_method_55_code (3 : Nat) (Option.none : Option Jvm.ClassFile.FieldType)) ∈ lw_all := lw_g (lw_at lw_m7 126 rfl) rfl
theorem q1661 : (Jvm.Cond.methodLink "WheelTablesModel" (439 : Nat) ({ cls := "WheelTablesModel", name := "isSign", desc := "(I)Z" } : Jvm.MethodName)) ∈ lw_all := lw_g (lw_at lw_m7 127 rfl) rfl
theorem q1662 : (Jvm.Cond.privateMethod ({ cls := "WheelTablesModel", name := "isSign", desc := "(I)Z" } : Jvm.MethodName)) ∈ lw_tbl := lw_at lw_m7 128 rfl
theorem q1663 : (Jvm.Cond.instanceMethod ({ cls := "WheelTablesModel", name := "isSign", desc := "(I)Z" } : Jvm.MethodName)) ∈ lw_all := lw_g (lw_at lw_m7 129 rfl) rfl
theorem q1664 : (Jvm.Cond.code ({ cls := "WheelTablesModel", name := "isSign", desc := "(I)Z" } : Jvm.MethodName) prog_9_method_49_code (2 : Nat) (Option.some Jvm.ClassFile.FieldType.boolean)) ∈ lw_all := lw_g (lw_at lw_m7 130 rfl) rfl
theorem q1666 : (Jvm.Cond.instanceMethod ({ cls := "WheelTablesModel", name := "fault", desc := "(I)I" } : Jvm.MethodName)) ∈ lw_all := lw_g (lw_at lw_m7 132 rfl) rfl
theorem q1667 : (Jvm.Cond.selects "WheelTablesModel" ({ cls := "WheelTablesModel", name := "fault", desc := "(I)I" } : Jvm.MethodName) ({ cls := "WheelTablesModel", name := "fault", desc := "(I)I" } : Jvm.MethodName)) ∈ lw_all := lw_g (lw_at lw_m7 133 rfl) rfl
theorem q1668 : (Jvm.Cond.code ({ cls := "WheelTablesModel", name := "fault", desc := "(I)I" } : Jvm.MethodName) prog_9_method_60_code (2 : Nat) (Option.some Jvm.ClassFile.FieldType.int)) ∈ lw_all := lw_g (lw_at lw_m7 134 rfl) rfl
theorem q1670 : (Jvm.Cond.instanceMethod ({ cls := "WheelTablesModel", name := "run", desc := "()I" } : Jvm.MethodName)) ∈ lw_all := lw_g (lw_at lw_m7 136 rfl) rfl
theorem q1671 : (Jvm.Cond.selects "WheelTablesModel" ({ cls := "WheelTablesModel", name := "run", desc := "()I" } : Jvm.MethodName) ({ cls := "WheelTablesModel", name := "run", desc := "()I" } : Jvm.MethodName)) ∈ lw_all := lw_g (lw_at lw_m7 137 rfl) rfl
theorem q1672 : (Jvm.Cond.code ({ cls := "WheelTablesModel", name := "run", desc := "()I" } : Jvm.MethodName) prog_9_method_65_code (2 : Nat) (Option.some Jvm.ClassFile.FieldType.int)) ∈ lw_all := lw_g (lw_at lw_m7 138 rfl) rfl
theorem q1673 : (Jvm.Cond.methodLink "WheelTablesModel" (488 : Nat) ({ cls := "WheelTablesModel", name := "alarms", desc := "(I)I" } : Jvm.MethodName)) ∈ lw_all := lw_g (lw_at lw_m7 139 rfl) rfl
theorem q1674 : (Jvm.Cond.privateMethod ({ cls := "WheelTablesModel", name := "alarms", desc := "(I)I" } : Jvm.MethodName)) ∈ lw_tbl := lw_at lw_m7 140 rfl
theorem q1675 : (Jvm.Cond.instanceMethod ({ cls := "WheelTablesModel", name := "alarms", desc := "(I)I" } : Jvm.MethodName)) ∈ lw_all := lw_g (lw_at lw_m7 141 rfl) rfl
theorem q1676 : (Jvm.Cond.code ({ cls := "WheelTablesModel", name := "alarms", desc := "(I)I" } : Jvm.MethodName) prog_9_method_62_code (6 : Nat) (Option.some Jvm.ClassFile.FieldType.int)) ∈ lw_all := lw_g (lw_at lw_m7 142 rfl) rfl
theorem q1677 : (Jvm.Cond.methodLink "WheelTablesModel" (451 : Nat) ({ cls := "java/lang/Math", name := "abs", desc := "(J)J" } : Jvm.MethodName)) ∈ lw_all := lw_g (lw_at lw_m7 143 rfl) rfl
theorem q1678 : (Jvm.Cond.constantLong "WheelTablesModel" (455 : Nat) (999999999999 : Int64)) ∈ lw_all := lw_g (lw_at lw_m7 144 rfl) rfl
theorem q1679 : (Jvm.Cond.methodLink "WheelTablesModel" (457 : Nat) ({ cls := "WheelTablesModel", name := "isOver", desc := "(JJ)Z" } : Jvm.MethodName)) ∈ lw_all := lw_g (lw_at lw_m7 145 rfl) rfl
theorem q1680 : (Jvm.Cond.static ({ cls := "WheelTablesModel", name := "isOver", desc := "(JJ)Z" } : Jvm.MethodName)) ∈ lw_all := lw_g (lw_at lw_m7 146 rfl) rfl
theorem q1681 : (Jvm.Cond.code ({ cls := "WheelTablesModel", name := "isOver", desc := "(JJ)Z" } : Jvm.MethodName) prog_9_method_61_code (4 : Nat) (Option.some Jvm.ClassFile.FieldType.boolean)) ∈ lw_all := lw_g (lw_at lw_m7 147 rfl) rfl
theorem q1682 : (Jvm.Cond.methodLink "WheelTablesModel" (491 : Nat) ({ cls := "WheelTablesModel", name := "does", desc := "(I)I" } : Jvm.MethodName)) ∈ lw_all := lw_g (lw_at lw_m7 148 rfl) rfl
theorem q1683 : (Jvm.Cond.privateMethod ({ cls := "WheelTablesModel", name := "does", desc := "(I)I" } : Jvm.MethodName)) ∈ lw_tbl := lw_at lw_m7 149 rfl
theorem q1684 : (Jvm.Cond.instanceMethod ({ cls := "WheelTablesModel", name := "does", desc := "(I)I" } : Jvm.MethodName)) ∈ lw_all := lw_g (lw_at lw_m7 150 rfl) rfl
theorem q1685 : (Jvm.Cond.code ({ cls := "WheelTablesModel", name := "does", desc := "(I)I" } : Jvm.MethodName) prog_9_method_64_code (7 : Nat) (Option.some Jvm.ClassFile.FieldType.int)) ∈ lw_all := lw_g (lw_at lw_m7 151 rfl) rfl
theorem q1686 : (Jvm.Cond.methodLink "WheelTablesModel" (471 : Nat) ({ cls := "WheelTablesModel", name := "comes", desc := "(IJ)V" } : Jvm.MethodName)) ∈ lw_all := lw_g (lw_at lw_m7 152 rfl) rfl
theorem q1687 : (Jvm.Cond.privateMethod ({ cls := "WheelTablesModel", name := "comes", desc := "(IJ)V" } : Jvm.MethodName)) ∈ lw_tbl := lw_at lw_m7 153 rfl
theorem q1688 : (Jvm.Cond.instanceMethod ({ cls := "WheelTablesModel", name := "comes", desc := "(IJ)V" } : Jvm.MethodName)) ∈ lw_all := lw_g (lw_at lw_m7 154 rfl) rfl
theorem q1689 : (Jvm.Cond.code ({ cls := "WheelTablesModel", name := "comes", desc := "(IJ)V" } : Jvm.MethodName) prog_9_method_63_code (4 : Nat) (Option.none : Option Jvm.ClassFile.FieldType)) ∈ lw_all := lw_g (lw_at lw_m7 155 rfl) rfl
theorem q1690 : (Jvm.Cond.methodLink "WheelTablesModel" (475 : Nat) ({ cls := "WheelTablesModel", name := "fewest", desc := "(J)I" } : Jvm.MethodName)) ∈ lw_all := lw_g (lw_at lw_m7 156 rfl) rfl
theorem q1691 : (Jvm.Cond.privateMethod ({ cls := "WheelTablesModel", name := "fewest", desc := "(J)I" } : Jvm.MethodName)) ∈ lw_tbl := lw_at lw_m7 157 rfl
theorem q1692 : (Jvm.Cond.instanceMethod ({ cls := "WheelTablesModel", name := "fewest", desc := "(J)I" } : Jvm.MethodName)) ∈ lw_all := lw_g (lw_at lw_m7 158 rfl) rfl
theorem q1693 : (Jvm.Cond.code ({ cls := "WheelTablesModel", name := "fewest", desc := "(J)I" } : Jvm.MethodName) prog_9_method_69_code (10 : Nat) (Option.some Jvm.ClassFile.FieldType.int)) ∈ lw_all := lw_g (lw_at lw_m7 159 rfl) rfl
theorem q1694 : (Jvm.Cond.methodLink "WheelTablesModel" (496 : Nat) ({ cls := "java/lang/Math", name := "min", desc := "(II)I" } : Jvm.MethodName)) ∈ lw_all := lw_g (lw_at lw_m7 160 rfl) rfl
theorem q1696 : (Jvm.Cond.instanceMethod ({ cls := "WheelTablesModel", name := "ran", desc := "(I)I" } : Jvm.MethodName)) ∈ lw_all := lw_g (lw_at lw_m7 162 rfl) rfl
theorem q1697 : (Jvm.Cond.selects "WheelTablesModel" ({ cls := "WheelTablesModel", name := "ran", desc := "(I)I" } : Jvm.MethodName) ({ cls := "WheelTablesModel", name := "ran", desc := "(I)I" } : Jvm.MethodName)) ∈ lw_all := lw_g (lw_at lw_m7 163 rfl) rfl
theorem q1698 : (Jvm.Cond.code ({ cls := "WheelTablesModel", name := "ran", desc := "(I)I" } : Jvm.MethodName) prog_9_method_66_code (2 : Nat) (Option.some Jvm.ClassFile.FieldType.int)) ∈ lw_all := lw_g (lw_at lw_m7 164 rfl) rfl
theorem q1700 : (Jvm.Cond.instanceMethod ({ cls := "WheelTablesModel", name := "printed", desc := "(I)J" } : Jvm.MethodName)) ∈ lw_all := lw_g (lw_at lw_m7 166 rfl) rfl
theorem q1701 : (Jvm.Cond.selects "WheelTablesModel" ({ cls := "WheelTablesModel", name := "printed", desc := "(I)J" } : Jvm.MethodName) ({ cls := "WheelTablesModel", name := "printed", desc := "(I)J" } : Jvm.MethodName)) ∈ lw_all := lw_g (lw_at lw_m7 167 rfl) rfl
theorem q1702 : (Jvm.Cond.code ({ cls := "WheelTablesModel", name := "printed", desc := "(I)J" } : Jvm.MethodName) prog_9_method_67_code (2 : Nat) (Option.some Jvm.ClassFile.FieldType.long)) ∈ lw_all := lw_g (lw_at lw_m7 168 rfl) rfl
theorem q1704 : (Jvm.Cond.instanceMethod ({ cls := "WheelTablesModel", name := "place", desc := "(I)J" } : Jvm.MethodName)) ∈ lw_all := lw_g (lw_at lw_m7 170 rfl) rfl
theorem q1705 : (Jvm.Cond.selects "WheelTablesModel" ({ cls := "WheelTablesModel", name := "place", desc := "(I)J" } : Jvm.MethodName) ({ cls := "WheelTablesModel", name := "place", desc := "(I)J" } : Jvm.MethodName)) ∈ lw_all := lw_g (lw_at lw_m7 171 rfl) rfl
theorem q1706 : (Jvm.Cond.code ({ cls := "WheelTablesModel", name := "place", desc := "(I)J" } : Jvm.MethodName) prog_9_method_68_code (2 : Nat) (Option.some Jvm.ClassFile.FieldType.long)) ∈ lw_all := lw_g (lw_at lw_m7 172 rfl) rfl
theorem q1707 : (Jvm.Cond.constantLong "WheelTablesModel" (494 : Nat) (19 : Int64)) ∈ lw_all := lw_g (lw_at lw_m7 173 rfl) rfl
theorem q1709 : (Jvm.Cond.instanceMethod ({ cls := "WheelTablesModel", name := "turns", desc := "(J)I" } : Jvm.MethodName)) ∈ lw_all := lw_g (lw_at lw_m7 175 rfl) rfl
theorem q1710 : (Jvm.Cond.selects "WheelTablesModel" ({ cls := "WheelTablesModel", name := "turns", desc := "(J)I" } : Jvm.MethodName) ({ cls := "WheelTablesModel", name := "turns", desc := "(J)I" } : Jvm.MethodName)) ∈ lw_all := lw_g (lw_at lw_m7 176 rfl) rfl
theorem q1711 : (Jvm.Cond.code ({ cls := "WheelTablesModel", name := "turns", desc := "(J)I" } : Jvm.MethodName) prog_9_method_70_code (3 : Nat) (Option.some Jvm.ClassFile.FieldType.int)) ∈ lw_all := lw_g (lw_at lw_m7 177 rfl) rfl
theorem q1713 : (Jvm.Cond.instanceMethod ({ cls := "WheelTablesModel", name := "turnsAt", desc := "(JI)I" } : Jvm.MethodName)) ∈ lw_all := lw_g (lw_at lw_m7 179 rfl) rfl
theorem q1714 : (Jvm.Cond.selects "WheelTablesModel" ({ cls := "WheelTablesModel", name := "turnsAt", desc := "(JI)I" } : Jvm.MethodName) ({ cls := "WheelTablesModel", name := "turnsAt", desc := "(JI)I" } : Jvm.MethodName)) ∈ lw_all := lw_g (lw_at lw_m7 180 rfl) rfl
theorem q1715 : (Jvm.Cond.code ({ cls := "WheelTablesModel", name := "turnsAt", desc := "(JI)I" } : Jvm.MethodName) prog_9_method_71_code (4 : Nat) (Option.some Jvm.ClassFile.FieldType.int)) ∈ lw_all := lw_g (lw_at lw_m7 181 rfl) rfl
theorem q1717 : (Jvm.Cond.instanceMethod ({ cls := "WheelTablesModel", name := "errata", desc := "(IIII)I" } : Jvm.MethodName)) ∈ lw_all := lw_g (lw_at lw_m7 183 rfl) rfl
theorem q1718 : (Jvm.Cond.selects "WheelTablesModel" ({ cls := "WheelTablesModel", name := "errata", desc := "(IIII)I" } : Jvm.MethodName) ({ cls := "WheelTablesModel", name := "errata", desc := "(IIII)I" } : Jvm.MethodName)) ∈ lw_all := lw_g (lw_at lw_m7 184 rfl) rfl
theorem q1719 : (Jvm.Cond.code ({ cls := "WheelTablesModel", name := "errata", desc := "(IIII)I" } : Jvm.MethodName) prog_9_method_77_code (8 : Nat) (Option.some Jvm.ClassFile.FieldType.int)) ∈ lw_all := lw_g (lw_at lw_m7 185 rfl) rfl
theorem q1720 : (Jvm.Cond.constantLong "WheelTablesModel" (509 : Nat) (99999999 : Int64)) ∈ lw_all := lw_g (lw_at lw_m7 186 rfl) rfl
theorem q1721 : (Jvm.Cond.methodLink "WheelTablesModel" (511 : Nat) ({ cls := "WheelTablesModel", name := "corrects", desc := "(I)V" } : Jvm.MethodName)) ∈ lw_all := lw_g (lw_at lw_m7 187 rfl) rfl
theorem q1722 : (Jvm.Cond.privateMethod ({ cls := "WheelTablesModel", name := "corrects", desc := "(I)V" } : Jvm.MethodName)) ∈ lw_tbl := lw_at lw_m7 188 rfl
theorem q1723 : (Jvm.Cond.instanceMethod ({ cls := "WheelTablesModel", name := "corrects", desc := "(I)V" } : Jvm.MethodName)) ∈ lw_all := lw_g (lw_at lw_m7 189 rfl) rfl
theorem q1724 : (Jvm.Cond.code ({ cls := "WheelTablesModel", name := "corrects", desc := "(I)V" } : Jvm.MethodName) prog_9_method_73_code (7 : Nat) (Option.none : Option Jvm.ClassFile.FieldType)) ∈ lw_all := lw_g (lw_at lw_m7 190 rfl) rfl
theorem q1725 : (Jvm.Cond.methodLink "WheelTablesModel" (499 : Nat) ({ cls := "WheelTablesModel", name := "varies", desc := "(II)V" } : Jvm.MethodName)) ∈ lw_all := lw_g (lw_at lw_m7 191 rfl) rfl
theorem q1726 : (Jvm.Cond.privateMethod ({ cls := "WheelTablesModel", name := "varies", desc := "(II)V" } : Jvm.MethodName)) ∈ lw_tbl := lw_at lw_m7 192 rfl
theorem q1727 : (Jvm.Cond.instanceMethod ({ cls := "WheelTablesModel", name := "varies", desc := "(II)V" } : Jvm.MethodName)) ∈ lw_all := lw_g (lw_at lw_m7 193 rfl) rfl
theorem q1728 : (Jvm.Cond.code ({ cls := "WheelTablesModel", name := "varies", desc := "(II)V" } : Jvm.MethodName) prog_9_method_74_code (5 : Nat) (Option.none : Option Jvm.ClassFile.FieldType)) ∈ lw_all := lw_g (lw_at lw_m7 194 rfl) rfl
theorem q1729 : (Jvm.Cond.methodLink "WheelTablesModel" (506 : Nat) ({ cls := "WheelTablesModel", name := "isSmooth", desc := "(III)Z" } : Jvm.MethodName)) ∈ lw_all := lw_g (lw_at lw_m7 195 rfl) rfl
theorem q1730 : (Jvm.Cond.privateMethod ({ cls := "WheelTablesModel", name := "isSmooth", desc := "(III)Z" } : Jvm.MethodName)) ∈ lw_tbl := lw_at lw_m7 196 rfl
theorem q1731 : (Jvm.Cond.instanceMethod ({ cls := "WheelTablesModel", name := "isSmooth", desc := "(III)Z" } : Jvm.MethodName)) ∈ lw_all := lw_g (lw_at lw_m7 197 rfl) rfl
theorem q1732 : (Jvm.Cond.code ({ cls := "WheelTablesModel", name := "isSmooth", desc := "(III)Z" } : Jvm.MethodName) prog_9_method_72_code (6 : Nat) (Option.some Jvm.ClassFile.FieldType.boolean)) ∈ lw_all := lw_g (lw_at lw_m7 198 rfl) rfl
theorem q1733 : (Jvm.Cond.methodLink "WheelTablesModel" (514 : Nat) ({ cls := "WheelTablesModel", name := "corrected", desc := "(IIIII)Z" } : Jvm.MethodName)) ∈ lw_all := lw_g (lw_at lw_m7 199 rfl) rfl
theorem q1734 : (Jvm.Cond.privateMethod ({ cls := "WheelTablesModel", name := "corrected", desc := "(IIIII)Z" } : Jvm.MethodName)) ∈ lw_tbl := lw_at lw_m7 200 rfl
theorem q1735 : (Jvm.Cond.instanceMethod ({ cls := "WheelTablesModel", name := "corrected", desc := "(IIIII)Z" } : Jvm.MethodName)) ∈ lw_all := lw_g (lw_at lw_m7 201 rfl) rfl
theorem q1736 : (Jvm.Cond.code ({ cls := "WheelTablesModel", name := "corrected", desc := "(IIIII)Z" } : Jvm.MethodName) prog_9_method_76_code (12 : Nat) (Option.some Jvm.ClassFile.FieldType.boolean)) ∈ lw_all := lw_g (lw_at lw_m7 202 rfl) rfl
theorem q1737 : (Jvm.Cond.methodLink "WheelTablesModel" (502 : Nat) ({ cls := "WheelTablesModel", name := "isElsewhere", desc := "(IIIII)Z" } : Jvm.MethodName)) ∈ lw_all := lw_g (lw_at lw_m7 203 rfl) rfl
theorem q1738 : (Jvm.Cond.privateMethod ({ cls := "WheelTablesModel", name := "isElsewhere", desc := "(IIIII)Z" } : Jvm.MethodName)) ∈ lw_tbl := lw_at lw_m7 204 rfl
theorem q1739 : (Jvm.Cond.instanceMethod ({ cls := "WheelTablesModel", name := "isElsewhere", desc := "(IIIII)Z" } : Jvm.MethodName)) ∈ lw_all := lw_g (lw_at lw_m7 205 rfl) rfl
theorem q1740 : (Jvm.Cond.code ({ cls := "WheelTablesModel", name := "isElsewhere", desc := "(IIIII)Z" } : Jvm.MethodName) prog_9_method_75_code (8 : Nat) (Option.some Jvm.ClassFile.FieldType.boolean)) ∈ lw_all := lw_g (lw_at lw_m7 206 rfl) rfl
theorem q1742 : (Jvm.Cond.instanceMethod ({ cls := "WheelTablesModel", name := "right", desc := "(II)I" } : Jvm.MethodName)) ∈ lw_all := lw_g (lw_at lw_m7 208 rfl) rfl
theorem q1743 : (Jvm.Cond.selects "WheelTablesModel" ({ cls := "WheelTablesModel", name := "right", desc := "(II)I" } : Jvm.MethodName) ({ cls := "WheelTablesModel", name := "right", desc := "(II)I" } : Jvm.MethodName)) ∈ lw_all := lw_g (lw_at lw_m7 209 rfl) rfl
theorem q1744 : (Jvm.Cond.code ({ cls := "WheelTablesModel", name := "right", desc := "(II)I" } : Jvm.MethodName) prog_9_method_78_code (3 : Nat) (Option.some Jvm.ClassFile.FieldType.int)) ∈ lw_all := lw_g (lw_at lw_m7 210 rfl) rfl
theorem q1746 : (Jvm.Cond.instanceMethod ({ cls := "WheelTablesModel", name := "cast", desc := "(III)Z" } : Jvm.MethodName)) ∈ lw_all := lw_g (lw_at lw_m7 212 rfl) rfl
theorem q1747 : (Jvm.Cond.selects "WheelTablesModel" ({ cls := "WheelTablesModel", name := "cast", desc := "(III)Z" } : Jvm.MethodName) ({ cls := "WheelTablesModel", name := "cast", desc := "(III)Z" } : Jvm.MethodName)) ∈ lw_all := lw_g (lw_at lw_m7 213 rfl) rfl
theorem q1748 : (Jvm.Cond.code ({ cls := "WheelTablesModel", name := "cast", desc := "(III)Z" } : Jvm.MethodName) prog_9_method_81_code (4 : Nat) (Option.some Jvm.ClassFile.FieldType.boolean)) ∈ lw_all := lw_g (lw_at lw_m7 214 rfl) rfl
theorem q1749 : (Jvm.Cond.methodLink "WheelTablesModel" (522 : Nat) ({ cls := "WheelTablesModel", name := "isRow", desc := "(I)Z" } : Jvm.MethodName)) ∈ lw_all := lw_g (lw_at lw_m7 215 rfl) rfl
theorem q1750 : (Jvm.Cond.static ({ cls := "WheelTablesModel", name := "isRow", desc := "(I)Z" } : Jvm.MethodName)) ∈ lw_all := lw_g (lw_at lw_m7 216 rfl) rfl
theorem q1751 : (Jvm.Cond.code ({ cls := "WheelTablesModel", name := "isRow", desc := "(I)Z" } : Jvm.MethodName) prog_9_method_79_code (1 : Nat) (Option.some Jvm.ClassFile.FieldType.boolean)) ∈ lw_all := lw_g (lw_at lw_m7 217 rfl) rfl
theorem q1752 : (Jvm.Cond.constantLong "WheelTablesModel" (520 : Nat) (39 : Int64)) ∈ lw_all := lw_g (lw_at lw_m7 218 rfl) rfl
theorem q1753 : (Jvm.Cond.constantLong "WheelTablesModel" (525 : Nat) (9999 : Int64)) ∈ lw_all := lw_g (lw_at lw_m7 219 rfl) rfl
theorem q1754 : (Jvm.Cond.methodLink "WheelTablesModel" (527 : Nat) ({ cls := "WheelTablesModel", name := "isNumber", desc := "(I)Z" } : Jvm.MethodName)) ∈ lw_all := lw_g (lw_at lw_m7 220 rfl) rfl
theorem q1755 : (Jvm.Cond.static ({ cls := "WheelTablesModel", name := "isNumber", desc := "(I)Z" } : Jvm.MethodName)) ∈ lw_all := lw_g (lw_at lw_m7 221 rfl) rfl
theorem q1756 : (Jvm.Cond.code ({ cls := "WheelTablesModel", name := "isNumber", desc := "(I)Z" } : Jvm.MethodName) prog_9_method_80_code (1 : Nat) (Option.some Jvm.ClassFile.FieldType.boolean)) ∈ lw_all := lw_g (lw_at lw_m7 222 rfl) rfl
theorem q1758 : (Jvm.Cond.instanceMethod ({ cls := "WheelTablesModel", name := "print", desc := "(II)I" } : Jvm.MethodName)) ∈ lw_all := lw_g (lw_at lw_m7 224 rfl) rfl
theorem q1759 : (Jvm.Cond.selects "WheelTablesModel" ({ cls := "WheelTablesModel", name := "print", desc := "(II)I" } : Jvm.MethodName) ({ cls := "WheelTablesModel", name := "print", desc := "(II)I" } : Jvm.MethodName)) ∈ lw_all := lw_g (lw_at lw_m7 225 rfl) rfl
theorem q1760 : (Jvm.Cond.code ({ cls := "WheelTablesModel", name := "print", desc := "(II)I" } : Jvm.MethodName) prog_9_method_82_code (3 : Nat) (Option.some Jvm.ClassFile.FieldType.int)) ∈ lw_all := lw_g (lw_at lw_m7 226 rfl) rfl
theorem q1762 : (Jvm.Cond.instanceMethod ({ cls := "WheelTablesModel", name := "tell", desc := "(III)Z" } : Jvm.MethodName)) ∈ lw_all := lw_g (lw_at lw_m7 228 rfl) rfl
theorem q1763 : (Jvm.Cond.selects "WheelTablesModel" ({ cls := "WheelTablesModel", name := "tell", desc := "(III)Z" } : Jvm.MethodName) ({ cls := "WheelTablesModel", name := "tell", desc := "(III)Z" } : Jvm.MethodName)) ∈ lw_all := lw_g (lw_at lw_m7 229 rfl) rfl
theorem q1764 : (Jvm.Cond.code ({ cls := "WheelTablesModel", name := "tell", desc := "(III)Z" } : Jvm.MethodName) prog_9_method_83_code (4 : Nat) (Option.some Jvm.ClassFile.FieldType.boolean)) ∈ lw_all := lw_g (lw_at lw_m7 230 rfl) rfl
theorem q1766 : (Jvm.Cond.instanceMethod ({ cls := "WheelTablesModel", name := "says", desc := "(II)I" } : Jvm.MethodName)) ∈ lw_all := lw_g (lw_at lw_m7 232 rfl) rfl
theorem q1767 : (Jvm.Cond.selects "WheelTablesModel" ({ cls := "WheelTablesModel", name := "says", desc := "(II)I" } : Jvm.MethodName) ({ cls := "WheelTablesModel", name := "says", desc := "(II)I" } : Jvm.MethodName)) ∈ lw_all := lw_g (lw_at lw_m7 233 rfl) rfl
theorem q1768 : (Jvm.Cond.code ({ cls := "WheelTablesModel", name := "says", desc := "(II)I" } : Jvm.MethodName) prog_9_method_87_code (3 : Nat) (Option.some Jvm.ClassFile.FieldType.int)) ∈ lw_all := lw_g (lw_at lw_m7 234 rfl) rfl
theorem q1769 : (Jvm.Cond.methodLink "WheelTablesModel" (545 : Nat) ({ cls := "WheelTablesModel", name := "isCopy", desc := "(I)Z" } : Jvm.MethodName)) ∈ lw_all := lw_g (lw_at lw_m7 235 rfl) rfl
theorem q1770 : (Jvm.Cond.privateMethod ({ cls := "WheelTablesModel", name := "isCopy", desc := "(I)Z" } : Jvm.MethodName)) ∈ lw_tbl := lw_at lw_m7 236 rfl
theorem q1771 : (Jvm.Cond.instanceMethod ({ cls := "WheelTablesModel", name := "isCopy", desc := "(I)Z" } : Jvm.MethodName)) ∈ lw_all := lw_g (lw_at lw_m7 237 rfl) rfl
theorem q1772 : (Jvm.Cond.code ({ cls := "WheelTablesModel", name := "isCopy", desc := "(I)Z" } : Jvm.MethodName) prog_9_method_84_code (2 : Nat) (Option.some Jvm.ClassFile.FieldType.boolean)) ∈ lw_all := lw_g (lw_at lw_m7 238 rfl) rfl
theorem q1773 : (Jvm.Cond.methodLink "WheelTablesModel" (548 : Nat) ({ cls := "WheelTablesModel", name := "printingOf", desc := "(I)I" } : Jvm.MethodName)) ∈ lw_all := lw_g (lw_at lw_m7 239 rfl) rfl
theorem q1774 : (Jvm.Cond.privateMethod ({ cls := "WheelTablesModel", name := "printingOf", desc := "(I)I" } : Jvm.MethodName)) ∈ lw_tbl := lw_at lw_m8 0 rfl
theorem q1775 : (Jvm.Cond.instanceMethod ({ cls := "WheelTablesModel", name := "printingOf", desc := "(I)I" } : Jvm.MethodName)) ∈ lw_all := lw_g (lw_at lw_m8 1 rfl) rfl
theorem q1776 : (Jvm.Cond.code ({ cls := "WheelTablesModel", name := "printingOf", desc := "(I)I" } : Jvm.MethodName) prog_9_method_85_code (3 : Nat) (Option.some Jvm.ClassFile.FieldType.int)) ∈ lw_all := lw_g (lw_at lw_m8 2 rfl) rfl
theorem q1777 : (Jvm.Cond.methodLink "WheelTablesModel" (551 : Nat) ({ cls := "WheelTablesModel", name := "saysOf", desc := "(II)I" } : Jvm.MethodName)) ∈ lw_all := lw_g (lw_at lw_m8 3 rfl) rfl
theorem q1778 : (Jvm.Cond.privateMethod ({ cls := "WheelTablesModel", name := "saysOf", desc := "(II)I" } : Jvm.MethodName)) ∈ lw_tbl := lw_at lw_m8 4 rfl
theorem q1779 : (Jvm.Cond.instanceMethod ({ cls := "WheelTablesModel", name := "saysOf", desc := "(II)I" } : Jvm.MethodName)) ∈ lw_all := lw_g (lw_at lw_m8 5 rfl) rfl
theorem q1780 : (Jvm.Cond.code ({ cls := "WheelTablesModel", name := "saysOf", desc := "(II)I" } : Jvm.MethodName) prog_9_method_86_code (5 : Nat) (Option.some Jvm.ClassFile.FieldType.int)) ∈ lw_all := lw_g (lw_at lw_m8 6 rfl) rfl
theorem q1782 : (Jvm.Cond.instanceMethod ({ cls := "WheelTablesModel", name := "wrong", desc := "(II)I" } : Jvm.MethodName)) ∈ lw_all := lw_g (lw_at lw_m8 8 rfl) rfl
theorem q1783 : (Jvm.Cond.selects "WheelTablesModel" ({ cls := "WheelTablesModel", name := "wrong", desc := "(II)I" } : Jvm.MethodName) ({ cls := "WheelTablesModel", name := "wrong", desc := "(II)I" } : Jvm.MethodName)) ∈ lw_all := lw_g (lw_at lw_m8 9 rfl) rfl
theorem q1784 : (Jvm.Cond.code ({ cls := "WheelTablesModel", name := "wrong", desc := "(II)I" } : Jvm.MethodName) prog_9_method_89_code (3 : Nat) (Option.some Jvm.ClassFile.FieldType.int)) ∈ lw_all := lw_g (lw_at lw_m8 10 rfl) rfl
theorem q1785 : (Jvm.Cond.methodLink "WheelTablesModel" (554 : Nat) ({ cls := "WheelTablesModel", name := "wrongOf", desc := "(II)I" } : Jvm.MethodName)) ∈ lw_all := lw_g (lw_at lw_m8 11 rfl) rfl
theorem q1786 : (Jvm.Cond.privateMethod ({ cls := "WheelTablesModel", name := "wrongOf", desc := "(II)I" } : Jvm.MethodName)) ∈ lw_tbl := lw_at lw_m8 12 rfl
theorem q1787 : (Jvm.Cond.instanceMethod ({ cls := "WheelTablesModel", name := "wrongOf", desc := "(II)I" } : Jvm.MethodName)) ∈ lw_all := lw_g (lw_at lw_m8 13 rfl) rfl
theorem q1788 : (Jvm.Cond.code ({ cls := "WheelTablesModel", name := "wrongOf", desc := "(II)I" } : Jvm.MethodName) prog_9_method_88_code (7 : Nat) (Option.some Jvm.ClassFile.FieldType.int)) ∈ lw_all := lw_g (lw_at lw_m8 14 rfl) rfl
theorem q1790 : (Jvm.Cond.instanceMethod ({ cls := "WheelTablesModel", name := "bad", desc := "(I)I" } : Jvm.MethodName)) ∈ lw_all := lw_g (lw_at lw_m8 16 rfl) rfl
theorem q1791 : (Jvm.Cond.selects "WheelTablesModel" ({ cls := "WheelTablesModel", name := "bad", desc := "(I)I" } : Jvm.MethodName) ({ cls := "WheelTablesModel", name := "bad", desc := "(I)I" } : Jvm.MethodName)) ∈ lw_all := lw_g (lw_at lw_m8 17 rfl) rfl
theorem q1792 : (Jvm.Cond.code ({ cls := "WheelTablesModel", name := "bad", desc := "(I)I" } : Jvm.MethodName) prog_9_method_90_code (4 : Nat) (Option.some Jvm.ClassFile.FieldType.int)) ∈ lw_all := lw_g (lw_at lw_m8 18 rfl) rfl
theorem q1794 : (Jvm.Cond.instanceMethod ({ cls := "WheelTablesModel", name := "job", desc := "(III)I" } : Jvm.MethodName)) ∈ lw_all := lw_g (lw_at lw_m8 20 rfl) rfl
theorem q1795 : (Jvm.Cond.selects "WheelTablesModel" ({ cls := "WheelTablesModel", name := "job", desc := "(III)I" } : Jvm.MethodName) ({ cls := "WheelTablesModel", name := "job", desc := "(III)I" } : Jvm.MethodName)) ∈ lw_all := lw_g (lw_at lw_m8 21 rfl) rfl
theorem q1796 : (Jvm.Cond.code ({ cls := "WheelTablesModel", name := "job", desc := "(III)I" } : Jvm.MethodName) prog_9_method_91_code (4 : Nat) (Option.some Jvm.ClassFile.FieldType.int)) ∈ lw_all := lw_g (lw_at lw_m8 22 rfl) rfl
theorem q1798 : (Jvm.Cond.instanceMethod ({ cls := "WheelTablesModel", name := "part", desc := "()I" } : Jvm.MethodName)) ∈ lw_all := lw_g (lw_at lw_m8 24 rfl) rfl
theorem q1799 : (Jvm.Cond.selects "WheelTablesModel" ({ cls := "WheelTablesModel", name := "part", desc := "()I" } : Jvm.MethodName) ({ cls := "WheelTablesModel", name := "part", desc := "()I" } : Jvm.MethodName)) ∈ lw_all := lw_g (lw_at lw_m8 25 rfl) rfl
theorem q1800 : (Jvm.Cond.code ({ cls := "WheelTablesModel", name := "part", desc := "()I" } : Jvm.MethodName) prog_9_method_94_code (2 : Nat) (Option.some Jvm.ClassFile.FieldType.int)) ∈ lw_all := lw_g (lw_at lw_m8 26 rfl) rfl
theorem q1801 : (Jvm.Cond.methodLink "WheelTablesModel" (566 : Nat) ({ cls := "WheelTablesModel", name := "parts", desc := "()I" } : Jvm.MethodName)) ∈ lw_all := lw_g (lw_at lw_m8 27 rfl) rfl
theorem q1802 : (Jvm.Cond.privateMethod ({ cls := "WheelTablesModel", name := "parts", desc := "()I" } : Jvm.MethodName)) ∈ lw_tbl := lw_at lw_m8 28 rfl
theorem q1803 : (Jvm.Cond.instanceMethod ({ cls := "WheelTablesModel", name := "parts", desc := "()I" } : Jvm.MethodName)) ∈ lw_all := lw_g (lw_at lw_m8 29 rfl) rfl
theorem q1804 : (Jvm.Cond.code ({ cls := "WheelTablesModel", name := "parts", desc := "()I" } : Jvm.MethodName) prog_9_method_92_code (7 : Nat) (Option.some Jvm.ClassFile.FieldType.int)) ∈ lw_all := lw_g (lw_at lw_m8 30 rfl) rfl
theorem q1805 : (Jvm.Cond.methodLink "WheelTablesModel" (560 : Nat) ({ cls := "WheelTablesModel", name := "mostOf", desc := "()I" } : Jvm.MethodName)) ∈ lw_all := lw_g (lw_at lw_m8 31 rfl) rfl
theorem q1806 : (Jvm.Cond.privateMethod ({ cls := "WheelTablesModel", name := "mostOf", desc := "()I" } : Jvm.MethodName)) ∈ lw_tbl := lw_at lw_m8 32 rfl
theorem q1807 : (Jvm.Cond.instanceMethod ({ cls := "WheelTablesModel", name := "mostOf", desc := "()I" } : Jvm.MethodName)) ∈ lw_all := lw_g (lw_at lw_m8 33 rfl) rfl
theorem q1808 : (Jvm.Cond.code ({ cls := "WheelTablesModel", name := "mostOf", desc := "()I" } : Jvm.MethodName) prog_9_method_93_code (4 : Nat) (Option.some Jvm.ClassFile.FieldType.int)) ∈ lw_all := lw_g (lw_at lw_m8 34 rfl) rfl
theorem q1809 : (Jvm.Cond.methodLink "WheelTablesModel" (563 : Nat) ({ cls := "java/lang/Math", name := "max", desc := "(II)I" } : Jvm.MethodName)) ∈ lw_all := lw_g (lw_at lw_m8 35 rfl) rfl
theorem q1811 : (Jvm.Cond.instanceMethod ({ cls := "WheelTablesModel", name := "partOf", desc := "(I)I" } : Jvm.MethodName)) ∈ lw_all := lw_g (lw_at lw_m8 37 rfl) rfl
theorem q1812 : (Jvm.Cond.selects "WheelTablesModel" ({ cls := "WheelTablesModel", name := "partOf", desc := "(I)I" } : Jvm.MethodName) ({ cls := "WheelTablesModel", name := "partOf", desc := "(I)I" } : Jvm.MethodName)) ∈ lw_all := lw_g (lw_at lw_m8 38 rfl) rfl
theorem q1813 : (Jvm.Cond.code ({ cls := "WheelTablesModel", name := "partOf", desc := "(I)I" } : Jvm.MethodName) prog_9_method_95_code (2 : Nat) (Option.some Jvm.ClassFile.FieldType.int)) ∈ lw_all := lw_g (lw_at lw_m8 39 rfl) rfl
theorem in_X4 : ∀ w ∈ wsX40, w ∈ lw_all := lw_in wsX40 [1227, 1229, 1231, 1233, 1235, 1237, 1239, 1241, 1243, 1245, 1247, 1249, 1251, 1253, 1255, 1257, 1259, 1261, 1263, 1265, 1267, 1269, 1271, 1273, 1275, 1277, 1279, 1281, 1283, 1285, 1287, 1289, 1291, 1293, 1295, 1297, 1299, 1301, 1303, 1305, 1307, 1309, 1311, 1313, 1315, 1317, 1319, 1321, 1323, 1325, 1327, 1329, 1331, 1333, 1335, 1337, 1339, 1341, 1343, 1345, 1347, 1349, 1351, 1353, 1355, 1357, 1359, 1361, 1363, 1365, 1367, 1369, 1371, 1373, 1375, 1377, 1379, 1381, 1383, 1385, 1387, 1389, 1391, 1393, 1395, 1397, 1399, 1401, 1403, 1405, 1407, 1409, 1411, 1413, 1415, 1417, 1419, 1421, 1423] (by decide +kernel) (by decide +kernel)
