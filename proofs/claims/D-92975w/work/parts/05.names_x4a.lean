set_option maxRecDepth 100000
/-! SevenRingsModel -/
set_option maxRecDepth 100000
def RX4 : String := "SevenRingsModel"
def TX4 : u_T := fun k => match k with
  | 0 => ("SevenRingsModel", "sets", "[I", true)
  | 1 => ("SevenRingsModel", "ringFar", "[I", true)
  | 2 => ("SevenRingsModel", "ringTone", "[I", true)
  | 3 => ("SevenRingsModel", "currents", "[I", true)
  | 4 => ("SevenRingsModel", "warmths", "[I", true)
  | 5 => ("SevenRingsModel", "depths", "[I", true)
  | 6 => ("SevenRingsModel", "tape", "[I", true)
  | 7 => ("SevenRingsModel", "taped", "I", false)
  | 8 => ("SevenRingsModel", "at", "I", false)
  | 9 => ("SevenRingsModel", "wrong", "Z", false)
  | 10 => ("SevenRingsModel", "readFar", "[I", true)
  | 11 => ("SevenRingsModel", "readTone", "[I", true)
  | 12 => ("SevenRingsModel", "readSea", "[I", true)
  | 13 => ("SevenRingsModel", "code", "[I", true)
  | 14 => ("SevenRingsModel", "cellAt", "[I", true)
  | 15 => ("SevenRingsModel", "courseAt", "[I", true)
  | 16 => ("SevenRingsModel", "paceAt", "[I", true)
  | 17 => ("SevenRingsModel", "turnsAt", "[I", true)
  | 18 => ("SevenRingsModel", "slowAt", "[I", true)
  | 19 => ("SevenRingsModel", "fuelAt", "[I", true)
  | 20 => ("SevenRingsModel", "ringAt", "[I", true)
  | 21 => ("SevenRingsModel", "level", "I", false)
  | 22 => ("SevenRingsModel", "noRings", "I", false)
  | 23 => ("SevenRingsModel", "noTones", "Z", false)
  | 24 => ("SevenRingsModel", "noFuel", "Z", false)
  | 25 => ("SevenRingsModel", "pieces", "I", false)
  | 26 => ("SevenRingsModel", "pieceParts", "[I", true)
  | 27 => ("SevenRingsModel", "drags", "I", false)
  | 28 => ("SevenRingsModel", "dragCell", "[I", true)
  | 29 => ("SevenRingsModel", "dragBy", "[I", true)
  | 30 => ("SevenRingsModel", "sums", "[J", true)
  | 31 => ("SevenRingsModel", "all", "J", false)
  | 32 => ("SevenRingsModel", "noPieces", "I", false)
  | 33 => ("SevenRingsModel", "noDrags", "Z", false)
  | 34 => ("SevenRingsModel", "shares", "[I", true)
  | 35 => ("SevenRingsModel", "keptFar", "[I", true)
  | 36 => ("SevenRingsModel", "image", "[I", true)
  | 37 => ("SevenRingsModel", "kept", "Z", false)
  | 38 => ("SevenRingsModel", "lanes", "[I", true)
  | 39 => ("SevenRingsModel", "sizes", "[I", true)
  | 40 => ("SevenRingsModel", "items", "[I", true)
  | _ => ("SevenRingsModel", "movedItems", "[I", true)
def tyX4 : Nat → FieldType := fun k => match k with
  | 0 => .array .int
  | 1 => .array .int
  | 2 => .array .int
  | 3 => .array .int
  | 4 => .array .int
  | 5 => .array .int
  | 6 => .array .int
  | 7 => .int
  | 8 => .int
  | 9 => .boolean
  | 10 => .array .int
  | 11 => .array .int
  | 12 => .array .int
  | 13 => .array .int
  | 14 => .array .int
  | 15 => .array .int
  | 16 => .array .int
  | 17 => .array .int
  | 18 => .array .int
  | 19 => .array .int
  | 20 => .array .int
  | 21 => .int
  | 22 => .int
  | 23 => .boolean
  | 24 => .boolean
  | 25 => .int
  | 26 => .array .int
  | 27 => .int
  | 28 => .array .int
  | 29 => .array .int
  | 30 => .array .long
  | 31 => .long
  | 32 => .int
  | 33 => .boolean
  | 34 => .array .int
  | 35 => .array .int
  | 36 => .array .int
  | 37 => .boolean
  | 38 => .array .int
  | 39 => .array .int
  | 40 => .array .int
  | _ => .array .int
abbrev wsX40 : List Cond := u_ws RX4 TX4 42
set_option maxRecDepth 100000 in
theorem nmX4 : ∀ a, a < 42 → ∀ b, b < 42 → a ≠ b → (TX4 a).2.1 ≠ (TX4 b).2.1 := by decide +kernel
set_option maxRecDepth 100000 in
theorem tyX4_ok : ∀ k, k < 42 → parseFieldDescriptor (TX4 k).2.2.1 = some (tyX4 k) := by decide +kernel
abbrev cX4_init : ByteArray := prog_14_method_3_code
def yX4_init : MethodName := ⟨RX4, "<init>", "()V"⟩
def dkwX4_init_14 : List UInt8 := [180, 0, 7, 16, 6, 4, 79, 42, 180, 0, 7, 16, 7, 16, 8, 79, 177]
abbrev dktX4_init_14 : List UInt8 := dkwX4_init_14 ++ []
def dkwX4_init_13 : List UInt8 := [42, 180, 0, 7, 5, 16, 6, 79, 42, 180, 0, 7, 6, 4, 79, 42, 180, 0, 7, 8, 16, 60, 79, 42]
abbrev dktX4_init_13 : List UInt8 := dkwX4_init_13 ++ dktX4_init_14
def dkwX4_init_12 : List UInt8 := [167, 255, 228, 3, 60, 27, 16, 7, 162, 0, 16, 42, 180, 0, 13, 27, 2, 79, 132, 1, 1, 167, 255, 240]
abbrev dktX4_init_12 : List UInt8 := dkwX4_init_12 ++ dktX4_init_13
def dkwX4_init_11 : List UInt8 := [162, 0, 27, 42, 180, 0, 19, 27, 16, 8, 79, 42, 180, 0, 25, 27, 16, 100, 112, 4, 79, 132, 1, 1]
abbrev dktX4_init_11 : List UInt8 := dkwX4_init_11 ++ dktX4_init_12
def dkwX4_init_10 : List UInt8 := [27, 7, 162, 0, 16, 42, 180, 0, 86, 27, 2, 79, 132, 1, 1, 167, 255, 241, 3, 60, 27, 17, 0, 200]
abbrev dktX4_init_10 : List UInt8 := dkwX4_init_10 ++ dktX4_init_11
def dkwX4_init_9 : List UInt8 := [7, 188, 10, 181, 0, 89, 42, 16, 64, 188, 10, 181, 0, 92, 42, 16, 16, 188, 10, 181, 0, 95, 3, 60]
abbrev dktX4_init_9 : List UInt8 := dkwX4_init_9 ++ dktX4_init_10
def dkwX4_init_8 : List UInt8 := [16, 7, 188, 10, 181, 0, 80, 42, 17, 2, 58, 188, 10, 181, 0, 83, 42, 7, 188, 10, 181, 0, 86, 42]
abbrev dktX4_init_8 : List UInt8 := dkwX4_init_8 ++ dktX4_init_9
def dkwX4_init_7 : List UInt8 := [16, 6, 188, 10, 181, 0, 70, 42, 16, 100, 188, 11, 181, 0, 73, 42, 16, 100, 188, 10, 181, 0, 77, 42]
abbrev dktX4_init_7 : List UInt8 := dkwX4_init_7 ++ dktX4_init_8
def dkwX4_init_6 : List UInt8 := [16, 7, 188, 10, 181, 0, 61, 42, 16, 20, 188, 10, 181, 0, 64, 42, 16, 6, 188, 10, 181, 0, 67, 42]
abbrev dktX4_init_6 : List UInt8 := dkwX4_init_6 ++ dktX4_init_7
def dkwX4_init_5 : List UInt8 := [16, 7, 188, 10, 181, 0, 52, 42, 16, 7, 188, 10, 181, 0, 55, 42, 16, 7, 188, 10, 181, 0, 58, 42]
abbrev dktX4_init_5 : List UInt8 := dkwX4_init_5 ++ dktX4_init_6
def dkwX4_init_4 : List UInt8 := [16, 7, 188, 10, 181, 0, 43, 42, 16, 7, 188, 10, 181, 0, 46, 42, 16, 7, 188, 10, 181, 0, 49, 42]
abbrev dktX4_init_4 : List UInt8 := dkwX4_init_4 ++ dktX4_init_5
def dkwX4_init_3 : List UInt8 := [16, 7, 188, 10, 181, 0, 34, 42, 16, 10, 188, 10, 181, 0, 37, 42, 16, 7, 188, 10, 181, 0, 40, 42]
abbrev dktX4_init_3 : List UInt8 := dkwX4_init_3 ++ dktX4_init_4
def dkwX4_init_2 : List UInt8 := [16, 100, 188, 10, 181, 0, 25, 42, 16, 60, 188, 10, 181, 0, 28, 42, 16, 7, 188, 10, 181, 0, 31, 42]
abbrev dktX4_init_2 : List UInt8 := dkwX4_init_2 ++ dktX4_init_3
def dkwX4_init_1 : List UInt8 := [188, 10, 181, 0, 16, 42, 17, 0, 200, 188, 10, 181, 0, 19, 42, 17, 0, 200, 188, 10, 181, 0, 22, 42]
abbrev dktX4_init_1 : List UInt8 := dkwX4_init_1 ++ dktX4_init_2
def dkwX4_init_0 : List UInt8 := [42, 183, 0, 1, 42, 16, 8, 188, 10, 181, 0, 7, 42, 16, 7, 188, 10, 181, 0, 13, 42, 16, 7]
abbrev dktX4_init_0 : List UInt8 := dkwX4_init_0 ++ dktX4_init_1
theorem dksX4_init_0 : cX4_init.data.toList.drop 0 = dktX4_init_0 := by decide +kernel
theorem dksX4_init_1 : cX4_init.data.toList.drop 23 = dktX4_init_1 := dk_seg dksX4_init_0 23 rfl rfl
theorem dksX4_init_2 : cX4_init.data.toList.drop 47 = dktX4_init_2 := dk_seg dksX4_init_1 24 rfl rfl
theorem dksX4_init_3 : cX4_init.data.toList.drop 71 = dktX4_init_3 := dk_seg dksX4_init_2 24 rfl rfl
theorem dksX4_init_4 : cX4_init.data.toList.drop 95 = dktX4_init_4 := dk_seg dksX4_init_3 24 rfl rfl
theorem dksX4_init_5 : cX4_init.data.toList.drop 119 = dktX4_init_5 := dk_seg dksX4_init_4 24 rfl rfl
theorem dksX4_init_6 : cX4_init.data.toList.drop 143 = dktX4_init_6 := dk_seg dksX4_init_5 24 rfl rfl
theorem dksX4_init_7 : cX4_init.data.toList.drop 167 = dktX4_init_7 := dk_seg dksX4_init_6 24 rfl rfl
theorem dksX4_init_8 : cX4_init.data.toList.drop 191 = dktX4_init_8 := dk_seg dksX4_init_7 24 rfl rfl
theorem dksX4_init_9 : cX4_init.data.toList.drop 215 = dktX4_init_9 := dk_seg dksX4_init_8 24 rfl rfl
theorem dksX4_init_10 : cX4_init.data.toList.drop 239 = dktX4_init_10 := dk_seg dksX4_init_9 24 rfl rfl
theorem dksX4_init_11 : cX4_init.data.toList.drop 263 = dktX4_init_11 := dk_seg dksX4_init_10 24 rfl rfl
theorem dksX4_init_12 : cX4_init.data.toList.drop 287 = dktX4_init_12 := dk_seg dksX4_init_11 24 rfl rfl
theorem dksX4_init_13 : cX4_init.data.toList.drop 311 = dktX4_init_13 := dk_seg dksX4_init_12 24 rfl rfl
theorem dksX4_init_14 : cX4_init.data.toList.drop 335 = dktX4_init_14 := dk_seg dksX4_init_13 24 rfl rfl
theorem dX4_init_0 : decode cX4_init 0 = .ok (.aload_n 0, 1) := dk_42 (dk_at dksX4_init_0 0 rfl rfl)
theorem dX4_init_1 : decode cX4_init 1 = .ok (.invokespecial 1, 3) := dk_183 0 1 (dk_at dksX4_init_0 1 rfl rfl)
theorem dX4_init_4 : decode cX4_init 4 = .ok (.aload_n 0, 1) := dk_42 (dk_at dksX4_init_0 4 rfl rfl)
theorem dX4_init_5 : decode cX4_init 5 = .ok (.bipush 8, 2) := dk_16 8 (dk_at dksX4_init_0 5 rfl rfl)
theorem dX4_init_7 : decode cX4_init 7 = .ok (.newarray .int, 2) := dk_188_10 (dk_at dksX4_init_0 7 rfl rfl)
theorem dX4_init_9 : decode cX4_init 9 = .ok (.putfield 7, 3) := dk_181 0 7 (dk_at dksX4_init_0 9 rfl rfl)
theorem dX4_init_12 : decode cX4_init 12 = .ok (.aload_n 0, 1) := dk_42 (dk_at dksX4_init_0 12 rfl rfl)
theorem dX4_init_13 : decode cX4_init 13 = .ok (.bipush 7, 2) := dk_16 7 (dk_at dksX4_init_0 13 rfl rfl)
theorem dX4_init_15 : decode cX4_init 15 = .ok (.newarray .int, 2) := dk_188_10 (dk_at dksX4_init_0 15 rfl rfl)
theorem dX4_init_17 : decode cX4_init 17 = .ok (.putfield 13, 3) := dk_181 0 13 (dk_at dksX4_init_0 17 rfl rfl)
theorem dX4_init_20 : decode cX4_init 20 = .ok (.aload_n 0, 1) := dk_42 (dk_at dksX4_init_0 20 rfl rfl)
theorem dX4_init_21 : decode cX4_init 21 = .ok (.bipush 7, 2) := dk_16 7 (dk_at dksX4_init_0 21 rfl rfl)
theorem dX4_init_23 : decode cX4_init 23 = .ok (.newarray .int, 2) := dk_188_10 (dk_at dksX4_init_1 0 rfl rfl)
theorem dX4_init_25 : decode cX4_init 25 = .ok (.putfield 16, 3) := dk_181 0 16 (dk_at dksX4_init_1 2 rfl rfl)
theorem dX4_init_28 : decode cX4_init 28 = .ok (.aload_n 0, 1) := dk_42 (dk_at dksX4_init_1 5 rfl rfl)
theorem dX4_init_29 : decode cX4_init 29 = .ok (.sipush 200, 3) := dk_17 0 200 (dk_at dksX4_init_1 6 rfl rfl)
theorem dX4_init_32 : decode cX4_init 32 = .ok (.newarray .int, 2) := dk_188_10 (dk_at dksX4_init_1 9 rfl rfl)
theorem dX4_init_34 : decode cX4_init 34 = .ok (.putfield 19, 3) := dk_181 0 19 (dk_at dksX4_init_1 11 rfl rfl)
theorem dX4_init_37 : decode cX4_init 37 = .ok (.aload_n 0, 1) := dk_42 (dk_at dksX4_init_1 14 rfl rfl)
theorem dX4_init_38 : decode cX4_init 38 = .ok (.sipush 200, 3) := dk_17 0 200 (dk_at dksX4_init_1 15 rfl rfl)
theorem dX4_init_41 : decode cX4_init 41 = .ok (.newarray .int, 2) := dk_188_10 (dk_at dksX4_init_1 18 rfl rfl)
theorem dX4_init_43 : decode cX4_init 43 = .ok (.putfield 22, 3) := dk_181 0 22 (dk_at dksX4_init_1 20 rfl rfl)
theorem dX4_init_46 : decode cX4_init 46 = .ok (.aload_n 0, 1) := dk_42 (dk_at dksX4_init_1 23 rfl rfl)
theorem dX4_init_47 : decode cX4_init 47 = .ok (.bipush 100, 2) := dk_16 100 (dk_at dksX4_init_2 0 rfl rfl)
theorem dX4_init_49 : decode cX4_init 49 = .ok (.newarray .int, 2) := dk_188_10 (dk_at dksX4_init_2 2 rfl rfl)
theorem dX4_init_51 : decode cX4_init 51 = .ok (.putfield 25, 3) := dk_181 0 25 (dk_at dksX4_init_2 4 rfl rfl)
theorem dX4_init_54 : decode cX4_init 54 = .ok (.aload_n 0, 1) := dk_42 (dk_at dksX4_init_2 7 rfl rfl)
theorem dX4_init_55 : decode cX4_init 55 = .ok (.bipush 60, 2) := dk_16 60 (dk_at dksX4_init_2 8 rfl rfl)
theorem dX4_init_57 : decode cX4_init 57 = .ok (.newarray .int, 2) := dk_188_10 (dk_at dksX4_init_2 10 rfl rfl)
theorem dX4_init_59 : decode cX4_init 59 = .ok (.putfield 28, 3) := dk_181 0 28 (dk_at dksX4_init_2 12 rfl rfl)
theorem dX4_init_62 : decode cX4_init 62 = .ok (.aload_n 0, 1) := dk_42 (dk_at dksX4_init_2 15 rfl rfl)
theorem dX4_init_63 : decode cX4_init 63 = .ok (.bipush 7, 2) := dk_16 7 (dk_at dksX4_init_2 16 rfl rfl)
theorem dX4_init_65 : decode cX4_init 65 = .ok (.newarray .int, 2) := dk_188_10 (dk_at dksX4_init_2 18 rfl rfl)
theorem dX4_init_67 : decode cX4_init 67 = .ok (.putfield 31, 3) := dk_181 0 31 (dk_at dksX4_init_2 20 rfl rfl)
theorem dX4_init_70 : decode cX4_init 70 = .ok (.aload_n 0, 1) := dk_42 (dk_at dksX4_init_2 23 rfl rfl)
theorem dX4_init_71 : decode cX4_init 71 = .ok (.bipush 7, 2) := dk_16 7 (dk_at dksX4_init_3 0 rfl rfl)
theorem dX4_init_73 : decode cX4_init 73 = .ok (.newarray .int, 2) := dk_188_10 (dk_at dksX4_init_3 2 rfl rfl)
theorem dX4_init_75 : decode cX4_init 75 = .ok (.putfield 34, 3) := dk_181 0 34 (dk_at dksX4_init_3 4 rfl rfl)
theorem dX4_init_78 : decode cX4_init 78 = .ok (.aload_n 0, 1) := dk_42 (dk_at dksX4_init_3 7 rfl rfl)
theorem dX4_init_79 : decode cX4_init 79 = .ok (.bipush 10, 2) := dk_16 10 (dk_at dksX4_init_3 8 rfl rfl)
theorem dX4_init_81 : decode cX4_init 81 = .ok (.newarray .int, 2) := dk_188_10 (dk_at dksX4_init_3 10 rfl rfl)
theorem dX4_init_83 : decode cX4_init 83 = .ok (.putfield 37, 3) := dk_181 0 37 (dk_at dksX4_init_3 12 rfl rfl)
theorem dX4_init_86 : decode cX4_init 86 = .ok (.aload_n 0, 1) := dk_42 (dk_at dksX4_init_3 15 rfl rfl)
theorem dX4_init_87 : decode cX4_init 87 = .ok (.bipush 7, 2) := dk_16 7 (dk_at dksX4_init_3 16 rfl rfl)
theorem dX4_init_89 : decode cX4_init 89 = .ok (.newarray .int, 2) := dk_188_10 (dk_at dksX4_init_3 18 rfl rfl)
theorem dX4_init_91 : decode cX4_init 91 = .ok (.putfield 40, 3) := dk_181 0 40 (dk_at dksX4_init_3 20 rfl rfl)
theorem dX4_init_94 : decode cX4_init 94 = .ok (.aload_n 0, 1) := dk_42 (dk_at dksX4_init_3 23 rfl rfl)
theorem dX4_init_95 : decode cX4_init 95 = .ok (.bipush 7, 2) := dk_16 7 (dk_at dksX4_init_4 0 rfl rfl)
theorem dX4_init_97 : decode cX4_init 97 = .ok (.newarray .int, 2) := dk_188_10 (dk_at dksX4_init_4 2 rfl rfl)
theorem dX4_init_99 : decode cX4_init 99 = .ok (.putfield 43, 3) := dk_181 0 43 (dk_at dksX4_init_4 4 rfl rfl)
theorem dX4_init_102 : decode cX4_init 102 = .ok (.aload_n 0, 1) := dk_42 (dk_at dksX4_init_4 7 rfl rfl)
theorem dX4_init_103 : decode cX4_init 103 = .ok (.bipush 7, 2) := dk_16 7 (dk_at dksX4_init_4 8 rfl rfl)
theorem dX4_init_105 : decode cX4_init 105 = .ok (.newarray .int, 2) := dk_188_10 (dk_at dksX4_init_4 10 rfl rfl)
theorem dX4_init_107 : decode cX4_init 107 = .ok (.putfield 46, 3) := dk_181 0 46 (dk_at dksX4_init_4 12 rfl rfl)
theorem dX4_init_110 : decode cX4_init 110 = .ok (.aload_n 0, 1) := dk_42 (dk_at dksX4_init_4 15 rfl rfl)
theorem dX4_init_111 : decode cX4_init 111 = .ok (.bipush 7, 2) := dk_16 7 (dk_at dksX4_init_4 16 rfl rfl)
theorem dX4_init_113 : decode cX4_init 113 = .ok (.newarray .int, 2) := dk_188_10 (dk_at dksX4_init_4 18 rfl rfl)
theorem dX4_init_115 : decode cX4_init 115 = .ok (.putfield 49, 3) := dk_181 0 49 (dk_at dksX4_init_4 20 rfl rfl)
theorem dX4_init_118 : decode cX4_init 118 = .ok (.aload_n 0, 1) := dk_42 (dk_at dksX4_init_4 23 rfl rfl)
theorem dX4_init_119 : decode cX4_init 119 = .ok (.bipush 7, 2) := dk_16 7 (dk_at dksX4_init_5 0 rfl rfl)
theorem dX4_init_121 : decode cX4_init 121 = .ok (.newarray .int, 2) := dk_188_10 (dk_at dksX4_init_5 2 rfl rfl)
theorem dX4_init_123 : decode cX4_init 123 = .ok (.putfield 52, 3) := dk_181 0 52 (dk_at dksX4_init_5 4 rfl rfl)
theorem dX4_init_126 : decode cX4_init 126 = .ok (.aload_n 0, 1) := dk_42 (dk_at dksX4_init_5 7 rfl rfl)
theorem dX4_init_127 : decode cX4_init 127 = .ok (.bipush 7, 2) := dk_16 7 (dk_at dksX4_init_5 8 rfl rfl)
theorem dX4_init_129 : decode cX4_init 129 = .ok (.newarray .int, 2) := dk_188_10 (dk_at dksX4_init_5 10 rfl rfl)
theorem dX4_init_131 : decode cX4_init 131 = .ok (.putfield 55, 3) := dk_181 0 55 (dk_at dksX4_init_5 12 rfl rfl)
theorem dX4_init_134 : decode cX4_init 134 = .ok (.aload_n 0, 1) := dk_42 (dk_at dksX4_init_5 15 rfl rfl)
theorem dX4_init_135 : decode cX4_init 135 = .ok (.bipush 7, 2) := dk_16 7 (dk_at dksX4_init_5 16 rfl rfl)
theorem dX4_init_137 : decode cX4_init 137 = .ok (.newarray .int, 2) := dk_188_10 (dk_at dksX4_init_5 18 rfl rfl)
theorem dX4_init_139 : decode cX4_init 139 = .ok (.putfield 58, 3) := dk_181 0 58 (dk_at dksX4_init_5 20 rfl rfl)
theorem dX4_init_142 : decode cX4_init 142 = .ok (.aload_n 0, 1) := dk_42 (dk_at dksX4_init_5 23 rfl rfl)
theorem dX4_init_143 : decode cX4_init 143 = .ok (.bipush 7, 2) := dk_16 7 (dk_at dksX4_init_6 0 rfl rfl)
theorem dX4_init_145 : decode cX4_init 145 = .ok (.newarray .int, 2) := dk_188_10 (dk_at dksX4_init_6 2 rfl rfl)
theorem dX4_init_147 : decode cX4_init 147 = .ok (.putfield 61, 3) := dk_181 0 61 (dk_at dksX4_init_6 4 rfl rfl)
theorem dX4_init_150 : decode cX4_init 150 = .ok (.aload_n 0, 1) := dk_42 (dk_at dksX4_init_6 7 rfl rfl)
theorem dX4_init_151 : decode cX4_init 151 = .ok (.bipush 20, 2) := dk_16 20 (dk_at dksX4_init_6 8 rfl rfl)
theorem dX4_init_153 : decode cX4_init 153 = .ok (.newarray .int, 2) := dk_188_10 (dk_at dksX4_init_6 10 rfl rfl)
theorem dX4_init_155 : decode cX4_init 155 = .ok (.putfield 64, 3) := dk_181 0 64 (dk_at dksX4_init_6 12 rfl rfl)
theorem dX4_init_158 : decode cX4_init 158 = .ok (.aload_n 0, 1) := dk_42 (dk_at dksX4_init_6 15 rfl rfl)
theorem dX4_init_159 : decode cX4_init 159 = .ok (.bipush 6, 2) := dk_16 6 (dk_at dksX4_init_6 16 rfl rfl)
theorem dX4_init_161 : decode cX4_init 161 = .ok (.newarray .int, 2) := dk_188_10 (dk_at dksX4_init_6 18 rfl rfl)
theorem dX4_init_163 : decode cX4_init 163 = .ok (.putfield 67, 3) := dk_181 0 67 (dk_at dksX4_init_6 20 rfl rfl)
theorem dX4_init_166 : decode cX4_init 166 = .ok (.aload_n 0, 1) := dk_42 (dk_at dksX4_init_6 23 rfl rfl)
theorem dX4_init_167 : decode cX4_init 167 = .ok (.bipush 6, 2) := dk_16 6 (dk_at dksX4_init_7 0 rfl rfl)
theorem dX4_init_169 : decode cX4_init 169 = .ok (.newarray .int, 2) := dk_188_10 (dk_at dksX4_init_7 2 rfl rfl)
theorem dX4_init_171 : decode cX4_init 171 = .ok (.putfield 70, 3) := dk_181 0 70 (dk_at dksX4_init_7 4 rfl rfl)
theorem dX4_init_174 : decode cX4_init 174 = .ok (.aload_n 0, 1) := dk_42 (dk_at dksX4_init_7 7 rfl rfl)
theorem dX4_init_175 : decode cX4_init 175 = .ok (.bipush 100, 2) := dk_16 100 (dk_at dksX4_init_7 8 rfl rfl)
theorem dX4_init_177 : decode cX4_init 177 = .ok (.newarray .long, 2) := dk_188_11 (dk_at dksX4_init_7 10 rfl rfl)
theorem dX4_init_179 : decode cX4_init 179 = .ok (.putfield 73, 3) := dk_181 0 73 (dk_at dksX4_init_7 12 rfl rfl)
theorem dX4_init_182 : decode cX4_init 182 = .ok (.aload_n 0, 1) := dk_42 (dk_at dksX4_init_7 15 rfl rfl)
theorem dX4_init_183 : decode cX4_init 183 = .ok (.bipush 100, 2) := dk_16 100 (dk_at dksX4_init_7 16 rfl rfl)
theorem dX4_init_185 : decode cX4_init 185 = .ok (.newarray .int, 2) := dk_188_10 (dk_at dksX4_init_7 18 rfl rfl)
theorem dX4_init_187 : decode cX4_init 187 = .ok (.putfield 77, 3) := dk_181 0 77 (dk_at dksX4_init_7 20 rfl rfl)
theorem dX4_init_190 : decode cX4_init 190 = .ok (.aload_n 0, 1) := dk_42 (dk_at dksX4_init_7 23 rfl rfl)
theorem dX4_init_191 : decode cX4_init 191 = .ok (.bipush 7, 2) := dk_16 7 (dk_at dksX4_init_8 0 rfl rfl)
theorem dX4_init_193 : decode cX4_init 193 = .ok (.newarray .int, 2) := dk_188_10 (dk_at dksX4_init_8 2 rfl rfl)
theorem dX4_init_195 : decode cX4_init 195 = .ok (.putfield 80, 3) := dk_181 0 80 (dk_at dksX4_init_8 4 rfl rfl)
theorem dX4_init_198 : decode cX4_init 198 = .ok (.aload_n 0, 1) := dk_42 (dk_at dksX4_init_8 7 rfl rfl)
theorem dX4_init_199 : decode cX4_init 199 = .ok (.sipush 570, 3) := dk_17 2 58 (dk_at dksX4_init_8 8 rfl rfl)
theorem dX4_init_202 : decode cX4_init 202 = .ok (.newarray .int, 2) := dk_188_10 (dk_at dksX4_init_8 11 rfl rfl)
theorem dX4_init_204 : decode cX4_init 204 = .ok (.putfield 83, 3) := dk_181 0 83 (dk_at dksX4_init_8 13 rfl rfl)
theorem dX4_init_207 : decode cX4_init 207 = .ok (.aload_n 0, 1) := dk_42 (dk_at dksX4_init_8 16 rfl rfl)
theorem dX4_init_208 : decode cX4_init 208 = .ok (.iconst 4, 1) := dk_7 (dk_at dksX4_init_8 17 rfl rfl)
theorem dX4_init_209 : decode cX4_init 209 = .ok (.newarray .int, 2) := dk_188_10 (dk_at dksX4_init_8 18 rfl rfl)
theorem dX4_init_211 : decode cX4_init 211 = .ok (.putfield 86, 3) := dk_181 0 86 (dk_at dksX4_init_8 20 rfl rfl)
theorem dX4_init_214 : decode cX4_init 214 = .ok (.aload_n 0, 1) := dk_42 (dk_at dksX4_init_8 23 rfl rfl)
theorem dX4_init_215 : decode cX4_init 215 = .ok (.iconst 4, 1) := dk_7 (dk_at dksX4_init_9 0 rfl rfl)
theorem dX4_init_216 : decode cX4_init 216 = .ok (.newarray .int, 2) := dk_188_10 (dk_at dksX4_init_9 1 rfl rfl)
theorem dX4_init_218 : decode cX4_init 218 = .ok (.putfield 89, 3) := dk_181 0 89 (dk_at dksX4_init_9 3 rfl rfl)
theorem dX4_init_221 : decode cX4_init 221 = .ok (.aload_n 0, 1) := dk_42 (dk_at dksX4_init_9 6 rfl rfl)
theorem dX4_init_222 : decode cX4_init 222 = .ok (.bipush 64, 2) := dk_16 64 (dk_at dksX4_init_9 7 rfl rfl)
theorem dX4_init_224 : decode cX4_init 224 = .ok (.newarray .int, 2) := dk_188_10 (dk_at dksX4_init_9 9 rfl rfl)
theorem dX4_init_226 : decode cX4_init 226 = .ok (.putfield 92, 3) := dk_181 0 92 (dk_at dksX4_init_9 11 rfl rfl)
theorem dX4_init_229 : decode cX4_init 229 = .ok (.aload_n 0, 1) := dk_42 (dk_at dksX4_init_9 14 rfl rfl)
theorem dX4_init_230 : decode cX4_init 230 = .ok (.bipush 16, 2) := dk_16 16 (dk_at dksX4_init_9 15 rfl rfl)
theorem dX4_init_232 : decode cX4_init 232 = .ok (.newarray .int, 2) := dk_188_10 (dk_at dksX4_init_9 17 rfl rfl)
theorem dX4_init_234 : decode cX4_init 234 = .ok (.putfield 95, 3) := dk_181 0 95 (dk_at dksX4_init_9 19 rfl rfl)
theorem dX4_init_237 : decode cX4_init 237 = .ok (.iconst 0, 1) := dk_3 (dk_at dksX4_init_9 22 rfl rfl)
theorem dX4_init_238 : decode cX4_init 238 = .ok (.istore_n 1, 1) := dk_60 (dk_at dksX4_init_9 23 rfl rfl)
theorem dX4_init_239 : decode cX4_init 239 = .ok (.iload_n 1, 1) := dk_27 (dk_at dksX4_init_10 0 rfl rfl)
theorem dX4_init_240 : decode cX4_init 240 = .ok (.iconst 4, 1) := dk_7 (dk_at dksX4_init_10 1 rfl rfl)
theorem dX4_init_241 : decode cX4_init 241 = .ok (.if_icmp .ge 16, 3) := dk_162 0 16 (dk_at dksX4_init_10 2 rfl rfl)
theorem dX4_init_244 : decode cX4_init 244 = .ok (.aload_n 0, 1) := dk_42 (dk_at dksX4_init_10 5 rfl rfl)
theorem dX4_init_245 : decode cX4_init 245 = .ok (.getfield 86, 3) := dk_180 0 86 (dk_at dksX4_init_10 6 rfl rfl)
theorem dX4_init_248 : decode cX4_init 248 = .ok (.iload_n 1, 1) := dk_27 (dk_at dksX4_init_10 9 rfl rfl)
theorem dX4_init_249 : decode cX4_init 249 = .ok (.iconst (-1), 1) := dk_2 (dk_at dksX4_init_10 10 rfl rfl)
theorem dX4_init_250 : decode cX4_init 250 = .ok (.iastore, 1) := dk_79 (dk_at dksX4_init_10 11 rfl rfl)
theorem dX4_init_251 : decode cX4_init 251 = .ok (.iinc 1 1, 3) := dk_132 1 1 (dk_at dksX4_init_10 12 rfl rfl)
theorem dX4_init_254 : decode cX4_init 254 = .ok (.goto (-15), 3) := dk_167 255 241 (dk_at dksX4_init_10 15 rfl rfl)
theorem dX4_init_257 : decode cX4_init 257 = .ok (.iconst 0, 1) := dk_3 (dk_at dksX4_init_10 18 rfl rfl)
theorem dX4_init_258 : decode cX4_init 258 = .ok (.istore_n 1, 1) := dk_60 (dk_at dksX4_init_10 19 rfl rfl)
theorem dX4_init_259 : decode cX4_init 259 = .ok (.iload_n 1, 1) := dk_27 (dk_at dksX4_init_10 20 rfl rfl)
theorem dX4_init_260 : decode cX4_init 260 = .ok (.sipush 200, 3) := dk_17 0 200 (dk_at dksX4_init_10 21 rfl rfl)
theorem dX4_init_263 : decode cX4_init 263 = .ok (.if_icmp .ge 27, 3) := dk_162 0 27 (dk_at dksX4_init_11 0 rfl rfl)
theorem dX4_init_266 : decode cX4_init 266 = .ok (.aload_n 0, 1) := dk_42 (dk_at dksX4_init_11 3 rfl rfl)
theorem dX4_init_267 : decode cX4_init 267 = .ok (.getfield 19, 3) := dk_180 0 19 (dk_at dksX4_init_11 4 rfl rfl)
theorem dX4_init_270 : decode cX4_init 270 = .ok (.iload_n 1, 1) := dk_27 (dk_at dksX4_init_11 7 rfl rfl)
theorem dX4_init_271 : decode cX4_init 271 = .ok (.bipush 8, 2) := dk_16 8 (dk_at dksX4_init_11 8 rfl rfl)
theorem dX4_init_273 : decode cX4_init 273 = .ok (.iastore, 1) := dk_79 (dk_at dksX4_init_11 10 rfl rfl)
theorem dX4_init_274 : decode cX4_init 274 = .ok (.aload_n 0, 1) := dk_42 (dk_at dksX4_init_11 11 rfl rfl)
theorem dX4_init_275 : decode cX4_init 275 = .ok (.getfield 25, 3) := dk_180 0 25 (dk_at dksX4_init_11 12 rfl rfl)
theorem dX4_init_278 : decode cX4_init 278 = .ok (.iload_n 1, 1) := dk_27 (dk_at dksX4_init_11 15 rfl rfl)
theorem dX4_init_279 : decode cX4_init 279 = .ok (.bipush 100, 2) := dk_16 100 (dk_at dksX4_init_11 16 rfl rfl)
theorem dX4_init_281 : decode cX4_init 281 = .ok (.irem, 1) := dk_112 (dk_at dksX4_init_11 18 rfl rfl)
theorem dX4_init_282 : decode cX4_init 282 = .ok (.iconst 1, 1) := dk_4 (dk_at dksX4_init_11 19 rfl rfl)
theorem dX4_init_283 : decode cX4_init 283 = .ok (.iastore, 1) := dk_79 (dk_at dksX4_init_11 20 rfl rfl)
theorem dX4_init_284 : decode cX4_init 284 = .ok (.iinc 1 1, 3) := dk_132 1 1 (dk_at dksX4_init_11 21 rfl rfl)
theorem dX4_init_287 : decode cX4_init 287 = .ok (.goto (-28), 3) := dk_167 255 228 (dk_at dksX4_init_12 0 rfl rfl)
theorem dX4_init_290 : decode cX4_init 290 = .ok (.iconst 0, 1) := dk_3 (dk_at dksX4_init_12 3 rfl rfl)
theorem dX4_init_291 : decode cX4_init 291 = .ok (.istore_n 1, 1) := dk_60 (dk_at dksX4_init_12 4 rfl rfl)
theorem dX4_init_292 : decode cX4_init 292 = .ok (.iload_n 1, 1) := dk_27 (dk_at dksX4_init_12 5 rfl rfl)
theorem dX4_init_293 : decode cX4_init 293 = .ok (.bipush 7, 2) := dk_16 7 (dk_at dksX4_init_12 6 rfl rfl)
theorem dX4_init_295 : decode cX4_init 295 = .ok (.if_icmp .ge 16, 3) := dk_162 0 16 (dk_at dksX4_init_12 8 rfl rfl)
theorem dX4_init_298 : decode cX4_init 298 = .ok (.aload_n 0, 1) := dk_42 (dk_at dksX4_init_12 11 rfl rfl)
theorem dX4_init_299 : decode cX4_init 299 = .ok (.getfield 13, 3) := dk_180 0 13 (dk_at dksX4_init_12 12 rfl rfl)
theorem dX4_init_302 : decode cX4_init 302 = .ok (.iload_n 1, 1) := dk_27 (dk_at dksX4_init_12 15 rfl rfl)
theorem dX4_init_303 : decode cX4_init 303 = .ok (.iconst (-1), 1) := dk_2 (dk_at dksX4_init_12 16 rfl rfl)
theorem dX4_init_304 : decode cX4_init 304 = .ok (.iastore, 1) := dk_79 (dk_at dksX4_init_12 17 rfl rfl)
theorem dX4_init_305 : decode cX4_init 305 = .ok (.iinc 1 1, 3) := dk_132 1 1 (dk_at dksX4_init_12 18 rfl rfl)
theorem dX4_init_308 : decode cX4_init 308 = .ok (.goto (-16), 3) := dk_167 255 240 (dk_at dksX4_init_12 21 rfl rfl)
theorem dX4_init_311 : decode cX4_init 311 = .ok (.aload_n 0, 1) := dk_42 (dk_at dksX4_init_13 0 rfl rfl)
theorem dX4_init_312 : decode cX4_init 312 = .ok (.getfield 7, 3) := dk_180 0 7 (dk_at dksX4_init_13 1 rfl rfl)
theorem dX4_init_315 : decode cX4_init 315 = .ok (.iconst 2, 1) := dk_5 (dk_at dksX4_init_13 4 rfl rfl)
theorem dX4_init_316 : decode cX4_init 316 = .ok (.bipush 6, 2) := dk_16 6 (dk_at dksX4_init_13 5 rfl rfl)
theorem dX4_init_318 : decode cX4_init 318 = .ok (.iastore, 1) := dk_79 (dk_at dksX4_init_13 7 rfl rfl)
theorem dX4_init_319 : decode cX4_init 319 = .ok (.aload_n 0, 1) := dk_42 (dk_at dksX4_init_13 8 rfl rfl)
theorem dX4_init_320 : decode cX4_init 320 = .ok (.getfield 7, 3) := dk_180 0 7 (dk_at dksX4_init_13 9 rfl rfl)
theorem dX4_init_323 : decode cX4_init 323 = .ok (.iconst 3, 1) := dk_6 (dk_at dksX4_init_13 12 rfl rfl)
theorem dX4_init_324 : decode cX4_init 324 = .ok (.iconst 1, 1) := dk_4 (dk_at dksX4_init_13 13 rfl rfl)
theorem dX4_init_325 : decode cX4_init 325 = .ok (.iastore, 1) := dk_79 (dk_at dksX4_init_13 14 rfl rfl)
theorem dX4_init_326 : decode cX4_init 326 = .ok (.aload_n 0, 1) := dk_42 (dk_at dksX4_init_13 15 rfl rfl)
theorem dX4_init_327 : decode cX4_init 327 = .ok (.getfield 7, 3) := dk_180 0 7 (dk_at dksX4_init_13 16 rfl rfl)
theorem dX4_init_330 : decode cX4_init 330 = .ok (.iconst 5, 1) := dk_8 (dk_at dksX4_init_13 19 rfl rfl)
theorem dX4_init_331 : decode cX4_init 331 = .ok (.bipush 60, 2) := dk_16 60 (dk_at dksX4_init_13 20 rfl rfl)
theorem dX4_init_333 : decode cX4_init 333 = .ok (.iastore, 1) := dk_79 (dk_at dksX4_init_13 22 rfl rfl)
theorem dX4_init_334 : decode cX4_init 334 = .ok (.aload_n 0, 1) := dk_42 (dk_at dksX4_init_13 23 rfl rfl)
theorem dX4_init_335 : decode cX4_init 335 = .ok (.getfield 7, 3) := dk_180 0 7 (dk_at dksX4_init_14 0 rfl rfl)
theorem dX4_init_338 : decode cX4_init 338 = .ok (.bipush 6, 2) := dk_16 6 (dk_at dksX4_init_14 3 rfl rfl)
theorem dX4_init_340 : decode cX4_init 340 = .ok (.iconst 1, 1) := dk_4 (dk_at dksX4_init_14 5 rfl rfl)
theorem dX4_init_341 : decode cX4_init 341 = .ok (.iastore, 1) := dk_79 (dk_at dksX4_init_14 6 rfl rfl)
theorem dX4_init_342 : decode cX4_init 342 = .ok (.aload_n 0, 1) := dk_42 (dk_at dksX4_init_14 7 rfl rfl)
theorem dX4_init_343 : decode cX4_init 343 = .ok (.getfield 7, 3) := dk_180 0 7 (dk_at dksX4_init_14 8 rfl rfl)
theorem dX4_init_346 : decode cX4_init 346 = .ok (.bipush 7, 2) := dk_16 7 (dk_at dksX4_init_14 11 rfl rfl)
theorem dX4_init_348 : decode cX4_init 348 = .ok (.bipush 8, 2) := dk_16 8 (dk_at dksX4_init_14 13 rfl rfl)
theorem dX4_init_350 : decode cX4_init 350 = .ok (.iastore, 1) := dk_79 (dk_at dksX4_init_14 15 rfl rfl)
theorem dX4_init_351 : decode cX4_init 351 = .ok (.return_, 1) := dk_177 (dk_at dksX4_init_14 16 rfl rfl)
abbrev cX4_set : ByteArray := prog_14_method_9_code
def yX4_set : MethodName := ⟨RX4, "set", "(II)I"⟩
def dkwX4_set_4 : List UInt8 := [172, 42, 180, 0, 7, 27, 46, 54, 4, 42, 180, 0, 7, 27, 28, 79, 21, 4, 172]
abbrev dktX4_set_4 : List UInt8 := dkwX4_set_4 ++ []
def dkwX4_set_3 : List UInt8 := [16, 8, 62, 28, 133, 27, 5, 160, 0, 7, 10, 167, 0, 4, 9, 29, 133, 184, 0, 100, 154, 0, 5, 2]
abbrev dktX4_set_3 : List UInt8 := dkwX4_set_3 ++ dktX4_set_4
def dkwX4_set_2 : List UInt8 := [4, 167, 0, 25, 27, 8, 160, 0, 8, 16, 60, 167, 0, 15, 27, 16, 6, 160, 0, 7, 6, 167, 0, 5]
abbrev dktX4_set_2 : List UInt8 := dkwX4_set_2 ++ dktX4_set_3
def dkwX4_set_1 : List UInt8 := [27, 5, 160, 0, 8, 16, 6, 167, 0, 43, 27, 6, 160, 0, 7, 5, 167, 0, 34, 27, 7, 160, 0, 7]
abbrev dktX4_set_1 : List UInt8 := dkwX4_set_1 ++ dktX4_set_2
def dkwX4_set_0 : List UInt8 := [27, 133, 9, 20, 0, 113, 184, 0, 100, 154, 0, 5, 2, 172, 27, 5, 162, 0, 8, 16, 99, 167, 0, 53]
abbrev dktX4_set_0 : List UInt8 := dkwX4_set_0 ++ dktX4_set_1
theorem dksX4_set_0 : cX4_set.data.toList.drop 0 = dktX4_set_0 := by decide +kernel
theorem dksX4_set_1 : cX4_set.data.toList.drop 24 = dktX4_set_1 := dk_seg dksX4_set_0 24 rfl rfl
theorem dksX4_set_2 : cX4_set.data.toList.drop 48 = dktX4_set_2 := dk_seg dksX4_set_1 24 rfl rfl
theorem dksX4_set_3 : cX4_set.data.toList.drop 72 = dktX4_set_3 := dk_seg dksX4_set_2 24 rfl rfl
theorem dksX4_set_4 : cX4_set.data.toList.drop 96 = dktX4_set_4 := dk_seg dksX4_set_3 24 rfl rfl
theorem dX4_set_0 : decode cX4_set 0 = .ok (.iload_n 1, 1) := dk_27 (dk_at dksX4_set_0 0 rfl rfl)
theorem dX4_set_1 : decode cX4_set 1 = .ok (.i2l, 1) := dk_133 (dk_at dksX4_set_0 1 rfl rfl)
theorem dX4_set_2 : decode cX4_set 2 = .ok (.lconst 0, 1) := dk_9 (dk_at dksX4_set_0 2 rfl rfl)
theorem dX4_set_3 : decode cX4_set 3 = .ok (.ldc2_w 113, 3) := dk_20 0 113 (dk_at dksX4_set_0 3 rfl rfl)
theorem dX4_set_6 : decode cX4_set 6 = .ok (.invokestatic 100, 3) := dk_184 0 100 (dk_at dksX4_set_0 6 rfl rfl)
theorem dX4_set_9 : decode cX4_set 9 = .ok (.ifCond .ne 5, 3) := dk_154 0 5 (dk_at dksX4_set_0 9 rfl rfl)
theorem dX4_set_12 : decode cX4_set 12 = .ok (.iconst (-1), 1) := dk_2 (dk_at dksX4_set_0 12 rfl rfl)
theorem dX4_set_13 : decode cX4_set 13 = .ok (.ireturn, 1) := dk_172 (dk_at dksX4_set_0 13 rfl rfl)
theorem dX4_set_14 : decode cX4_set 14 = .ok (.iload_n 1, 1) := dk_27 (dk_at dksX4_set_0 14 rfl rfl)
theorem dX4_set_15 : decode cX4_set 15 = .ok (.iconst 2, 1) := dk_5 (dk_at dksX4_set_0 15 rfl rfl)
theorem dX4_set_16 : decode cX4_set 16 = .ok (.if_icmp .ge 8, 3) := dk_162 0 8 (dk_at dksX4_set_0 16 rfl rfl)
theorem dX4_set_19 : decode cX4_set 19 = .ok (.bipush 99, 2) := dk_16 99 (dk_at dksX4_set_0 19 rfl rfl)
theorem dX4_set_21 : decode cX4_set 21 = .ok (.goto 53, 3) := dk_167 0 53 (dk_at dksX4_set_0 21 rfl rfl)
theorem dX4_set_24 : decode cX4_set 24 = .ok (.iload_n 1, 1) := dk_27 (dk_at dksX4_set_1 0 rfl rfl)
theorem dX4_set_25 : decode cX4_set 25 = .ok (.iconst 2, 1) := dk_5 (dk_at dksX4_set_1 1 rfl rfl)
theorem dX4_set_26 : decode cX4_set 26 = .ok (.if_icmp .ne 8, 3) := dk_160 0 8 (dk_at dksX4_set_1 2 rfl rfl)
theorem dX4_set_29 : decode cX4_set 29 = .ok (.bipush 6, 2) := dk_16 6 (dk_at dksX4_set_1 5 rfl rfl)
theorem dX4_set_31 : decode cX4_set 31 = .ok (.goto 43, 3) := dk_167 0 43 (dk_at dksX4_set_1 7 rfl rfl)
theorem dX4_set_34 : decode cX4_set 34 = .ok (.iload_n 1, 1) := dk_27 (dk_at dksX4_set_1 10 rfl rfl)
theorem dX4_set_35 : decode cX4_set 35 = .ok (.iconst 3, 1) := dk_6 (dk_at dksX4_set_1 11 rfl rfl)
theorem dX4_set_36 : decode cX4_set 36 = .ok (.if_icmp .ne 7, 3) := dk_160 0 7 (dk_at dksX4_set_1 12 rfl rfl)
theorem dX4_set_39 : decode cX4_set 39 = .ok (.iconst 2, 1) := dk_5 (dk_at dksX4_set_1 15 rfl rfl)
theorem dX4_set_40 : decode cX4_set 40 = .ok (.goto 34, 3) := dk_167 0 34 (dk_at dksX4_set_1 16 rfl rfl)
theorem dX4_set_43 : decode cX4_set 43 = .ok (.iload_n 1, 1) := dk_27 (dk_at dksX4_set_1 19 rfl rfl)
theorem dX4_set_44 : decode cX4_set 44 = .ok (.iconst 4, 1) := dk_7 (dk_at dksX4_set_1 20 rfl rfl)
theorem dX4_set_45 : decode cX4_set 45 = .ok (.if_icmp .ne 7, 3) := dk_160 0 7 (dk_at dksX4_set_1 21 rfl rfl)
theorem dX4_set_48 : decode cX4_set 48 = .ok (.iconst 1, 1) := dk_4 (dk_at dksX4_set_2 0 rfl rfl)
theorem dX4_set_49 : decode cX4_set 49 = .ok (.goto 25, 3) := dk_167 0 25 (dk_at dksX4_set_2 1 rfl rfl)
theorem dX4_set_52 : decode cX4_set 52 = .ok (.iload_n 1, 1) := dk_27 (dk_at dksX4_set_2 4 rfl rfl)
theorem dX4_set_53 : decode cX4_set 53 = .ok (.iconst 5, 1) := dk_8 (dk_at dksX4_set_2 5 rfl rfl)
theorem dX4_set_54 : decode cX4_set 54 = .ok (.if_icmp .ne 8, 3) := dk_160 0 8 (dk_at dksX4_set_2 6 rfl rfl)
theorem dX4_set_57 : decode cX4_set 57 = .ok (.bipush 60, 2) := dk_16 60 (dk_at dksX4_set_2 9 rfl rfl)
theorem dX4_set_59 : decode cX4_set 59 = .ok (.goto 15, 3) := dk_167 0 15 (dk_at dksX4_set_2 11 rfl rfl)
theorem dX4_set_62 : decode cX4_set 62 = .ok (.iload_n 1, 1) := dk_27 (dk_at dksX4_set_2 14 rfl rfl)
theorem dX4_set_63 : decode cX4_set 63 = .ok (.bipush 6, 2) := dk_16 6 (dk_at dksX4_set_2 15 rfl rfl)
theorem dX4_set_65 : decode cX4_set 65 = .ok (.if_icmp .ne 7, 3) := dk_160 0 7 (dk_at dksX4_set_2 17 rfl rfl)
theorem dX4_set_68 : decode cX4_set 68 = .ok (.iconst 3, 1) := dk_6 (dk_at dksX4_set_2 20 rfl rfl)
theorem dX4_set_69 : decode cX4_set 69 = .ok (.goto 5, 3) := dk_167 0 5 (dk_at dksX4_set_2 21 rfl rfl)
theorem dX4_set_72 : decode cX4_set 72 = .ok (.bipush 8, 2) := dk_16 8 (dk_at dksX4_set_3 0 rfl rfl)
theorem dX4_set_74 : decode cX4_set 74 = .ok (.istore_n 3, 1) := dk_62 (dk_at dksX4_set_3 2 rfl rfl)
theorem dX4_set_75 : decode cX4_set 75 = .ok (.iload_n 2, 1) := dk_28 (dk_at dksX4_set_3 3 rfl rfl)
theorem dX4_set_76 : decode cX4_set 76 = .ok (.i2l, 1) := dk_133 (dk_at dksX4_set_3 4 rfl rfl)
theorem dX4_set_77 : decode cX4_set 77 = .ok (.iload_n 1, 1) := dk_27 (dk_at dksX4_set_3 5 rfl rfl)
theorem dX4_set_78 : decode cX4_set 78 = .ok (.iconst 2, 1) := dk_5 (dk_at dksX4_set_3 6 rfl rfl)
theorem dX4_set_79 : decode cX4_set 79 = .ok (.if_icmp .ne 7, 3) := dk_160 0 7 (dk_at dksX4_set_3 7 rfl rfl)
theorem dX4_set_82 : decode cX4_set 82 = .ok (.lconst 1, 1) := dk_10 (dk_at dksX4_set_3 10 rfl rfl)
theorem dX4_set_83 : decode cX4_set 83 = .ok (.goto 4, 3) := dk_167 0 4 (dk_at dksX4_set_3 11 rfl rfl)
theorem dX4_set_86 : decode cX4_set 86 = .ok (.lconst 0, 1) := dk_9 (dk_at dksX4_set_3 14 rfl rfl)
theorem dX4_set_87 : decode cX4_set 87 = .ok (.iload_n 3, 1) := dk_29 (dk_at dksX4_set_3 15 rfl rfl)
theorem dX4_set_88 : decode cX4_set 88 = .ok (.i2l, 1) := dk_133 (dk_at dksX4_set_3 16 rfl rfl)
theorem dX4_set_89 : decode cX4_set 89 = .ok (.invokestatic 100, 3) := dk_184 0 100 (dk_at dksX4_set_3 17 rfl rfl)
theorem dX4_set_92 : decode cX4_set 92 = .ok (.ifCond .ne 5, 3) := dk_154 0 5 (dk_at dksX4_set_3 20 rfl rfl)
theorem dX4_set_95 : decode cX4_set 95 = .ok (.iconst (-1), 1) := dk_2 (dk_at dksX4_set_3 23 rfl rfl)
theorem dX4_set_96 : decode cX4_set 96 = .ok (.ireturn, 1) := dk_172 (dk_at dksX4_set_4 0 rfl rfl)
theorem dX4_set_97 : decode cX4_set 97 = .ok (.aload_n 0, 1) := dk_42 (dk_at dksX4_set_4 1 rfl rfl)
theorem dX4_set_98 : decode cX4_set 98 = .ok (.getfield 7, 3) := dk_180 0 7 (dk_at dksX4_set_4 2 rfl rfl)
theorem dX4_set_101 : decode cX4_set 101 = .ok (.iload_n 1, 1) := dk_27 (dk_at dksX4_set_4 5 rfl rfl)
theorem dX4_set_102 : decode cX4_set 102 = .ok (.iaload, 1) := dk_46 (dk_at dksX4_set_4 6 rfl rfl)
theorem dX4_set_103 : decode cX4_set 103 = .ok (.istore 4, 2) := dk_54 4 (dk_at dksX4_set_4 7 rfl rfl)
theorem dX4_set_105 : decode cX4_set 105 = .ok (.aload_n 0, 1) := dk_42 (dk_at dksX4_set_4 9 rfl rfl)
theorem dX4_set_106 : decode cX4_set 106 = .ok (.getfield 7, 3) := dk_180 0 7 (dk_at dksX4_set_4 10 rfl rfl)
theorem dX4_set_109 : decode cX4_set 109 = .ok (.iload_n 1, 1) := dk_27 (dk_at dksX4_set_4 13 rfl rfl)
theorem dX4_set_110 : decode cX4_set 110 = .ok (.iload_n 2, 1) := dk_28 (dk_at dksX4_set_4 14 rfl rfl)
theorem dX4_set_111 : decode cX4_set 111 = .ok (.iastore, 1) := dk_79 (dk_at dksX4_set_4 15 rfl rfl)
theorem dX4_set_112 : decode cX4_set 112 = .ok (.iload 4, 2) := dk_21 4 (dk_at dksX4_set_4 16 rfl rfl)
theorem dX4_set_114 : decode cX4_set 114 = .ok (.ireturn, 1) := dk_172 (dk_at dksX4_set_4 18 rfl rfl)
abbrev cX4_in : ByteArray := prog_14_method_2_code
def yX4_in : MethodName := ⟨RX4, "in", "(JJJ)Z"⟩
def dkwX4_in_0 : List UInt8 := [30, 32, 148, 155, 0, 14, 30, 22, 4, 148, 157, 0, 7, 4, 167, 0, 4, 3, 172]
abbrev dktX4_in_0 : List UInt8 := dkwX4_in_0 ++ []
theorem dksX4_in_0 : cX4_in.data.toList.drop 0 = dktX4_in_0 := by decide +kernel
theorem dX4_in_0 : decode cX4_in 0 = .ok (.lload_n 0, 1) := dk_30 (dk_at dksX4_in_0 0 rfl rfl)
theorem dX4_in_1 : decode cX4_in 1 = .ok (.lload_n 2, 1) := dk_32 (dk_at dksX4_in_0 1 rfl rfl)
theorem dX4_in_2 : decode cX4_in 2 = .ok (.lcmp, 1) := dk_148 (dk_at dksX4_in_0 2 rfl rfl)
theorem dX4_in_3 : decode cX4_in 3 = .ok (.ifCond .lt 14, 3) := dk_155 0 14 (dk_at dksX4_in_0 3 rfl rfl)
theorem dX4_in_6 : decode cX4_in 6 = .ok (.lload_n 0, 1) := dk_30 (dk_at dksX4_in_0 6 rfl rfl)
theorem dX4_in_7 : decode cX4_in 7 = .ok (.lload 4, 2) := dk_22 4 (dk_at dksX4_in_0 7 rfl rfl)
theorem dX4_in_9 : decode cX4_in 9 = .ok (.lcmp, 1) := dk_148 (dk_at dksX4_in_0 9 rfl rfl)
theorem dX4_in_10 : decode cX4_in 10 = .ok (.ifCond .gt 7, 3) := dk_157 0 7 (dk_at dksX4_in_0 10 rfl rfl)
theorem dX4_in_13 : decode cX4_in 13 = .ok (.iconst 1, 1) := dk_4 (dk_at dksX4_in_0 13 rfl rfl)
theorem dX4_in_14 : decode cX4_in 14 = .ok (.goto 4, 3) := dk_167 0 4 (dk_at dksX4_in_0 14 rfl rfl)
theorem dX4_in_17 : decode cX4_in 17 = .ok (.iconst 0, 1) := dk_3 (dk_at dksX4_in_0 17 rfl rfl)
theorem dX4_in_18 : decode cX4_in 18 = .ok (.ireturn, 1) := dk_172 (dk_at dksX4_in_0 18 rfl rfl)
abbrev cX4_far : ByteArray := prog_14_method_10_code
def yX4_far : MethodName := ⟨RX4, "far", "(I)I"⟩
def dkwX4_far_0 : List UInt8 := [27, 184, 0, 115, 153, 0, 11, 42, 27, 182, 0, 119, 167, 0, 4, 2, 172]
abbrev dktX4_far_0 : List UInt8 := dkwX4_far_0 ++ []
theorem dksX4_far_0 : cX4_far.data.toList.drop 0 = dktX4_far_0 := by decide +kernel
theorem dX4_far_0 : decode cX4_far 0 = .ok (.iload_n 1, 1) := dk_27 (dk_at dksX4_far_0 0 rfl rfl)
theorem dX4_far_1 : decode cX4_far 1 = .ok (.invokestatic 115, 3) := dk_184 0 115 (dk_at dksX4_far_0 1 rfl rfl)
theorem dX4_far_4 : decode cX4_far 4 = .ok (.ifCond .eq 11, 3) := dk_153 0 11 (dk_at dksX4_far_0 4 rfl rfl)
theorem dX4_far_7 : decode cX4_far 7 = .ok (.aload_n 0, 1) := dk_42 (dk_at dksX4_far_0 7 rfl rfl)
theorem dX4_far_8 : decode cX4_far 8 = .ok (.iload_n 1, 1) := dk_27 (dk_at dksX4_far_0 8 rfl rfl)
theorem dX4_far_9 : decode cX4_far 9 = .ok (.invokevirtual 119, 3) := dk_182 0 119 (dk_at dksX4_far_0 9 rfl rfl)
theorem dX4_far_12 : decode cX4_far 12 = .ok (.goto 4, 3) := dk_167 0 4 (dk_at dksX4_far_0 12 rfl rfl)
theorem dX4_far_15 : decode cX4_far 15 = .ok (.iconst (-1), 1) := dk_2 (dk_at dksX4_far_0 15 rfl rfl)
theorem dX4_far_16 : decode cX4_far 16 = .ok (.ireturn, 1) := dk_172 (dk_at dksX4_far_0 16 rfl rfl)
abbrev cX4_isCell : ByteArray := prog_14_method_4_code
def yX4_isCell : MethodName := ⟨RX4, "isCell", "(I)Z"⟩
def dkwX4_isCell_0 : List UInt8 := [26, 133, 9, 20, 0, 98, 184, 0, 100, 172]
abbrev dktX4_isCell_0 : List UInt8 := dkwX4_isCell_0 ++ []
theorem dksX4_isCell_0 : cX4_isCell.data.toList.drop 0 = dktX4_isCell_0 := by decide +kernel
theorem dX4_isCell_0 : decode cX4_isCell 0 = .ok (.iload_n 0, 1) := dk_26 (dk_at dksX4_isCell_0 0 rfl rfl)
theorem dX4_isCell_1 : decode cX4_isCell 1 = .ok (.i2l, 1) := dk_133 (dk_at dksX4_isCell_0 1 rfl rfl)
theorem dX4_isCell_2 : decode cX4_isCell 2 = .ok (.lconst 0, 1) := dk_9 (dk_at dksX4_isCell_0 2 rfl rfl)
theorem dX4_isCell_3 : decode cX4_isCell 3 = .ok (.ldc2_w 98, 3) := dk_20 0 98 (dk_at dksX4_isCell_0 3 rfl rfl)
theorem dX4_isCell_6 : decode cX4_isCell 6 = .ok (.invokestatic 100, 3) := dk_184 0 100 (dk_at dksX4_isCell_0 6 rfl rfl)
theorem dX4_isCell_9 : decode cX4_isCell 9 = .ok (.ireturn, 1) := dk_172 (dk_at dksX4_isCell_0 9 rfl rfl)
abbrev cX4_away : ByteArray := prog_14_method_8_code
def yX4_away : MethodName := ⟨RX4, "away", "(I)I"⟩
def dkwX4_away_2 : List UInt8 := [21, 5, 4, 96, 104, 21, 4, 163, 0, 9, 132, 5, 1, 167, 255, 239, 21, 5, 172]
abbrev dktX4_away_2 : List UInt8 := dkwX4_away_2 ++ []
def dkwX4_away_1 : List UInt8 := [46, 16, 10, 112, 100, 62, 7, 28, 28, 104, 29, 29, 104, 96, 104, 54, 4, 3, 54, 5, 21, 5, 4, 96]
abbrev dktX4_away_1 : List UInt8 := dkwX4_away_1 ++ dktX4_away_2
def dkwX4_away_0 : List UInt8 := [27, 16, 10, 108, 42, 180, 0, 7, 3, 46, 16, 10, 108, 100, 61, 27, 16, 10, 112, 42, 180, 0, 7, 3]
abbrev dktX4_away_0 : List UInt8 := dkwX4_away_0 ++ dktX4_away_1
theorem dksX4_away_0 : cX4_away.data.toList.drop 0 = dktX4_away_0 := by decide +kernel
theorem dksX4_away_1 : cX4_away.data.toList.drop 24 = dktX4_away_1 := dk_seg dksX4_away_0 24 rfl rfl
theorem dksX4_away_2 : cX4_away.data.toList.drop 48 = dktX4_away_2 := dk_seg dksX4_away_1 24 rfl rfl
theorem dX4_away_0 : decode cX4_away 0 = .ok (.iload_n 1, 1) := dk_27 (dk_at dksX4_away_0 0 rfl rfl)
theorem dX4_away_1 : decode cX4_away 1 = .ok (.bipush 10, 2) := dk_16 10 (dk_at dksX4_away_0 1 rfl rfl)
theorem dX4_away_3 : decode cX4_away 3 = .ok (.idiv, 1) := dk_108 (dk_at dksX4_away_0 3 rfl rfl)
theorem dX4_away_4 : decode cX4_away 4 = .ok (.aload_n 0, 1) := dk_42 (dk_at dksX4_away_0 4 rfl rfl)
theorem dX4_away_5 : decode cX4_away 5 = .ok (.getfield 7, 3) := dk_180 0 7 (dk_at dksX4_away_0 5 rfl rfl)
theorem dX4_away_8 : decode cX4_away 8 = .ok (.iconst 0, 1) := dk_3 (dk_at dksX4_away_0 8 rfl rfl)
theorem dX4_away_9 : decode cX4_away 9 = .ok (.iaload, 1) := dk_46 (dk_at dksX4_away_0 9 rfl rfl)
theorem dX4_away_10 : decode cX4_away 10 = .ok (.bipush 10, 2) := dk_16 10 (dk_at dksX4_away_0 10 rfl rfl)
theorem dX4_away_12 : decode cX4_away 12 = .ok (.idiv, 1) := dk_108 (dk_at dksX4_away_0 12 rfl rfl)
theorem dX4_away_13 : decode cX4_away 13 = .ok (.isub, 1) := dk_100 (dk_at dksX4_away_0 13 rfl rfl)
theorem dX4_away_14 : decode cX4_away 14 = .ok (.istore_n 2, 1) := dk_61 (dk_at dksX4_away_0 14 rfl rfl)
theorem dX4_away_15 : decode cX4_away 15 = .ok (.iload_n 1, 1) := dk_27 (dk_at dksX4_away_0 15 rfl rfl)
theorem dX4_away_16 : decode cX4_away 16 = .ok (.bipush 10, 2) := dk_16 10 (dk_at dksX4_away_0 16 rfl rfl)
theorem dX4_away_18 : decode cX4_away 18 = .ok (.irem, 1) := dk_112 (dk_at dksX4_away_0 18 rfl rfl)
theorem dX4_away_19 : decode cX4_away 19 = .ok (.aload_n 0, 1) := dk_42 (dk_at dksX4_away_0 19 rfl rfl)
theorem dX4_away_20 : decode cX4_away 20 = .ok (.getfield 7, 3) := dk_180 0 7 (dk_at dksX4_away_0 20 rfl rfl)
theorem dX4_away_23 : decode cX4_away 23 = .ok (.iconst 0, 1) := dk_3 (dk_at dksX4_away_0 23 rfl rfl)
theorem dX4_away_24 : decode cX4_away 24 = .ok (.iaload, 1) := dk_46 (dk_at dksX4_away_1 0 rfl rfl)
theorem dX4_away_25 : decode cX4_away 25 = .ok (.bipush 10, 2) := dk_16 10 (dk_at dksX4_away_1 1 rfl rfl)
theorem dX4_away_27 : decode cX4_away 27 = .ok (.irem, 1) := dk_112 (dk_at dksX4_away_1 3 rfl rfl)
theorem dX4_away_28 : decode cX4_away 28 = .ok (.isub, 1) := dk_100 (dk_at dksX4_away_1 4 rfl rfl)
theorem dX4_away_29 : decode cX4_away 29 = .ok (.istore_n 3, 1) := dk_62 (dk_at dksX4_away_1 5 rfl rfl)
theorem dX4_away_30 : decode cX4_away 30 = .ok (.iconst 4, 1) := dk_7 (dk_at dksX4_away_1 6 rfl rfl)
theorem dX4_away_31 : decode cX4_away 31 = .ok (.iload_n 2, 1) := dk_28 (dk_at dksX4_away_1 7 rfl rfl)
theorem dX4_away_32 : decode cX4_away 32 = .ok (.iload_n 2, 1) := dk_28 (dk_at dksX4_away_1 8 rfl rfl)
theorem dX4_away_33 : decode cX4_away 33 = .ok (.imul, 1) := dk_104 (dk_at dksX4_away_1 9 rfl rfl)
theorem dX4_away_34 : decode cX4_away 34 = .ok (.iload_n 3, 1) := dk_29 (dk_at dksX4_away_1 10 rfl rfl)
theorem dX4_away_35 : decode cX4_away 35 = .ok (.iload_n 3, 1) := dk_29 (dk_at dksX4_away_1 11 rfl rfl)
theorem dX4_away_36 : decode cX4_away 36 = .ok (.imul, 1) := dk_104 (dk_at dksX4_away_1 12 rfl rfl)
theorem dX4_away_37 : decode cX4_away 37 = .ok (.iadd, 1) := dk_96 (dk_at dksX4_away_1 13 rfl rfl)
theorem dX4_away_38 : decode cX4_away 38 = .ok (.imul, 1) := dk_104 (dk_at dksX4_away_1 14 rfl rfl)
theorem dX4_away_39 : decode cX4_away 39 = .ok (.istore 4, 2) := dk_54 4 (dk_at dksX4_away_1 15 rfl rfl)
theorem dX4_away_41 : decode cX4_away 41 = .ok (.iconst 0, 1) := dk_3 (dk_at dksX4_away_1 17 rfl rfl)
theorem dX4_away_42 : decode cX4_away 42 = .ok (.istore 5, 2) := dk_54 5 (dk_at dksX4_away_1 18 rfl rfl)
theorem dX4_away_44 : decode cX4_away 44 = .ok (.iload 5, 2) := dk_21 5 (dk_at dksX4_away_1 20 rfl rfl)
theorem dX4_away_46 : decode cX4_away 46 = .ok (.iconst 1, 1) := dk_4 (dk_at dksX4_away_1 22 rfl rfl)
theorem dX4_away_47 : decode cX4_away 47 = .ok (.iadd, 1) := dk_96 (dk_at dksX4_away_1 23 rfl rfl)
theorem dX4_away_48 : decode cX4_away 48 = .ok (.iload 5, 2) := dk_21 5 (dk_at dksX4_away_2 0 rfl rfl)
theorem dX4_away_50 : decode cX4_away 50 = .ok (.iconst 1, 1) := dk_4 (dk_at dksX4_away_2 2 rfl rfl)
theorem dX4_away_51 : decode cX4_away 51 = .ok (.iadd, 1) := dk_96 (dk_at dksX4_away_2 3 rfl rfl)
theorem dX4_away_52 : decode cX4_away 52 = .ok (.imul, 1) := dk_104 (dk_at dksX4_away_2 4 rfl rfl)
theorem dX4_away_53 : decode cX4_away 53 = .ok (.iload 4, 2) := dk_21 4 (dk_at dksX4_away_2 5 rfl rfl)
theorem dX4_away_55 : decode cX4_away 55 = .ok (.if_icmp .gt 9, 3) := dk_163 0 9 (dk_at dksX4_away_2 7 rfl rfl)
theorem dX4_away_58 : decode cX4_away 58 = .ok (.iinc 5 1, 3) := dk_132 5 1 (dk_at dksX4_away_2 10 rfl rfl)
theorem dX4_away_61 : decode cX4_away 61 = .ok (.goto (-17), 3) := dk_167 255 239 (dk_at dksX4_away_2 13 rfl rfl)
theorem dX4_away_64 : decode cX4_away 64 = .ok (.iload 5, 2) := dk_21 5 (dk_at dksX4_away_2 16 rfl rfl)
theorem dX4_away_66 : decode cX4_away 66 = .ok (.ireturn, 1) := dk_172 (dk_at dksX4_away_2 18 rfl rfl)
abbrev cX4_ring : ByteArray := prog_14_method_11_code
def yX4_ring : MethodName := ⟨RX4, "ring", "(III)I"⟩
def dkwX4_ring_4 : List UInt8 := [180, 0, 16, 27, 29, 79, 16, 100, 21, 4, 96, 172]
abbrev dktX4_ring_4 : List UInt8 := dkwX4_ring_4 ++ []
def dkwX4_ring_3 : List UInt8 := [180, 0, 16, 27, 46, 54, 4, 28, 154, 0, 13, 42, 180, 0, 13, 27, 29, 79, 167, 0, 10, 42]
abbrev dktX4_ring_3 : List UInt8 := dkwX4_ring_3 ++ dktX4_ring_4
def dkwX4_ring_2 : List UInt8 := [184, 0, 100, 154, 0, 5, 2, 172, 28, 154, 0, 12, 42, 180, 0, 13, 27, 46, 167, 0, 9, 42]
abbrev dktX4_ring_2 : List UInt8 := dkwX4_ring_2 ++ dktX4_ring_3
def dkwX4_ring_1 : List UInt8 := [28, 154, 0, 9, 20, 0, 124, 167, 0, 4, 9, 28, 154, 0, 9, 20, 0, 126, 167, 0, 6, 20, 0, 128]
abbrev dktX4_ring_1 : List UInt8 := dkwX4_ring_1 ++ dktX4_ring_2
def dkwX4_ring_0 : List UInt8 := [27, 133, 10, 20, 0, 122, 184, 0, 100, 153, 0, 45, 28, 133, 9, 10, 184, 0, 100, 153, 0, 35, 29, 133]
abbrev dktX4_ring_0 : List UInt8 := dkwX4_ring_0 ++ dktX4_ring_1
theorem dksX4_ring_0 : cX4_ring.data.toList.drop 0 = dktX4_ring_0 := by decide +kernel
theorem dksX4_ring_1 : cX4_ring.data.toList.drop 24 = dktX4_ring_1 := dk_seg dksX4_ring_0 24 rfl rfl
theorem dksX4_ring_2 : cX4_ring.data.toList.drop 48 = dktX4_ring_2 := dk_seg dksX4_ring_1 24 rfl rfl
theorem dksX4_ring_3 : cX4_ring.data.toList.drop 70 = dktX4_ring_3 := dk_seg dksX4_ring_2 22 rfl rfl
theorem dksX4_ring_4 : cX4_ring.data.toList.drop 92 = dktX4_ring_4 := dk_seg dksX4_ring_3 22 rfl rfl
theorem dX4_ring_0 : decode cX4_ring 0 = .ok (.iload_n 1, 1) := dk_27 (dk_at dksX4_ring_0 0 rfl rfl)
theorem dX4_ring_1 : decode cX4_ring 1 = .ok (.i2l, 1) := dk_133 (dk_at dksX4_ring_0 1 rfl rfl)
theorem dX4_ring_2 : decode cX4_ring 2 = .ok (.lconst 1, 1) := dk_10 (dk_at dksX4_ring_0 2 rfl rfl)
theorem dX4_ring_3 : decode cX4_ring 3 = .ok (.ldc2_w 122, 3) := dk_20 0 122 (dk_at dksX4_ring_0 3 rfl rfl)
theorem dX4_ring_6 : decode cX4_ring 6 = .ok (.invokestatic 100, 3) := dk_184 0 100 (dk_at dksX4_ring_0 6 rfl rfl)
theorem dX4_ring_9 : decode cX4_ring 9 = .ok (.ifCond .eq 45, 3) := dk_153 0 45 (dk_at dksX4_ring_0 9 rfl rfl)
theorem dX4_ring_12 : decode cX4_ring 12 = .ok (.iload_n 2, 1) := dk_28 (dk_at dksX4_ring_0 12 rfl rfl)
theorem dX4_ring_13 : decode cX4_ring 13 = .ok (.i2l, 1) := dk_133 (dk_at dksX4_ring_0 13 rfl rfl)
theorem dX4_ring_14 : decode cX4_ring 14 = .ok (.lconst 0, 1) := dk_9 (dk_at dksX4_ring_0 14 rfl rfl)
theorem dX4_ring_15 : decode cX4_ring 15 = .ok (.lconst 1, 1) := dk_10 (dk_at dksX4_ring_0 15 rfl rfl)
theorem dX4_ring_16 : decode cX4_ring 16 = .ok (.invokestatic 100, 3) := dk_184 0 100 (dk_at dksX4_ring_0 16 rfl rfl)
theorem dX4_ring_19 : decode cX4_ring 19 = .ok (.ifCond .eq 35, 3) := dk_153 0 35 (dk_at dksX4_ring_0 19 rfl rfl)
theorem dX4_ring_22 : decode cX4_ring 22 = .ok (.iload_n 3, 1) := dk_29 (dk_at dksX4_ring_0 22 rfl rfl)
theorem dX4_ring_23 : decode cX4_ring 23 = .ok (.i2l, 1) := dk_133 (dk_at dksX4_ring_0 23 rfl rfl)
theorem dX4_ring_24 : decode cX4_ring 24 = .ok (.iload_n 2, 1) := dk_28 (dk_at dksX4_ring_1 0 rfl rfl)
theorem dX4_ring_25 : decode cX4_ring 25 = .ok (.ifCond .ne 9, 3) := dk_154 0 9 (dk_at dksX4_ring_1 1 rfl rfl)
theorem dX4_ring_28 : decode cX4_ring 28 = .ok (.ldc2_w 124, 3) := dk_20 0 124 (dk_at dksX4_ring_1 4 rfl rfl)
theorem dX4_ring_31 : decode cX4_ring 31 = .ok (.goto 4, 3) := dk_167 0 4 (dk_at dksX4_ring_1 7 rfl rfl)
theorem dX4_ring_34 : decode cX4_ring 34 = .ok (.lconst 0, 1) := dk_9 (dk_at dksX4_ring_1 10 rfl rfl)
theorem dX4_ring_35 : decode cX4_ring 35 = .ok (.iload_n 2, 1) := dk_28 (dk_at dksX4_ring_1 11 rfl rfl)
theorem dX4_ring_36 : decode cX4_ring 36 = .ok (.ifCond .ne 9, 3) := dk_154 0 9 (dk_at dksX4_ring_1 12 rfl rfl)
theorem dX4_ring_39 : decode cX4_ring 39 = .ok (.ldc2_w 126, 3) := dk_20 0 126 (dk_at dksX4_ring_1 15 rfl rfl)
theorem dX4_ring_42 : decode cX4_ring 42 = .ok (.goto 6, 3) := dk_167 0 6 (dk_at dksX4_ring_1 18 rfl rfl)
theorem dX4_ring_45 : decode cX4_ring 45 = .ok (.ldc2_w 128, 3) := dk_20 0 128 (dk_at dksX4_ring_1 21 rfl rfl)
theorem dX4_ring_48 : decode cX4_ring 48 = .ok (.invokestatic 100, 3) := dk_184 0 100 (dk_at dksX4_ring_2 0 rfl rfl)
theorem dX4_ring_51 : decode cX4_ring 51 = .ok (.ifCond .ne 5, 3) := dk_154 0 5 (dk_at dksX4_ring_2 3 rfl rfl)
theorem dX4_ring_54 : decode cX4_ring 54 = .ok (.iconst (-1), 1) := dk_2 (dk_at dksX4_ring_2 6 rfl rfl)
theorem dX4_ring_55 : decode cX4_ring 55 = .ok (.ireturn, 1) := dk_172 (dk_at dksX4_ring_2 7 rfl rfl)
theorem dX4_ring_56 : decode cX4_ring 56 = .ok (.iload_n 2, 1) := dk_28 (dk_at dksX4_ring_2 8 rfl rfl)
theorem dX4_ring_57 : decode cX4_ring 57 = .ok (.ifCond .ne 12, 3) := dk_154 0 12 (dk_at dksX4_ring_2 9 rfl rfl)
theorem dX4_ring_60 : decode cX4_ring 60 = .ok (.aload_n 0, 1) := dk_42 (dk_at dksX4_ring_2 12 rfl rfl)
theorem dX4_ring_61 : decode cX4_ring 61 = .ok (.getfield 13, 3) := dk_180 0 13 (dk_at dksX4_ring_2 13 rfl rfl)
theorem dX4_ring_64 : decode cX4_ring 64 = .ok (.iload_n 1, 1) := dk_27 (dk_at dksX4_ring_2 16 rfl rfl)
theorem dX4_ring_65 : decode cX4_ring 65 = .ok (.iaload, 1) := dk_46 (dk_at dksX4_ring_2 17 rfl rfl)
theorem dX4_ring_66 : decode cX4_ring 66 = .ok (.goto 9, 3) := dk_167 0 9 (dk_at dksX4_ring_2 18 rfl rfl)
theorem dX4_ring_69 : decode cX4_ring 69 = .ok (.aload_n 0, 1) := dk_42 (dk_at dksX4_ring_2 21 rfl rfl)
theorem dX4_ring_70 : decode cX4_ring 70 = .ok (.getfield 16, 3) := dk_180 0 16 (dk_at dksX4_ring_3 0 rfl rfl)
theorem dX4_ring_73 : decode cX4_ring 73 = .ok (.iload_n 1, 1) := dk_27 (dk_at dksX4_ring_3 3 rfl rfl)
theorem dX4_ring_74 : decode cX4_ring 74 = .ok (.iaload, 1) := dk_46 (dk_at dksX4_ring_3 4 rfl rfl)
theorem dX4_ring_75 : decode cX4_ring 75 = .ok (.istore 4, 2) := dk_54 4 (dk_at dksX4_ring_3 5 rfl rfl)
theorem dX4_ring_77 : decode cX4_ring 77 = .ok (.iload_n 2, 1) := dk_28 (dk_at dksX4_ring_3 7 rfl rfl)
theorem dX4_ring_78 : decode cX4_ring 78 = .ok (.ifCond .ne 13, 3) := dk_154 0 13 (dk_at dksX4_ring_3 8 rfl rfl)
theorem dX4_ring_81 : decode cX4_ring 81 = .ok (.aload_n 0, 1) := dk_42 (dk_at dksX4_ring_3 11 rfl rfl)
theorem dX4_ring_82 : decode cX4_ring 82 = .ok (.getfield 13, 3) := dk_180 0 13 (dk_at dksX4_ring_3 12 rfl rfl)
theorem dX4_ring_85 : decode cX4_ring 85 = .ok (.iload_n 1, 1) := dk_27 (dk_at dksX4_ring_3 15 rfl rfl)
theorem dX4_ring_86 : decode cX4_ring 86 = .ok (.iload_n 3, 1) := dk_29 (dk_at dksX4_ring_3 16 rfl rfl)
theorem dX4_ring_87 : decode cX4_ring 87 = .ok (.iastore, 1) := dk_79 (dk_at dksX4_ring_3 17 rfl rfl)
theorem dX4_ring_88 : decode cX4_ring 88 = .ok (.goto 10, 3) := dk_167 0 10 (dk_at dksX4_ring_3 18 rfl rfl)
theorem dX4_ring_91 : decode cX4_ring 91 = .ok (.aload_n 0, 1) := dk_42 (dk_at dksX4_ring_3 21 rfl rfl)
theorem dX4_ring_92 : decode cX4_ring 92 = .ok (.getfield 16, 3) := dk_180 0 16 (dk_at dksX4_ring_4 0 rfl rfl)
theorem dX4_ring_95 : decode cX4_ring 95 = .ok (.iload_n 1, 1) := dk_27 (dk_at dksX4_ring_4 3 rfl rfl)
theorem dX4_ring_96 : decode cX4_ring 96 = .ok (.iload_n 3, 1) := dk_29 (dk_at dksX4_ring_4 4 rfl rfl)
theorem dX4_ring_97 : decode cX4_ring 97 = .ok (.iastore, 1) := dk_79 (dk_at dksX4_ring_4 5 rfl rfl)
theorem dX4_ring_98 : decode cX4_ring 98 = .ok (.bipush 100, 2) := dk_16 100 (dk_at dksX4_ring_4 6 rfl rfl)
theorem dX4_ring_100 : decode cX4_ring 100 = .ok (.iload 4, 2) := dk_21 4 (dk_at dksX4_ring_4 8 rfl rfl)
theorem dX4_ring_102 : decode cX4_ring 102 = .ok (.iadd, 1) := dk_96 (dk_at dksX4_ring_4 10 rfl rfl)
theorem dX4_ring_103 : decode cX4_ring 103 = .ok (.ireturn, 1) := dk_172 (dk_at dksX4_ring_4 11 rfl rfl)
abbrev cX4_type : ByteArray := prog_14_method_12_code
def yX4_type : MethodName := ⟨RX4, "type", "(JI)I"⟩
def dkwX4_type_5 : List UInt8 := [180, 0, 138, 172]
abbrev dktX4_type_5 : List UInt8 := dkwX4_type_5 ++ []
def dkwX4_type_4 : List UInt8 := [20, 0, 132, 127, 136, 79, 42, 89, 180, 0, 138, 4, 96, 181, 0, 138, 132, 4, 255, 167, 255, 217, 42]
abbrev dktX4_type_4 : List UInt8 := dkwX4_type_4 ++ dktX4_type_5
def dkwX4_type_3 : List UInt8 := [54, 4, 21, 4, 155, 0, 40, 42, 180, 0, 28, 42, 180, 0, 138, 31, 16, 8, 21, 4, 104, 123]
abbrev dktX4_type_3 : List UInt8 := dkwX4_type_3 ++ dktX4_type_4
def dkwX4_type_2 : List UInt8 := [132, 4, 1, 167, 255, 222, 42, 180, 0, 138, 29, 96, 16, 60, 164, 0, 6, 16, 253, 172, 29, 4, 100]
abbrev dktX4_type_2 : List UInt8 := dkwX4_type_2 ++ dktX4_type_3
def dkwX4_type_1 : List UInt8 := [16, 8, 21, 4, 104, 123, 20, 0, 132, 127, 20, 0, 134, 20, 0, 136, 184, 0, 100, 154, 0, 5, 2, 172]
abbrev dktX4_type_1 : List UInt8 := dkwX4_type_1 ++ dktX4_type_2
def dkwX4_type_0 : List UInt8 := [29, 133, 10, 20, 0, 130, 184, 0, 100, 154, 0, 5, 2, 172, 3, 54, 4, 21, 4, 29, 162, 0, 34, 31]
abbrev dktX4_type_0 : List UInt8 := dkwX4_type_0 ++ dktX4_type_1
theorem dksX4_type_0 : cX4_type.data.toList.drop 0 = dktX4_type_0 := by decide +kernel
theorem dksX4_type_1 : cX4_type.data.toList.drop 24 = dktX4_type_1 := dk_seg dksX4_type_0 24 rfl rfl
theorem dksX4_type_2 : cX4_type.data.toList.drop 48 = dktX4_type_2 := dk_seg dksX4_type_1 24 rfl rfl
theorem dksX4_type_3 : cX4_type.data.toList.drop 71 = dktX4_type_3 := dk_seg dksX4_type_2 23 rfl rfl
theorem dksX4_type_4 : cX4_type.data.toList.drop 93 = dktX4_type_4 := dk_seg dksX4_type_3 22 rfl rfl
theorem dksX4_type_5 : cX4_type.data.toList.drop 116 = dktX4_type_5 := dk_seg dksX4_type_4 23 rfl rfl
theorem dX4_type_0 : decode cX4_type 0 = .ok (.iload_n 3, 1) := dk_29 (dk_at dksX4_type_0 0 rfl rfl)
theorem dX4_type_1 : decode cX4_type 1 = .ok (.i2l, 1) := dk_133 (dk_at dksX4_type_0 1 rfl rfl)
theorem dX4_type_2 : decode cX4_type 2 = .ok (.lconst 1, 1) := dk_10 (dk_at dksX4_type_0 2 rfl rfl)
theorem dX4_type_3 : decode cX4_type 3 = .ok (.ldc2_w 130, 3) := dk_20 0 130 (dk_at dksX4_type_0 3 rfl rfl)
theorem dX4_type_6 : decode cX4_type 6 = .ok (.invokestatic 100, 3) := dk_184 0 100 (dk_at dksX4_type_0 6 rfl rfl)
theorem dX4_type_9 : decode cX4_type 9 = .ok (.ifCond .ne 5, 3) := dk_154 0 5 (dk_at dksX4_type_0 9 rfl rfl)
theorem dX4_type_12 : decode cX4_type 12 = .ok (.iconst (-1), 1) := dk_2 (dk_at dksX4_type_0 12 rfl rfl)
theorem dX4_type_13 : decode cX4_type 13 = .ok (.ireturn, 1) := dk_172 (dk_at dksX4_type_0 13 rfl rfl)
theorem dX4_type_14 : decode cX4_type 14 = .ok (.iconst 0, 1) := dk_3 (dk_at dksX4_type_0 14 rfl rfl)
theorem dX4_type_15 : decode cX4_type 15 = .ok (.istore 4, 2) := dk_54 4 (dk_at dksX4_type_0 15 rfl rfl)
theorem dX4_type_17 : decode cX4_type 17 = .ok (.iload 4, 2) := dk_21 4 (dk_at dksX4_type_0 17 rfl rfl)
theorem dX4_type_19 : decode cX4_type 19 = .ok (.iload_n 3, 1) := dk_29 (dk_at dksX4_type_0 19 rfl rfl)
theorem dX4_type_20 : decode cX4_type 20 = .ok (.if_icmp .ge 34, 3) := dk_162 0 34 (dk_at dksX4_type_0 20 rfl rfl)
theorem dX4_type_23 : decode cX4_type 23 = .ok (.lload_n 1, 1) := dk_31 (dk_at dksX4_type_0 23 rfl rfl)
theorem dX4_type_24 : decode cX4_type 24 = .ok (.bipush 8, 2) := dk_16 8 (dk_at dksX4_type_1 0 rfl rfl)
theorem dX4_type_26 : decode cX4_type 26 = .ok (.iload 4, 2) := dk_21 4 (dk_at dksX4_type_1 2 rfl rfl)
theorem dX4_type_28 : decode cX4_type 28 = .ok (.imul, 1) := dk_104 (dk_at dksX4_type_1 4 rfl rfl)
theorem dX4_type_29 : decode cX4_type 29 = .ok (.lshr, 1) := dk_123 (dk_at dksX4_type_1 5 rfl rfl)
theorem dX4_type_30 : decode cX4_type 30 = .ok (.ldc2_w 132, 3) := dk_20 0 132 (dk_at dksX4_type_1 6 rfl rfl)
theorem dX4_type_33 : decode cX4_type 33 = .ok (.land, 1) := dk_127 (dk_at dksX4_type_1 9 rfl rfl)
theorem dX4_type_34 : decode cX4_type 34 = .ok (.ldc2_w 134, 3) := dk_20 0 134 (dk_at dksX4_type_1 10 rfl rfl)
theorem dX4_type_37 : decode cX4_type 37 = .ok (.ldc2_w 136, 3) := dk_20 0 136 (dk_at dksX4_type_1 13 rfl rfl)
theorem dX4_type_40 : decode cX4_type 40 = .ok (.invokestatic 100, 3) := dk_184 0 100 (dk_at dksX4_type_1 16 rfl rfl)
theorem dX4_type_43 : decode cX4_type 43 = .ok (.ifCond .ne 5, 3) := dk_154 0 5 (dk_at dksX4_type_1 19 rfl rfl)
theorem dX4_type_46 : decode cX4_type 46 = .ok (.iconst (-1), 1) := dk_2 (dk_at dksX4_type_1 22 rfl rfl)
theorem dX4_type_47 : decode cX4_type 47 = .ok (.ireturn, 1) := dk_172 (dk_at dksX4_type_1 23 rfl rfl)
theorem dX4_type_48 : decode cX4_type 48 = .ok (.iinc 4 1, 3) := dk_132 4 1 (dk_at dksX4_type_2 0 rfl rfl)
theorem dX4_type_51 : decode cX4_type 51 = .ok (.goto (-34), 3) := dk_167 255 222 (dk_at dksX4_type_2 3 rfl rfl)
theorem dX4_type_54 : decode cX4_type 54 = .ok (.aload_n 0, 1) := dk_42 (dk_at dksX4_type_2 6 rfl rfl)
theorem dX4_type_55 : decode cX4_type 55 = .ok (.getfield 138, 3) := dk_180 0 138 (dk_at dksX4_type_2 7 rfl rfl)
theorem dX4_type_58 : decode cX4_type 58 = .ok (.iload_n 3, 1) := dk_29 (dk_at dksX4_type_2 10 rfl rfl)
theorem dX4_type_59 : decode cX4_type 59 = .ok (.iadd, 1) := dk_96 (dk_at dksX4_type_2 11 rfl rfl)
theorem dX4_type_60 : decode cX4_type 60 = .ok (.bipush 60, 2) := dk_16 60 (dk_at dksX4_type_2 12 rfl rfl)
theorem dX4_type_62 : decode cX4_type 62 = .ok (.if_icmp .le 6, 3) := dk_164 0 6 (dk_at dksX4_type_2 14 rfl rfl)
theorem dX4_type_65 : decode cX4_type 65 = .ok (.bipush (-3), 2) := dk_16 253 (dk_at dksX4_type_2 17 rfl rfl)
theorem dX4_type_67 : decode cX4_type 67 = .ok (.ireturn, 1) := dk_172 (dk_at dksX4_type_2 19 rfl rfl)
theorem dX4_type_68 : decode cX4_type 68 = .ok (.iload_n 3, 1) := dk_29 (dk_at dksX4_type_2 20 rfl rfl)
theorem dX4_type_69 : decode cX4_type 69 = .ok (.iconst 1, 1) := dk_4 (dk_at dksX4_type_2 21 rfl rfl)
theorem dX4_type_70 : decode cX4_type 70 = .ok (.isub, 1) := dk_100 (dk_at dksX4_type_2 22 rfl rfl)
theorem dX4_type_71 : decode cX4_type 71 = .ok (.istore 4, 2) := dk_54 4 (dk_at dksX4_type_3 0 rfl rfl)
theorem dX4_type_73 : decode cX4_type 73 = .ok (.iload 4, 2) := dk_21 4 (dk_at dksX4_type_3 2 rfl rfl)
theorem dX4_type_75 : decode cX4_type 75 = .ok (.ifCond .lt 40, 3) := dk_155 0 40 (dk_at dksX4_type_3 4 rfl rfl)
theorem dX4_type_78 : decode cX4_type 78 = .ok (.aload_n 0, 1) := dk_42 (dk_at dksX4_type_3 7 rfl rfl)
theorem dX4_type_79 : decode cX4_type 79 = .ok (.getfield 28, 3) := dk_180 0 28 (dk_at dksX4_type_3 8 rfl rfl)
theorem dX4_type_82 : decode cX4_type 82 = .ok (.aload_n 0, 1) := dk_42 (dk_at dksX4_type_3 11 rfl rfl)
theorem dX4_type_83 : decode cX4_type 83 = .ok (.getfield 138, 3) := dk_180 0 138 (dk_at dksX4_type_3 12 rfl rfl)
theorem dX4_type_86 : decode cX4_type 86 = .ok (.lload_n 1, 1) := dk_31 (dk_at dksX4_type_3 15 rfl rfl)
theorem dX4_type_87 : decode cX4_type 87 = .ok (.bipush 8, 2) := dk_16 8 (dk_at dksX4_type_3 16 rfl rfl)
theorem dX4_type_89 : decode cX4_type 89 = .ok (.iload 4, 2) := dk_21 4 (dk_at dksX4_type_3 18 rfl rfl)
theorem dX4_type_91 : decode cX4_type 91 = .ok (.imul, 1) := dk_104 (dk_at dksX4_type_3 20 rfl rfl)
theorem dX4_type_92 : decode cX4_type 92 = .ok (.lshr, 1) := dk_123 (dk_at dksX4_type_3 21 rfl rfl)
theorem dX4_type_93 : decode cX4_type 93 = .ok (.ldc2_w 132, 3) := dk_20 0 132 (dk_at dksX4_type_4 0 rfl rfl)
theorem dX4_type_96 : decode cX4_type 96 = .ok (.land, 1) := dk_127 (dk_at dksX4_type_4 3 rfl rfl)
theorem dX4_type_97 : decode cX4_type 97 = .ok (.l2i, 1) := dk_136 (dk_at dksX4_type_4 4 rfl rfl)
theorem dX4_type_98 : decode cX4_type 98 = .ok (.iastore, 1) := dk_79 (dk_at dksX4_type_4 5 rfl rfl)
theorem dX4_type_99 : decode cX4_type 99 = .ok (.aload_n 0, 1) := dk_42 (dk_at dksX4_type_4 6 rfl rfl)
theorem dX4_type_100 : decode cX4_type 100 = .ok (.dup, 1) := dk_89 (dk_at dksX4_type_4 7 rfl rfl)
theorem dX4_type_101 : decode cX4_type 101 = .ok (.getfield 138, 3) := dk_180 0 138 (dk_at dksX4_type_4 8 rfl rfl)
theorem dX4_type_104 : decode cX4_type 104 = .ok (.iconst 1, 1) := dk_4 (dk_at dksX4_type_4 11 rfl rfl)
theorem dX4_type_105 : decode cX4_type 105 = .ok (.iadd, 1) := dk_96 (dk_at dksX4_type_4 12 rfl rfl)
theorem dX4_type_106 : decode cX4_type 106 = .ok (.putfield 138, 3) := dk_181 0 138 (dk_at dksX4_type_4 13 rfl rfl)
theorem dX4_type_109 : decode cX4_type 109 = .ok (.iinc 4 (-1), 3) := dk_132 4 255 (dk_at dksX4_type_4 16 rfl rfl)
theorem dX4_type_112 : decode cX4_type 112 = .ok (.goto (-39), 3) := dk_167 255 217 (dk_at dksX4_type_4 19 rfl rfl)
theorem dX4_type_115 : decode cX4_type 115 = .ok (.aload_n 0, 1) := dk_42 (dk_at dksX4_type_4 22 rfl rfl)
theorem dX4_type_116 : decode cX4_type 116 = .ok (.getfield 138, 3) := dk_180 0 138 (dk_at dksX4_type_5 0 rfl rfl)
theorem dX4_type_119 : decode cX4_type 119 = .ok (.ireturn, 1) := dk_172 (dk_at dksX4_type_5 3 rfl rfl)
abbrev cX4_rings : ByteArray := prog_14_method_16_code
def yX4_rings : MethodName := ⟨RX4, "rings", "()I"⟩
def dkwX4_rings_14 : List UInt8 := [21, 4, 46, 79, 132, 4, 1, 167, 255, 218, 27, 172]
abbrev dktX4_rings_14 : List UInt8 := dkwX4_rings_14 ++ []
def dkwX4_rings_13 : List UInt8 := [42, 180, 0, 13, 21, 4, 42, 180, 0, 31, 21, 4, 46, 79, 42, 180, 0, 16, 21, 4, 42, 180, 0, 34]
abbrev dktX4_rings_13 : List UInt8 := dkwX4_rings_13 ++ dktX4_rings_14
def dkwX4_rings_12 : List UInt8 := [180, 0, 145, 153, 0, 11, 16, 236, 42, 180, 0, 142, 100, 172, 4, 54, 4, 21, 4, 16, 7, 162, 0, 37]
abbrev dktX4_rings_12 : List UInt8 := dkwX4_rings_12 ++ dktX4_rings_13
def dkwX4_rings_11 : List UInt8 := [154, 0, 10, 42, 182, 0, 149, 153, 0, 7, 4, 167, 0, 4, 3, 181, 0, 145, 42, 3, 181, 0, 138, 42]
abbrev dktX4_rings_11 : List UInt8 := dkwX4_rings_11 ++ dktX4_rings_12
def dkwX4_rings_10 : List UInt8 := [180, 0, 142, 29, 153, 0, 7, 4, 167, 0, 4, 3, 96, 181, 0, 142, 167, 255, 61, 42, 42, 180, 0, 145]
abbrev dktX4_rings_10 : List UInt8 := dkwX4_rings_10 ++ dktX4_rings_11
def dkwX4_rings_9 : List UInt8 := [16, 6, 162, 0, 16, 42, 182, 0, 149, 16, 59, 160, 0, 7, 4, 167, 0, 4, 3, 62, 42, 89]
abbrev dktX4_rings_9 : List UInt8 := dkwX4_rings_9 ++ dktX4_rings_10
def dkwX4_rings_8 : List UInt8 := [158, 0, 7, 4, 167, 0, 4, 3, 96, 181, 0, 142, 132, 1, 1, 42, 180, 0, 145, 154, 0, 22, 27]
abbrev dktX4_rings_8 : List UInt8 := dkwX4_rings_8 ++ dktX4_rings_9
def dkwX4_rings_7 : List UInt8 := [16, 45, 160, 0, 7, 4, 167, 0, 4, 3, 79, 42, 89, 180, 0, 142, 42, 180, 0, 34, 21, 4, 46]
abbrev dktX4_rings_7 : List UInt8 := dkwX4_rings_7 ++ dktX4_rings_8
def dkwX4_rings_6 : List UInt8 := [182, 0, 149, 54, 5, 42, 180, 0, 34, 21, 4, 21, 5, 16, 43, 160, 0, 7, 5, 167, 0, 15, 21, 5]
abbrev dktX4_rings_6 : List UInt8 := dkwX4_rings_6 ++ dktX4_rings_7
def dkwX4_rings_5 : List UInt8 := [42, 180, 0, 31, 21, 4, 42, 182, 0, 161, 79, 42, 180, 0, 145, 153, 0, 7, 3, 167, 0, 7, 42]
abbrev dktX4_rings_5 : List UInt8 := dkwX4_rings_5 ++ dktX4_rings_6
def dkwX4_rings_4 : List UInt8 := [181, 0, 145, 42, 89, 180, 0, 142, 42, 180, 0, 145, 153, 0, 7, 3, 167, 0, 4, 4, 96, 181, 0, 142]
abbrev dktX4_rings_4 : List UInt8 := dkwX4_rings_4 ++ dktX4_rings_5
def dkwX4_rings_3 : List UInt8 := [42, 42, 180, 0, 145, 154, 0, 12, 42, 182, 0, 149, 16, 58, 159, 0, 7, 4, 167, 0, 4, 3]
abbrev dktX4_rings_3 : List UInt8 := dkwX4_rings_3 ++ dktX4_rings_4
def dkwX4_rings_2 : List UInt8 := [3, 60, 3, 61, 4, 62, 29, 153, 0, 197, 42, 28, 4, 96, 16, 6, 182, 0, 157, 54, 4, 21, 4, 61]
abbrev dktX4_rings_2 : List UInt8 := dkwX4_rings_2 ++ dktX4_rings_3
def dkwX4_rings_1 : List UInt8 := [27, 42, 180, 0, 16, 27, 46, 79, 132, 1, 1, 167, 255, 223, 42, 3, 181, 0, 142, 42, 3, 181, 0, 145]
abbrev dktX4_rings_1 : List UInt8 := dkwX4_rings_1 ++ dktX4_rings_2
def dkwX4_rings_0 : List UInt8 := [3, 60, 27, 16, 7, 162, 0, 33, 42, 180, 0, 31, 27, 42, 180, 0, 13, 27, 46, 79, 42, 180, 0, 34]
abbrev dktX4_rings_0 : List UInt8 := dkwX4_rings_0 ++ dktX4_rings_1
theorem dksX4_rings_0 : cX4_rings.data.toList.drop 0 = dktX4_rings_0 := by decide +kernel
theorem dksX4_rings_1 : cX4_rings.data.toList.drop 24 = dktX4_rings_1 := dk_seg dksX4_rings_0 24 rfl rfl
theorem dksX4_rings_2 : cX4_rings.data.toList.drop 48 = dktX4_rings_2 := dk_seg dksX4_rings_1 24 rfl rfl
theorem dksX4_rings_3 : cX4_rings.data.toList.drop 72 = dktX4_rings_3 := dk_seg dksX4_rings_2 24 rfl rfl
theorem dksX4_rings_4 : cX4_rings.data.toList.drop 94 = dktX4_rings_4 := dk_seg dksX4_rings_3 22 rfl rfl
theorem dksX4_rings_5 : cX4_rings.data.toList.drop 118 = dktX4_rings_5 := dk_seg dksX4_rings_4 24 rfl rfl
theorem dksX4_rings_6 : cX4_rings.data.toList.drop 141 = dktX4_rings_6 := dk_seg dksX4_rings_5 23 rfl rfl
theorem dksX4_rings_7 : cX4_rings.data.toList.drop 165 = dktX4_rings_7 := dk_seg dksX4_rings_6 24 rfl rfl
theorem dksX4_rings_8 : cX4_rings.data.toList.drop 188 = dktX4_rings_8 := dk_seg dksX4_rings_7 23 rfl rfl
theorem dksX4_rings_9 : cX4_rings.data.toList.drop 211 = dktX4_rings_9 := dk_seg dksX4_rings_8 23 rfl rfl
theorem dksX4_rings_10 : cX4_rings.data.toList.drop 233 = dktX4_rings_10 := dk_seg dksX4_rings_9 22 rfl rfl
theorem dksX4_rings_11 : cX4_rings.data.toList.drop 257 = dktX4_rings_11 := dk_seg dksX4_rings_10 24 rfl rfl
theorem dksX4_rings_12 : cX4_rings.data.toList.drop 281 = dktX4_rings_12 := dk_seg dksX4_rings_11 24 rfl rfl
theorem dksX4_rings_13 : cX4_rings.data.toList.drop 305 = dktX4_rings_13 := dk_seg dksX4_rings_12 24 rfl rfl
theorem dksX4_rings_14 : cX4_rings.data.toList.drop 329 = dktX4_rings_14 := dk_seg dksX4_rings_13 24 rfl rfl
theorem dX4_rings_0 : decode cX4_rings 0 = .ok (.iconst 0, 1) := dk_3 (dk_at dksX4_rings_0 0 rfl rfl)
theorem dX4_rings_1 : decode cX4_rings 1 = .ok (.istore_n 1, 1) := dk_60 (dk_at dksX4_rings_0 1 rfl rfl)
theorem dX4_rings_2 : decode cX4_rings 2 = .ok (.iload_n 1, 1) := dk_27 (dk_at dksX4_rings_0 2 rfl rfl)
theorem dX4_rings_3 : decode cX4_rings 3 = .ok (.bipush 7, 2) := dk_16 7 (dk_at dksX4_rings_0 3 rfl rfl)
theorem dX4_rings_5 : decode cX4_rings 5 = .ok (.if_icmp .ge 33, 3) := dk_162 0 33 (dk_at dksX4_rings_0 5 rfl rfl)
theorem dX4_rings_8 : decode cX4_rings 8 = .ok (.aload_n 0, 1) := dk_42 (dk_at dksX4_rings_0 8 rfl rfl)
theorem dX4_rings_9 : decode cX4_rings 9 = .ok (.getfield 31, 3) := dk_180 0 31 (dk_at dksX4_rings_0 9 rfl rfl)
theorem dX4_rings_12 : decode cX4_rings 12 = .ok (.iload_n 1, 1) := dk_27 (dk_at dksX4_rings_0 12 rfl rfl)
theorem dX4_rings_13 : decode cX4_rings 13 = .ok (.aload_n 0, 1) := dk_42 (dk_at dksX4_rings_0 13 rfl rfl)
theorem dX4_rings_14 : decode cX4_rings 14 = .ok (.getfield 13, 3) := dk_180 0 13 (dk_at dksX4_rings_0 14 rfl rfl)
theorem dX4_rings_17 : decode cX4_rings 17 = .ok (.iload_n 1, 1) := dk_27 (dk_at dksX4_rings_0 17 rfl rfl)
theorem dX4_rings_18 : decode cX4_rings 18 = .ok (.iaload, 1) := dk_46 (dk_at dksX4_rings_0 18 rfl rfl)
theorem dX4_rings_19 : decode cX4_rings 19 = .ok (.iastore, 1) := dk_79 (dk_at dksX4_rings_0 19 rfl rfl)
theorem dX4_rings_20 : decode cX4_rings 20 = .ok (.aload_n 0, 1) := dk_42 (dk_at dksX4_rings_0 20 rfl rfl)
theorem dX4_rings_21 : decode cX4_rings 21 = .ok (.getfield 34, 3) := dk_180 0 34 (dk_at dksX4_rings_0 21 rfl rfl)
theorem dX4_rings_24 : decode cX4_rings 24 = .ok (.iload_n 1, 1) := dk_27 (dk_at dksX4_rings_1 0 rfl rfl)
theorem dX4_rings_25 : decode cX4_rings 25 = .ok (.aload_n 0, 1) := dk_42 (dk_at dksX4_rings_1 1 rfl rfl)
theorem dX4_rings_26 : decode cX4_rings 26 = .ok (.getfield 16, 3) := dk_180 0 16 (dk_at dksX4_rings_1 2 rfl rfl)
theorem dX4_rings_29 : decode cX4_rings 29 = .ok (.iload_n 1, 1) := dk_27 (dk_at dksX4_rings_1 5 rfl rfl)
theorem dX4_rings_30 : decode cX4_rings 30 = .ok (.iaload, 1) := dk_46 (dk_at dksX4_rings_1 6 rfl rfl)
theorem dX4_rings_31 : decode cX4_rings 31 = .ok (.iastore, 1) := dk_79 (dk_at dksX4_rings_1 7 rfl rfl)
theorem dX4_rings_32 : decode cX4_rings 32 = .ok (.iinc 1 1, 3) := dk_132 1 1 (dk_at dksX4_rings_1 8 rfl rfl)
theorem dX4_rings_35 : decode cX4_rings 35 = .ok (.goto (-33), 3) := dk_167 255 223 (dk_at dksX4_rings_1 11 rfl rfl)
theorem dX4_rings_38 : decode cX4_rings 38 = .ok (.aload_n 0, 1) := dk_42 (dk_at dksX4_rings_1 14 rfl rfl)
theorem dX4_rings_39 : decode cX4_rings 39 = .ok (.iconst 0, 1) := dk_3 (dk_at dksX4_rings_1 15 rfl rfl)
theorem dX4_rings_40 : decode cX4_rings 40 = .ok (.putfield 142, 3) := dk_181 0 142 (dk_at dksX4_rings_1 16 rfl rfl)
theorem dX4_rings_43 : decode cX4_rings 43 = .ok (.aload_n 0, 1) := dk_42 (dk_at dksX4_rings_1 19 rfl rfl)
theorem dX4_rings_44 : decode cX4_rings 44 = .ok (.iconst 0, 1) := dk_3 (dk_at dksX4_rings_1 20 rfl rfl)
theorem dX4_rings_45 : decode cX4_rings 45 = .ok (.putfield 145, 3) := dk_181 0 145 (dk_at dksX4_rings_1 21 rfl rfl)
theorem dX4_rings_48 : decode cX4_rings 48 = .ok (.iconst 0, 1) := dk_3 (dk_at dksX4_rings_2 0 rfl rfl)
theorem dX4_rings_49 : decode cX4_rings 49 = .ok (.istore_n 1, 1) := dk_60 (dk_at dksX4_rings_2 1 rfl rfl)
theorem dX4_rings_50 : decode cX4_rings 50 = .ok (.iconst 0, 1) := dk_3 (dk_at dksX4_rings_2 2 rfl rfl)
theorem dX4_rings_51 : decode cX4_rings 51 = .ok (.istore_n 2, 1) := dk_61 (dk_at dksX4_rings_2 3 rfl rfl)
theorem dX4_rings_52 : decode cX4_rings 52 = .ok (.iconst 1, 1) := dk_4 (dk_at dksX4_rings_2 4 rfl rfl)
theorem dX4_rings_53 : decode cX4_rings 53 = .ok (.istore_n 3, 1) := dk_62 (dk_at dksX4_rings_2 5 rfl rfl)
theorem dX4_rings_54 : decode cX4_rings 54 = .ok (.iload_n 3, 1) := dk_29 (dk_at dksX4_rings_2 6 rfl rfl)
theorem dX4_rings_55 : decode cX4_rings 55 = .ok (.ifCond .eq 197, 3) := dk_153 0 197 (dk_at dksX4_rings_2 7 rfl rfl)
theorem dX4_rings_58 : decode cX4_rings 58 = .ok (.aload_n 0, 1) := dk_42 (dk_at dksX4_rings_2 10 rfl rfl)
theorem dX4_rings_59 : decode cX4_rings 59 = .ok (.iload_n 2, 1) := dk_28 (dk_at dksX4_rings_2 11 rfl rfl)
theorem dX4_rings_60 : decode cX4_rings 60 = .ok (.iconst 1, 1) := dk_4 (dk_at dksX4_rings_2 12 rfl rfl)
theorem dX4_rings_61 : decode cX4_rings 61 = .ok (.iadd, 1) := dk_96 (dk_at dksX4_rings_2 13 rfl rfl)
theorem dX4_rings_62 : decode cX4_rings 62 = .ok (.bipush 6, 2) := dk_16 6 (dk_at dksX4_rings_2 14 rfl rfl)
theorem dX4_rings_64 : decode cX4_rings 64 = .ok (.invokevirtual 157, 3) := dk_182 0 157 (dk_at dksX4_rings_2 16 rfl rfl)
theorem dX4_rings_67 : decode cX4_rings 67 = .ok (.istore 4, 2) := dk_54 4 (dk_at dksX4_rings_2 19 rfl rfl)
theorem dX4_rings_69 : decode cX4_rings 69 = .ok (.iload 4, 2) := dk_21 4 (dk_at dksX4_rings_2 21 rfl rfl)
theorem dX4_rings_71 : decode cX4_rings 71 = .ok (.istore_n 2, 1) := dk_61 (dk_at dksX4_rings_2 23 rfl rfl)
theorem dX4_rings_72 : decode cX4_rings 72 = .ok (.aload_n 0, 1) := dk_42 (dk_at dksX4_rings_3 0 rfl rfl)
theorem dX4_rings_73 : decode cX4_rings 73 = .ok (.aload_n 0, 1) := dk_42 (dk_at dksX4_rings_3 1 rfl rfl)
theorem dX4_rings_74 : decode cX4_rings 74 = .ok (.getfield 145, 3) := dk_180 0 145 (dk_at dksX4_rings_3 2 rfl rfl)
theorem dX4_rings_77 : decode cX4_rings 77 = .ok (.ifCond .ne 12, 3) := dk_154 0 12 (dk_at dksX4_rings_3 5 rfl rfl)
theorem dX4_rings_80 : decode cX4_rings 80 = .ok (.aload_n 0, 1) := dk_42 (dk_at dksX4_rings_3 8 rfl rfl)
theorem dX4_rings_81 : decode cX4_rings 81 = .ok (.invokevirtual 149, 3) := dk_182 0 149 (dk_at dksX4_rings_3 9 rfl rfl)
theorem dX4_rings_84 : decode cX4_rings 84 = .ok (.bipush 58, 2) := dk_16 58 (dk_at dksX4_rings_3 12 rfl rfl)
theorem dX4_rings_86 : decode cX4_rings 86 = .ok (.if_icmp .eq 7, 3) := dk_159 0 7 (dk_at dksX4_rings_3 14 rfl rfl)
theorem dX4_rings_89 : decode cX4_rings 89 = .ok (.iconst 1, 1) := dk_4 (dk_at dksX4_rings_3 17 rfl rfl)
theorem dX4_rings_90 : decode cX4_rings 90 = .ok (.goto 4, 3) := dk_167 0 4 (dk_at dksX4_rings_3 18 rfl rfl)
theorem dX4_rings_93 : decode cX4_rings 93 = .ok (.iconst 0, 1) := dk_3 (dk_at dksX4_rings_3 21 rfl rfl)
theorem dX4_rings_94 : decode cX4_rings 94 = .ok (.putfield 145, 3) := dk_181 0 145 (dk_at dksX4_rings_4 0 rfl rfl)
theorem dX4_rings_97 : decode cX4_rings 97 = .ok (.aload_n 0, 1) := dk_42 (dk_at dksX4_rings_4 3 rfl rfl)
theorem dX4_rings_98 : decode cX4_rings 98 = .ok (.dup, 1) := dk_89 (dk_at dksX4_rings_4 4 rfl rfl)
theorem dX4_rings_99 : decode cX4_rings 99 = .ok (.getfield 142, 3) := dk_180 0 142 (dk_at dksX4_rings_4 5 rfl rfl)
theorem dX4_rings_102 : decode cX4_rings 102 = .ok (.aload_n 0, 1) := dk_42 (dk_at dksX4_rings_4 8 rfl rfl)
theorem dX4_rings_103 : decode cX4_rings 103 = .ok (.getfield 145, 3) := dk_180 0 145 (dk_at dksX4_rings_4 9 rfl rfl)
theorem dX4_rings_106 : decode cX4_rings 106 = .ok (.ifCond .eq 7, 3) := dk_153 0 7 (dk_at dksX4_rings_4 12 rfl rfl)
theorem dX4_rings_109 : decode cX4_rings 109 = .ok (.iconst 0, 1) := dk_3 (dk_at dksX4_rings_4 15 rfl rfl)
theorem dX4_rings_110 : decode cX4_rings 110 = .ok (.goto 4, 3) := dk_167 0 4 (dk_at dksX4_rings_4 16 rfl rfl)
theorem dX4_rings_113 : decode cX4_rings 113 = .ok (.iconst 1, 1) := dk_4 (dk_at dksX4_rings_4 19 rfl rfl)
theorem dX4_rings_114 : decode cX4_rings 114 = .ok (.iadd, 1) := dk_96 (dk_at dksX4_rings_4 20 rfl rfl)
theorem dX4_rings_115 : decode cX4_rings 115 = .ok (.putfield 142, 3) := dk_181 0 142 (dk_at dksX4_rings_4 21 rfl rfl)
theorem dX4_rings_118 : decode cX4_rings 118 = .ok (.aload_n 0, 1) := dk_42 (dk_at dksX4_rings_5 0 rfl rfl)
theorem dX4_rings_119 : decode cX4_rings 119 = .ok (.getfield 31, 3) := dk_180 0 31 (dk_at dksX4_rings_5 1 rfl rfl)
theorem dX4_rings_122 : decode cX4_rings 122 = .ok (.iload 4, 2) := dk_21 4 (dk_at dksX4_rings_5 4 rfl rfl)
theorem dX4_rings_124 : decode cX4_rings 124 = .ok (.aload_n 0, 1) := dk_42 (dk_at dksX4_rings_5 6 rfl rfl)
theorem dX4_rings_125 : decode cX4_rings 125 = .ok (.invokevirtual 161, 3) := dk_182 0 161 (dk_at dksX4_rings_5 7 rfl rfl)
theorem dX4_rings_128 : decode cX4_rings 128 = .ok (.iastore, 1) := dk_79 (dk_at dksX4_rings_5 10 rfl rfl)
theorem dX4_rings_129 : decode cX4_rings 129 = .ok (.aload_n 0, 1) := dk_42 (dk_at dksX4_rings_5 11 rfl rfl)
theorem dX4_rings_130 : decode cX4_rings 130 = .ok (.getfield 145, 3) := dk_180 0 145 (dk_at dksX4_rings_5 12 rfl rfl)
theorem dX4_rings_133 : decode cX4_rings 133 = .ok (.ifCond .eq 7, 3) := dk_153 0 7 (dk_at dksX4_rings_5 15 rfl rfl)
theorem dX4_rings_136 : decode cX4_rings 136 = .ok (.iconst 0, 1) := dk_3 (dk_at dksX4_rings_5 18 rfl rfl)
theorem dX4_rings_137 : decode cX4_rings 137 = .ok (.goto 7, 3) := dk_167 0 7 (dk_at dksX4_rings_5 19 rfl rfl)
theorem dX4_rings_140 : decode cX4_rings 140 = .ok (.aload_n 0, 1) := dk_42 (dk_at dksX4_rings_5 22 rfl rfl)
theorem dX4_rings_141 : decode cX4_rings 141 = .ok (.invokevirtual 149, 3) := dk_182 0 149 (dk_at dksX4_rings_6 0 rfl rfl)
theorem dX4_rings_144 : decode cX4_rings 144 = .ok (.istore 5, 2) := dk_54 5 (dk_at dksX4_rings_6 3 rfl rfl)
theorem dX4_rings_146 : decode cX4_rings 146 = .ok (.aload_n 0, 1) := dk_42 (dk_at dksX4_rings_6 5 rfl rfl)
theorem dX4_rings_147 : decode cX4_rings 147 = .ok (.getfield 34, 3) := dk_180 0 34 (dk_at dksX4_rings_6 6 rfl rfl)
theorem dX4_rings_150 : decode cX4_rings 150 = .ok (.iload 4, 2) := dk_21 4 (dk_at dksX4_rings_6 9 rfl rfl)
theorem dX4_rings_152 : decode cX4_rings 152 = .ok (.iload 5, 2) := dk_21 5 (dk_at dksX4_rings_6 11 rfl rfl)
theorem dX4_rings_154 : decode cX4_rings 154 = .ok (.bipush 43, 2) := dk_16 43 (dk_at dksX4_rings_6 13 rfl rfl)
theorem dX4_rings_156 : decode cX4_rings 156 = .ok (.if_icmp .ne 7, 3) := dk_160 0 7 (dk_at dksX4_rings_6 15 rfl rfl)
theorem dX4_rings_159 : decode cX4_rings 159 = .ok (.iconst 2, 1) := dk_5 (dk_at dksX4_rings_6 18 rfl rfl)
theorem dX4_rings_160 : decode cX4_rings 160 = .ok (.goto 15, 3) := dk_167 0 15 (dk_at dksX4_rings_6 19 rfl rfl)
theorem dX4_rings_163 : decode cX4_rings 163 = .ok (.iload 5, 2) := dk_21 5 (dk_at dksX4_rings_6 22 rfl rfl)
theorem dX4_rings_165 : decode cX4_rings 165 = .ok (.bipush 45, 2) := dk_16 45 (dk_at dksX4_rings_7 0 rfl rfl)
theorem dX4_rings_167 : decode cX4_rings 167 = .ok (.if_icmp .ne 7, 3) := dk_160 0 7 (dk_at dksX4_rings_7 2 rfl rfl)
theorem dX4_rings_170 : decode cX4_rings 170 = .ok (.iconst 1, 1) := dk_4 (dk_at dksX4_rings_7 5 rfl rfl)
theorem dX4_rings_171 : decode cX4_rings 171 = .ok (.goto 4, 3) := dk_167 0 4 (dk_at dksX4_rings_7 6 rfl rfl)
theorem dX4_rings_174 : decode cX4_rings 174 = .ok (.iconst 0, 1) := dk_3 (dk_at dksX4_rings_7 9 rfl rfl)
theorem dX4_rings_175 : decode cX4_rings 175 = .ok (.iastore, 1) := dk_79 (dk_at dksX4_rings_7 10 rfl rfl)
theorem dX4_rings_176 : decode cX4_rings 176 = .ok (.aload_n 0, 1) := dk_42 (dk_at dksX4_rings_7 11 rfl rfl)
theorem dX4_rings_177 : decode cX4_rings 177 = .ok (.dup, 1) := dk_89 (dk_at dksX4_rings_7 12 rfl rfl)
theorem dX4_rings_178 : decode cX4_rings 178 = .ok (.getfield 142, 3) := dk_180 0 142 (dk_at dksX4_rings_7 13 rfl rfl)
theorem dX4_rings_181 : decode cX4_rings 181 = .ok (.aload_n 0, 1) := dk_42 (dk_at dksX4_rings_7 16 rfl rfl)
theorem dX4_rings_182 : decode cX4_rings 182 = .ok (.getfield 34, 3) := dk_180 0 34 (dk_at dksX4_rings_7 17 rfl rfl)
theorem dX4_rings_185 : decode cX4_rings 185 = .ok (.iload 4, 2) := dk_21 4 (dk_at dksX4_rings_7 20 rfl rfl)
theorem dX4_rings_187 : decode cX4_rings 187 = .ok (.iaload, 1) := dk_46 (dk_at dksX4_rings_7 22 rfl rfl)
theorem dX4_rings_188 : decode cX4_rings 188 = .ok (.ifCond .le 7, 3) := dk_158 0 7 (dk_at dksX4_rings_8 0 rfl rfl)
theorem dX4_rings_191 : decode cX4_rings 191 = .ok (.iconst 1, 1) := dk_4 (dk_at dksX4_rings_8 3 rfl rfl)
theorem dX4_rings_192 : decode cX4_rings 192 = .ok (.goto 4, 3) := dk_167 0 4 (dk_at dksX4_rings_8 4 rfl rfl)
theorem dX4_rings_195 : decode cX4_rings 195 = .ok (.iconst 0, 1) := dk_3 (dk_at dksX4_rings_8 7 rfl rfl)
theorem dX4_rings_196 : decode cX4_rings 196 = .ok (.iadd, 1) := dk_96 (dk_at dksX4_rings_8 8 rfl rfl)
theorem dX4_rings_197 : decode cX4_rings 197 = .ok (.putfield 142, 3) := dk_181 0 142 (dk_at dksX4_rings_8 9 rfl rfl)
theorem dX4_rings_200 : decode cX4_rings 200 = .ok (.iinc 1 1, 3) := dk_132 1 1 (dk_at dksX4_rings_8 12 rfl rfl)
theorem dX4_rings_203 : decode cX4_rings 203 = .ok (.aload_n 0, 1) := dk_42 (dk_at dksX4_rings_8 15 rfl rfl)
theorem dX4_rings_204 : decode cX4_rings 204 = .ok (.getfield 145, 3) := dk_180 0 145 (dk_at dksX4_rings_8 16 rfl rfl)
theorem dX4_rings_207 : decode cX4_rings 207 = .ok (.ifCond .ne 22, 3) := dk_154 0 22 (dk_at dksX4_rings_8 19 rfl rfl)
theorem dX4_rings_210 : decode cX4_rings 210 = .ok (.iload_n 1, 1) := dk_27 (dk_at dksX4_rings_8 22 rfl rfl)
theorem dX4_rings_211 : decode cX4_rings 211 = .ok (.bipush 6, 2) := dk_16 6 (dk_at dksX4_rings_9 0 rfl rfl)
theorem dX4_rings_213 : decode cX4_rings 213 = .ok (.if_icmp .ge 16, 3) := dk_162 0 16 (dk_at dksX4_rings_9 2 rfl rfl)
theorem dX4_rings_216 : decode cX4_rings 216 = .ok (.aload_n 0, 1) := dk_42 (dk_at dksX4_rings_9 5 rfl rfl)
theorem dX4_rings_217 : decode cX4_rings 217 = .ok (.invokevirtual 149, 3) := dk_182 0 149 (dk_at dksX4_rings_9 6 rfl rfl)
theorem dX4_rings_220 : decode cX4_rings 220 = .ok (.bipush 59, 2) := dk_16 59 (dk_at dksX4_rings_9 9 rfl rfl)
theorem dX4_rings_222 : decode cX4_rings 222 = .ok (.if_icmp .ne 7, 3) := dk_160 0 7 (dk_at dksX4_rings_9 11 rfl rfl)
theorem dX4_rings_225 : decode cX4_rings 225 = .ok (.iconst 1, 1) := dk_4 (dk_at dksX4_rings_9 14 rfl rfl)
theorem dX4_rings_226 : decode cX4_rings 226 = .ok (.goto 4, 3) := dk_167 0 4 (dk_at dksX4_rings_9 15 rfl rfl)
theorem dX4_rings_229 : decode cX4_rings 229 = .ok (.iconst 0, 1) := dk_3 (dk_at dksX4_rings_9 18 rfl rfl)
theorem dX4_rings_230 : decode cX4_rings 230 = .ok (.istore_n 3, 1) := dk_62 (dk_at dksX4_rings_9 19 rfl rfl)
theorem dX4_rings_231 : decode cX4_rings 231 = .ok (.aload_n 0, 1) := dk_42 (dk_at dksX4_rings_9 20 rfl rfl)
theorem dX4_rings_232 : decode cX4_rings 232 = .ok (.dup, 1) := dk_89 (dk_at dksX4_rings_9 21 rfl rfl)
theorem dX4_rings_233 : decode cX4_rings 233 = .ok (.getfield 142, 3) := dk_180 0 142 (dk_at dksX4_rings_10 0 rfl rfl)
theorem dX4_rings_236 : decode cX4_rings 236 = .ok (.iload_n 3, 1) := dk_29 (dk_at dksX4_rings_10 3 rfl rfl)
theorem dX4_rings_237 : decode cX4_rings 237 = .ok (.ifCond .eq 7, 3) := dk_153 0 7 (dk_at dksX4_rings_10 4 rfl rfl)
theorem dX4_rings_240 : decode cX4_rings 240 = .ok (.iconst 1, 1) := dk_4 (dk_at dksX4_rings_10 7 rfl rfl)
theorem dX4_rings_241 : decode cX4_rings 241 = .ok (.goto 4, 3) := dk_167 0 4 (dk_at dksX4_rings_10 8 rfl rfl)
theorem dX4_rings_244 : decode cX4_rings 244 = .ok (.iconst 0, 1) := dk_3 (dk_at dksX4_rings_10 11 rfl rfl)
theorem dX4_rings_245 : decode cX4_rings 245 = .ok (.iadd, 1) := dk_96 (dk_at dksX4_rings_10 12 rfl rfl)
theorem dX4_rings_246 : decode cX4_rings 246 = .ok (.putfield 142, 3) := dk_181 0 142 (dk_at dksX4_rings_10 13 rfl rfl)
theorem dX4_rings_249 : decode cX4_rings 249 = .ok (.goto (-195), 3) := dk_167 255 61 (dk_at dksX4_rings_10 16 rfl rfl)
theorem dX4_rings_252 : decode cX4_rings 252 = .ok (.aload_n 0, 1) := dk_42 (dk_at dksX4_rings_10 19 rfl rfl)
theorem dX4_rings_253 : decode cX4_rings 253 = .ok (.aload_n 0, 1) := dk_42 (dk_at dksX4_rings_10 20 rfl rfl)
theorem dX4_rings_254 : decode cX4_rings 254 = .ok (.getfield 145, 3) := dk_180 0 145 (dk_at dksX4_rings_10 21 rfl rfl)
theorem dX4_rings_257 : decode cX4_rings 257 = .ok (.ifCond .ne 10, 3) := dk_154 0 10 (dk_at dksX4_rings_11 0 rfl rfl)
theorem dX4_rings_260 : decode cX4_rings 260 = .ok (.aload_n 0, 1) := dk_42 (dk_at dksX4_rings_11 3 rfl rfl)
theorem dX4_rings_261 : decode cX4_rings 261 = .ok (.invokevirtual 149, 3) := dk_182 0 149 (dk_at dksX4_rings_11 4 rfl rfl)
theorem dX4_rings_264 : decode cX4_rings 264 = .ok (.ifCond .eq 7, 3) := dk_153 0 7 (dk_at dksX4_rings_11 7 rfl rfl)
theorem dX4_rings_267 : decode cX4_rings 267 = .ok (.iconst 1, 1) := dk_4 (dk_at dksX4_rings_11 10 rfl rfl)
theorem dX4_rings_268 : decode cX4_rings 268 = .ok (.goto 4, 3) := dk_167 0 4 (dk_at dksX4_rings_11 11 rfl rfl)
theorem dX4_rings_271 : decode cX4_rings 271 = .ok (.iconst 0, 1) := dk_3 (dk_at dksX4_rings_11 14 rfl rfl)
theorem dX4_rings_272 : decode cX4_rings 272 = .ok (.putfield 145, 3) := dk_181 0 145 (dk_at dksX4_rings_11 15 rfl rfl)
theorem dX4_rings_275 : decode cX4_rings 275 = .ok (.aload_n 0, 1) := dk_42 (dk_at dksX4_rings_11 18 rfl rfl)
theorem dX4_rings_276 : decode cX4_rings 276 = .ok (.iconst 0, 1) := dk_3 (dk_at dksX4_rings_11 19 rfl rfl)
theorem dX4_rings_277 : decode cX4_rings 277 = .ok (.putfield 138, 3) := dk_181 0 138 (dk_at dksX4_rings_11 20 rfl rfl)
theorem dX4_rings_280 : decode cX4_rings 280 = .ok (.aload_n 0, 1) := dk_42 (dk_at dksX4_rings_11 23 rfl rfl)
theorem dX4_rings_281 : decode cX4_rings 281 = .ok (.getfield 145, 3) := dk_180 0 145 (dk_at dksX4_rings_12 0 rfl rfl)
theorem dX4_rings_284 : decode cX4_rings 284 = .ok (.ifCond .eq 11, 3) := dk_153 0 11 (dk_at dksX4_rings_12 3 rfl rfl)
theorem dX4_rings_287 : decode cX4_rings 287 = .ok (.bipush (-20), 2) := dk_16 236 (dk_at dksX4_rings_12 6 rfl rfl)
theorem dX4_rings_289 : decode cX4_rings 289 = .ok (.aload_n 0, 1) := dk_42 (dk_at dksX4_rings_12 8 rfl rfl)
theorem dX4_rings_290 : decode cX4_rings 290 = .ok (.getfield 142, 3) := dk_180 0 142 (dk_at dksX4_rings_12 9 rfl rfl)
theorem dX4_rings_293 : decode cX4_rings 293 = .ok (.isub, 1) := dk_100 (dk_at dksX4_rings_12 12 rfl rfl)
theorem dX4_rings_294 : decode cX4_rings 294 = .ok (.ireturn, 1) := dk_172 (dk_at dksX4_rings_12 13 rfl rfl)
theorem dX4_rings_295 : decode cX4_rings 295 = .ok (.iconst 1, 1) := dk_4 (dk_at dksX4_rings_12 14 rfl rfl)
theorem dX4_rings_296 : decode cX4_rings 296 = .ok (.istore 4, 2) := dk_54 4 (dk_at dksX4_rings_12 15 rfl rfl)
theorem dX4_rings_298 : decode cX4_rings 298 = .ok (.iload 4, 2) := dk_21 4 (dk_at dksX4_rings_12 17 rfl rfl)
theorem dX4_rings_300 : decode cX4_rings 300 = .ok (.bipush 7, 2) := dk_16 7 (dk_at dksX4_rings_12 19 rfl rfl)
theorem dX4_rings_302 : decode cX4_rings 302 = .ok (.if_icmp .ge 37, 3) := dk_162 0 37 (dk_at dksX4_rings_12 21 rfl rfl)
theorem dX4_rings_305 : decode cX4_rings 305 = .ok (.aload_n 0, 1) := dk_42 (dk_at dksX4_rings_13 0 rfl rfl)
theorem dX4_rings_306 : decode cX4_rings 306 = .ok (.getfield 13, 3) := dk_180 0 13 (dk_at dksX4_rings_13 1 rfl rfl)
theorem dX4_rings_309 : decode cX4_rings 309 = .ok (.iload 4, 2) := dk_21 4 (dk_at dksX4_rings_13 4 rfl rfl)
theorem dX4_rings_311 : decode cX4_rings 311 = .ok (.aload_n 0, 1) := dk_42 (dk_at dksX4_rings_13 6 rfl rfl)
theorem dX4_rings_312 : decode cX4_rings 312 = .ok (.getfield 31, 3) := dk_180 0 31 (dk_at dksX4_rings_13 7 rfl rfl)
theorem dX4_rings_315 : decode cX4_rings 315 = .ok (.iload 4, 2) := dk_21 4 (dk_at dksX4_rings_13 10 rfl rfl)
theorem dX4_rings_317 : decode cX4_rings 317 = .ok (.iaload, 1) := dk_46 (dk_at dksX4_rings_13 12 rfl rfl)
theorem dX4_rings_318 : decode cX4_rings 318 = .ok (.iastore, 1) := dk_79 (dk_at dksX4_rings_13 13 rfl rfl)
theorem dX4_rings_319 : decode cX4_rings 319 = .ok (.aload_n 0, 1) := dk_42 (dk_at dksX4_rings_13 14 rfl rfl)
theorem dX4_rings_320 : decode cX4_rings 320 = .ok (.getfield 16, 3) := dk_180 0 16 (dk_at dksX4_rings_13 15 rfl rfl)
theorem dX4_rings_323 : decode cX4_rings 323 = .ok (.iload 4, 2) := dk_21 4 (dk_at dksX4_rings_13 18 rfl rfl)
theorem dX4_rings_325 : decode cX4_rings 325 = .ok (.aload_n 0, 1) := dk_42 (dk_at dksX4_rings_13 20 rfl rfl)
theorem dX4_rings_326 : decode cX4_rings 326 = .ok (.getfield 34, 3) := dk_180 0 34 (dk_at dksX4_rings_13 21 rfl rfl)
theorem dX4_rings_329 : decode cX4_rings 329 = .ok (.iload 4, 2) := dk_21 4 (dk_at dksX4_rings_14 0 rfl rfl)
theorem dX4_rings_331 : decode cX4_rings 331 = .ok (.iaload, 1) := dk_46 (dk_at dksX4_rings_14 2 rfl rfl)
theorem dX4_rings_332 : decode cX4_rings 332 = .ok (.iastore, 1) := dk_79 (dk_at dksX4_rings_14 3 rfl rfl)
theorem dX4_rings_333 : decode cX4_rings 333 = .ok (.iinc 4 1, 3) := dk_132 4 1 (dk_at dksX4_rings_14 4 rfl rfl)
theorem dX4_rings_336 : decode cX4_rings 336 = .ok (.goto (-38), 3) := dk_167 255 218 (dk_at dksX4_rings_14 7 rfl rfl)
theorem dX4_rings_339 : decode cX4_rings 339 = .ok (.iload_n 1, 1) := dk_27 (dk_at dksX4_rings_14 10 rfl rfl)
theorem dX4_rings_340 : decode cX4_rings 340 = .ok (.ireturn, 1) := dk_172 (dk_at dksX4_rings_14 11 rfl rfl)
abbrev cX4_digit : ByteArray := prog_14_method_14_code
def yX4_digit : MethodName := ⟨RX4, "digit", "(II)I"⟩
def dkwX4_digit_3 : List UInt8 := [167, 0, 4, 4, 96, 181, 0, 142, 29, 172]
abbrev dktX4_digit_3 : List UInt8 := dkwX4_digit_3 ++ []
def dkwX4_digit_2 : List UInt8 := [167, 0, 10, 42, 182, 0, 149, 16, 48, 100, 62, 42, 89, 180, 0, 142, 42, 180, 0, 145, 153, 0, 7, 3]
abbrev dktX4_digit_2 : List UInt8 := dkwX4_digit_2 ++ dktX4_digit_3
def dkwX4_digit_1 : List UInt8 := [184, 0, 100, 154, 0, 7, 4, 167, 0, 4, 3, 181, 0, 145, 42, 180, 0, 145, 153, 0, 7, 3]
abbrev dktX4_digit_1 : List UInt8 := dkwX4_digit_1 ++ dktX4_digit_2
def dkwX4_digit_0 : List UInt8 := [42, 42, 180, 0, 145, 154, 0, 24, 42, 182, 0, 149, 133, 16, 48, 27, 96, 133, 16, 48, 28, 96, 133]
abbrev dktX4_digit_0 : List UInt8 := dkwX4_digit_0 ++ dktX4_digit_1
theorem dksX4_digit_0 : cX4_digit.data.toList.drop 0 = dktX4_digit_0 := by decide +kernel
theorem dksX4_digit_1 : cX4_digit.data.toList.drop 23 = dktX4_digit_1 := dk_seg dksX4_digit_0 23 rfl rfl
theorem dksX4_digit_2 : cX4_digit.data.toList.drop 45 = dktX4_digit_2 := dk_seg dksX4_digit_1 22 rfl rfl
theorem dksX4_digit_3 : cX4_digit.data.toList.drop 69 = dktX4_digit_3 := dk_seg dksX4_digit_2 24 rfl rfl
theorem dX4_digit_0 : decode cX4_digit 0 = .ok (.aload_n 0, 1) := dk_42 (dk_at dksX4_digit_0 0 rfl rfl)
theorem dX4_digit_1 : decode cX4_digit 1 = .ok (.aload_n 0, 1) := dk_42 (dk_at dksX4_digit_0 1 rfl rfl)
theorem dX4_digit_2 : decode cX4_digit 2 = .ok (.getfield 145, 3) := dk_180 0 145 (dk_at dksX4_digit_0 2 rfl rfl)
theorem dX4_digit_5 : decode cX4_digit 5 = .ok (.ifCond .ne 24, 3) := dk_154 0 24 (dk_at dksX4_digit_0 5 rfl rfl)
theorem dX4_digit_8 : decode cX4_digit 8 = .ok (.aload_n 0, 1) := dk_42 (dk_at dksX4_digit_0 8 rfl rfl)
theorem dX4_digit_9 : decode cX4_digit 9 = .ok (.invokevirtual 149, 3) := dk_182 0 149 (dk_at dksX4_digit_0 9 rfl rfl)
theorem dX4_digit_12 : decode cX4_digit 12 = .ok (.i2l, 1) := dk_133 (dk_at dksX4_digit_0 12 rfl rfl)
theorem dX4_digit_13 : decode cX4_digit 13 = .ok (.bipush 48, 2) := dk_16 48 (dk_at dksX4_digit_0 13 rfl rfl)
theorem dX4_digit_15 : decode cX4_digit 15 = .ok (.iload_n 1, 1) := dk_27 (dk_at dksX4_digit_0 15 rfl rfl)
theorem dX4_digit_16 : decode cX4_digit 16 = .ok (.iadd, 1) := dk_96 (dk_at dksX4_digit_0 16 rfl rfl)
theorem dX4_digit_17 : decode cX4_digit 17 = .ok (.i2l, 1) := dk_133 (dk_at dksX4_digit_0 17 rfl rfl)
theorem dX4_digit_18 : decode cX4_digit 18 = .ok (.bipush 48, 2) := dk_16 48 (dk_at dksX4_digit_0 18 rfl rfl)
theorem dX4_digit_20 : decode cX4_digit 20 = .ok (.iload_n 2, 1) := dk_28 (dk_at dksX4_digit_0 20 rfl rfl)
theorem dX4_digit_21 : decode cX4_digit 21 = .ok (.iadd, 1) := dk_96 (dk_at dksX4_digit_0 21 rfl rfl)
theorem dX4_digit_22 : decode cX4_digit 22 = .ok (.i2l, 1) := dk_133 (dk_at dksX4_digit_0 22 rfl rfl)
theorem dX4_digit_23 : decode cX4_digit 23 = .ok (.invokestatic 100, 3) := dk_184 0 100 (dk_at dksX4_digit_1 0 rfl rfl)
theorem dX4_digit_26 : decode cX4_digit 26 = .ok (.ifCond .ne 7, 3) := dk_154 0 7 (dk_at dksX4_digit_1 3 rfl rfl)
theorem dX4_digit_29 : decode cX4_digit 29 = .ok (.iconst 1, 1) := dk_4 (dk_at dksX4_digit_1 6 rfl rfl)
theorem dX4_digit_30 : decode cX4_digit 30 = .ok (.goto 4, 3) := dk_167 0 4 (dk_at dksX4_digit_1 7 rfl rfl)
theorem dX4_digit_33 : decode cX4_digit 33 = .ok (.iconst 0, 1) := dk_3 (dk_at dksX4_digit_1 10 rfl rfl)
theorem dX4_digit_34 : decode cX4_digit 34 = .ok (.putfield 145, 3) := dk_181 0 145 (dk_at dksX4_digit_1 11 rfl rfl)
theorem dX4_digit_37 : decode cX4_digit 37 = .ok (.aload_n 0, 1) := dk_42 (dk_at dksX4_digit_1 14 rfl rfl)
theorem dX4_digit_38 : decode cX4_digit 38 = .ok (.getfield 145, 3) := dk_180 0 145 (dk_at dksX4_digit_1 15 rfl rfl)
theorem dX4_digit_41 : decode cX4_digit 41 = .ok (.ifCond .eq 7, 3) := dk_153 0 7 (dk_at dksX4_digit_1 18 rfl rfl)
theorem dX4_digit_44 : decode cX4_digit 44 = .ok (.iconst 0, 1) := dk_3 (dk_at dksX4_digit_1 21 rfl rfl)
theorem dX4_digit_45 : decode cX4_digit 45 = .ok (.goto 10, 3) := dk_167 0 10 (dk_at dksX4_digit_2 0 rfl rfl)
theorem dX4_digit_48 : decode cX4_digit 48 = .ok (.aload_n 0, 1) := dk_42 (dk_at dksX4_digit_2 3 rfl rfl)
theorem dX4_digit_49 : decode cX4_digit 49 = .ok (.invokevirtual 149, 3) := dk_182 0 149 (dk_at dksX4_digit_2 4 rfl rfl)
theorem dX4_digit_52 : decode cX4_digit 52 = .ok (.bipush 48, 2) := dk_16 48 (dk_at dksX4_digit_2 7 rfl rfl)
theorem dX4_digit_54 : decode cX4_digit 54 = .ok (.isub, 1) := dk_100 (dk_at dksX4_digit_2 9 rfl rfl)
theorem dX4_digit_55 : decode cX4_digit 55 = .ok (.istore_n 3, 1) := dk_62 (dk_at dksX4_digit_2 10 rfl rfl)
theorem dX4_digit_56 : decode cX4_digit 56 = .ok (.aload_n 0, 1) := dk_42 (dk_at dksX4_digit_2 11 rfl rfl)
theorem dX4_digit_57 : decode cX4_digit 57 = .ok (.dup, 1) := dk_89 (dk_at dksX4_digit_2 12 rfl rfl)
theorem dX4_digit_58 : decode cX4_digit 58 = .ok (.getfield 142, 3) := dk_180 0 142 (dk_at dksX4_digit_2 13 rfl rfl)
theorem dX4_digit_61 : decode cX4_digit 61 = .ok (.aload_n 0, 1) := dk_42 (dk_at dksX4_digit_2 16 rfl rfl)
theorem dX4_digit_62 : decode cX4_digit 62 = .ok (.getfield 145, 3) := dk_180 0 145 (dk_at dksX4_digit_2 17 rfl rfl)
theorem dX4_digit_65 : decode cX4_digit 65 = .ok (.ifCond .eq 7, 3) := dk_153 0 7 (dk_at dksX4_digit_2 20 rfl rfl)
theorem dX4_digit_68 : decode cX4_digit 68 = .ok (.iconst 0, 1) := dk_3 (dk_at dksX4_digit_2 23 rfl rfl)
theorem dX4_digit_69 : decode cX4_digit 69 = .ok (.goto 4, 3) := dk_167 0 4 (dk_at dksX4_digit_3 0 rfl rfl)
theorem dX4_digit_72 : decode cX4_digit 72 = .ok (.iconst 1, 1) := dk_4 (dk_at dksX4_digit_3 3 rfl rfl)
theorem dX4_digit_73 : decode cX4_digit 73 = .ok (.iadd, 1) := dk_96 (dk_at dksX4_digit_3 4 rfl rfl)
theorem dX4_digit_74 : decode cX4_digit 74 = .ok (.putfield 142, 3) := dk_181 0 142 (dk_at dksX4_digit_3 5 rfl rfl)
theorem dX4_digit_77 : decode cX4_digit 77 = .ok (.iload_n 3, 1) := dk_29 (dk_at dksX4_digit_3 8 rfl rfl)
theorem dX4_digit_78 : decode cX4_digit 78 = .ok (.ireturn, 1) := dk_172 (dk_at dksX4_digit_3 9 rfl rfl)
abbrev cX4_here : ByteArray := prog_14_method_13_code
def yX4_here : MethodName := ⟨RX4, "here", "()I"⟩
def dkwX4_here_2 : List UInt8 := [162, 0, 15, 42, 180, 0, 28, 42, 180, 0, 142, 46, 167, 0, 4, 3, 172]
abbrev dktX4_here_2 : List UInt8 := dkwX4_here_2 ++ []
def dkwX4_here_1 : List UInt8 := [160, 0, 16, 42, 89, 180, 0, 142, 4, 96, 181, 0, 142, 167, 255, 221, 42, 180, 0, 142, 42, 180, 0, 138]
abbrev dktX4_here_1 : List UInt8 := dkwX4_here_1 ++ dktX4_here_2
def dkwX4_here_0 : List UInt8 := [42, 180, 0, 142, 42, 180, 0, 138, 162, 0, 30, 42, 180, 0, 28, 42, 180, 0, 142, 46, 16, 32]
abbrev dktX4_here_0 : List UInt8 := dkwX4_here_0 ++ dktX4_here_1
theorem dksX4_here_0 : cX4_here.data.toList.drop 0 = dktX4_here_0 := by decide +kernel
theorem dksX4_here_1 : cX4_here.data.toList.drop 22 = dktX4_here_1 := dk_seg dksX4_here_0 22 rfl rfl
theorem dksX4_here_2 : cX4_here.data.toList.drop 46 = dktX4_here_2 := dk_seg dksX4_here_1 24 rfl rfl
theorem dX4_here_0 : decode cX4_here 0 = .ok (.aload_n 0, 1) := dk_42 (dk_at dksX4_here_0 0 rfl rfl)
theorem dX4_here_1 : decode cX4_here 1 = .ok (.getfield 142, 3) := dk_180 0 142 (dk_at dksX4_here_0 1 rfl rfl)
theorem dX4_here_4 : decode cX4_here 4 = .ok (.aload_n 0, 1) := dk_42 (dk_at dksX4_here_0 4 rfl rfl)
theorem dX4_here_5 : decode cX4_here 5 = .ok (.getfield 138, 3) := dk_180 0 138 (dk_at dksX4_here_0 5 rfl rfl)
theorem dX4_here_8 : decode cX4_here 8 = .ok (.if_icmp .ge 30, 3) := dk_162 0 30 (dk_at dksX4_here_0 8 rfl rfl)
theorem dX4_here_11 : decode cX4_here 11 = .ok (.aload_n 0, 1) := dk_42 (dk_at dksX4_here_0 11 rfl rfl)
theorem dX4_here_12 : decode cX4_here 12 = .ok (.getfield 28, 3) := dk_180 0 28 (dk_at dksX4_here_0 12 rfl rfl)
theorem dX4_here_15 : decode cX4_here 15 = .ok (.aload_n 0, 1) := dk_42 (dk_at dksX4_here_0 15 rfl rfl)
theorem dX4_here_16 : decode cX4_here 16 = .ok (.getfield 142, 3) := dk_180 0 142 (dk_at dksX4_here_0 16 rfl rfl)
theorem dX4_here_19 : decode cX4_here 19 = .ok (.iaload, 1) := dk_46 (dk_at dksX4_here_0 19 rfl rfl)
theorem dX4_here_20 : decode cX4_here 20 = .ok (.bipush 32, 2) := dk_16 32 (dk_at dksX4_here_0 20 rfl rfl)
theorem dX4_here_22 : decode cX4_here 22 = .ok (.if_icmp .ne 16, 3) := dk_160 0 16 (dk_at dksX4_here_1 0 rfl rfl)
theorem dX4_here_25 : decode cX4_here 25 = .ok (.aload_n 0, 1) := dk_42 (dk_at dksX4_here_1 3 rfl rfl)
theorem dX4_here_26 : decode cX4_here 26 = .ok (.dup, 1) := dk_89 (dk_at dksX4_here_1 4 rfl rfl)
theorem dX4_here_27 : decode cX4_here 27 = .ok (.getfield 142, 3) := dk_180 0 142 (dk_at dksX4_here_1 5 rfl rfl)
theorem dX4_here_30 : decode cX4_here 30 = .ok (.iconst 1, 1) := dk_4 (dk_at dksX4_here_1 8 rfl rfl)
theorem dX4_here_31 : decode cX4_here 31 = .ok (.iadd, 1) := dk_96 (dk_at dksX4_here_1 9 rfl rfl)
theorem dX4_here_32 : decode cX4_here 32 = .ok (.putfield 142, 3) := dk_181 0 142 (dk_at dksX4_here_1 10 rfl rfl)
theorem dX4_here_35 : decode cX4_here 35 = .ok (.goto (-35), 3) := dk_167 255 221 (dk_at dksX4_here_1 13 rfl rfl)
theorem dX4_here_38 : decode cX4_here 38 = .ok (.aload_n 0, 1) := dk_42 (dk_at dksX4_here_1 16 rfl rfl)
theorem dX4_here_39 : decode cX4_here 39 = .ok (.getfield 142, 3) := dk_180 0 142 (dk_at dksX4_here_1 17 rfl rfl)
theorem dX4_here_42 : decode cX4_here 42 = .ok (.aload_n 0, 1) := dk_42 (dk_at dksX4_here_1 20 rfl rfl)
theorem dX4_here_43 : decode cX4_here 43 = .ok (.getfield 138, 3) := dk_180 0 138 (dk_at dksX4_here_1 21 rfl rfl)
theorem dX4_here_46 : decode cX4_here 46 = .ok (.if_icmp .ge 15, 3) := dk_162 0 15 (dk_at dksX4_here_2 0 rfl rfl)
theorem dX4_here_49 : decode cX4_here 49 = .ok (.aload_n 0, 1) := dk_42 (dk_at dksX4_here_2 3 rfl rfl)
theorem dX4_here_50 : decode cX4_here 50 = .ok (.getfield 28, 3) := dk_180 0 28 (dk_at dksX4_here_2 4 rfl rfl)
theorem dX4_here_53 : decode cX4_here 53 = .ok (.aload_n 0, 1) := dk_42 (dk_at dksX4_here_2 7 rfl rfl)
theorem dX4_here_54 : decode cX4_here 54 = .ok (.getfield 142, 3) := dk_180 0 142 (dk_at dksX4_here_2 8 rfl rfl)
theorem dX4_here_57 : decode cX4_here 57 = .ok (.iaload, 1) := dk_46 (dk_at dksX4_here_2 11 rfl rfl)
theorem dX4_here_58 : decode cX4_here 58 = .ok (.goto 4, 3) := dk_167 0 4 (dk_at dksX4_here_2 12 rfl rfl)
theorem dX4_here_61 : decode cX4_here 61 = .ok (.iconst 0, 1) := dk_3 (dk_at dksX4_here_2 15 rfl rfl)
theorem dX4_here_62 : decode cX4_here 62 = .ok (.ireturn, 1) := dk_172 (dk_at dksX4_here_2 16 rfl rfl)
abbrev cX4_number : ByteArray := prog_14_method_15_code
def yX4_number : MethodName := ⟨RX4, "number", "()I"⟩
def dkwX4_number_7 : List UInt8 := [153, 0, 7, 27, 167, 0, 7, 42, 180, 0, 142, 181, 0, 142, 28, 172]
abbrev dktX4_number_7 : List UInt8 := dkwX4_number_7 ++ []
def dkwX4_number_6 : List UInt8 := [167, 255, 184, 42, 28, 16, 40, 164, 0, 7, 4, 167, 0, 4, 3, 181, 0, 145, 42, 42, 180, 0, 145]
abbrev dktX4_number_6 : List UInt8 := dkwX4_number_6 ++ dktX4_number_7
def dkwX4_number_5 : List UInt8 := [180, 0, 28, 42, 180, 0, 142, 46, 96, 16, 48, 100, 61, 42, 89, 180, 0, 142, 4, 96, 181, 0, 142]
abbrev dktX4_number_5 : List UInt8 := dkwX4_number_5 ++ dktX4_number_6
def dkwX4_number_4 : List UInt8 := [184, 0, 100, 153, 0, 45, 28, 17, 3, 231, 164, 0, 7, 28, 167, 0, 20, 16, 10, 28, 104, 42]
abbrev dktX4_number_4 : List UInt8 := dkwX4_number_4 ++ dktX4_number_5
def dkwX4_number_3 : List UInt8 := [42, 180, 0, 138, 162, 0, 67, 42, 180, 0, 28, 42, 180, 0, 142, 46, 133, 20, 0, 153, 20, 0, 155]
abbrev dktX4_number_3 : List UInt8 := dkwX4_number_3 ++ dktX4_number_4
def dkwX4_number_2 : List UInt8 := [184, 0, 100, 154, 0, 10, 42, 4, 181, 0, 145, 3, 172, 42, 180, 0, 142, 60, 3, 61, 42, 180, 0, 142]
abbrev dktX4_number_2 : List UInt8 := dkwX4_number_2 ++ dktX4_number_3
def dkwX4_number_1 : List UInt8 := [181, 0, 142, 2, 172, 42, 180, 0, 145, 154, 0, 20, 42, 182, 0, 149, 133, 20, 0, 153, 20, 0, 155]
abbrev dktX4_number_1 : List UInt8 := dkwX4_number_1 ++ dktX4_number_2
def dkwX4_number_0 : List UInt8 := [42, 180, 0, 145, 154, 0, 24, 42, 182, 0, 149, 16, 63, 160, 0, 15, 42, 89, 180, 0, 142, 4, 96]
abbrev dktX4_number_0 : List UInt8 := dkwX4_number_0 ++ dktX4_number_1
theorem dksX4_number_0 : cX4_number.data.toList.drop 0 = dktX4_number_0 := by decide +kernel
theorem dksX4_number_1 : cX4_number.data.toList.drop 23 = dktX4_number_1 := dk_seg dksX4_number_0 23 rfl rfl
theorem dksX4_number_2 : cX4_number.data.toList.drop 46 = dktX4_number_2 := dk_seg dksX4_number_1 23 rfl rfl
theorem dksX4_number_3 : cX4_number.data.toList.drop 70 = dktX4_number_3 := dk_seg dksX4_number_2 24 rfl rfl
theorem dksX4_number_4 : cX4_number.data.toList.drop 93 = dktX4_number_4 := dk_seg dksX4_number_3 23 rfl rfl
theorem dksX4_number_5 : cX4_number.data.toList.drop 115 = dktX4_number_5 := dk_seg dksX4_number_4 22 rfl rfl
theorem dksX4_number_6 : cX4_number.data.toList.drop 138 = dktX4_number_6 := dk_seg dksX4_number_5 23 rfl rfl
theorem dksX4_number_7 : cX4_number.data.toList.drop 161 = dktX4_number_7 := dk_seg dksX4_number_6 23 rfl rfl
theorem dX4_number_0 : decode cX4_number 0 = .ok (.aload_n 0, 1) := dk_42 (dk_at dksX4_number_0 0 rfl rfl)
theorem dX4_number_1 : decode cX4_number 1 = .ok (.getfield 145, 3) := dk_180 0 145 (dk_at dksX4_number_0 1 rfl rfl)
theorem dX4_number_4 : decode cX4_number 4 = .ok (.ifCond .ne 24, 3) := dk_154 0 24 (dk_at dksX4_number_0 4 rfl rfl)
theorem dX4_number_7 : decode cX4_number 7 = .ok (.aload_n 0, 1) := dk_42 (dk_at dksX4_number_0 7 rfl rfl)
theorem dX4_number_8 : decode cX4_number 8 = .ok (.invokevirtual 149, 3) := dk_182 0 149 (dk_at dksX4_number_0 8 rfl rfl)
theorem dX4_number_11 : decode cX4_number 11 = .ok (.bipush 63, 2) := dk_16 63 (dk_at dksX4_number_0 11 rfl rfl)
theorem dX4_number_13 : decode cX4_number 13 = .ok (.if_icmp .ne 15, 3) := dk_160 0 15 (dk_at dksX4_number_0 13 rfl rfl)
theorem dX4_number_16 : decode cX4_number 16 = .ok (.aload_n 0, 1) := dk_42 (dk_at dksX4_number_0 16 rfl rfl)
theorem dX4_number_17 : decode cX4_number 17 = .ok (.dup, 1) := dk_89 (dk_at dksX4_number_0 17 rfl rfl)
theorem dX4_number_18 : decode cX4_number 18 = .ok (.getfield 142, 3) := dk_180 0 142 (dk_at dksX4_number_0 18 rfl rfl)
theorem dX4_number_21 : decode cX4_number 21 = .ok (.iconst 1, 1) := dk_4 (dk_at dksX4_number_0 21 rfl rfl)
theorem dX4_number_22 : decode cX4_number 22 = .ok (.iadd, 1) := dk_96 (dk_at dksX4_number_0 22 rfl rfl)
theorem dX4_number_23 : decode cX4_number 23 = .ok (.putfield 142, 3) := dk_181 0 142 (dk_at dksX4_number_1 0 rfl rfl)
theorem dX4_number_26 : decode cX4_number 26 = .ok (.iconst (-1), 1) := dk_2 (dk_at dksX4_number_1 3 rfl rfl)
theorem dX4_number_27 : decode cX4_number 27 = .ok (.ireturn, 1) := dk_172 (dk_at dksX4_number_1 4 rfl rfl)
theorem dX4_number_28 : decode cX4_number 28 = .ok (.aload_n 0, 1) := dk_42 (dk_at dksX4_number_1 5 rfl rfl)
theorem dX4_number_29 : decode cX4_number 29 = .ok (.getfield 145, 3) := dk_180 0 145 (dk_at dksX4_number_1 6 rfl rfl)
theorem dX4_number_32 : decode cX4_number 32 = .ok (.ifCond .ne 20, 3) := dk_154 0 20 (dk_at dksX4_number_1 9 rfl rfl)
theorem dX4_number_35 : decode cX4_number 35 = .ok (.aload_n 0, 1) := dk_42 (dk_at dksX4_number_1 12 rfl rfl)
theorem dX4_number_36 : decode cX4_number 36 = .ok (.invokevirtual 149, 3) := dk_182 0 149 (dk_at dksX4_number_1 13 rfl rfl)
theorem dX4_number_39 : decode cX4_number 39 = .ok (.i2l, 1) := dk_133 (dk_at dksX4_number_1 16 rfl rfl)
theorem dX4_number_40 : decode cX4_number 40 = .ok (.ldc2_w 153, 3) := dk_20 0 153 (dk_at dksX4_number_1 17 rfl rfl)
theorem dX4_number_43 : decode cX4_number 43 = .ok (.ldc2_w 155, 3) := dk_20 0 155 (dk_at dksX4_number_1 20 rfl rfl)
theorem dX4_number_46 : decode cX4_number 46 = .ok (.invokestatic 100, 3) := dk_184 0 100 (dk_at dksX4_number_2 0 rfl rfl)
theorem dX4_number_49 : decode cX4_number 49 = .ok (.ifCond .ne 10, 3) := dk_154 0 10 (dk_at dksX4_number_2 3 rfl rfl)
theorem dX4_number_52 : decode cX4_number 52 = .ok (.aload_n 0, 1) := dk_42 (dk_at dksX4_number_2 6 rfl rfl)
theorem dX4_number_53 : decode cX4_number 53 = .ok (.iconst 1, 1) := dk_4 (dk_at dksX4_number_2 7 rfl rfl)
theorem dX4_number_54 : decode cX4_number 54 = .ok (.putfield 145, 3) := dk_181 0 145 (dk_at dksX4_number_2 8 rfl rfl)
theorem dX4_number_57 : decode cX4_number 57 = .ok (.iconst 0, 1) := dk_3 (dk_at dksX4_number_2 11 rfl rfl)
theorem dX4_number_58 : decode cX4_number 58 = .ok (.ireturn, 1) := dk_172 (dk_at dksX4_number_2 12 rfl rfl)
theorem dX4_number_59 : decode cX4_number 59 = .ok (.aload_n 0, 1) := dk_42 (dk_at dksX4_number_2 13 rfl rfl)
theorem dX4_number_60 : decode cX4_number 60 = .ok (.getfield 142, 3) := dk_180 0 142 (dk_at dksX4_number_2 14 rfl rfl)
theorem dX4_number_63 : decode cX4_number 63 = .ok (.istore_n 1, 1) := dk_60 (dk_at dksX4_number_2 17 rfl rfl)
theorem dX4_number_64 : decode cX4_number 64 = .ok (.iconst 0, 1) := dk_3 (dk_at dksX4_number_2 18 rfl rfl)
theorem dX4_number_65 : decode cX4_number 65 = .ok (.istore_n 2, 1) := dk_61 (dk_at dksX4_number_2 19 rfl rfl)
theorem dX4_number_66 : decode cX4_number 66 = .ok (.aload_n 0, 1) := dk_42 (dk_at dksX4_number_2 20 rfl rfl)
theorem dX4_number_67 : decode cX4_number 67 = .ok (.getfield 142, 3) := dk_180 0 142 (dk_at dksX4_number_2 21 rfl rfl)
theorem dX4_number_70 : decode cX4_number 70 = .ok (.aload_n 0, 1) := dk_42 (dk_at dksX4_number_3 0 rfl rfl)
theorem dX4_number_71 : decode cX4_number 71 = .ok (.getfield 138, 3) := dk_180 0 138 (dk_at dksX4_number_3 1 rfl rfl)
theorem dX4_number_74 : decode cX4_number 74 = .ok (.if_icmp .ge 67, 3) := dk_162 0 67 (dk_at dksX4_number_3 4 rfl rfl)
theorem dX4_number_77 : decode cX4_number 77 = .ok (.aload_n 0, 1) := dk_42 (dk_at dksX4_number_3 7 rfl rfl)
theorem dX4_number_78 : decode cX4_number 78 = .ok (.getfield 28, 3) := dk_180 0 28 (dk_at dksX4_number_3 8 rfl rfl)
theorem dX4_number_81 : decode cX4_number 81 = .ok (.aload_n 0, 1) := dk_42 (dk_at dksX4_number_3 11 rfl rfl)
theorem dX4_number_82 : decode cX4_number 82 = .ok (.getfield 142, 3) := dk_180 0 142 (dk_at dksX4_number_3 12 rfl rfl)
theorem dX4_number_85 : decode cX4_number 85 = .ok (.iaload, 1) := dk_46 (dk_at dksX4_number_3 15 rfl rfl)
theorem dX4_number_86 : decode cX4_number 86 = .ok (.i2l, 1) := dk_133 (dk_at dksX4_number_3 16 rfl rfl)
theorem dX4_number_87 : decode cX4_number 87 = .ok (.ldc2_w 153, 3) := dk_20 0 153 (dk_at dksX4_number_3 17 rfl rfl)
theorem dX4_number_90 : decode cX4_number 90 = .ok (.ldc2_w 155, 3) := dk_20 0 155 (dk_at dksX4_number_3 20 rfl rfl)
theorem dX4_number_93 : decode cX4_number 93 = .ok (.invokestatic 100, 3) := dk_184 0 100 (dk_at dksX4_number_4 0 rfl rfl)
theorem dX4_number_96 : decode cX4_number 96 = .ok (.ifCond .eq 45, 3) := dk_153 0 45 (dk_at dksX4_number_4 3 rfl rfl)
theorem dX4_number_99 : decode cX4_number 99 = .ok (.iload_n 2, 1) := dk_28 (dk_at dksX4_number_4 6 rfl rfl)
theorem dX4_number_100 : decode cX4_number 100 = .ok (.sipush 999, 3) := dk_17 3 231 (dk_at dksX4_number_4 7 rfl rfl)
theorem dX4_number_103 : decode cX4_number 103 = .ok (.if_icmp .le 7, 3) := dk_164 0 7 (dk_at dksX4_number_4 10 rfl rfl)
theorem dX4_number_106 : decode cX4_number 106 = .ok (.iload_n 2, 1) := dk_28 (dk_at dksX4_number_4 13 rfl rfl)
theorem dX4_number_107 : decode cX4_number 107 = .ok (.goto 20, 3) := dk_167 0 20 (dk_at dksX4_number_4 14 rfl rfl)
theorem dX4_number_110 : decode cX4_number 110 = .ok (.bipush 10, 2) := dk_16 10 (dk_at dksX4_number_4 17 rfl rfl)
theorem dX4_number_112 : decode cX4_number 112 = .ok (.iload_n 2, 1) := dk_28 (dk_at dksX4_number_4 19 rfl rfl)
theorem dX4_number_113 : decode cX4_number 113 = .ok (.imul, 1) := dk_104 (dk_at dksX4_number_4 20 rfl rfl)
theorem dX4_number_114 : decode cX4_number 114 = .ok (.aload_n 0, 1) := dk_42 (dk_at dksX4_number_4 21 rfl rfl)
theorem dX4_number_115 : decode cX4_number 115 = .ok (.getfield 28, 3) := dk_180 0 28 (dk_at dksX4_number_5 0 rfl rfl)
theorem dX4_number_118 : decode cX4_number 118 = .ok (.aload_n 0, 1) := dk_42 (dk_at dksX4_number_5 3 rfl rfl)
theorem dX4_number_119 : decode cX4_number 119 = .ok (.getfield 142, 3) := dk_180 0 142 (dk_at dksX4_number_5 4 rfl rfl)
theorem dX4_number_122 : decode cX4_number 122 = .ok (.iaload, 1) := dk_46 (dk_at dksX4_number_5 7 rfl rfl)
theorem dX4_number_123 : decode cX4_number 123 = .ok (.iadd, 1) := dk_96 (dk_at dksX4_number_5 8 rfl rfl)
theorem dX4_number_124 : decode cX4_number 124 = .ok (.bipush 48, 2) := dk_16 48 (dk_at dksX4_number_5 9 rfl rfl)
theorem dX4_number_126 : decode cX4_number 126 = .ok (.isub, 1) := dk_100 (dk_at dksX4_number_5 11 rfl rfl)
theorem dX4_number_127 : decode cX4_number 127 = .ok (.istore_n 2, 1) := dk_61 (dk_at dksX4_number_5 12 rfl rfl)
theorem dX4_number_128 : decode cX4_number 128 = .ok (.aload_n 0, 1) := dk_42 (dk_at dksX4_number_5 13 rfl rfl)
theorem dX4_number_129 : decode cX4_number 129 = .ok (.dup, 1) := dk_89 (dk_at dksX4_number_5 14 rfl rfl)
theorem dX4_number_130 : decode cX4_number 130 = .ok (.getfield 142, 3) := dk_180 0 142 (dk_at dksX4_number_5 15 rfl rfl)
theorem dX4_number_133 : decode cX4_number 133 = .ok (.iconst 1, 1) := dk_4 (dk_at dksX4_number_5 18 rfl rfl)
theorem dX4_number_134 : decode cX4_number 134 = .ok (.iadd, 1) := dk_96 (dk_at dksX4_number_5 19 rfl rfl)
theorem dX4_number_135 : decode cX4_number 135 = .ok (.putfield 142, 3) := dk_181 0 142 (dk_at dksX4_number_5 20 rfl rfl)
theorem dX4_number_138 : decode cX4_number 138 = .ok (.goto (-72), 3) := dk_167 255 184 (dk_at dksX4_number_6 0 rfl rfl)
theorem dX4_number_141 : decode cX4_number 141 = .ok (.aload_n 0, 1) := dk_42 (dk_at dksX4_number_6 3 rfl rfl)
theorem dX4_number_142 : decode cX4_number 142 = .ok (.iload_n 2, 1) := dk_28 (dk_at dksX4_number_6 4 rfl rfl)
theorem dX4_number_143 : decode cX4_number 143 = .ok (.bipush 40, 2) := dk_16 40 (dk_at dksX4_number_6 5 rfl rfl)
theorem dX4_number_145 : decode cX4_number 145 = .ok (.if_icmp .le 7, 3) := dk_164 0 7 (dk_at dksX4_number_6 7 rfl rfl)
theorem dX4_number_148 : decode cX4_number 148 = .ok (.iconst 1, 1) := dk_4 (dk_at dksX4_number_6 10 rfl rfl)
theorem dX4_number_149 : decode cX4_number 149 = .ok (.goto 4, 3) := dk_167 0 4 (dk_at dksX4_number_6 11 rfl rfl)
theorem dX4_number_152 : decode cX4_number 152 = .ok (.iconst 0, 1) := dk_3 (dk_at dksX4_number_6 14 rfl rfl)
theorem dX4_number_153 : decode cX4_number 153 = .ok (.putfield 145, 3) := dk_181 0 145 (dk_at dksX4_number_6 15 rfl rfl)
theorem dX4_number_156 : decode cX4_number 156 = .ok (.aload_n 0, 1) := dk_42 (dk_at dksX4_number_6 18 rfl rfl)
theorem dX4_number_157 : decode cX4_number 157 = .ok (.aload_n 0, 1) := dk_42 (dk_at dksX4_number_6 19 rfl rfl)
theorem dX4_number_158 : decode cX4_number 158 = .ok (.getfield 145, 3) := dk_180 0 145 (dk_at dksX4_number_6 20 rfl rfl)
theorem dX4_number_161 : decode cX4_number 161 = .ok (.ifCond .eq 7, 3) := dk_153 0 7 (dk_at dksX4_number_7 0 rfl rfl)
theorem dX4_number_164 : decode cX4_number 164 = .ok (.iload_n 1, 1) := dk_27 (dk_at dksX4_number_7 3 rfl rfl)
theorem dX4_number_165 : decode cX4_number 165 = .ok (.goto 7, 3) := dk_167 0 7 (dk_at dksX4_number_7 4 rfl rfl)
theorem dX4_number_168 : decode cX4_number 168 = .ok (.aload_n 0, 1) := dk_42 (dk_at dksX4_number_7 7 rfl rfl)
theorem dX4_number_169 : decode cX4_number 169 = .ok (.getfield 142, 3) := dk_180 0 142 (dk_at dksX4_number_7 8 rfl rfl)
theorem dX4_number_172 : decode cX4_number 172 = .ok (.putfield 142, 3) := dk_181 0 142 (dk_at dksX4_number_7 11 rfl rfl)
theorem dX4_number_175 : decode cX4_number 175 = .ok (.iload_n 2, 1) := dk_28 (dk_at dksX4_number_7 14 rfl rfl)
theorem dX4_number_176 : decode cX4_number 176 = .ok (.ireturn, 1) := dk_172 (dk_at dksX4_number_7 15 rfl rfl)
abbrev cX4_sea : ByteArray := prog_14_method_17_code
def yX4_sea : MethodName := ⟨RX4, "sea", "(II)I"⟩
def dkwX4_sea_7 : List UInt8 := [132, 4, 1, 167, 255, 222, 29, 172]
abbrev dktX4_sea_7 : List UInt8 := dkwX4_sea_7 ++ []
def dkwX4_sea_6 : List UInt8 := [180, 0, 19, 16, 100, 27, 104, 16, 10, 28, 104, 96, 21, 4, 96, 42, 180, 0, 37, 21, 4, 46, 79]
abbrev dktX4_sea_6 : List UInt8 := dkwX4_sea_6 ++ dktX4_sea_7
def dkwX4_sea_5 : List UInt8 := [153, 0, 11, 16, 236, 42, 180, 0, 142, 100, 172, 3, 54, 4, 21, 4, 16, 10, 162, 0, 33, 42]
abbrev dktX4_sea_5 : List UInt8 := dkwX4_sea_5 ++ dktX4_sea_6
def dkwX4_sea_4 : List UInt8 := [42, 182, 0, 149, 153, 0, 7, 4, 167, 0, 4, 3, 181, 0, 145, 42, 3, 181, 0, 138, 42, 180, 0, 145]
abbrev dktX4_sea_4 : List UInt8 := dkwX4_sea_4 ++ dktX4_sea_5
def dkwX4_sea_3 : List UInt8 := [162, 0, 7, 4, 167, 0, 4, 3, 96, 62, 132, 4, 1, 167, 255, 212, 42, 42, 180, 0, 145, 154, 0, 10]
abbrev dktX4_sea_3 : List UInt8 := dkwX4_sea_3 ++ dktX4_sea_4
def dkwX4_sea_2 : List UInt8 := [180, 0, 37, 21, 4, 42, 3, 16, 8, 182, 0, 157, 79, 29, 42, 180, 0, 37, 21, 4, 46, 16, 8]
abbrev dktX4_sea_2 : List UInt8 := dkwX4_sea_2 ++ dktX4_sea_3
def dkwX4_sea_1 : List UInt8 := [42, 3, 181, 0, 142, 42, 3, 181, 0, 145, 3, 62, 3, 54, 4, 21, 4, 16, 10, 162, 0, 43, 42]
abbrev dktX4_sea_1 : List UInt8 := dkwX4_sea_1 ++ dktX4_sea_2
def dkwX4_sea_0 : List UInt8 := [27, 133, 9, 10, 184, 0, 100, 153, 0, 15, 28, 133, 9, 20, 0, 111, 184, 0, 100, 154, 0, 5, 2, 172]
abbrev dktX4_sea_0 : List UInt8 := dkwX4_sea_0 ++ dktX4_sea_1
theorem dksX4_sea_0 : cX4_sea.data.toList.drop 0 = dktX4_sea_0 := by decide +kernel
theorem dksX4_sea_1 : cX4_sea.data.toList.drop 24 = dktX4_sea_1 := dk_seg dksX4_sea_0 24 rfl rfl
theorem dksX4_sea_2 : cX4_sea.data.toList.drop 47 = dktX4_sea_2 := dk_seg dksX4_sea_1 23 rfl rfl
theorem dksX4_sea_3 : cX4_sea.data.toList.drop 70 = dktX4_sea_3 := dk_seg dksX4_sea_2 23 rfl rfl
theorem dksX4_sea_4 : cX4_sea.data.toList.drop 94 = dktX4_sea_4 := dk_seg dksX4_sea_3 24 rfl rfl
theorem dksX4_sea_5 : cX4_sea.data.toList.drop 118 = dktX4_sea_5 := dk_seg dksX4_sea_4 24 rfl rfl
theorem dksX4_sea_6 : cX4_sea.data.toList.drop 140 = dktX4_sea_6 := dk_seg dksX4_sea_5 22 rfl rfl
theorem dksX4_sea_7 : cX4_sea.data.toList.drop 163 = dktX4_sea_7 := dk_seg dksX4_sea_6 23 rfl rfl
theorem dX4_sea_0 : decode cX4_sea 0 = .ok (.iload_n 1, 1) := dk_27 (dk_at dksX4_sea_0 0 rfl rfl)
theorem dX4_sea_1 : decode cX4_sea 1 = .ok (.i2l, 1) := dk_133 (dk_at dksX4_sea_0 1 rfl rfl)
theorem dX4_sea_2 : decode cX4_sea 2 = .ok (.lconst 0, 1) := dk_9 (dk_at dksX4_sea_0 2 rfl rfl)
theorem dX4_sea_3 : decode cX4_sea 3 = .ok (.lconst 1, 1) := dk_10 (dk_at dksX4_sea_0 3 rfl rfl)
theorem dX4_sea_4 : decode cX4_sea 4 = .ok (.invokestatic 100, 3) := dk_184 0 100 (dk_at dksX4_sea_0 4 rfl rfl)
theorem dX4_sea_7 : decode cX4_sea 7 = .ok (.ifCond .eq 15, 3) := dk_153 0 15 (dk_at dksX4_sea_0 7 rfl rfl)
theorem dX4_sea_10 : decode cX4_sea 10 = .ok (.iload_n 2, 1) := dk_28 (dk_at dksX4_sea_0 10 rfl rfl)
theorem dX4_sea_11 : decode cX4_sea 11 = .ok (.i2l, 1) := dk_133 (dk_at dksX4_sea_0 11 rfl rfl)
theorem dX4_sea_12 : decode cX4_sea 12 = .ok (.lconst 0, 1) := dk_9 (dk_at dksX4_sea_0 12 rfl rfl)
theorem dX4_sea_13 : decode cX4_sea 13 = .ok (.ldc2_w 111, 3) := dk_20 0 111 (dk_at dksX4_sea_0 13 rfl rfl)
theorem dX4_sea_16 : decode cX4_sea 16 = .ok (.invokestatic 100, 3) := dk_184 0 100 (dk_at dksX4_sea_0 16 rfl rfl)
theorem dX4_sea_19 : decode cX4_sea 19 = .ok (.ifCond .ne 5, 3) := dk_154 0 5 (dk_at dksX4_sea_0 19 rfl rfl)
theorem dX4_sea_22 : decode cX4_sea 22 = .ok (.iconst (-1), 1) := dk_2 (dk_at dksX4_sea_0 22 rfl rfl)
theorem dX4_sea_23 : decode cX4_sea 23 = .ok (.ireturn, 1) := dk_172 (dk_at dksX4_sea_0 23 rfl rfl)
theorem dX4_sea_24 : decode cX4_sea 24 = .ok (.aload_n 0, 1) := dk_42 (dk_at dksX4_sea_1 0 rfl rfl)
theorem dX4_sea_25 : decode cX4_sea 25 = .ok (.iconst 0, 1) := dk_3 (dk_at dksX4_sea_1 1 rfl rfl)
theorem dX4_sea_26 : decode cX4_sea 26 = .ok (.putfield 142, 3) := dk_181 0 142 (dk_at dksX4_sea_1 2 rfl rfl)
theorem dX4_sea_29 : decode cX4_sea 29 = .ok (.aload_n 0, 1) := dk_42 (dk_at dksX4_sea_1 5 rfl rfl)
theorem dX4_sea_30 : decode cX4_sea 30 = .ok (.iconst 0, 1) := dk_3 (dk_at dksX4_sea_1 6 rfl rfl)
theorem dX4_sea_31 : decode cX4_sea 31 = .ok (.putfield 145, 3) := dk_181 0 145 (dk_at dksX4_sea_1 7 rfl rfl)
theorem dX4_sea_34 : decode cX4_sea 34 = .ok (.iconst 0, 1) := dk_3 (dk_at dksX4_sea_1 10 rfl rfl)
theorem dX4_sea_35 : decode cX4_sea 35 = .ok (.istore_n 3, 1) := dk_62 (dk_at dksX4_sea_1 11 rfl rfl)
theorem dX4_sea_36 : decode cX4_sea 36 = .ok (.iconst 0, 1) := dk_3 (dk_at dksX4_sea_1 12 rfl rfl)
theorem dX4_sea_37 : decode cX4_sea 37 = .ok (.istore 4, 2) := dk_54 4 (dk_at dksX4_sea_1 13 rfl rfl)
theorem dX4_sea_39 : decode cX4_sea 39 = .ok (.iload 4, 2) := dk_21 4 (dk_at dksX4_sea_1 15 rfl rfl)
theorem dX4_sea_41 : decode cX4_sea 41 = .ok (.bipush 10, 2) := dk_16 10 (dk_at dksX4_sea_1 17 rfl rfl)
theorem dX4_sea_43 : decode cX4_sea 43 = .ok (.if_icmp .ge 43, 3) := dk_162 0 43 (dk_at dksX4_sea_1 19 rfl rfl)
theorem dX4_sea_46 : decode cX4_sea 46 = .ok (.aload_n 0, 1) := dk_42 (dk_at dksX4_sea_1 22 rfl rfl)
theorem dX4_sea_47 : decode cX4_sea 47 = .ok (.getfield 37, 3) := dk_180 0 37 (dk_at dksX4_sea_2 0 rfl rfl)
theorem dX4_sea_50 : decode cX4_sea 50 = .ok (.iload 4, 2) := dk_21 4 (dk_at dksX4_sea_2 3 rfl rfl)
theorem dX4_sea_52 : decode cX4_sea 52 = .ok (.aload_n 0, 1) := dk_42 (dk_at dksX4_sea_2 5 rfl rfl)
theorem dX4_sea_53 : decode cX4_sea 53 = .ok (.iconst 0, 1) := dk_3 (dk_at dksX4_sea_2 6 rfl rfl)
theorem dX4_sea_54 : decode cX4_sea 54 = .ok (.bipush 8, 2) := dk_16 8 (dk_at dksX4_sea_2 7 rfl rfl)
theorem dX4_sea_56 : decode cX4_sea 56 = .ok (.invokevirtual 157, 3) := dk_182 0 157 (dk_at dksX4_sea_2 9 rfl rfl)
theorem dX4_sea_59 : decode cX4_sea 59 = .ok (.iastore, 1) := dk_79 (dk_at dksX4_sea_2 12 rfl rfl)
theorem dX4_sea_60 : decode cX4_sea 60 = .ok (.iload_n 3, 1) := dk_29 (dk_at dksX4_sea_2 13 rfl rfl)
theorem dX4_sea_61 : decode cX4_sea 61 = .ok (.aload_n 0, 1) := dk_42 (dk_at dksX4_sea_2 14 rfl rfl)
theorem dX4_sea_62 : decode cX4_sea 62 = .ok (.getfield 37, 3) := dk_180 0 37 (dk_at dksX4_sea_2 15 rfl rfl)
theorem dX4_sea_65 : decode cX4_sea 65 = .ok (.iload 4, 2) := dk_21 4 (dk_at dksX4_sea_2 18 rfl rfl)
theorem dX4_sea_67 : decode cX4_sea 67 = .ok (.iaload, 1) := dk_46 (dk_at dksX4_sea_2 20 rfl rfl)
theorem dX4_sea_68 : decode cX4_sea 68 = .ok (.bipush 8, 2) := dk_16 8 (dk_at dksX4_sea_2 21 rfl rfl)
theorem dX4_sea_70 : decode cX4_sea 70 = .ok (.if_icmp .ge 7, 3) := dk_162 0 7 (dk_at dksX4_sea_3 0 rfl rfl)
theorem dX4_sea_73 : decode cX4_sea 73 = .ok (.iconst 1, 1) := dk_4 (dk_at dksX4_sea_3 3 rfl rfl)
theorem dX4_sea_74 : decode cX4_sea 74 = .ok (.goto 4, 3) := dk_167 0 4 (dk_at dksX4_sea_3 4 rfl rfl)
theorem dX4_sea_77 : decode cX4_sea 77 = .ok (.iconst 0, 1) := dk_3 (dk_at dksX4_sea_3 7 rfl rfl)
theorem dX4_sea_78 : decode cX4_sea 78 = .ok (.iadd, 1) := dk_96 (dk_at dksX4_sea_3 8 rfl rfl)
theorem dX4_sea_79 : decode cX4_sea 79 = .ok (.istore_n 3, 1) := dk_62 (dk_at dksX4_sea_3 9 rfl rfl)
theorem dX4_sea_80 : decode cX4_sea 80 = .ok (.iinc 4 1, 3) := dk_132 4 1 (dk_at dksX4_sea_3 10 rfl rfl)
theorem dX4_sea_83 : decode cX4_sea 83 = .ok (.goto (-44), 3) := dk_167 255 212 (dk_at dksX4_sea_3 13 rfl rfl)
theorem dX4_sea_86 : decode cX4_sea 86 = .ok (.aload_n 0, 1) := dk_42 (dk_at dksX4_sea_3 16 rfl rfl)
theorem dX4_sea_87 : decode cX4_sea 87 = .ok (.aload_n 0, 1) := dk_42 (dk_at dksX4_sea_3 17 rfl rfl)
theorem dX4_sea_88 : decode cX4_sea 88 = .ok (.getfield 145, 3) := dk_180 0 145 (dk_at dksX4_sea_3 18 rfl rfl)
theorem dX4_sea_91 : decode cX4_sea 91 = .ok (.ifCond .ne 10, 3) := dk_154 0 10 (dk_at dksX4_sea_3 21 rfl rfl)
theorem dX4_sea_94 : decode cX4_sea 94 = .ok (.aload_n 0, 1) := dk_42 (dk_at dksX4_sea_4 0 rfl rfl)
theorem dX4_sea_95 : decode cX4_sea 95 = .ok (.invokevirtual 149, 3) := dk_182 0 149 (dk_at dksX4_sea_4 1 rfl rfl)
theorem dX4_sea_98 : decode cX4_sea 98 = .ok (.ifCond .eq 7, 3) := dk_153 0 7 (dk_at dksX4_sea_4 4 rfl rfl)
theorem dX4_sea_101 : decode cX4_sea 101 = .ok (.iconst 1, 1) := dk_4 (dk_at dksX4_sea_4 7 rfl rfl)
theorem dX4_sea_102 : decode cX4_sea 102 = .ok (.goto 4, 3) := dk_167 0 4 (dk_at dksX4_sea_4 8 rfl rfl)
theorem dX4_sea_105 : decode cX4_sea 105 = .ok (.iconst 0, 1) := dk_3 (dk_at dksX4_sea_4 11 rfl rfl)
theorem dX4_sea_106 : decode cX4_sea 106 = .ok (.putfield 145, 3) := dk_181 0 145 (dk_at dksX4_sea_4 12 rfl rfl)
theorem dX4_sea_109 : decode cX4_sea 109 = .ok (.aload_n 0, 1) := dk_42 (dk_at dksX4_sea_4 15 rfl rfl)
theorem dX4_sea_110 : decode cX4_sea 110 = .ok (.iconst 0, 1) := dk_3 (dk_at dksX4_sea_4 16 rfl rfl)
theorem dX4_sea_111 : decode cX4_sea 111 = .ok (.putfield 138, 3) := dk_181 0 138 (dk_at dksX4_sea_4 17 rfl rfl)
theorem dX4_sea_114 : decode cX4_sea 114 = .ok (.aload_n 0, 1) := dk_42 (dk_at dksX4_sea_4 20 rfl rfl)
theorem dX4_sea_115 : decode cX4_sea 115 = .ok (.getfield 145, 3) := dk_180 0 145 (dk_at dksX4_sea_4 21 rfl rfl)
theorem dX4_sea_118 : decode cX4_sea 118 = .ok (.ifCond .eq 11, 3) := dk_153 0 11 (dk_at dksX4_sea_5 0 rfl rfl)
theorem dX4_sea_121 : decode cX4_sea 121 = .ok (.bipush (-20), 2) := dk_16 236 (dk_at dksX4_sea_5 3 rfl rfl)
theorem dX4_sea_123 : decode cX4_sea 123 = .ok (.aload_n 0, 1) := dk_42 (dk_at dksX4_sea_5 5 rfl rfl)
theorem dX4_sea_124 : decode cX4_sea 124 = .ok (.getfield 142, 3) := dk_180 0 142 (dk_at dksX4_sea_5 6 rfl rfl)
theorem dX4_sea_127 : decode cX4_sea 127 = .ok (.isub, 1) := dk_100 (dk_at dksX4_sea_5 9 rfl rfl)
theorem dX4_sea_128 : decode cX4_sea 128 = .ok (.ireturn, 1) := dk_172 (dk_at dksX4_sea_5 10 rfl rfl)
theorem dX4_sea_129 : decode cX4_sea 129 = .ok (.iconst 0, 1) := dk_3 (dk_at dksX4_sea_5 11 rfl rfl)
theorem dX4_sea_130 : decode cX4_sea 130 = .ok (.istore 4, 2) := dk_54 4 (dk_at dksX4_sea_5 12 rfl rfl)
theorem dX4_sea_132 : decode cX4_sea 132 = .ok (.iload 4, 2) := dk_21 4 (dk_at dksX4_sea_5 14 rfl rfl)
theorem dX4_sea_134 : decode cX4_sea 134 = .ok (.bipush 10, 2) := dk_16 10 (dk_at dksX4_sea_5 16 rfl rfl)
theorem dX4_sea_136 : decode cX4_sea 136 = .ok (.if_icmp .ge 33, 3) := dk_162 0 33 (dk_at dksX4_sea_5 18 rfl rfl)
theorem dX4_sea_139 : decode cX4_sea 139 = .ok (.aload_n 0, 1) := dk_42 (dk_at dksX4_sea_5 21 rfl rfl)
theorem dX4_sea_140 : decode cX4_sea 140 = .ok (.getfield 19, 3) := dk_180 0 19 (dk_at dksX4_sea_6 0 rfl rfl)
theorem dX4_sea_143 : decode cX4_sea 143 = .ok (.bipush 100, 2) := dk_16 100 (dk_at dksX4_sea_6 3 rfl rfl)
theorem dX4_sea_145 : decode cX4_sea 145 = .ok (.iload_n 1, 1) := dk_27 (dk_at dksX4_sea_6 5 rfl rfl)
theorem dX4_sea_146 : decode cX4_sea 146 = .ok (.imul, 1) := dk_104 (dk_at dksX4_sea_6 6 rfl rfl)
theorem dX4_sea_147 : decode cX4_sea 147 = .ok (.bipush 10, 2) := dk_16 10 (dk_at dksX4_sea_6 7 rfl rfl)
theorem dX4_sea_149 : decode cX4_sea 149 = .ok (.iload_n 2, 1) := dk_28 (dk_at dksX4_sea_6 9 rfl rfl)
theorem dX4_sea_150 : decode cX4_sea 150 = .ok (.imul, 1) := dk_104 (dk_at dksX4_sea_6 10 rfl rfl)
theorem dX4_sea_151 : decode cX4_sea 151 = .ok (.iadd, 1) := dk_96 (dk_at dksX4_sea_6 11 rfl rfl)
theorem dX4_sea_152 : decode cX4_sea 152 = .ok (.iload 4, 2) := dk_21 4 (dk_at dksX4_sea_6 12 rfl rfl)
theorem dX4_sea_154 : decode cX4_sea 154 = .ok (.iadd, 1) := dk_96 (dk_at dksX4_sea_6 14 rfl rfl)
theorem dX4_sea_155 : decode cX4_sea 155 = .ok (.aload_n 0, 1) := dk_42 (dk_at dksX4_sea_6 15 rfl rfl)
theorem dX4_sea_156 : decode cX4_sea 156 = .ok (.getfield 37, 3) := dk_180 0 37 (dk_at dksX4_sea_6 16 rfl rfl)
theorem dX4_sea_159 : decode cX4_sea 159 = .ok (.iload 4, 2) := dk_21 4 (dk_at dksX4_sea_6 19 rfl rfl)
theorem dX4_sea_161 : decode cX4_sea 161 = .ok (.iaload, 1) := dk_46 (dk_at dksX4_sea_6 21 rfl rfl)
theorem dX4_sea_162 : decode cX4_sea 162 = .ok (.iastore, 1) := dk_79 (dk_at dksX4_sea_6 22 rfl rfl)
theorem dX4_sea_163 : decode cX4_sea 163 = .ok (.iinc 4 1, 3) := dk_132 4 1 (dk_at dksX4_sea_7 0 rfl rfl)
theorem dX4_sea_166 : decode cX4_sea 166 = .ok (.goto (-34), 3) := dk_167 255 222 (dk_at dksX4_sea_7 3 rfl rfl)
theorem dX4_sea_169 : decode cX4_sea 169 = .ok (.iload_n 3, 1) := dk_29 (dk_at dksX4_sea_7 6 rfl rfl)
theorem dX4_sea_170 : decode cX4_sea 170 = .ok (.ireturn, 1) := dk_172 (dk_at dksX4_sea_7 7 rfl rfl)
abbrev cX4_ways : ByteArray := prog_14_method_24_code
def yX4_ways : MethodName := ⟨RX4, "ways", "()I"⟩
def dkwX4_ways_1 : List UInt8 := [172]
abbrev dktX4_ways_1 : List UInt8 := dkwX4_ways_1 ++ []
def dkwX4_ways_0 : List UInt8 := [42, 182, 0, 187, 42, 182, 0, 190, 3, 60, 42, 182, 0, 193, 153, 0, 9, 132, 1, 1, 167, 255, 246, 27]
abbrev dktX4_ways_0 : List UInt8 := dkwX4_ways_0 ++ dktX4_ways_1
theorem dksX4_ways_0 : cX4_ways.data.toList.drop 0 = dktX4_ways_0 := by decide +kernel
theorem dksX4_ways_1 : cX4_ways.data.toList.drop 24 = dktX4_ways_1 := dk_seg dksX4_ways_0 24 rfl rfl
theorem dX4_ways_0 : decode cX4_ways 0 = .ok (.aload_n 0, 1) := dk_42 (dk_at dksX4_ways_0 0 rfl rfl)
theorem dX4_ways_1 : decode cX4_ways 1 = .ok (.invokevirtual 187, 3) := dk_182 0 187 (dk_at dksX4_ways_0 1 rfl rfl)
theorem dX4_ways_4 : decode cX4_ways 4 = .ok (.aload_n 0, 1) := dk_42 (dk_at dksX4_ways_0 4 rfl rfl)
theorem dX4_ways_5 : decode cX4_ways 5 = .ok (.invokevirtual 190, 3) := dk_182 0 190 (dk_at dksX4_ways_0 5 rfl rfl)
theorem dX4_ways_8 : decode cX4_ways 8 = .ok (.iconst 0, 1) := dk_3 (dk_at dksX4_ways_0 8 rfl rfl)
theorem dX4_ways_9 : decode cX4_ways 9 = .ok (.istore_n 1, 1) := dk_60 (dk_at dksX4_ways_0 9 rfl rfl)
theorem dX4_ways_10 : decode cX4_ways 10 = .ok (.aload_n 0, 1) := dk_42 (dk_at dksX4_ways_0 10 rfl rfl)
theorem dX4_ways_11 : decode cX4_ways 11 = .ok (.invokevirtual 193, 3) := dk_182 0 193 (dk_at dksX4_ways_0 11 rfl rfl)
theorem dX4_ways_14 : decode cX4_ways 14 = .ok (.ifCond .eq 9, 3) := dk_153 0 9 (dk_at dksX4_ways_0 14 rfl rfl)
theorem dX4_ways_17 : decode cX4_ways 17 = .ok (.iinc 1 1, 3) := dk_132 1 1 (dk_at dksX4_ways_0 17 rfl rfl)
theorem dX4_ways_20 : decode cX4_ways 20 = .ok (.goto (-10), 3) := dk_167 255 246 (dk_at dksX4_ways_0 20 rfl rfl)
theorem dX4_ways_23 : decode cX4_ways 23 = .ok (.iload_n 1, 1) := dk_27 (dk_at dksX4_ways_0 23 rfl rfl)
theorem dX4_ways_24 : decode cX4_ways 24 = .ok (.ireturn, 1) := dk_172 (dk_at dksX4_ways_1 0 rfl rfl)
abbrev cX4_asTold : ByteArray := prog_14_method_23_code
def yX4_asTold : MethodName := ⟨RX4, "asTold", "()V"⟩
def dkwX4_asTold_0 : List UInt8 := [42, 3, 181, 0, 167, 42, 3, 181, 0, 170, 42, 3, 181, 0, 177, 177]
abbrev dktX4_asTold_0 : List UInt8 := dkwX4_asTold_0 ++ []
theorem dksX4_asTold_0 : cX4_asTold.data.toList.drop 0 = dktX4_asTold_0 := by decide +kernel
theorem dX4_asTold_0 : decode cX4_asTold 0 = .ok (.aload_n 0, 1) := dk_42 (dk_at dksX4_asTold_0 0 rfl rfl)
theorem dX4_asTold_1 : decode cX4_asTold 1 = .ok (.iconst 0, 1) := dk_3 (dk_at dksX4_asTold_0 1 rfl rfl)
theorem dX4_asTold_2 : decode cX4_asTold 2 = .ok (.putfield 167, 3) := dk_181 0 167 (dk_at dksX4_asTold_0 2 rfl rfl)
theorem dX4_asTold_5 : decode cX4_asTold 5 = .ok (.aload_n 0, 1) := dk_42 (dk_at dksX4_asTold_0 5 rfl rfl)
theorem dX4_asTold_6 : decode cX4_asTold 6 = .ok (.iconst 0, 1) := dk_3 (dk_at dksX4_asTold_0 6 rfl rfl)
theorem dX4_asTold_7 : decode cX4_asTold 7 = .ok (.putfield 170, 3) := dk_181 0 170 (dk_at dksX4_asTold_0 7 rfl rfl)
theorem dX4_asTold_10 : decode cX4_asTold 10 = .ok (.aload_n 0, 1) := dk_42 (dk_at dksX4_asTold_0 10 rfl rfl)
theorem dX4_asTold_11 : decode cX4_asTold 11 = .ok (.iconst 0, 1) := dk_3 (dk_at dksX4_asTold_0 11 rfl rfl)
theorem dX4_asTold_12 : decode cX4_asTold 12 = .ok (.putfield 177, 3) := dk_181 0 177 (dk_at dksX4_asTold_0 12 rfl rfl)
theorem dX4_asTold_15 : decode cX4_asTold 15 = .ok (.return_, 1) := dk_177 (dk_at dksX4_asTold_0 15 rfl rfl)
abbrev cX4_begins : ByteArray := prog_14_method_18_code
def yX4_begins : MethodName := ⟨RX4, "begins", "()V"⟩
def dkwX4_begins_2 : List UInt8 := [180, 0, 61, 3, 4, 79, 177]
abbrev dktX4_begins_2 : List UInt8 := dkwX4_begins_2 ++ []
def dkwX4_begins_1 : List UInt8 := [42, 180, 0, 52, 3, 3, 79, 42, 180, 0, 55, 3, 3, 79, 42, 180, 0, 58, 3, 3, 79, 42]
abbrev dktX4_begins_1 : List UInt8 := dkwX4_begins_1 ++ dktX4_begins_2
def dkwX4_begins_0 : List UInt8 := [42, 3, 181, 0, 164, 42, 180, 0, 40, 3, 2, 79, 42, 180, 0, 43, 3, 42, 180, 0, 7, 4, 46, 79]
abbrev dktX4_begins_0 : List UInt8 := dkwX4_begins_0 ++ dktX4_begins_1
theorem dksX4_begins_0 : cX4_begins.data.toList.drop 0 = dktX4_begins_0 := by decide +kernel
theorem dksX4_begins_1 : cX4_begins.data.toList.drop 24 = dktX4_begins_1 := dk_seg dksX4_begins_0 24 rfl rfl
theorem dksX4_begins_2 : cX4_begins.data.toList.drop 46 = dktX4_begins_2 := dk_seg dksX4_begins_1 22 rfl rfl
theorem dX4_begins_0 : decode cX4_begins 0 = .ok (.aload_n 0, 1) := dk_42 (dk_at dksX4_begins_0 0 rfl rfl)
theorem dX4_begins_1 : decode cX4_begins 1 = .ok (.iconst 0, 1) := dk_3 (dk_at dksX4_begins_0 1 rfl rfl)
theorem dX4_begins_2 : decode cX4_begins 2 = .ok (.putfield 164, 3) := dk_181 0 164 (dk_at dksX4_begins_0 2 rfl rfl)
theorem dX4_begins_5 : decode cX4_begins 5 = .ok (.aload_n 0, 1) := dk_42 (dk_at dksX4_begins_0 5 rfl rfl)
theorem dX4_begins_6 : decode cX4_begins 6 = .ok (.getfield 40, 3) := dk_180 0 40 (dk_at dksX4_begins_0 6 rfl rfl)
theorem dX4_begins_9 : decode cX4_begins 9 = .ok (.iconst 0, 1) := dk_3 (dk_at dksX4_begins_0 9 rfl rfl)
theorem dX4_begins_10 : decode cX4_begins 10 = .ok (.iconst (-1), 1) := dk_2 (dk_at dksX4_begins_0 10 rfl rfl)
theorem dX4_begins_11 : decode cX4_begins 11 = .ok (.iastore, 1) := dk_79 (dk_at dksX4_begins_0 11 rfl rfl)
theorem dX4_begins_12 : decode cX4_begins 12 = .ok (.aload_n 0, 1) := dk_42 (dk_at dksX4_begins_0 12 rfl rfl)
theorem dX4_begins_13 : decode cX4_begins 13 = .ok (.getfield 43, 3) := dk_180 0 43 (dk_at dksX4_begins_0 13 rfl rfl)
theorem dX4_begins_16 : decode cX4_begins 16 = .ok (.iconst 0, 1) := dk_3 (dk_at dksX4_begins_0 16 rfl rfl)
theorem dX4_begins_17 : decode cX4_begins 17 = .ok (.aload_n 0, 1) := dk_42 (dk_at dksX4_begins_0 17 rfl rfl)
theorem dX4_begins_18 : decode cX4_begins 18 = .ok (.getfield 7, 3) := dk_180 0 7 (dk_at dksX4_begins_0 18 rfl rfl)
theorem dX4_begins_21 : decode cX4_begins 21 = .ok (.iconst 1, 1) := dk_4 (dk_at dksX4_begins_0 21 rfl rfl)
theorem dX4_begins_22 : decode cX4_begins 22 = .ok (.iaload, 1) := dk_46 (dk_at dksX4_begins_0 22 rfl rfl)
theorem dX4_begins_23 : decode cX4_begins 23 = .ok (.iastore, 1) := dk_79 (dk_at dksX4_begins_0 23 rfl rfl)
theorem dX4_begins_24 : decode cX4_begins 24 = .ok (.aload_n 0, 1) := dk_42 (dk_at dksX4_begins_1 0 rfl rfl)
theorem dX4_begins_25 : decode cX4_begins 25 = .ok (.getfield 52, 3) := dk_180 0 52 (dk_at dksX4_begins_1 1 rfl rfl)
theorem dX4_begins_28 : decode cX4_begins 28 = .ok (.iconst 0, 1) := dk_3 (dk_at dksX4_begins_1 4 rfl rfl)
theorem dX4_begins_29 : decode cX4_begins 29 = .ok (.iconst 0, 1) := dk_3 (dk_at dksX4_begins_1 5 rfl rfl)
theorem dX4_begins_30 : decode cX4_begins 30 = .ok (.iastore, 1) := dk_79 (dk_at dksX4_begins_1 6 rfl rfl)
theorem dX4_begins_31 : decode cX4_begins 31 = .ok (.aload_n 0, 1) := dk_42 (dk_at dksX4_begins_1 7 rfl rfl)
theorem dX4_begins_32 : decode cX4_begins 32 = .ok (.getfield 55, 3) := dk_180 0 55 (dk_at dksX4_begins_1 8 rfl rfl)
theorem dX4_begins_35 : decode cX4_begins 35 = .ok (.iconst 0, 1) := dk_3 (dk_at dksX4_begins_1 11 rfl rfl)
theorem dX4_begins_36 : decode cX4_begins 36 = .ok (.iconst 0, 1) := dk_3 (dk_at dksX4_begins_1 12 rfl rfl)
theorem dX4_begins_37 : decode cX4_begins 37 = .ok (.iastore, 1) := dk_79 (dk_at dksX4_begins_1 13 rfl rfl)
theorem dX4_begins_38 : decode cX4_begins 38 = .ok (.aload_n 0, 1) := dk_42 (dk_at dksX4_begins_1 14 rfl rfl)
theorem dX4_begins_39 : decode cX4_begins 39 = .ok (.getfield 58, 3) := dk_180 0 58 (dk_at dksX4_begins_1 15 rfl rfl)
theorem dX4_begins_42 : decode cX4_begins 42 = .ok (.iconst 0, 1) := dk_3 (dk_at dksX4_begins_1 18 rfl rfl)
theorem dX4_begins_43 : decode cX4_begins 43 = .ok (.iconst 0, 1) := dk_3 (dk_at dksX4_begins_1 19 rfl rfl)
theorem dX4_begins_44 : decode cX4_begins 44 = .ok (.iastore, 1) := dk_79 (dk_at dksX4_begins_1 20 rfl rfl)
theorem dX4_begins_45 : decode cX4_begins 45 = .ok (.aload_n 0, 1) := dk_42 (dk_at dksX4_begins_1 21 rfl rfl)
theorem dX4_begins_46 : decode cX4_begins 46 = .ok (.getfield 61, 3) := dk_180 0 61 (dk_at dksX4_begins_2 0 rfl rfl)
theorem dX4_begins_49 : decode cX4_begins 49 = .ok (.iconst 0, 1) := dk_3 (dk_at dksX4_begins_2 3 rfl rfl)
theorem dX4_begins_50 : decode cX4_begins 50 = .ok (.iconst 1, 1) := dk_4 (dk_at dksX4_begins_2 4 rfl rfl)
theorem dX4_begins_51 : decode cX4_begins 51 = .ok (.iastore, 1) := dk_79 (dk_at dksX4_begins_2 5 rfl rfl)
theorem dX4_begins_52 : decode cX4_begins 52 = .ok (.return_, 1) := dk_177 (dk_at dksX4_begins_2 6 rfl rfl)
abbrev cX4_goesOn : ByteArray := prog_14_method_21_code
def yX4_goesOn : MethodName := ⟨RX4, "goesOn", "()Z"⟩
def dkwX4_goesOn_6 : List UInt8 := [3, 172]
abbrev dktX4_goesOn_6 : List UInt8 := dkwX4_goesOn_6 ++ []
def dkwX4_goesOn_5 : List UInt8 := [42, 180, 0, 40, 42, 180, 0, 164, 2, 79, 167, 255, 157, 42, 180, 0, 164, 155, 0, 7, 4, 167, 0, 4]
abbrev dktX4_goesOn_5 : List UInt8 := dkwX4_goesOn_5 ++ dktX4_goesOn_6
def dkwX4_goesOn_4 : List UInt8 := [100, 181, 0, 164, 167, 255, 187, 42, 182, 0, 183, 153, 255, 180, 42, 89, 180, 0, 164, 4, 96, 181, 0, 164]
abbrev dktX4_goesOn_4 : List UInt8 := dkwX4_goesOn_4 ++ dktX4_goesOn_5
def dkwX4_goesOn_3 : List UInt8 := [46, 42, 180, 0, 164, 154, 0, 8, 16, 23, 167, 0, 5, 16, 17, 164, 0, 16, 42, 89, 180, 0, 164, 4]
abbrev dktX4_goesOn_3 : List UInt8 := dkwX4_goesOn_3 ++ dktX4_goesOn_4
def dkwX4_goesOn_2 : List UInt8 := [162, 0, 85, 42, 180, 0, 40, 42, 180, 0, 164, 92, 46, 4, 96, 79, 42, 180, 0, 40, 42, 180, 0, 164]
abbrev dktX4_goesOn_2 : List UInt8 := dkwX4_goesOn_2 ++ dktX4_goesOn_3
def dkwX4_goesOn_1 : List UInt8 := [180, 0, 164, 181, 0, 164, 42, 180, 0, 164, 155, 0, 98, 42, 180, 0, 164, 42, 180, 0, 7, 5, 46]
abbrev dktX4_goesOn_1 : List UInt8 := dkwX4_goesOn_1 ++ dktX4_goesOn_2
def dkwX4_goesOn_0 : List UInt8 := [42, 42, 180, 0, 164, 42, 180, 0, 7, 5, 46, 160, 0, 12, 42, 180, 0, 164, 4, 100, 167, 0, 7, 42]
abbrev dktX4_goesOn_0 : List UInt8 := dkwX4_goesOn_0 ++ dktX4_goesOn_1
theorem dksX4_goesOn_0 : cX4_goesOn.data.toList.drop 0 = dktX4_goesOn_0 := by decide +kernel
theorem dksX4_goesOn_1 : cX4_goesOn.data.toList.drop 24 = dktX4_goesOn_1 := dk_seg dksX4_goesOn_0 24 rfl rfl
theorem dksX4_goesOn_2 : cX4_goesOn.data.toList.drop 47 = dktX4_goesOn_2 := dk_seg dksX4_goesOn_1 23 rfl rfl
theorem dksX4_goesOn_3 : cX4_goesOn.data.toList.drop 71 = dktX4_goesOn_3 := dk_seg dksX4_goesOn_2 24 rfl rfl
theorem dksX4_goesOn_4 : cX4_goesOn.data.toList.drop 95 = dktX4_goesOn_4 := dk_seg dksX4_goesOn_3 24 rfl rfl
theorem dksX4_goesOn_5 : cX4_goesOn.data.toList.drop 119 = dktX4_goesOn_5 := dk_seg dksX4_goesOn_4 24 rfl rfl
theorem dksX4_goesOn_6 : cX4_goesOn.data.toList.drop 143 = dktX4_goesOn_6 := dk_seg dksX4_goesOn_5 24 rfl rfl
theorem dX4_goesOn_0 : decode cX4_goesOn 0 = .ok (.aload_n 0, 1) := dk_42 (dk_at dksX4_goesOn_0 0 rfl rfl)
theorem dX4_goesOn_1 : decode cX4_goesOn 1 = .ok (.aload_n 0, 1) := dk_42 (dk_at dksX4_goesOn_0 1 rfl rfl)
theorem dX4_goesOn_2 : decode cX4_goesOn 2 = .ok (.getfield 164, 3) := dk_180 0 164 (dk_at dksX4_goesOn_0 2 rfl rfl)
theorem dX4_goesOn_5 : decode cX4_goesOn 5 = .ok (.aload_n 0, 1) := dk_42 (dk_at dksX4_goesOn_0 5 rfl rfl)
theorem dX4_goesOn_6 : decode cX4_goesOn 6 = .ok (.getfield 7, 3) := dk_180 0 7 (dk_at dksX4_goesOn_0 6 rfl rfl)
theorem dX4_goesOn_9 : decode cX4_goesOn 9 = .ok (.iconst 2, 1) := dk_5 (dk_at dksX4_goesOn_0 9 rfl rfl)
theorem dX4_goesOn_10 : decode cX4_goesOn 10 = .ok (.iaload, 1) := dk_46 (dk_at dksX4_goesOn_0 10 rfl rfl)
theorem dX4_goesOn_11 : decode cX4_goesOn 11 = .ok (.if_icmp .ne 12, 3) := dk_160 0 12 (dk_at dksX4_goesOn_0 11 rfl rfl)
theorem dX4_goesOn_14 : decode cX4_goesOn 14 = .ok (.aload_n 0, 1) := dk_42 (dk_at dksX4_goesOn_0 14 rfl rfl)
theorem dX4_goesOn_15 : decode cX4_goesOn 15 = .ok (.getfield 164, 3) := dk_180 0 164 (dk_at dksX4_goesOn_0 15 rfl rfl)
theorem dX4_goesOn_18 : decode cX4_goesOn 18 = .ok (.iconst 1, 1) := dk_4 (dk_at dksX4_goesOn_0 18 rfl rfl)
theorem dX4_goesOn_19 : decode cX4_goesOn 19 = .ok (.isub, 1) := dk_100 (dk_at dksX4_goesOn_0 19 rfl rfl)
theorem dX4_goesOn_20 : decode cX4_goesOn 20 = .ok (.goto 7, 3) := dk_167 0 7 (dk_at dksX4_goesOn_0 20 rfl rfl)
theorem dX4_goesOn_23 : decode cX4_goesOn 23 = .ok (.aload_n 0, 1) := dk_42 (dk_at dksX4_goesOn_0 23 rfl rfl)
theorem dX4_goesOn_24 : decode cX4_goesOn 24 = .ok (.getfield 164, 3) := dk_180 0 164 (dk_at dksX4_goesOn_1 0 rfl rfl)
theorem dX4_goesOn_27 : decode cX4_goesOn 27 = .ok (.putfield 164, 3) := dk_181 0 164 (dk_at dksX4_goesOn_1 3 rfl rfl)
theorem dX4_goesOn_30 : decode cX4_goesOn 30 = .ok (.aload_n 0, 1) := dk_42 (dk_at dksX4_goesOn_1 6 rfl rfl)
theorem dX4_goesOn_31 : decode cX4_goesOn 31 = .ok (.getfield 164, 3) := dk_180 0 164 (dk_at dksX4_goesOn_1 7 rfl rfl)
theorem dX4_goesOn_34 : decode cX4_goesOn 34 = .ok (.ifCond .lt 98, 3) := dk_155 0 98 (dk_at dksX4_goesOn_1 10 rfl rfl)
theorem dX4_goesOn_37 : decode cX4_goesOn 37 = .ok (.aload_n 0, 1) := dk_42 (dk_at dksX4_goesOn_1 13 rfl rfl)
theorem dX4_goesOn_38 : decode cX4_goesOn 38 = .ok (.getfield 164, 3) := dk_180 0 164 (dk_at dksX4_goesOn_1 14 rfl rfl)
theorem dX4_goesOn_41 : decode cX4_goesOn 41 = .ok (.aload_n 0, 1) := dk_42 (dk_at dksX4_goesOn_1 17 rfl rfl)
theorem dX4_goesOn_42 : decode cX4_goesOn 42 = .ok (.getfield 7, 3) := dk_180 0 7 (dk_at dksX4_goesOn_1 18 rfl rfl)
theorem dX4_goesOn_45 : decode cX4_goesOn 45 = .ok (.iconst 2, 1) := dk_5 (dk_at dksX4_goesOn_1 21 rfl rfl)
theorem dX4_goesOn_46 : decode cX4_goesOn 46 = .ok (.iaload, 1) := dk_46 (dk_at dksX4_goesOn_1 22 rfl rfl)
theorem dX4_goesOn_47 : decode cX4_goesOn 47 = .ok (.if_icmp .ge 85, 3) := dk_162 0 85 (dk_at dksX4_goesOn_2 0 rfl rfl)
theorem dX4_goesOn_50 : decode cX4_goesOn 50 = .ok (.aload_n 0, 1) := dk_42 (dk_at dksX4_goesOn_2 3 rfl rfl)
theorem dX4_goesOn_51 : decode cX4_goesOn 51 = .ok (.getfield 40, 3) := dk_180 0 40 (dk_at dksX4_goesOn_2 4 rfl rfl)
theorem dX4_goesOn_54 : decode cX4_goesOn 54 = .ok (.aload_n 0, 1) := dk_42 (dk_at dksX4_goesOn_2 7 rfl rfl)
theorem dX4_goesOn_55 : decode cX4_goesOn 55 = .ok (.getfield 164, 3) := dk_180 0 164 (dk_at dksX4_goesOn_2 8 rfl rfl)
theorem dX4_goesOn_58 : decode cX4_goesOn 58 = .ok (.dup2, 1) := dk_92 (dk_at dksX4_goesOn_2 11 rfl rfl)
theorem dX4_goesOn_59 : decode cX4_goesOn 59 = .ok (.iaload, 1) := dk_46 (dk_at dksX4_goesOn_2 12 rfl rfl)
theorem dX4_goesOn_60 : decode cX4_goesOn 60 = .ok (.iconst 1, 1) := dk_4 (dk_at dksX4_goesOn_2 13 rfl rfl)
theorem dX4_goesOn_61 : decode cX4_goesOn 61 = .ok (.iadd, 1) := dk_96 (dk_at dksX4_goesOn_2 14 rfl rfl)
theorem dX4_goesOn_62 : decode cX4_goesOn 62 = .ok (.iastore, 1) := dk_79 (dk_at dksX4_goesOn_2 15 rfl rfl)
theorem dX4_goesOn_63 : decode cX4_goesOn 63 = .ok (.aload_n 0, 1) := dk_42 (dk_at dksX4_goesOn_2 16 rfl rfl)
theorem dX4_goesOn_64 : decode cX4_goesOn 64 = .ok (.getfield 40, 3) := dk_180 0 40 (dk_at dksX4_goesOn_2 17 rfl rfl)
theorem dX4_goesOn_67 : decode cX4_goesOn 67 = .ok (.aload_n 0, 1) := dk_42 (dk_at dksX4_goesOn_2 20 rfl rfl)
theorem dX4_goesOn_68 : decode cX4_goesOn 68 = .ok (.getfield 164, 3) := dk_180 0 164 (dk_at dksX4_goesOn_2 21 rfl rfl)
theorem dX4_goesOn_71 : decode cX4_goesOn 71 = .ok (.iaload, 1) := dk_46 (dk_at dksX4_goesOn_3 0 rfl rfl)
theorem dX4_goesOn_72 : decode cX4_goesOn 72 = .ok (.aload_n 0, 1) := dk_42 (dk_at dksX4_goesOn_3 1 rfl rfl)
theorem dX4_goesOn_73 : decode cX4_goesOn 73 = .ok (.getfield 164, 3) := dk_180 0 164 (dk_at dksX4_goesOn_3 2 rfl rfl)
theorem dX4_goesOn_76 : decode cX4_goesOn 76 = .ok (.ifCond .ne 8, 3) := dk_154 0 8 (dk_at dksX4_goesOn_3 5 rfl rfl)
theorem dX4_goesOn_79 : decode cX4_goesOn 79 = .ok (.bipush 23, 2) := dk_16 23 (dk_at dksX4_goesOn_3 8 rfl rfl)
theorem dX4_goesOn_81 : decode cX4_goesOn 81 = .ok (.goto 5, 3) := dk_167 0 5 (dk_at dksX4_goesOn_3 10 rfl rfl)
theorem dX4_goesOn_84 : decode cX4_goesOn 84 = .ok (.bipush 17, 2) := dk_16 17 (dk_at dksX4_goesOn_3 13 rfl rfl)
theorem dX4_goesOn_86 : decode cX4_goesOn 86 = .ok (.if_icmp .le 16, 3) := dk_164 0 16 (dk_at dksX4_goesOn_3 15 rfl rfl)
theorem dX4_goesOn_89 : decode cX4_goesOn 89 = .ok (.aload_n 0, 1) := dk_42 (dk_at dksX4_goesOn_3 18 rfl rfl)
theorem dX4_goesOn_90 : decode cX4_goesOn 90 = .ok (.dup, 1) := dk_89 (dk_at dksX4_goesOn_3 19 rfl rfl)
theorem dX4_goesOn_91 : decode cX4_goesOn 91 = .ok (.getfield 164, 3) := dk_180 0 164 (dk_at dksX4_goesOn_3 20 rfl rfl)
theorem dX4_goesOn_94 : decode cX4_goesOn 94 = .ok (.iconst 1, 1) := dk_4 (dk_at dksX4_goesOn_3 23 rfl rfl)
theorem dX4_goesOn_95 : decode cX4_goesOn 95 = .ok (.isub, 1) := dk_100 (dk_at dksX4_goesOn_4 0 rfl rfl)
theorem dX4_goesOn_96 : decode cX4_goesOn 96 = .ok (.putfield 164, 3) := dk_181 0 164 (dk_at dksX4_goesOn_4 1 rfl rfl)
theorem dX4_goesOn_99 : decode cX4_goesOn 99 = .ok (.goto (-69), 3) := dk_167 255 187 (dk_at dksX4_goesOn_4 4 rfl rfl)
theorem dX4_goesOn_102 : decode cX4_goesOn 102 = .ok (.aload_n 0, 1) := dk_42 (dk_at dksX4_goesOn_4 7 rfl rfl)
theorem dX4_goesOn_103 : decode cX4_goesOn 103 = .ok (.invokevirtual 183, 3) := dk_182 0 183 (dk_at dksX4_goesOn_4 8 rfl rfl)
theorem dX4_goesOn_106 : decode cX4_goesOn 106 = .ok (.ifCond .eq (-76), 3) := dk_153 255 180 (dk_at dksX4_goesOn_4 11 rfl rfl)
theorem dX4_goesOn_109 : decode cX4_goesOn 109 = .ok (.aload_n 0, 1) := dk_42 (dk_at dksX4_goesOn_4 14 rfl rfl)
theorem dX4_goesOn_110 : decode cX4_goesOn 110 = .ok (.dup, 1) := dk_89 (dk_at dksX4_goesOn_4 15 rfl rfl)
theorem dX4_goesOn_111 : decode cX4_goesOn 111 = .ok (.getfield 164, 3) := dk_180 0 164 (dk_at dksX4_goesOn_4 16 rfl rfl)
theorem dX4_goesOn_114 : decode cX4_goesOn 114 = .ok (.iconst 1, 1) := dk_4 (dk_at dksX4_goesOn_4 19 rfl rfl)
theorem dX4_goesOn_115 : decode cX4_goesOn 115 = .ok (.iadd, 1) := dk_96 (dk_at dksX4_goesOn_4 20 rfl rfl)
theorem dX4_goesOn_116 : decode cX4_goesOn 116 = .ok (.putfield 164, 3) := dk_181 0 164 (dk_at dksX4_goesOn_4 21 rfl rfl)
theorem dX4_goesOn_119 : decode cX4_goesOn 119 = .ok (.aload_n 0, 1) := dk_42 (dk_at dksX4_goesOn_5 0 rfl rfl)
theorem dX4_goesOn_120 : decode cX4_goesOn 120 = .ok (.getfield 40, 3) := dk_180 0 40 (dk_at dksX4_goesOn_5 1 rfl rfl)
theorem dX4_goesOn_123 : decode cX4_goesOn 123 = .ok (.aload_n 0, 1) := dk_42 (dk_at dksX4_goesOn_5 4 rfl rfl)
theorem dX4_goesOn_124 : decode cX4_goesOn 124 = .ok (.getfield 164, 3) := dk_180 0 164 (dk_at dksX4_goesOn_5 5 rfl rfl)
theorem dX4_goesOn_127 : decode cX4_goesOn 127 = .ok (.iconst (-1), 1) := dk_2 (dk_at dksX4_goesOn_5 8 rfl rfl)
theorem dX4_goesOn_128 : decode cX4_goesOn 128 = .ok (.iastore, 1) := dk_79 (dk_at dksX4_goesOn_5 9 rfl rfl)
theorem dX4_goesOn_129 : decode cX4_goesOn 129 = .ok (.goto (-99), 3) := dk_167 255 157 (dk_at dksX4_goesOn_5 10 rfl rfl)
theorem dX4_goesOn_132 : decode cX4_goesOn 132 = .ok (.aload_n 0, 1) := dk_42 (dk_at dksX4_goesOn_5 13 rfl rfl)
theorem dX4_goesOn_133 : decode cX4_goesOn 133 = .ok (.getfield 164, 3) := dk_180 0 164 (dk_at dksX4_goesOn_5 14 rfl rfl)
theorem dX4_goesOn_136 : decode cX4_goesOn 136 = .ok (.ifCond .lt 7, 3) := dk_155 0 7 (dk_at dksX4_goesOn_5 17 rfl rfl)
theorem dX4_goesOn_139 : decode cX4_goesOn 139 = .ok (.iconst 1, 1) := dk_4 (dk_at dksX4_goesOn_5 20 rfl rfl)
theorem dX4_goesOn_140 : decode cX4_goesOn 140 = .ok (.goto 4, 3) := dk_167 0 4 (dk_at dksX4_goesOn_5 21 rfl rfl)
theorem dX4_goesOn_143 : decode cX4_goesOn 143 = .ok (.iconst 0, 1) := dk_3 (dk_at dksX4_goesOn_6 0 rfl rfl)
theorem dX4_goesOn_144 : decode cX4_goesOn 144 = .ok (.ireturn, 1) := dk_172 (dk_at dksX4_goesOn_6 1 rfl rfl)
abbrev cX4_goes : ByteArray := prog_14_method_20_code
def yX4_goes : MethodName := ⟨RX4, "goes", "()Z"⟩
def dkwX4_goes_12 : List UInt8 := [182, 0, 180, 104, 79, 42, 180, 0, 61, 27, 4, 96, 46, 158, 0, 7, 4, 167, 0, 4, 3, 172]
abbrev dktX4_goes_12 : List UInt8 := dkwX4_goes_12 ++ []
def dkwX4_goes_11 : List UInt8 := [27, 4, 96, 21, 7, 79, 42, 180, 0, 61, 27, 4, 96, 42, 180, 0, 61, 27, 46, 42, 27, 4, 96]
abbrev dktX4_goes_11 : List UInt8 := dkwX4_goes_11 ++ dktX4_goes_12
def dkwX4_goes_10 : List UInt8 := [79, 42, 180, 0, 52, 27, 4, 96, 29, 79, 42, 180, 0, 55, 27, 4, 96, 21, 4, 79, 42, 180, 0, 58]
abbrev dktX4_goes_10 : List UInt8 := dkwX4_goes_10 ++ dktX4_goes_11
def dkwX4_goes_9 : List UInt8 := [180, 0, 46, 27, 21, 5, 79, 42, 180, 0, 49, 27, 21, 6, 79, 42, 180, 0, 43, 27, 4, 96, 21, 8]
abbrev dktX4_goes_9 : List UInt8 := dkwX4_goes_9 ++ dktX4_goes_10
def dkwX4_goes_8 : List UInt8 := [155, 0, 21, 42, 180, 0, 177, 154, 0, 16, 21, 7, 42, 180, 0, 7, 8, 46, 164, 0, 5, 3, 172, 42]
abbrev dktX4_goes_8 : List UInt8 := dkwX4_goes_8 ++ dktX4_goes_9
def dkwX4_goes_7 : List UInt8 := [21, 6, 104, 96, 54, 7, 42, 180, 0, 43, 27, 46, 21, 5, 21, 6, 184, 0, 173, 54, 8, 21, 8]
abbrev dktX4_goes_7 : List UInt8 := dkwX4_goes_7 ++ dktX4_goes_8
def dkwX4_goes_6 : List UInt8 := [180, 0, 7, 7, 46, 163, 0, 9, 21, 6, 4, 162, 0, 5, 3, 172, 42, 180, 0, 58, 27, 46, 21, 6]
abbrev dktX4_goes_6 : List UInt8 := dkwX4_goes_6 ++ dktX4_goes_7
def dkwX4_goes_5 : List UInt8 := [160, 0, 9, 132, 4, 1, 132, 6, 255, 29, 42, 180, 0, 7, 6, 46, 163, 0, 20, 21, 4, 42]
abbrev dktX4_goes_5 : List UInt8 := dkwX4_goes_5 ++ dktX4_goes_6
def dkwX4_goes_4 : List UInt8 := [100, 21, 5, 160, 0, 5, 3, 172, 28, 5, 108, 4, 100, 54, 5, 132, 3, 1, 28, 5, 112, 4]
abbrev dktX4_goes_4 : List UInt8 := dkwX4_goes_4 ++ dktX4_goes_5
def dkwX4_goes_3 : List UInt8 := [158, 0, 55, 28, 4, 164, 0, 7, 4, 167, 0, 4, 3, 54, 7, 21, 7, 153, 0, 25, 28, 5, 108, 4]
abbrev dktX4_goes_3 : List UInt8 := dkwX4_goes_3 ++ dktX4_goes_4
def dkwX4_goes_2 : List UInt8 := [154, 0, 11, 28, 6, 112, 4, 96, 167, 0, 11, 42, 180, 0, 49, 27, 4, 100, 46, 54, 6, 27]
abbrev dktX4_goes_2 : List UInt8 := dkwX4_goes_2 ++ dktX4_goes_3
def dkwX4_goes_1 : List UInt8 := [46, 54, 4, 27, 154, 0, 9, 28, 6, 108, 167, 0, 11, 42, 180, 0, 46, 27, 4, 100, 46, 54, 5, 27]
abbrev dktX4_goes_1 : List UInt8 := dkwX4_goes_1 ++ dktX4_goes_2
def dkwX4_goes_0 : List UInt8 := [42, 180, 0, 164, 60, 42, 180, 0, 40, 27, 46, 61, 42, 180, 0, 52, 27, 46, 62, 42, 180, 0, 55, 27]
abbrev dktX4_goes_0 : List UInt8 := dkwX4_goes_0 ++ dktX4_goes_1
theorem dksX4_goes_0 : cX4_goes.data.toList.drop 0 = dktX4_goes_0 := by decide +kernel
theorem dksX4_goes_1 : cX4_goes.data.toList.drop 24 = dktX4_goes_1 := dk_seg dksX4_goes_0 24 rfl rfl
theorem dksX4_goes_2 : cX4_goes.data.toList.drop 48 = dktX4_goes_2 := dk_seg dksX4_goes_1 24 rfl rfl
theorem dksX4_goes_3 : cX4_goes.data.toList.drop 70 = dktX4_goes_3 := dk_seg dksX4_goes_2 22 rfl rfl
theorem dksX4_goes_4 : cX4_goes.data.toList.drop 94 = dktX4_goes_4 := dk_seg dksX4_goes_3 24 rfl rfl
theorem dksX4_goes_5 : cX4_goes.data.toList.drop 116 = dktX4_goes_5 := dk_seg dksX4_goes_4 22 rfl rfl
theorem dksX4_goes_6 : cX4_goes.data.toList.drop 138 = dktX4_goes_6 := dk_seg dksX4_goes_5 22 rfl rfl
theorem dksX4_goes_7 : cX4_goes.data.toList.drop 162 = dktX4_goes_7 := dk_seg dksX4_goes_6 24 rfl rfl
theorem dksX4_goes_8 : cX4_goes.data.toList.drop 185 = dktX4_goes_8 := dk_seg dksX4_goes_7 23 rfl rfl
theorem dksX4_goes_9 : cX4_goes.data.toList.drop 209 = dktX4_goes_9 := dk_seg dksX4_goes_8 24 rfl rfl
theorem dksX4_goes_10 : cX4_goes.data.toList.drop 233 = dktX4_goes_10 := dk_seg dksX4_goes_9 24 rfl rfl
theorem dksX4_goes_11 : cX4_goes.data.toList.drop 257 = dktX4_goes_11 := dk_seg dksX4_goes_10 24 rfl rfl
theorem dksX4_goes_12 : cX4_goes.data.toList.drop 280 = dktX4_goes_12 := dk_seg dksX4_goes_11 23 rfl rfl
theorem dX4_goes_0 : decode cX4_goes 0 = .ok (.aload_n 0, 1) := dk_42 (dk_at dksX4_goes_0 0 rfl rfl)
theorem dX4_goes_1 : decode cX4_goes 1 = .ok (.getfield 164, 3) := dk_180 0 164 (dk_at dksX4_goes_0 1 rfl rfl)
theorem dX4_goes_4 : decode cX4_goes 4 = .ok (.istore_n 1, 1) := dk_60 (dk_at dksX4_goes_0 4 rfl rfl)
theorem dX4_goes_5 : decode cX4_goes 5 = .ok (.aload_n 0, 1) := dk_42 (dk_at dksX4_goes_0 5 rfl rfl)
theorem dX4_goes_6 : decode cX4_goes 6 = .ok (.getfield 40, 3) := dk_180 0 40 (dk_at dksX4_goes_0 6 rfl rfl)
theorem dX4_goes_9 : decode cX4_goes 9 = .ok (.iload_n 1, 1) := dk_27 (dk_at dksX4_goes_0 9 rfl rfl)
theorem dX4_goes_10 : decode cX4_goes 10 = .ok (.iaload, 1) := dk_46 (dk_at dksX4_goes_0 10 rfl rfl)
theorem dX4_goes_11 : decode cX4_goes 11 = .ok (.istore_n 2, 1) := dk_61 (dk_at dksX4_goes_0 11 rfl rfl)
theorem dX4_goes_12 : decode cX4_goes 12 = .ok (.aload_n 0, 1) := dk_42 (dk_at dksX4_goes_0 12 rfl rfl)
theorem dX4_goes_13 : decode cX4_goes 13 = .ok (.getfield 52, 3) := dk_180 0 52 (dk_at dksX4_goes_0 13 rfl rfl)
theorem dX4_goes_16 : decode cX4_goes 16 = .ok (.iload_n 1, 1) := dk_27 (dk_at dksX4_goes_0 16 rfl rfl)
theorem dX4_goes_17 : decode cX4_goes 17 = .ok (.iaload, 1) := dk_46 (dk_at dksX4_goes_0 17 rfl rfl)
theorem dX4_goes_18 : decode cX4_goes 18 = .ok (.istore_n 3, 1) := dk_62 (dk_at dksX4_goes_0 18 rfl rfl)
theorem dX4_goes_19 : decode cX4_goes 19 = .ok (.aload_n 0, 1) := dk_42 (dk_at dksX4_goes_0 19 rfl rfl)
theorem dX4_goes_20 : decode cX4_goes 20 = .ok (.getfield 55, 3) := dk_180 0 55 (dk_at dksX4_goes_0 20 rfl rfl)
theorem dX4_goes_23 : decode cX4_goes 23 = .ok (.iload_n 1, 1) := dk_27 (dk_at dksX4_goes_0 23 rfl rfl)
theorem dX4_goes_24 : decode cX4_goes 24 = .ok (.iaload, 1) := dk_46 (dk_at dksX4_goes_1 0 rfl rfl)
theorem dX4_goes_25 : decode cX4_goes 25 = .ok (.istore 4, 2) := dk_54 4 (dk_at dksX4_goes_1 1 rfl rfl)
theorem dX4_goes_27 : decode cX4_goes 27 = .ok (.iload_n 1, 1) := dk_27 (dk_at dksX4_goes_1 3 rfl rfl)
theorem dX4_goes_28 : decode cX4_goes 28 = .ok (.ifCond .ne 9, 3) := dk_154 0 9 (dk_at dksX4_goes_1 4 rfl rfl)
theorem dX4_goes_31 : decode cX4_goes 31 = .ok (.iload_n 2, 1) := dk_28 (dk_at dksX4_goes_1 7 rfl rfl)
theorem dX4_goes_32 : decode cX4_goes 32 = .ok (.iconst 3, 1) := dk_6 (dk_at dksX4_goes_1 8 rfl rfl)
theorem dX4_goes_33 : decode cX4_goes 33 = .ok (.idiv, 1) := dk_108 (dk_at dksX4_goes_1 9 rfl rfl)
theorem dX4_goes_34 : decode cX4_goes 34 = .ok (.goto 11, 3) := dk_167 0 11 (dk_at dksX4_goes_1 10 rfl rfl)
theorem dX4_goes_37 : decode cX4_goes 37 = .ok (.aload_n 0, 1) := dk_42 (dk_at dksX4_goes_1 13 rfl rfl)
theorem dX4_goes_38 : decode cX4_goes 38 = .ok (.getfield 46, 3) := dk_180 0 46 (dk_at dksX4_goes_1 14 rfl rfl)
theorem dX4_goes_41 : decode cX4_goes 41 = .ok (.iload_n 1, 1) := dk_27 (dk_at dksX4_goes_1 17 rfl rfl)
theorem dX4_goes_42 : decode cX4_goes 42 = .ok (.iconst 1, 1) := dk_4 (dk_at dksX4_goes_1 18 rfl rfl)
theorem dX4_goes_43 : decode cX4_goes 43 = .ok (.isub, 1) := dk_100 (dk_at dksX4_goes_1 19 rfl rfl)
theorem dX4_goes_44 : decode cX4_goes 44 = .ok (.iaload, 1) := dk_46 (dk_at dksX4_goes_1 20 rfl rfl)
theorem dX4_goes_45 : decode cX4_goes 45 = .ok (.istore 5, 2) := dk_54 5 (dk_at dksX4_goes_1 21 rfl rfl)
theorem dX4_goes_47 : decode cX4_goes 47 = .ok (.iload_n 1, 1) := dk_27 (dk_at dksX4_goes_1 23 rfl rfl)
theorem dX4_goes_48 : decode cX4_goes 48 = .ok (.ifCond .ne 11, 3) := dk_154 0 11 (dk_at dksX4_goes_2 0 rfl rfl)
theorem dX4_goes_51 : decode cX4_goes 51 = .ok (.iload_n 2, 1) := dk_28 (dk_at dksX4_goes_2 3 rfl rfl)
theorem dX4_goes_52 : decode cX4_goes 52 = .ok (.iconst 3, 1) := dk_6 (dk_at dksX4_goes_2 4 rfl rfl)
theorem dX4_goes_53 : decode cX4_goes 53 = .ok (.irem, 1) := dk_112 (dk_at dksX4_goes_2 5 rfl rfl)
theorem dX4_goes_54 : decode cX4_goes 54 = .ok (.iconst 1, 1) := dk_4 (dk_at dksX4_goes_2 6 rfl rfl)
theorem dX4_goes_55 : decode cX4_goes 55 = .ok (.iadd, 1) := dk_96 (dk_at dksX4_goes_2 7 rfl rfl)
theorem dX4_goes_56 : decode cX4_goes 56 = .ok (.goto 11, 3) := dk_167 0 11 (dk_at dksX4_goes_2 8 rfl rfl)
theorem dX4_goes_59 : decode cX4_goes 59 = .ok (.aload_n 0, 1) := dk_42 (dk_at dksX4_goes_2 11 rfl rfl)
theorem dX4_goes_60 : decode cX4_goes 60 = .ok (.getfield 49, 3) := dk_180 0 49 (dk_at dksX4_goes_2 12 rfl rfl)
theorem dX4_goes_63 : decode cX4_goes 63 = .ok (.iload_n 1, 1) := dk_27 (dk_at dksX4_goes_2 15 rfl rfl)
theorem dX4_goes_64 : decode cX4_goes 64 = .ok (.iconst 1, 1) := dk_4 (dk_at dksX4_goes_2 16 rfl rfl)
theorem dX4_goes_65 : decode cX4_goes 65 = .ok (.isub, 1) := dk_100 (dk_at dksX4_goes_2 17 rfl rfl)
theorem dX4_goes_66 : decode cX4_goes 66 = .ok (.iaload, 1) := dk_46 (dk_at dksX4_goes_2 18 rfl rfl)
theorem dX4_goes_67 : decode cX4_goes 67 = .ok (.istore 6, 2) := dk_54 6 (dk_at dksX4_goes_2 19 rfl rfl)
theorem dX4_goes_69 : decode cX4_goes 69 = .ok (.iload_n 1, 1) := dk_27 (dk_at dksX4_goes_2 21 rfl rfl)
theorem dX4_goes_70 : decode cX4_goes 70 = .ok (.ifCond .le 55, 3) := dk_158 0 55 (dk_at dksX4_goes_3 0 rfl rfl)
theorem dX4_goes_73 : decode cX4_goes 73 = .ok (.iload_n 2, 1) := dk_28 (dk_at dksX4_goes_3 3 rfl rfl)
theorem dX4_goes_74 : decode cX4_goes 74 = .ok (.iconst 1, 1) := dk_4 (dk_at dksX4_goes_3 4 rfl rfl)
theorem dX4_goes_75 : decode cX4_goes 75 = .ok (.if_icmp .le 7, 3) := dk_164 0 7 (dk_at dksX4_goes_3 5 rfl rfl)
theorem dX4_goes_78 : decode cX4_goes 78 = .ok (.iconst 1, 1) := dk_4 (dk_at dksX4_goes_3 8 rfl rfl)
theorem dX4_goes_79 : decode cX4_goes 79 = .ok (.goto 4, 3) := dk_167 0 4 (dk_at dksX4_goes_3 9 rfl rfl)
theorem dX4_goes_82 : decode cX4_goes 82 = .ok (.iconst 0, 1) := dk_3 (dk_at dksX4_goes_3 12 rfl rfl)
theorem dX4_goes_83 : decode cX4_goes 83 = .ok (.istore 7, 2) := dk_54 7 (dk_at dksX4_goes_3 13 rfl rfl)
theorem dX4_goes_85 : decode cX4_goes 85 = .ok (.iload 7, 2) := dk_21 7 (dk_at dksX4_goes_3 15 rfl rfl)
theorem dX4_goes_87 : decode cX4_goes 87 = .ok (.ifCond .eq 25, 3) := dk_153 0 25 (dk_at dksX4_goes_3 17 rfl rfl)
theorem dX4_goes_90 : decode cX4_goes 90 = .ok (.iload_n 2, 1) := dk_28 (dk_at dksX4_goes_3 20 rfl rfl)
theorem dX4_goes_91 : decode cX4_goes 91 = .ok (.iconst 2, 1) := dk_5 (dk_at dksX4_goes_3 21 rfl rfl)
theorem dX4_goes_92 : decode cX4_goes 92 = .ok (.idiv, 1) := dk_108 (dk_at dksX4_goes_3 22 rfl rfl)
theorem dX4_goes_93 : decode cX4_goes 93 = .ok (.iconst 1, 1) := dk_4 (dk_at dksX4_goes_3 23 rfl rfl)
theorem dX4_goes_94 : decode cX4_goes 94 = .ok (.isub, 1) := dk_100 (dk_at dksX4_goes_4 0 rfl rfl)
theorem dX4_goes_95 : decode cX4_goes 95 = .ok (.iload 5, 2) := dk_21 5 (dk_at dksX4_goes_4 1 rfl rfl)
theorem dX4_goes_97 : decode cX4_goes 97 = .ok (.if_icmp .ne 5, 3) := dk_160 0 5 (dk_at dksX4_goes_4 3 rfl rfl)
theorem dX4_goes_100 : decode cX4_goes 100 = .ok (.iconst 0, 1) := dk_3 (dk_at dksX4_goes_4 6 rfl rfl)
theorem dX4_goes_101 : decode cX4_goes 101 = .ok (.ireturn, 1) := dk_172 (dk_at dksX4_goes_4 7 rfl rfl)
theorem dX4_goes_102 : decode cX4_goes 102 = .ok (.iload_n 2, 1) := dk_28 (dk_at dksX4_goes_4 8 rfl rfl)
theorem dX4_goes_103 : decode cX4_goes 103 = .ok (.iconst 2, 1) := dk_5 (dk_at dksX4_goes_4 9 rfl rfl)
theorem dX4_goes_104 : decode cX4_goes 104 = .ok (.idiv, 1) := dk_108 (dk_at dksX4_goes_4 10 rfl rfl)
theorem dX4_goes_105 : decode cX4_goes 105 = .ok (.iconst 1, 1) := dk_4 (dk_at dksX4_goes_4 11 rfl rfl)
theorem dX4_goes_106 : decode cX4_goes 106 = .ok (.isub, 1) := dk_100 (dk_at dksX4_goes_4 12 rfl rfl)
theorem dX4_goes_107 : decode cX4_goes 107 = .ok (.istore 5, 2) := dk_54 5 (dk_at dksX4_goes_4 13 rfl rfl)
theorem dX4_goes_109 : decode cX4_goes 109 = .ok (.iinc 3 1, 3) := dk_132 3 1 (dk_at dksX4_goes_4 15 rfl rfl)
theorem dX4_goes_112 : decode cX4_goes 112 = .ok (.iload_n 2, 1) := dk_28 (dk_at dksX4_goes_4 18 rfl rfl)
theorem dX4_goes_113 : decode cX4_goes 113 = .ok (.iconst 2, 1) := dk_5 (dk_at dksX4_goes_4 19 rfl rfl)
theorem dX4_goes_114 : decode cX4_goes 114 = .ok (.irem, 1) := dk_112 (dk_at dksX4_goes_4 20 rfl rfl)
theorem dX4_goes_115 : decode cX4_goes 115 = .ok (.iconst 1, 1) := dk_4 (dk_at dksX4_goes_4 21 rfl rfl)
theorem dX4_goes_116 : decode cX4_goes 116 = .ok (.if_icmp .ne 9, 3) := dk_160 0 9 (dk_at dksX4_goes_5 0 rfl rfl)
theorem dX4_goes_119 : decode cX4_goes 119 = .ok (.iinc 4 1, 3) := dk_132 4 1 (dk_at dksX4_goes_5 3 rfl rfl)
theorem dX4_goes_122 : decode cX4_goes 122 = .ok (.iinc 6 (-1), 3) := dk_132 6 255 (dk_at dksX4_goes_5 6 rfl rfl)
theorem dX4_goes_125 : decode cX4_goes 125 = .ok (.iload_n 3, 1) := dk_29 (dk_at dksX4_goes_5 9 rfl rfl)
theorem dX4_goes_126 : decode cX4_goes 126 = .ok (.aload_n 0, 1) := dk_42 (dk_at dksX4_goes_5 10 rfl rfl)
theorem dX4_goes_127 : decode cX4_goes 127 = .ok (.getfield 7, 3) := dk_180 0 7 (dk_at dksX4_goes_5 11 rfl rfl)
theorem dX4_goes_130 : decode cX4_goes 130 = .ok (.iconst 3, 1) := dk_6 (dk_at dksX4_goes_5 14 rfl rfl)
theorem dX4_goes_131 : decode cX4_goes 131 = .ok (.iaload, 1) := dk_46 (dk_at dksX4_goes_5 15 rfl rfl)
theorem dX4_goes_132 : decode cX4_goes 132 = .ok (.if_icmp .gt 20, 3) := dk_163 0 20 (dk_at dksX4_goes_5 16 rfl rfl)
theorem dX4_goes_135 : decode cX4_goes 135 = .ok (.iload 4, 2) := dk_21 4 (dk_at dksX4_goes_5 19 rfl rfl)
theorem dX4_goes_137 : decode cX4_goes 137 = .ok (.aload_n 0, 1) := dk_42 (dk_at dksX4_goes_5 21 rfl rfl)
theorem dX4_goes_138 : decode cX4_goes 138 = .ok (.getfield 7, 3) := dk_180 0 7 (dk_at dksX4_goes_6 0 rfl rfl)
theorem dX4_goes_141 : decode cX4_goes 141 = .ok (.iconst 4, 1) := dk_7 (dk_at dksX4_goes_6 3 rfl rfl)
theorem dX4_goes_142 : decode cX4_goes 142 = .ok (.iaload, 1) := dk_46 (dk_at dksX4_goes_6 4 rfl rfl)
theorem dX4_goes_143 : decode cX4_goes 143 = .ok (.if_icmp .gt 9, 3) := dk_163 0 9 (dk_at dksX4_goes_6 5 rfl rfl)
theorem dX4_goes_146 : decode cX4_goes 146 = .ok (.iload 6, 2) := dk_21 6 (dk_at dksX4_goes_6 8 rfl rfl)
theorem dX4_goes_148 : decode cX4_goes 148 = .ok (.iconst 1, 1) := dk_4 (dk_at dksX4_goes_6 10 rfl rfl)
theorem dX4_goes_149 : decode cX4_goes 149 = .ok (.if_icmp .ge 5, 3) := dk_162 0 5 (dk_at dksX4_goes_6 11 rfl rfl)
theorem dX4_goes_152 : decode cX4_goes 152 = .ok (.iconst 0, 1) := dk_3 (dk_at dksX4_goes_6 14 rfl rfl)
theorem dX4_goes_153 : decode cX4_goes 153 = .ok (.ireturn, 1) := dk_172 (dk_at dksX4_goes_6 15 rfl rfl)
theorem dX4_goes_154 : decode cX4_goes 154 = .ok (.aload_n 0, 1) := dk_42 (dk_at dksX4_goes_6 16 rfl rfl)
theorem dX4_goes_155 : decode cX4_goes 155 = .ok (.getfield 58, 3) := dk_180 0 58 (dk_at dksX4_goes_6 17 rfl rfl)
theorem dX4_goes_158 : decode cX4_goes 158 = .ok (.iload_n 1, 1) := dk_27 (dk_at dksX4_goes_6 20 rfl rfl)
theorem dX4_goes_159 : decode cX4_goes 159 = .ok (.iaload, 1) := dk_46 (dk_at dksX4_goes_6 21 rfl rfl)
theorem dX4_goes_160 : decode cX4_goes 160 = .ok (.iload 6, 2) := dk_21 6 (dk_at dksX4_goes_6 22 rfl rfl)
theorem dX4_goes_162 : decode cX4_goes 162 = .ok (.iload 6, 2) := dk_21 6 (dk_at dksX4_goes_7 0 rfl rfl)
theorem dX4_goes_164 : decode cX4_goes 164 = .ok (.imul, 1) := dk_104 (dk_at dksX4_goes_7 2 rfl rfl)
theorem dX4_goes_165 : decode cX4_goes 165 = .ok (.iadd, 1) := dk_96 (dk_at dksX4_goes_7 3 rfl rfl)
theorem dX4_goes_166 : decode cX4_goes 166 = .ok (.istore 7, 2) := dk_54 7 (dk_at dksX4_goes_7 4 rfl rfl)
theorem dX4_goes_168 : decode cX4_goes 168 = .ok (.aload_n 0, 1) := dk_42 (dk_at dksX4_goes_7 6 rfl rfl)
theorem dX4_goes_169 : decode cX4_goes 169 = .ok (.getfield 43, 3) := dk_180 0 43 (dk_at dksX4_goes_7 7 rfl rfl)
theorem dX4_goes_172 : decode cX4_goes 172 = .ok (.iload_n 1, 1) := dk_27 (dk_at dksX4_goes_7 10 rfl rfl)
theorem dX4_goes_173 : decode cX4_goes 173 = .ok (.iaload, 1) := dk_46 (dk_at dksX4_goes_7 11 rfl rfl)
theorem dX4_goes_174 : decode cX4_goes 174 = .ok (.iload 5, 2) := dk_21 5 (dk_at dksX4_goes_7 12 rfl rfl)
theorem dX4_goes_176 : decode cX4_goes 176 = .ok (.iload 6, 2) := dk_21 6 (dk_at dksX4_goes_7 14 rfl rfl)
theorem dX4_goes_178 : decode cX4_goes 178 = .ok (.invokestatic 173, 3) := dk_184 0 173 (dk_at dksX4_goes_7 16 rfl rfl)
theorem dX4_goes_181 : decode cX4_goes 181 = .ok (.istore 8, 2) := dk_54 8 (dk_at dksX4_goes_7 19 rfl rfl)
theorem dX4_goes_183 : decode cX4_goes 183 = .ok (.iload 8, 2) := dk_21 8 (dk_at dksX4_goes_7 21 rfl rfl)
theorem dX4_goes_185 : decode cX4_goes 185 = .ok (.ifCond .lt 21, 3) := dk_155 0 21 (dk_at dksX4_goes_8 0 rfl rfl)
theorem dX4_goes_188 : decode cX4_goes 188 = .ok (.aload_n 0, 1) := dk_42 (dk_at dksX4_goes_8 3 rfl rfl)
theorem dX4_goes_189 : decode cX4_goes 189 = .ok (.getfield 177, 3) := dk_180 0 177 (dk_at dksX4_goes_8 4 rfl rfl)
theorem dX4_goes_192 : decode cX4_goes 192 = .ok (.ifCond .ne 16, 3) := dk_154 0 16 (dk_at dksX4_goes_8 7 rfl rfl)
theorem dX4_goes_195 : decode cX4_goes 195 = .ok (.iload 7, 2) := dk_21 7 (dk_at dksX4_goes_8 10 rfl rfl)
theorem dX4_goes_197 : decode cX4_goes 197 = .ok (.aload_n 0, 1) := dk_42 (dk_at dksX4_goes_8 12 rfl rfl)
theorem dX4_goes_198 : decode cX4_goes 198 = .ok (.getfield 7, 3) := dk_180 0 7 (dk_at dksX4_goes_8 13 rfl rfl)
theorem dX4_goes_201 : decode cX4_goes 201 = .ok (.iconst 5, 1) := dk_8 (dk_at dksX4_goes_8 16 rfl rfl)
theorem dX4_goes_202 : decode cX4_goes 202 = .ok (.iaload, 1) := dk_46 (dk_at dksX4_goes_8 17 rfl rfl)
theorem dX4_goes_203 : decode cX4_goes 203 = .ok (.if_icmp .le 5, 3) := dk_164 0 5 (dk_at dksX4_goes_8 18 rfl rfl)
theorem dX4_goes_206 : decode cX4_goes 206 = .ok (.iconst 0, 1) := dk_3 (dk_at dksX4_goes_8 21 rfl rfl)
theorem dX4_goes_207 : decode cX4_goes 207 = .ok (.ireturn, 1) := dk_172 (dk_at dksX4_goes_8 22 rfl rfl)
theorem dX4_goes_208 : decode cX4_goes 208 = .ok (.aload_n 0, 1) := dk_42 (dk_at dksX4_goes_8 23 rfl rfl)
theorem dX4_goes_209 : decode cX4_goes 209 = .ok (.getfield 46, 3) := dk_180 0 46 (dk_at dksX4_goes_9 0 rfl rfl)
theorem dX4_goes_212 : decode cX4_goes 212 = .ok (.iload_n 1, 1) := dk_27 (dk_at dksX4_goes_9 3 rfl rfl)
theorem dX4_goes_213 : decode cX4_goes 213 = .ok (.iload 5, 2) := dk_21 5 (dk_at dksX4_goes_9 4 rfl rfl)
theorem dX4_goes_215 : decode cX4_goes 215 = .ok (.iastore, 1) := dk_79 (dk_at dksX4_goes_9 6 rfl rfl)
theorem dX4_goes_216 : decode cX4_goes 216 = .ok (.aload_n 0, 1) := dk_42 (dk_at dksX4_goes_9 7 rfl rfl)
theorem dX4_goes_217 : decode cX4_goes 217 = .ok (.getfield 49, 3) := dk_180 0 49 (dk_at dksX4_goes_9 8 rfl rfl)
theorem dX4_goes_220 : decode cX4_goes 220 = .ok (.iload_n 1, 1) := dk_27 (dk_at dksX4_goes_9 11 rfl rfl)
theorem dX4_goes_221 : decode cX4_goes 221 = .ok (.iload 6, 2) := dk_21 6 (dk_at dksX4_goes_9 12 rfl rfl)
theorem dX4_goes_223 : decode cX4_goes 223 = .ok (.iastore, 1) := dk_79 (dk_at dksX4_goes_9 14 rfl rfl)
theorem dX4_goes_224 : decode cX4_goes 224 = .ok (.aload_n 0, 1) := dk_42 (dk_at dksX4_goes_9 15 rfl rfl)
theorem dX4_goes_225 : decode cX4_goes 225 = .ok (.getfield 43, 3) := dk_180 0 43 (dk_at dksX4_goes_9 16 rfl rfl)
theorem dX4_goes_228 : decode cX4_goes 228 = .ok (.iload_n 1, 1) := dk_27 (dk_at dksX4_goes_9 19 rfl rfl)
theorem dX4_goes_229 : decode cX4_goes 229 = .ok (.iconst 1, 1) := dk_4 (dk_at dksX4_goes_9 20 rfl rfl)
theorem dX4_goes_230 : decode cX4_goes 230 = .ok (.iadd, 1) := dk_96 (dk_at dksX4_goes_9 21 rfl rfl)
theorem dX4_goes_231 : decode cX4_goes 231 = .ok (.iload 8, 2) := dk_21 8 (dk_at dksX4_goes_9 22 rfl rfl)
theorem dX4_goes_233 : decode cX4_goes 233 = .ok (.iastore, 1) := dk_79 (dk_at dksX4_goes_10 0 rfl rfl)
theorem dX4_goes_234 : decode cX4_goes 234 = .ok (.aload_n 0, 1) := dk_42 (dk_at dksX4_goes_10 1 rfl rfl)
theorem dX4_goes_235 : decode cX4_goes 235 = .ok (.getfield 52, 3) := dk_180 0 52 (dk_at dksX4_goes_10 2 rfl rfl)
theorem dX4_goes_238 : decode cX4_goes 238 = .ok (.iload_n 1, 1) := dk_27 (dk_at dksX4_goes_10 5 rfl rfl)
theorem dX4_goes_239 : decode cX4_goes 239 = .ok (.iconst 1, 1) := dk_4 (dk_at dksX4_goes_10 6 rfl rfl)
theorem dX4_goes_240 : decode cX4_goes 240 = .ok (.iadd, 1) := dk_96 (dk_at dksX4_goes_10 7 rfl rfl)
theorem dX4_goes_241 : decode cX4_goes 241 = .ok (.iload_n 3, 1) := dk_29 (dk_at dksX4_goes_10 8 rfl rfl)
theorem dX4_goes_242 : decode cX4_goes 242 = .ok (.iastore, 1) := dk_79 (dk_at dksX4_goes_10 9 rfl rfl)
theorem dX4_goes_243 : decode cX4_goes 243 = .ok (.aload_n 0, 1) := dk_42 (dk_at dksX4_goes_10 10 rfl rfl)
theorem dX4_goes_244 : decode cX4_goes 244 = .ok (.getfield 55, 3) := dk_180 0 55 (dk_at dksX4_goes_10 11 rfl rfl)
theorem dX4_goes_247 : decode cX4_goes 247 = .ok (.iload_n 1, 1) := dk_27 (dk_at dksX4_goes_10 14 rfl rfl)
theorem dX4_goes_248 : decode cX4_goes 248 = .ok (.iconst 1, 1) := dk_4 (dk_at dksX4_goes_10 15 rfl rfl)
theorem dX4_goes_249 : decode cX4_goes 249 = .ok (.iadd, 1) := dk_96 (dk_at dksX4_goes_10 16 rfl rfl)
theorem dX4_goes_250 : decode cX4_goes 250 = .ok (.iload 4, 2) := dk_21 4 (dk_at dksX4_goes_10 17 rfl rfl)
theorem dX4_goes_252 : decode cX4_goes 252 = .ok (.iastore, 1) := dk_79 (dk_at dksX4_goes_10 19 rfl rfl)
theorem dX4_goes_253 : decode cX4_goes 253 = .ok (.aload_n 0, 1) := dk_42 (dk_at dksX4_goes_10 20 rfl rfl)
theorem dX4_goes_254 : decode cX4_goes 254 = .ok (.getfield 58, 3) := dk_180 0 58 (dk_at dksX4_goes_10 21 rfl rfl)
theorem dX4_goes_257 : decode cX4_goes 257 = .ok (.iload_n 1, 1) := dk_27 (dk_at dksX4_goes_11 0 rfl rfl)
theorem dX4_goes_258 : decode cX4_goes 258 = .ok (.iconst 1, 1) := dk_4 (dk_at dksX4_goes_11 1 rfl rfl)
theorem dX4_goes_259 : decode cX4_goes 259 = .ok (.iadd, 1) := dk_96 (dk_at dksX4_goes_11 2 rfl rfl)
theorem dX4_goes_260 : decode cX4_goes 260 = .ok (.iload 7, 2) := dk_21 7 (dk_at dksX4_goes_11 3 rfl rfl)
theorem dX4_goes_262 : decode cX4_goes 262 = .ok (.iastore, 1) := dk_79 (dk_at dksX4_goes_11 5 rfl rfl)
theorem dX4_goes_263 : decode cX4_goes 263 = .ok (.aload_n 0, 1) := dk_42 (dk_at dksX4_goes_11 6 rfl rfl)
theorem dX4_goes_264 : decode cX4_goes 264 = .ok (.getfield 61, 3) := dk_180 0 61 (dk_at dksX4_goes_11 7 rfl rfl)
theorem dX4_goes_267 : decode cX4_goes 267 = .ok (.iload_n 1, 1) := dk_27 (dk_at dksX4_goes_11 10 rfl rfl)
theorem dX4_goes_268 : decode cX4_goes 268 = .ok (.iconst 1, 1) := dk_4 (dk_at dksX4_goes_11 11 rfl rfl)
theorem dX4_goes_269 : decode cX4_goes 269 = .ok (.iadd, 1) := dk_96 (dk_at dksX4_goes_11 12 rfl rfl)
theorem dX4_goes_270 : decode cX4_goes 270 = .ok (.aload_n 0, 1) := dk_42 (dk_at dksX4_goes_11 13 rfl rfl)
theorem dX4_goes_271 : decode cX4_goes 271 = .ok (.getfield 61, 3) := dk_180 0 61 (dk_at dksX4_goes_11 14 rfl rfl)
theorem dX4_goes_274 : decode cX4_goes 274 = .ok (.iload_n 1, 1) := dk_27 (dk_at dksX4_goes_11 17 rfl rfl)
theorem dX4_goes_275 : decode cX4_goes 275 = .ok (.iaload, 1) := dk_46 (dk_at dksX4_goes_11 18 rfl rfl)
theorem dX4_goes_276 : decode cX4_goes 276 = .ok (.aload_n 0, 1) := dk_42 (dk_at dksX4_goes_11 19 rfl rfl)
theorem dX4_goes_277 : decode cX4_goes 277 = .ok (.iload_n 1, 1) := dk_27 (dk_at dksX4_goes_11 20 rfl rfl)
theorem dX4_goes_278 : decode cX4_goes 278 = .ok (.iconst 1, 1) := dk_4 (dk_at dksX4_goes_11 21 rfl rfl)
theorem dX4_goes_279 : decode cX4_goes 279 = .ok (.iadd, 1) := dk_96 (dk_at dksX4_goes_11 22 rfl rfl)
theorem dX4_goes_280 : decode cX4_goes 280 = .ok (.invokevirtual 180, 3) := dk_182 0 180 (dk_at dksX4_goes_12 0 rfl rfl)
theorem dX4_goes_283 : decode cX4_goes 283 = .ok (.imul, 1) := dk_104 (dk_at dksX4_goes_12 3 rfl rfl)
theorem dX4_goes_284 : decode cX4_goes 284 = .ok (.iastore, 1) := dk_79 (dk_at dksX4_goes_12 4 rfl rfl)
theorem dX4_goes_285 : decode cX4_goes 285 = .ok (.aload_n 0, 1) := dk_42 (dk_at dksX4_goes_12 5 rfl rfl)
theorem dX4_goes_286 : decode cX4_goes 286 = .ok (.getfield 61, 3) := dk_180 0 61 (dk_at dksX4_goes_12 6 rfl rfl)
theorem dX4_goes_289 : decode cX4_goes 289 = .ok (.iload_n 1, 1) := dk_27 (dk_at dksX4_goes_12 9 rfl rfl)
theorem dX4_goes_290 : decode cX4_goes 290 = .ok (.iconst 1, 1) := dk_4 (dk_at dksX4_goes_12 10 rfl rfl)
theorem dX4_goes_291 : decode cX4_goes 291 = .ok (.iadd, 1) := dk_96 (dk_at dksX4_goes_12 11 rfl rfl)
theorem dX4_goes_292 : decode cX4_goes 292 = .ok (.iaload, 1) := dk_46 (dk_at dksX4_goes_12 12 rfl rfl)
theorem dX4_goes_293 : decode cX4_goes 293 = .ok (.ifCond .le 7, 3) := dk_158 0 7 (dk_at dksX4_goes_12 13 rfl rfl)
theorem dX4_goes_296 : decode cX4_goes 296 = .ok (.iconst 1, 1) := dk_4 (dk_at dksX4_goes_12 16 rfl rfl)
theorem dX4_goes_297 : decode cX4_goes 297 = .ok (.goto 4, 3) := dk_167 0 4 (dk_at dksX4_goes_12 17 rfl rfl)
theorem dX4_goes_300 : decode cX4_goes 300 = .ok (.iconst 0, 1) := dk_3 (dk_at dksX4_goes_12 20 rfl rfl)
theorem dX4_goes_301 : decode cX4_goes 301 = .ok (.ireturn, 1) := dk_172 (dk_at dksX4_goes_12 21 rfl rfl)
abbrev cX4_gone : ByteArray := prog_14_method_7_code
def yX4_gone : MethodName := ⟨RX4, "gone", "(III)I"⟩
def dkwX4_gone_2 : List UInt8 := [153, 0, 13, 16, 10, 29, 104, 21, 4, 96, 167, 0, 5, 16, 252, 172]
abbrev dktX4_gone_2 : List UInt8 := dkwX4_gone_2 ++ []
def dkwX4_gone_1 : List UInt8 := [54, 4, 29, 133, 9, 20, 0, 111, 184, 0, 100, 153, 0, 26, 21, 4, 133, 9, 20, 0, 111, 184, 0, 100]
abbrev dktX4_gone_1 : List UInt8 := dkwX4_gone_1 ++ dktX4_gone_2
def dkwX4_gone_0 : List UInt8 := [26, 16, 10, 108, 27, 184, 0, 104, 28, 104, 96, 62, 26, 16, 10, 112, 27, 184, 0, 108, 28, 104, 96]
abbrev dktX4_gone_0 : List UInt8 := dkwX4_gone_0 ++ dktX4_gone_1
theorem dksX4_gone_0 : cX4_gone.data.toList.drop 0 = dktX4_gone_0 := by decide +kernel
theorem dksX4_gone_1 : cX4_gone.data.toList.drop 23 = dktX4_gone_1 := dk_seg dksX4_gone_0 23 rfl rfl
theorem dksX4_gone_2 : cX4_gone.data.toList.drop 47 = dktX4_gone_2 := dk_seg dksX4_gone_1 24 rfl rfl
theorem dX4_gone_0 : decode cX4_gone 0 = .ok (.iload_n 0, 1) := dk_26 (dk_at dksX4_gone_0 0 rfl rfl)
theorem dX4_gone_1 : decode cX4_gone 1 = .ok (.bipush 10, 2) := dk_16 10 (dk_at dksX4_gone_0 1 rfl rfl)
theorem dX4_gone_3 : decode cX4_gone 3 = .ok (.idiv, 1) := dk_108 (dk_at dksX4_gone_0 3 rfl rfl)
theorem dX4_gone_4 : decode cX4_gone 4 = .ok (.iload_n 1, 1) := dk_27 (dk_at dksX4_gone_0 4 rfl rfl)
theorem dX4_gone_5 : decode cX4_gone 5 = .ok (.invokestatic 104, 3) := dk_184 0 104 (dk_at dksX4_gone_0 5 rfl rfl)
theorem dX4_gone_8 : decode cX4_gone 8 = .ok (.iload_n 2, 1) := dk_28 (dk_at dksX4_gone_0 8 rfl rfl)
theorem dX4_gone_9 : decode cX4_gone 9 = .ok (.imul, 1) := dk_104 (dk_at dksX4_gone_0 9 rfl rfl)
theorem dX4_gone_10 : decode cX4_gone 10 = .ok (.iadd, 1) := dk_96 (dk_at dksX4_gone_0 10 rfl rfl)
theorem dX4_gone_11 : decode cX4_gone 11 = .ok (.istore_n 3, 1) := dk_62 (dk_at dksX4_gone_0 11 rfl rfl)
theorem dX4_gone_12 : decode cX4_gone 12 = .ok (.iload_n 0, 1) := dk_26 (dk_at dksX4_gone_0 12 rfl rfl)
theorem dX4_gone_13 : decode cX4_gone 13 = .ok (.bipush 10, 2) := dk_16 10 (dk_at dksX4_gone_0 13 rfl rfl)
theorem dX4_gone_15 : decode cX4_gone 15 = .ok (.irem, 1) := dk_112 (dk_at dksX4_gone_0 15 rfl rfl)
theorem dX4_gone_16 : decode cX4_gone 16 = .ok (.iload_n 1, 1) := dk_27 (dk_at dksX4_gone_0 16 rfl rfl)
theorem dX4_gone_17 : decode cX4_gone 17 = .ok (.invokestatic 108, 3) := dk_184 0 108 (dk_at dksX4_gone_0 17 rfl rfl)
theorem dX4_gone_20 : decode cX4_gone 20 = .ok (.iload_n 2, 1) := dk_28 (dk_at dksX4_gone_0 20 rfl rfl)
theorem dX4_gone_21 : decode cX4_gone 21 = .ok (.imul, 1) := dk_104 (dk_at dksX4_gone_0 21 rfl rfl)
theorem dX4_gone_22 : decode cX4_gone 22 = .ok (.iadd, 1) := dk_96 (dk_at dksX4_gone_0 22 rfl rfl)
theorem dX4_gone_23 : decode cX4_gone 23 = .ok (.istore 4, 2) := dk_54 4 (dk_at dksX4_gone_1 0 rfl rfl)
theorem dX4_gone_25 : decode cX4_gone 25 = .ok (.iload_n 3, 1) := dk_29 (dk_at dksX4_gone_1 2 rfl rfl)
theorem dX4_gone_26 : decode cX4_gone 26 = .ok (.i2l, 1) := dk_133 (dk_at dksX4_gone_1 3 rfl rfl)
theorem dX4_gone_27 : decode cX4_gone 27 = .ok (.lconst 0, 1) := dk_9 (dk_at dksX4_gone_1 4 rfl rfl)
theorem dX4_gone_28 : decode cX4_gone 28 = .ok (.ldc2_w 111, 3) := dk_20 0 111 (dk_at dksX4_gone_1 5 rfl rfl)
theorem dX4_gone_31 : decode cX4_gone 31 = .ok (.invokestatic 100, 3) := dk_184 0 100 (dk_at dksX4_gone_1 8 rfl rfl)
theorem dX4_gone_34 : decode cX4_gone 34 = .ok (.ifCond .eq 26, 3) := dk_153 0 26 (dk_at dksX4_gone_1 11 rfl rfl)
theorem dX4_gone_37 : decode cX4_gone 37 = .ok (.iload 4, 2) := dk_21 4 (dk_at dksX4_gone_1 14 rfl rfl)
theorem dX4_gone_39 : decode cX4_gone 39 = .ok (.i2l, 1) := dk_133 (dk_at dksX4_gone_1 16 rfl rfl)
theorem dX4_gone_40 : decode cX4_gone 40 = .ok (.lconst 0, 1) := dk_9 (dk_at dksX4_gone_1 17 rfl rfl)
theorem dX4_gone_41 : decode cX4_gone 41 = .ok (.ldc2_w 111, 3) := dk_20 0 111 (dk_at dksX4_gone_1 18 rfl rfl)
theorem dX4_gone_44 : decode cX4_gone 44 = .ok (.invokestatic 100, 3) := dk_184 0 100 (dk_at dksX4_gone_1 21 rfl rfl)
theorem dX4_gone_47 : decode cX4_gone 47 = .ok (.ifCond .eq 13, 3) := dk_153 0 13 (dk_at dksX4_gone_2 0 rfl rfl)
theorem dX4_gone_50 : decode cX4_gone 50 = .ok (.bipush 10, 2) := dk_16 10 (dk_at dksX4_gone_2 3 rfl rfl)
theorem dX4_gone_52 : decode cX4_gone 52 = .ok (.iload_n 3, 1) := dk_29 (dk_at dksX4_gone_2 5 rfl rfl)
theorem dX4_gone_53 : decode cX4_gone 53 = .ok (.imul, 1) := dk_104 (dk_at dksX4_gone_2 6 rfl rfl)
theorem dX4_gone_54 : decode cX4_gone 54 = .ok (.iload 4, 2) := dk_21 4 (dk_at dksX4_gone_2 7 rfl rfl)
theorem dX4_gone_56 : decode cX4_gone 56 = .ok (.iadd, 1) := dk_96 (dk_at dksX4_gone_2 9 rfl rfl)
theorem dX4_gone_57 : decode cX4_gone 57 = .ok (.goto 5, 3) := dk_167 0 5 (dk_at dksX4_gone_2 10 rfl rfl)
theorem dX4_gone_60 : decode cX4_gone 60 = .ok (.bipush (-4), 2) := dk_16 252 (dk_at dksX4_gone_2 13 rfl rfl)
theorem dX4_gone_62 : decode cX4_gone 62 = .ok (.ireturn, 1) := dk_172 (dk_at dksX4_gone_2 15 rfl rfl)
abbrev cX4_rowStep : ByteArray := prog_14_method_5_code
def yX4_rowStep : MethodName := ⟨RX4, "rowStep", "(I)I"⟩
def dkwX4_rowStep_1 : List UInt8 := [162, 0, 7, 4, 167, 0, 4, 3, 172]
abbrev dktX4_rowStep_1 : List UInt8 := dkwX4_rowStep_1 ++ []
def dkwX4_rowStep_0 : List UInt8 := [26, 16, 7, 159, 0, 8, 26, 5, 162, 0, 7, 2, 167, 0, 19, 26, 5, 164, 0, 13, 26, 16, 6]
abbrev dktX4_rowStep_0 : List UInt8 := dkwX4_rowStep_0 ++ dktX4_rowStep_1
theorem dksX4_rowStep_0 : cX4_rowStep.data.toList.drop 0 = dktX4_rowStep_0 := by decide +kernel
theorem dksX4_rowStep_1 : cX4_rowStep.data.toList.drop 23 = dktX4_rowStep_1 := dk_seg dksX4_rowStep_0 23 rfl rfl
theorem dX4_rowStep_0 : decode cX4_rowStep 0 = .ok (.iload_n 0, 1) := dk_26 (dk_at dksX4_rowStep_0 0 rfl rfl)
theorem dX4_rowStep_1 : decode cX4_rowStep 1 = .ok (.bipush 7, 2) := dk_16 7 (dk_at dksX4_rowStep_0 1 rfl rfl)
theorem dX4_rowStep_3 : decode cX4_rowStep 3 = .ok (.if_icmp .eq 8, 3) := dk_159 0 8 (dk_at dksX4_rowStep_0 3 rfl rfl)
theorem dX4_rowStep_6 : decode cX4_rowStep 6 = .ok (.iload_n 0, 1) := dk_26 (dk_at dksX4_rowStep_0 6 rfl rfl)
theorem dX4_rowStep_7 : decode cX4_rowStep 7 = .ok (.iconst 2, 1) := dk_5 (dk_at dksX4_rowStep_0 7 rfl rfl)
theorem dX4_rowStep_8 : decode cX4_rowStep 8 = .ok (.if_icmp .ge 7, 3) := dk_162 0 7 (dk_at dksX4_rowStep_0 8 rfl rfl)
theorem dX4_rowStep_11 : decode cX4_rowStep 11 = .ok (.iconst (-1), 1) := dk_2 (dk_at dksX4_rowStep_0 11 rfl rfl)
theorem dX4_rowStep_12 : decode cX4_rowStep 12 = .ok (.goto 19, 3) := dk_167 0 19 (dk_at dksX4_rowStep_0 12 rfl rfl)
theorem dX4_rowStep_15 : decode cX4_rowStep 15 = .ok (.iload_n 0, 1) := dk_26 (dk_at dksX4_rowStep_0 15 rfl rfl)
theorem dX4_rowStep_16 : decode cX4_rowStep 16 = .ok (.iconst 2, 1) := dk_5 (dk_at dksX4_rowStep_0 16 rfl rfl)
theorem dX4_rowStep_17 : decode cX4_rowStep 17 = .ok (.if_icmp .le 13, 3) := dk_164 0 13 (dk_at dksX4_rowStep_0 17 rfl rfl)
theorem dX4_rowStep_20 : decode cX4_rowStep 20 = .ok (.iload_n 0, 1) := dk_26 (dk_at dksX4_rowStep_0 20 rfl rfl)
theorem dX4_rowStep_21 : decode cX4_rowStep 21 = .ok (.bipush 6, 2) := dk_16 6 (dk_at dksX4_rowStep_0 21 rfl rfl)
theorem dX4_rowStep_23 : decode cX4_rowStep 23 = .ok (.if_icmp .ge 7, 3) := dk_162 0 7 (dk_at dksX4_rowStep_1 0 rfl rfl)
theorem dX4_rowStep_26 : decode cX4_rowStep 26 = .ok (.iconst 1, 1) := dk_4 (dk_at dksX4_rowStep_1 3 rfl rfl)
theorem dX4_rowStep_27 : decode cX4_rowStep 27 = .ok (.goto 4, 3) := dk_167 0 4 (dk_at dksX4_rowStep_1 4 rfl rfl)
theorem dX4_rowStep_30 : decode cX4_rowStep 30 = .ok (.iconst 0, 1) := dk_3 (dk_at dksX4_rowStep_1 7 rfl rfl)
theorem dX4_rowStep_31 : decode cX4_rowStep 31 = .ok (.ireturn, 1) := dk_172 (dk_at dksX4_rowStep_1 8 rfl rfl)
abbrev cX4_columnStep : ByteArray := prog_14_method_6_code
def yX4_columnStep : MethodName := ⟨RX4, "columnStep", "(I)I"⟩
def dkwX4_columnStep_1 : List UInt8 := [2, 167, 0, 4, 3, 172]
abbrev dktX4_columnStep_1 : List UInt8 := dkwX4_columnStep_1 ++ []
def dkwX4_columnStep_0 : List UInt8 := [26, 158, 0, 12, 26, 7, 162, 0, 7, 4, 167, 0, 19, 26, 7, 164, 0, 13, 26, 16, 8, 162, 0, 7]
abbrev dktX4_columnStep_0 : List UInt8 := dkwX4_columnStep_0 ++ dktX4_columnStep_1
theorem dksX4_columnStep_0 : cX4_columnStep.data.toList.drop 0 = dktX4_columnStep_0 := by decide +kernel
theorem dksX4_columnStep_1 : cX4_columnStep.data.toList.drop 24 = dktX4_columnStep_1 := dk_seg dksX4_columnStep_0 24 rfl rfl
theorem dX4_columnStep_0 : decode cX4_columnStep 0 = .ok (.iload_n 0, 1) := dk_26 (dk_at dksX4_columnStep_0 0 rfl rfl)
theorem dX4_columnStep_1 : decode cX4_columnStep 1 = .ok (.ifCond .le 12, 3) := dk_158 0 12 (dk_at dksX4_columnStep_0 1 rfl rfl)
theorem dX4_columnStep_4 : decode cX4_columnStep 4 = .ok (.iload_n 0, 1) := dk_26 (dk_at dksX4_columnStep_0 4 rfl rfl)
theorem dX4_columnStep_5 : decode cX4_columnStep 5 = .ok (.iconst 4, 1) := dk_7 (dk_at dksX4_columnStep_0 5 rfl rfl)
theorem dX4_columnStep_6 : decode cX4_columnStep 6 = .ok (.if_icmp .ge 7, 3) := dk_162 0 7 (dk_at dksX4_columnStep_0 6 rfl rfl)
theorem dX4_columnStep_9 : decode cX4_columnStep 9 = .ok (.iconst 1, 1) := dk_4 (dk_at dksX4_columnStep_0 9 rfl rfl)
theorem dX4_columnStep_10 : decode cX4_columnStep 10 = .ok (.goto 19, 3) := dk_167 0 19 (dk_at dksX4_columnStep_0 10 rfl rfl)
theorem dX4_columnStep_13 : decode cX4_columnStep 13 = .ok (.iload_n 0, 1) := dk_26 (dk_at dksX4_columnStep_0 13 rfl rfl)
theorem dX4_columnStep_14 : decode cX4_columnStep 14 = .ok (.iconst 4, 1) := dk_7 (dk_at dksX4_columnStep_0 14 rfl rfl)
theorem dX4_columnStep_15 : decode cX4_columnStep 15 = .ok (.if_icmp .le 13, 3) := dk_164 0 13 (dk_at dksX4_columnStep_0 15 rfl rfl)
theorem dX4_columnStep_18 : decode cX4_columnStep 18 = .ok (.iload_n 0, 1) := dk_26 (dk_at dksX4_columnStep_0 18 rfl rfl)
theorem dX4_columnStep_19 : decode cX4_columnStep 19 = .ok (.bipush 8, 2) := dk_16 8 (dk_at dksX4_columnStep_0 19 rfl rfl)
theorem dX4_columnStep_21 : decode cX4_columnStep 21 = .ok (.if_icmp .ge 7, 3) := dk_162 0 7 (dk_at dksX4_columnStep_0 21 rfl rfl)
theorem dX4_columnStep_24 : decode cX4_columnStep 24 = .ok (.iconst (-1), 1) := dk_2 (dk_at dksX4_columnStep_1 0 rfl rfl)
theorem dX4_columnStep_25 : decode cX4_columnStep 25 = .ok (.goto 4, 3) := dk_167 0 4 (dk_at dksX4_columnStep_1 1 rfl rfl)
theorem dX4_columnStep_28 : decode cX4_columnStep 28 = .ok (.iconst 0, 1) := dk_3 (dk_at dksX4_columnStep_1 4 rfl rfl)
theorem dX4_columnStep_29 : decode cX4_columnStep 29 = .ok (.ireturn, 1) := dk_172 (dk_at dksX4_columnStep_1 5 rfl rfl)
abbrev cX4_ringed : ByteArray := prog_14_method_19_code
def yX4_ringed : MethodName := ⟨RX4, "ringed", "(I)I"⟩
def dkwX4_ringed_6 : List UInt8 := [167, 0, 14, 21, 5, 4, 160, 0, 7, 4, 167, 0, 4, 3, 172]
abbrev dktX4_ringed_6 : List UInt8 := dkwX4_ringed_6 ++ []
def dkwX4_ringed_5 : List UInt8 := [180, 0, 13, 27, 46, 100, 54, 5, 21, 5, 156, 0, 7, 4, 167, 0, 23, 21, 5, 154, 0, 7, 5]
abbrev dktX4_ringed_5 : List UInt8 := dkwX4_ringed_5 ++ dktX4_ringed_6
def dkwX4_ringed_4 : List UInt8 := [28, 42, 180, 0, 13, 27, 46, 162, 0, 14, 42, 180, 0, 13, 27, 46, 28, 100, 167, 0, 11, 28, 42]
abbrev dktX4_ringed_4 : List UInt8 := dkwX4_ringed_4 ++ dktX4_ringed_5
def dkwX4_ringed_3 : List UInt8 := [5, 160, 0, 10, 28, 29, 163, 0, 5, 3, 172, 42, 180, 0, 13, 27, 46, 156, 0, 7, 2, 167, 0, 32]
abbrev dktX4_ringed_3 : List UInt8 := dkwX4_ringed_3 ++ dktX4_ringed_4
def dkwX4_ringed_2 : List UInt8 := [167, 0, 9, 42, 180, 0, 16, 27, 46, 54, 4, 21, 4, 4, 160, 0, 8, 28, 29, 162, 0, 14, 21, 4]
abbrev dktX4_ringed_2 : List UInt8 := dkwX4_ringed_2 ++ dktX4_ringed_3
def dkwX4_ringed_1 : List UInt8 := [61, 42, 42, 180, 0, 43, 27, 4, 100, 46, 182, 0, 119, 62, 42, 180, 0, 170, 153, 0, 7, 3]
abbrev dktX4_ringed_1 : List UInt8 := dkwX4_ringed_1 ++ dktX4_ringed_2
def dkwX4_ringed_0 : List UInt8 := [42, 180, 0, 167, 27, 122, 4, 126, 4, 160, 0, 5, 4, 172, 42, 42, 180, 0, 43, 27, 46, 182, 0, 119]
abbrev dktX4_ringed_0 : List UInt8 := dkwX4_ringed_0 ++ dktX4_ringed_1
theorem dksX4_ringed_0 : cX4_ringed.data.toList.drop 0 = dktX4_ringed_0 := by decide +kernel
theorem dksX4_ringed_1 : cX4_ringed.data.toList.drop 24 = dktX4_ringed_1 := dk_seg dksX4_ringed_0 24 rfl rfl
theorem dksX4_ringed_2 : cX4_ringed.data.toList.drop 46 = dktX4_ringed_2 := dk_seg dksX4_ringed_1 22 rfl rfl
theorem dksX4_ringed_3 : cX4_ringed.data.toList.drop 70 = dktX4_ringed_3 := dk_seg dksX4_ringed_2 24 rfl rfl
theorem dksX4_ringed_4 : cX4_ringed.data.toList.drop 94 = dktX4_ringed_4 := dk_seg dksX4_ringed_3 24 rfl rfl
theorem dksX4_ringed_5 : cX4_ringed.data.toList.drop 117 = dktX4_ringed_5 := dk_seg dksX4_ringed_4 23 rfl rfl
theorem dksX4_ringed_6 : cX4_ringed.data.toList.drop 140 = dktX4_ringed_6 := dk_seg dksX4_ringed_5 23 rfl rfl
theorem dX4_ringed_0 : decode cX4_ringed 0 = .ok (.aload_n 0, 1) := dk_42 (dk_at dksX4_ringed_0 0 rfl rfl)
theorem dX4_ringed_1 : decode cX4_ringed 1 = .ok (.getfield 167, 3) := dk_180 0 167 (dk_at dksX4_ringed_0 1 rfl rfl)
theorem dX4_ringed_4 : decode cX4_ringed 4 = .ok (.iload_n 1, 1) := dk_27 (dk_at dksX4_ringed_0 4 rfl rfl)
theorem dX4_ringed_5 : decode cX4_ringed 5 = .ok (.ishr, 1) := dk_122 (dk_at dksX4_ringed_0 5 rfl rfl)
theorem dX4_ringed_6 : decode cX4_ringed 6 = .ok (.iconst 1, 1) := dk_4 (dk_at dksX4_ringed_0 6 rfl rfl)
theorem dX4_ringed_7 : decode cX4_ringed 7 = .ok (.iand, 1) := dk_126 (dk_at dksX4_ringed_0 7 rfl rfl)
theorem dX4_ringed_8 : decode cX4_ringed 8 = .ok (.iconst 1, 1) := dk_4 (dk_at dksX4_ringed_0 8 rfl rfl)
theorem dX4_ringed_9 : decode cX4_ringed 9 = .ok (.if_icmp .ne 5, 3) := dk_160 0 5 (dk_at dksX4_ringed_0 9 rfl rfl)
theorem dX4_ringed_12 : decode cX4_ringed 12 = .ok (.iconst 1, 1) := dk_4 (dk_at dksX4_ringed_0 12 rfl rfl)
theorem dX4_ringed_13 : decode cX4_ringed 13 = .ok (.ireturn, 1) := dk_172 (dk_at dksX4_ringed_0 13 rfl rfl)
theorem dX4_ringed_14 : decode cX4_ringed 14 = .ok (.aload_n 0, 1) := dk_42 (dk_at dksX4_ringed_0 14 rfl rfl)
theorem dX4_ringed_15 : decode cX4_ringed 15 = .ok (.aload_n 0, 1) := dk_42 (dk_at dksX4_ringed_0 15 rfl rfl)
theorem dX4_ringed_16 : decode cX4_ringed 16 = .ok (.getfield 43, 3) := dk_180 0 43 (dk_at dksX4_ringed_0 16 rfl rfl)
theorem dX4_ringed_19 : decode cX4_ringed 19 = .ok (.iload_n 1, 1) := dk_27 (dk_at dksX4_ringed_0 19 rfl rfl)
theorem dX4_ringed_20 : decode cX4_ringed 20 = .ok (.iaload, 1) := dk_46 (dk_at dksX4_ringed_0 20 rfl rfl)
theorem dX4_ringed_21 : decode cX4_ringed 21 = .ok (.invokevirtual 119, 3) := dk_182 0 119 (dk_at dksX4_ringed_0 21 rfl rfl)
theorem dX4_ringed_24 : decode cX4_ringed 24 = .ok (.istore_n 2, 1) := dk_61 (dk_at dksX4_ringed_1 0 rfl rfl)
theorem dX4_ringed_25 : decode cX4_ringed 25 = .ok (.aload_n 0, 1) := dk_42 (dk_at dksX4_ringed_1 1 rfl rfl)
theorem dX4_ringed_26 : decode cX4_ringed 26 = .ok (.aload_n 0, 1) := dk_42 (dk_at dksX4_ringed_1 2 rfl rfl)
theorem dX4_ringed_27 : decode cX4_ringed 27 = .ok (.getfield 43, 3) := dk_180 0 43 (dk_at dksX4_ringed_1 3 rfl rfl)
theorem dX4_ringed_30 : decode cX4_ringed 30 = .ok (.iload_n 1, 1) := dk_27 (dk_at dksX4_ringed_1 6 rfl rfl)
theorem dX4_ringed_31 : decode cX4_ringed 31 = .ok (.iconst 1, 1) := dk_4 (dk_at dksX4_ringed_1 7 rfl rfl)
theorem dX4_ringed_32 : decode cX4_ringed 32 = .ok (.isub, 1) := dk_100 (dk_at dksX4_ringed_1 8 rfl rfl)
theorem dX4_ringed_33 : decode cX4_ringed 33 = .ok (.iaload, 1) := dk_46 (dk_at dksX4_ringed_1 9 rfl rfl)
theorem dX4_ringed_34 : decode cX4_ringed 34 = .ok (.invokevirtual 119, 3) := dk_182 0 119 (dk_at dksX4_ringed_1 10 rfl rfl)
theorem dX4_ringed_37 : decode cX4_ringed 37 = .ok (.istore_n 3, 1) := dk_62 (dk_at dksX4_ringed_1 13 rfl rfl)
theorem dX4_ringed_38 : decode cX4_ringed 38 = .ok (.aload_n 0, 1) := dk_42 (dk_at dksX4_ringed_1 14 rfl rfl)
theorem dX4_ringed_39 : decode cX4_ringed 39 = .ok (.getfield 170, 3) := dk_180 0 170 (dk_at dksX4_ringed_1 15 rfl rfl)
theorem dX4_ringed_42 : decode cX4_ringed 42 = .ok (.ifCond .eq 7, 3) := dk_153 0 7 (dk_at dksX4_ringed_1 18 rfl rfl)
theorem dX4_ringed_45 : decode cX4_ringed 45 = .ok (.iconst 0, 1) := dk_3 (dk_at dksX4_ringed_1 21 rfl rfl)
theorem dX4_ringed_46 : decode cX4_ringed 46 = .ok (.goto 9, 3) := dk_167 0 9 (dk_at dksX4_ringed_2 0 rfl rfl)
theorem dX4_ringed_49 : decode cX4_ringed 49 = .ok (.aload_n 0, 1) := dk_42 (dk_at dksX4_ringed_2 3 rfl rfl)
theorem dX4_ringed_50 : decode cX4_ringed 50 = .ok (.getfield 16, 3) := dk_180 0 16 (dk_at dksX4_ringed_2 4 rfl rfl)
theorem dX4_ringed_53 : decode cX4_ringed 53 = .ok (.iload_n 1, 1) := dk_27 (dk_at dksX4_ringed_2 7 rfl rfl)
theorem dX4_ringed_54 : decode cX4_ringed 54 = .ok (.iaload, 1) := dk_46 (dk_at dksX4_ringed_2 8 rfl rfl)
theorem dX4_ringed_55 : decode cX4_ringed 55 = .ok (.istore 4, 2) := dk_54 4 (dk_at dksX4_ringed_2 9 rfl rfl)
theorem dX4_ringed_57 : decode cX4_ringed 57 = .ok (.iload 4, 2) := dk_21 4 (dk_at dksX4_ringed_2 11 rfl rfl)
theorem dX4_ringed_59 : decode cX4_ringed 59 = .ok (.iconst 1, 1) := dk_4 (dk_at dksX4_ringed_2 13 rfl rfl)
theorem dX4_ringed_60 : decode cX4_ringed 60 = .ok (.if_icmp .ne 8, 3) := dk_160 0 8 (dk_at dksX4_ringed_2 14 rfl rfl)
theorem dX4_ringed_63 : decode cX4_ringed 63 = .ok (.iload_n 2, 1) := dk_28 (dk_at dksX4_ringed_2 17 rfl rfl)
theorem dX4_ringed_64 : decode cX4_ringed 64 = .ok (.iload_n 3, 1) := dk_29 (dk_at dksX4_ringed_2 18 rfl rfl)
theorem dX4_ringed_65 : decode cX4_ringed 65 = .ok (.if_icmp .ge 14, 3) := dk_162 0 14 (dk_at dksX4_ringed_2 19 rfl rfl)
theorem dX4_ringed_68 : decode cX4_ringed 68 = .ok (.iload 4, 2) := dk_21 4 (dk_at dksX4_ringed_2 22 rfl rfl)
theorem dX4_ringed_70 : decode cX4_ringed 70 = .ok (.iconst 2, 1) := dk_5 (dk_at dksX4_ringed_3 0 rfl rfl)
theorem dX4_ringed_71 : decode cX4_ringed 71 = .ok (.if_icmp .ne 10, 3) := dk_160 0 10 (dk_at dksX4_ringed_3 1 rfl rfl)
theorem dX4_ringed_74 : decode cX4_ringed 74 = .ok (.iload_n 2, 1) := dk_28 (dk_at dksX4_ringed_3 4 rfl rfl)
theorem dX4_ringed_75 : decode cX4_ringed 75 = .ok (.iload_n 3, 1) := dk_29 (dk_at dksX4_ringed_3 5 rfl rfl)
theorem dX4_ringed_76 : decode cX4_ringed 76 = .ok (.if_icmp .gt 5, 3) := dk_163 0 5 (dk_at dksX4_ringed_3 6 rfl rfl)
theorem dX4_ringed_79 : decode cX4_ringed 79 = .ok (.iconst 0, 1) := dk_3 (dk_at dksX4_ringed_3 9 rfl rfl)
theorem dX4_ringed_80 : decode cX4_ringed 80 = .ok (.ireturn, 1) := dk_172 (dk_at dksX4_ringed_3 10 rfl rfl)
theorem dX4_ringed_81 : decode cX4_ringed 81 = .ok (.aload_n 0, 1) := dk_42 (dk_at dksX4_ringed_3 11 rfl rfl)
theorem dX4_ringed_82 : decode cX4_ringed 82 = .ok (.getfield 13, 3) := dk_180 0 13 (dk_at dksX4_ringed_3 12 rfl rfl)
theorem dX4_ringed_85 : decode cX4_ringed 85 = .ok (.iload_n 1, 1) := dk_27 (dk_at dksX4_ringed_3 15 rfl rfl)
theorem dX4_ringed_86 : decode cX4_ringed 86 = .ok (.iaload, 1) := dk_46 (dk_at dksX4_ringed_3 16 rfl rfl)
theorem dX4_ringed_87 : decode cX4_ringed 87 = .ok (.ifCond .ge 7, 3) := dk_156 0 7 (dk_at dksX4_ringed_3 17 rfl rfl)
theorem dX4_ringed_90 : decode cX4_ringed 90 = .ok (.iconst (-1), 1) := dk_2 (dk_at dksX4_ringed_3 20 rfl rfl)
theorem dX4_ringed_91 : decode cX4_ringed 91 = .ok (.goto 32, 3) := dk_167 0 32 (dk_at dksX4_ringed_3 21 rfl rfl)
theorem dX4_ringed_94 : decode cX4_ringed 94 = .ok (.iload_n 2, 1) := dk_28 (dk_at dksX4_ringed_4 0 rfl rfl)
theorem dX4_ringed_95 : decode cX4_ringed 95 = .ok (.aload_n 0, 1) := dk_42 (dk_at dksX4_ringed_4 1 rfl rfl)
theorem dX4_ringed_96 : decode cX4_ringed 96 = .ok (.getfield 13, 3) := dk_180 0 13 (dk_at dksX4_ringed_4 2 rfl rfl)
theorem dX4_ringed_99 : decode cX4_ringed 99 = .ok (.iload_n 1, 1) := dk_27 (dk_at dksX4_ringed_4 5 rfl rfl)
theorem dX4_ringed_100 : decode cX4_ringed 100 = .ok (.iaload, 1) := dk_46 (dk_at dksX4_ringed_4 6 rfl rfl)
theorem dX4_ringed_101 : decode cX4_ringed 101 = .ok (.if_icmp .ge 14, 3) := dk_162 0 14 (dk_at dksX4_ringed_4 7 rfl rfl)
theorem dX4_ringed_104 : decode cX4_ringed 104 = .ok (.aload_n 0, 1) := dk_42 (dk_at dksX4_ringed_4 10 rfl rfl)
theorem dX4_ringed_105 : decode cX4_ringed 105 = .ok (.getfield 13, 3) := dk_180 0 13 (dk_at dksX4_ringed_4 11 rfl rfl)
theorem dX4_ringed_108 : decode cX4_ringed 108 = .ok (.iload_n 1, 1) := dk_27 (dk_at dksX4_ringed_4 14 rfl rfl)
theorem dX4_ringed_109 : decode cX4_ringed 109 = .ok (.iaload, 1) := dk_46 (dk_at dksX4_ringed_4 15 rfl rfl)
theorem dX4_ringed_110 : decode cX4_ringed 110 = .ok (.iload_n 2, 1) := dk_28 (dk_at dksX4_ringed_4 16 rfl rfl)
theorem dX4_ringed_111 : decode cX4_ringed 111 = .ok (.isub, 1) := dk_100 (dk_at dksX4_ringed_4 17 rfl rfl)
theorem dX4_ringed_112 : decode cX4_ringed 112 = .ok (.goto 11, 3) := dk_167 0 11 (dk_at dksX4_ringed_4 18 rfl rfl)
theorem dX4_ringed_115 : decode cX4_ringed 115 = .ok (.iload_n 2, 1) := dk_28 (dk_at dksX4_ringed_4 21 rfl rfl)
theorem dX4_ringed_116 : decode cX4_ringed 116 = .ok (.aload_n 0, 1) := dk_42 (dk_at dksX4_ringed_4 22 rfl rfl)
theorem dX4_ringed_117 : decode cX4_ringed 117 = .ok (.getfield 13, 3) := dk_180 0 13 (dk_at dksX4_ringed_5 0 rfl rfl)
theorem dX4_ringed_120 : decode cX4_ringed 120 = .ok (.iload_n 1, 1) := dk_27 (dk_at dksX4_ringed_5 3 rfl rfl)
theorem dX4_ringed_121 : decode cX4_ringed 121 = .ok (.iaload, 1) := dk_46 (dk_at dksX4_ringed_5 4 rfl rfl)
theorem dX4_ringed_122 : decode cX4_ringed 122 = .ok (.isub, 1) := dk_100 (dk_at dksX4_ringed_5 5 rfl rfl)
theorem dX4_ringed_123 : decode cX4_ringed 123 = .ok (.istore 5, 2) := dk_54 5 (dk_at dksX4_ringed_5 6 rfl rfl)
theorem dX4_ringed_125 : decode cX4_ringed 125 = .ok (.iload 5, 2) := dk_21 5 (dk_at dksX4_ringed_5 8 rfl rfl)
theorem dX4_ringed_127 : decode cX4_ringed 127 = .ok (.ifCond .ge 7, 3) := dk_156 0 7 (dk_at dksX4_ringed_5 10 rfl rfl)
theorem dX4_ringed_130 : decode cX4_ringed 130 = .ok (.iconst 1, 1) := dk_4 (dk_at dksX4_ringed_5 13 rfl rfl)
theorem dX4_ringed_131 : decode cX4_ringed 131 = .ok (.goto 23, 3) := dk_167 0 23 (dk_at dksX4_ringed_5 14 rfl rfl)
theorem dX4_ringed_134 : decode cX4_ringed 134 = .ok (.iload 5, 2) := dk_21 5 (dk_at dksX4_ringed_5 17 rfl rfl)
theorem dX4_ringed_136 : decode cX4_ringed 136 = .ok (.ifCond .ne 7, 3) := dk_154 0 7 (dk_at dksX4_ringed_5 19 rfl rfl)
theorem dX4_ringed_139 : decode cX4_ringed 139 = .ok (.iconst 2, 1) := dk_5 (dk_at dksX4_ringed_5 22 rfl rfl)
theorem dX4_ringed_140 : decode cX4_ringed 140 = .ok (.goto 14, 3) := dk_167 0 14 (dk_at dksX4_ringed_6 0 rfl rfl)
theorem dX4_ringed_143 : decode cX4_ringed 143 = .ok (.iload 5, 2) := dk_21 5 (dk_at dksX4_ringed_6 3 rfl rfl)
theorem dX4_ringed_145 : decode cX4_ringed 145 = .ok (.iconst 1, 1) := dk_4 (dk_at dksX4_ringed_6 5 rfl rfl)
theorem dX4_ringed_146 : decode cX4_ringed 146 = .ok (.if_icmp .ne 7, 3) := dk_160 0 7 (dk_at dksX4_ringed_6 6 rfl rfl)
theorem dX4_ringed_149 : decode cX4_ringed 149 = .ok (.iconst 1, 1) := dk_4 (dk_at dksX4_ringed_6 9 rfl rfl)
theorem dX4_ringed_150 : decode cX4_ringed 150 = .ok (.goto 4, 3) := dk_167 0 4 (dk_at dksX4_ringed_6 10 rfl rfl)
theorem dX4_ringed_153 : decode cX4_ringed 153 = .ok (.iconst 0, 1) := dk_3 (dk_at dksX4_ringed_6 13 rfl rfl)
theorem dX4_ringed_154 : decode cX4_ringed 154 = .ok (.ireturn, 1) := dk_172 (dk_at dksX4_ringed_6 14 rfl rfl)
abbrev cX4_weight : ByteArray := prog_14_method_25_code
def yX4_weight : MethodName := ⟨RX4, "weight", "()J"⟩
def dkwX4_weight_1 : List UInt8 := [64, 167, 255, 241, 31, 173]
abbrev dktX4_weight_1 : List UInt8 := dkwX4_weight_1 ++ []
def dkwX4_weight_0 : List UInt8 := [42, 182, 0, 187, 42, 182, 0, 190, 9, 64, 42, 182, 0, 193, 153, 0, 14, 31, 42, 182, 0, 196, 133, 97]
abbrev dktX4_weight_0 : List UInt8 := dkwX4_weight_0 ++ dktX4_weight_1
theorem dksX4_weight_0 : cX4_weight.data.toList.drop 0 = dktX4_weight_0 := by decide +kernel
theorem dksX4_weight_1 : cX4_weight.data.toList.drop 24 = dktX4_weight_1 := dk_seg dksX4_weight_0 24 rfl rfl
theorem dX4_weight_0 : decode cX4_weight 0 = .ok (.aload_n 0, 1) := dk_42 (dk_at dksX4_weight_0 0 rfl rfl)
theorem dX4_weight_1 : decode cX4_weight 1 = .ok (.invokevirtual 187, 3) := dk_182 0 187 (dk_at dksX4_weight_0 1 rfl rfl)
theorem dX4_weight_4 : decode cX4_weight 4 = .ok (.aload_n 0, 1) := dk_42 (dk_at dksX4_weight_0 4 rfl rfl)
theorem dX4_weight_5 : decode cX4_weight 5 = .ok (.invokevirtual 190, 3) := dk_182 0 190 (dk_at dksX4_weight_0 5 rfl rfl)
theorem dX4_weight_8 : decode cX4_weight 8 = .ok (.lconst 0, 1) := dk_9 (dk_at dksX4_weight_0 8 rfl rfl)
theorem dX4_weight_9 : decode cX4_weight 9 = .ok (.lstore_n 1, 1) := dk_64 (dk_at dksX4_weight_0 9 rfl rfl)
theorem dX4_weight_10 : decode cX4_weight 10 = .ok (.aload_n 0, 1) := dk_42 (dk_at dksX4_weight_0 10 rfl rfl)
theorem dX4_weight_11 : decode cX4_weight 11 = .ok (.invokevirtual 193, 3) := dk_182 0 193 (dk_at dksX4_weight_0 11 rfl rfl)
theorem dX4_weight_14 : decode cX4_weight 14 = .ok (.ifCond .eq 14, 3) := dk_153 0 14 (dk_at dksX4_weight_0 14 rfl rfl)
theorem dX4_weight_17 : decode cX4_weight 17 = .ok (.lload_n 1, 1) := dk_31 (dk_at dksX4_weight_0 17 rfl rfl)
theorem dX4_weight_18 : decode cX4_weight 18 = .ok (.aload_n 0, 1) := dk_42 (dk_at dksX4_weight_0 18 rfl rfl)
theorem dX4_weight_19 : decode cX4_weight 19 = .ok (.invokevirtual 196, 3) := dk_182 0 196 (dk_at dksX4_weight_0 19 rfl rfl)
theorem dX4_weight_22 : decode cX4_weight 22 = .ok (.i2l, 1) := dk_133 (dk_at dksX4_weight_0 22 rfl rfl)
theorem dX4_weight_23 : decode cX4_weight 23 = .ok (.ladd, 1) := dk_97 (dk_at dksX4_weight_0 23 rfl rfl)
theorem dX4_weight_24 : decode cX4_weight 24 = .ok (.lstore_n 1, 1) := dk_64 (dk_at dksX4_weight_1 0 rfl rfl)
theorem dX4_weight_25 : decode cX4_weight 25 = .ok (.goto (-15), 3) := dk_167 255 241 (dk_at dksX4_weight_1 1 rfl rfl)
theorem dX4_weight_28 : decode cX4_weight 28 = .ok (.lload_n 1, 1) := dk_31 (dk_at dksX4_weight_1 4 rfl rfl)
theorem dX4_weight_29 : decode cX4_weight 29 = .ok (.lreturn, 1) := dk_173 (dk_at dksX4_weight_1 5 rfl rfl)
abbrev cX4_heavy : ByteArray := prog_14_method_22_code
def yX4_heavy : MethodName := ⟨RX4, "heavy", "()I"⟩
def dkwX4_heavy_2 : List UInt8 := [42, 180, 0, 61, 27, 46, 104, 172]
abbrev dktX4_heavy_2 : List UInt8 := dkwX4_heavy_2 ++ []
def dkwX4_heavy_1 : List UInt8 := [108, 61, 132, 3, 1, 167, 255, 239, 28, 42, 180, 0, 55, 27, 46, 158, 0, 7, 5, 167, 0, 4, 4, 108]
abbrev dktX4_heavy_1 : List UInt8 := dkwX4_heavy_1 ++ dktX4_heavy_2
def dkwX4_heavy_0 : List UInt8 := [42, 180, 0, 7, 5, 46, 60, 16, 32, 61, 3, 62, 29, 42, 180, 0, 52, 27, 46, 162, 0, 13, 28, 7]
abbrev dktX4_heavy_0 : List UInt8 := dkwX4_heavy_0 ++ dktX4_heavy_1
theorem dksX4_heavy_0 : cX4_heavy.data.toList.drop 0 = dktX4_heavy_0 := by decide +kernel
theorem dksX4_heavy_1 : cX4_heavy.data.toList.drop 24 = dktX4_heavy_1 := dk_seg dksX4_heavy_0 24 rfl rfl
theorem dksX4_heavy_2 : cX4_heavy.data.toList.drop 48 = dktX4_heavy_2 := dk_seg dksX4_heavy_1 24 rfl rfl
theorem dX4_heavy_0 : decode cX4_heavy 0 = .ok (.aload_n 0, 1) := dk_42 (dk_at dksX4_heavy_0 0 rfl rfl)
theorem dX4_heavy_1 : decode cX4_heavy 1 = .ok (.getfield 7, 3) := dk_180 0 7 (dk_at dksX4_heavy_0 1 rfl rfl)
theorem dX4_heavy_4 : decode cX4_heavy 4 = .ok (.iconst 2, 1) := dk_5 (dk_at dksX4_heavy_0 4 rfl rfl)
theorem dX4_heavy_5 : decode cX4_heavy 5 = .ok (.iaload, 1) := dk_46 (dk_at dksX4_heavy_0 5 rfl rfl)
theorem dX4_heavy_6 : decode cX4_heavy 6 = .ok (.istore_n 1, 1) := dk_60 (dk_at dksX4_heavy_0 6 rfl rfl)
theorem dX4_heavy_7 : decode cX4_heavy 7 = .ok (.bipush 32, 2) := dk_16 32 (dk_at dksX4_heavy_0 7 rfl rfl)
theorem dX4_heavy_9 : decode cX4_heavy 9 = .ok (.istore_n 2, 1) := dk_61 (dk_at dksX4_heavy_0 9 rfl rfl)
theorem dX4_heavy_10 : decode cX4_heavy 10 = .ok (.iconst 0, 1) := dk_3 (dk_at dksX4_heavy_0 10 rfl rfl)
theorem dX4_heavy_11 : decode cX4_heavy 11 = .ok (.istore_n 3, 1) := dk_62 (dk_at dksX4_heavy_0 11 rfl rfl)
theorem dX4_heavy_12 : decode cX4_heavy 12 = .ok (.iload_n 3, 1) := dk_29 (dk_at dksX4_heavy_0 12 rfl rfl)
theorem dX4_heavy_13 : decode cX4_heavy 13 = .ok (.aload_n 0, 1) := dk_42 (dk_at dksX4_heavy_0 13 rfl rfl)
theorem dX4_heavy_14 : decode cX4_heavy 14 = .ok (.getfield 52, 3) := dk_180 0 52 (dk_at dksX4_heavy_0 14 rfl rfl)
theorem dX4_heavy_17 : decode cX4_heavy 17 = .ok (.iload_n 1, 1) := dk_27 (dk_at dksX4_heavy_0 17 rfl rfl)
theorem dX4_heavy_18 : decode cX4_heavy 18 = .ok (.iaload, 1) := dk_46 (dk_at dksX4_heavy_0 18 rfl rfl)
theorem dX4_heavy_19 : decode cX4_heavy 19 = .ok (.if_icmp .ge 13, 3) := dk_162 0 13 (dk_at dksX4_heavy_0 19 rfl rfl)
theorem dX4_heavy_22 : decode cX4_heavy 22 = .ok (.iload_n 2, 1) := dk_28 (dk_at dksX4_heavy_0 22 rfl rfl)
theorem dX4_heavy_23 : decode cX4_heavy 23 = .ok (.iconst 4, 1) := dk_7 (dk_at dksX4_heavy_0 23 rfl rfl)
theorem dX4_heavy_24 : decode cX4_heavy 24 = .ok (.idiv, 1) := dk_108 (dk_at dksX4_heavy_1 0 rfl rfl)
theorem dX4_heavy_25 : decode cX4_heavy 25 = .ok (.istore_n 2, 1) := dk_61 (dk_at dksX4_heavy_1 1 rfl rfl)
theorem dX4_heavy_26 : decode cX4_heavy 26 = .ok (.iinc 3 1, 3) := dk_132 3 1 (dk_at dksX4_heavy_1 2 rfl rfl)
theorem dX4_heavy_29 : decode cX4_heavy 29 = .ok (.goto (-17), 3) := dk_167 255 239 (dk_at dksX4_heavy_1 5 rfl rfl)
theorem dX4_heavy_32 : decode cX4_heavy 32 = .ok (.iload_n 2, 1) := dk_28 (dk_at dksX4_heavy_1 8 rfl rfl)
theorem dX4_heavy_33 : decode cX4_heavy 33 = .ok (.aload_n 0, 1) := dk_42 (dk_at dksX4_heavy_1 9 rfl rfl)
theorem dX4_heavy_34 : decode cX4_heavy 34 = .ok (.getfield 55, 3) := dk_180 0 55 (dk_at dksX4_heavy_1 10 rfl rfl)
theorem dX4_heavy_37 : decode cX4_heavy 37 = .ok (.iload_n 1, 1) := dk_27 (dk_at dksX4_heavy_1 13 rfl rfl)
theorem dX4_heavy_38 : decode cX4_heavy 38 = .ok (.iaload, 1) := dk_46 (dk_at dksX4_heavy_1 14 rfl rfl)
theorem dX4_heavy_39 : decode cX4_heavy 39 = .ok (.ifCond .le 7, 3) := dk_158 0 7 (dk_at dksX4_heavy_1 15 rfl rfl)
theorem dX4_heavy_42 : decode cX4_heavy 42 = .ok (.iconst 2, 1) := dk_5 (dk_at dksX4_heavy_1 18 rfl rfl)
theorem dX4_heavy_43 : decode cX4_heavy 43 = .ok (.goto 4, 3) := dk_167 0 4 (dk_at dksX4_heavy_1 19 rfl rfl)
theorem dX4_heavy_46 : decode cX4_heavy 46 = .ok (.iconst 1, 1) := dk_4 (dk_at dksX4_heavy_1 22 rfl rfl)
theorem dX4_heavy_47 : decode cX4_heavy 47 = .ok (.idiv, 1) := dk_108 (dk_at dksX4_heavy_1 23 rfl rfl)
theorem dX4_heavy_48 : decode cX4_heavy 48 = .ok (.aload_n 0, 1) := dk_42 (dk_at dksX4_heavy_2 0 rfl rfl)
theorem dX4_heavy_49 : decode cX4_heavy 49 = .ok (.getfield 61, 3) := dk_180 0 61 (dk_at dksX4_heavy_2 1 rfl rfl)
theorem dX4_heavy_52 : decode cX4_heavy 52 = .ok (.iload_n 1, 1) := dk_27 (dk_at dksX4_heavy_2 4 rfl rfl)
theorem dX4_heavy_53 : decode cX4_heavy 53 = .ok (.iaload, 1) := dk_46 (dk_at dksX4_heavy_2 5 rfl rfl)
theorem dX4_heavy_54 : decode cX4_heavy 54 = .ok (.imul, 1) := dk_104 (dk_at dksX4_heavy_2 6 rfl rfl)
theorem dX4_heavy_55 : decode cX4_heavy 55 = .ok (.ireturn, 1) := dk_172 (dk_at dksX4_heavy_2 7 rfl rfl)
abbrev cX4_way : ByteArray := prog_14_method_27_code
def yX4_way : MethodName := ⟨RX4, "way", "(II)I"⟩
def dkwX4_way_3 : List UInt8 := [160, 0, 17, 42, 180, 0, 55, 42, 180, 0, 7, 5, 46, 46, 167, 0, 9, 42, 180, 0, 43, 28, 46, 172]
abbrev dktX4_way_3 : List UInt8 := dkwX4_way_3 ++ []
def dkwX4_way_2 : List UInt8 := [16, 254, 160, 0, 17, 42, 180, 0, 52, 42, 180, 0, 7, 5, 46, 46, 167, 0, 29, 28, 16, 253]
abbrev dktX4_way_2 : List UInt8 := dkwX4_way_2 ++ dktX4_way_3
def dkwX4_way_1 : List UInt8 := [42, 27, 182, 0, 201, 154, 0, 6, 16, 252, 172, 28, 2, 160, 0, 10, 42, 182, 0, 196, 167, 0, 49, 28]
abbrev dktX4_way_1 : List UInt8 := dkwX4_way_1 ++ dktX4_way_2
def dkwX4_way_0 : List UInt8 := [27, 155, 0, 21, 28, 133, 20, 0, 199, 42, 180, 0, 7, 5, 46, 133, 184, 0, 100, 154, 0, 5, 2, 172]
abbrev dktX4_way_0 : List UInt8 := dkwX4_way_0 ++ dktX4_way_1
theorem dksX4_way_0 : cX4_way.data.toList.drop 0 = dktX4_way_0 := by decide +kernel
theorem dksX4_way_1 : cX4_way.data.toList.drop 24 = dktX4_way_1 := dk_seg dksX4_way_0 24 rfl rfl
theorem dksX4_way_2 : cX4_way.data.toList.drop 48 = dktX4_way_2 := dk_seg dksX4_way_1 24 rfl rfl
theorem dksX4_way_3 : cX4_way.data.toList.drop 70 = dktX4_way_3 := dk_seg dksX4_way_2 22 rfl rfl
theorem dX4_way_0 : decode cX4_way 0 = .ok (.iload_n 1, 1) := dk_27 (dk_at dksX4_way_0 0 rfl rfl)
theorem dX4_way_1 : decode cX4_way 1 = .ok (.ifCond .lt 21, 3) := dk_155 0 21 (dk_at dksX4_way_0 1 rfl rfl)
theorem dX4_way_4 : decode cX4_way 4 = .ok (.iload_n 2, 1) := dk_28 (dk_at dksX4_way_0 4 rfl rfl)
theorem dX4_way_5 : decode cX4_way 5 = .ok (.i2l, 1) := dk_133 (dk_at dksX4_way_0 5 rfl rfl)
theorem dX4_way_6 : decode cX4_way 6 = .ok (.ldc2_w 199, 3) := dk_20 0 199 (dk_at dksX4_way_0 6 rfl rfl)
theorem dX4_way_9 : decode cX4_way 9 = .ok (.aload_n 0, 1) := dk_42 (dk_at dksX4_way_0 9 rfl rfl)
theorem dX4_way_10 : decode cX4_way 10 = .ok (.getfield 7, 3) := dk_180 0 7 (dk_at dksX4_way_0 10 rfl rfl)
theorem dX4_way_13 : decode cX4_way 13 = .ok (.iconst 2, 1) := dk_5 (dk_at dksX4_way_0 13 rfl rfl)
theorem dX4_way_14 : decode cX4_way 14 = .ok (.iaload, 1) := dk_46 (dk_at dksX4_way_0 14 rfl rfl)
theorem dX4_way_15 : decode cX4_way 15 = .ok (.i2l, 1) := dk_133 (dk_at dksX4_way_0 15 rfl rfl)
theorem dX4_way_16 : decode cX4_way 16 = .ok (.invokestatic 100, 3) := dk_184 0 100 (dk_at dksX4_way_0 16 rfl rfl)
theorem dX4_way_19 : decode cX4_way 19 = .ok (.ifCond .ne 5, 3) := dk_154 0 5 (dk_at dksX4_way_0 19 rfl rfl)
theorem dX4_way_22 : decode cX4_way 22 = .ok (.iconst (-1), 1) := dk_2 (dk_at dksX4_way_0 22 rfl rfl)
theorem dX4_way_23 : decode cX4_way 23 = .ok (.ireturn, 1) := dk_172 (dk_at dksX4_way_0 23 rfl rfl)
theorem dX4_way_24 : decode cX4_way 24 = .ok (.aload_n 0, 1) := dk_42 (dk_at dksX4_way_1 0 rfl rfl)
theorem dX4_way_25 : decode cX4_way 25 = .ok (.iload_n 1, 1) := dk_27 (dk_at dksX4_way_1 1 rfl rfl)
theorem dX4_way_26 : decode cX4_way 26 = .ok (.invokevirtual 201, 3) := dk_182 0 201 (dk_at dksX4_way_1 2 rfl rfl)
theorem dX4_way_29 : decode cX4_way 29 = .ok (.ifCond .ne 6, 3) := dk_154 0 6 (dk_at dksX4_way_1 5 rfl rfl)
theorem dX4_way_32 : decode cX4_way 32 = .ok (.bipush (-4), 2) := dk_16 252 (dk_at dksX4_way_1 8 rfl rfl)
theorem dX4_way_34 : decode cX4_way 34 = .ok (.ireturn, 1) := dk_172 (dk_at dksX4_way_1 10 rfl rfl)
theorem dX4_way_35 : decode cX4_way 35 = .ok (.iload_n 2, 1) := dk_28 (dk_at dksX4_way_1 11 rfl rfl)
theorem dX4_way_36 : decode cX4_way 36 = .ok (.iconst (-1), 1) := dk_2 (dk_at dksX4_way_1 12 rfl rfl)
theorem dX4_way_37 : decode cX4_way 37 = .ok (.if_icmp .ne 10, 3) := dk_160 0 10 (dk_at dksX4_way_1 13 rfl rfl)
theorem dX4_way_40 : decode cX4_way 40 = .ok (.aload_n 0, 1) := dk_42 (dk_at dksX4_way_1 16 rfl rfl)
theorem dX4_way_41 : decode cX4_way 41 = .ok (.invokevirtual 196, 3) := dk_182 0 196 (dk_at dksX4_way_1 17 rfl rfl)
theorem dX4_way_44 : decode cX4_way 44 = .ok (.goto 49, 3) := dk_167 0 49 (dk_at dksX4_way_1 20 rfl rfl)
theorem dX4_way_47 : decode cX4_way 47 = .ok (.iload_n 2, 1) := dk_28 (dk_at dksX4_way_1 23 rfl rfl)
theorem dX4_way_48 : decode cX4_way 48 = .ok (.bipush (-2), 2) := dk_16 254 (dk_at dksX4_way_2 0 rfl rfl)
theorem dX4_way_50 : decode cX4_way 50 = .ok (.if_icmp .ne 17, 3) := dk_160 0 17 (dk_at dksX4_way_2 2 rfl rfl)
theorem dX4_way_53 : decode cX4_way 53 = .ok (.aload_n 0, 1) := dk_42 (dk_at dksX4_way_2 5 rfl rfl)
theorem dX4_way_54 : decode cX4_way 54 = .ok (.getfield 52, 3) := dk_180 0 52 (dk_at dksX4_way_2 6 rfl rfl)
theorem dX4_way_57 : decode cX4_way 57 = .ok (.aload_n 0, 1) := dk_42 (dk_at dksX4_way_2 9 rfl rfl)
theorem dX4_way_58 : decode cX4_way 58 = .ok (.getfield 7, 3) := dk_180 0 7 (dk_at dksX4_way_2 10 rfl rfl)
theorem dX4_way_61 : decode cX4_way 61 = .ok (.iconst 2, 1) := dk_5 (dk_at dksX4_way_2 13 rfl rfl)
theorem dX4_way_62 : decode cX4_way 62 = .ok (.iaload, 1) := dk_46 (dk_at dksX4_way_2 14 rfl rfl)
theorem dX4_way_63 : decode cX4_way 63 = .ok (.iaload, 1) := dk_46 (dk_at dksX4_way_2 15 rfl rfl)
theorem dX4_way_64 : decode cX4_way 64 = .ok (.goto 29, 3) := dk_167 0 29 (dk_at dksX4_way_2 16 rfl rfl)
theorem dX4_way_67 : decode cX4_way 67 = .ok (.iload_n 2, 1) := dk_28 (dk_at dksX4_way_2 19 rfl rfl)
theorem dX4_way_68 : decode cX4_way 68 = .ok (.bipush (-3), 2) := dk_16 253 (dk_at dksX4_way_2 20 rfl rfl)
theorem dX4_way_70 : decode cX4_way 70 = .ok (.if_icmp .ne 17, 3) := dk_160 0 17 (dk_at dksX4_way_3 0 rfl rfl)
theorem dX4_way_73 : decode cX4_way 73 = .ok (.aload_n 0, 1) := dk_42 (dk_at dksX4_way_3 3 rfl rfl)
theorem dX4_way_74 : decode cX4_way 74 = .ok (.getfield 55, 3) := dk_180 0 55 (dk_at dksX4_way_3 4 rfl rfl)
theorem dX4_way_77 : decode cX4_way 77 = .ok (.aload_n 0, 1) := dk_42 (dk_at dksX4_way_3 7 rfl rfl)
theorem dX4_way_78 : decode cX4_way 78 = .ok (.getfield 7, 3) := dk_180 0 7 (dk_at dksX4_way_3 8 rfl rfl)
theorem dX4_way_81 : decode cX4_way 81 = .ok (.iconst 2, 1) := dk_5 (dk_at dksX4_way_3 11 rfl rfl)
theorem dX4_way_82 : decode cX4_way 82 = .ok (.iaload, 1) := dk_46 (dk_at dksX4_way_3 12 rfl rfl)
theorem dX4_way_83 : decode cX4_way 83 = .ok (.iaload, 1) := dk_46 (dk_at dksX4_way_3 13 rfl rfl)
theorem dX4_way_84 : decode cX4_way 84 = .ok (.goto 9, 3) := dk_167 0 9 (dk_at dksX4_way_3 14 rfl rfl)
theorem dX4_way_87 : decode cX4_way 87 = .ok (.aload_n 0, 1) := dk_42 (dk_at dksX4_way_3 17 rfl rfl)
theorem dX4_way_88 : decode cX4_way 88 = .ok (.getfield 43, 3) := dk_180 0 43 (dk_at dksX4_way_3 18 rfl rfl)
theorem dX4_way_91 : decode cX4_way 91 = .ok (.iload_n 2, 1) := dk_28 (dk_at dksX4_way_3 21 rfl rfl)
theorem dX4_way_92 : decode cX4_way 92 = .ok (.iaload, 1) := dk_46 (dk_at dksX4_way_3 22 rfl rfl)
theorem dX4_way_93 : decode cX4_way 93 = .ok (.ireturn, 1) := dk_172 (dk_at dksX4_way_3 23 rfl rfl)
abbrev cX4_finds : ByteArray := prog_14_method_26_code
def yX4_finds : MethodName := ⟨RX4, "finds", "(I)Z"⟩
def dkwX4_finds_1 : List UInt8 := [42, 182, 0, 193, 61, 132, 3, 1, 167, 255, 239, 28, 172]
abbrev dktX4_finds_1 : List UInt8 := dkwX4_finds_1 ++ []
def dkwX4_finds_0 : List UInt8 := [42, 182, 0, 187, 42, 182, 0, 190, 42, 182, 0, 193, 61, 3, 62, 29, 27, 162, 0, 18, 28, 153, 0, 14]
abbrev dktX4_finds_0 : List UInt8 := dkwX4_finds_0 ++ dktX4_finds_1
theorem dksX4_finds_0 : cX4_finds.data.toList.drop 0 = dktX4_finds_0 := by decide +kernel
theorem dksX4_finds_1 : cX4_finds.data.toList.drop 24 = dktX4_finds_1 := dk_seg dksX4_finds_0 24 rfl rfl
theorem dX4_finds_0 : decode cX4_finds 0 = .ok (.aload_n 0, 1) := dk_42 (dk_at dksX4_finds_0 0 rfl rfl)
theorem dX4_finds_1 : decode cX4_finds 1 = .ok (.invokevirtual 187, 3) := dk_182 0 187 (dk_at dksX4_finds_0 1 rfl rfl)
theorem dX4_finds_4 : decode cX4_finds 4 = .ok (.aload_n 0, 1) := dk_42 (dk_at dksX4_finds_0 4 rfl rfl)
theorem dX4_finds_5 : decode cX4_finds 5 = .ok (.invokevirtual 190, 3) := dk_182 0 190 (dk_at dksX4_finds_0 5 rfl rfl)
theorem dX4_finds_8 : decode cX4_finds 8 = .ok (.aload_n 0, 1) := dk_42 (dk_at dksX4_finds_0 8 rfl rfl)
theorem dX4_finds_9 : decode cX4_finds 9 = .ok (.invokevirtual 193, 3) := dk_182 0 193 (dk_at dksX4_finds_0 9 rfl rfl)
theorem dX4_finds_12 : decode cX4_finds 12 = .ok (.istore_n 2, 1) := dk_61 (dk_at dksX4_finds_0 12 rfl rfl)
theorem dX4_finds_13 : decode cX4_finds 13 = .ok (.iconst 0, 1) := dk_3 (dk_at dksX4_finds_0 13 rfl rfl)
theorem dX4_finds_14 : decode cX4_finds 14 = .ok (.istore_n 3, 1) := dk_62 (dk_at dksX4_finds_0 14 rfl rfl)
theorem dX4_finds_15 : decode cX4_finds 15 = .ok (.iload_n 3, 1) := dk_29 (dk_at dksX4_finds_0 15 rfl rfl)
theorem dX4_finds_16 : decode cX4_finds 16 = .ok (.iload_n 1, 1) := dk_27 (dk_at dksX4_finds_0 16 rfl rfl)
theorem dX4_finds_17 : decode cX4_finds 17 = .ok (.if_icmp .ge 18, 3) := dk_162 0 18 (dk_at dksX4_finds_0 17 rfl rfl)
theorem dX4_finds_20 : decode cX4_finds 20 = .ok (.iload_n 2, 1) := dk_28 (dk_at dksX4_finds_0 20 rfl rfl)
theorem dX4_finds_21 : decode cX4_finds 21 = .ok (.ifCond .eq 14, 3) := dk_153 0 14 (dk_at dksX4_finds_0 21 rfl rfl)
theorem dX4_finds_24 : decode cX4_finds 24 = .ok (.aload_n 0, 1) := dk_42 (dk_at dksX4_finds_1 0 rfl rfl)
theorem dX4_finds_25 : decode cX4_finds 25 = .ok (.invokevirtual 193, 3) := dk_182 0 193 (dk_at dksX4_finds_1 1 rfl rfl)
theorem dX4_finds_28 : decode cX4_finds 28 = .ok (.istore_n 2, 1) := dk_61 (dk_at dksX4_finds_1 4 rfl rfl)
theorem dX4_finds_29 : decode cX4_finds 29 = .ok (.iinc 3 1, 3) := dk_132 3 1 (dk_at dksX4_finds_1 5 rfl rfl)
theorem dX4_finds_32 : decode cX4_finds 32 = .ok (.goto (-17), 3) := dk_167 255 239 (dk_at dksX4_finds_1 8 rfl rfl)
theorem dX4_finds_35 : decode cX4_finds 35 = .ok (.iload_n 2, 1) := dk_28 (dk_at dksX4_finds_1 11 rfl rfl)
theorem dX4_finds_36 : decode cX4_finds 36 = .ok (.ireturn, 1) := dk_172 (dk_at dksX4_finds_1 12 rfl rfl)
abbrev cX4_may : ByteArray := prog_14_method_28_code
def yX4_may : MethodName := ⟨RX4, "may", "(II)I"⟩
def dkwX4_may_3 : List UInt8 := [16, 10, 112, 120, 167, 0, 4, 3, 128, 62, 167, 255, 218, 29, 172]
abbrev dktX4_may_3 : List UInt8 := dkwX4_may_3 ++ []
def dkwX4_may_2 : List UInt8 := [153, 0, 37, 29, 42, 180, 0, 43, 27, 46, 16, 10, 108, 28, 160, 0, 17, 4, 42, 180, 0, 43, 27, 46]
abbrev dktX4_may_2 : List UInt8 := dkwX4_may_2 ++ dktX4_may_3
def dkwX4_may_1 : List UInt8 := [184, 0, 100, 154, 0, 5, 2, 172, 42, 182, 0, 187, 42, 182, 0, 190, 3, 62, 42, 182, 0, 193]
abbrev dktX4_may_1 : List UInt8 := dkwX4_may_1 ++ dktX4_may_2
def dkwX4_may_0 : List UInt8 := [27, 133, 9, 42, 180, 0, 7, 5, 46, 133, 184, 0, 100, 153, 0, 15, 28, 133, 9, 20, 0, 111]
abbrev dktX4_may_0 : List UInt8 := dkwX4_may_0 ++ dktX4_may_1
theorem dksX4_may_0 : cX4_may.data.toList.drop 0 = dktX4_may_0 := by decide +kernel
theorem dksX4_may_1 : cX4_may.data.toList.drop 22 = dktX4_may_1 := dk_seg dksX4_may_0 22 rfl rfl
theorem dksX4_may_2 : cX4_may.data.toList.drop 44 = dktX4_may_2 := dk_seg dksX4_may_1 22 rfl rfl
theorem dksX4_may_3 : cX4_may.data.toList.drop 68 = dktX4_may_3 := dk_seg dksX4_may_2 24 rfl rfl
theorem dX4_may_0 : decode cX4_may 0 = .ok (.iload_n 1, 1) := dk_27 (dk_at dksX4_may_0 0 rfl rfl)
theorem dX4_may_1 : decode cX4_may 1 = .ok (.i2l, 1) := dk_133 (dk_at dksX4_may_0 1 rfl rfl)
theorem dX4_may_2 : decode cX4_may 2 = .ok (.lconst 0, 1) := dk_9 (dk_at dksX4_may_0 2 rfl rfl)
theorem dX4_may_3 : decode cX4_may 3 = .ok (.aload_n 0, 1) := dk_42 (dk_at dksX4_may_0 3 rfl rfl)
theorem dX4_may_4 : decode cX4_may 4 = .ok (.getfield 7, 3) := dk_180 0 7 (dk_at dksX4_may_0 4 rfl rfl)
theorem dX4_may_7 : decode cX4_may 7 = .ok (.iconst 2, 1) := dk_5 (dk_at dksX4_may_0 7 rfl rfl)
theorem dX4_may_8 : decode cX4_may 8 = .ok (.iaload, 1) := dk_46 (dk_at dksX4_may_0 8 rfl rfl)
theorem dX4_may_9 : decode cX4_may 9 = .ok (.i2l, 1) := dk_133 (dk_at dksX4_may_0 9 rfl rfl)
theorem dX4_may_10 : decode cX4_may 10 = .ok (.invokestatic 100, 3) := dk_184 0 100 (dk_at dksX4_may_0 10 rfl rfl)
theorem dX4_may_13 : decode cX4_may 13 = .ok (.ifCond .eq 15, 3) := dk_153 0 15 (dk_at dksX4_may_0 13 rfl rfl)
theorem dX4_may_16 : decode cX4_may 16 = .ok (.iload_n 2, 1) := dk_28 (dk_at dksX4_may_0 16 rfl rfl)
theorem dX4_may_17 : decode cX4_may 17 = .ok (.i2l, 1) := dk_133 (dk_at dksX4_may_0 17 rfl rfl)
theorem dX4_may_18 : decode cX4_may 18 = .ok (.lconst 0, 1) := dk_9 (dk_at dksX4_may_0 18 rfl rfl)
theorem dX4_may_19 : decode cX4_may 19 = .ok (.ldc2_w 111, 3) := dk_20 0 111 (dk_at dksX4_may_0 19 rfl rfl)
theorem dX4_may_22 : decode cX4_may 22 = .ok (.invokestatic 100, 3) := dk_184 0 100 (dk_at dksX4_may_1 0 rfl rfl)
theorem dX4_may_25 : decode cX4_may 25 = .ok (.ifCond .ne 5, 3) := dk_154 0 5 (dk_at dksX4_may_1 3 rfl rfl)
theorem dX4_may_28 : decode cX4_may 28 = .ok (.iconst (-1), 1) := dk_2 (dk_at dksX4_may_1 6 rfl rfl)
theorem dX4_may_29 : decode cX4_may 29 = .ok (.ireturn, 1) := dk_172 (dk_at dksX4_may_1 7 rfl rfl)
theorem dX4_may_30 : decode cX4_may 30 = .ok (.aload_n 0, 1) := dk_42 (dk_at dksX4_may_1 8 rfl rfl)
theorem dX4_may_31 : decode cX4_may 31 = .ok (.invokevirtual 187, 3) := dk_182 0 187 (dk_at dksX4_may_1 9 rfl rfl)
theorem dX4_may_34 : decode cX4_may 34 = .ok (.aload_n 0, 1) := dk_42 (dk_at dksX4_may_1 12 rfl rfl)
theorem dX4_may_35 : decode cX4_may 35 = .ok (.invokevirtual 190, 3) := dk_182 0 190 (dk_at dksX4_may_1 13 rfl rfl)
theorem dX4_may_38 : decode cX4_may 38 = .ok (.iconst 0, 1) := dk_3 (dk_at dksX4_may_1 16 rfl rfl)
theorem dX4_may_39 : decode cX4_may 39 = .ok (.istore_n 3, 1) := dk_62 (dk_at dksX4_may_1 17 rfl rfl)
theorem dX4_may_40 : decode cX4_may 40 = .ok (.aload_n 0, 1) := dk_42 (dk_at dksX4_may_1 18 rfl rfl)
theorem dX4_may_41 : decode cX4_may 41 = .ok (.invokevirtual 193, 3) := dk_182 0 193 (dk_at dksX4_may_1 19 rfl rfl)
theorem dX4_may_44 : decode cX4_may 44 = .ok (.ifCond .eq 37, 3) := dk_153 0 37 (dk_at dksX4_may_2 0 rfl rfl)
theorem dX4_may_47 : decode cX4_may 47 = .ok (.iload_n 3, 1) := dk_29 (dk_at dksX4_may_2 3 rfl rfl)
theorem dX4_may_48 : decode cX4_may 48 = .ok (.aload_n 0, 1) := dk_42 (dk_at dksX4_may_2 4 rfl rfl)
theorem dX4_may_49 : decode cX4_may 49 = .ok (.getfield 43, 3) := dk_180 0 43 (dk_at dksX4_may_2 5 rfl rfl)
theorem dX4_may_52 : decode cX4_may 52 = .ok (.iload_n 1, 1) := dk_27 (dk_at dksX4_may_2 8 rfl rfl)
theorem dX4_may_53 : decode cX4_may 53 = .ok (.iaload, 1) := dk_46 (dk_at dksX4_may_2 9 rfl rfl)
theorem dX4_may_54 : decode cX4_may 54 = .ok (.bipush 10, 2) := dk_16 10 (dk_at dksX4_may_2 10 rfl rfl)
theorem dX4_may_56 : decode cX4_may 56 = .ok (.idiv, 1) := dk_108 (dk_at dksX4_may_2 12 rfl rfl)
theorem dX4_may_57 : decode cX4_may 57 = .ok (.iload_n 2, 1) := dk_28 (dk_at dksX4_may_2 13 rfl rfl)
theorem dX4_may_58 : decode cX4_may 58 = .ok (.if_icmp .ne 17, 3) := dk_160 0 17 (dk_at dksX4_may_2 14 rfl rfl)
theorem dX4_may_61 : decode cX4_may 61 = .ok (.iconst 1, 1) := dk_4 (dk_at dksX4_may_2 17 rfl rfl)
theorem dX4_may_62 : decode cX4_may 62 = .ok (.aload_n 0, 1) := dk_42 (dk_at dksX4_may_2 18 rfl rfl)
theorem dX4_may_63 : decode cX4_may 63 = .ok (.getfield 43, 3) := dk_180 0 43 (dk_at dksX4_may_2 19 rfl rfl)
theorem dX4_may_66 : decode cX4_may 66 = .ok (.iload_n 1, 1) := dk_27 (dk_at dksX4_may_2 22 rfl rfl)
theorem dX4_may_67 : decode cX4_may 67 = .ok (.iaload, 1) := dk_46 (dk_at dksX4_may_2 23 rfl rfl)
theorem dX4_may_68 : decode cX4_may 68 = .ok (.bipush 10, 2) := dk_16 10 (dk_at dksX4_may_3 0 rfl rfl)
theorem dX4_may_70 : decode cX4_may 70 = .ok (.irem, 1) := dk_112 (dk_at dksX4_may_3 2 rfl rfl)
theorem dX4_may_71 : decode cX4_may 71 = .ok (.ishl, 1) := dk_120 (dk_at dksX4_may_3 3 rfl rfl)
theorem dX4_may_72 : decode cX4_may 72 = .ok (.goto 4, 3) := dk_167 0 4 (dk_at dksX4_may_3 4 rfl rfl)
theorem dX4_may_75 : decode cX4_may 75 = .ok (.iconst 0, 1) := dk_3 (dk_at dksX4_may_3 7 rfl rfl)
theorem dX4_may_76 : decode cX4_may 76 = .ok (.ior, 1) := dk_128 (dk_at dksX4_may_3 8 rfl rfl)
theorem dX4_may_77 : decode cX4_may 77 = .ok (.istore_n 3, 1) := dk_62 (dk_at dksX4_may_3 9 rfl rfl)
theorem dX4_may_78 : decode cX4_may 78 = .ok (.goto (-38), 3) := dk_167 255 218 (dk_at dksX4_may_3 10 rfl rfl)
theorem dX4_may_81 : decode cX4_may 81 = .ok (.iload_n 3, 1) := dk_29 (dk_at dksX4_may_3 13 rfl rfl)
theorem dX4_may_82 : decode cX4_may 82 = .ok (.ireturn, 1) := dk_172 (dk_at dksX4_may_3 14 rfl rfl)
abbrev cX4_cell : ByteArray := prog_14_method_29_code
def yX4_cell : MethodName := ⟨RX4, "cell", "(IIII)I"⟩
def dkwX4_cell_4 : List UInt8 := [79, 167, 0, 12, 42, 180, 0, 22, 21, 5, 21, 4, 79, 21, 6, 172]
abbrev dktX4_cell_4 : List UInt8 := dkwX4_cell_4 ++ []
def dkwX4_cell_3 : List UInt8 := [167, 0, 10, 42, 180, 0, 22, 21, 5, 46, 54, 6, 29, 154, 0, 15, 42, 180, 0, 19, 21, 5, 21, 4]
abbrev dktX4_cell_3 : List UInt8 := dkwX4_cell_3 ++ dktX4_cell_4
def dkwX4_cell_2 : List UInt8 := [154, 0, 5, 2, 172, 16, 100, 27, 104, 28, 96, 54, 5, 29, 154, 0, 13, 42, 180, 0, 19, 21, 5, 46]
abbrev dktX4_cell_2 : List UInt8 := dkwX4_cell_2 ++ dktX4_cell_3
def dkwX4_cell_1 : List UInt8 := [153, 0, 26, 21, 4, 133, 9, 29, 154, 0, 9, 20, 0, 130, 167, 0, 6, 20, 0, 111, 184, 0, 100]
abbrev dktX4_cell_1 : List UInt8 := dkwX4_cell_1 ++ dktX4_cell_2
def dkwX4_cell_0 : List UInt8 := [27, 133, 9, 10, 184, 0, 100, 153, 0, 43, 28, 184, 0, 115, 153, 0, 36, 29, 133, 9, 10, 184, 0, 100]
abbrev dktX4_cell_0 : List UInt8 := dkwX4_cell_0 ++ dktX4_cell_1
theorem dksX4_cell_0 : cX4_cell.data.toList.drop 0 = dktX4_cell_0 := by decide +kernel
theorem dksX4_cell_1 : cX4_cell.data.toList.drop 24 = dktX4_cell_1 := dk_seg dksX4_cell_0 24 rfl rfl
theorem dksX4_cell_2 : cX4_cell.data.toList.drop 47 = dktX4_cell_2 := dk_seg dksX4_cell_1 23 rfl rfl
theorem dksX4_cell_3 : cX4_cell.data.toList.drop 71 = dktX4_cell_3 := dk_seg dksX4_cell_2 24 rfl rfl
theorem dksX4_cell_4 : cX4_cell.data.toList.drop 95 = dktX4_cell_4 := dk_seg dksX4_cell_3 24 rfl rfl
theorem dX4_cell_0 : decode cX4_cell 0 = .ok (.iload_n 1, 1) := dk_27 (dk_at dksX4_cell_0 0 rfl rfl)
theorem dX4_cell_1 : decode cX4_cell 1 = .ok (.i2l, 1) := dk_133 (dk_at dksX4_cell_0 1 rfl rfl)
theorem dX4_cell_2 : decode cX4_cell 2 = .ok (.lconst 0, 1) := dk_9 (dk_at dksX4_cell_0 2 rfl rfl)
theorem dX4_cell_3 : decode cX4_cell 3 = .ok (.lconst 1, 1) := dk_10 (dk_at dksX4_cell_0 3 rfl rfl)
theorem dX4_cell_4 : decode cX4_cell 4 = .ok (.invokestatic 100, 3) := dk_184 0 100 (dk_at dksX4_cell_0 4 rfl rfl)
theorem dX4_cell_7 : decode cX4_cell 7 = .ok (.ifCond .eq 43, 3) := dk_153 0 43 (dk_at dksX4_cell_0 7 rfl rfl)
theorem dX4_cell_10 : decode cX4_cell 10 = .ok (.iload_n 2, 1) := dk_28 (dk_at dksX4_cell_0 10 rfl rfl)
theorem dX4_cell_11 : decode cX4_cell 11 = .ok (.invokestatic 115, 3) := dk_184 0 115 (dk_at dksX4_cell_0 11 rfl rfl)
theorem dX4_cell_14 : decode cX4_cell 14 = .ok (.ifCond .eq 36, 3) := dk_153 0 36 (dk_at dksX4_cell_0 14 rfl rfl)
theorem dX4_cell_17 : decode cX4_cell 17 = .ok (.iload_n 3, 1) := dk_29 (dk_at dksX4_cell_0 17 rfl rfl)
theorem dX4_cell_18 : decode cX4_cell 18 = .ok (.i2l, 1) := dk_133 (dk_at dksX4_cell_0 18 rfl rfl)
theorem dX4_cell_19 : decode cX4_cell 19 = .ok (.lconst 0, 1) := dk_9 (dk_at dksX4_cell_0 19 rfl rfl)
theorem dX4_cell_20 : decode cX4_cell 20 = .ok (.lconst 1, 1) := dk_10 (dk_at dksX4_cell_0 20 rfl rfl)
theorem dX4_cell_21 : decode cX4_cell 21 = .ok (.invokestatic 100, 3) := dk_184 0 100 (dk_at dksX4_cell_0 21 rfl rfl)
theorem dX4_cell_24 : decode cX4_cell 24 = .ok (.ifCond .eq 26, 3) := dk_153 0 26 (dk_at dksX4_cell_1 0 rfl rfl)
theorem dX4_cell_27 : decode cX4_cell 27 = .ok (.iload 4, 2) := dk_21 4 (dk_at dksX4_cell_1 3 rfl rfl)
theorem dX4_cell_29 : decode cX4_cell 29 = .ok (.i2l, 1) := dk_133 (dk_at dksX4_cell_1 5 rfl rfl)
theorem dX4_cell_30 : decode cX4_cell 30 = .ok (.lconst 0, 1) := dk_9 (dk_at dksX4_cell_1 6 rfl rfl)
theorem dX4_cell_31 : decode cX4_cell 31 = .ok (.iload_n 3, 1) := dk_29 (dk_at dksX4_cell_1 7 rfl rfl)
theorem dX4_cell_32 : decode cX4_cell 32 = .ok (.ifCond .ne 9, 3) := dk_154 0 9 (dk_at dksX4_cell_1 8 rfl rfl)
theorem dX4_cell_35 : decode cX4_cell 35 = .ok (.ldc2_w 130, 3) := dk_20 0 130 (dk_at dksX4_cell_1 11 rfl rfl)
theorem dX4_cell_38 : decode cX4_cell 38 = .ok (.goto 6, 3) := dk_167 0 6 (dk_at dksX4_cell_1 14 rfl rfl)
theorem dX4_cell_41 : decode cX4_cell 41 = .ok (.ldc2_w 111, 3) := dk_20 0 111 (dk_at dksX4_cell_1 17 rfl rfl)
theorem dX4_cell_44 : decode cX4_cell 44 = .ok (.invokestatic 100, 3) := dk_184 0 100 (dk_at dksX4_cell_1 20 rfl rfl)
theorem dX4_cell_47 : decode cX4_cell 47 = .ok (.ifCond .ne 5, 3) := dk_154 0 5 (dk_at dksX4_cell_2 0 rfl rfl)
theorem dX4_cell_50 : decode cX4_cell 50 = .ok (.iconst (-1), 1) := dk_2 (dk_at dksX4_cell_2 3 rfl rfl)
theorem dX4_cell_51 : decode cX4_cell 51 = .ok (.ireturn, 1) := dk_172 (dk_at dksX4_cell_2 4 rfl rfl)
theorem dX4_cell_52 : decode cX4_cell 52 = .ok (.bipush 100, 2) := dk_16 100 (dk_at dksX4_cell_2 5 rfl rfl)
theorem dX4_cell_54 : decode cX4_cell 54 = .ok (.iload_n 1, 1) := dk_27 (dk_at dksX4_cell_2 7 rfl rfl)
theorem dX4_cell_55 : decode cX4_cell 55 = .ok (.imul, 1) := dk_104 (dk_at dksX4_cell_2 8 rfl rfl)
theorem dX4_cell_56 : decode cX4_cell 56 = .ok (.iload_n 2, 1) := dk_28 (dk_at dksX4_cell_2 9 rfl rfl)
theorem dX4_cell_57 : decode cX4_cell 57 = .ok (.iadd, 1) := dk_96 (dk_at dksX4_cell_2 10 rfl rfl)
theorem dX4_cell_58 : decode cX4_cell 58 = .ok (.istore 5, 2) := dk_54 5 (dk_at dksX4_cell_2 11 rfl rfl)
theorem dX4_cell_60 : decode cX4_cell 60 = .ok (.iload_n 3, 1) := dk_29 (dk_at dksX4_cell_2 13 rfl rfl)
theorem dX4_cell_61 : decode cX4_cell 61 = .ok (.ifCond .ne 13, 3) := dk_154 0 13 (dk_at dksX4_cell_2 14 rfl rfl)
theorem dX4_cell_64 : decode cX4_cell 64 = .ok (.aload_n 0, 1) := dk_42 (dk_at dksX4_cell_2 17 rfl rfl)
theorem dX4_cell_65 : decode cX4_cell 65 = .ok (.getfield 19, 3) := dk_180 0 19 (dk_at dksX4_cell_2 18 rfl rfl)
theorem dX4_cell_68 : decode cX4_cell 68 = .ok (.iload 5, 2) := dk_21 5 (dk_at dksX4_cell_2 21 rfl rfl)
theorem dX4_cell_70 : decode cX4_cell 70 = .ok (.iaload, 1) := dk_46 (dk_at dksX4_cell_2 23 rfl rfl)
theorem dX4_cell_71 : decode cX4_cell 71 = .ok (.goto 10, 3) := dk_167 0 10 (dk_at dksX4_cell_3 0 rfl rfl)
theorem dX4_cell_74 : decode cX4_cell 74 = .ok (.aload_n 0, 1) := dk_42 (dk_at dksX4_cell_3 3 rfl rfl)
theorem dX4_cell_75 : decode cX4_cell 75 = .ok (.getfield 22, 3) := dk_180 0 22 (dk_at dksX4_cell_3 4 rfl rfl)
theorem dX4_cell_78 : decode cX4_cell 78 = .ok (.iload 5, 2) := dk_21 5 (dk_at dksX4_cell_3 7 rfl rfl)
theorem dX4_cell_80 : decode cX4_cell 80 = .ok (.iaload, 1) := dk_46 (dk_at dksX4_cell_3 9 rfl rfl)
theorem dX4_cell_81 : decode cX4_cell 81 = .ok (.istore 6, 2) := dk_54 6 (dk_at dksX4_cell_3 10 rfl rfl)
theorem dX4_cell_83 : decode cX4_cell 83 = .ok (.iload_n 3, 1) := dk_29 (dk_at dksX4_cell_3 12 rfl rfl)
theorem dX4_cell_84 : decode cX4_cell 84 = .ok (.ifCond .ne 15, 3) := dk_154 0 15 (dk_at dksX4_cell_3 13 rfl rfl)
theorem dX4_cell_87 : decode cX4_cell 87 = .ok (.aload_n 0, 1) := dk_42 (dk_at dksX4_cell_3 16 rfl rfl)
theorem dX4_cell_88 : decode cX4_cell 88 = .ok (.getfield 19, 3) := dk_180 0 19 (dk_at dksX4_cell_3 17 rfl rfl)
theorem dX4_cell_91 : decode cX4_cell 91 = .ok (.iload 5, 2) := dk_21 5 (dk_at dksX4_cell_3 20 rfl rfl)
theorem dX4_cell_93 : decode cX4_cell 93 = .ok (.iload 4, 2) := dk_21 4 (dk_at dksX4_cell_3 22 rfl rfl)
theorem dX4_cell_95 : decode cX4_cell 95 = .ok (.iastore, 1) := dk_79 (dk_at dksX4_cell_4 0 rfl rfl)
theorem dX4_cell_96 : decode cX4_cell 96 = .ok (.goto 12, 3) := dk_167 0 12 (dk_at dksX4_cell_4 1 rfl rfl)
theorem dX4_cell_99 : decode cX4_cell 99 = .ok (.aload_n 0, 1) := dk_42 (dk_at dksX4_cell_4 4 rfl rfl)
theorem dX4_cell_100 : decode cX4_cell 100 = .ok (.getfield 22, 3) := dk_180 0 22 (dk_at dksX4_cell_4 5 rfl rfl)
theorem dX4_cell_103 : decode cX4_cell 103 = .ok (.iload 5, 2) := dk_21 5 (dk_at dksX4_cell_4 8 rfl rfl)
theorem dX4_cell_105 : decode cX4_cell 105 = .ok (.iload 4, 2) := dk_21 4 (dk_at dksX4_cell_4 10 rfl rfl)
theorem dX4_cell_107 : decode cX4_cell 107 = .ok (.iastore, 1) := dk_79 (dk_at dksX4_cell_4 12 rfl rfl)
theorem dX4_cell_108 : decode cX4_cell 108 = .ok (.iload 6, 2) := dk_21 6 (dk_at dksX4_cell_4 13 rfl rfl)
theorem dX4_cell_110 : decode cX4_cell 110 = .ok (.ireturn, 1) := dk_172 (dk_at dksX4_cell_4 15 rfl rfl)
abbrev cX4_depth : ByteArray := prog_14_method_30_code
def yX4_depth : MethodName := ⟨RX4, "depth", "(II)I"⟩
def dkwX4_depth_1 : List UInt8 := [180, 0, 25, 27, 46, 62, 42, 180, 0, 25, 27, 28, 79, 29, 172]
abbrev dktX4_depth_1 : List UInt8 := dkwX4_depth_1 ++ []
def dkwX4_depth_0 : List UInt8 := [27, 184, 0, 115, 153, 0, 15, 28, 133, 10, 20, 0, 111, 184, 0, 100, 154, 0, 5, 2, 172, 42]
abbrev dktX4_depth_0 : List UInt8 := dkwX4_depth_0 ++ dktX4_depth_1
theorem dksX4_depth_0 : cX4_depth.data.toList.drop 0 = dktX4_depth_0 := by decide +kernel
theorem dksX4_depth_1 : cX4_depth.data.toList.drop 22 = dktX4_depth_1 := dk_seg dksX4_depth_0 22 rfl rfl
theorem dX4_depth_0 : decode cX4_depth 0 = .ok (.iload_n 1, 1) := dk_27 (dk_at dksX4_depth_0 0 rfl rfl)
theorem dX4_depth_1 : decode cX4_depth 1 = .ok (.invokestatic 115, 3) := dk_184 0 115 (dk_at dksX4_depth_0 1 rfl rfl)
theorem dX4_depth_4 : decode cX4_depth 4 = .ok (.ifCond .eq 15, 3) := dk_153 0 15 (dk_at dksX4_depth_0 4 rfl rfl)
theorem dX4_depth_7 : decode cX4_depth 7 = .ok (.iload_n 2, 1) := dk_28 (dk_at dksX4_depth_0 7 rfl rfl)
theorem dX4_depth_8 : decode cX4_depth 8 = .ok (.i2l, 1) := dk_133 (dk_at dksX4_depth_0 8 rfl rfl)
theorem dX4_depth_9 : decode cX4_depth 9 = .ok (.lconst 1, 1) := dk_10 (dk_at dksX4_depth_0 9 rfl rfl)
theorem dX4_depth_10 : decode cX4_depth 10 = .ok (.ldc2_w 111, 3) := dk_20 0 111 (dk_at dksX4_depth_0 10 rfl rfl)
theorem dX4_depth_13 : decode cX4_depth 13 = .ok (.invokestatic 100, 3) := dk_184 0 100 (dk_at dksX4_depth_0 13 rfl rfl)
theorem dX4_depth_16 : decode cX4_depth 16 = .ok (.ifCond .ne 5, 3) := dk_154 0 5 (dk_at dksX4_depth_0 16 rfl rfl)
theorem dX4_depth_19 : decode cX4_depth 19 = .ok (.iconst (-1), 1) := dk_2 (dk_at dksX4_depth_0 19 rfl rfl)
theorem dX4_depth_20 : decode cX4_depth 20 = .ok (.ireturn, 1) := dk_172 (dk_at dksX4_depth_0 20 rfl rfl)
theorem dX4_depth_21 : decode cX4_depth 21 = .ok (.aload_n 0, 1) := dk_42 (dk_at dksX4_depth_0 21 rfl rfl)
theorem dX4_depth_22 : decode cX4_depth 22 = .ok (.getfield 25, 3) := dk_180 0 25 (dk_at dksX4_depth_1 0 rfl rfl)
theorem dX4_depth_25 : decode cX4_depth 25 = .ok (.iload_n 1, 1) := dk_27 (dk_at dksX4_depth_1 3 rfl rfl)
theorem dX4_depth_26 : decode cX4_depth 26 = .ok (.iaload, 1) := dk_46 (dk_at dksX4_depth_1 4 rfl rfl)
theorem dX4_depth_27 : decode cX4_depth 27 = .ok (.istore_n 3, 1) := dk_62 (dk_at dksX4_depth_1 5 rfl rfl)
theorem dX4_depth_28 : decode cX4_depth 28 = .ok (.aload_n 0, 1) := dk_42 (dk_at dksX4_depth_1 6 rfl rfl)
theorem dX4_depth_29 : decode cX4_depth 29 = .ok (.getfield 25, 3) := dk_180 0 25 (dk_at dksX4_depth_1 7 rfl rfl)
theorem dX4_depth_32 : decode cX4_depth 32 = .ok (.iload_n 1, 1) := dk_27 (dk_at dksX4_depth_1 10 rfl rfl)
theorem dX4_depth_33 : decode cX4_depth 33 = .ok (.iload_n 2, 1) := dk_28 (dk_at dksX4_depth_1 11 rfl rfl)
theorem dX4_depth_34 : decode cX4_depth 34 = .ok (.iastore, 1) := dk_79 (dk_at dksX4_depth_1 12 rfl rfl)
theorem dX4_depth_35 : decode cX4_depth 35 = .ok (.iload_n 3, 1) := dk_29 (dk_at dksX4_depth_1 13 rfl rfl)
theorem dX4_depth_36 : decode cX4_depth 36 = .ok (.ireturn, 1) := dk_172 (dk_at dksX4_depth_1 14 rfl rfl)
abbrev cX4_piece : ByteArray := prog_14_method_31_code
def yX4_piece : MethodName := ⟨RX4, "piece", "(IIIII)I"⟩
def dkwX4_piece_6 : List UInt8 := [4, 100, 172]
abbrev dktX4_piece_6 : List UInt8 := dkwX4_piece_6 ++ []
def dkwX4_piece_5 : List UInt8 := [180, 0, 64, 21, 6, 7, 96, 21, 5, 79, 42, 89, 180, 0, 206, 4, 96, 181, 0, 206, 42, 180, 0, 206]
abbrev dktX4_piece_5 : List UInt8 := dkwX4_piece_5 ++ dktX4_piece_6
def dkwX4_piece_4 : List UInt8 := [42, 180, 0, 64, 21, 6, 5, 96, 29, 79, 42, 180, 0, 64, 21, 6, 6, 96, 21, 4, 79, 42]
abbrev dktX4_piece_4 : List UInt8 := dkwX4_piece_4 ++ dktX4_piece_5
def dkwX4_piece_3 : List UInt8 := [180, 0, 206, 104, 54, 6, 42, 180, 0, 64, 21, 6, 27, 79, 42, 180, 0, 64, 21, 6, 4, 96, 28, 79]
abbrev dktX4_piece_3 : List UInt8 := dkwX4_piece_3 ++ dktX4_piece_4
def dkwX4_piece_2 : List UInt8 := [20, 0, 111, 184, 0, 100, 154, 0, 5, 2, 172, 42, 180, 0, 206, 7, 160, 0, 6, 16, 253, 172, 8, 42]
abbrev dktX4_piece_2 : List UInt8 := dkwX4_piece_2 ++ dktX4_piece_3
def dkwX4_piece_1 : List UInt8 := [184, 0, 100, 153, 0, 28, 21, 4, 133, 9, 28, 133, 184, 0, 100, 153, 0, 16, 21, 5, 133, 9]
abbrev dktX4_piece_1 : List UInt8 := dkwX4_piece_1 ++ dktX4_piece_2
def dkwX4_piece_0 : List UInt8 := [27, 184, 0, 115, 153, 0, 50, 28, 133, 10, 20, 0, 204, 184, 0, 100, 153, 0, 38, 29, 133, 9, 10]
abbrev dktX4_piece_0 : List UInt8 := dkwX4_piece_0 ++ dktX4_piece_1
theorem dksX4_piece_0 : cX4_piece.data.toList.drop 0 = dktX4_piece_0 := by decide +kernel
theorem dksX4_piece_1 : cX4_piece.data.toList.drop 23 = dktX4_piece_1 := dk_seg dksX4_piece_0 23 rfl rfl
theorem dksX4_piece_2 : cX4_piece.data.toList.drop 45 = dktX4_piece_2 := dk_seg dksX4_piece_1 22 rfl rfl
theorem dksX4_piece_3 : cX4_piece.data.toList.drop 69 = dktX4_piece_3 := dk_seg dksX4_piece_2 24 rfl rfl
theorem dksX4_piece_4 : cX4_piece.data.toList.drop 93 = dktX4_piece_4 := dk_seg dksX4_piece_3 24 rfl rfl
theorem dksX4_piece_5 : cX4_piece.data.toList.drop 115 = dktX4_piece_5 := dk_seg dksX4_piece_4 22 rfl rfl
theorem dksX4_piece_6 : cX4_piece.data.toList.drop 139 = dktX4_piece_6 := dk_seg dksX4_piece_5 24 rfl rfl
theorem dX4_piece_0 : decode cX4_piece 0 = .ok (.iload_n 1, 1) := dk_27 (dk_at dksX4_piece_0 0 rfl rfl)
theorem dX4_piece_1 : decode cX4_piece 1 = .ok (.invokestatic 115, 3) := dk_184 0 115 (dk_at dksX4_piece_0 1 rfl rfl)
theorem dX4_piece_4 : decode cX4_piece 4 = .ok (.ifCond .eq 50, 3) := dk_153 0 50 (dk_at dksX4_piece_0 4 rfl rfl)
theorem dX4_piece_7 : decode cX4_piece 7 = .ok (.iload_n 2, 1) := dk_28 (dk_at dksX4_piece_0 7 rfl rfl)
theorem dX4_piece_8 : decode cX4_piece 8 = .ok (.i2l, 1) := dk_133 (dk_at dksX4_piece_0 8 rfl rfl)
theorem dX4_piece_9 : decode cX4_piece 9 = .ok (.lconst 1, 1) := dk_10 (dk_at dksX4_piece_0 9 rfl rfl)
theorem dX4_piece_10 : decode cX4_piece 10 = .ok (.ldc2_w 204, 3) := dk_20 0 204 (dk_at dksX4_piece_0 10 rfl rfl)
theorem dX4_piece_13 : decode cX4_piece 13 = .ok (.invokestatic 100, 3) := dk_184 0 100 (dk_at dksX4_piece_0 13 rfl rfl)
theorem dX4_piece_16 : decode cX4_piece 16 = .ok (.ifCond .eq 38, 3) := dk_153 0 38 (dk_at dksX4_piece_0 16 rfl rfl)
theorem dX4_piece_19 : decode cX4_piece 19 = .ok (.iload_n 3, 1) := dk_29 (dk_at dksX4_piece_0 19 rfl rfl)
theorem dX4_piece_20 : decode cX4_piece 20 = .ok (.i2l, 1) := dk_133 (dk_at dksX4_piece_0 20 rfl rfl)
theorem dX4_piece_21 : decode cX4_piece 21 = .ok (.lconst 0, 1) := dk_9 (dk_at dksX4_piece_0 21 rfl rfl)
theorem dX4_piece_22 : decode cX4_piece 22 = .ok (.lconst 1, 1) := dk_10 (dk_at dksX4_piece_0 22 rfl rfl)
theorem dX4_piece_23 : decode cX4_piece 23 = .ok (.invokestatic 100, 3) := dk_184 0 100 (dk_at dksX4_piece_1 0 rfl rfl)
theorem dX4_piece_26 : decode cX4_piece 26 = .ok (.ifCond .eq 28, 3) := dk_153 0 28 (dk_at dksX4_piece_1 3 rfl rfl)
theorem dX4_piece_29 : decode cX4_piece 29 = .ok (.iload 4, 2) := dk_21 4 (dk_at dksX4_piece_1 6 rfl rfl)
theorem dX4_piece_31 : decode cX4_piece 31 = .ok (.i2l, 1) := dk_133 (dk_at dksX4_piece_1 8 rfl rfl)
theorem dX4_piece_32 : decode cX4_piece 32 = .ok (.lconst 0, 1) := dk_9 (dk_at dksX4_piece_1 9 rfl rfl)
theorem dX4_piece_33 : decode cX4_piece 33 = .ok (.iload_n 2, 1) := dk_28 (dk_at dksX4_piece_1 10 rfl rfl)
theorem dX4_piece_34 : decode cX4_piece 34 = .ok (.i2l, 1) := dk_133 (dk_at dksX4_piece_1 11 rfl rfl)
theorem dX4_piece_35 : decode cX4_piece 35 = .ok (.invokestatic 100, 3) := dk_184 0 100 (dk_at dksX4_piece_1 12 rfl rfl)
theorem dX4_piece_38 : decode cX4_piece 38 = .ok (.ifCond .eq 16, 3) := dk_153 0 16 (dk_at dksX4_piece_1 15 rfl rfl)
theorem dX4_piece_41 : decode cX4_piece 41 = .ok (.iload 5, 2) := dk_21 5 (dk_at dksX4_piece_1 18 rfl rfl)
theorem dX4_piece_43 : decode cX4_piece 43 = .ok (.i2l, 1) := dk_133 (dk_at dksX4_piece_1 20 rfl rfl)
theorem dX4_piece_44 : decode cX4_piece 44 = .ok (.lconst 0, 1) := dk_9 (dk_at dksX4_piece_1 21 rfl rfl)
theorem dX4_piece_45 : decode cX4_piece 45 = .ok (.ldc2_w 111, 3) := dk_20 0 111 (dk_at dksX4_piece_2 0 rfl rfl)
theorem dX4_piece_48 : decode cX4_piece 48 = .ok (.invokestatic 100, 3) := dk_184 0 100 (dk_at dksX4_piece_2 3 rfl rfl)
theorem dX4_piece_51 : decode cX4_piece 51 = .ok (.ifCond .ne 5, 3) := dk_154 0 5 (dk_at dksX4_piece_2 6 rfl rfl)
theorem dX4_piece_54 : decode cX4_piece 54 = .ok (.iconst (-1), 1) := dk_2 (dk_at dksX4_piece_2 9 rfl rfl)
theorem dX4_piece_55 : decode cX4_piece 55 = .ok (.ireturn, 1) := dk_172 (dk_at dksX4_piece_2 10 rfl rfl)
theorem dX4_piece_56 : decode cX4_piece 56 = .ok (.aload_n 0, 1) := dk_42 (dk_at dksX4_piece_2 11 rfl rfl)
theorem dX4_piece_57 : decode cX4_piece 57 = .ok (.getfield 206, 3) := dk_180 0 206 (dk_at dksX4_piece_2 12 rfl rfl)
theorem dX4_piece_60 : decode cX4_piece 60 = .ok (.iconst 4, 1) := dk_7 (dk_at dksX4_piece_2 15 rfl rfl)
theorem dX4_piece_61 : decode cX4_piece 61 = .ok (.if_icmp .ne 6, 3) := dk_160 0 6 (dk_at dksX4_piece_2 16 rfl rfl)
theorem dX4_piece_64 : decode cX4_piece 64 = .ok (.bipush (-3), 2) := dk_16 253 (dk_at dksX4_piece_2 19 rfl rfl)
theorem dX4_piece_66 : decode cX4_piece 66 = .ok (.ireturn, 1) := dk_172 (dk_at dksX4_piece_2 21 rfl rfl)
theorem dX4_piece_67 : decode cX4_piece 67 = .ok (.iconst 5, 1) := dk_8 (dk_at dksX4_piece_2 22 rfl rfl)
theorem dX4_piece_68 : decode cX4_piece 68 = .ok (.aload_n 0, 1) := dk_42 (dk_at dksX4_piece_2 23 rfl rfl)
theorem dX4_piece_69 : decode cX4_piece 69 = .ok (.getfield 206, 3) := dk_180 0 206 (dk_at dksX4_piece_3 0 rfl rfl)
theorem dX4_piece_72 : decode cX4_piece 72 = .ok (.imul, 1) := dk_104 (dk_at dksX4_piece_3 3 rfl rfl)
theorem dX4_piece_73 : decode cX4_piece 73 = .ok (.istore 6, 2) := dk_54 6 (dk_at dksX4_piece_3 4 rfl rfl)
theorem dX4_piece_75 : decode cX4_piece 75 = .ok (.aload_n 0, 1) := dk_42 (dk_at dksX4_piece_3 6 rfl rfl)
theorem dX4_piece_76 : decode cX4_piece 76 = .ok (.getfield 64, 3) := dk_180 0 64 (dk_at dksX4_piece_3 7 rfl rfl)
theorem dX4_piece_79 : decode cX4_piece 79 = .ok (.iload 6, 2) := dk_21 6 (dk_at dksX4_piece_3 10 rfl rfl)
theorem dX4_piece_81 : decode cX4_piece 81 = .ok (.iload_n 1, 1) := dk_27 (dk_at dksX4_piece_3 12 rfl rfl)
theorem dX4_piece_82 : decode cX4_piece 82 = .ok (.iastore, 1) := dk_79 (dk_at dksX4_piece_3 13 rfl rfl)
theorem dX4_piece_83 : decode cX4_piece 83 = .ok (.aload_n 0, 1) := dk_42 (dk_at dksX4_piece_3 14 rfl rfl)
theorem dX4_piece_84 : decode cX4_piece 84 = .ok (.getfield 64, 3) := dk_180 0 64 (dk_at dksX4_piece_3 15 rfl rfl)
theorem dX4_piece_87 : decode cX4_piece 87 = .ok (.iload 6, 2) := dk_21 6 (dk_at dksX4_piece_3 18 rfl rfl)
theorem dX4_piece_89 : decode cX4_piece 89 = .ok (.iconst 1, 1) := dk_4 (dk_at dksX4_piece_3 20 rfl rfl)
theorem dX4_piece_90 : decode cX4_piece 90 = .ok (.iadd, 1) := dk_96 (dk_at dksX4_piece_3 21 rfl rfl)
theorem dX4_piece_91 : decode cX4_piece 91 = .ok (.iload_n 2, 1) := dk_28 (dk_at dksX4_piece_3 22 rfl rfl)
theorem dX4_piece_92 : decode cX4_piece 92 = .ok (.iastore, 1) := dk_79 (dk_at dksX4_piece_3 23 rfl rfl)
theorem dX4_piece_93 : decode cX4_piece 93 = .ok (.aload_n 0, 1) := dk_42 (dk_at dksX4_piece_4 0 rfl rfl)
theorem dX4_piece_94 : decode cX4_piece 94 = .ok (.getfield 64, 3) := dk_180 0 64 (dk_at dksX4_piece_4 1 rfl rfl)
theorem dX4_piece_97 : decode cX4_piece 97 = .ok (.iload 6, 2) := dk_21 6 (dk_at dksX4_piece_4 4 rfl rfl)
theorem dX4_piece_99 : decode cX4_piece 99 = .ok (.iconst 2, 1) := dk_5 (dk_at dksX4_piece_4 6 rfl rfl)
theorem dX4_piece_100 : decode cX4_piece 100 = .ok (.iadd, 1) := dk_96 (dk_at dksX4_piece_4 7 rfl rfl)
theorem dX4_piece_101 : decode cX4_piece 101 = .ok (.iload_n 3, 1) := dk_29 (dk_at dksX4_piece_4 8 rfl rfl)
theorem dX4_piece_102 : decode cX4_piece 102 = .ok (.iastore, 1) := dk_79 (dk_at dksX4_piece_4 9 rfl rfl)
theorem dX4_piece_103 : decode cX4_piece 103 = .ok (.aload_n 0, 1) := dk_42 (dk_at dksX4_piece_4 10 rfl rfl)
theorem dX4_piece_104 : decode cX4_piece 104 = .ok (.getfield 64, 3) := dk_180 0 64 (dk_at dksX4_piece_4 11 rfl rfl)
theorem dX4_piece_107 : decode cX4_piece 107 = .ok (.iload 6, 2) := dk_21 6 (dk_at dksX4_piece_4 14 rfl rfl)
theorem dX4_piece_109 : decode cX4_piece 109 = .ok (.iconst 3, 1) := dk_6 (dk_at dksX4_piece_4 16 rfl rfl)
theorem dX4_piece_110 : decode cX4_piece 110 = .ok (.iadd, 1) := dk_96 (dk_at dksX4_piece_4 17 rfl rfl)
theorem dX4_piece_111 : decode cX4_piece 111 = .ok (.iload 4, 2) := dk_21 4 (dk_at dksX4_piece_4 18 rfl rfl)
theorem dX4_piece_113 : decode cX4_piece 113 = .ok (.iastore, 1) := dk_79 (dk_at dksX4_piece_4 20 rfl rfl)
theorem dX4_piece_114 : decode cX4_piece 114 = .ok (.aload_n 0, 1) := dk_42 (dk_at dksX4_piece_4 21 rfl rfl)
theorem dX4_piece_115 : decode cX4_piece 115 = .ok (.getfield 64, 3) := dk_180 0 64 (dk_at dksX4_piece_5 0 rfl rfl)
theorem dX4_piece_118 : decode cX4_piece 118 = .ok (.iload 6, 2) := dk_21 6 (dk_at dksX4_piece_5 3 rfl rfl)
theorem dX4_piece_120 : decode cX4_piece 120 = .ok (.iconst 4, 1) := dk_7 (dk_at dksX4_piece_5 5 rfl rfl)
theorem dX4_piece_121 : decode cX4_piece 121 = .ok (.iadd, 1) := dk_96 (dk_at dksX4_piece_5 6 rfl rfl)
theorem dX4_piece_122 : decode cX4_piece 122 = .ok (.iload 5, 2) := dk_21 5 (dk_at dksX4_piece_5 7 rfl rfl)
theorem dX4_piece_124 : decode cX4_piece 124 = .ok (.iastore, 1) := dk_79 (dk_at dksX4_piece_5 9 rfl rfl)
theorem dX4_piece_125 : decode cX4_piece 125 = .ok (.aload_n 0, 1) := dk_42 (dk_at dksX4_piece_5 10 rfl rfl)
theorem dX4_piece_126 : decode cX4_piece 126 = .ok (.dup, 1) := dk_89 (dk_at dksX4_piece_5 11 rfl rfl)
theorem dX4_piece_127 : decode cX4_piece 127 = .ok (.getfield 206, 3) := dk_180 0 206 (dk_at dksX4_piece_5 12 rfl rfl)
theorem dX4_piece_130 : decode cX4_piece 130 = .ok (.iconst 1, 1) := dk_4 (dk_at dksX4_piece_5 15 rfl rfl)
theorem dX4_piece_131 : decode cX4_piece 131 = .ok (.iadd, 1) := dk_96 (dk_at dksX4_piece_5 16 rfl rfl)
theorem dX4_piece_132 : decode cX4_piece 132 = .ok (.putfield 206, 3) := dk_181 0 206 (dk_at dksX4_piece_5 17 rfl rfl)
theorem dX4_piece_135 : decode cX4_piece 135 = .ok (.aload_n 0, 1) := dk_42 (dk_at dksX4_piece_5 20 rfl rfl)
theorem dX4_piece_136 : decode cX4_piece 136 = .ok (.getfield 206, 3) := dk_180 0 206 (dk_at dksX4_piece_5 21 rfl rfl)
theorem dX4_piece_139 : decode cX4_piece 139 = .ok (.iconst 1, 1) := dk_4 (dk_at dksX4_piece_6 0 rfl rfl)
theorem dX4_piece_140 : decode cX4_piece 140 = .ok (.isub, 1) := dk_100 (dk_at dksX4_piece_6 1 rfl rfl)
theorem dX4_piece_141 : decode cX4_piece 141 = .ok (.ireturn, 1) := dk_172 (dk_at dksX4_piece_6 2 rfl rfl)
abbrev cX4_drift : ByteArray := prog_14_method_34_code
def yX4_drift : MethodName := ⟨RX4, "drift", "(III)I"⟩
def dkwX4_drift_1 : List UInt8 := [184, 0, 100, 153, 0, 13, 42, 27, 28, 29, 182, 0, 212, 167, 0, 4, 2, 172]
abbrev dktX4_drift_1 : List UInt8 := dkwX4_drift_1 ++ []
def dkwX4_drift_0 : List UInt8 := [27, 184, 0, 115, 153, 0, 35, 28, 133, 9, 20, 0, 204, 184, 0, 100, 153, 0, 23, 29, 133, 9, 10]
abbrev dktX4_drift_0 : List UInt8 := dkwX4_drift_0 ++ dktX4_drift_1
theorem dksX4_drift_0 : cX4_drift.data.toList.drop 0 = dktX4_drift_0 := by decide +kernel
theorem dksX4_drift_1 : cX4_drift.data.toList.drop 23 = dktX4_drift_1 := dk_seg dksX4_drift_0 23 rfl rfl
theorem dX4_drift_0 : decode cX4_drift 0 = .ok (.iload_n 1, 1) := dk_27 (dk_at dksX4_drift_0 0 rfl rfl)
theorem dX4_drift_1 : decode cX4_drift 1 = .ok (.invokestatic 115, 3) := dk_184 0 115 (dk_at dksX4_drift_0 1 rfl rfl)
theorem dX4_drift_4 : decode cX4_drift 4 = .ok (.ifCond .eq 35, 3) := dk_153 0 35 (dk_at dksX4_drift_0 4 rfl rfl)
theorem dX4_drift_7 : decode cX4_drift 7 = .ok (.iload_n 2, 1) := dk_28 (dk_at dksX4_drift_0 7 rfl rfl)
theorem dX4_drift_8 : decode cX4_drift 8 = .ok (.i2l, 1) := dk_133 (dk_at dksX4_drift_0 8 rfl rfl)
theorem dX4_drift_9 : decode cX4_drift 9 = .ok (.lconst 0, 1) := dk_9 (dk_at dksX4_drift_0 9 rfl rfl)
theorem dX4_drift_10 : decode cX4_drift 10 = .ok (.ldc2_w 204, 3) := dk_20 0 204 (dk_at dksX4_drift_0 10 rfl rfl)
theorem dX4_drift_13 : decode cX4_drift 13 = .ok (.invokestatic 100, 3) := dk_184 0 100 (dk_at dksX4_drift_0 13 rfl rfl)
theorem dX4_drift_16 : decode cX4_drift 16 = .ok (.ifCond .eq 23, 3) := dk_153 0 23 (dk_at dksX4_drift_0 16 rfl rfl)
theorem dX4_drift_19 : decode cX4_drift 19 = .ok (.iload_n 3, 1) := dk_29 (dk_at dksX4_drift_0 19 rfl rfl)
theorem dX4_drift_20 : decode cX4_drift 20 = .ok (.i2l, 1) := dk_133 (dk_at dksX4_drift_0 20 rfl rfl)
theorem dX4_drift_21 : decode cX4_drift 21 = .ok (.lconst 0, 1) := dk_9 (dk_at dksX4_drift_0 21 rfl rfl)
theorem dX4_drift_22 : decode cX4_drift 22 = .ok (.lconst 1, 1) := dk_10 (dk_at dksX4_drift_0 22 rfl rfl)
theorem dX4_drift_23 : decode cX4_drift 23 = .ok (.invokestatic 100, 3) := dk_184 0 100 (dk_at dksX4_drift_1 0 rfl rfl)
theorem dX4_drift_26 : decode cX4_drift 26 = .ok (.ifCond .eq 13, 3) := dk_153 0 13 (dk_at dksX4_drift_1 3 rfl rfl)
theorem dX4_drift_29 : decode cX4_drift 29 = .ok (.aload_n 0, 1) := dk_42 (dk_at dksX4_drift_1 6 rfl rfl)
theorem dX4_drift_30 : decode cX4_drift 30 = .ok (.iload_n 1, 1) := dk_27 (dk_at dksX4_drift_1 7 rfl rfl)
theorem dX4_drift_31 : decode cX4_drift 31 = .ok (.iload_n 2, 1) := dk_28 (dk_at dksX4_drift_1 8 rfl rfl)
theorem dX4_drift_32 : decode cX4_drift 32 = .ok (.iload_n 3, 1) := dk_29 (dk_at dksX4_drift_1 9 rfl rfl)
theorem dX4_drift_33 : decode cX4_drift 33 = .ok (.invokevirtual 212, 3) := dk_182 0 212 (dk_at dksX4_drift_1 10 rfl rfl)
theorem dX4_drift_36 : decode cX4_drift 36 = .ok (.goto 4, 3) := dk_167 0 4 (dk_at dksX4_drift_1 13 rfl rfl)
theorem dX4_drift_39 : decode cX4_drift 39 = .ok (.iconst (-1), 1) := dk_2 (dk_at dksX4_drift_1 16 rfl rfl)
theorem dX4_drift_40 : decode cX4_drift 40 = .ok (.ireturn, 1) := dk_172 (dk_at dksX4_drift_1 17 rfl rfl)
abbrev cX4_driftTo : ByteArray := prog_14_method_33_code
def yX4_driftTo : MethodName := ⟨RX4, "driftTo", "(III)I"⟩
def dkwX4_driftTo_1 : List UInt8 := [132, 5, 1, 167, 255, 236, 21, 4, 172]
abbrev dktX4_driftTo_1 : List UInt8 := dkwX4_driftTo_1 ++ []
def dkwX4_driftTo_0 : List UInt8 := [27, 54, 4, 3, 54, 5, 21, 5, 28, 162, 0, 20, 42, 21, 4, 21, 5, 29, 182, 0, 209, 54, 4]
abbrev dktX4_driftTo_0 : List UInt8 := dkwX4_driftTo_0 ++ dktX4_driftTo_1
theorem dksX4_driftTo_0 : cX4_driftTo.data.toList.drop 0 = dktX4_driftTo_0 := by decide +kernel
theorem dksX4_driftTo_1 : cX4_driftTo.data.toList.drop 23 = dktX4_driftTo_1 := dk_seg dksX4_driftTo_0 23 rfl rfl
theorem dX4_driftTo_0 : decode cX4_driftTo 0 = .ok (.iload_n 1, 1) := dk_27 (dk_at dksX4_driftTo_0 0 rfl rfl)
theorem dX4_driftTo_1 : decode cX4_driftTo 1 = .ok (.istore 4, 2) := dk_54 4 (dk_at dksX4_driftTo_0 1 rfl rfl)
theorem dX4_driftTo_3 : decode cX4_driftTo 3 = .ok (.iconst 0, 1) := dk_3 (dk_at dksX4_driftTo_0 3 rfl rfl)
theorem dX4_driftTo_4 : decode cX4_driftTo 4 = .ok (.istore 5, 2) := dk_54 5 (dk_at dksX4_driftTo_0 4 rfl rfl)
theorem dX4_driftTo_6 : decode cX4_driftTo 6 = .ok (.iload 5, 2) := dk_21 5 (dk_at dksX4_driftTo_0 6 rfl rfl)
theorem dX4_driftTo_8 : decode cX4_driftTo 8 = .ok (.iload_n 2, 1) := dk_28 (dk_at dksX4_driftTo_0 8 rfl rfl)
theorem dX4_driftTo_9 : decode cX4_driftTo 9 = .ok (.if_icmp .ge 20, 3) := dk_162 0 20 (dk_at dksX4_driftTo_0 9 rfl rfl)
theorem dX4_driftTo_12 : decode cX4_driftTo 12 = .ok (.aload_n 0, 1) := dk_42 (dk_at dksX4_driftTo_0 12 rfl rfl)
theorem dX4_driftTo_13 : decode cX4_driftTo 13 = .ok (.iload 4, 2) := dk_21 4 (dk_at dksX4_driftTo_0 13 rfl rfl)
theorem dX4_driftTo_15 : decode cX4_driftTo 15 = .ok (.iload 5, 2) := dk_21 5 (dk_at dksX4_driftTo_0 15 rfl rfl)
theorem dX4_driftTo_17 : decode cX4_driftTo 17 = .ok (.iload_n 3, 1) := dk_29 (dk_at dksX4_driftTo_0 17 rfl rfl)
theorem dX4_driftTo_18 : decode cX4_driftTo 18 = .ok (.invokevirtual 209, 3) := dk_182 0 209 (dk_at dksX4_driftTo_0 18 rfl rfl)
theorem dX4_driftTo_21 : decode cX4_driftTo 21 = .ok (.istore 4, 2) := dk_54 4 (dk_at dksX4_driftTo_0 21 rfl rfl)
theorem dX4_driftTo_23 : decode cX4_driftTo 23 = .ok (.iinc 5 1, 3) := dk_132 5 1 (dk_at dksX4_driftTo_1 0 rfl rfl)
theorem dX4_driftTo_26 : decode cX4_driftTo 26 = .ok (.goto (-20), 3) := dk_167 255 236 (dk_at dksX4_driftTo_1 3 rfl rfl)
theorem dX4_driftTo_29 : decode cX4_driftTo 29 = .ok (.iload 4, 2) := dk_21 4 (dk_at dksX4_driftTo_1 6 rfl rfl)
theorem dX4_driftTo_31 : decode cX4_driftTo 31 = .ok (.ireturn, 1) := dk_172 (dk_at dksX4_driftTo_1 8 rfl rfl)
abbrev cX4_drifted : ByteArray := prog_14_method_32_code
def yX4_drifted : MethodName := ⟨RX4, "drifted", "(III)I"⟩
def dkwX4_drifted_4 : List UInt8 := [167, 0, 5, 21, 6, 172]
abbrev dktX4_drifted_4 : List UInt8 := dkwX4_drifted_4 ++ []
def dkwX4_drifted_3 : List UInt8 := [21, 5, 42, 180, 0, 7, 16, 7, 46, 4, 184, 0, 173, 54, 6, 21, 6, 156, 0, 8, 21, 5]
abbrev dktX4_drifted_3 : List UInt8 := dkwX4_drifted_3 ++ dktX4_drifted_4
def dkwX4_drifted_2 : List UInt8 := [54, 5, 29, 153, 0, 15, 42, 180, 0, 7, 16, 7, 46, 16, 8, 160, 0, 8, 21, 5, 167, 0, 16]
abbrev dktX4_drifted_2 : List UInt8 := dkwX4_drifted_2 ++ dktX4_drifted_3
def dkwX4_drifted_1 : List UInt8 := [167, 0, 10, 27, 21, 4, 4, 184, 0, 173, 54, 5, 21, 5, 156, 0, 7, 27, 167, 0, 5, 21, 5]
abbrev dktX4_drifted_1 : List UInt8 := dkwX4_drifted_1 ++ dktX4_drifted_2
def dkwX4_drifted_0 : List UInt8 := [42, 180, 0, 19, 16, 100, 28, 5, 112, 104, 27, 96, 46, 54, 4, 21, 4, 16, 8, 160, 0, 7, 27]
abbrev dktX4_drifted_0 : List UInt8 := dkwX4_drifted_0 ++ dktX4_drifted_1
theorem dksX4_drifted_0 : cX4_drifted.data.toList.drop 0 = dktX4_drifted_0 := by decide +kernel
theorem dksX4_drifted_1 : cX4_drifted.data.toList.drop 23 = dktX4_drifted_1 := dk_seg dksX4_drifted_0 23 rfl rfl
theorem dksX4_drifted_2 : cX4_drifted.data.toList.drop 46 = dktX4_drifted_2 := dk_seg dksX4_drifted_1 23 rfl rfl
theorem dksX4_drifted_3 : cX4_drifted.data.toList.drop 69 = dktX4_drifted_3 := dk_seg dksX4_drifted_2 23 rfl rfl
theorem dksX4_drifted_4 : cX4_drifted.data.toList.drop 91 = dktX4_drifted_4 := dk_seg dksX4_drifted_3 22 rfl rfl
theorem dX4_drifted_0 : decode cX4_drifted 0 = .ok (.aload_n 0, 1) := dk_42 (dk_at dksX4_drifted_0 0 rfl rfl)
theorem dX4_drifted_1 : decode cX4_drifted 1 = .ok (.getfield 19, 3) := dk_180 0 19 (dk_at dksX4_drifted_0 1 rfl rfl)
theorem dX4_drifted_4 : decode cX4_drifted 4 = .ok (.bipush 100, 2) := dk_16 100 (dk_at dksX4_drifted_0 4 rfl rfl)
theorem dX4_drifted_6 : decode cX4_drifted 6 = .ok (.iload_n 2, 1) := dk_28 (dk_at dksX4_drifted_0 6 rfl rfl)
theorem dX4_drifted_7 : decode cX4_drifted 7 = .ok (.iconst 2, 1) := dk_5 (dk_at dksX4_drifted_0 7 rfl rfl)
theorem dX4_drifted_8 : decode cX4_drifted 8 = .ok (.irem, 1) := dk_112 (dk_at dksX4_drifted_0 8 rfl rfl)
theorem dX4_drifted_9 : decode cX4_drifted 9 = .ok (.imul, 1) := dk_104 (dk_at dksX4_drifted_0 9 rfl rfl)
theorem dX4_drifted_10 : decode cX4_drifted 10 = .ok (.iload_n 1, 1) := dk_27 (dk_at dksX4_drifted_0 10 rfl rfl)
theorem dX4_drifted_11 : decode cX4_drifted 11 = .ok (.iadd, 1) := dk_96 (dk_at dksX4_drifted_0 11 rfl rfl)
theorem dX4_drifted_12 : decode cX4_drifted 12 = .ok (.iaload, 1) := dk_46 (dk_at dksX4_drifted_0 12 rfl rfl)
theorem dX4_drifted_13 : decode cX4_drifted 13 = .ok (.istore 4, 2) := dk_54 4 (dk_at dksX4_drifted_0 13 rfl rfl)
theorem dX4_drifted_15 : decode cX4_drifted 15 = .ok (.iload 4, 2) := dk_21 4 (dk_at dksX4_drifted_0 15 rfl rfl)
theorem dX4_drifted_17 : decode cX4_drifted 17 = .ok (.bipush 8, 2) := dk_16 8 (dk_at dksX4_drifted_0 17 rfl rfl)
theorem dX4_drifted_19 : decode cX4_drifted 19 = .ok (.if_icmp .ne 7, 3) := dk_160 0 7 (dk_at dksX4_drifted_0 19 rfl rfl)
theorem dX4_drifted_22 : decode cX4_drifted 22 = .ok (.iload_n 1, 1) := dk_27 (dk_at dksX4_drifted_0 22 rfl rfl)
theorem dX4_drifted_23 : decode cX4_drifted 23 = .ok (.goto 10, 3) := dk_167 0 10 (dk_at dksX4_drifted_1 0 rfl rfl)
theorem dX4_drifted_26 : decode cX4_drifted 26 = .ok (.iload_n 1, 1) := dk_27 (dk_at dksX4_drifted_1 3 rfl rfl)
theorem dX4_drifted_27 : decode cX4_drifted 27 = .ok (.iload 4, 2) := dk_21 4 (dk_at dksX4_drifted_1 4 rfl rfl)
theorem dX4_drifted_29 : decode cX4_drifted 29 = .ok (.iconst 1, 1) := dk_4 (dk_at dksX4_drifted_1 6 rfl rfl)
theorem dX4_drifted_30 : decode cX4_drifted 30 = .ok (.invokestatic 173, 3) := dk_184 0 173 (dk_at dksX4_drifted_1 7 rfl rfl)
theorem dX4_drifted_33 : decode cX4_drifted 33 = .ok (.istore 5, 2) := dk_54 5 (dk_at dksX4_drifted_1 10 rfl rfl)
theorem dX4_drifted_35 : decode cX4_drifted 35 = .ok (.iload 5, 2) := dk_21 5 (dk_at dksX4_drifted_1 12 rfl rfl)
theorem dX4_drifted_37 : decode cX4_drifted 37 = .ok (.ifCond .ge 7, 3) := dk_156 0 7 (dk_at dksX4_drifted_1 14 rfl rfl)
theorem dX4_drifted_40 : decode cX4_drifted 40 = .ok (.iload_n 1, 1) := dk_27 (dk_at dksX4_drifted_1 17 rfl rfl)
theorem dX4_drifted_41 : decode cX4_drifted 41 = .ok (.goto 5, 3) := dk_167 0 5 (dk_at dksX4_drifted_1 18 rfl rfl)
theorem dX4_drifted_44 : decode cX4_drifted 44 = .ok (.iload 5, 2) := dk_21 5 (dk_at dksX4_drifted_1 21 rfl rfl)
theorem dX4_drifted_46 : decode cX4_drifted 46 = .ok (.istore 5, 2) := dk_54 5 (dk_at dksX4_drifted_2 0 rfl rfl)
theorem dX4_drifted_48 : decode cX4_drifted 48 = .ok (.iload_n 3, 1) := dk_29 (dk_at dksX4_drifted_2 2 rfl rfl)
theorem dX4_drifted_49 : decode cX4_drifted 49 = .ok (.ifCond .eq 15, 3) := dk_153 0 15 (dk_at dksX4_drifted_2 3 rfl rfl)
theorem dX4_drifted_52 : decode cX4_drifted 52 = .ok (.aload_n 0, 1) := dk_42 (dk_at dksX4_drifted_2 6 rfl rfl)
theorem dX4_drifted_53 : decode cX4_drifted 53 = .ok (.getfield 7, 3) := dk_180 0 7 (dk_at dksX4_drifted_2 7 rfl rfl)
theorem dX4_drifted_56 : decode cX4_drifted 56 = .ok (.bipush 7, 2) := dk_16 7 (dk_at dksX4_drifted_2 10 rfl rfl)
theorem dX4_drifted_58 : decode cX4_drifted 58 = .ok (.iaload, 1) := dk_46 (dk_at dksX4_drifted_2 12 rfl rfl)
theorem dX4_drifted_59 : decode cX4_drifted 59 = .ok (.bipush 8, 2) := dk_16 8 (dk_at dksX4_drifted_2 13 rfl rfl)
theorem dX4_drifted_61 : decode cX4_drifted 61 = .ok (.if_icmp .ne 8, 3) := dk_160 0 8 (dk_at dksX4_drifted_2 15 rfl rfl)
theorem dX4_drifted_64 : decode cX4_drifted 64 = .ok (.iload 5, 2) := dk_21 5 (dk_at dksX4_drifted_2 18 rfl rfl)
theorem dX4_drifted_66 : decode cX4_drifted 66 = .ok (.goto 16, 3) := dk_167 0 16 (dk_at dksX4_drifted_2 20 rfl rfl)
theorem dX4_drifted_69 : decode cX4_drifted 69 = .ok (.iload 5, 2) := dk_21 5 (dk_at dksX4_drifted_3 0 rfl rfl)
theorem dX4_drifted_71 : decode cX4_drifted 71 = .ok (.aload_n 0, 1) := dk_42 (dk_at dksX4_drifted_3 2 rfl rfl)
theorem dX4_drifted_72 : decode cX4_drifted 72 = .ok (.getfield 7, 3) := dk_180 0 7 (dk_at dksX4_drifted_3 3 rfl rfl)
theorem dX4_drifted_75 : decode cX4_drifted 75 = .ok (.bipush 7, 2) := dk_16 7 (dk_at dksX4_drifted_3 6 rfl rfl)
theorem dX4_drifted_77 : decode cX4_drifted 77 = .ok (.iaload, 1) := dk_46 (dk_at dksX4_drifted_3 8 rfl rfl)
theorem dX4_drifted_78 : decode cX4_drifted 78 = .ok (.iconst 1, 1) := dk_4 (dk_at dksX4_drifted_3 9 rfl rfl)
theorem dX4_drifted_79 : decode cX4_drifted 79 = .ok (.invokestatic 173, 3) := dk_184 0 173 (dk_at dksX4_drifted_3 10 rfl rfl)
theorem dX4_drifted_82 : decode cX4_drifted 82 = .ok (.istore 6, 2) := dk_54 6 (dk_at dksX4_drifted_3 13 rfl rfl)
theorem dX4_drifted_84 : decode cX4_drifted 84 = .ok (.iload 6, 2) := dk_21 6 (dk_at dksX4_drifted_3 15 rfl rfl)
theorem dX4_drifted_86 : decode cX4_drifted 86 = .ok (.ifCond .ge 8, 3) := dk_156 0 8 (dk_at dksX4_drifted_3 17 rfl rfl)
theorem dX4_drifted_89 : decode cX4_drifted 89 = .ok (.iload 5, 2) := dk_21 5 (dk_at dksX4_drifted_3 20 rfl rfl)
theorem dX4_drifted_91 : decode cX4_drifted 91 = .ok (.goto 5, 3) := dk_167 0 5 (dk_at dksX4_drifted_4 0 rfl rfl)
theorem dX4_drifted_94 : decode cX4_drifted 94 = .ok (.iload 6, 2) := dk_21 6 (dk_at dksX4_drifted_4 3 rfl rfl)
theorem dX4_drifted_96 : decode cX4_drifted 96 = .ok (.ireturn, 1) := dk_172 (dk_at dksX4_drifted_4 5 rfl rfl)