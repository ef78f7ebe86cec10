set_option maxRecDepth 100000
/-! SevenRings -/
set_option maxRecDepth 100000
def RX0 : String := "SevenRings"
def TX0 : u_T := fun k => match k with
  | 0 => ("SevenRings", "told", "LSevenRings$Told;", true)
  | 1 => ("SevenRings", "fault", "LSevenRings$Fault;", true)
  | 2 => ("SevenRings", "tape", "[B", true)
  | 3 => ("SevenRings", "taped", "I", false)
  | 4 => ("SevenRings", "at", "I", false)
  | 5 => ("SevenRings", "gotFars", "[I", true)
  | 6 => ("SevenRings", "gotTones", "[I", true)
  | 7 => ("SevenRings", "gotSea", "[B", true)
  | 8 => ("SevenRings", "cells", "[I", true)
  | 9 => ("SevenRings", "course", "I", false)
  | 10 => ("SevenRings", "pace", "I", false)
  | 11 => ("SevenRings", "turns", "I", false)
  | 12 => ("SevenRings", "slowed", "Z", false)
  | 13 => ("SevenRings", "burnt", "I", false)
  | 14 => ("SevenRings", "without", "I", false)
  | 15 => ("SevenRings", "anyRings", "Z", false)
  | 16 => ("SevenRings", "sums", "[J", true)
  | 17 => ("SevenRings", "others", "[J", true)
  | 18 => ("SevenRings", "isKept", "Z", false)
  | 19 => ("SevenRings", "kept", "LSevenRings$Told;", true)
  | _ => ("SevenRings", "sheets", "[LSevenRings$Sheet;", true)
def tyX0 : Nat → FieldType := fun k => match k with
  | 0 => .object "SevenRings$Told"
  | 1 => .object "SevenRings$Fault"
  | 2 => .array .byte
  | 3 => .int
  | 4 => .int
  | 5 => .array .int
  | 6 => .array .int
  | 7 => .array .byte
  | 8 => .array .int
  | 9 => .int
  | 10 => .int
  | 11 => .int
  | 12 => .boolean
  | 13 => .int
  | 14 => .int
  | 15 => .boolean
  | 16 => .array .long
  | 17 => .array .long
  | 18 => .boolean
  | 19 => .object "SevenRings$Told"
  | _ => .array (.object "SevenRings$Sheet")
abbrev wsX00 : List Cond := u_ws RX0 TX0 21
set_option maxRecDepth 100000 in
theorem nmX0 : ∀ a, a < 21 → ∀ b, b < 21 → a ≠ b → (TX0 a).2.1 ≠ (TX0 b).2.1 := by decide +kernel
set_option maxRecDepth 100000 in
theorem tyX0_ok : ∀ k, k < 21 → parseFieldDescriptor (TX0 k).2.2.1 = some (tyX0 k) := by decide +kernel
abbrev cX0_init : ByteArray := prog_1_method_6_code
def yX0_init : MethodName := ⟨RX0, "<init>", "()V"⟩
def dkwX0_init_5 : List UInt8 := [183, 0, 70, 83, 132, 1, 1, 167, 255, 235, 177]
abbrev dktX0_init_5 : List UInt8 := dkwX0_init_5 ++ []
def dkwX0_init_4 : List UInt8 := [189, 0, 64, 181, 0, 66, 3, 60, 27, 7, 162, 0, 22, 42, 180, 0, 66, 27, 187, 0, 64, 89]
abbrev dktX0_init_4 : List UInt8 := dkwX0_init_4 ++ dktX0_init_5
def dkwX0_init_3 : List UInt8 := [181, 0, 54, 42, 16, 100, 188, 11, 181, 0, 58, 42, 187, 0, 23, 89, 183, 0, 25, 181, 0, 61, 42, 7]
abbrev dktX0_init_3 : List UInt8 := dkwX0_init_3 ++ dktX0_init_4
def dkwX0_init_2 : List UInt8 := [181, 0, 45, 42, 16, 10, 188, 8, 181, 0, 48, 42, 16, 7, 188, 10, 181, 0, 51, 42, 16, 100, 188, 11]
abbrev dktX0_init_2 : List UInt8 := dkwX0_init_2 ++ dktX0_init_3
def dkwX0_init_1 : List UInt8 := [181, 0, 33, 42, 16, 60, 188, 8, 181, 0, 37, 42, 16, 7, 188, 10, 181, 0, 41, 42, 16, 7, 188, 10]
abbrev dktX0_init_1 : List UInt8 := dkwX0_init_1 ++ dktX0_init_2
def dkwX0_init_0 : List UInt8 := [42, 183, 0, 17, 42, 187, 0, 23, 89, 183, 0, 25, 181, 0, 26, 42, 187, 0, 30, 89, 183, 0, 32]
abbrev dktX0_init_0 : List UInt8 := dkwX0_init_0 ++ dktX0_init_1
theorem dksX0_init_0 : cX0_init.data.toList.drop 0 = dktX0_init_0 := by decide +kernel
theorem dksX0_init_1 : cX0_init.data.toList.drop 23 = dktX0_init_1 := dk_seg dksX0_init_0 23 rfl rfl
theorem dksX0_init_2 : cX0_init.data.toList.drop 47 = dktX0_init_2 := dk_seg dksX0_init_1 24 rfl rfl
theorem dksX0_init_3 : cX0_init.data.toList.drop 71 = dktX0_init_3 := dk_seg dksX0_init_2 24 rfl rfl
theorem dksX0_init_4 : cX0_init.data.toList.drop 95 = dktX0_init_4 := dk_seg dksX0_init_3 24 rfl rfl
theorem dksX0_init_5 : cX0_init.data.toList.drop 117 = dktX0_init_5 := dk_seg dksX0_init_4 22 rfl rfl
theorem dX0_init_0 : decode cX0_init 0 = .ok (.aload_n 0, 1) := dk_42 (dk_at dksX0_init_0 0 rfl rfl)
theorem dX0_init_1 : decode cX0_init 1 = .ok (.invokespecial 17, 3) := dk_183 0 17 (dk_at dksX0_init_0 1 rfl rfl)
theorem dX0_init_4 : decode cX0_init 4 = .ok (.aload_n 0, 1) := dk_42 (dk_at dksX0_init_0 4 rfl rfl)
theorem dX0_init_5 : decode cX0_init 5 = .ok (.new 23, 3) := dk_187 0 23 (dk_at dksX0_init_0 5 rfl rfl)
theorem dX0_init_8 : decode cX0_init 8 = .ok (.dup, 1) := dk_89 (dk_at dksX0_init_0 8 rfl rfl)
theorem dX0_init_9 : decode cX0_init 9 = .ok (.invokespecial 25, 3) := dk_183 0 25 (dk_at dksX0_init_0 9 rfl rfl)
theorem dX0_init_12 : decode cX0_init 12 = .ok (.putfield 26, 3) := dk_181 0 26 (dk_at dksX0_init_0 12 rfl rfl)
theorem dX0_init_15 : decode cX0_init 15 = .ok (.aload_n 0, 1) := dk_42 (dk_at dksX0_init_0 15 rfl rfl)
theorem dX0_init_16 : decode cX0_init 16 = .ok (.new 30, 3) := dk_187 0 30 (dk_at dksX0_init_0 16 rfl rfl)
theorem dX0_init_19 : decode cX0_init 19 = .ok (.dup, 1) := dk_89 (dk_at dksX0_init_0 19 rfl rfl)
theorem dX0_init_20 : decode cX0_init 20 = .ok (.invokespecial 32, 3) := dk_183 0 32 (dk_at dksX0_init_0 20 rfl rfl)
theorem dX0_init_23 : decode cX0_init 23 = .ok (.putfield 33, 3) := dk_181 0 33 (dk_at dksX0_init_1 0 rfl rfl)
theorem dX0_init_26 : decode cX0_init 26 = .ok (.aload_n 0, 1) := dk_42 (dk_at dksX0_init_1 3 rfl rfl)
theorem dX0_init_27 : decode cX0_init 27 = .ok (.bipush 60, 2) := dk_16 60 (dk_at dksX0_init_1 4 rfl rfl)
theorem dX0_init_29 : decode cX0_init 29 = .ok (.newarray .byte, 2) := dk_188_8 (dk_at dksX0_init_1 6 rfl rfl)
theorem dX0_init_31 : decode cX0_init 31 = .ok (.putfield 37, 3) := dk_181 0 37 (dk_at dksX0_init_1 8 rfl rfl)
theorem dX0_init_34 : decode cX0_init 34 = .ok (.aload_n 0, 1) := dk_42 (dk_at dksX0_init_1 11 rfl rfl)
theorem dX0_init_35 : decode cX0_init 35 = .ok (.bipush 7, 2) := dk_16 7 (dk_at dksX0_init_1 12 rfl rfl)
theorem dX0_init_37 : decode cX0_init 37 = .ok (.newarray .int, 2) := dk_188_10 (dk_at dksX0_init_1 14 rfl rfl)
theorem dX0_init_39 : decode cX0_init 39 = .ok (.putfield 41, 3) := dk_181 0 41 (dk_at dksX0_init_1 16 rfl rfl)
theorem dX0_init_42 : decode cX0_init 42 = .ok (.aload_n 0, 1) := dk_42 (dk_at dksX0_init_1 19 rfl rfl)
theorem dX0_init_43 : decode cX0_init 43 = .ok (.bipush 7, 2) := dk_16 7 (dk_at dksX0_init_1 20 rfl rfl)
theorem dX0_init_45 : decode cX0_init 45 = .ok (.newarray .int, 2) := dk_188_10 (dk_at dksX0_init_1 22 rfl rfl)
theorem dX0_init_47 : decode cX0_init 47 = .ok (.putfield 45, 3) := dk_181 0 45 (dk_at dksX0_init_2 0 rfl rfl)
theorem dX0_init_50 : decode cX0_init 50 = .ok (.aload_n 0, 1) := dk_42 (dk_at dksX0_init_2 3 rfl rfl)
theorem dX0_init_51 : decode cX0_init 51 = .ok (.bipush 10, 2) := dk_16 10 (dk_at dksX0_init_2 4 rfl rfl)
theorem dX0_init_53 : decode cX0_init 53 = .ok (.newarray .byte, 2) := dk_188_8 (dk_at dksX0_init_2 6 rfl rfl)
theorem dX0_init_55 : decode cX0_init 55 = .ok (.putfield 48, 3) := dk_181 0 48 (dk_at dksX0_init_2 8 rfl rfl)
theorem dX0_init_58 : decode cX0_init 58 = .ok (.aload_n 0, 1) := dk_42 (dk_at dksX0_init_2 11 rfl rfl)
theorem dX0_init_59 : decode cX0_init 59 = .ok (.bipush 7, 2) := dk_16 7 (dk_at dksX0_init_2 12 rfl rfl)
theorem dX0_init_61 : decode cX0_init 61 = .ok (.newarray .int, 2) := dk_188_10 (dk_at dksX0_init_2 14 rfl rfl)
theorem dX0_init_63 : decode cX0_init 63 = .ok (.putfield 51, 3) := dk_181 0 51 (dk_at dksX0_init_2 16 rfl rfl)
theorem dX0_init_66 : decode cX0_init 66 = .ok (.aload_n 0, 1) := dk_42 (dk_at dksX0_init_2 19 rfl rfl)
theorem dX0_init_67 : decode cX0_init 67 = .ok (.bipush 100, 2) := dk_16 100 (dk_at dksX0_init_2 20 rfl rfl)
theorem dX0_init_69 : decode cX0_init 69 = .ok (.newarray .long, 2) := dk_188_11 (dk_at dksX0_init_2 22 rfl rfl)
theorem dX0_init_71 : decode cX0_init 71 = .ok (.putfield 54, 3) := dk_181 0 54 (dk_at dksX0_init_3 0 rfl rfl)
theorem dX0_init_74 : decode cX0_init 74 = .ok (.aload_n 0, 1) := dk_42 (dk_at dksX0_init_3 3 rfl rfl)
theorem dX0_init_75 : decode cX0_init 75 = .ok (.bipush 100, 2) := dk_16 100 (dk_at dksX0_init_3 4 rfl rfl)
theorem dX0_init_77 : decode cX0_init 77 = .ok (.newarray .long, 2) := dk_188_11 (dk_at dksX0_init_3 6 rfl rfl)
theorem dX0_init_79 : decode cX0_init 79 = .ok (.putfield 58, 3) := dk_181 0 58 (dk_at dksX0_init_3 8 rfl rfl)
theorem dX0_init_82 : decode cX0_init 82 = .ok (.aload_n 0, 1) := dk_42 (dk_at dksX0_init_3 11 rfl rfl)
theorem dX0_init_83 : decode cX0_init 83 = .ok (.new 23, 3) := dk_187 0 23 (dk_at dksX0_init_3 12 rfl rfl)
theorem dX0_init_86 : decode cX0_init 86 = .ok (.dup, 1) := dk_89 (dk_at dksX0_init_3 15 rfl rfl)
theorem dX0_init_87 : decode cX0_init 87 = .ok (.invokespecial 25, 3) := dk_183 0 25 (dk_at dksX0_init_3 16 rfl rfl)
theorem dX0_init_90 : decode cX0_init 90 = .ok (.putfield 61, 3) := dk_181 0 61 (dk_at dksX0_init_3 19 rfl rfl)
theorem dX0_init_93 : decode cX0_init 93 = .ok (.aload_n 0, 1) := dk_42 (dk_at dksX0_init_3 22 rfl rfl)
theorem dX0_init_94 : decode cX0_init 94 = .ok (.iconst 4, 1) := dk_7 (dk_at dksX0_init_3 23 rfl rfl)
theorem dX0_init_95 : decode cX0_init 95 = .ok (.anewarray 64, 3) := dk_189 0 64 (dk_at dksX0_init_4 0 rfl rfl)
theorem dX0_init_98 : decode cX0_init 98 = .ok (.putfield 66, 3) := dk_181 0 66 (dk_at dksX0_init_4 3 rfl rfl)
theorem dX0_init_101 : decode cX0_init 101 = .ok (.iconst 0, 1) := dk_3 (dk_at dksX0_init_4 6 rfl rfl)
theorem dX0_init_102 : decode cX0_init 102 = .ok (.istore_n 1, 1) := dk_60 (dk_at dksX0_init_4 7 rfl rfl)
theorem dX0_init_103 : decode cX0_init 103 = .ok (.iload_n 1, 1) := dk_27 (dk_at dksX0_init_4 8 rfl rfl)
theorem dX0_init_104 : decode cX0_init 104 = .ok (.iconst 4, 1) := dk_7 (dk_at dksX0_init_4 9 rfl rfl)
theorem dX0_init_105 : decode cX0_init 105 = .ok (.if_icmp .ge 22, 3) := dk_162 0 22 (dk_at dksX0_init_4 10 rfl rfl)
theorem dX0_init_108 : decode cX0_init 108 = .ok (.aload_n 0, 1) := dk_42 (dk_at dksX0_init_4 13 rfl rfl)
theorem dX0_init_109 : decode cX0_init 109 = .ok (.getfield 66, 3) := dk_180 0 66 (dk_at dksX0_init_4 14 rfl rfl)
theorem dX0_init_112 : decode cX0_init 112 = .ok (.iload_n 1, 1) := dk_27 (dk_at dksX0_init_4 17 rfl rfl)
theorem dX0_init_113 : decode cX0_init 113 = .ok (.new 64, 3) := dk_187 0 64 (dk_at dksX0_init_4 18 rfl rfl)
theorem dX0_init_116 : decode cX0_init 116 = .ok (.dup, 1) := dk_89 (dk_at dksX0_init_4 21 rfl rfl)
theorem dX0_init_117 : decode cX0_init 117 = .ok (.invokespecial 70, 3) := dk_183 0 70 (dk_at dksX0_init_5 0 rfl rfl)
theorem dX0_init_120 : decode cX0_init 120 = .ok (.aastore, 1) := dk_83 (dk_at dksX0_init_5 3 rfl rfl)
theorem dX0_init_121 : decode cX0_init 121 = .ok (.iinc 1 1, 3) := dk_132 1 1 (dk_at dksX0_init_5 4 rfl rfl)
theorem dX0_init_124 : decode cX0_init 124 = .ok (.goto (-21), 3) := dk_167 255 235 (dk_at dksX0_init_5 7 rfl rfl)
theorem dX0_init_127 : decode cX0_init 127 = .ok (.return_, 1) := dk_177 (dk_at dksX0_init_5 10 rfl rfl)
abbrev cX0_set : ByteArray := prog_1_method_7_code
def yX0_set : MethodName := ⟨RX0, "set", "(II)I"⟩
def dkwX0_set_6 : List UInt8 := [180, 0, 75, 27, 46, 54, 4, 42, 180, 0, 26, 180, 0, 75, 27, 28, 79, 21, 4, 172]
abbrev dktX0_set_6 : List UInt8 := dkwX0_set_6 ++ []
def dkwX0_set_5 : List UInt8 := [16, 8, 184, 0, 3, 153, 0, 7, 4, 167, 0, 4, 3, 62, 29, 154, 0, 5, 2, 172, 42, 180, 0, 26]
abbrev dktX0_set_5 : List UInt8 := dkwX0_set_5 ++ dktX0_set_6
def dkwX0_set_4 : List UInt8 := [167, 0, 31, 27, 16, 6, 160, 0, 15, 28, 3, 6, 184, 0, 3, 153, 0, 20, 167, 0, 13, 28, 3]
abbrev dktX0_set_4 : List UInt8 := dkwX0_set_4 ++ dktX0_set_5
def dkwX0_set_3 : List UInt8 := [184, 0, 3, 153, 0, 56, 167, 0, 49, 27, 8, 160, 0, 16, 28, 3, 16, 60, 184, 0, 3, 153, 0, 38]
abbrev dktX0_set_3 : List UInt8 := dkwX0_set_3 ++ dktX0_set_4
def dkwX0_set_2 : List UInt8 := [160, 0, 15, 28, 3, 5, 184, 0, 3, 153, 0, 73, 167, 0, 66, 27, 7, 160, 0, 15, 28, 3, 4]
abbrev dktX0_set_2 : List UInt8 := dkwX0_set_2 ++ dktX0_set_3
def dkwX0_set_1 : List UInt8 := [167, 0, 101, 27, 5, 160, 0, 16, 28, 4, 16, 6, 184, 0, 3, 153, 0, 90, 167, 0, 83, 27, 6]
abbrev dktX0_set_1 : List UInt8 := dkwX0_set_1 ++ dktX0_set_2
def dkwX0_set_0 : List UInt8 := [27, 3, 16, 7, 184, 0, 3, 153, 0, 120, 27, 5, 162, 0, 13, 28, 184, 0, 71, 153, 0, 108]
abbrev dktX0_set_0 : List UInt8 := dkwX0_set_0 ++ dktX0_set_1
theorem dksX0_set_0 : cX0_set.data.toList.drop 0 = dktX0_set_0 := by decide +kernel
theorem dksX0_set_1 : cX0_set.data.toList.drop 22 = dktX0_set_1 := dk_seg dksX0_set_0 22 rfl rfl
theorem dksX0_set_2 : cX0_set.data.toList.drop 45 = dktX0_set_2 := dk_seg dksX0_set_1 23 rfl rfl
theorem dksX0_set_3 : cX0_set.data.toList.drop 68 = dktX0_set_3 := dk_seg dksX0_set_2 23 rfl rfl
theorem dksX0_set_4 : cX0_set.data.toList.drop 92 = dktX0_set_4 := dk_seg dksX0_set_3 24 rfl rfl
theorem dksX0_set_5 : cX0_set.data.toList.drop 115 = dktX0_set_5 := dk_seg dksX0_set_4 23 rfl rfl
theorem dksX0_set_6 : cX0_set.data.toList.drop 139 = dktX0_set_6 := dk_seg dksX0_set_5 24 rfl rfl
theorem dX0_set_0 : decode cX0_set 0 = .ok (.iload_n 1, 1) := dk_27 (dk_at dksX0_set_0 0 rfl rfl)
theorem dX0_set_1 : decode cX0_set 1 = .ok (.iconst 0, 1) := dk_3 (dk_at dksX0_set_0 1 rfl rfl)
theorem dX0_set_2 : decode cX0_set 2 = .ok (.bipush 7, 2) := dk_16 7 (dk_at dksX0_set_0 2 rfl rfl)
theorem dX0_set_4 : decode cX0_set 4 = .ok (.invokestatic 3, 3) := dk_184 0 3 (dk_at dksX0_set_0 4 rfl rfl)
theorem dX0_set_7 : decode cX0_set 7 = .ok (.ifCond .eq 120, 3) := dk_153 0 120 (dk_at dksX0_set_0 7 rfl rfl)
theorem dX0_set_10 : decode cX0_set 10 = .ok (.iload_n 1, 1) := dk_27 (dk_at dksX0_set_0 10 rfl rfl)
theorem dX0_set_11 : decode cX0_set 11 = .ok (.iconst 2, 1) := dk_5 (dk_at dksX0_set_0 11 rfl rfl)
theorem dX0_set_12 : decode cX0_set 12 = .ok (.if_icmp .ge 13, 3) := dk_162 0 13 (dk_at dksX0_set_0 12 rfl rfl)
theorem dX0_set_15 : decode cX0_set 15 = .ok (.iload_n 2, 1) := dk_28 (dk_at dksX0_set_0 15 rfl rfl)
theorem dX0_set_16 : decode cX0_set 16 = .ok (.invokestatic 71, 3) := dk_184 0 71 (dk_at dksX0_set_0 16 rfl rfl)
theorem dX0_set_19 : decode cX0_set 19 = .ok (.ifCond .eq 108, 3) := dk_153 0 108 (dk_at dksX0_set_0 19 rfl rfl)
theorem dX0_set_22 : decode cX0_set 22 = .ok (.goto 101, 3) := dk_167 0 101 (dk_at dksX0_set_1 0 rfl rfl)
theorem dX0_set_25 : decode cX0_set 25 = .ok (.iload_n 1, 1) := dk_27 (dk_at dksX0_set_1 3 rfl rfl)
theorem dX0_set_26 : decode cX0_set 26 = .ok (.iconst 2, 1) := dk_5 (dk_at dksX0_set_1 4 rfl rfl)
theorem dX0_set_27 : decode cX0_set 27 = .ok (.if_icmp .ne 16, 3) := dk_160 0 16 (dk_at dksX0_set_1 5 rfl rfl)
theorem dX0_set_30 : decode cX0_set 30 = .ok (.iload_n 2, 1) := dk_28 (dk_at dksX0_set_1 8 rfl rfl)
theorem dX0_set_31 : decode cX0_set 31 = .ok (.iconst 1, 1) := dk_4 (dk_at dksX0_set_1 9 rfl rfl)
theorem dX0_set_32 : decode cX0_set 32 = .ok (.bipush 6, 2) := dk_16 6 (dk_at dksX0_set_1 10 rfl rfl)
theorem dX0_set_34 : decode cX0_set 34 = .ok (.invokestatic 3, 3) := dk_184 0 3 (dk_at dksX0_set_1 12 rfl rfl)
theorem dX0_set_37 : decode cX0_set 37 = .ok (.ifCond .eq 90, 3) := dk_153 0 90 (dk_at dksX0_set_1 15 rfl rfl)
theorem dX0_set_40 : decode cX0_set 40 = .ok (.goto 83, 3) := dk_167 0 83 (dk_at dksX0_set_1 18 rfl rfl)
theorem dX0_set_43 : decode cX0_set 43 = .ok (.iload_n 1, 1) := dk_27 (dk_at dksX0_set_1 21 rfl rfl)
theorem dX0_set_44 : decode cX0_set 44 = .ok (.iconst 3, 1) := dk_6 (dk_at dksX0_set_1 22 rfl rfl)
theorem dX0_set_45 : decode cX0_set 45 = .ok (.if_icmp .ne 15, 3) := dk_160 0 15 (dk_at dksX0_set_2 0 rfl rfl)
theorem dX0_set_48 : decode cX0_set 48 = .ok (.iload_n 2, 1) := dk_28 (dk_at dksX0_set_2 3 rfl rfl)
theorem dX0_set_49 : decode cX0_set 49 = .ok (.iconst 0, 1) := dk_3 (dk_at dksX0_set_2 4 rfl rfl)
theorem dX0_set_50 : decode cX0_set 50 = .ok (.iconst 2, 1) := dk_5 (dk_at dksX0_set_2 5 rfl rfl)
theorem dX0_set_51 : decode cX0_set 51 = .ok (.invokestatic 3, 3) := dk_184 0 3 (dk_at dksX0_set_2 6 rfl rfl)
theorem dX0_set_54 : decode cX0_set 54 = .ok (.ifCond .eq 73, 3) := dk_153 0 73 (dk_at dksX0_set_2 9 rfl rfl)
theorem dX0_set_57 : decode cX0_set 57 = .ok (.goto 66, 3) := dk_167 0 66 (dk_at dksX0_set_2 12 rfl rfl)
theorem dX0_set_60 : decode cX0_set 60 = .ok (.iload_n 1, 1) := dk_27 (dk_at dksX0_set_2 15 rfl rfl)
theorem dX0_set_61 : decode cX0_set 61 = .ok (.iconst 4, 1) := dk_7 (dk_at dksX0_set_2 16 rfl rfl)
theorem dX0_set_62 : decode cX0_set 62 = .ok (.if_icmp .ne 15, 3) := dk_160 0 15 (dk_at dksX0_set_2 17 rfl rfl)
theorem dX0_set_65 : decode cX0_set 65 = .ok (.iload_n 2, 1) := dk_28 (dk_at dksX0_set_2 20 rfl rfl)
theorem dX0_set_66 : decode cX0_set 66 = .ok (.iconst 0, 1) := dk_3 (dk_at dksX0_set_2 21 rfl rfl)
theorem dX0_set_67 : decode cX0_set 67 = .ok (.iconst 1, 1) := dk_4 (dk_at dksX0_set_2 22 rfl rfl)
theorem dX0_set_68 : decode cX0_set 68 = .ok (.invokestatic 3, 3) := dk_184 0 3 (dk_at dksX0_set_3 0 rfl rfl)
theorem dX0_set_71 : decode cX0_set 71 = .ok (.ifCond .eq 56, 3) := dk_153 0 56 (dk_at dksX0_set_3 3 rfl rfl)
theorem dX0_set_74 : decode cX0_set 74 = .ok (.goto 49, 3) := dk_167 0 49 (dk_at dksX0_set_3 6 rfl rfl)
theorem dX0_set_77 : decode cX0_set 77 = .ok (.iload_n 1, 1) := dk_27 (dk_at dksX0_set_3 9 rfl rfl)
theorem dX0_set_78 : decode cX0_set 78 = .ok (.iconst 5, 1) := dk_8 (dk_at dksX0_set_3 10 rfl rfl)
theorem dX0_set_79 : decode cX0_set 79 = .ok (.if_icmp .ne 16, 3) := dk_160 0 16 (dk_at dksX0_set_3 11 rfl rfl)
theorem dX0_set_82 : decode cX0_set 82 = .ok (.iload_n 2, 1) := dk_28 (dk_at dksX0_set_3 14 rfl rfl)
theorem dX0_set_83 : decode cX0_set 83 = .ok (.iconst 0, 1) := dk_3 (dk_at dksX0_set_3 15 rfl rfl)
theorem dX0_set_84 : decode cX0_set 84 = .ok (.bipush 60, 2) := dk_16 60 (dk_at dksX0_set_3 16 rfl rfl)
theorem dX0_set_86 : decode cX0_set 86 = .ok (.invokestatic 3, 3) := dk_184 0 3 (dk_at dksX0_set_3 18 rfl rfl)
theorem dX0_set_89 : decode cX0_set 89 = .ok (.ifCond .eq 38, 3) := dk_153 0 38 (dk_at dksX0_set_3 21 rfl rfl)
theorem dX0_set_92 : decode cX0_set 92 = .ok (.goto 31, 3) := dk_167 0 31 (dk_at dksX0_set_4 0 rfl rfl)
theorem dX0_set_95 : decode cX0_set 95 = .ok (.iload_n 1, 1) := dk_27 (dk_at dksX0_set_4 3 rfl rfl)
theorem dX0_set_96 : decode cX0_set 96 = .ok (.bipush 6, 2) := dk_16 6 (dk_at dksX0_set_4 4 rfl rfl)
theorem dX0_set_98 : decode cX0_set 98 = .ok (.if_icmp .ne 15, 3) := dk_160 0 15 (dk_at dksX0_set_4 6 rfl rfl)
theorem dX0_set_101 : decode cX0_set 101 = .ok (.iload_n 2, 1) := dk_28 (dk_at dksX0_set_4 9 rfl rfl)
theorem dX0_set_102 : decode cX0_set 102 = .ok (.iconst 0, 1) := dk_3 (dk_at dksX0_set_4 10 rfl rfl)
theorem dX0_set_103 : decode cX0_set 103 = .ok (.iconst 3, 1) := dk_6 (dk_at dksX0_set_4 11 rfl rfl)
theorem dX0_set_104 : decode cX0_set 104 = .ok (.invokestatic 3, 3) := dk_184 0 3 (dk_at dksX0_set_4 12 rfl rfl)
theorem dX0_set_107 : decode cX0_set 107 = .ok (.ifCond .eq 20, 3) := dk_153 0 20 (dk_at dksX0_set_4 15 rfl rfl)
theorem dX0_set_110 : decode cX0_set 110 = .ok (.goto 13, 3) := dk_167 0 13 (dk_at dksX0_set_4 18 rfl rfl)
theorem dX0_set_113 : decode cX0_set 113 = .ok (.iload_n 2, 1) := dk_28 (dk_at dksX0_set_4 21 rfl rfl)
theorem dX0_set_114 : decode cX0_set 114 = .ok (.iconst 0, 1) := dk_3 (dk_at dksX0_set_4 22 rfl rfl)
theorem dX0_set_115 : decode cX0_set 115 = .ok (.bipush 8, 2) := dk_16 8 (dk_at dksX0_set_5 0 rfl rfl)
theorem dX0_set_117 : decode cX0_set 117 = .ok (.invokestatic 3, 3) := dk_184 0 3 (dk_at dksX0_set_5 2 rfl rfl)
theorem dX0_set_120 : decode cX0_set 120 = .ok (.ifCond .eq 7, 3) := dk_153 0 7 (dk_at dksX0_set_5 5 rfl rfl)
theorem dX0_set_123 : decode cX0_set 123 = .ok (.iconst 1, 1) := dk_4 (dk_at dksX0_set_5 8 rfl rfl)
theorem dX0_set_124 : decode cX0_set 124 = .ok (.goto 4, 3) := dk_167 0 4 (dk_at dksX0_set_5 9 rfl rfl)
theorem dX0_set_127 : decode cX0_set 127 = .ok (.iconst 0, 1) := dk_3 (dk_at dksX0_set_5 12 rfl rfl)
theorem dX0_set_128 : decode cX0_set 128 = .ok (.istore_n 3, 1) := dk_62 (dk_at dksX0_set_5 13 rfl rfl)
theorem dX0_set_129 : decode cX0_set 129 = .ok (.iload_n 3, 1) := dk_29 (dk_at dksX0_set_5 14 rfl rfl)
theorem dX0_set_130 : decode cX0_set 130 = .ok (.ifCond .ne 5, 3) := dk_154 0 5 (dk_at dksX0_set_5 15 rfl rfl)
theorem dX0_set_133 : decode cX0_set 133 = .ok (.iconst (-1), 1) := dk_2 (dk_at dksX0_set_5 18 rfl rfl)
theorem dX0_set_134 : decode cX0_set 134 = .ok (.ireturn, 1) := dk_172 (dk_at dksX0_set_5 19 rfl rfl)
theorem dX0_set_135 : decode cX0_set 135 = .ok (.aload_n 0, 1) := dk_42 (dk_at dksX0_set_5 20 rfl rfl)
theorem dX0_set_136 : decode cX0_set 136 = .ok (.getfield 26, 3) := dk_180 0 26 (dk_at dksX0_set_5 21 rfl rfl)
theorem dX0_set_139 : decode cX0_set 139 = .ok (.getfield 75, 3) := dk_180 0 75 (dk_at dksX0_set_6 0 rfl rfl)
theorem dX0_set_142 : decode cX0_set 142 = .ok (.iload_n 1, 1) := dk_27 (dk_at dksX0_set_6 3 rfl rfl)
theorem dX0_set_143 : decode cX0_set 143 = .ok (.iaload, 1) := dk_46 (dk_at dksX0_set_6 4 rfl rfl)
theorem dX0_set_144 : decode cX0_set 144 = .ok (.istore 4, 2) := dk_54 4 (dk_at dksX0_set_6 5 rfl rfl)
theorem dX0_set_146 : decode cX0_set 146 = .ok (.aload_n 0, 1) := dk_42 (dk_at dksX0_set_6 7 rfl rfl)
theorem dX0_set_147 : decode cX0_set 147 = .ok (.getfield 26, 3) := dk_180 0 26 (dk_at dksX0_set_6 8 rfl rfl)
theorem dX0_set_150 : decode cX0_set 150 = .ok (.getfield 75, 3) := dk_180 0 75 (dk_at dksX0_set_6 11 rfl rfl)
theorem dX0_set_153 : decode cX0_set 153 = .ok (.iload_n 1, 1) := dk_27 (dk_at dksX0_set_6 14 rfl rfl)
theorem dX0_set_154 : decode cX0_set 154 = .ok (.iload_n 2, 1) := dk_28 (dk_at dksX0_set_6 15 rfl rfl)
theorem dX0_set_155 : decode cX0_set 155 = .ok (.iastore, 1) := dk_79 (dk_at dksX0_set_6 16 rfl rfl)
theorem dX0_set_156 : decode cX0_set 156 = .ok (.iload 4, 2) := dk_21 4 (dk_at dksX0_set_6 17 rfl rfl)
theorem dX0_set_158 : decode cX0_set 158 = .ok (.ireturn, 1) := dk_172 (dk_at dksX0_set_6 19 rfl rfl)
abbrev cX0_isIn : ByteArray := prog_1_method_1_code
def yX0_isIn : MethodName := ⟨RX0, "isIn", "(III)Z"⟩
def dkwX0_isIn_0 : List UInt8 := [26, 27, 161, 0, 12, 26, 28, 163, 0, 7, 4, 167, 0, 4, 3, 172]
abbrev dktX0_isIn_0 : List UInt8 := dkwX0_isIn_0 ++ []
theorem dksX0_isIn_0 : cX0_isIn.data.toList.drop 0 = dktX0_isIn_0 := by decide +kernel
theorem dX0_isIn_0 : decode cX0_isIn 0 = .ok (.iload_n 0, 1) := dk_26 (dk_at dksX0_isIn_0 0 rfl rfl)
theorem dX0_isIn_1 : decode cX0_isIn 1 = .ok (.iload_n 1, 1) := dk_27 (dk_at dksX0_isIn_0 1 rfl rfl)
theorem dX0_isIn_2 : decode cX0_isIn 2 = .ok (.if_icmp .lt 12, 3) := dk_161 0 12 (dk_at dksX0_isIn_0 2 rfl rfl)
theorem dX0_isIn_5 : decode cX0_isIn 5 = .ok (.iload_n 0, 1) := dk_26 (dk_at dksX0_isIn_0 5 rfl rfl)
theorem dX0_isIn_6 : decode cX0_isIn 6 = .ok (.iload_n 2, 1) := dk_28 (dk_at dksX0_isIn_0 6 rfl rfl)
theorem dX0_isIn_7 : decode cX0_isIn 7 = .ok (.if_icmp .gt 7, 3) := dk_163 0 7 (dk_at dksX0_isIn_0 7 rfl rfl)
theorem dX0_isIn_10 : decode cX0_isIn 10 = .ok (.iconst 1, 1) := dk_4 (dk_at dksX0_isIn_0 10 rfl rfl)
theorem dX0_isIn_11 : decode cX0_isIn 11 = .ok (.goto 4, 3) := dk_167 0 4 (dk_at dksX0_isIn_0 11 rfl rfl)
theorem dX0_isIn_14 : decode cX0_isIn 14 = .ok (.iconst 0, 1) := dk_3 (dk_at dksX0_isIn_0 14 rfl rfl)
theorem dX0_isIn_15 : decode cX0_isIn 15 = .ok (.ireturn, 1) := dk_172 (dk_at dksX0_isIn_0 15 rfl rfl)
abbrev cX0_isCell : ByteArray := prog_1_method_2_code
def yX0_isCell : MethodName := ⟨RX0, "isCell", "(I)Z"⟩
def dkwX0_isCell_0 : List UInt8 := [26, 3, 16, 99, 184, 0, 3, 172]
abbrev dktX0_isCell_0 : List UInt8 := dkwX0_isCell_0 ++ []
theorem dksX0_isCell_0 : cX0_isCell.data.toList.drop 0 = dktX0_isCell_0 := by decide +kernel
theorem dX0_isCell_0 : decode cX0_isCell 0 = .ok (.iload_n 0, 1) := dk_26 (dk_at dksX0_isCell_0 0 rfl rfl)
theorem dX0_isCell_1 : decode cX0_isCell 1 = .ok (.iconst 0, 1) := dk_3 (dk_at dksX0_isCell_0 1 rfl rfl)
theorem dX0_isCell_2 : decode cX0_isCell 2 = .ok (.bipush 99, 2) := dk_16 99 (dk_at dksX0_isCell_0 2 rfl rfl)
theorem dX0_isCell_4 : decode cX0_isCell 4 = .ok (.invokestatic 3, 3) := dk_184 0 3 (dk_at dksX0_isCell_0 4 rfl rfl)
theorem dX0_isCell_7 : decode cX0_isCell 7 = .ok (.ireturn, 1) := dk_172 (dk_at dksX0_isCell_0 7 rfl rfl)
abbrev cX0_far : ByteArray := prog_1_method_8_code
def yX0_far : MethodName := ⟨RX0, "far", "(I)I"⟩
def dkwX0_far_0 : List UInt8 := [27, 184, 0, 71, 153, 0, 14, 42, 180, 0, 26, 27, 182, 0, 78, 167, 0, 4, 2, 172]
abbrev dktX0_far_0 : List UInt8 := dkwX0_far_0 ++ []
theorem dksX0_far_0 : cX0_far.data.toList.drop 0 = dktX0_far_0 := by decide +kernel
theorem dX0_far_0 : decode cX0_far 0 = .ok (.iload_n 1, 1) := dk_27 (dk_at dksX0_far_0 0 rfl rfl)
theorem dX0_far_1 : decode cX0_far 1 = .ok (.invokestatic 71, 3) := dk_184 0 71 (dk_at dksX0_far_0 1 rfl rfl)
theorem dX0_far_4 : decode cX0_far 4 = .ok (.ifCond .eq 14, 3) := dk_153 0 14 (dk_at dksX0_far_0 4 rfl rfl)
theorem dX0_far_7 : decode cX0_far 7 = .ok (.aload_n 0, 1) := dk_42 (dk_at dksX0_far_0 7 rfl rfl)
theorem dX0_far_8 : decode cX0_far 8 = .ok (.getfield 26, 3) := dk_180 0 26 (dk_at dksX0_far_0 8 rfl rfl)
theorem dX0_far_11 : decode cX0_far 11 = .ok (.iload_n 1, 1) := dk_27 (dk_at dksX0_far_0 11 rfl rfl)
theorem dX0_far_12 : decode cX0_far 12 = .ok (.invokevirtual 78, 3) := dk_182 0 78 (dk_at dksX0_far_0 12 rfl rfl)
theorem dX0_far_15 : decode cX0_far 15 = .ok (.goto 4, 3) := dk_167 0 4 (dk_at dksX0_far_0 15 rfl rfl)
theorem dX0_far_18 : decode cX0_far 18 = .ok (.iconst (-1), 1) := dk_2 (dk_at dksX0_far_0 18 rfl rfl)
theorem dX0_far_19 : decode cX0_far 19 = .ok (.ireturn, 1) := dk_172 (dk_at dksX0_far_0 19 rfl rfl)
abbrev cX0_ring : ByteArray := prog_1_method_9_code
def yX0_ring : MethodName := ⟨RX0, "ring", "(III)I"⟩
def dkwX0_ring_5 : List UInt8 := [167, 0, 8, 16, 100, 21, 4, 96, 172]
abbrev dktX0_ring_5 : List UInt8 := dkwX0_ring_5 ++ []
def dkwX0_ring_4 : List UInt8 := [180, 0, 84, 27, 29, 156, 0, 8, 16, 252, 167, 0, 4, 29, 79, 21, 4, 156, 0, 8, 16, 99]
abbrev dktX0_ring_4 : List UInt8 := dkwX0_ring_4 ++ dktX0_ring_5
def dkwX0_ring_3 : List UInt8 := [79, 16, 100, 21, 4, 96, 172, 42, 180, 0, 26, 180, 0, 84, 27, 46, 54, 4, 42, 180, 0, 26]
abbrev dktX0_ring_3 : List UInt8 := dkwX0_ring_3 ++ dktX0_ring_4
def dkwX0_ring_2 : List UInt8 := [4, 160, 0, 30, 42, 180, 0, 26, 180, 0, 81, 27, 46, 54, 4, 42, 180, 0, 26, 180, 0, 81, 27, 29]
abbrev dktX0_ring_2 : List UInt8 := dkwX0_ring_2 ++ dktX0_ring_3
def dkwX0_ring_1 : List UInt8 := [2, 16, 40, 184, 0, 3, 154, 0, 17, 167, 0, 12, 29, 3, 5, 184, 0, 3, 154, 0, 5, 2, 172, 28]
abbrev dktX0_ring_1 : List UInt8 := dkwX0_ring_1 ++ dktX0_ring_2
def dkwX0_ring_0 : List UInt8 := [27, 4, 16, 6, 184, 0, 3, 153, 0, 38, 28, 3, 4, 184, 0, 3, 153, 0, 29, 28, 154, 0, 16, 29]
abbrev dktX0_ring_0 : List UInt8 := dkwX0_ring_0 ++ dktX0_ring_1
theorem dksX0_ring_0 : cX0_ring.data.toList.drop 0 = dktX0_ring_0 := by decide +kernel
theorem dksX0_ring_1 : cX0_ring.data.toList.drop 24 = dktX0_ring_1 := dk_seg dksX0_ring_0 24 rfl rfl
theorem dksX0_ring_2 : cX0_ring.data.toList.drop 48 = dktX0_ring_2 := dk_seg dksX0_ring_1 24 rfl rfl
theorem dksX0_ring_3 : cX0_ring.data.toList.drop 72 = dktX0_ring_3 := dk_seg dksX0_ring_2 24 rfl rfl
theorem dksX0_ring_4 : cX0_ring.data.toList.drop 94 = dktX0_ring_4 := dk_seg dksX0_ring_3 22 rfl rfl
theorem dksX0_ring_5 : cX0_ring.data.toList.drop 116 = dktX0_ring_5 := dk_seg dksX0_ring_4 22 rfl rfl
theorem dX0_ring_0 : decode cX0_ring 0 = .ok (.iload_n 1, 1) := dk_27 (dk_at dksX0_ring_0 0 rfl rfl)
theorem dX0_ring_1 : decode cX0_ring 1 = .ok (.iconst 1, 1) := dk_4 (dk_at dksX0_ring_0 1 rfl rfl)
theorem dX0_ring_2 : decode cX0_ring 2 = .ok (.bipush 6, 2) := dk_16 6 (dk_at dksX0_ring_0 2 rfl rfl)
theorem dX0_ring_4 : decode cX0_ring 4 = .ok (.invokestatic 3, 3) := dk_184 0 3 (dk_at dksX0_ring_0 4 rfl rfl)
theorem dX0_ring_7 : decode cX0_ring 7 = .ok (.ifCond .eq 38, 3) := dk_153 0 38 (dk_at dksX0_ring_0 7 rfl rfl)
theorem dX0_ring_10 : decode cX0_ring 10 = .ok (.iload_n 2, 1) := dk_28 (dk_at dksX0_ring_0 10 rfl rfl)
theorem dX0_ring_11 : decode cX0_ring 11 = .ok (.iconst 0, 1) := dk_3 (dk_at dksX0_ring_0 11 rfl rfl)
theorem dX0_ring_12 : decode cX0_ring 12 = .ok (.iconst 1, 1) := dk_4 (dk_at dksX0_ring_0 12 rfl rfl)
theorem dX0_ring_13 : decode cX0_ring 13 = .ok (.invokestatic 3, 3) := dk_184 0 3 (dk_at dksX0_ring_0 13 rfl rfl)
theorem dX0_ring_16 : decode cX0_ring 16 = .ok (.ifCond .eq 29, 3) := dk_153 0 29 (dk_at dksX0_ring_0 16 rfl rfl)
theorem dX0_ring_19 : decode cX0_ring 19 = .ok (.iload_n 2, 1) := dk_28 (dk_at dksX0_ring_0 19 rfl rfl)
theorem dX0_ring_20 : decode cX0_ring 20 = .ok (.ifCond .ne 16, 3) := dk_154 0 16 (dk_at dksX0_ring_0 20 rfl rfl)
theorem dX0_ring_23 : decode cX0_ring 23 = .ok (.iload_n 3, 1) := dk_29 (dk_at dksX0_ring_0 23 rfl rfl)
theorem dX0_ring_24 : decode cX0_ring 24 = .ok (.iconst (-1), 1) := dk_2 (dk_at dksX0_ring_1 0 rfl rfl)
theorem dX0_ring_25 : decode cX0_ring 25 = .ok (.bipush 40, 2) := dk_16 40 (dk_at dksX0_ring_1 1 rfl rfl)
theorem dX0_ring_27 : decode cX0_ring 27 = .ok (.invokestatic 3, 3) := dk_184 0 3 (dk_at dksX0_ring_1 3 rfl rfl)
theorem dX0_ring_30 : decode cX0_ring 30 = .ok (.ifCond .ne 17, 3) := dk_154 0 17 (dk_at dksX0_ring_1 6 rfl rfl)
theorem dX0_ring_33 : decode cX0_ring 33 = .ok (.goto 12, 3) := dk_167 0 12 (dk_at dksX0_ring_1 9 rfl rfl)
theorem dX0_ring_36 : decode cX0_ring 36 = .ok (.iload_n 3, 1) := dk_29 (dk_at dksX0_ring_1 12 rfl rfl)
theorem dX0_ring_37 : decode cX0_ring 37 = .ok (.iconst 0, 1) := dk_3 (dk_at dksX0_ring_1 13 rfl rfl)
theorem dX0_ring_38 : decode cX0_ring 38 = .ok (.iconst 2, 1) := dk_5 (dk_at dksX0_ring_1 14 rfl rfl)
theorem dX0_ring_39 : decode cX0_ring 39 = .ok (.invokestatic 3, 3) := dk_184 0 3 (dk_at dksX0_ring_1 15 rfl rfl)
theorem dX0_ring_42 : decode cX0_ring 42 = .ok (.ifCond .ne 5, 3) := dk_154 0 5 (dk_at dksX0_ring_1 18 rfl rfl)
theorem dX0_ring_45 : decode cX0_ring 45 = .ok (.iconst (-1), 1) := dk_2 (dk_at dksX0_ring_1 21 rfl rfl)
theorem dX0_ring_46 : decode cX0_ring 46 = .ok (.ireturn, 1) := dk_172 (dk_at dksX0_ring_1 22 rfl rfl)
theorem dX0_ring_47 : decode cX0_ring 47 = .ok (.iload_n 2, 1) := dk_28 (dk_at dksX0_ring_1 23 rfl rfl)
theorem dX0_ring_48 : decode cX0_ring 48 = .ok (.iconst 1, 1) := dk_4 (dk_at dksX0_ring_2 0 rfl rfl)
theorem dX0_ring_49 : decode cX0_ring 49 = .ok (.if_icmp .ne 30, 3) := dk_160 0 30 (dk_at dksX0_ring_2 1 rfl rfl)
theorem dX0_ring_52 : decode cX0_ring 52 = .ok (.aload_n 0, 1) := dk_42 (dk_at dksX0_ring_2 4 rfl rfl)
theorem dX0_ring_53 : decode cX0_ring 53 = .ok (.getfield 26, 3) := dk_180 0 26 (dk_at dksX0_ring_2 5 rfl rfl)
theorem dX0_ring_56 : decode cX0_ring 56 = .ok (.getfield 81, 3) := dk_180 0 81 (dk_at dksX0_ring_2 8 rfl rfl)
theorem dX0_ring_59 : decode cX0_ring 59 = .ok (.iload_n 1, 1) := dk_27 (dk_at dksX0_ring_2 11 rfl rfl)
theorem dX0_ring_60 : decode cX0_ring 60 = .ok (.iaload, 1) := dk_46 (dk_at dksX0_ring_2 12 rfl rfl)
theorem dX0_ring_61 : decode cX0_ring 61 = .ok (.istore 4, 2) := dk_54 4 (dk_at dksX0_ring_2 13 rfl rfl)
theorem dX0_ring_63 : decode cX0_ring 63 = .ok (.aload_n 0, 1) := dk_42 (dk_at dksX0_ring_2 15 rfl rfl)
theorem dX0_ring_64 : decode cX0_ring 64 = .ok (.getfield 26, 3) := dk_180 0 26 (dk_at dksX0_ring_2 16 rfl rfl)
theorem dX0_ring_67 : decode cX0_ring 67 = .ok (.getfield 81, 3) := dk_180 0 81 (dk_at dksX0_ring_2 19 rfl rfl)
theorem dX0_ring_70 : decode cX0_ring 70 = .ok (.iload_n 1, 1) := dk_27 (dk_at dksX0_ring_2 22 rfl rfl)
theorem dX0_ring_71 : decode cX0_ring 71 = .ok (.iload_n 3, 1) := dk_29 (dk_at dksX0_ring_2 23 rfl rfl)
theorem dX0_ring_72 : decode cX0_ring 72 = .ok (.iastore, 1) := dk_79 (dk_at dksX0_ring_3 0 rfl rfl)
theorem dX0_ring_73 : decode cX0_ring 73 = .ok (.bipush 100, 2) := dk_16 100 (dk_at dksX0_ring_3 1 rfl rfl)
theorem dX0_ring_75 : decode cX0_ring 75 = .ok (.iload 4, 2) := dk_21 4 (dk_at dksX0_ring_3 3 rfl rfl)
theorem dX0_ring_77 : decode cX0_ring 77 = .ok (.iadd, 1) := dk_96 (dk_at dksX0_ring_3 5 rfl rfl)
theorem dX0_ring_78 : decode cX0_ring 78 = .ok (.ireturn, 1) := dk_172 (dk_at dksX0_ring_3 6 rfl rfl)
theorem dX0_ring_79 : decode cX0_ring 79 = .ok (.aload_n 0, 1) := dk_42 (dk_at dksX0_ring_3 7 rfl rfl)
theorem dX0_ring_80 : decode cX0_ring 80 = .ok (.getfield 26, 3) := dk_180 0 26 (dk_at dksX0_ring_3 8 rfl rfl)
theorem dX0_ring_83 : decode cX0_ring 83 = .ok (.getfield 84, 3) := dk_180 0 84 (dk_at dksX0_ring_3 11 rfl rfl)
theorem dX0_ring_86 : decode cX0_ring 86 = .ok (.iload_n 1, 1) := dk_27 (dk_at dksX0_ring_3 14 rfl rfl)
theorem dX0_ring_87 : decode cX0_ring 87 = .ok (.iaload, 1) := dk_46 (dk_at dksX0_ring_3 15 rfl rfl)
theorem dX0_ring_88 : decode cX0_ring 88 = .ok (.istore 4, 2) := dk_54 4 (dk_at dksX0_ring_3 16 rfl rfl)
theorem dX0_ring_90 : decode cX0_ring 90 = .ok (.aload_n 0, 1) := dk_42 (dk_at dksX0_ring_3 18 rfl rfl)
theorem dX0_ring_91 : decode cX0_ring 91 = .ok (.getfield 26, 3) := dk_180 0 26 (dk_at dksX0_ring_3 19 rfl rfl)
theorem dX0_ring_94 : decode cX0_ring 94 = .ok (.getfield 84, 3) := dk_180 0 84 (dk_at dksX0_ring_4 0 rfl rfl)
theorem dX0_ring_97 : decode cX0_ring 97 = .ok (.iload_n 1, 1) := dk_27 (dk_at dksX0_ring_4 3 rfl rfl)
theorem dX0_ring_98 : decode cX0_ring 98 = .ok (.iload_n 3, 1) := dk_29 (dk_at dksX0_ring_4 4 rfl rfl)
theorem dX0_ring_99 : decode cX0_ring 99 = .ok (.ifCond .ge 8, 3) := dk_156 0 8 (dk_at dksX0_ring_4 5 rfl rfl)
theorem dX0_ring_102 : decode cX0_ring 102 = .ok (.bipush (-4), 2) := dk_16 252 (dk_at dksX0_ring_4 8 rfl rfl)
theorem dX0_ring_104 : decode cX0_ring 104 = .ok (.goto 4, 3) := dk_167 0 4 (dk_at dksX0_ring_4 10 rfl rfl)
theorem dX0_ring_107 : decode cX0_ring 107 = .ok (.iload_n 3, 1) := dk_29 (dk_at dksX0_ring_4 13 rfl rfl)
theorem dX0_ring_108 : decode cX0_ring 108 = .ok (.iastore, 1) := dk_79 (dk_at dksX0_ring_4 14 rfl rfl)
theorem dX0_ring_109 : decode cX0_ring 109 = .ok (.iload 4, 2) := dk_21 4 (dk_at dksX0_ring_4 15 rfl rfl)
theorem dX0_ring_111 : decode cX0_ring 111 = .ok (.ifCond .ge 8, 3) := dk_156 0 8 (dk_at dksX0_ring_4 17 rfl rfl)
theorem dX0_ring_114 : decode cX0_ring 114 = .ok (.bipush 99, 2) := dk_16 99 (dk_at dksX0_ring_4 20 rfl rfl)
theorem dX0_ring_116 : decode cX0_ring 116 = .ok (.goto 8, 3) := dk_167 0 8 (dk_at dksX0_ring_5 0 rfl rfl)
theorem dX0_ring_119 : decode cX0_ring 119 = .ok (.bipush 100, 2) := dk_16 100 (dk_at dksX0_ring_5 3 rfl rfl)
theorem dX0_ring_121 : decode cX0_ring 121 = .ok (.iload 4, 2) := dk_21 4 (dk_at dksX0_ring_5 5 rfl rfl)
theorem dX0_ring_123 : decode cX0_ring 123 = .ok (.iadd, 1) := dk_96 (dk_at dksX0_ring_5 7 rfl rfl)
theorem dX0_ring_124 : decode cX0_ring 124 = .ok (.ireturn, 1) := dk_172 (dk_at dksX0_ring_5 8 rfl rfl)
abbrev cX0_type : ByteArray := prog_1_method_10_code
def yX0_type : MethodName := ⟨RX0, "type", "(JI)I"⟩
def dkwX0_type_4 : List UInt8 := [84, 42, 89, 180, 0, 89, 4, 96, 181, 0, 89, 132, 4, 255, 167, 255, 220, 42, 180, 0, 89, 172]
abbrev dktX0_type_4 : List UInt8 := dkwX0_type_4 ++ []
def dkwX0_type_3 : List UInt8 := [54, 4, 21, 4, 155, 0, 37, 42, 180, 0, 37, 42, 180, 0, 89, 31, 16, 8, 21, 4, 104, 123, 136, 145]
abbrev dktX0_type_3 : List UInt8 := dkwX0_type_3 ++ dktX0_type_4
def dkwX0_type_2 : List UInt8 := [132, 4, 255, 167, 255, 224, 42, 180, 0, 89, 29, 96, 16, 60, 164, 0, 6, 16, 253, 172, 29, 4, 100]
abbrev dktX0_type_2 : List UInt8 := dkwX0_type_2 ++ dktX0_type_3
def dkwX0_type_1 : List UInt8 := [16, 8, 21, 4, 104, 123, 20, 0, 87, 127, 136, 16, 32, 16, 126, 184, 0, 3, 154, 0, 5, 2, 172]
abbrev dktX0_type_1 : List UInt8 := dkwX0_type_1 ++ dktX0_type_2
def dkwX0_type_0 : List UInt8 := [29, 4, 16, 8, 184, 0, 3, 154, 0, 5, 2, 172, 29, 4, 100, 54, 4, 21, 4, 155, 0, 33, 31]
abbrev dktX0_type_0 : List UInt8 := dkwX0_type_0 ++ dktX0_type_1
theorem dksX0_type_0 : cX0_type.data.toList.drop 0 = dktX0_type_0 := by decide +kernel
theorem dksX0_type_1 : cX0_type.data.toList.drop 23 = dktX0_type_1 := dk_seg dksX0_type_0 23 rfl rfl
theorem dksX0_type_2 : cX0_type.data.toList.drop 46 = dktX0_type_2 := dk_seg dksX0_type_1 23 rfl rfl
theorem dksX0_type_3 : cX0_type.data.toList.drop 69 = dktX0_type_3 := dk_seg dksX0_type_2 23 rfl rfl
theorem dksX0_type_4 : cX0_type.data.toList.drop 93 = dktX0_type_4 := dk_seg dksX0_type_3 24 rfl rfl
theorem dX0_type_0 : decode cX0_type 0 = .ok (.iload_n 3, 1) := dk_29 (dk_at dksX0_type_0 0 rfl rfl)
theorem dX0_type_1 : decode cX0_type 1 = .ok (.iconst 1, 1) := dk_4 (dk_at dksX0_type_0 1 rfl rfl)
theorem dX0_type_2 : decode cX0_type 2 = .ok (.bipush 8, 2) := dk_16 8 (dk_at dksX0_type_0 2 rfl rfl)
theorem dX0_type_4 : decode cX0_type 4 = .ok (.invokestatic 3, 3) := dk_184 0 3 (dk_at dksX0_type_0 4 rfl rfl)
theorem dX0_type_7 : decode cX0_type 7 = .ok (.ifCond .ne 5, 3) := dk_154 0 5 (dk_at dksX0_type_0 7 rfl rfl)
theorem dX0_type_10 : decode cX0_type 10 = .ok (.iconst (-1), 1) := dk_2 (dk_at dksX0_type_0 10 rfl rfl)
theorem dX0_type_11 : decode cX0_type 11 = .ok (.ireturn, 1) := dk_172 (dk_at dksX0_type_0 11 rfl rfl)
theorem dX0_type_12 : decode cX0_type 12 = .ok (.iload_n 3, 1) := dk_29 (dk_at dksX0_type_0 12 rfl rfl)
theorem dX0_type_13 : decode cX0_type 13 = .ok (.iconst 1, 1) := dk_4 (dk_at dksX0_type_0 13 rfl rfl)
theorem dX0_type_14 : decode cX0_type 14 = .ok (.isub, 1) := dk_100 (dk_at dksX0_type_0 14 rfl rfl)
theorem dX0_type_15 : decode cX0_type 15 = .ok (.istore 4, 2) := dk_54 4 (dk_at dksX0_type_0 15 rfl rfl)
theorem dX0_type_17 : decode cX0_type 17 = .ok (.iload 4, 2) := dk_21 4 (dk_at dksX0_type_0 17 rfl rfl)
theorem dX0_type_19 : decode cX0_type 19 = .ok (.ifCond .lt 33, 3) := dk_155 0 33 (dk_at dksX0_type_0 19 rfl rfl)
theorem dX0_type_22 : decode cX0_type 22 = .ok (.lload_n 1, 1) := dk_31 (dk_at dksX0_type_0 22 rfl rfl)
theorem dX0_type_23 : decode cX0_type 23 = .ok (.bipush 8, 2) := dk_16 8 (dk_at dksX0_type_1 0 rfl rfl)
theorem dX0_type_25 : decode cX0_type 25 = .ok (.iload 4, 2) := dk_21 4 (dk_at dksX0_type_1 2 rfl rfl)
theorem dX0_type_27 : decode cX0_type 27 = .ok (.imul, 1) := dk_104 (dk_at dksX0_type_1 4 rfl rfl)
theorem dX0_type_28 : decode cX0_type 28 = .ok (.lshr, 1) := dk_123 (dk_at dksX0_type_1 5 rfl rfl)
theorem dX0_type_29 : decode cX0_type 29 = .ok (.ldc2_w 87, 3) := dk_20 0 87 (dk_at dksX0_type_1 6 rfl rfl)
theorem dX0_type_32 : decode cX0_type 32 = .ok (.land, 1) := dk_127 (dk_at dksX0_type_1 9 rfl rfl)
theorem dX0_type_33 : decode cX0_type 33 = .ok (.l2i, 1) := dk_136 (dk_at dksX0_type_1 10 rfl rfl)
theorem dX0_type_34 : decode cX0_type 34 = .ok (.bipush 32, 2) := dk_16 32 (dk_at dksX0_type_1 11 rfl rfl)
theorem dX0_type_36 : decode cX0_type 36 = .ok (.bipush 126, 2) := dk_16 126 (dk_at dksX0_type_1 13 rfl rfl)
theorem dX0_type_38 : decode cX0_type 38 = .ok (.invokestatic 3, 3) := dk_184 0 3 (dk_at dksX0_type_1 15 rfl rfl)
theorem dX0_type_41 : decode cX0_type 41 = .ok (.ifCond .ne 5, 3) := dk_154 0 5 (dk_at dksX0_type_1 18 rfl rfl)
theorem dX0_type_44 : decode cX0_type 44 = .ok (.iconst (-1), 1) := dk_2 (dk_at dksX0_type_1 21 rfl rfl)
theorem dX0_type_45 : decode cX0_type 45 = .ok (.ireturn, 1) := dk_172 (dk_at dksX0_type_1 22 rfl rfl)
theorem dX0_type_46 : decode cX0_type 46 = .ok (.iinc 4 (-1), 3) := dk_132 4 255 (dk_at dksX0_type_2 0 rfl rfl)
theorem dX0_type_49 : decode cX0_type 49 = .ok (.goto (-32), 3) := dk_167 255 224 (dk_at dksX0_type_2 3 rfl rfl)
theorem dX0_type_52 : decode cX0_type 52 = .ok (.aload_n 0, 1) := dk_42 (dk_at dksX0_type_2 6 rfl rfl)
theorem dX0_type_53 : decode cX0_type 53 = .ok (.getfield 89, 3) := dk_180 0 89 (dk_at dksX0_type_2 7 rfl rfl)
theorem dX0_type_56 : decode cX0_type 56 = .ok (.iload_n 3, 1) := dk_29 (dk_at dksX0_type_2 10 rfl rfl)
theorem dX0_type_57 : decode cX0_type 57 = .ok (.iadd, 1) := dk_96 (dk_at dksX0_type_2 11 rfl rfl)
theorem dX0_type_58 : decode cX0_type 58 = .ok (.bipush 60, 2) := dk_16 60 (dk_at dksX0_type_2 12 rfl rfl)
theorem dX0_type_60 : decode cX0_type 60 = .ok (.if_icmp .le 6, 3) := dk_164 0 6 (dk_at dksX0_type_2 14 rfl rfl)
theorem dX0_type_63 : decode cX0_type 63 = .ok (.bipush (-3), 2) := dk_16 253 (dk_at dksX0_type_2 17 rfl rfl)
theorem dX0_type_65 : decode cX0_type 65 = .ok (.ireturn, 1) := dk_172 (dk_at dksX0_type_2 19 rfl rfl)
theorem dX0_type_66 : decode cX0_type 66 = .ok (.iload_n 3, 1) := dk_29 (dk_at dksX0_type_2 20 rfl rfl)
theorem dX0_type_67 : decode cX0_type 67 = .ok (.iconst 1, 1) := dk_4 (dk_at dksX0_type_2 21 rfl rfl)
theorem dX0_type_68 : decode cX0_type 68 = .ok (.isub, 1) := dk_100 (dk_at dksX0_type_2 22 rfl rfl)
theorem dX0_type_69 : decode cX0_type 69 = .ok (.istore 4, 2) := dk_54 4 (dk_at dksX0_type_3 0 rfl rfl)
theorem dX0_type_71 : decode cX0_type 71 = .ok (.iload 4, 2) := dk_21 4 (dk_at dksX0_type_3 2 rfl rfl)
theorem dX0_type_73 : decode cX0_type 73 = .ok (.ifCond .lt 37, 3) := dk_155 0 37 (dk_at dksX0_type_3 4 rfl rfl)
theorem dX0_type_76 : decode cX0_type 76 = .ok (.aload_n 0, 1) := dk_42 (dk_at dksX0_type_3 7 rfl rfl)
theorem dX0_type_77 : decode cX0_type 77 = .ok (.getfield 37, 3) := dk_180 0 37 (dk_at dksX0_type_3 8 rfl rfl)
theorem dX0_type_80 : decode cX0_type 80 = .ok (.aload_n 0, 1) := dk_42 (dk_at dksX0_type_3 11 rfl rfl)
theorem dX0_type_81 : decode cX0_type 81 = .ok (.getfield 89, 3) := dk_180 0 89 (dk_at dksX0_type_3 12 rfl rfl)
theorem dX0_type_84 : decode cX0_type 84 = .ok (.lload_n 1, 1) := dk_31 (dk_at dksX0_type_3 15 rfl rfl)
theorem dX0_type_85 : decode cX0_type 85 = .ok (.bipush 8, 2) := dk_16 8 (dk_at dksX0_type_3 16 rfl rfl)
theorem dX0_type_87 : decode cX0_type 87 = .ok (.iload 4, 2) := dk_21 4 (dk_at dksX0_type_3 18 rfl rfl)
theorem dX0_type_89 : decode cX0_type 89 = .ok (.imul, 1) := dk_104 (dk_at dksX0_type_3 20 rfl rfl)
theorem dX0_type_90 : decode cX0_type 90 = .ok (.lshr, 1) := dk_123 (dk_at dksX0_type_3 21 rfl rfl)
theorem dX0_type_91 : decode cX0_type 91 = .ok (.l2i, 1) := dk_136 (dk_at dksX0_type_3 22 rfl rfl)
theorem dX0_type_92 : decode cX0_type 92 = .ok (.i2b, 1) := dk_145 (dk_at dksX0_type_3 23 rfl rfl)
theorem dX0_type_93 : decode cX0_type 93 = .ok (.bastore, 1) := dk_84 (dk_at dksX0_type_4 0 rfl rfl)
theorem dX0_type_94 : decode cX0_type 94 = .ok (.aload_n 0, 1) := dk_42 (dk_at dksX0_type_4 1 rfl rfl)
theorem dX0_type_95 : decode cX0_type 95 = .ok (.dup, 1) := dk_89 (dk_at dksX0_type_4 2 rfl rfl)
theorem dX0_type_96 : decode cX0_type 96 = .ok (.getfield 89, 3) := dk_180 0 89 (dk_at dksX0_type_4 3 rfl rfl)
theorem dX0_type_99 : decode cX0_type 99 = .ok (.iconst 1, 1) := dk_4 (dk_at dksX0_type_4 6 rfl rfl)
theorem dX0_type_100 : decode cX0_type 100 = .ok (.iadd, 1) := dk_96 (dk_at dksX0_type_4 7 rfl rfl)
theorem dX0_type_101 : decode cX0_type 101 = .ok (.putfield 89, 3) := dk_181 0 89 (dk_at dksX0_type_4 8 rfl rfl)
theorem dX0_type_104 : decode cX0_type 104 = .ok (.iinc 4 (-1), 3) := dk_132 4 255 (dk_at dksX0_type_4 11 rfl rfl)
theorem dX0_type_107 : decode cX0_type 107 = .ok (.goto (-36), 3) := dk_167 255 220 (dk_at dksX0_type_4 14 rfl rfl)
theorem dX0_type_110 : decode cX0_type 110 = .ok (.aload_n 0, 1) := dk_42 (dk_at dksX0_type_4 17 rfl rfl)
theorem dX0_type_111 : decode cX0_type 111 = .ok (.getfield 89, 3) := dk_180 0 89 (dk_at dksX0_type_4 18 rfl rfl)
theorem dX0_type_114 : decode cX0_type 114 = .ok (.ireturn, 1) := dk_172 (dk_at dksX0_type_4 21 rfl rfl)
abbrev cX0_rings : ByteArray := prog_1_method_17_code
def yX0_rings : MethodName := ⟨RX0, "rings", "()I"⟩
def dkwX0_rings_4 : List UInt8 := [3, 16, 7, 184, 0, 119, 27, 172]
abbrev dktX0_rings_4 : List UInt8 := dkwX0_rings_4 ++ []
def dkwX0_rings_3 : List UInt8 := [180, 0, 26, 180, 0, 84, 3, 16, 7, 184, 0, 119, 42, 180, 0, 45, 3, 42, 180, 0, 26, 180, 0, 81]
abbrev dktX0_rings_3 : List UInt8 := dkwX0_rings_3 ++ dktX0_rings_4
def dkwX0_rings_2 : List UInt8 := [3, 181, 0, 89, 16, 236, 44, 180, 0, 96, 100, 172, 42, 3, 181, 0, 89, 42, 180, 0, 41, 3, 42]
abbrev dktX0_rings_2 : List UInt8 := dkwX0_rings_2 ++ dktX0_rings_3
def dkwX0_rings_1 : List UInt8 := [180, 0, 81, 3, 42, 180, 0, 45, 3, 16, 7, 184, 0, 119, 42, 182, 0, 125, 60, 167, 0, 17, 77, 42]
abbrev dktX0_rings_1 : List UInt8 := dkwX0_rings_1 ++ dktX0_rings_2
def dkwX0_rings_0 : List UInt8 := [42, 180, 0, 26, 180, 0, 84, 3, 42, 180, 0, 41, 3, 16, 7, 184, 0, 119, 42, 180, 0, 26]
abbrev dktX0_rings_0 : List UInt8 := dkwX0_rings_0 ++ dktX0_rings_1
theorem dksX0_rings_0 : cX0_rings.data.toList.drop 0 = dktX0_rings_0 := by decide +kernel
theorem dksX0_rings_1 : cX0_rings.data.toList.drop 22 = dktX0_rings_1 := dk_seg dksX0_rings_0 22 rfl rfl
theorem dksX0_rings_2 : cX0_rings.data.toList.drop 46 = dktX0_rings_2 := dk_seg dksX0_rings_1 24 rfl rfl
theorem dksX0_rings_3 : cX0_rings.data.toList.drop 69 = dktX0_rings_3 := dk_seg dksX0_rings_2 23 rfl rfl
theorem dksX0_rings_4 : cX0_rings.data.toList.drop 93 = dktX0_rings_4 := dk_seg dksX0_rings_3 24 rfl rfl
theorem dX0_rings_0 : decode cX0_rings 0 = .ok (.aload_n 0, 1) := dk_42 (dk_at dksX0_rings_0 0 rfl rfl)
theorem dX0_rings_1 : decode cX0_rings 1 = .ok (.getfield 26, 3) := dk_180 0 26 (dk_at dksX0_rings_0 1 rfl rfl)
theorem dX0_rings_4 : decode cX0_rings 4 = .ok (.getfield 84, 3) := dk_180 0 84 (dk_at dksX0_rings_0 4 rfl rfl)
theorem dX0_rings_7 : decode cX0_rings 7 = .ok (.iconst 0, 1) := dk_3 (dk_at dksX0_rings_0 7 rfl rfl)
theorem dX0_rings_8 : decode cX0_rings 8 = .ok (.aload_n 0, 1) := dk_42 (dk_at dksX0_rings_0 8 rfl rfl)
theorem dX0_rings_9 : decode cX0_rings 9 = .ok (.getfield 41, 3) := dk_180 0 41 (dk_at dksX0_rings_0 9 rfl rfl)
theorem dX0_rings_12 : decode cX0_rings 12 = .ok (.iconst 0, 1) := dk_3 (dk_at dksX0_rings_0 12 rfl rfl)
theorem dX0_rings_13 : decode cX0_rings 13 = .ok (.bipush 7, 2) := dk_16 7 (dk_at dksX0_rings_0 13 rfl rfl)
theorem dX0_rings_15 : decode cX0_rings 15 = .ok (.invokestatic 119, 3) := dk_184 0 119 (dk_at dksX0_rings_0 15 rfl rfl)
theorem dX0_rings_18 : decode cX0_rings 18 = .ok (.aload_n 0, 1) := dk_42 (dk_at dksX0_rings_0 18 rfl rfl)
theorem dX0_rings_19 : decode cX0_rings 19 = .ok (.getfield 26, 3) := dk_180 0 26 (dk_at dksX0_rings_0 19 rfl rfl)
theorem dX0_rings_22 : decode cX0_rings 22 = .ok (.getfield 81, 3) := dk_180 0 81 (dk_at dksX0_rings_1 0 rfl rfl)
theorem dX0_rings_25 : decode cX0_rings 25 = .ok (.iconst 0, 1) := dk_3 (dk_at dksX0_rings_1 3 rfl rfl)
theorem dX0_rings_26 : decode cX0_rings 26 = .ok (.aload_n 0, 1) := dk_42 (dk_at dksX0_rings_1 4 rfl rfl)
theorem dX0_rings_27 : decode cX0_rings 27 = .ok (.getfield 45, 3) := dk_180 0 45 (dk_at dksX0_rings_1 5 rfl rfl)
theorem dX0_rings_30 : decode cX0_rings 30 = .ok (.iconst 0, 1) := dk_3 (dk_at dksX0_rings_1 8 rfl rfl)
theorem dX0_rings_31 : decode cX0_rings 31 = .ok (.bipush 7, 2) := dk_16 7 (dk_at dksX0_rings_1 9 rfl rfl)
theorem dX0_rings_33 : decode cX0_rings 33 = .ok (.invokestatic 119, 3) := dk_184 0 119 (dk_at dksX0_rings_1 11 rfl rfl)
theorem dX0_rings_36 : decode cX0_rings 36 = .ok (.aload_n 0, 1) := dk_42 (dk_at dksX0_rings_1 14 rfl rfl)
theorem dX0_rings_37 : decode cX0_rings 37 = .ok (.invokevirtual 125, 3) := dk_182 0 125 (dk_at dksX0_rings_1 15 rfl rfl)
theorem dX0_rings_40 : decode cX0_rings 40 = .ok (.istore_n 1, 1) := dk_60 (dk_at dksX0_rings_1 18 rfl rfl)
theorem dX0_rings_41 : decode cX0_rings 41 = .ok (.goto 17, 3) := dk_167 0 17 (dk_at dksX0_rings_1 19 rfl rfl)
theorem dX0_rings_44 : decode cX0_rings 44 = .ok (.astore_n 2, 1) := dk_77 (dk_at dksX0_rings_1 22 rfl rfl)
theorem dX0_rings_45 : decode cX0_rings 45 = .ok (.aload_n 0, 1) := dk_42 (dk_at dksX0_rings_1 23 rfl rfl)
theorem dX0_rings_46 : decode cX0_rings 46 = .ok (.iconst 0, 1) := dk_3 (dk_at dksX0_rings_2 0 rfl rfl)
theorem dX0_rings_47 : decode cX0_rings 47 = .ok (.putfield 89, 3) := dk_181 0 89 (dk_at dksX0_rings_2 1 rfl rfl)
theorem dX0_rings_50 : decode cX0_rings 50 = .ok (.bipush (-20), 2) := dk_16 236 (dk_at dksX0_rings_2 4 rfl rfl)
theorem dX0_rings_52 : decode cX0_rings 52 = .ok (.aload_n 2, 1) := dk_44 (dk_at dksX0_rings_2 6 rfl rfl)
theorem dX0_rings_53 : decode cX0_rings 53 = .ok (.getfield 96, 3) := dk_180 0 96 (dk_at dksX0_rings_2 7 rfl rfl)
theorem dX0_rings_56 : decode cX0_rings 56 = .ok (.isub, 1) := dk_100 (dk_at dksX0_rings_2 10 rfl rfl)
theorem dX0_rings_57 : decode cX0_rings 57 = .ok (.ireturn, 1) := dk_172 (dk_at dksX0_rings_2 11 rfl rfl)
theorem dX0_rings_58 : decode cX0_rings 58 = .ok (.aload_n 0, 1) := dk_42 (dk_at dksX0_rings_2 12 rfl rfl)
theorem dX0_rings_59 : decode cX0_rings 59 = .ok (.iconst 0, 1) := dk_3 (dk_at dksX0_rings_2 13 rfl rfl)
theorem dX0_rings_60 : decode cX0_rings 60 = .ok (.putfield 89, 3) := dk_181 0 89 (dk_at dksX0_rings_2 14 rfl rfl)
theorem dX0_rings_63 : decode cX0_rings 63 = .ok (.aload_n 0, 1) := dk_42 (dk_at dksX0_rings_2 17 rfl rfl)
theorem dX0_rings_64 : decode cX0_rings 64 = .ok (.getfield 41, 3) := dk_180 0 41 (dk_at dksX0_rings_2 18 rfl rfl)
theorem dX0_rings_67 : decode cX0_rings 67 = .ok (.iconst 0, 1) := dk_3 (dk_at dksX0_rings_2 21 rfl rfl)
theorem dX0_rings_68 : decode cX0_rings 68 = .ok (.aload_n 0, 1) := dk_42 (dk_at dksX0_rings_2 22 rfl rfl)
theorem dX0_rings_69 : decode cX0_rings 69 = .ok (.getfield 26, 3) := dk_180 0 26 (dk_at dksX0_rings_3 0 rfl rfl)
theorem dX0_rings_72 : decode cX0_rings 72 = .ok (.getfield 84, 3) := dk_180 0 84 (dk_at dksX0_rings_3 3 rfl rfl)
theorem dX0_rings_75 : decode cX0_rings 75 = .ok (.iconst 0, 1) := dk_3 (dk_at dksX0_rings_3 6 rfl rfl)
theorem dX0_rings_76 : decode cX0_rings 76 = .ok (.bipush 7, 2) := dk_16 7 (dk_at dksX0_rings_3 7 rfl rfl)
theorem dX0_rings_78 : decode cX0_rings 78 = .ok (.invokestatic 119, 3) := dk_184 0 119 (dk_at dksX0_rings_3 9 rfl rfl)
theorem dX0_rings_81 : decode cX0_rings 81 = .ok (.aload_n 0, 1) := dk_42 (dk_at dksX0_rings_3 12 rfl rfl)
theorem dX0_rings_82 : decode cX0_rings 82 = .ok (.getfield 45, 3) := dk_180 0 45 (dk_at dksX0_rings_3 13 rfl rfl)
theorem dX0_rings_85 : decode cX0_rings 85 = .ok (.iconst 0, 1) := dk_3 (dk_at dksX0_rings_3 16 rfl rfl)
theorem dX0_rings_86 : decode cX0_rings 86 = .ok (.aload_n 0, 1) := dk_42 (dk_at dksX0_rings_3 17 rfl rfl)
theorem dX0_rings_87 : decode cX0_rings 87 = .ok (.getfield 26, 3) := dk_180 0 26 (dk_at dksX0_rings_3 18 rfl rfl)
theorem dX0_rings_90 : decode cX0_rings 90 = .ok (.getfield 81, 3) := dk_180 0 81 (dk_at dksX0_rings_3 21 rfl rfl)
theorem dX0_rings_93 : decode cX0_rings 93 = .ok (.iconst 0, 1) := dk_3 (dk_at dksX0_rings_4 0 rfl rfl)
theorem dX0_rings_94 : decode cX0_rings 94 = .ok (.bipush 7, 2) := dk_16 7 (dk_at dksX0_rings_4 1 rfl rfl)
theorem dX0_rings_96 : decode cX0_rings 96 = .ok (.invokestatic 119, 3) := dk_184 0 119 (dk_at dksX0_rings_4 3 rfl rfl)
theorem dX0_rings_99 : decode cX0_rings 99 = .ok (.iload_n 1, 1) := dk_27 (dk_at dksX0_rings_4 6 rfl rfl)
theorem dX0_rings_100 : decode cX0_rings 100 = .ok (.ireturn, 1) := dk_172 (dk_at dksX0_rings_4 7 rfl rfl)
abbrev cX0_readRings : ByteArray := prog_1_method_16_code
def yX0_readRings : MethodName := ⟨RX0, "readRings", "()I"⟩
def dkwX0_readRings_5 : List UInt8 := [182, 0, 103, 191, 27, 172]
abbrev dktX0_readRings_5 : List UInt8 := dkwX0_readRings_5 ++ []
def dkwX0_readRings_4 : List UInt8 := [182, 0, 107, 153, 0, 7, 4, 167, 0, 4, 3, 62, 167, 255, 161, 42, 182, 0, 99, 155, 0, 8, 42]
abbrev dktX0_readRings_4 : List UInt8 := dkwX0_readRings_4 ++ dktX0_readRings_5
def dkwX0_readRings_3 : List UInt8 := [182, 0, 107, 153, 0, 7, 5, 167, 0, 4, 3, 79, 132, 1, 1, 27, 16, 6, 162, 0, 16, 42, 16, 59]
abbrev dktX0_readRings_3 : List UInt8 := dkwX0_readRings_3 ++ dktX0_readRings_4
def dkwX0_readRings_2 : List UInt8 := [79, 42, 180, 0, 45, 28, 42, 16, 45, 182, 0, 107, 153, 0, 7, 4, 167, 0, 17, 42, 16, 43]
abbrev dktX0_readRings_2 : List UInt8 := dkwX0_readRings_2 ++ dktX0_readRings_3
def dkwX0_readRings_1 : List UInt8 := [61, 42, 16, 58, 182, 0, 107, 154, 0, 8, 42, 182, 0, 103, 191, 42, 180, 0, 41, 28, 42, 182, 0, 116]
abbrev dktX0_readRings_1 : List UInt8 := dkwX0_readRings_1 ++ dktX0_readRings_2
def dkwX0_readRings_0 : List UInt8 := [3, 60, 3, 61, 42, 3, 181, 0, 93, 4, 62, 29, 153, 0, 97, 42, 28, 4, 96, 16, 6, 182, 0, 113]
abbrev dktX0_readRings_0 : List UInt8 := dkwX0_readRings_0 ++ dktX0_readRings_1
theorem dksX0_readRings_0 : cX0_readRings.data.toList.drop 0 = dktX0_readRings_0 := by decide +kernel
theorem dksX0_readRings_1 : cX0_readRings.data.toList.drop 24 = dktX0_readRings_1 := dk_seg dksX0_readRings_0 24 rfl rfl
theorem dksX0_readRings_2 : cX0_readRings.data.toList.drop 48 = dktX0_readRings_2 := dk_seg dksX0_readRings_1 24 rfl rfl
theorem dksX0_readRings_3 : cX0_readRings.data.toList.drop 70 = dktX0_readRings_3 := dk_seg dksX0_readRings_2 22 rfl rfl
theorem dksX0_readRings_4 : cX0_readRings.data.toList.drop 94 = dktX0_readRings_4 := dk_seg dksX0_readRings_3 24 rfl rfl
theorem dksX0_readRings_5 : cX0_readRings.data.toList.drop 117 = dktX0_readRings_5 := dk_seg dksX0_readRings_4 23 rfl rfl
theorem dX0_readRings_0 : decode cX0_readRings 0 = .ok (.iconst 0, 1) := dk_3 (dk_at dksX0_readRings_0 0 rfl rfl)
theorem dX0_readRings_1 : decode cX0_readRings 1 = .ok (.istore_n 1, 1) := dk_60 (dk_at dksX0_readRings_0 1 rfl rfl)
theorem dX0_readRings_2 : decode cX0_readRings 2 = .ok (.iconst 0, 1) := dk_3 (dk_at dksX0_readRings_0 2 rfl rfl)
theorem dX0_readRings_3 : decode cX0_readRings 3 = .ok (.istore_n 2, 1) := dk_61 (dk_at dksX0_readRings_0 3 rfl rfl)
theorem dX0_readRings_4 : decode cX0_readRings 4 = .ok (.aload_n 0, 1) := dk_42 (dk_at dksX0_readRings_0 4 rfl rfl)
theorem dX0_readRings_5 : decode cX0_readRings 5 = .ok (.iconst 0, 1) := dk_3 (dk_at dksX0_readRings_0 5 rfl rfl)
theorem dX0_readRings_6 : decode cX0_readRings 6 = .ok (.putfield 93, 3) := dk_181 0 93 (dk_at dksX0_readRings_0 6 rfl rfl)
theorem dX0_readRings_9 : decode cX0_readRings 9 = .ok (.iconst 1, 1) := dk_4 (dk_at dksX0_readRings_0 9 rfl rfl)
theorem dX0_readRings_10 : decode cX0_readRings 10 = .ok (.istore_n 3, 1) := dk_62 (dk_at dksX0_readRings_0 10 rfl rfl)
theorem dX0_readRings_11 : decode cX0_readRings 11 = .ok (.iload_n 3, 1) := dk_29 (dk_at dksX0_readRings_0 11 rfl rfl)
theorem dX0_readRings_12 : decode cX0_readRings 12 = .ok (.ifCond .eq 97, 3) := dk_153 0 97 (dk_at dksX0_readRings_0 12 rfl rfl)
theorem dX0_readRings_15 : decode cX0_readRings 15 = .ok (.aload_n 0, 1) := dk_42 (dk_at dksX0_readRings_0 15 rfl rfl)
theorem dX0_readRings_16 : decode cX0_readRings 16 = .ok (.iload_n 2, 1) := dk_28 (dk_at dksX0_readRings_0 16 rfl rfl)
theorem dX0_readRings_17 : decode cX0_readRings 17 = .ok (.iconst 1, 1) := dk_4 (dk_at dksX0_readRings_0 17 rfl rfl)
theorem dX0_readRings_18 : decode cX0_readRings 18 = .ok (.iadd, 1) := dk_96 (dk_at dksX0_readRings_0 18 rfl rfl)
theorem dX0_readRings_19 : decode cX0_readRings 19 = .ok (.bipush 6, 2) := dk_16 6 (dk_at dksX0_readRings_0 19 rfl rfl)
theorem dX0_readRings_21 : decode cX0_readRings 21 = .ok (.invokevirtual 113, 3) := dk_182 0 113 (dk_at dksX0_readRings_0 21 rfl rfl)
theorem dX0_readRings_24 : decode cX0_readRings 24 = .ok (.istore_n 2, 1) := dk_61 (dk_at dksX0_readRings_1 0 rfl rfl)
theorem dX0_readRings_25 : decode cX0_readRings 25 = .ok (.aload_n 0, 1) := dk_42 (dk_at dksX0_readRings_1 1 rfl rfl)
theorem dX0_readRings_26 : decode cX0_readRings 26 = .ok (.bipush 58, 2) := dk_16 58 (dk_at dksX0_readRings_1 2 rfl rfl)
theorem dX0_readRings_28 : decode cX0_readRings 28 = .ok (.invokevirtual 107, 3) := dk_182 0 107 (dk_at dksX0_readRings_1 4 rfl rfl)
theorem dX0_readRings_31 : decode cX0_readRings 31 = .ok (.ifCond .ne 8, 3) := dk_154 0 8 (dk_at dksX0_readRings_1 7 rfl rfl)
theorem dX0_readRings_34 : decode cX0_readRings 34 = .ok (.aload_n 0, 1) := dk_42 (dk_at dksX0_readRings_1 10 rfl rfl)
theorem dX0_readRings_35 : decode cX0_readRings 35 = .ok (.invokevirtual 103, 3) := dk_182 0 103 (dk_at dksX0_readRings_1 11 rfl rfl)
theorem dX0_readRings_38 : decode cX0_readRings 38 = .ok (.athrow, 1) := dk_191 (dk_at dksX0_readRings_1 14 rfl rfl)
theorem dX0_readRings_39 : decode cX0_readRings 39 = .ok (.aload_n 0, 1) := dk_42 (dk_at dksX0_readRings_1 15 rfl rfl)
theorem dX0_readRings_40 : decode cX0_readRings 40 = .ok (.getfield 41, 3) := dk_180 0 41 (dk_at dksX0_readRings_1 16 rfl rfl)
theorem dX0_readRings_43 : decode cX0_readRings 43 = .ok (.iload_n 2, 1) := dk_28 (dk_at dksX0_readRings_1 19 rfl rfl)
theorem dX0_readRings_44 : decode cX0_readRings 44 = .ok (.aload_n 0, 1) := dk_42 (dk_at dksX0_readRings_1 20 rfl rfl)
theorem dX0_readRings_45 : decode cX0_readRings 45 = .ok (.invokevirtual 116, 3) := dk_182 0 116 (dk_at dksX0_readRings_1 21 rfl rfl)
theorem dX0_readRings_48 : decode cX0_readRings 48 = .ok (.iastore, 1) := dk_79 (dk_at dksX0_readRings_2 0 rfl rfl)
theorem dX0_readRings_49 : decode cX0_readRings 49 = .ok (.aload_n 0, 1) := dk_42 (dk_at dksX0_readRings_2 1 rfl rfl)
theorem dX0_readRings_50 : decode cX0_readRings 50 = .ok (.getfield 45, 3) := dk_180 0 45 (dk_at dksX0_readRings_2 2 rfl rfl)
theorem dX0_readRings_53 : decode cX0_readRings 53 = .ok (.iload_n 2, 1) := dk_28 (dk_at dksX0_readRings_2 5 rfl rfl)
theorem dX0_readRings_54 : decode cX0_readRings 54 = .ok (.aload_n 0, 1) := dk_42 (dk_at dksX0_readRings_2 6 rfl rfl)
theorem dX0_readRings_55 : decode cX0_readRings 55 = .ok (.bipush 45, 2) := dk_16 45 (dk_at dksX0_readRings_2 7 rfl rfl)
theorem dX0_readRings_57 : decode cX0_readRings 57 = .ok (.invokevirtual 107, 3) := dk_182 0 107 (dk_at dksX0_readRings_2 9 rfl rfl)
theorem dX0_readRings_60 : decode cX0_readRings 60 = .ok (.ifCond .eq 7, 3) := dk_153 0 7 (dk_at dksX0_readRings_2 12 rfl rfl)
theorem dX0_readRings_63 : decode cX0_readRings 63 = .ok (.iconst 1, 1) := dk_4 (dk_at dksX0_readRings_2 15 rfl rfl)
theorem dX0_readRings_64 : decode cX0_readRings 64 = .ok (.goto 17, 3) := dk_167 0 17 (dk_at dksX0_readRings_2 16 rfl rfl)
theorem dX0_readRings_67 : decode cX0_readRings 67 = .ok (.aload_n 0, 1) := dk_42 (dk_at dksX0_readRings_2 19 rfl rfl)
theorem dX0_readRings_68 : decode cX0_readRings 68 = .ok (.bipush 43, 2) := dk_16 43 (dk_at dksX0_readRings_2 20 rfl rfl)
theorem dX0_readRings_70 : decode cX0_readRings 70 = .ok (.invokevirtual 107, 3) := dk_182 0 107 (dk_at dksX0_readRings_3 0 rfl rfl)
theorem dX0_readRings_73 : decode cX0_readRings 73 = .ok (.ifCond .eq 7, 3) := dk_153 0 7 (dk_at dksX0_readRings_3 3 rfl rfl)
theorem dX0_readRings_76 : decode cX0_readRings 76 = .ok (.iconst 2, 1) := dk_5 (dk_at dksX0_readRings_3 6 rfl rfl)
theorem dX0_readRings_77 : decode cX0_readRings 77 = .ok (.goto 4, 3) := dk_167 0 4 (dk_at dksX0_readRings_3 7 rfl rfl)
theorem dX0_readRings_80 : decode cX0_readRings 80 = .ok (.iconst 0, 1) := dk_3 (dk_at dksX0_readRings_3 10 rfl rfl)
theorem dX0_readRings_81 : decode cX0_readRings 81 = .ok (.iastore, 1) := dk_79 (dk_at dksX0_readRings_3 11 rfl rfl)
theorem dX0_readRings_82 : decode cX0_readRings 82 = .ok (.iinc 1 1, 3) := dk_132 1 1 (dk_at dksX0_readRings_3 12 rfl rfl)
theorem dX0_readRings_85 : decode cX0_readRings 85 = .ok (.iload_n 1, 1) := dk_27 (dk_at dksX0_readRings_3 15 rfl rfl)
theorem dX0_readRings_86 : decode cX0_readRings 86 = .ok (.bipush 6, 2) := dk_16 6 (dk_at dksX0_readRings_3 16 rfl rfl)
theorem dX0_readRings_88 : decode cX0_readRings 88 = .ok (.if_icmp .ge 16, 3) := dk_162 0 16 (dk_at dksX0_readRings_3 18 rfl rfl)
theorem dX0_readRings_91 : decode cX0_readRings 91 = .ok (.aload_n 0, 1) := dk_42 (dk_at dksX0_readRings_3 21 rfl rfl)
theorem dX0_readRings_92 : decode cX0_readRings 92 = .ok (.bipush 59, 2) := dk_16 59 (dk_at dksX0_readRings_3 22 rfl rfl)
theorem dX0_readRings_94 : decode cX0_readRings 94 = .ok (.invokevirtual 107, 3) := dk_182 0 107 (dk_at dksX0_readRings_4 0 rfl rfl)
theorem dX0_readRings_97 : decode cX0_readRings 97 = .ok (.ifCond .eq 7, 3) := dk_153 0 7 (dk_at dksX0_readRings_4 3 rfl rfl)
theorem dX0_readRings_100 : decode cX0_readRings 100 = .ok (.iconst 1, 1) := dk_4 (dk_at dksX0_readRings_4 6 rfl rfl)
theorem dX0_readRings_101 : decode cX0_readRings 101 = .ok (.goto 4, 3) := dk_167 0 4 (dk_at dksX0_readRings_4 7 rfl rfl)
theorem dX0_readRings_104 : decode cX0_readRings 104 = .ok (.iconst 0, 1) := dk_3 (dk_at dksX0_readRings_4 10 rfl rfl)
theorem dX0_readRings_105 : decode cX0_readRings 105 = .ok (.istore_n 3, 1) := dk_62 (dk_at dksX0_readRings_4 11 rfl rfl)
theorem dX0_readRings_106 : decode cX0_readRings 106 = .ok (.goto (-95), 3) := dk_167 255 161 (dk_at dksX0_readRings_4 12 rfl rfl)
theorem dX0_readRings_109 : decode cX0_readRings 109 = .ok (.aload_n 0, 1) := dk_42 (dk_at dksX0_readRings_4 15 rfl rfl)
theorem dX0_readRings_110 : decode cX0_readRings 110 = .ok (.invokevirtual 99, 3) := dk_182 0 99 (dk_at dksX0_readRings_4 16 rfl rfl)
theorem dX0_readRings_113 : decode cX0_readRings 113 = .ok (.ifCond .lt 8, 3) := dk_155 0 8 (dk_at dksX0_readRings_4 19 rfl rfl)
theorem dX0_readRings_116 : decode cX0_readRings 116 = .ok (.aload_n 0, 1) := dk_42 (dk_at dksX0_readRings_4 22 rfl rfl)
theorem dX0_readRings_117 : decode cX0_readRings 117 = .ok (.invokevirtual 103, 3) := dk_182 0 103 (dk_at dksX0_readRings_5 0 rfl rfl)
theorem dX0_readRings_120 : decode cX0_readRings 120 = .ok (.athrow, 1) := dk_191 (dk_at dksX0_readRings_5 3 rfl rfl)
theorem dX0_readRings_121 : decode cX0_readRings 121 = .ok (.iload_n 1, 1) := dk_27 (dk_at dksX0_readRings_5 4 rfl rfl)
theorem dX0_readRings_122 : decode cX0_readRings 122 = .ok (.ireturn, 1) := dk_172 (dk_at dksX0_readRings_5 5 rfl rfl)
abbrev cX0_readDigit : ByteArray := prog_1_method_14_code
def yX0_readDigit : MethodName := ⟨RX0, "readDigit", "(II)I"⟩
def dkwX0_readDigit_1 : List UInt8 := [180, 0, 93, 4, 96, 181, 0, 93, 29, 172]
abbrev dktX0_readDigit_1 : List UInt8 := dkwX0_readDigit_1 ++ []
def dkwX0_readDigit_0 : List UInt8 := [42, 182, 0, 99, 16, 48, 100, 62, 29, 27, 28, 184, 0, 3, 154, 0, 8, 42, 182, 0, 103, 191, 42, 89]
abbrev dktX0_readDigit_0 : List UInt8 := dkwX0_readDigit_0 ++ dktX0_readDigit_1
theorem dksX0_readDigit_0 : cX0_readDigit.data.toList.drop 0 = dktX0_readDigit_0 := by decide +kernel
theorem dksX0_readDigit_1 : cX0_readDigit.data.toList.drop 24 = dktX0_readDigit_1 := dk_seg dksX0_readDigit_0 24 rfl rfl
theorem dX0_readDigit_0 : decode cX0_readDigit 0 = .ok (.aload_n 0, 1) := dk_42 (dk_at dksX0_readDigit_0 0 rfl rfl)
theorem dX0_readDigit_1 : decode cX0_readDigit 1 = .ok (.invokevirtual 99, 3) := dk_182 0 99 (dk_at dksX0_readDigit_0 1 rfl rfl)
theorem dX0_readDigit_4 : decode cX0_readDigit 4 = .ok (.bipush 48, 2) := dk_16 48 (dk_at dksX0_readDigit_0 4 rfl rfl)
theorem dX0_readDigit_6 : decode cX0_readDigit 6 = .ok (.isub, 1) := dk_100 (dk_at dksX0_readDigit_0 6 rfl rfl)
theorem dX0_readDigit_7 : decode cX0_readDigit 7 = .ok (.istore_n 3, 1) := dk_62 (dk_at dksX0_readDigit_0 7 rfl rfl)
theorem dX0_readDigit_8 : decode cX0_readDigit 8 = .ok (.iload_n 3, 1) := dk_29 (dk_at dksX0_readDigit_0 8 rfl rfl)
theorem dX0_readDigit_9 : decode cX0_readDigit 9 = .ok (.iload_n 1, 1) := dk_27 (dk_at dksX0_readDigit_0 9 rfl rfl)
theorem dX0_readDigit_10 : decode cX0_readDigit 10 = .ok (.iload_n 2, 1) := dk_28 (dk_at dksX0_readDigit_0 10 rfl rfl)
theorem dX0_readDigit_11 : decode cX0_readDigit 11 = .ok (.invokestatic 3, 3) := dk_184 0 3 (dk_at dksX0_readDigit_0 11 rfl rfl)
theorem dX0_readDigit_14 : decode cX0_readDigit 14 = .ok (.ifCond .ne 8, 3) := dk_154 0 8 (dk_at dksX0_readDigit_0 14 rfl rfl)
theorem dX0_readDigit_17 : decode cX0_readDigit 17 = .ok (.aload_n 0, 1) := dk_42 (dk_at dksX0_readDigit_0 17 rfl rfl)
theorem dX0_readDigit_18 : decode cX0_readDigit 18 = .ok (.invokevirtual 103, 3) := dk_182 0 103 (dk_at dksX0_readDigit_0 18 rfl rfl)
theorem dX0_readDigit_21 : decode cX0_readDigit 21 = .ok (.athrow, 1) := dk_191 (dk_at dksX0_readDigit_0 21 rfl rfl)
theorem dX0_readDigit_22 : decode cX0_readDigit 22 = .ok (.aload_n 0, 1) := dk_42 (dk_at dksX0_readDigit_0 22 rfl rfl)
theorem dX0_readDigit_23 : decode cX0_readDigit 23 = .ok (.dup, 1) := dk_89 (dk_at dksX0_readDigit_0 23 rfl rfl)
theorem dX0_readDigit_24 : decode cX0_readDigit 24 = .ok (.getfield 93, 3) := dk_180 0 93 (dk_at dksX0_readDigit_1 0 rfl rfl)
theorem dX0_readDigit_27 : decode cX0_readDigit 27 = .ok (.iconst 1, 1) := dk_4 (dk_at dksX0_readDigit_1 3 rfl rfl)
theorem dX0_readDigit_28 : decode cX0_readDigit 28 = .ok (.iadd, 1) := dk_96 (dk_at dksX0_readDigit_1 4 rfl rfl)
theorem dX0_readDigit_29 : decode cX0_readDigit 29 = .ok (.putfield 93, 3) := dk_181 0 93 (dk_at dksX0_readDigit_1 5 rfl rfl)
theorem dX0_readDigit_32 : decode cX0_readDigit 32 = .ok (.iload_n 3, 1) := dk_29 (dk_at dksX0_readDigit_1 8 rfl rfl)
theorem dX0_readDigit_33 : decode cX0_readDigit 33 = .ok (.ireturn, 1) := dk_172 (dk_at dksX0_readDigit_1 9 rfl rfl)
abbrev cX0_nextByte : ByteArray := prog_1_method_11_code
def yX0_nextByte : MethodName := ⟨RX0, "nextByte", "()I"⟩
def dkwX0_nextByte_2 : List UInt8 := [162, 0, 15, 42, 180, 0, 37, 42, 180, 0, 93, 51, 167, 0, 4, 2, 172]
abbrev dktX0_nextByte_2 : List UInt8 := dkwX0_nextByte_2 ++ []
def dkwX0_nextByte_1 : List UInt8 := [160, 0, 16, 42, 89, 180, 0, 93, 4, 96, 181, 0, 93, 167, 255, 221, 42, 180, 0, 93, 42, 180, 0, 89]
abbrev dktX0_nextByte_1 : List UInt8 := dkwX0_nextByte_1 ++ dktX0_nextByte_2
def dkwX0_nextByte_0 : List UInt8 := [42, 180, 0, 93, 42, 180, 0, 89, 162, 0, 30, 42, 180, 0, 37, 42, 180, 0, 93, 51, 16, 32]
abbrev dktX0_nextByte_0 : List UInt8 := dkwX0_nextByte_0 ++ dktX0_nextByte_1
theorem dksX0_nextByte_0 : cX0_nextByte.data.toList.drop 0 = dktX0_nextByte_0 := by decide +kernel
theorem dksX0_nextByte_1 : cX0_nextByte.data.toList.drop 22 = dktX0_nextByte_1 := dk_seg dksX0_nextByte_0 22 rfl rfl
theorem dksX0_nextByte_2 : cX0_nextByte.data.toList.drop 46 = dktX0_nextByte_2 := dk_seg dksX0_nextByte_1 24 rfl rfl
theorem dX0_nextByte_0 : decode cX0_nextByte 0 = .ok (.aload_n 0, 1) := dk_42 (dk_at dksX0_nextByte_0 0 rfl rfl)
theorem dX0_nextByte_1 : decode cX0_nextByte 1 = .ok (.getfield 93, 3) := dk_180 0 93 (dk_at dksX0_nextByte_0 1 rfl rfl)
theorem dX0_nextByte_4 : decode cX0_nextByte 4 = .ok (.aload_n 0, 1) := dk_42 (dk_at dksX0_nextByte_0 4 rfl rfl)
theorem dX0_nextByte_5 : decode cX0_nextByte 5 = .ok (.getfield 89, 3) := dk_180 0 89 (dk_at dksX0_nextByte_0 5 rfl rfl)
theorem dX0_nextByte_8 : decode cX0_nextByte 8 = .ok (.if_icmp .ge 30, 3) := dk_162 0 30 (dk_at dksX0_nextByte_0 8 rfl rfl)
theorem dX0_nextByte_11 : decode cX0_nextByte 11 = .ok (.aload_n 0, 1) := dk_42 (dk_at dksX0_nextByte_0 11 rfl rfl)
theorem dX0_nextByte_12 : decode cX0_nextByte 12 = .ok (.getfield 37, 3) := dk_180 0 37 (dk_at dksX0_nextByte_0 12 rfl rfl)
theorem dX0_nextByte_15 : decode cX0_nextByte 15 = .ok (.aload_n 0, 1) := dk_42 (dk_at dksX0_nextByte_0 15 rfl rfl)
theorem dX0_nextByte_16 : decode cX0_nextByte 16 = .ok (.getfield 93, 3) := dk_180 0 93 (dk_at dksX0_nextByte_0 16 rfl rfl)
theorem dX0_nextByte_19 : decode cX0_nextByte 19 = .ok (.baload, 1) := dk_51 (dk_at dksX0_nextByte_0 19 rfl rfl)
theorem dX0_nextByte_20 : decode cX0_nextByte 20 = .ok (.bipush 32, 2) := dk_16 32 (dk_at dksX0_nextByte_0 20 rfl rfl)
theorem dX0_nextByte_22 : decode cX0_nextByte 22 = .ok (.if_icmp .ne 16, 3) := dk_160 0 16 (dk_at dksX0_nextByte_1 0 rfl rfl)
theorem dX0_nextByte_25 : decode cX0_nextByte 25 = .ok (.aload_n 0, 1) := dk_42 (dk_at dksX0_nextByte_1 3 rfl rfl)
theorem dX0_nextByte_26 : decode cX0_nextByte 26 = .ok (.dup, 1) := dk_89 (dk_at dksX0_nextByte_1 4 rfl rfl)
theorem dX0_nextByte_27 : decode cX0_nextByte 27 = .ok (.getfield 93, 3) := dk_180 0 93 (dk_at dksX0_nextByte_1 5 rfl rfl)
theorem dX0_nextByte_30 : decode cX0_nextByte 30 = .ok (.iconst 1, 1) := dk_4 (dk_at dksX0_nextByte_1 8 rfl rfl)
theorem dX0_nextByte_31 : decode cX0_nextByte 31 = .ok (.iadd, 1) := dk_96 (dk_at dksX0_nextByte_1 9 rfl rfl)
theorem dX0_nextByte_32 : decode cX0_nextByte 32 = .ok (.putfield 93, 3) := dk_181 0 93 (dk_at dksX0_nextByte_1 10 rfl rfl)
theorem dX0_nextByte_35 : decode cX0_nextByte 35 = .ok (.goto (-35), 3) := dk_167 255 221 (dk_at dksX0_nextByte_1 13 rfl rfl)
theorem dX0_nextByte_38 : decode cX0_nextByte 38 = .ok (.aload_n 0, 1) := dk_42 (dk_at dksX0_nextByte_1 16 rfl rfl)
theorem dX0_nextByte_39 : decode cX0_nextByte 39 = .ok (.getfield 93, 3) := dk_180 0 93 (dk_at dksX0_nextByte_1 17 rfl rfl)
theorem dX0_nextByte_42 : decode cX0_nextByte 42 = .ok (.aload_n 0, 1) := dk_42 (dk_at dksX0_nextByte_1 20 rfl rfl)
theorem dX0_nextByte_43 : decode cX0_nextByte 43 = .ok (.getfield 89, 3) := dk_180 0 89 (dk_at dksX0_nextByte_1 21 rfl rfl)
theorem dX0_nextByte_46 : decode cX0_nextByte 46 = .ok (.if_icmp .ge 15, 3) := dk_162 0 15 (dk_at dksX0_nextByte_2 0 rfl rfl)
theorem dX0_nextByte_49 : decode cX0_nextByte 49 = .ok (.aload_n 0, 1) := dk_42 (dk_at dksX0_nextByte_2 3 rfl rfl)
theorem dX0_nextByte_50 : decode cX0_nextByte 50 = .ok (.getfield 37, 3) := dk_180 0 37 (dk_at dksX0_nextByte_2 4 rfl rfl)
theorem dX0_nextByte_53 : decode cX0_nextByte 53 = .ok (.aload_n 0, 1) := dk_42 (dk_at dksX0_nextByte_2 7 rfl rfl)
theorem dX0_nextByte_54 : decode cX0_nextByte 54 = .ok (.getfield 93, 3) := dk_180 0 93 (dk_at dksX0_nextByte_2 8 rfl rfl)
theorem dX0_nextByte_57 : decode cX0_nextByte 57 = .ok (.baload, 1) := dk_51 (dk_at dksX0_nextByte_2 11 rfl rfl)
theorem dX0_nextByte_58 : decode cX0_nextByte 58 = .ok (.goto 4, 3) := dk_167 0 4 (dk_at dksX0_nextByte_2 12 rfl rfl)
theorem dX0_nextByte_61 : decode cX0_nextByte 61 = .ok (.iconst (-1), 1) := dk_2 (dk_at dksX0_nextByte_2 15 rfl rfl)
theorem dX0_nextByte_62 : decode cX0_nextByte 62 = .ok (.ireturn, 1) := dk_172 (dk_at dksX0_nextByte_2 16 rfl rfl)
abbrev cX0_wrong : ByteArray := prog_1_method_12_code
def yX0_wrong : MethodName := ⟨RX0, "wrong", "()LSevenRings$Fault;"⟩
def dkwX0_wrong_0 : List UInt8 := [42, 180, 0, 33, 42, 180, 0, 93, 181, 0, 96, 42, 180, 0, 33, 176]
abbrev dktX0_wrong_0 : List UInt8 := dkwX0_wrong_0 ++ []
theorem dksX0_wrong_0 : cX0_wrong.data.toList.drop 0 = dktX0_wrong_0 := by decide +kernel
theorem dX0_wrong_0 : decode cX0_wrong 0 = .ok (.aload_n 0, 1) := dk_42 (dk_at dksX0_wrong_0 0 rfl rfl)
theorem dX0_wrong_1 : decode cX0_wrong 1 = .ok (.getfield 33, 3) := dk_180 0 33 (dk_at dksX0_wrong_0 1 rfl rfl)
theorem dX0_wrong_4 : decode cX0_wrong 4 = .ok (.aload_n 0, 1) := dk_42 (dk_at dksX0_wrong_0 4 rfl rfl)
theorem dX0_wrong_5 : decode cX0_wrong 5 = .ok (.getfield 93, 3) := dk_180 0 93 (dk_at dksX0_wrong_0 5 rfl rfl)
theorem dX0_wrong_8 : decode cX0_wrong 8 = .ok (.putfield 96, 3) := dk_181 0 96 (dk_at dksX0_wrong_0 8 rfl rfl)
theorem dX0_wrong_11 : decode cX0_wrong 11 = .ok (.aload_n 0, 1) := dk_42 (dk_at dksX0_wrong_0 11 rfl rfl)
theorem dX0_wrong_12 : decode cX0_wrong 12 = .ok (.getfield 33, 3) := dk_180 0 33 (dk_at dksX0_wrong_0 12 rfl rfl)
theorem dX0_wrong_15 : decode cX0_wrong 15 = .ok (.areturn, 1) := dk_176 (dk_at dksX0_wrong_0 15 rfl rfl)
abbrev cX0_takes : ByteArray := prog_1_method_13_code
def yX0_takes : MethodName := ⟨RX0, "takes", "(I)Z"⟩
def dkwX0_takes_1 : List UInt8 := [167, 0, 4, 3, 96, 181, 0, 93, 28, 172]
abbrev dktX0_takes_1 : List UInt8 := dkwX0_takes_1 ++ []
def dkwX0_takes_0 : List UInt8 := [42, 182, 0, 99, 27, 160, 0, 7, 4, 167, 0, 4, 3, 61, 42, 89, 180, 0, 93, 28, 153, 0, 7, 4]
abbrev dktX0_takes_0 : List UInt8 := dkwX0_takes_0 ++ dktX0_takes_1
theorem dksX0_takes_0 : cX0_takes.data.toList.drop 0 = dktX0_takes_0 := by decide +kernel
theorem dksX0_takes_1 : cX0_takes.data.toList.drop 24 = dktX0_takes_1 := dk_seg dksX0_takes_0 24 rfl rfl
theorem dX0_takes_0 : decode cX0_takes 0 = .ok (.aload_n 0, 1) := dk_42 (dk_at dksX0_takes_0 0 rfl rfl)
theorem dX0_takes_1 : decode cX0_takes 1 = .ok (.invokevirtual 99, 3) := dk_182 0 99 (dk_at dksX0_takes_0 1 rfl rfl)
theorem dX0_takes_4 : decode cX0_takes 4 = .ok (.iload_n 1, 1) := dk_27 (dk_at dksX0_takes_0 4 rfl rfl)
theorem dX0_takes_5 : decode cX0_takes 5 = .ok (.if_icmp .ne 7, 3) := dk_160 0 7 (dk_at dksX0_takes_0 5 rfl rfl)
theorem dX0_takes_8 : decode cX0_takes 8 = .ok (.iconst 1, 1) := dk_4 (dk_at dksX0_takes_0 8 rfl rfl)
theorem dX0_takes_9 : decode cX0_takes 9 = .ok (.goto 4, 3) := dk_167 0 4 (dk_at dksX0_takes_0 9 rfl rfl)
theorem dX0_takes_12 : decode cX0_takes 12 = .ok (.iconst 0, 1) := dk_3 (dk_at dksX0_takes_0 12 rfl rfl)
theorem dX0_takes_13 : decode cX0_takes 13 = .ok (.istore_n 2, 1) := dk_61 (dk_at dksX0_takes_0 13 rfl rfl)
theorem dX0_takes_14 : decode cX0_takes 14 = .ok (.aload_n 0, 1) := dk_42 (dk_at dksX0_takes_0 14 rfl rfl)
theorem dX0_takes_15 : decode cX0_takes 15 = .ok (.dup, 1) := dk_89 (dk_at dksX0_takes_0 15 rfl rfl)
theorem dX0_takes_16 : decode cX0_takes 16 = .ok (.getfield 93, 3) := dk_180 0 93 (dk_at dksX0_takes_0 16 rfl rfl)
theorem dX0_takes_19 : decode cX0_takes 19 = .ok (.iload_n 2, 1) := dk_28 (dk_at dksX0_takes_0 19 rfl rfl)
theorem dX0_takes_20 : decode cX0_takes 20 = .ok (.ifCond .eq 7, 3) := dk_153 0 7 (dk_at dksX0_takes_0 20 rfl rfl)
theorem dX0_takes_23 : decode cX0_takes 23 = .ok (.iconst 1, 1) := dk_4 (dk_at dksX0_takes_0 23 rfl rfl)
theorem dX0_takes_24 : decode cX0_takes 24 = .ok (.goto 4, 3) := dk_167 0 4 (dk_at dksX0_takes_1 0 rfl rfl)
theorem dX0_takes_27 : decode cX0_takes 27 = .ok (.iconst 0, 1) := dk_3 (dk_at dksX0_takes_1 3 rfl rfl)
theorem dX0_takes_28 : decode cX0_takes 28 = .ok (.iadd, 1) := dk_96 (dk_at dksX0_takes_1 4 rfl rfl)
theorem dX0_takes_29 : decode cX0_takes 29 = .ok (.putfield 93, 3) := dk_181 0 93 (dk_at dksX0_takes_1 5 rfl rfl)
theorem dX0_takes_32 : decode cX0_takes 32 = .ok (.iload_n 2, 1) := dk_28 (dk_at dksX0_takes_1 8 rfl rfl)
theorem dX0_takes_33 : decode cX0_takes 33 = .ok (.ireturn, 1) := dk_172 (dk_at dksX0_takes_1 9 rfl rfl)
abbrev cX0_readFar : ByteArray := prog_1_method_15_code
def yX0_readFar : MethodName := ⟨RX0, "readFar", "()I"⟩
def dkwX0_readFar_4 : List UInt8 := [159, 0, 9, 28, 16, 40, 164, 0, 13, 42, 27, 181, 0, 93, 42, 182, 0, 103, 191, 28, 172]
abbrev dktX0_readFar_4 : List UInt8 := dkwX0_readFar_4 ++ []
def dkwX0_readFar_3 : List UInt8 := [184, 0, 110, 61, 42, 89, 180, 0, 93, 4, 96, 181, 0, 93, 167, 255, 192, 42, 180, 0, 93, 27]
abbrev dktX0_readFar_3 : List UInt8 := dkwX0_readFar_3 ++ dktX0_readFar_4
def dkwX0_readFar_2 : List UInt8 := [153, 0, 40, 17, 3, 231, 16, 10, 28, 104, 42, 180, 0, 37, 42, 180, 0, 93, 51, 96, 16, 48, 100]
abbrev dktX0_readFar_2 : List UInt8 := dkwX0_readFar_2 ++ dktX0_readFar_3
def dkwX0_readFar_1 : List UInt8 := [180, 0, 89, 162, 0, 59, 42, 180, 0, 37, 42, 180, 0, 93, 51, 16, 48, 16, 57, 184, 0, 3]
abbrev dktX0_readFar_1 : List UInt8 := dkwX0_readFar_1 ++ dktX0_readFar_2
def dkwX0_readFar_0 : List UInt8 := [42, 16, 63, 182, 0, 107, 153, 0, 6, 16, 252, 172, 42, 180, 0, 93, 60, 3, 61, 42, 180, 0, 93, 42]
abbrev dktX0_readFar_0 : List UInt8 := dkwX0_readFar_0 ++ dktX0_readFar_1
theorem dksX0_readFar_0 : cX0_readFar.data.toList.drop 0 = dktX0_readFar_0 := by decide +kernel
theorem dksX0_readFar_1 : cX0_readFar.data.toList.drop 24 = dktX0_readFar_1 := dk_seg dksX0_readFar_0 24 rfl rfl
theorem dksX0_readFar_2 : cX0_readFar.data.toList.drop 46 = dktX0_readFar_2 := dk_seg dksX0_readFar_1 22 rfl rfl
theorem dksX0_readFar_3 : cX0_readFar.data.toList.drop 69 = dktX0_readFar_3 := dk_seg dksX0_readFar_2 23 rfl rfl
theorem dksX0_readFar_4 : cX0_readFar.data.toList.drop 91 = dktX0_readFar_4 := dk_seg dksX0_readFar_3 22 rfl rfl
theorem dX0_readFar_0 : decode cX0_readFar 0 = .ok (.aload_n 0, 1) := dk_42 (dk_at dksX0_readFar_0 0 rfl rfl)
theorem dX0_readFar_1 : decode cX0_readFar 1 = .ok (.bipush 63, 2) := dk_16 63 (dk_at dksX0_readFar_0 1 rfl rfl)
theorem dX0_readFar_3 : decode cX0_readFar 3 = .ok (.invokevirtual 107, 3) := dk_182 0 107 (dk_at dksX0_readFar_0 3 rfl rfl)
theorem dX0_readFar_6 : decode cX0_readFar 6 = .ok (.ifCond .eq 6, 3) := dk_153 0 6 (dk_at dksX0_readFar_0 6 rfl rfl)
theorem dX0_readFar_9 : decode cX0_readFar 9 = .ok (.bipush (-4), 2) := dk_16 252 (dk_at dksX0_readFar_0 9 rfl rfl)
theorem dX0_readFar_11 : decode cX0_readFar 11 = .ok (.ireturn, 1) := dk_172 (dk_at dksX0_readFar_0 11 rfl rfl)
theorem dX0_readFar_12 : decode cX0_readFar 12 = .ok (.aload_n 0, 1) := dk_42 (dk_at dksX0_readFar_0 12 rfl rfl)
theorem dX0_readFar_13 : decode cX0_readFar 13 = .ok (.getfield 93, 3) := dk_180 0 93 (dk_at dksX0_readFar_0 13 rfl rfl)
theorem dX0_readFar_16 : decode cX0_readFar 16 = .ok (.istore_n 1, 1) := dk_60 (dk_at dksX0_readFar_0 16 rfl rfl)
theorem dX0_readFar_17 : decode cX0_readFar 17 = .ok (.iconst 0, 1) := dk_3 (dk_at dksX0_readFar_0 17 rfl rfl)
theorem dX0_readFar_18 : decode cX0_readFar 18 = .ok (.istore_n 2, 1) := dk_61 (dk_at dksX0_readFar_0 18 rfl rfl)
theorem dX0_readFar_19 : decode cX0_readFar 19 = .ok (.aload_n 0, 1) := dk_42 (dk_at dksX0_readFar_0 19 rfl rfl)
theorem dX0_readFar_20 : decode cX0_readFar 20 = .ok (.getfield 93, 3) := dk_180 0 93 (dk_at dksX0_readFar_0 20 rfl rfl)
theorem dX0_readFar_23 : decode cX0_readFar 23 = .ok (.aload_n 0, 1) := dk_42 (dk_at dksX0_readFar_0 23 rfl rfl)
theorem dX0_readFar_24 : decode cX0_readFar 24 = .ok (.getfield 89, 3) := dk_180 0 89 (dk_at dksX0_readFar_1 0 rfl rfl)
theorem dX0_readFar_27 : decode cX0_readFar 27 = .ok (.if_icmp .ge 59, 3) := dk_162 0 59 (dk_at dksX0_readFar_1 3 rfl rfl)
theorem dX0_readFar_30 : decode cX0_readFar 30 = .ok (.aload_n 0, 1) := dk_42 (dk_at dksX0_readFar_1 6 rfl rfl)
theorem dX0_readFar_31 : decode cX0_readFar 31 = .ok (.getfield 37, 3) := dk_180 0 37 (dk_at dksX0_readFar_1 7 rfl rfl)
theorem dX0_readFar_34 : decode cX0_readFar 34 = .ok (.aload_n 0, 1) := dk_42 (dk_at dksX0_readFar_1 10 rfl rfl)
theorem dX0_readFar_35 : decode cX0_readFar 35 = .ok (.getfield 93, 3) := dk_180 0 93 (dk_at dksX0_readFar_1 11 rfl rfl)
theorem dX0_readFar_38 : decode cX0_readFar 38 = .ok (.baload, 1) := dk_51 (dk_at dksX0_readFar_1 14 rfl rfl)
theorem dX0_readFar_39 : decode cX0_readFar 39 = .ok (.bipush 48, 2) := dk_16 48 (dk_at dksX0_readFar_1 15 rfl rfl)
theorem dX0_readFar_41 : decode cX0_readFar 41 = .ok (.bipush 57, 2) := dk_16 57 (dk_at dksX0_readFar_1 17 rfl rfl)
theorem dX0_readFar_43 : decode cX0_readFar 43 = .ok (.invokestatic 3, 3) := dk_184 0 3 (dk_at dksX0_readFar_1 19 rfl rfl)
theorem dX0_readFar_46 : decode cX0_readFar 46 = .ok (.ifCond .eq 40, 3) := dk_153 0 40 (dk_at dksX0_readFar_2 0 rfl rfl)
theorem dX0_readFar_49 : decode cX0_readFar 49 = .ok (.sipush 999, 3) := dk_17 3 231 (dk_at dksX0_readFar_2 3 rfl rfl)
theorem dX0_readFar_52 : decode cX0_readFar 52 = .ok (.bipush 10, 2) := dk_16 10 (dk_at dksX0_readFar_2 6 rfl rfl)
theorem dX0_readFar_54 : decode cX0_readFar 54 = .ok (.iload_n 2, 1) := dk_28 (dk_at dksX0_readFar_2 8 rfl rfl)
theorem dX0_readFar_55 : decode cX0_readFar 55 = .ok (.imul, 1) := dk_104 (dk_at dksX0_readFar_2 9 rfl rfl)
theorem dX0_readFar_56 : decode cX0_readFar 56 = .ok (.aload_n 0, 1) := dk_42 (dk_at dksX0_readFar_2 10 rfl rfl)
theorem dX0_readFar_57 : decode cX0_readFar 57 = .ok (.getfield 37, 3) := dk_180 0 37 (dk_at dksX0_readFar_2 11 rfl rfl)
theorem dX0_readFar_60 : decode cX0_readFar 60 = .ok (.aload_n 0, 1) := dk_42 (dk_at dksX0_readFar_2 14 rfl rfl)
theorem dX0_readFar_61 : decode cX0_readFar 61 = .ok (.getfield 93, 3) := dk_180 0 93 (dk_at dksX0_readFar_2 15 rfl rfl)
theorem dX0_readFar_64 : decode cX0_readFar 64 = .ok (.baload, 1) := dk_51 (dk_at dksX0_readFar_2 18 rfl rfl)
theorem dX0_readFar_65 : decode cX0_readFar 65 = .ok (.iadd, 1) := dk_96 (dk_at dksX0_readFar_2 19 rfl rfl)
theorem dX0_readFar_66 : decode cX0_readFar 66 = .ok (.bipush 48, 2) := dk_16 48 (dk_at dksX0_readFar_2 20 rfl rfl)
theorem dX0_readFar_68 : decode cX0_readFar 68 = .ok (.isub, 1) := dk_100 (dk_at dksX0_readFar_2 22 rfl rfl)
theorem dX0_readFar_69 : decode cX0_readFar 69 = .ok (.invokestatic 110, 3) := dk_184 0 110 (dk_at dksX0_readFar_3 0 rfl rfl)
theorem dX0_readFar_72 : decode cX0_readFar 72 = .ok (.istore_n 2, 1) := dk_61 (dk_at dksX0_readFar_3 3 rfl rfl)
theorem dX0_readFar_73 : decode cX0_readFar 73 = .ok (.aload_n 0, 1) := dk_42 (dk_at dksX0_readFar_3 4 rfl rfl)
theorem dX0_readFar_74 : decode cX0_readFar 74 = .ok (.dup, 1) := dk_89 (dk_at dksX0_readFar_3 5 rfl rfl)
theorem dX0_readFar_75 : decode cX0_readFar 75 = .ok (.getfield 93, 3) := dk_180 0 93 (dk_at dksX0_readFar_3 6 rfl rfl)
theorem dX0_readFar_78 : decode cX0_readFar 78 = .ok (.iconst 1, 1) := dk_4 (dk_at dksX0_readFar_3 9 rfl rfl)
theorem dX0_readFar_79 : decode cX0_readFar 79 = .ok (.iadd, 1) := dk_96 (dk_at dksX0_readFar_3 10 rfl rfl)
theorem dX0_readFar_80 : decode cX0_readFar 80 = .ok (.putfield 93, 3) := dk_181 0 93 (dk_at dksX0_readFar_3 11 rfl rfl)
theorem dX0_readFar_83 : decode cX0_readFar 83 = .ok (.goto (-64), 3) := dk_167 255 192 (dk_at dksX0_readFar_3 14 rfl rfl)
theorem dX0_readFar_86 : decode cX0_readFar 86 = .ok (.aload_n 0, 1) := dk_42 (dk_at dksX0_readFar_3 17 rfl rfl)
theorem dX0_readFar_87 : decode cX0_readFar 87 = .ok (.getfield 93, 3) := dk_180 0 93 (dk_at dksX0_readFar_3 18 rfl rfl)
theorem dX0_readFar_90 : decode cX0_readFar 90 = .ok (.iload_n 1, 1) := dk_27 (dk_at dksX0_readFar_3 21 rfl rfl)
theorem dX0_readFar_91 : decode cX0_readFar 91 = .ok (.if_icmp .eq 9, 3) := dk_159 0 9 (dk_at dksX0_readFar_4 0 rfl rfl)
theorem dX0_readFar_94 : decode cX0_readFar 94 = .ok (.iload_n 2, 1) := dk_28 (dk_at dksX0_readFar_4 3 rfl rfl)
theorem dX0_readFar_95 : decode cX0_readFar 95 = .ok (.bipush 40, 2) := dk_16 40 (dk_at dksX0_readFar_4 4 rfl rfl)
theorem dX0_readFar_97 : decode cX0_readFar 97 = .ok (.if_icmp .le 13, 3) := dk_164 0 13 (dk_at dksX0_readFar_4 6 rfl rfl)
theorem dX0_readFar_100 : decode cX0_readFar 100 = .ok (.aload_n 0, 1) := dk_42 (dk_at dksX0_readFar_4 9 rfl rfl)
theorem dX0_readFar_101 : decode cX0_readFar 101 = .ok (.iload_n 1, 1) := dk_27 (dk_at dksX0_readFar_4 10 rfl rfl)
theorem dX0_readFar_102 : decode cX0_readFar 102 = .ok (.putfield 93, 3) := dk_181 0 93 (dk_at dksX0_readFar_4 11 rfl rfl)
theorem dX0_readFar_105 : decode cX0_readFar 105 = .ok (.aload_n 0, 1) := dk_42 (dk_at dksX0_readFar_4 14 rfl rfl)
theorem dX0_readFar_106 : decode cX0_readFar 106 = .ok (.invokevirtual 103, 3) := dk_182 0 103 (dk_at dksX0_readFar_4 15 rfl rfl)
theorem dX0_readFar_109 : decode cX0_readFar 109 = .ok (.athrow, 1) := dk_191 (dk_at dksX0_readFar_4 18 rfl rfl)
theorem dX0_readFar_110 : decode cX0_readFar 110 = .ok (.iload_n 2, 1) := dk_28 (dk_at dksX0_readFar_4 19 rfl rfl)
theorem dX0_readFar_111 : decode cX0_readFar 111 = .ok (.ireturn, 1) := dk_172 (dk_at dksX0_readFar_4 20 rfl rfl)
abbrev cX0_sea : ByteArray := prog_1_method_19_code
def yX0_sea : MethodName := ⟨RX0, "sea", "(II)I"⟩
def dkwX0_sea_4 : List UInt8 := [21, 4, 51, 16, 8, 162, 0, 7, 4, 167, 0, 4, 3, 96, 62, 132, 4, 1, 167, 255, 199, 29, 172]
abbrev dktX0_sea_4 : List UInt8 := dkwX0_sea_4 ++ []
def dkwX0_sea_3 : List UInt8 := [27, 104, 16, 10, 28, 104, 96, 21, 4, 96, 42, 180, 0, 48, 21, 4, 51, 84, 29, 42, 180, 0, 48]
abbrev dktX0_sea_3 : List UInt8 := dkwX0_sea_3 ++ dktX0_sea_4
def dkwX0_sea_2 : List UInt8 := [181, 0, 89, 3, 62, 3, 54, 4, 21, 4, 16, 10, 162, 0, 56, 42, 180, 0, 26, 180, 0, 131, 16, 100]
abbrev dktX0_sea_2 : List UInt8 := dkwX0_sea_2 ++ dktX0_sea_3
def dkwX0_sea_1 : List UInt8 := [182, 0, 128, 167, 0, 17, 78, 42, 3, 181, 0, 89, 16, 236, 45, 180, 0, 96, 100, 172, 42, 3]
abbrev dktX0_sea_1 : List UInt8 := dkwX0_sea_1 ++ dktX0_sea_2
def dkwX0_sea_0 : List UInt8 := [27, 3, 4, 184, 0, 3, 153, 0, 13, 28, 3, 16, 9, 184, 0, 3, 154, 0, 5, 2, 172, 42]
abbrev dktX0_sea_0 : List UInt8 := dkwX0_sea_0 ++ dktX0_sea_1
theorem dksX0_sea_0 : cX0_sea.data.toList.drop 0 = dktX0_sea_0 := by decide +kernel
theorem dksX0_sea_1 : cX0_sea.data.toList.drop 22 = dktX0_sea_1 := dk_seg dksX0_sea_0 22 rfl rfl
theorem dksX0_sea_2 : cX0_sea.data.toList.drop 44 = dktX0_sea_2 := dk_seg dksX0_sea_1 22 rfl rfl
theorem dksX0_sea_3 : cX0_sea.data.toList.drop 68 = dktX0_sea_3 := dk_seg dksX0_sea_2 24 rfl rfl
theorem dksX0_sea_4 : cX0_sea.data.toList.drop 91 = dktX0_sea_4 := dk_seg dksX0_sea_3 23 rfl rfl
theorem dX0_sea_0 : decode cX0_sea 0 = .ok (.iload_n 1, 1) := dk_27 (dk_at dksX0_sea_0 0 rfl rfl)
theorem dX0_sea_1 : decode cX0_sea 1 = .ok (.iconst 0, 1) := dk_3 (dk_at dksX0_sea_0 1 rfl rfl)
theorem dX0_sea_2 : decode cX0_sea 2 = .ok (.iconst 1, 1) := dk_4 (dk_at dksX0_sea_0 2 rfl rfl)
theorem dX0_sea_3 : decode cX0_sea 3 = .ok (.invokestatic 3, 3) := dk_184 0 3 (dk_at dksX0_sea_0 3 rfl rfl)
theorem dX0_sea_6 : decode cX0_sea 6 = .ok (.ifCond .eq 13, 3) := dk_153 0 13 (dk_at dksX0_sea_0 6 rfl rfl)
theorem dX0_sea_9 : decode cX0_sea 9 = .ok (.iload_n 2, 1) := dk_28 (dk_at dksX0_sea_0 9 rfl rfl)
theorem dX0_sea_10 : decode cX0_sea 10 = .ok (.iconst 0, 1) := dk_3 (dk_at dksX0_sea_0 10 rfl rfl)
theorem dX0_sea_11 : decode cX0_sea 11 = .ok (.bipush 9, 2) := dk_16 9 (dk_at dksX0_sea_0 11 rfl rfl)
theorem dX0_sea_13 : decode cX0_sea 13 = .ok (.invokestatic 3, 3) := dk_184 0 3 (dk_at dksX0_sea_0 13 rfl rfl)
theorem dX0_sea_16 : decode cX0_sea 16 = .ok (.ifCond .ne 5, 3) := dk_154 0 5 (dk_at dksX0_sea_0 16 rfl rfl)
theorem dX0_sea_19 : decode cX0_sea 19 = .ok (.iconst (-1), 1) := dk_2 (dk_at dksX0_sea_0 19 rfl rfl)
theorem dX0_sea_20 : decode cX0_sea 20 = .ok (.ireturn, 1) := dk_172 (dk_at dksX0_sea_0 20 rfl rfl)
theorem dX0_sea_21 : decode cX0_sea 21 = .ok (.aload_n 0, 1) := dk_42 (dk_at dksX0_sea_0 21 rfl rfl)
theorem dX0_sea_22 : decode cX0_sea 22 = .ok (.invokevirtual 128, 3) := dk_182 0 128 (dk_at dksX0_sea_1 0 rfl rfl)
theorem dX0_sea_25 : decode cX0_sea 25 = .ok (.goto 17, 3) := dk_167 0 17 (dk_at dksX0_sea_1 3 rfl rfl)
theorem dX0_sea_28 : decode cX0_sea 28 = .ok (.astore_n 3, 1) := dk_78 (dk_at dksX0_sea_1 6 rfl rfl)
theorem dX0_sea_29 : decode cX0_sea 29 = .ok (.aload_n 0, 1) := dk_42 (dk_at dksX0_sea_1 7 rfl rfl)
theorem dX0_sea_30 : decode cX0_sea 30 = .ok (.iconst 0, 1) := dk_3 (dk_at dksX0_sea_1 8 rfl rfl)
theorem dX0_sea_31 : decode cX0_sea 31 = .ok (.putfield 89, 3) := dk_181 0 89 (dk_at dksX0_sea_1 9 rfl rfl)
theorem dX0_sea_34 : decode cX0_sea 34 = .ok (.bipush (-20), 2) := dk_16 236 (dk_at dksX0_sea_1 12 rfl rfl)
theorem dX0_sea_36 : decode cX0_sea 36 = .ok (.aload_n 3, 1) := dk_45 (dk_at dksX0_sea_1 14 rfl rfl)
theorem dX0_sea_37 : decode cX0_sea 37 = .ok (.getfield 96, 3) := dk_180 0 96 (dk_at dksX0_sea_1 15 rfl rfl)
theorem dX0_sea_40 : decode cX0_sea 40 = .ok (.isub, 1) := dk_100 (dk_at dksX0_sea_1 18 rfl rfl)
theorem dX0_sea_41 : decode cX0_sea 41 = .ok (.ireturn, 1) := dk_172 (dk_at dksX0_sea_1 19 rfl rfl)
theorem dX0_sea_42 : decode cX0_sea 42 = .ok (.aload_n 0, 1) := dk_42 (dk_at dksX0_sea_1 20 rfl rfl)
theorem dX0_sea_43 : decode cX0_sea 43 = .ok (.iconst 0, 1) := dk_3 (dk_at dksX0_sea_1 21 rfl rfl)
theorem dX0_sea_44 : decode cX0_sea 44 = .ok (.putfield 89, 3) := dk_181 0 89 (dk_at dksX0_sea_2 0 rfl rfl)
theorem dX0_sea_47 : decode cX0_sea 47 = .ok (.iconst 0, 1) := dk_3 (dk_at dksX0_sea_2 3 rfl rfl)
theorem dX0_sea_48 : decode cX0_sea 48 = .ok (.istore_n 3, 1) := dk_62 (dk_at dksX0_sea_2 4 rfl rfl)
theorem dX0_sea_49 : decode cX0_sea 49 = .ok (.iconst 0, 1) := dk_3 (dk_at dksX0_sea_2 5 rfl rfl)
theorem dX0_sea_50 : decode cX0_sea 50 = .ok (.istore 4, 2) := dk_54 4 (dk_at dksX0_sea_2 6 rfl rfl)
theorem dX0_sea_52 : decode cX0_sea 52 = .ok (.iload 4, 2) := dk_21 4 (dk_at dksX0_sea_2 8 rfl rfl)
theorem dX0_sea_54 : decode cX0_sea 54 = .ok (.bipush 10, 2) := dk_16 10 (dk_at dksX0_sea_2 10 rfl rfl)
theorem dX0_sea_56 : decode cX0_sea 56 = .ok (.if_icmp .ge 56, 3) := dk_162 0 56 (dk_at dksX0_sea_2 12 rfl rfl)
theorem dX0_sea_59 : decode cX0_sea 59 = .ok (.aload_n 0, 1) := dk_42 (dk_at dksX0_sea_2 15 rfl rfl)
theorem dX0_sea_60 : decode cX0_sea 60 = .ok (.getfield 26, 3) := dk_180 0 26 (dk_at dksX0_sea_2 16 rfl rfl)
theorem dX0_sea_63 : decode cX0_sea 63 = .ok (.getfield 131, 3) := dk_180 0 131 (dk_at dksX0_sea_2 19 rfl rfl)
theorem dX0_sea_66 : decode cX0_sea 66 = .ok (.bipush 100, 2) := dk_16 100 (dk_at dksX0_sea_2 22 rfl rfl)
theorem dX0_sea_68 : decode cX0_sea 68 = .ok (.iload_n 1, 1) := dk_27 (dk_at dksX0_sea_3 0 rfl rfl)
theorem dX0_sea_69 : decode cX0_sea 69 = .ok (.imul, 1) := dk_104 (dk_at dksX0_sea_3 1 rfl rfl)
theorem dX0_sea_70 : decode cX0_sea 70 = .ok (.bipush 10, 2) := dk_16 10 (dk_at dksX0_sea_3 2 rfl rfl)
theorem dX0_sea_72 : decode cX0_sea 72 = .ok (.iload_n 2, 1) := dk_28 (dk_at dksX0_sea_3 4 rfl rfl)
theorem dX0_sea_73 : decode cX0_sea 73 = .ok (.imul, 1) := dk_104 (dk_at dksX0_sea_3 5 rfl rfl)
theorem dX0_sea_74 : decode cX0_sea 74 = .ok (.iadd, 1) := dk_96 (dk_at dksX0_sea_3 6 rfl rfl)
theorem dX0_sea_75 : decode cX0_sea 75 = .ok (.iload 4, 2) := dk_21 4 (dk_at dksX0_sea_3 7 rfl rfl)
theorem dX0_sea_77 : decode cX0_sea 77 = .ok (.iadd, 1) := dk_96 (dk_at dksX0_sea_3 9 rfl rfl)
theorem dX0_sea_78 : decode cX0_sea 78 = .ok (.aload_n 0, 1) := dk_42 (dk_at dksX0_sea_3 10 rfl rfl)
theorem dX0_sea_79 : decode cX0_sea 79 = .ok (.getfield 48, 3) := dk_180 0 48 (dk_at dksX0_sea_3 11 rfl rfl)
theorem dX0_sea_82 : decode cX0_sea 82 = .ok (.iload 4, 2) := dk_21 4 (dk_at dksX0_sea_3 14 rfl rfl)
theorem dX0_sea_84 : decode cX0_sea 84 = .ok (.baload, 1) := dk_51 (dk_at dksX0_sea_3 16 rfl rfl)
theorem dX0_sea_85 : decode cX0_sea 85 = .ok (.bastore, 1) := dk_84 (dk_at dksX0_sea_3 17 rfl rfl)
theorem dX0_sea_86 : decode cX0_sea 86 = .ok (.iload_n 3, 1) := dk_29 (dk_at dksX0_sea_3 18 rfl rfl)
theorem dX0_sea_87 : decode cX0_sea 87 = .ok (.aload_n 0, 1) := dk_42 (dk_at dksX0_sea_3 19 rfl rfl)
theorem dX0_sea_88 : decode cX0_sea 88 = .ok (.getfield 48, 3) := dk_180 0 48 (dk_at dksX0_sea_3 20 rfl rfl)
theorem dX0_sea_91 : decode cX0_sea 91 = .ok (.iload 4, 2) := dk_21 4 (dk_at dksX0_sea_4 0 rfl rfl)
theorem dX0_sea_93 : decode cX0_sea 93 = .ok (.baload, 1) := dk_51 (dk_at dksX0_sea_4 2 rfl rfl)
theorem dX0_sea_94 : decode cX0_sea 94 = .ok (.bipush 8, 2) := dk_16 8 (dk_at dksX0_sea_4 3 rfl rfl)
theorem dX0_sea_96 : decode cX0_sea 96 = .ok (.if_icmp .ge 7, 3) := dk_162 0 7 (dk_at dksX0_sea_4 5 rfl rfl)
theorem dX0_sea_99 : decode cX0_sea 99 = .ok (.iconst 1, 1) := dk_4 (dk_at dksX0_sea_4 8 rfl rfl)
theorem dX0_sea_100 : decode cX0_sea 100 = .ok (.goto 4, 3) := dk_167 0 4 (dk_at dksX0_sea_4 9 rfl rfl)
theorem dX0_sea_103 : decode cX0_sea 103 = .ok (.iconst 0, 1) := dk_3 (dk_at dksX0_sea_4 12 rfl rfl)
theorem dX0_sea_104 : decode cX0_sea 104 = .ok (.iadd, 1) := dk_96 (dk_at dksX0_sea_4 13 rfl rfl)
theorem dX0_sea_105 : decode cX0_sea 105 = .ok (.istore_n 3, 1) := dk_62 (dk_at dksX0_sea_4 14 rfl rfl)
theorem dX0_sea_106 : decode cX0_sea 106 = .ok (.iinc 4 1, 3) := dk_132 4 1 (dk_at dksX0_sea_4 15 rfl rfl)
theorem dX0_sea_109 : decode cX0_sea 109 = .ok (.goto (-57), 3) := dk_167 255 199 (dk_at dksX0_sea_4 18 rfl rfl)
theorem dX0_sea_112 : decode cX0_sea 112 = .ok (.iload_n 3, 1) := dk_29 (dk_at dksX0_sea_4 21 rfl rfl)
theorem dX0_sea_113 : decode cX0_sea 113 = .ok (.ireturn, 1) := dk_172 (dk_at dksX0_sea_4 22 rfl rfl)
abbrev cX0_readSea : ByteArray := prog_1_method_18_code
def yX0_readSea : MethodName := ⟨RX0, "readSea", "()V"⟩
def dkwX0_readSea_1 : List UInt8 := [182, 0, 113, 145, 84, 132, 1, 1, 167, 255, 233, 42, 182, 0, 99, 155, 0, 8, 42, 182, 0, 103, 191, 177]
abbrev dktX0_readSea_1 : List UInt8 := dkwX0_readSea_1 ++ []
def dkwX0_readSea_0 : List UInt8 := [42, 3, 181, 0, 93, 3, 60, 27, 16, 10, 162, 0, 23, 42, 180, 0, 48, 27, 42, 3, 16, 8]
abbrev dktX0_readSea_0 : List UInt8 := dkwX0_readSea_0 ++ dktX0_readSea_1
theorem dksX0_readSea_0 : cX0_readSea.data.toList.drop 0 = dktX0_readSea_0 := by decide +kernel
theorem dksX0_readSea_1 : cX0_readSea.data.toList.drop 22 = dktX0_readSea_1 := dk_seg dksX0_readSea_0 22 rfl rfl
theorem dX0_readSea_0 : decode cX0_readSea 0 = .ok (.aload_n 0, 1) := dk_42 (dk_at dksX0_readSea_0 0 rfl rfl)
theorem dX0_readSea_1 : decode cX0_readSea 1 = .ok (.iconst 0, 1) := dk_3 (dk_at dksX0_readSea_0 1 rfl rfl)
theorem dX0_readSea_2 : decode cX0_readSea 2 = .ok (.putfield 93, 3) := dk_181 0 93 (dk_at dksX0_readSea_0 2 rfl rfl)
theorem dX0_readSea_5 : decode cX0_readSea 5 = .ok (.iconst 0, 1) := dk_3 (dk_at dksX0_readSea_0 5 rfl rfl)
theorem dX0_readSea_6 : decode cX0_readSea 6 = .ok (.istore_n 1, 1) := dk_60 (dk_at dksX0_readSea_0 6 rfl rfl)
theorem dX0_readSea_7 : decode cX0_readSea 7 = .ok (.iload_n 1, 1) := dk_27 (dk_at dksX0_readSea_0 7 rfl rfl)
theorem dX0_readSea_8 : decode cX0_readSea 8 = .ok (.bipush 10, 2) := dk_16 10 (dk_at dksX0_readSea_0 8 rfl rfl)
theorem dX0_readSea_10 : decode cX0_readSea 10 = .ok (.if_icmp .ge 23, 3) := dk_162 0 23 (dk_at dksX0_readSea_0 10 rfl rfl)
theorem dX0_readSea_13 : decode cX0_readSea 13 = .ok (.aload_n 0, 1) := dk_42 (dk_at dksX0_readSea_0 13 rfl rfl)
theorem dX0_readSea_14 : decode cX0_readSea 14 = .ok (.getfield 48, 3) := dk_180 0 48 (dk_at dksX0_readSea_0 14 rfl rfl)
theorem dX0_readSea_17 : decode cX0_readSea 17 = .ok (.iload_n 1, 1) := dk_27 (dk_at dksX0_readSea_0 17 rfl rfl)
theorem dX0_readSea_18 : decode cX0_readSea 18 = .ok (.aload_n 0, 1) := dk_42 (dk_at dksX0_readSea_0 18 rfl rfl)
theorem dX0_readSea_19 : decode cX0_readSea 19 = .ok (.iconst 0, 1) := dk_3 (dk_at dksX0_readSea_0 19 rfl rfl)
theorem dX0_readSea_20 : decode cX0_readSea 20 = .ok (.bipush 8, 2) := dk_16 8 (dk_at dksX0_readSea_0 20 rfl rfl)
theorem dX0_readSea_22 : decode cX0_readSea 22 = .ok (.invokevirtual 113, 3) := dk_182 0 113 (dk_at dksX0_readSea_1 0 rfl rfl)
theorem dX0_readSea_25 : decode cX0_readSea 25 = .ok (.i2b, 1) := dk_145 (dk_at dksX0_readSea_1 3 rfl rfl)
theorem dX0_readSea_26 : decode cX0_readSea 26 = .ok (.bastore, 1) := dk_84 (dk_at dksX0_readSea_1 4 rfl rfl)
theorem dX0_readSea_27 : decode cX0_readSea 27 = .ok (.iinc 1 1, 3) := dk_132 1 1 (dk_at dksX0_readSea_1 5 rfl rfl)
theorem dX0_readSea_30 : decode cX0_readSea 30 = .ok (.goto (-23), 3) := dk_167 255 233 (dk_at dksX0_readSea_1 8 rfl rfl)
theorem dX0_readSea_33 : decode cX0_readSea 33 = .ok (.aload_n 0, 1) := dk_42 (dk_at dksX0_readSea_1 11 rfl rfl)
theorem dX0_readSea_34 : decode cX0_readSea 34 = .ok (.invokevirtual 99, 3) := dk_182 0 99 (dk_at dksX0_readSea_1 12 rfl rfl)
theorem dX0_readSea_37 : decode cX0_readSea 37 = .ok (.ifCond .lt 8, 3) := dk_155 0 8 (dk_at dksX0_readSea_1 15 rfl rfl)
theorem dX0_readSea_40 : decode cX0_readSea 40 = .ok (.aload_n 0, 1) := dk_42 (dk_at dksX0_readSea_1 18 rfl rfl)
theorem dX0_readSea_41 : decode cX0_readSea 41 = .ok (.invokevirtual 103, 3) := dk_182 0 103 (dk_at dksX0_readSea_1 19 rfl rfl)
theorem dX0_readSea_44 : decode cX0_readSea 44 = .ok (.athrow, 1) := dk_191 (dk_at dksX0_readSea_1 22 rfl rfl)
theorem dX0_readSea_45 : decode cX0_readSea 45 = .ok (.return_, 1) := dk_177 (dk_at dksX0_readSea_1 23 rfl rfl)
abbrev cX0_ways : ByteArray := prog_1_method_28_code
def yX0_ways : MethodName := ⟨RX0, "ways", "()I"⟩
def dkwX0_ways_0 : List UInt8 := [42, 182, 0, 196, 180, 0, 200, 172]
abbrev dktX0_ways_0 : List UInt8 := dkwX0_ways_0 ++ []
theorem dksX0_ways_0 : cX0_ways.data.toList.drop 0 = dktX0_ways_0 := by decide +kernel
theorem dX0_ways_0 : decode cX0_ways 0 = .ok (.aload_n 0, 1) := dk_42 (dk_at dksX0_ways_0 0 rfl rfl)
theorem dX0_ways_1 : decode cX0_ways 1 = .ok (.invokevirtual 196, 3) := dk_182 0 196 (dk_at dksX0_ways_0 1 rfl rfl)
theorem dX0_ways_4 : decode cX0_ways 4 = .ok (.getfield 200, 3) := dk_180 0 200 (dk_at dksX0_ways_0 4 rfl rfl)
theorem dX0_ways_7 : decode cX0_ways 7 = .ok (.ireturn, 1) := dk_172 (dk_at dksX0_ways_0 7 rfl rfl)
abbrev cX0_counted : ByteArray := prog_1_method_27_code
def yX0_counted : MethodName := ⟨RX0, "counted", "()LSevenRings$Counter;"⟩
def dkwX0_counted_0 : List UInt8 := [187, 0, 189, 89, 183, 0, 191, 76, 42, 43, 2, 3, 182, 0, 192, 43, 176]
abbrev dktX0_counted_0 : List UInt8 := dkwX0_counted_0 ++ []
theorem dksX0_counted_0 : cX0_counted.data.toList.drop 0 = dktX0_counted_0 := by decide +kernel
theorem dX0_counted_0 : decode cX0_counted 0 = .ok (.new 189, 3) := dk_187 0 189 (dk_at dksX0_counted_0 0 rfl rfl)
theorem dX0_counted_3 : decode cX0_counted 3 = .ok (.dup, 1) := dk_89 (dk_at dksX0_counted_0 3 rfl rfl)
theorem dX0_counted_4 : decode cX0_counted 4 = .ok (.invokespecial 191, 3) := dk_183 0 191 (dk_at dksX0_counted_0 4 rfl rfl)
theorem dX0_counted_7 : decode cX0_counted 7 = .ok (.astore_n 1, 1) := dk_76 (dk_at dksX0_counted_0 7 rfl rfl)
theorem dX0_counted_8 : decode cX0_counted 8 = .ok (.aload_n 0, 1) := dk_42 (dk_at dksX0_counted_0 8 rfl rfl)
theorem dX0_counted_9 : decode cX0_counted 9 = .ok (.aload_n 1, 1) := dk_43 (dk_at dksX0_counted_0 9 rfl rfl)
theorem dX0_counted_10 : decode cX0_counted 10 = .ok (.iconst (-1), 1) := dk_2 (dk_at dksX0_counted_0 10 rfl rfl)
theorem dX0_counted_11 : decode cX0_counted 11 = .ok (.iconst 0, 1) := dk_3 (dk_at dksX0_counted_0 11 rfl rfl)
theorem dX0_counted_12 : decode cX0_counted 12 = .ok (.invokevirtual 192, 3) := dk_182 0 192 (dk_at dksX0_counted_0 12 rfl rfl)
theorem dX0_counted_15 : decode cX0_counted 15 = .ok (.aload_n 1, 1) := dk_43 (dk_at dksX0_counted_0 15 rfl rfl)
theorem dX0_counted_16 : decode cX0_counted 16 = .ok (.areturn, 1) := dk_176 (dk_at dksX0_counted_0 16 rfl rfl)
abbrev cX0_goAll : ByteArray := prog_1_method_26_code
def yX0_goAll : MethodName := ⟨RX0, "goAll", "(LSevenRings$Hearer;IZ)V"⟩
def dkwX0_goAll_3 : List UInt8 := [96, 181, 0, 147, 42, 43, 3, 16, 32, 182, 0, 183, 54, 4, 132, 5, 1, 167, 255, 213, 177]
abbrev dktX0_goAll_3 : List UInt8 := dkwX0_goAll_3 ++ []
def dkwX0_goAll_2 : List UInt8 := [16, 24, 162, 0, 42, 21, 4, 153, 0, 37, 42, 21, 5, 6, 108, 181, 0, 144, 42, 4, 21, 5, 6, 112]
abbrev dktX0_goAll_2 : List UInt8 := dkwX0_goAll_2 ++ dktX0_goAll_3
def dkwX0_goAll_1 : List UInt8 := [79, 42, 3, 181, 0, 171, 42, 3, 181, 0, 174, 42, 3, 181, 0, 154, 4, 54, 4, 3, 54, 5, 21, 5]
abbrev dktX0_goAll_1 : List UInt8 := dkwX0_goAll_1 ++ dktX0_goAll_2
def dkwX0_goAll_0 : List UInt8 := [42, 28, 181, 0, 138, 42, 29, 181, 0, 134, 42, 180, 0, 51, 3, 42, 180, 0, 26, 180, 0, 75, 4, 46]
abbrev dktX0_goAll_0 : List UInt8 := dkwX0_goAll_0 ++ dktX0_goAll_1
theorem dksX0_goAll_0 : cX0_goAll.data.toList.drop 0 = dktX0_goAll_0 := by decide +kernel
theorem dksX0_goAll_1 : cX0_goAll.data.toList.drop 24 = dktX0_goAll_1 := dk_seg dksX0_goAll_0 24 rfl rfl
theorem dksX0_goAll_2 : cX0_goAll.data.toList.drop 48 = dktX0_goAll_2 := dk_seg dksX0_goAll_1 24 rfl rfl
theorem dksX0_goAll_3 : cX0_goAll.data.toList.drop 72 = dktX0_goAll_3 := dk_seg dksX0_goAll_2 24 rfl rfl
theorem dX0_goAll_0 : decode cX0_goAll 0 = .ok (.aload_n 0, 1) := dk_42 (dk_at dksX0_goAll_0 0 rfl rfl)
theorem dX0_goAll_1 : decode cX0_goAll 1 = .ok (.iload_n 2, 1) := dk_28 (dk_at dksX0_goAll_0 1 rfl rfl)
theorem dX0_goAll_2 : decode cX0_goAll 2 = .ok (.putfield 138, 3) := dk_181 0 138 (dk_at dksX0_goAll_0 2 rfl rfl)
theorem dX0_goAll_5 : decode cX0_goAll 5 = .ok (.aload_n 0, 1) := dk_42 (dk_at dksX0_goAll_0 5 rfl rfl)
theorem dX0_goAll_6 : decode cX0_goAll 6 = .ok (.iload_n 3, 1) := dk_29 (dk_at dksX0_goAll_0 6 rfl rfl)
theorem dX0_goAll_7 : decode cX0_goAll 7 = .ok (.putfield 134, 3) := dk_181 0 134 (dk_at dksX0_goAll_0 7 rfl rfl)
theorem dX0_goAll_10 : decode cX0_goAll 10 = .ok (.aload_n 0, 1) := dk_42 (dk_at dksX0_goAll_0 10 rfl rfl)
theorem dX0_goAll_11 : decode cX0_goAll 11 = .ok (.getfield 51, 3) := dk_180 0 51 (dk_at dksX0_goAll_0 11 rfl rfl)
theorem dX0_goAll_14 : decode cX0_goAll 14 = .ok (.iconst 0, 1) := dk_3 (dk_at dksX0_goAll_0 14 rfl rfl)
theorem dX0_goAll_15 : decode cX0_goAll 15 = .ok (.aload_n 0, 1) := dk_42 (dk_at dksX0_goAll_0 15 rfl rfl)
theorem dX0_goAll_16 : decode cX0_goAll 16 = .ok (.getfield 26, 3) := dk_180 0 26 (dk_at dksX0_goAll_0 16 rfl rfl)
theorem dX0_goAll_19 : decode cX0_goAll 19 = .ok (.getfield 75, 3) := dk_180 0 75 (dk_at dksX0_goAll_0 19 rfl rfl)
theorem dX0_goAll_22 : decode cX0_goAll 22 = .ok (.iconst 1, 1) := dk_4 (dk_at dksX0_goAll_0 22 rfl rfl)
theorem dX0_goAll_23 : decode cX0_goAll 23 = .ok (.iaload, 1) := dk_46 (dk_at dksX0_goAll_0 23 rfl rfl)
theorem dX0_goAll_24 : decode cX0_goAll 24 = .ok (.iastore, 1) := dk_79 (dk_at dksX0_goAll_1 0 rfl rfl)
theorem dX0_goAll_25 : decode cX0_goAll 25 = .ok (.aload_n 0, 1) := dk_42 (dk_at dksX0_goAll_1 1 rfl rfl)
theorem dX0_goAll_26 : decode cX0_goAll 26 = .ok (.iconst 0, 1) := dk_3 (dk_at dksX0_goAll_1 2 rfl rfl)
theorem dX0_goAll_27 : decode cX0_goAll 27 = .ok (.putfield 171, 3) := dk_181 0 171 (dk_at dksX0_goAll_1 3 rfl rfl)
theorem dX0_goAll_30 : decode cX0_goAll 30 = .ok (.aload_n 0, 1) := dk_42 (dk_at dksX0_goAll_1 6 rfl rfl)
theorem dX0_goAll_31 : decode cX0_goAll 31 = .ok (.iconst 0, 1) := dk_3 (dk_at dksX0_goAll_1 7 rfl rfl)
theorem dX0_goAll_32 : decode cX0_goAll 32 = .ok (.putfield 174, 3) := dk_181 0 174 (dk_at dksX0_goAll_1 8 rfl rfl)
theorem dX0_goAll_35 : decode cX0_goAll 35 = .ok (.aload_n 0, 1) := dk_42 (dk_at dksX0_goAll_1 11 rfl rfl)
theorem dX0_goAll_36 : decode cX0_goAll 36 = .ok (.iconst 0, 1) := dk_3 (dk_at dksX0_goAll_1 12 rfl rfl)
theorem dX0_goAll_37 : decode cX0_goAll 37 = .ok (.putfield 154, 3) := dk_181 0 154 (dk_at dksX0_goAll_1 13 rfl rfl)
theorem dX0_goAll_40 : decode cX0_goAll 40 = .ok (.iconst 1, 1) := dk_4 (dk_at dksX0_goAll_1 16 rfl rfl)
theorem dX0_goAll_41 : decode cX0_goAll 41 = .ok (.istore 4, 2) := dk_54 4 (dk_at dksX0_goAll_1 17 rfl rfl)
theorem dX0_goAll_43 : decode cX0_goAll 43 = .ok (.iconst 0, 1) := dk_3 (dk_at dksX0_goAll_1 19 rfl rfl)
theorem dX0_goAll_44 : decode cX0_goAll 44 = .ok (.istore 5, 2) := dk_54 5 (dk_at dksX0_goAll_1 20 rfl rfl)
theorem dX0_goAll_46 : decode cX0_goAll 46 = .ok (.iload 5, 2) := dk_21 5 (dk_at dksX0_goAll_1 22 rfl rfl)
theorem dX0_goAll_48 : decode cX0_goAll 48 = .ok (.bipush 24, 2) := dk_16 24 (dk_at dksX0_goAll_2 0 rfl rfl)
theorem dX0_goAll_50 : decode cX0_goAll 50 = .ok (.if_icmp .ge 42, 3) := dk_162 0 42 (dk_at dksX0_goAll_2 2 rfl rfl)
theorem dX0_goAll_53 : decode cX0_goAll 53 = .ok (.iload 4, 2) := dk_21 4 (dk_at dksX0_goAll_2 5 rfl rfl)
theorem dX0_goAll_55 : decode cX0_goAll 55 = .ok (.ifCond .eq 37, 3) := dk_153 0 37 (dk_at dksX0_goAll_2 7 rfl rfl)
theorem dX0_goAll_58 : decode cX0_goAll 58 = .ok (.aload_n 0, 1) := dk_42 (dk_at dksX0_goAll_2 10 rfl rfl)
theorem dX0_goAll_59 : decode cX0_goAll 59 = .ok (.iload 5, 2) := dk_21 5 (dk_at dksX0_goAll_2 11 rfl rfl)
theorem dX0_goAll_61 : decode cX0_goAll 61 = .ok (.iconst 3, 1) := dk_6 (dk_at dksX0_goAll_2 13 rfl rfl)
theorem dX0_goAll_62 : decode cX0_goAll 62 = .ok (.idiv, 1) := dk_108 (dk_at dksX0_goAll_2 14 rfl rfl)
theorem dX0_goAll_63 : decode cX0_goAll 63 = .ok (.putfield 144, 3) := dk_181 0 144 (dk_at dksX0_goAll_2 15 rfl rfl)
theorem dX0_goAll_66 : decode cX0_goAll 66 = .ok (.aload_n 0, 1) := dk_42 (dk_at dksX0_goAll_2 18 rfl rfl)
theorem dX0_goAll_67 : decode cX0_goAll 67 = .ok (.iconst 1, 1) := dk_4 (dk_at dksX0_goAll_2 19 rfl rfl)
theorem dX0_goAll_68 : decode cX0_goAll 68 = .ok (.iload 5, 2) := dk_21 5 (dk_at dksX0_goAll_2 20 rfl rfl)
theorem dX0_goAll_70 : decode cX0_goAll 70 = .ok (.iconst 3, 1) := dk_6 (dk_at dksX0_goAll_2 22 rfl rfl)
theorem dX0_goAll_71 : decode cX0_goAll 71 = .ok (.irem, 1) := dk_112 (dk_at dksX0_goAll_2 23 rfl rfl)
theorem dX0_goAll_72 : decode cX0_goAll 72 = .ok (.iadd, 1) := dk_96 (dk_at dksX0_goAll_3 0 rfl rfl)
theorem dX0_goAll_73 : decode cX0_goAll 73 = .ok (.putfield 147, 3) := dk_181 0 147 (dk_at dksX0_goAll_3 1 rfl rfl)
theorem dX0_goAll_76 : decode cX0_goAll 76 = .ok (.aload_n 0, 1) := dk_42 (dk_at dksX0_goAll_3 4 rfl rfl)
theorem dX0_goAll_77 : decode cX0_goAll 77 = .ok (.aload_n 1, 1) := dk_43 (dk_at dksX0_goAll_3 5 rfl rfl)
theorem dX0_goAll_78 : decode cX0_goAll 78 = .ok (.iconst 0, 1) := dk_3 (dk_at dksX0_goAll_3 6 rfl rfl)
theorem dX0_goAll_79 : decode cX0_goAll 79 = .ok (.bipush 32, 2) := dk_16 32 (dk_at dksX0_goAll_3 7 rfl rfl)
theorem dX0_goAll_81 : decode cX0_goAll 81 = .ok (.invokevirtual 183, 3) := dk_182 0 183 (dk_at dksX0_goAll_3 9 rfl rfl)
theorem dX0_goAll_84 : decode cX0_goAll 84 = .ok (.istore 4, 2) := dk_54 4 (dk_at dksX0_goAll_3 12 rfl rfl)
theorem dX0_goAll_86 : decode cX0_goAll 86 = .ok (.iinc 5 1, 3) := dk_132 5 1 (dk_at dksX0_goAll_3 14 rfl rfl)
theorem dX0_goAll_89 : decode cX0_goAll 89 = .ok (.goto (-43), 3) := dk_167 255 213 (dk_at dksX0_goAll_3 17 rfl rfl)
theorem dX0_goAll_92 : decode cX0_goAll 92 = .ok (.return_, 1) := dk_177 (dk_at dksX0_goAll_3 20 rfl rfl)
abbrev cX0_goOn : ByteArray := prog_1_method_22_code
def yX0_goOn : MethodName := ⟨RX0, "goOn", "(LSevenRings$Hearer;II)Z"⟩
def dkwX0_goOn_6 : List UInt8 := [54, 5, 42, 89, 180, 0, 154, 42, 180, 0, 147, 42, 180, 0, 147, 104, 100, 181, 0, 154, 21, 5, 172]
abbrev dktX0_goOn_6 : List UInt8 := dkwX0_goOn_6 ++ []
def dkwX0_goOn_5 : List UInt8 := [153, 0, 23, 167, 0, 16, 42, 43, 28, 4, 96, 21, 6, 182, 0, 167, 153, 0, 7, 4, 167, 0, 4, 3]
abbrev dktX0_goOn_5 : List UInt8 := dkwX0_goOn_5 ++ dktX0_goOn_6
def dkwX0_goOn_4 : List UInt8 := [153, 0, 42, 28, 4, 96, 42, 180, 0, 26, 182, 0, 160, 160, 0, 16, 42, 43, 21, 6, 182, 0, 163]
abbrev dktX0_goOn_4 : List UInt8 := dkwX0_goOn_4 ++ dktX0_goOn_5
def dkwX0_goOn_3 : List UInt8 := [42, 180, 0, 51, 28, 4, 96, 21, 4, 79, 29, 42, 28, 4, 96, 182, 0, 157, 104, 54, 6, 21, 6]
abbrev dktX0_goOn_3 : List UInt8 := dkwX0_goOn_3 ++ dktX0_goOn_4
def dkwX0_goOn_2 : List UInt8 := [180, 0, 154, 42, 180, 0, 26, 180, 0, 75, 8, 46, 164, 0, 12, 42, 180, 0, 138, 16, 7, 160, 0, 75]
abbrev dktX0_goOn_2 : List UInt8 := dkwX0_goOn_2 ++ dktX0_goOn_3
def dkwX0_goOn_1 : List UInt8 := [42, 180, 0, 147, 42, 180, 0, 147, 104, 96, 181, 0, 154, 4, 54, 5, 21, 4, 155, 0, 100, 42]
abbrev dktX0_goOn_1 : List UInt8 := dkwX0_goOn_1 ++ dktX0_goOn_2
def dkwX0_goOn_0 : List UInt8 := [42, 180, 0, 51, 28, 46, 42, 180, 0, 144, 42, 180, 0, 147, 184, 0, 150, 54, 4, 42, 89, 180, 0, 154]
abbrev dktX0_goOn_0 : List UInt8 := dkwX0_goOn_0 ++ dktX0_goOn_1
theorem dksX0_goOn_0 : cX0_goOn.data.toList.drop 0 = dktX0_goOn_0 := by decide +kernel
theorem dksX0_goOn_1 : cX0_goOn.data.toList.drop 24 = dktX0_goOn_1 := dk_seg dksX0_goOn_0 24 rfl rfl
theorem dksX0_goOn_2 : cX0_goOn.data.toList.drop 46 = dktX0_goOn_2 := dk_seg dksX0_goOn_1 22 rfl rfl
theorem dksX0_goOn_3 : cX0_goOn.data.toList.drop 70 = dktX0_goOn_3 := dk_seg dksX0_goOn_2 24 rfl rfl
theorem dksX0_goOn_4 : cX0_goOn.data.toList.drop 93 = dktX0_goOn_4 := dk_seg dksX0_goOn_3 23 rfl rfl
theorem dksX0_goOn_5 : cX0_goOn.data.toList.drop 116 = dktX0_goOn_5 := dk_seg dksX0_goOn_4 23 rfl rfl
theorem dksX0_goOn_6 : cX0_goOn.data.toList.drop 140 = dktX0_goOn_6 := dk_seg dksX0_goOn_5 24 rfl rfl
theorem dX0_goOn_0 : decode cX0_goOn 0 = .ok (.aload_n 0, 1) := dk_42 (dk_at dksX0_goOn_0 0 rfl rfl)
theorem dX0_goOn_1 : decode cX0_goOn 1 = .ok (.getfield 51, 3) := dk_180 0 51 (dk_at dksX0_goOn_0 1 rfl rfl)
theorem dX0_goOn_4 : decode cX0_goOn 4 = .ok (.iload_n 2, 1) := dk_28 (dk_at dksX0_goOn_0 4 rfl rfl)
theorem dX0_goOn_5 : decode cX0_goOn 5 = .ok (.iaload, 1) := dk_46 (dk_at dksX0_goOn_0 5 rfl rfl)
theorem dX0_goOn_6 : decode cX0_goOn 6 = .ok (.aload_n 0, 1) := dk_42 (dk_at dksX0_goOn_0 6 rfl rfl)
theorem dX0_goOn_7 : decode cX0_goOn 7 = .ok (.getfield 144, 3) := dk_180 0 144 (dk_at dksX0_goOn_0 7 rfl rfl)
theorem dX0_goOn_10 : decode cX0_goOn 10 = .ok (.aload_n 0, 1) := dk_42 (dk_at dksX0_goOn_0 10 rfl rfl)
theorem dX0_goOn_11 : decode cX0_goOn 11 = .ok (.getfield 147, 3) := dk_180 0 147 (dk_at dksX0_goOn_0 11 rfl rfl)
theorem dX0_goOn_14 : decode cX0_goOn 14 = .ok (.invokestatic 150, 3) := dk_184 0 150 (dk_at dksX0_goOn_0 14 rfl rfl)
theorem dX0_goOn_17 : decode cX0_goOn 17 = .ok (.istore 4, 2) := dk_54 4 (dk_at dksX0_goOn_0 17 rfl rfl)
theorem dX0_goOn_19 : decode cX0_goOn 19 = .ok (.aload_n 0, 1) := dk_42 (dk_at dksX0_goOn_0 19 rfl rfl)
theorem dX0_goOn_20 : decode cX0_goOn 20 = .ok (.dup, 1) := dk_89 (dk_at dksX0_goOn_0 20 rfl rfl)
theorem dX0_goOn_21 : decode cX0_goOn 21 = .ok (.getfield 154, 3) := dk_180 0 154 (dk_at dksX0_goOn_0 21 rfl rfl)
theorem dX0_goOn_24 : decode cX0_goOn 24 = .ok (.aload_n 0, 1) := dk_42 (dk_at dksX0_goOn_1 0 rfl rfl)
theorem dX0_goOn_25 : decode cX0_goOn 25 = .ok (.getfield 147, 3) := dk_180 0 147 (dk_at dksX0_goOn_1 1 rfl rfl)
theorem dX0_goOn_28 : decode cX0_goOn 28 = .ok (.aload_n 0, 1) := dk_42 (dk_at dksX0_goOn_1 4 rfl rfl)
theorem dX0_goOn_29 : decode cX0_goOn 29 = .ok (.getfield 147, 3) := dk_180 0 147 (dk_at dksX0_goOn_1 5 rfl rfl)
theorem dX0_goOn_32 : decode cX0_goOn 32 = .ok (.imul, 1) := dk_104 (dk_at dksX0_goOn_1 8 rfl rfl)
theorem dX0_goOn_33 : decode cX0_goOn 33 = .ok (.iadd, 1) := dk_96 (dk_at dksX0_goOn_1 9 rfl rfl)
theorem dX0_goOn_34 : decode cX0_goOn 34 = .ok (.putfield 154, 3) := dk_181 0 154 (dk_at dksX0_goOn_1 10 rfl rfl)
theorem dX0_goOn_37 : decode cX0_goOn 37 = .ok (.iconst 1, 1) := dk_4 (dk_at dksX0_goOn_1 13 rfl rfl)
theorem dX0_goOn_38 : decode cX0_goOn 38 = .ok (.istore 5, 2) := dk_54 5 (dk_at dksX0_goOn_1 14 rfl rfl)
theorem dX0_goOn_40 : decode cX0_goOn 40 = .ok (.iload 4, 2) := dk_21 4 (dk_at dksX0_goOn_1 16 rfl rfl)
theorem dX0_goOn_42 : decode cX0_goOn 42 = .ok (.ifCond .lt 100, 3) := dk_155 0 100 (dk_at dksX0_goOn_1 18 rfl rfl)
theorem dX0_goOn_45 : decode cX0_goOn 45 = .ok (.aload_n 0, 1) := dk_42 (dk_at dksX0_goOn_1 21 rfl rfl)
theorem dX0_goOn_46 : decode cX0_goOn 46 = .ok (.getfield 154, 3) := dk_180 0 154 (dk_at dksX0_goOn_2 0 rfl rfl)
theorem dX0_goOn_49 : decode cX0_goOn 49 = .ok (.aload_n 0, 1) := dk_42 (dk_at dksX0_goOn_2 3 rfl rfl)
theorem dX0_goOn_50 : decode cX0_goOn 50 = .ok (.getfield 26, 3) := dk_180 0 26 (dk_at dksX0_goOn_2 4 rfl rfl)
theorem dX0_goOn_53 : decode cX0_goOn 53 = .ok (.getfield 75, 3) := dk_180 0 75 (dk_at dksX0_goOn_2 7 rfl rfl)
theorem dX0_goOn_56 : decode cX0_goOn 56 = .ok (.iconst 5, 1) := dk_8 (dk_at dksX0_goOn_2 10 rfl rfl)
theorem dX0_goOn_57 : decode cX0_goOn 57 = .ok (.iaload, 1) := dk_46 (dk_at dksX0_goOn_2 11 rfl rfl)
theorem dX0_goOn_58 : decode cX0_goOn 58 = .ok (.if_icmp .le 12, 3) := dk_164 0 12 (dk_at dksX0_goOn_2 12 rfl rfl)
theorem dX0_goOn_61 : decode cX0_goOn 61 = .ok (.aload_n 0, 1) := dk_42 (dk_at dksX0_goOn_2 15 rfl rfl)
theorem dX0_goOn_62 : decode cX0_goOn 62 = .ok (.getfield 138, 3) := dk_180 0 138 (dk_at dksX0_goOn_2 16 rfl rfl)
theorem dX0_goOn_65 : decode cX0_goOn 65 = .ok (.bipush 7, 2) := dk_16 7 (dk_at dksX0_goOn_2 19 rfl rfl)
theorem dX0_goOn_67 : decode cX0_goOn 67 = .ok (.if_icmp .ne 75, 3) := dk_160 0 75 (dk_at dksX0_goOn_2 21 rfl rfl)
theorem dX0_goOn_70 : decode cX0_goOn 70 = .ok (.aload_n 0, 1) := dk_42 (dk_at dksX0_goOn_3 0 rfl rfl)
theorem dX0_goOn_71 : decode cX0_goOn 71 = .ok (.getfield 51, 3) := dk_180 0 51 (dk_at dksX0_goOn_3 1 rfl rfl)
theorem dX0_goOn_74 : decode cX0_goOn 74 = .ok (.iload_n 2, 1) := dk_28 (dk_at dksX0_goOn_3 4 rfl rfl)
theorem dX0_goOn_75 : decode cX0_goOn 75 = .ok (.iconst 1, 1) := dk_4 (dk_at dksX0_goOn_3 5 rfl rfl)
theorem dX0_goOn_76 : decode cX0_goOn 76 = .ok (.iadd, 1) := dk_96 (dk_at dksX0_goOn_3 6 rfl rfl)
theorem dX0_goOn_77 : decode cX0_goOn 77 = .ok (.iload 4, 2) := dk_21 4 (dk_at dksX0_goOn_3 7 rfl rfl)
theorem dX0_goOn_79 : decode cX0_goOn 79 = .ok (.iastore, 1) := dk_79 (dk_at dksX0_goOn_3 9 rfl rfl)
theorem dX0_goOn_80 : decode cX0_goOn 80 = .ok (.iload_n 3, 1) := dk_29 (dk_at dksX0_goOn_3 10 rfl rfl)
theorem dX0_goOn_81 : decode cX0_goOn 81 = .ok (.aload_n 0, 1) := dk_42 (dk_at dksX0_goOn_3 11 rfl rfl)
theorem dX0_goOn_82 : decode cX0_goOn 82 = .ok (.iload_n 2, 1) := dk_28 (dk_at dksX0_goOn_3 12 rfl rfl)
theorem dX0_goOn_83 : decode cX0_goOn 83 = .ok (.iconst 1, 1) := dk_4 (dk_at dksX0_goOn_3 13 rfl rfl)
theorem dX0_goOn_84 : decode cX0_goOn 84 = .ok (.iadd, 1) := dk_96 (dk_at dksX0_goOn_3 14 rfl rfl)
theorem dX0_goOn_85 : decode cX0_goOn 85 = .ok (.invokevirtual 157, 3) := dk_182 0 157 (dk_at dksX0_goOn_3 15 rfl rfl)
theorem dX0_goOn_88 : decode cX0_goOn 88 = .ok (.imul, 1) := dk_104 (dk_at dksX0_goOn_3 18 rfl rfl)
theorem dX0_goOn_89 : decode cX0_goOn 89 = .ok (.istore 6, 2) := dk_54 6 (dk_at dksX0_goOn_3 19 rfl rfl)
theorem dX0_goOn_91 : decode cX0_goOn 91 = .ok (.iload 6, 2) := dk_21 6 (dk_at dksX0_goOn_3 21 rfl rfl)
theorem dX0_goOn_93 : decode cX0_goOn 93 = .ok (.ifCond .eq 42, 3) := dk_153 0 42 (dk_at dksX0_goOn_4 0 rfl rfl)
theorem dX0_goOn_96 : decode cX0_goOn 96 = .ok (.iload_n 2, 1) := dk_28 (dk_at dksX0_goOn_4 3 rfl rfl)
theorem dX0_goOn_97 : decode cX0_goOn 97 = .ok (.iconst 1, 1) := dk_4 (dk_at dksX0_goOn_4 4 rfl rfl)
theorem dX0_goOn_98 : decode cX0_goOn 98 = .ok (.iadd, 1) := dk_96 (dk_at dksX0_goOn_4 5 rfl rfl)
theorem dX0_goOn_99 : decode cX0_goOn 99 = .ok (.aload_n 0, 1) := dk_42 (dk_at dksX0_goOn_4 6 rfl rfl)
theorem dX0_goOn_100 : decode cX0_goOn 100 = .ok (.getfield 26, 3) := dk_180 0 26 (dk_at dksX0_goOn_4 7 rfl rfl)
theorem dX0_goOn_103 : decode cX0_goOn 103 = .ok (.invokevirtual 160, 3) := dk_182 0 160 (dk_at dksX0_goOn_4 10 rfl rfl)
theorem dX0_goOn_106 : decode cX0_goOn 106 = .ok (.if_icmp .ne 16, 3) := dk_160 0 16 (dk_at dksX0_goOn_4 13 rfl rfl)
theorem dX0_goOn_109 : decode cX0_goOn 109 = .ok (.aload_n 0, 1) := dk_42 (dk_at dksX0_goOn_4 16 rfl rfl)
theorem dX0_goOn_110 : decode cX0_goOn 110 = .ok (.aload_n 1, 1) := dk_43 (dk_at dksX0_goOn_4 17 rfl rfl)
theorem dX0_goOn_111 : decode cX0_goOn 111 = .ok (.iload 6, 2) := dk_21 6 (dk_at dksX0_goOn_4 18 rfl rfl)
theorem dX0_goOn_113 : decode cX0_goOn 113 = .ok (.invokevirtual 163, 3) := dk_182 0 163 (dk_at dksX0_goOn_4 20 rfl rfl)
theorem dX0_goOn_116 : decode cX0_goOn 116 = .ok (.ifCond .eq 23, 3) := dk_153 0 23 (dk_at dksX0_goOn_5 0 rfl rfl)
theorem dX0_goOn_119 : decode cX0_goOn 119 = .ok (.goto 16, 3) := dk_167 0 16 (dk_at dksX0_goOn_5 3 rfl rfl)
theorem dX0_goOn_122 : decode cX0_goOn 122 = .ok (.aload_n 0, 1) := dk_42 (dk_at dksX0_goOn_5 6 rfl rfl)
theorem dX0_goOn_123 : decode cX0_goOn 123 = .ok (.aload_n 1, 1) := dk_43 (dk_at dksX0_goOn_5 7 rfl rfl)
theorem dX0_goOn_124 : decode cX0_goOn 124 = .ok (.iload_n 2, 1) := dk_28 (dk_at dksX0_goOn_5 8 rfl rfl)
theorem dX0_goOn_125 : decode cX0_goOn 125 = .ok (.iconst 1, 1) := dk_4 (dk_at dksX0_goOn_5 9 rfl rfl)
theorem dX0_goOn_126 : decode cX0_goOn 126 = .ok (.iadd, 1) := dk_96 (dk_at dksX0_goOn_5 10 rfl rfl)
theorem dX0_goOn_127 : decode cX0_goOn 127 = .ok (.iload 6, 2) := dk_21 6 (dk_at dksX0_goOn_5 11 rfl rfl)
theorem dX0_goOn_129 : decode cX0_goOn 129 = .ok (.invokevirtual 167, 3) := dk_182 0 167 (dk_at dksX0_goOn_5 13 rfl rfl)
theorem dX0_goOn_132 : decode cX0_goOn 132 = .ok (.ifCond .eq 7, 3) := dk_153 0 7 (dk_at dksX0_goOn_5 16 rfl rfl)
theorem dX0_goOn_135 : decode cX0_goOn 135 = .ok (.iconst 1, 1) := dk_4 (dk_at dksX0_goOn_5 19 rfl rfl)
theorem dX0_goOn_136 : decode cX0_goOn 136 = .ok (.goto 4, 3) := dk_167 0 4 (dk_at dksX0_goOn_5 20 rfl rfl)
theorem dX0_goOn_139 : decode cX0_goOn 139 = .ok (.iconst 0, 1) := dk_3 (dk_at dksX0_goOn_5 23 rfl rfl)
theorem dX0_goOn_140 : decode cX0_goOn 140 = .ok (.istore 5, 2) := dk_54 5 (dk_at dksX0_goOn_6 0 rfl rfl)
theorem dX0_goOn_142 : decode cX0_goOn 142 = .ok (.aload_n 0, 1) := dk_42 (dk_at dksX0_goOn_6 2 rfl rfl)
theorem dX0_goOn_143 : decode cX0_goOn 143 = .ok (.dup, 1) := dk_89 (dk_at dksX0_goOn_6 3 rfl rfl)
theorem dX0_goOn_144 : decode cX0_goOn 144 = .ok (.getfield 154, 3) := dk_180 0 154 (dk_at dksX0_goOn_6 4 rfl rfl)
theorem dX0_goOn_147 : decode cX0_goOn 147 = .ok (.aload_n 0, 1) := dk_42 (dk_at dksX0_goOn_6 7 rfl rfl)
theorem dX0_goOn_148 : decode cX0_goOn 148 = .ok (.getfield 147, 3) := dk_180 0 147 (dk_at dksX0_goOn_6 8 rfl rfl)
theorem dX0_goOn_151 : decode cX0_goOn 151 = .ok (.aload_n 0, 1) := dk_42 (dk_at dksX0_goOn_6 11 rfl rfl)
theorem dX0_goOn_152 : decode cX0_goOn 152 = .ok (.getfield 147, 3) := dk_180 0 147 (dk_at dksX0_goOn_6 12 rfl rfl)
theorem dX0_goOn_155 : decode cX0_goOn 155 = .ok (.imul, 1) := dk_104 (dk_at dksX0_goOn_6 15 rfl rfl)
theorem dX0_goOn_156 : decode cX0_goOn 156 = .ok (.isub, 1) := dk_100 (dk_at dksX0_goOn_6 16 rfl rfl)
theorem dX0_goOn_157 : decode cX0_goOn 157 = .ok (.putfield 154, 3) := dk_181 0 154 (dk_at dksX0_goOn_6 17 rfl rfl)
theorem dX0_goOn_160 : decode cX0_goOn 160 = .ok (.iload 5, 2) := dk_21 5 (dk_at dksX0_goOn_6 20 rfl rfl)
theorem dX0_goOn_162 : decode cX0_goOn 162 = .ok (.ireturn, 1) := dk_172 (dk_at dksX0_goOn_6 22 rfl rfl)
abbrev cX0_beyond : ByteArray := prog_1_method_4_code
def yX0_beyond : MethodName := ⟨RX0, "beyond", "(III)I"⟩
def dkwX0_beyond_2 : List UInt8 := [184, 0, 3, 153, 0, 13, 16, 10, 29, 104, 21, 4, 96, 167, 0, 5, 16, 252, 172]
abbrev dktX0_beyond_2 : List UInt8 := dkwX0_beyond_2 ++ []
def dkwX0_beyond_1 : List UInt8 := [184, 0, 7, 104, 96, 54, 4, 29, 3, 16, 9, 184, 0, 3, 153, 0, 24, 21, 4, 3, 16, 9]
abbrev dktX0_beyond_1 : List UInt8 := dkwX0_beyond_1 ++ dktX0_beyond_2
def dkwX0_beyond_0 : List UInt8 := [26, 16, 10, 108, 28, 17, 5, 160, 27, 184, 0, 7, 104, 96, 62, 26, 16, 10, 112, 28, 17, 0, 160, 27]
abbrev dktX0_beyond_0 : List UInt8 := dkwX0_beyond_0 ++ dktX0_beyond_1
theorem dksX0_beyond_0 : cX0_beyond.data.toList.drop 0 = dktX0_beyond_0 := by decide +kernel
theorem dksX0_beyond_1 : cX0_beyond.data.toList.drop 24 = dktX0_beyond_1 := dk_seg dksX0_beyond_0 24 rfl rfl
theorem dksX0_beyond_2 : cX0_beyond.data.toList.drop 46 = dktX0_beyond_2 := dk_seg dksX0_beyond_1 22 rfl rfl
theorem dX0_beyond_0 : decode cX0_beyond 0 = .ok (.iload_n 0, 1) := dk_26 (dk_at dksX0_beyond_0 0 rfl rfl)
theorem dX0_beyond_1 : decode cX0_beyond 1 = .ok (.bipush 10, 2) := dk_16 10 (dk_at dksX0_beyond_0 1 rfl rfl)
theorem dX0_beyond_3 : decode cX0_beyond 3 = .ok (.idiv, 1) := dk_108 (dk_at dksX0_beyond_0 3 rfl rfl)
theorem dX0_beyond_4 : decode cX0_beyond 4 = .ok (.iload_n 2, 1) := dk_28 (dk_at dksX0_beyond_0 4 rfl rfl)
theorem dX0_beyond_5 : decode cX0_beyond 5 = .ok (.sipush 1440, 3) := dk_17 5 160 (dk_at dksX0_beyond_0 5 rfl rfl)
theorem dX0_beyond_8 : decode cX0_beyond 8 = .ok (.iload_n 1, 1) := dk_27 (dk_at dksX0_beyond_0 8 rfl rfl)
theorem dX0_beyond_9 : decode cX0_beyond 9 = .ok (.invokestatic 7, 3) := dk_184 0 7 (dk_at dksX0_beyond_0 9 rfl rfl)
theorem dX0_beyond_12 : decode cX0_beyond 12 = .ok (.imul, 1) := dk_104 (dk_at dksX0_beyond_0 12 rfl rfl)
theorem dX0_beyond_13 : decode cX0_beyond 13 = .ok (.iadd, 1) := dk_96 (dk_at dksX0_beyond_0 13 rfl rfl)
theorem dX0_beyond_14 : decode cX0_beyond 14 = .ok (.istore_n 3, 1) := dk_62 (dk_at dksX0_beyond_0 14 rfl rfl)
theorem dX0_beyond_15 : decode cX0_beyond 15 = .ok (.iload_n 0, 1) := dk_26 (dk_at dksX0_beyond_0 15 rfl rfl)
theorem dX0_beyond_16 : decode cX0_beyond 16 = .ok (.bipush 10, 2) := dk_16 10 (dk_at dksX0_beyond_0 16 rfl rfl)
theorem dX0_beyond_18 : decode cX0_beyond 18 = .ok (.irem, 1) := dk_112 (dk_at dksX0_beyond_0 18 rfl rfl)
theorem dX0_beyond_19 : decode cX0_beyond 19 = .ok (.iload_n 2, 1) := dk_28 (dk_at dksX0_beyond_0 19 rfl rfl)
theorem dX0_beyond_20 : decode cX0_beyond 20 = .ok (.sipush 160, 3) := dk_17 0 160 (dk_at dksX0_beyond_0 20 rfl rfl)
theorem dX0_beyond_23 : decode cX0_beyond 23 = .ok (.iload_n 1, 1) := dk_27 (dk_at dksX0_beyond_0 23 rfl rfl)
theorem dX0_beyond_24 : decode cX0_beyond 24 = .ok (.invokestatic 7, 3) := dk_184 0 7 (dk_at dksX0_beyond_1 0 rfl rfl)
theorem dX0_beyond_27 : decode cX0_beyond 27 = .ok (.imul, 1) := dk_104 (dk_at dksX0_beyond_1 3 rfl rfl)
theorem dX0_beyond_28 : decode cX0_beyond 28 = .ok (.iadd, 1) := dk_96 (dk_at dksX0_beyond_1 4 rfl rfl)
theorem dX0_beyond_29 : decode cX0_beyond 29 = .ok (.istore 4, 2) := dk_54 4 (dk_at dksX0_beyond_1 5 rfl rfl)
theorem dX0_beyond_31 : decode cX0_beyond 31 = .ok (.iload_n 3, 1) := dk_29 (dk_at dksX0_beyond_1 7 rfl rfl)
theorem dX0_beyond_32 : decode cX0_beyond 32 = .ok (.iconst 0, 1) := dk_3 (dk_at dksX0_beyond_1 8 rfl rfl)
theorem dX0_beyond_33 : decode cX0_beyond 33 = .ok (.bipush 9, 2) := dk_16 9 (dk_at dksX0_beyond_1 9 rfl rfl)
theorem dX0_beyond_35 : decode cX0_beyond 35 = .ok (.invokestatic 3, 3) := dk_184 0 3 (dk_at dksX0_beyond_1 11 rfl rfl)
theorem dX0_beyond_38 : decode cX0_beyond 38 = .ok (.ifCond .eq 24, 3) := dk_153 0 24 (dk_at dksX0_beyond_1 14 rfl rfl)
theorem dX0_beyond_41 : decode cX0_beyond 41 = .ok (.iload 4, 2) := dk_21 4 (dk_at dksX0_beyond_1 17 rfl rfl)
theorem dX0_beyond_43 : decode cX0_beyond 43 = .ok (.iconst 0, 1) := dk_3 (dk_at dksX0_beyond_1 19 rfl rfl)
theorem dX0_beyond_44 : decode cX0_beyond 44 = .ok (.bipush 9, 2) := dk_16 9 (dk_at dksX0_beyond_1 20 rfl rfl)
theorem dX0_beyond_46 : decode cX0_beyond 46 = .ok (.invokestatic 3, 3) := dk_184 0 3 (dk_at dksX0_beyond_2 0 rfl rfl)
theorem dX0_beyond_49 : decode cX0_beyond 49 = .ok (.ifCond .eq 13, 3) := dk_153 0 13 (dk_at dksX0_beyond_2 3 rfl rfl)
theorem dX0_beyond_52 : decode cX0_beyond 52 = .ok (.bipush 10, 2) := dk_16 10 (dk_at dksX0_beyond_2 6 rfl rfl)
theorem dX0_beyond_54 : decode cX0_beyond 54 = .ok (.iload_n 3, 1) := dk_29 (dk_at dksX0_beyond_2 8 rfl rfl)
theorem dX0_beyond_55 : decode cX0_beyond 55 = .ok (.imul, 1) := dk_104 (dk_at dksX0_beyond_2 9 rfl rfl)
theorem dX0_beyond_56 : decode cX0_beyond 56 = .ok (.iload 4, 2) := dk_21 4 (dk_at dksX0_beyond_2 10 rfl rfl)
theorem dX0_beyond_58 : decode cX0_beyond 58 = .ok (.iadd, 1) := dk_96 (dk_at dksX0_beyond_2 12 rfl rfl)
theorem dX0_beyond_59 : decode cX0_beyond 59 = .ok (.goto 5, 3) := dk_167 0 5 (dk_at dksX0_beyond_2 13 rfl rfl)
theorem dX0_beyond_62 : decode cX0_beyond 62 = .ok (.bipush (-4), 2) := dk_16 252 (dk_at dksX0_beyond_2 16 rfl rfl)
theorem dX0_beyond_64 : decode cX0_beyond 64 = .ok (.ireturn, 1) := dk_172 (dk_at dksX0_beyond_2 18 rfl rfl)
abbrev cX0_digit : ByteArray := prog_1_method_3_code
def yX0_digit : MethodName := ⟨RX0, "digit", "(II)I"⟩
def dkwX0_digit_1 : List UInt8 := [172]
abbrev dktX0_digit_1 : List UInt8 := dkwX0_digit_1 ++ []
def dkwX0_digit_0 : List UInt8 := [26, 61, 3, 62, 29, 27, 162, 0, 13, 28, 6, 108, 61, 132, 3, 1, 167, 255, 244, 28, 6, 112, 4, 100]
abbrev dktX0_digit_0 : List UInt8 := dkwX0_digit_0 ++ dktX0_digit_1
theorem dksX0_digit_0 : cX0_digit.data.toList.drop 0 = dktX0_digit_0 := by decide +kernel
theorem dksX0_digit_1 : cX0_digit.data.toList.drop 24 = dktX0_digit_1 := dk_seg dksX0_digit_0 24 rfl rfl
theorem dX0_digit_0 : decode cX0_digit 0 = .ok (.iload_n 0, 1) := dk_26 (dk_at dksX0_digit_0 0 rfl rfl)
theorem dX0_digit_1 : decode cX0_digit 1 = .ok (.istore_n 2, 1) := dk_61 (dk_at dksX0_digit_0 1 rfl rfl)
theorem dX0_digit_2 : decode cX0_digit 2 = .ok (.iconst 0, 1) := dk_3 (dk_at dksX0_digit_0 2 rfl rfl)
theorem dX0_digit_3 : decode cX0_digit 3 = .ok (.istore_n 3, 1) := dk_62 (dk_at dksX0_digit_0 3 rfl rfl)
theorem dX0_digit_4 : decode cX0_digit 4 = .ok (.iload_n 3, 1) := dk_29 (dk_at dksX0_digit_0 4 rfl rfl)
theorem dX0_digit_5 : decode cX0_digit 5 = .ok (.iload_n 1, 1) := dk_27 (dk_at dksX0_digit_0 5 rfl rfl)
theorem dX0_digit_6 : decode cX0_digit 6 = .ok (.if_icmp .ge 13, 3) := dk_162 0 13 (dk_at dksX0_digit_0 6 rfl rfl)
theorem dX0_digit_9 : decode cX0_digit 9 = .ok (.iload_n 2, 1) := dk_28 (dk_at dksX0_digit_0 9 rfl rfl)
theorem dX0_digit_10 : decode cX0_digit 10 = .ok (.iconst 3, 1) := dk_6 (dk_at dksX0_digit_0 10 rfl rfl)
theorem dX0_digit_11 : decode cX0_digit 11 = .ok (.idiv, 1) := dk_108 (dk_at dksX0_digit_0 11 rfl rfl)
theorem dX0_digit_12 : decode cX0_digit 12 = .ok (.istore_n 2, 1) := dk_61 (dk_at dksX0_digit_0 12 rfl rfl)
theorem dX0_digit_13 : decode cX0_digit 13 = .ok (.iinc 3 1, 3) := dk_132 3 1 (dk_at dksX0_digit_0 13 rfl rfl)
theorem dX0_digit_16 : decode cX0_digit 16 = .ok (.goto (-12), 3) := dk_167 255 244 (dk_at dksX0_digit_0 16 rfl rfl)
theorem dX0_digit_19 : decode cX0_digit 19 = .ok (.iload_n 2, 1) := dk_28 (dk_at dksX0_digit_0 19 rfl rfl)
theorem dX0_digit_20 : decode cX0_digit 20 = .ok (.iconst 3, 1) := dk_6 (dk_at dksX0_digit_0 20 rfl rfl)
theorem dX0_digit_21 : decode cX0_digit 21 = .ok (.irem, 1) := dk_112 (dk_at dksX0_digit_0 21 rfl rfl)
theorem dX0_digit_22 : decode cX0_digit 22 = .ok (.iconst 1, 1) := dk_4 (dk_at dksX0_digit_0 22 rfl rfl)
theorem dX0_digit_23 : decode cX0_digit 23 = .ok (.isub, 1) := dk_100 (dk_at dksX0_digit_0 23 rfl rfl)
theorem dX0_digit_24 : decode cX0_digit 24 = .ok (.ireturn, 1) := dk_172 (dk_at dksX0_digit_1 0 rfl rfl)
abbrev cX0_ringOf : ByteArray := prog_1_method_21_code
def yX0_ringOf : MethodName := ⟨RX0, "ringOf", "(I)I"⟩
def dkwX0_ringOf_6 : List UInt8 := [154, 0, 7, 5, 167, 0, 14, 21, 5, 4, 160, 0, 7, 4, 167, 0, 4, 3, 172]
abbrev dktX0_ringOf_6 : List UInt8 := dkwX0_ringOf_6 ++ []
def dkwX0_ringOf_5 : List UInt8 := [184, 0, 11, 54, 5, 42, 180, 0, 26, 180, 0, 84, 27, 46, 156, 0, 7, 4, 167, 0, 23, 21, 5]
abbrev dktX0_ringOf_5 : List UInt8 := dkwX0_ringOf_5 ++ dktX0_ringOf_6
def dkwX0_ringOf_4 : List UInt8 := [180, 0, 84, 27, 46, 156, 0, 7, 3, 167, 0, 17, 42, 180, 0, 26, 180, 0, 84, 27, 46, 28, 100]
abbrev dktX0_ringOf_4 : List UInt8 := dkwX0_ringOf_4 ++ dktX0_ringOf_5
def dkwX0_ringOf_3 : List UInt8 := [28, 29, 162, 0, 14, 21, 4, 5, 160, 0, 10, 28, 29, 163, 0, 5, 3, 172, 42, 180, 0, 26]
abbrev dktX0_ringOf_3 : List UInt8 := dkwX0_ringOf_3 ++ dktX0_ringOf_4
def dkwX0_ringOf_2 : List UInt8 := [160, 0, 7, 3, 167, 0, 12, 42, 180, 0, 26, 180, 0, 81, 27, 46, 54, 4, 21, 4, 4, 160, 0, 8]
abbrev dktX0_ringOf_2 : List UInt8 := dkwX0_ringOf_2 ++ dktX0_ringOf_3
def dkwX0_ringOf_1 : List UInt8 := [42, 180, 0, 26, 42, 180, 0, 51, 27, 4, 100, 46, 182, 0, 78, 62, 42, 180, 0, 138, 16, 6]
abbrev dktX0_ringOf_1 : List UInt8 := dkwX0_ringOf_1 ++ dktX0_ringOf_2
def dkwX0_ringOf_0 : List UInt8 := [42, 27, 182, 0, 141, 154, 0, 5, 4, 172, 42, 180, 0, 26, 42, 180, 0, 51, 27, 46, 182, 0, 78, 61]
abbrev dktX0_ringOf_0 : List UInt8 := dkwX0_ringOf_0 ++ dktX0_ringOf_1
theorem dksX0_ringOf_0 : cX0_ringOf.data.toList.drop 0 = dktX0_ringOf_0 := by decide +kernel
theorem dksX0_ringOf_1 : cX0_ringOf.data.toList.drop 24 = dktX0_ringOf_1 := dk_seg dksX0_ringOf_0 24 rfl rfl
theorem dksX0_ringOf_2 : cX0_ringOf.data.toList.drop 46 = dktX0_ringOf_2 := dk_seg dksX0_ringOf_1 22 rfl rfl
theorem dksX0_ringOf_3 : cX0_ringOf.data.toList.drop 70 = dktX0_ringOf_3 := dk_seg dksX0_ringOf_2 24 rfl rfl
theorem dksX0_ringOf_4 : cX0_ringOf.data.toList.drop 92 = dktX0_ringOf_4 := dk_seg dksX0_ringOf_3 22 rfl rfl
theorem dksX0_ringOf_5 : cX0_ringOf.data.toList.drop 115 = dktX0_ringOf_5 := dk_seg dksX0_ringOf_4 23 rfl rfl
theorem dksX0_ringOf_6 : cX0_ringOf.data.toList.drop 138 = dktX0_ringOf_6 := dk_seg dksX0_ringOf_5 23 rfl rfl
theorem dX0_ringOf_0 : decode cX0_ringOf 0 = .ok (.aload_n 0, 1) := dk_42 (dk_at dksX0_ringOf_0 0 rfl rfl)
theorem dX0_ringOf_1 : decode cX0_ringOf 1 = .ok (.iload_n 1, 1) := dk_27 (dk_at dksX0_ringOf_0 1 rfl rfl)
theorem dX0_ringOf_2 : decode cX0_ringOf 2 = .ok (.invokevirtual 141, 3) := dk_182 0 141 (dk_at dksX0_ringOf_0 2 rfl rfl)
theorem dX0_ringOf_5 : decode cX0_ringOf 5 = .ok (.ifCond .ne 5, 3) := dk_154 0 5 (dk_at dksX0_ringOf_0 5 rfl rfl)
theorem dX0_ringOf_8 : decode cX0_ringOf 8 = .ok (.iconst 1, 1) := dk_4 (dk_at dksX0_ringOf_0 8 rfl rfl)
theorem dX0_ringOf_9 : decode cX0_ringOf 9 = .ok (.ireturn, 1) := dk_172 (dk_at dksX0_ringOf_0 9 rfl rfl)
theorem dX0_ringOf_10 : decode cX0_ringOf 10 = .ok (.aload_n 0, 1) := dk_42 (dk_at dksX0_ringOf_0 10 rfl rfl)
theorem dX0_ringOf_11 : decode cX0_ringOf 11 = .ok (.getfield 26, 3) := dk_180 0 26 (dk_at dksX0_ringOf_0 11 rfl rfl)
theorem dX0_ringOf_14 : decode cX0_ringOf 14 = .ok (.aload_n 0, 1) := dk_42 (dk_at dksX0_ringOf_0 14 rfl rfl)
theorem dX0_ringOf_15 : decode cX0_ringOf 15 = .ok (.getfield 51, 3) := dk_180 0 51 (dk_at dksX0_ringOf_0 15 rfl rfl)
theorem dX0_ringOf_18 : decode cX0_ringOf 18 = .ok (.iload_n 1, 1) := dk_27 (dk_at dksX0_ringOf_0 18 rfl rfl)
theorem dX0_ringOf_19 : decode cX0_ringOf 19 = .ok (.iaload, 1) := dk_46 (dk_at dksX0_ringOf_0 19 rfl rfl)
theorem dX0_ringOf_20 : decode cX0_ringOf 20 = .ok (.invokevirtual 78, 3) := dk_182 0 78 (dk_at dksX0_ringOf_0 20 rfl rfl)
theorem dX0_ringOf_23 : decode cX0_ringOf 23 = .ok (.istore_n 2, 1) := dk_61 (dk_at dksX0_ringOf_0 23 rfl rfl)
theorem dX0_ringOf_24 : decode cX0_ringOf 24 = .ok (.aload_n 0, 1) := dk_42 (dk_at dksX0_ringOf_1 0 rfl rfl)
theorem dX0_ringOf_25 : decode cX0_ringOf 25 = .ok (.getfield 26, 3) := dk_180 0 26 (dk_at dksX0_ringOf_1 1 rfl rfl)
theorem dX0_ringOf_28 : decode cX0_ringOf 28 = .ok (.aload_n 0, 1) := dk_42 (dk_at dksX0_ringOf_1 4 rfl rfl)
theorem dX0_ringOf_29 : decode cX0_ringOf 29 = .ok (.getfield 51, 3) := dk_180 0 51 (dk_at dksX0_ringOf_1 5 rfl rfl)
theorem dX0_ringOf_32 : decode cX0_ringOf 32 = .ok (.iload_n 1, 1) := dk_27 (dk_at dksX0_ringOf_1 8 rfl rfl)
theorem dX0_ringOf_33 : decode cX0_ringOf 33 = .ok (.iconst 1, 1) := dk_4 (dk_at dksX0_ringOf_1 9 rfl rfl)
theorem dX0_ringOf_34 : decode cX0_ringOf 34 = .ok (.isub, 1) := dk_100 (dk_at dksX0_ringOf_1 10 rfl rfl)
theorem dX0_ringOf_35 : decode cX0_ringOf 35 = .ok (.iaload, 1) := dk_46 (dk_at dksX0_ringOf_1 11 rfl rfl)
theorem dX0_ringOf_36 : decode cX0_ringOf 36 = .ok (.invokevirtual 78, 3) := dk_182 0 78 (dk_at dksX0_ringOf_1 12 rfl rfl)
theorem dX0_ringOf_39 : decode cX0_ringOf 39 = .ok (.istore_n 3, 1) := dk_62 (dk_at dksX0_ringOf_1 15 rfl rfl)
theorem dX0_ringOf_40 : decode cX0_ringOf 40 = .ok (.aload_n 0, 1) := dk_42 (dk_at dksX0_ringOf_1 16 rfl rfl)
theorem dX0_ringOf_41 : decode cX0_ringOf 41 = .ok (.getfield 138, 3) := dk_180 0 138 (dk_at dksX0_ringOf_1 17 rfl rfl)
theorem dX0_ringOf_44 : decode cX0_ringOf 44 = .ok (.bipush 6, 2) := dk_16 6 (dk_at dksX0_ringOf_1 20 rfl rfl)
theorem dX0_ringOf_46 : decode cX0_ringOf 46 = .ok (.if_icmp .ne 7, 3) := dk_160 0 7 (dk_at dksX0_ringOf_2 0 rfl rfl)
theorem dX0_ringOf_49 : decode cX0_ringOf 49 = .ok (.iconst 0, 1) := dk_3 (dk_at dksX0_ringOf_2 3 rfl rfl)
theorem dX0_ringOf_50 : decode cX0_ringOf 50 = .ok (.goto 12, 3) := dk_167 0 12 (dk_at dksX0_ringOf_2 4 rfl rfl)
theorem dX0_ringOf_53 : decode cX0_ringOf 53 = .ok (.aload_n 0, 1) := dk_42 (dk_at dksX0_ringOf_2 7 rfl rfl)
theorem dX0_ringOf_54 : decode cX0_ringOf 54 = .ok (.getfield 26, 3) := dk_180 0 26 (dk_at dksX0_ringOf_2 8 rfl rfl)
theorem dX0_ringOf_57 : decode cX0_ringOf 57 = .ok (.getfield 81, 3) := dk_180 0 81 (dk_at dksX0_ringOf_2 11 rfl rfl)
theorem dX0_ringOf_60 : decode cX0_ringOf 60 = .ok (.iload_n 1, 1) := dk_27 (dk_at dksX0_ringOf_2 14 rfl rfl)
theorem dX0_ringOf_61 : decode cX0_ringOf 61 = .ok (.iaload, 1) := dk_46 (dk_at dksX0_ringOf_2 15 rfl rfl)
theorem dX0_ringOf_62 : decode cX0_ringOf 62 = .ok (.istore 4, 2) := dk_54 4 (dk_at dksX0_ringOf_2 16 rfl rfl)
theorem dX0_ringOf_64 : decode cX0_ringOf 64 = .ok (.iload 4, 2) := dk_21 4 (dk_at dksX0_ringOf_2 18 rfl rfl)
theorem dX0_ringOf_66 : decode cX0_ringOf 66 = .ok (.iconst 1, 1) := dk_4 (dk_at dksX0_ringOf_2 20 rfl rfl)
theorem dX0_ringOf_67 : decode cX0_ringOf 67 = .ok (.if_icmp .ne 8, 3) := dk_160 0 8 (dk_at dksX0_ringOf_2 21 rfl rfl)
theorem dX0_ringOf_70 : decode cX0_ringOf 70 = .ok (.iload_n 2, 1) := dk_28 (dk_at dksX0_ringOf_3 0 rfl rfl)
theorem dX0_ringOf_71 : decode cX0_ringOf 71 = .ok (.iload_n 3, 1) := dk_29 (dk_at dksX0_ringOf_3 1 rfl rfl)
theorem dX0_ringOf_72 : decode cX0_ringOf 72 = .ok (.if_icmp .ge 14, 3) := dk_162 0 14 (dk_at dksX0_ringOf_3 2 rfl rfl)
theorem dX0_ringOf_75 : decode cX0_ringOf 75 = .ok (.iload 4, 2) := dk_21 4 (dk_at dksX0_ringOf_3 5 rfl rfl)
theorem dX0_ringOf_77 : decode cX0_ringOf 77 = .ok (.iconst 2, 1) := dk_5 (dk_at dksX0_ringOf_3 7 rfl rfl)
theorem dX0_ringOf_78 : decode cX0_ringOf 78 = .ok (.if_icmp .ne 10, 3) := dk_160 0 10 (dk_at dksX0_ringOf_3 8 rfl rfl)
theorem dX0_ringOf_81 : decode cX0_ringOf 81 = .ok (.iload_n 2, 1) := dk_28 (dk_at dksX0_ringOf_3 11 rfl rfl)
theorem dX0_ringOf_82 : decode cX0_ringOf 82 = .ok (.iload_n 3, 1) := dk_29 (dk_at dksX0_ringOf_3 12 rfl rfl)
theorem dX0_ringOf_83 : decode cX0_ringOf 83 = .ok (.if_icmp .gt 5, 3) := dk_163 0 5 (dk_at dksX0_ringOf_3 13 rfl rfl)
theorem dX0_ringOf_86 : decode cX0_ringOf 86 = .ok (.iconst 0, 1) := dk_3 (dk_at dksX0_ringOf_3 16 rfl rfl)
theorem dX0_ringOf_87 : decode cX0_ringOf 87 = .ok (.ireturn, 1) := dk_172 (dk_at dksX0_ringOf_3 17 rfl rfl)
theorem dX0_ringOf_88 : decode cX0_ringOf 88 = .ok (.aload_n 0, 1) := dk_42 (dk_at dksX0_ringOf_3 18 rfl rfl)
theorem dX0_ringOf_89 : decode cX0_ringOf 89 = .ok (.getfield 26, 3) := dk_180 0 26 (dk_at dksX0_ringOf_3 19 rfl rfl)
theorem dX0_ringOf_92 : decode cX0_ringOf 92 = .ok (.getfield 84, 3) := dk_180 0 84 (dk_at dksX0_ringOf_4 0 rfl rfl)
theorem dX0_ringOf_95 : decode cX0_ringOf 95 = .ok (.iload_n 1, 1) := dk_27 (dk_at dksX0_ringOf_4 3 rfl rfl)
theorem dX0_ringOf_96 : decode cX0_ringOf 96 = .ok (.iaload, 1) := dk_46 (dk_at dksX0_ringOf_4 4 rfl rfl)
theorem dX0_ringOf_97 : decode cX0_ringOf 97 = .ok (.ifCond .ge 7, 3) := dk_156 0 7 (dk_at dksX0_ringOf_4 5 rfl rfl)
theorem dX0_ringOf_100 : decode cX0_ringOf 100 = .ok (.iconst 0, 1) := dk_3 (dk_at dksX0_ringOf_4 8 rfl rfl)
theorem dX0_ringOf_101 : decode cX0_ringOf 101 = .ok (.goto 17, 3) := dk_167 0 17 (dk_at dksX0_ringOf_4 9 rfl rfl)
theorem dX0_ringOf_104 : decode cX0_ringOf 104 = .ok (.aload_n 0, 1) := dk_42 (dk_at dksX0_ringOf_4 12 rfl rfl)
theorem dX0_ringOf_105 : decode cX0_ringOf 105 = .ok (.getfield 26, 3) := dk_180 0 26 (dk_at dksX0_ringOf_4 13 rfl rfl)
theorem dX0_ringOf_108 : decode cX0_ringOf 108 = .ok (.getfield 84, 3) := dk_180 0 84 (dk_at dksX0_ringOf_4 16 rfl rfl)
theorem dX0_ringOf_111 : decode cX0_ringOf 111 = .ok (.iload_n 1, 1) := dk_27 (dk_at dksX0_ringOf_4 19 rfl rfl)
theorem dX0_ringOf_112 : decode cX0_ringOf 112 = .ok (.iaload, 1) := dk_46 (dk_at dksX0_ringOf_4 20 rfl rfl)
theorem dX0_ringOf_113 : decode cX0_ringOf 113 = .ok (.iload_n 2, 1) := dk_28 (dk_at dksX0_ringOf_4 21 rfl rfl)
theorem dX0_ringOf_114 : decode cX0_ringOf 114 = .ok (.isub, 1) := dk_100 (dk_at dksX0_ringOf_4 22 rfl rfl)
theorem dX0_ringOf_115 : decode cX0_ringOf 115 = .ok (.invokestatic 11, 3) := dk_184 0 11 (dk_at dksX0_ringOf_5 0 rfl rfl)
theorem dX0_ringOf_118 : decode cX0_ringOf 118 = .ok (.istore 5, 2) := dk_54 5 (dk_at dksX0_ringOf_5 3 rfl rfl)
theorem dX0_ringOf_120 : decode cX0_ringOf 120 = .ok (.aload_n 0, 1) := dk_42 (dk_at dksX0_ringOf_5 5 rfl rfl)
theorem dX0_ringOf_121 : decode cX0_ringOf 121 = .ok (.getfield 26, 3) := dk_180 0 26 (dk_at dksX0_ringOf_5 6 rfl rfl)
theorem dX0_ringOf_124 : decode cX0_ringOf 124 = .ok (.getfield 84, 3) := dk_180 0 84 (dk_at dksX0_ringOf_5 9 rfl rfl)
theorem dX0_ringOf_127 : decode cX0_ringOf 127 = .ok (.iload_n 1, 1) := dk_27 (dk_at dksX0_ringOf_5 12 rfl rfl)
theorem dX0_ringOf_128 : decode cX0_ringOf 128 = .ok (.iaload, 1) := dk_46 (dk_at dksX0_ringOf_5 13 rfl rfl)
theorem dX0_ringOf_129 : decode cX0_ringOf 129 = .ok (.ifCond .ge 7, 3) := dk_156 0 7 (dk_at dksX0_ringOf_5 14 rfl rfl)
theorem dX0_ringOf_132 : decode cX0_ringOf 132 = .ok (.iconst 1, 1) := dk_4 (dk_at dksX0_ringOf_5 17 rfl rfl)
theorem dX0_ringOf_133 : decode cX0_ringOf 133 = .ok (.goto 23, 3) := dk_167 0 23 (dk_at dksX0_ringOf_5 18 rfl rfl)
theorem dX0_ringOf_136 : decode cX0_ringOf 136 = .ok (.iload 5, 2) := dk_21 5 (dk_at dksX0_ringOf_5 21 rfl rfl)
theorem dX0_ringOf_138 : decode cX0_ringOf 138 = .ok (.ifCond .ne 7, 3) := dk_154 0 7 (dk_at dksX0_ringOf_6 0 rfl rfl)
theorem dX0_ringOf_141 : decode cX0_ringOf 141 = .ok (.iconst 2, 1) := dk_5 (dk_at dksX0_ringOf_6 3 rfl rfl)
theorem dX0_ringOf_142 : decode cX0_ringOf 142 = .ok (.goto 14, 3) := dk_167 0 14 (dk_at dksX0_ringOf_6 4 rfl rfl)
theorem dX0_ringOf_145 : decode cX0_ringOf 145 = .ok (.iload 5, 2) := dk_21 5 (dk_at dksX0_ringOf_6 7 rfl rfl)
theorem dX0_ringOf_147 : decode cX0_ringOf 147 = .ok (.iconst 1, 1) := dk_4 (dk_at dksX0_ringOf_6 9 rfl rfl)
theorem dX0_ringOf_148 : decode cX0_ringOf 148 = .ok (.if_icmp .ne 7, 3) := dk_160 0 7 (dk_at dksX0_ringOf_6 10 rfl rfl)
theorem dX0_ringOf_151 : decode cX0_ringOf 151 = .ok (.iconst 1, 1) := dk_4 (dk_at dksX0_ringOf_6 13 rfl rfl)
theorem dX0_ringOf_152 : decode cX0_ringOf 152 = .ok (.goto 4, 3) := dk_167 0 4 (dk_at dksX0_ringOf_6 14 rfl rfl)
theorem dX0_ringOf_155 : decode cX0_ringOf 155 = .ok (.iconst 0, 1) := dk_3 (dk_at dksX0_ringOf_6 17 rfl rfl)
theorem dX0_ringOf_156 : decode cX0_ringOf 156 = .ok (.ireturn, 1) := dk_172 (dk_at dksX0_ringOf_6 18 rfl rfl)
abbrev cX0_hasRing : ByteArray := prog_1_method_20_code
def yX0_hasRing : MethodName := ⟨RX0, "hasRing", "(I)Z"⟩
def dkwX0_hasRing_0 : List UInt8 := [42, 180, 0, 134, 154, 0, 17, 42, 180, 0, 138, 27, 4, 100, 159, 0, 7, 4, 167, 0, 4, 3, 172]
abbrev dktX0_hasRing_0 : List UInt8 := dkwX0_hasRing_0 ++ []
theorem dksX0_hasRing_0 : cX0_hasRing.data.toList.drop 0 = dktX0_hasRing_0 := by decide +kernel
theorem dX0_hasRing_0 : decode cX0_hasRing 0 = .ok (.aload_n 0, 1) := dk_42 (dk_at dksX0_hasRing_0 0 rfl rfl)
theorem dX0_hasRing_1 : decode cX0_hasRing 1 = .ok (.getfield 134, 3) := dk_180 0 134 (dk_at dksX0_hasRing_0 1 rfl rfl)
theorem dX0_hasRing_4 : decode cX0_hasRing 4 = .ok (.ifCond .ne 17, 3) := dk_154 0 17 (dk_at dksX0_hasRing_0 4 rfl rfl)
theorem dX0_hasRing_7 : decode cX0_hasRing 7 = .ok (.aload_n 0, 1) := dk_42 (dk_at dksX0_hasRing_0 7 rfl rfl)
theorem dX0_hasRing_8 : decode cX0_hasRing 8 = .ok (.getfield 138, 3) := dk_180 0 138 (dk_at dksX0_hasRing_0 8 rfl rfl)
theorem dX0_hasRing_11 : decode cX0_hasRing 11 = .ok (.iload_n 1, 1) := dk_27 (dk_at dksX0_hasRing_0 11 rfl rfl)
theorem dX0_hasRing_12 : decode cX0_hasRing 12 = .ok (.iconst 1, 1) := dk_4 (dk_at dksX0_hasRing_0 12 rfl rfl)
theorem dX0_hasRing_13 : decode cX0_hasRing 13 = .ok (.isub, 1) := dk_100 (dk_at dksX0_hasRing_0 13 rfl rfl)
theorem dX0_hasRing_14 : decode cX0_hasRing 14 = .ok (.if_icmp .eq 7, 3) := dk_159 0 7 (dk_at dksX0_hasRing_0 14 rfl rfl)
theorem dX0_hasRing_17 : decode cX0_hasRing 17 = .ok (.iconst 1, 1) := dk_4 (dk_at dksX0_hasRing_0 17 rfl rfl)
theorem dX0_hasRing_18 : decode cX0_hasRing 18 = .ok (.goto 4, 3) := dk_167 0 4 (dk_at dksX0_hasRing_0 18 rfl rfl)
theorem dX0_hasRing_21 : decode cX0_hasRing 21 = .ok (.iconst 0, 1) := dk_3 (dk_at dksX0_hasRing_0 21 rfl rfl)
theorem dX0_hasRing_22 : decode cX0_hasRing 22 = .ok (.ireturn, 1) := dk_172 (dk_at dksX0_hasRing_0 22 rfl rfl)
abbrev cX0_tell : ByteArray := prog_1_method_23_code
def yX0_tell : MethodName := ⟨RX0, "tell", "(LSevenRings$Hearer;I)Z"⟩
def dkwX0_tell_1 : List UInt8 := [182, 0, 177, 172]
abbrev dktX0_tell_1 : List UInt8 := dkwX0_tell_1 ++ []
def dkwX0_tell_0 : List UInt8 := [43, 42, 28, 5, 42, 180, 0, 171, 104, 42, 180, 0, 174, 153, 0, 7, 4, 167, 0, 4, 3, 96, 122]
abbrev dktX0_tell_0 : List UInt8 := dkwX0_tell_0 ++ dktX0_tell_1
theorem dksX0_tell_0 : cX0_tell.data.toList.drop 0 = dktX0_tell_0 := by decide +kernel
theorem dksX0_tell_1 : cX0_tell.data.toList.drop 23 = dktX0_tell_1 := dk_seg dksX0_tell_0 23 rfl rfl
theorem dX0_tell_0 : decode cX0_tell 0 = .ok (.aload_n 1, 1) := dk_43 (dk_at dksX0_tell_0 0 rfl rfl)
theorem dX0_tell_1 : decode cX0_tell 1 = .ok (.aload_n 0, 1) := dk_42 (dk_at dksX0_tell_0 1 rfl rfl)
theorem dX0_tell_2 : decode cX0_tell 2 = .ok (.iload_n 2, 1) := dk_28 (dk_at dksX0_tell_0 2 rfl rfl)
theorem dX0_tell_3 : decode cX0_tell 3 = .ok (.iconst 2, 1) := dk_5 (dk_at dksX0_tell_0 3 rfl rfl)
theorem dX0_tell_4 : decode cX0_tell 4 = .ok (.aload_n 0, 1) := dk_42 (dk_at dksX0_tell_0 4 rfl rfl)
theorem dX0_tell_5 : decode cX0_tell 5 = .ok (.getfield 171, 3) := dk_180 0 171 (dk_at dksX0_tell_0 5 rfl rfl)
theorem dX0_tell_8 : decode cX0_tell 8 = .ok (.imul, 1) := dk_104 (dk_at dksX0_tell_0 8 rfl rfl)
theorem dX0_tell_9 : decode cX0_tell 9 = .ok (.aload_n 0, 1) := dk_42 (dk_at dksX0_tell_0 9 rfl rfl)
theorem dX0_tell_10 : decode cX0_tell 10 = .ok (.getfield 174, 3) := dk_180 0 174 (dk_at dksX0_tell_0 10 rfl rfl)
theorem dX0_tell_13 : decode cX0_tell 13 = .ok (.ifCond .eq 7, 3) := dk_153 0 7 (dk_at dksX0_tell_0 13 rfl rfl)
theorem dX0_tell_16 : decode cX0_tell 16 = .ok (.iconst 1, 1) := dk_4 (dk_at dksX0_tell_0 16 rfl rfl)
theorem dX0_tell_17 : decode cX0_tell 17 = .ok (.goto 4, 3) := dk_167 0 4 (dk_at dksX0_tell_0 17 rfl rfl)
theorem dX0_tell_20 : decode cX0_tell 20 = .ok (.iconst 0, 1) := dk_3 (dk_at dksX0_tell_0 20 rfl rfl)
theorem dX0_tell_21 : decode cX0_tell 21 = .ok (.iadd, 1) := dk_96 (dk_at dksX0_tell_0 21 rfl rfl)
theorem dX0_tell_22 : decode cX0_tell 22 = .ok (.ishr, 1) := dk_122 (dk_at dksX0_tell_0 22 rfl rfl)
theorem dX0_tell_23 : decode cX0_tell 23 = .ok (.invokevirtual 177, 3) := dk_182 0 177 (dk_at dksX0_tell_1 0 rfl rfl)
theorem dX0_tell_26 : decode cX0_tell 26 = .ok (.ireturn, 1) := dk_172 (dk_at dksX0_tell_1 3 rfl rfl)
abbrev cX0_choose : ByteArray := prog_1_method_24_code
def yX0_choose : MethodName := ⟨RX0, "choose", "(LSevenRings$Hearer;II)Z"⟩
def dkwX0_choose_5 : List UInt8 := [180, 0, 171, 4, 100, 181, 0, 171, 132, 6, 1, 167, 255, 165, 42, 21, 5, 181, 0, 144, 21, 4, 172]
abbrev dktX0_choose_5 : List UInt8 := dkwX0_choose_5 ++ []
def dkwX0_choose_4 : List UInt8 := [153, 0, 17, 42, 43, 28, 29, 182, 0, 186, 153, 0, 7, 4, 167, 0, 4, 3, 54, 4, 42, 89]
abbrev dktX0_choose_4 : List UInt8 := dkwX0_choose_4 ++ dktX0_choose_5
def dkwX0_choose_3 : List UInt8 := [21, 6, 181, 0, 144, 42, 89, 180, 0, 171, 4, 96, 181, 0, 171, 42, 43, 28, 29, 182, 0, 183]
abbrev dktX0_choose_3 : List UInt8 := dkwX0_choose_3 ++ dktX0_choose_4
def dkwX0_choose_2 : List UInt8 := [42, 180, 0, 171, 42, 180, 0, 26, 180, 0, 75, 6, 46, 162, 0, 69, 21, 6, 21, 5, 159, 0, 56, 42]
abbrev dktX0_choose_2 : List UInt8 := dkwX0_choose_2 ++ dktX0_choose_3
def dkwX0_choose_1 : List UInt8 := [3, 54, 4, 42, 180, 0, 144, 54, 5, 3, 54, 6, 21, 6, 16, 8, 162, 0, 90, 21, 4, 153, 0, 85]
abbrev dktX0_choose_1 : List UInt8 := dkwX0_choose_1 ++ dktX0_choose_2
def dkwX0_choose_0 : List UInt8 := [42, 43, 28, 29, 182, 0, 183, 153, 0, 17, 42, 43, 28, 29, 182, 0, 186, 153, 0, 7, 4, 167, 0, 4]
abbrev dktX0_choose_0 : List UInt8 := dkwX0_choose_0 ++ dktX0_choose_1
theorem dksX0_choose_0 : cX0_choose.data.toList.drop 0 = dktX0_choose_0 := by decide +kernel
theorem dksX0_choose_1 : cX0_choose.data.toList.drop 24 = dktX0_choose_1 := dk_seg dksX0_choose_0 24 rfl rfl
theorem dksX0_choose_2 : cX0_choose.data.toList.drop 48 = dktX0_choose_2 := dk_seg dksX0_choose_1 24 rfl rfl
theorem dksX0_choose_3 : cX0_choose.data.toList.drop 72 = dktX0_choose_3 := dk_seg dksX0_choose_2 24 rfl rfl
theorem dksX0_choose_4 : cX0_choose.data.toList.drop 94 = dktX0_choose_4 := dk_seg dksX0_choose_3 22 rfl rfl
theorem dksX0_choose_5 : cX0_choose.data.toList.drop 116 = dktX0_choose_5 := dk_seg dksX0_choose_4 22 rfl rfl
theorem dX0_choose_0 : decode cX0_choose 0 = .ok (.aload_n 0, 1) := dk_42 (dk_at dksX0_choose_0 0 rfl rfl)
theorem dX0_choose_1 : decode cX0_choose 1 = .ok (.aload_n 1, 1) := dk_43 (dk_at dksX0_choose_0 1 rfl rfl)
theorem dX0_choose_2 : decode cX0_choose 2 = .ok (.iload_n 2, 1) := dk_28 (dk_at dksX0_choose_0 2 rfl rfl)
theorem dX0_choose_3 : decode cX0_choose 3 = .ok (.iload_n 3, 1) := dk_29 (dk_at dksX0_choose_0 3 rfl rfl)
theorem dX0_choose_4 : decode cX0_choose 4 = .ok (.invokevirtual 183, 3) := dk_182 0 183 (dk_at dksX0_choose_0 4 rfl rfl)
theorem dX0_choose_7 : decode cX0_choose 7 = .ok (.ifCond .eq 17, 3) := dk_153 0 17 (dk_at dksX0_choose_0 7 rfl rfl)
theorem dX0_choose_10 : decode cX0_choose 10 = .ok (.aload_n 0, 1) := dk_42 (dk_at dksX0_choose_0 10 rfl rfl)
theorem dX0_choose_11 : decode cX0_choose 11 = .ok (.aload_n 1, 1) := dk_43 (dk_at dksX0_choose_0 11 rfl rfl)
theorem dX0_choose_12 : decode cX0_choose 12 = .ok (.iload_n 2, 1) := dk_28 (dk_at dksX0_choose_0 12 rfl rfl)
theorem dX0_choose_13 : decode cX0_choose 13 = .ok (.iload_n 3, 1) := dk_29 (dk_at dksX0_choose_0 13 rfl rfl)
theorem dX0_choose_14 : decode cX0_choose 14 = .ok (.invokevirtual 186, 3) := dk_182 0 186 (dk_at dksX0_choose_0 14 rfl rfl)
theorem dX0_choose_17 : decode cX0_choose 17 = .ok (.ifCond .eq 7, 3) := dk_153 0 7 (dk_at dksX0_choose_0 17 rfl rfl)
theorem dX0_choose_20 : decode cX0_choose 20 = .ok (.iconst 1, 1) := dk_4 (dk_at dksX0_choose_0 20 rfl rfl)
theorem dX0_choose_21 : decode cX0_choose 21 = .ok (.goto 4, 3) := dk_167 0 4 (dk_at dksX0_choose_0 21 rfl rfl)
theorem dX0_choose_24 : decode cX0_choose 24 = .ok (.iconst 0, 1) := dk_3 (dk_at dksX0_choose_1 0 rfl rfl)
theorem dX0_choose_25 : decode cX0_choose 25 = .ok (.istore 4, 2) := dk_54 4 (dk_at dksX0_choose_1 1 rfl rfl)
theorem dX0_choose_27 : decode cX0_choose 27 = .ok (.aload_n 0, 1) := dk_42 (dk_at dksX0_choose_1 3 rfl rfl)
theorem dX0_choose_28 : decode cX0_choose 28 = .ok (.getfield 144, 3) := dk_180 0 144 (dk_at dksX0_choose_1 4 rfl rfl)
theorem dX0_choose_31 : decode cX0_choose 31 = .ok (.istore 5, 2) := dk_54 5 (dk_at dksX0_choose_1 7 rfl rfl)
theorem dX0_choose_33 : decode cX0_choose 33 = .ok (.iconst 0, 1) := dk_3 (dk_at dksX0_choose_1 9 rfl rfl)
theorem dX0_choose_34 : decode cX0_choose 34 = .ok (.istore 6, 2) := dk_54 6 (dk_at dksX0_choose_1 10 rfl rfl)
theorem dX0_choose_36 : decode cX0_choose 36 = .ok (.iload 6, 2) := dk_21 6 (dk_at dksX0_choose_1 12 rfl rfl)
theorem dX0_choose_38 : decode cX0_choose 38 = .ok (.bipush 8, 2) := dk_16 8 (dk_at dksX0_choose_1 14 rfl rfl)
theorem dX0_choose_40 : decode cX0_choose 40 = .ok (.if_icmp .ge 90, 3) := dk_162 0 90 (dk_at dksX0_choose_1 16 rfl rfl)
theorem dX0_choose_43 : decode cX0_choose 43 = .ok (.iload 4, 2) := dk_21 4 (dk_at dksX0_choose_1 19 rfl rfl)
theorem dX0_choose_45 : decode cX0_choose 45 = .ok (.ifCond .eq 85, 3) := dk_153 0 85 (dk_at dksX0_choose_1 21 rfl rfl)
theorem dX0_choose_48 : decode cX0_choose 48 = .ok (.aload_n 0, 1) := dk_42 (dk_at dksX0_choose_2 0 rfl rfl)
theorem dX0_choose_49 : decode cX0_choose 49 = .ok (.getfield 171, 3) := dk_180 0 171 (dk_at dksX0_choose_2 1 rfl rfl)
theorem dX0_choose_52 : decode cX0_choose 52 = .ok (.aload_n 0, 1) := dk_42 (dk_at dksX0_choose_2 4 rfl rfl)
theorem dX0_choose_53 : decode cX0_choose 53 = .ok (.getfield 26, 3) := dk_180 0 26 (dk_at dksX0_choose_2 5 rfl rfl)
theorem dX0_choose_56 : decode cX0_choose 56 = .ok (.getfield 75, 3) := dk_180 0 75 (dk_at dksX0_choose_2 8 rfl rfl)
theorem dX0_choose_59 : decode cX0_choose 59 = .ok (.iconst 3, 1) := dk_6 (dk_at dksX0_choose_2 11 rfl rfl)
theorem dX0_choose_60 : decode cX0_choose 60 = .ok (.iaload, 1) := dk_46 (dk_at dksX0_choose_2 12 rfl rfl)
theorem dX0_choose_61 : decode cX0_choose 61 = .ok (.if_icmp .ge 69, 3) := dk_162 0 69 (dk_at dksX0_choose_2 13 rfl rfl)
theorem dX0_choose_64 : decode cX0_choose 64 = .ok (.iload 6, 2) := dk_21 6 (dk_at dksX0_choose_2 16 rfl rfl)
theorem dX0_choose_66 : decode cX0_choose 66 = .ok (.iload 5, 2) := dk_21 5 (dk_at dksX0_choose_2 18 rfl rfl)
theorem dX0_choose_68 : decode cX0_choose 68 = .ok (.if_icmp .eq 56, 3) := dk_159 0 56 (dk_at dksX0_choose_2 20 rfl rfl)
theorem dX0_choose_71 : decode cX0_choose 71 = .ok (.aload_n 0, 1) := dk_42 (dk_at dksX0_choose_2 23 rfl rfl)
theorem dX0_choose_72 : decode cX0_choose 72 = .ok (.iload 6, 2) := dk_21 6 (dk_at dksX0_choose_3 0 rfl rfl)
theorem dX0_choose_74 : decode cX0_choose 74 = .ok (.putfield 144, 3) := dk_181 0 144 (dk_at dksX0_choose_3 2 rfl rfl)
theorem dX0_choose_77 : decode cX0_choose 77 = .ok (.aload_n 0, 1) := dk_42 (dk_at dksX0_choose_3 5 rfl rfl)
theorem dX0_choose_78 : decode cX0_choose 78 = .ok (.dup, 1) := dk_89 (dk_at dksX0_choose_3 6 rfl rfl)
theorem dX0_choose_79 : decode cX0_choose 79 = .ok (.getfield 171, 3) := dk_180 0 171 (dk_at dksX0_choose_3 7 rfl rfl)
theorem dX0_choose_82 : decode cX0_choose 82 = .ok (.iconst 1, 1) := dk_4 (dk_at dksX0_choose_3 10 rfl rfl)
theorem dX0_choose_83 : decode cX0_choose 83 = .ok (.iadd, 1) := dk_96 (dk_at dksX0_choose_3 11 rfl rfl)
theorem dX0_choose_84 : decode cX0_choose 84 = .ok (.putfield 171, 3) := dk_181 0 171 (dk_at dksX0_choose_3 12 rfl rfl)
theorem dX0_choose_87 : decode cX0_choose 87 = .ok (.aload_n 0, 1) := dk_42 (dk_at dksX0_choose_3 15 rfl rfl)
theorem dX0_choose_88 : decode cX0_choose 88 = .ok (.aload_n 1, 1) := dk_43 (dk_at dksX0_choose_3 16 rfl rfl)
theorem dX0_choose_89 : decode cX0_choose 89 = .ok (.iload_n 2, 1) := dk_28 (dk_at dksX0_choose_3 17 rfl rfl)
theorem dX0_choose_90 : decode cX0_choose 90 = .ok (.iload_n 3, 1) := dk_29 (dk_at dksX0_choose_3 18 rfl rfl)
theorem dX0_choose_91 : decode cX0_choose 91 = .ok (.invokevirtual 183, 3) := dk_182 0 183 (dk_at dksX0_choose_3 19 rfl rfl)
theorem dX0_choose_94 : decode cX0_choose 94 = .ok (.ifCond .eq 17, 3) := dk_153 0 17 (dk_at dksX0_choose_4 0 rfl rfl)
theorem dX0_choose_97 : decode cX0_choose 97 = .ok (.aload_n 0, 1) := dk_42 (dk_at dksX0_choose_4 3 rfl rfl)
theorem dX0_choose_98 : decode cX0_choose 98 = .ok (.aload_n 1, 1) := dk_43 (dk_at dksX0_choose_4 4 rfl rfl)
theorem dX0_choose_99 : decode cX0_choose 99 = .ok (.iload_n 2, 1) := dk_28 (dk_at dksX0_choose_4 5 rfl rfl)
theorem dX0_choose_100 : decode cX0_choose 100 = .ok (.iload_n 3, 1) := dk_29 (dk_at dksX0_choose_4 6 rfl rfl)
theorem dX0_choose_101 : decode cX0_choose 101 = .ok (.invokevirtual 186, 3) := dk_182 0 186 (dk_at dksX0_choose_4 7 rfl rfl)
theorem dX0_choose_104 : decode cX0_choose 104 = .ok (.ifCond .eq 7, 3) := dk_153 0 7 (dk_at dksX0_choose_4 10 rfl rfl)
theorem dX0_choose_107 : decode cX0_choose 107 = .ok (.iconst 1, 1) := dk_4 (dk_at dksX0_choose_4 13 rfl rfl)
theorem dX0_choose_108 : decode cX0_choose 108 = .ok (.goto 4, 3) := dk_167 0 4 (dk_at dksX0_choose_4 14 rfl rfl)
theorem dX0_choose_111 : decode cX0_choose 111 = .ok (.iconst 0, 1) := dk_3 (dk_at dksX0_choose_4 17 rfl rfl)
theorem dX0_choose_112 : decode cX0_choose 112 = .ok (.istore 4, 2) := dk_54 4 (dk_at dksX0_choose_4 18 rfl rfl)
theorem dX0_choose_114 : decode cX0_choose 114 = .ok (.aload_n 0, 1) := dk_42 (dk_at dksX0_choose_4 20 rfl rfl)
theorem dX0_choose_115 : decode cX0_choose 115 = .ok (.dup, 1) := dk_89 (dk_at dksX0_choose_4 21 rfl rfl)
theorem dX0_choose_116 : decode cX0_choose 116 = .ok (.getfield 171, 3) := dk_180 0 171 (dk_at dksX0_choose_5 0 rfl rfl)
theorem dX0_choose_119 : decode cX0_choose 119 = .ok (.iconst 1, 1) := dk_4 (dk_at dksX0_choose_5 3 rfl rfl)
theorem dX0_choose_120 : decode cX0_choose 120 = .ok (.isub, 1) := dk_100 (dk_at dksX0_choose_5 4 rfl rfl)
theorem dX0_choose_121 : decode cX0_choose 121 = .ok (.putfield 171, 3) := dk_181 0 171 (dk_at dksX0_choose_5 5 rfl rfl)
theorem dX0_choose_124 : decode cX0_choose 124 = .ok (.iinc 6 1, 3) := dk_132 6 1 (dk_at dksX0_choose_5 8 rfl rfl)
theorem dX0_choose_127 : decode cX0_choose 127 = .ok (.goto (-91), 3) := dk_167 255 165 (dk_at dksX0_choose_5 11 rfl rfl)
theorem dX0_choose_130 : decode cX0_choose 130 = .ok (.aload_n 0, 1) := dk_42 (dk_at dksX0_choose_5 14 rfl rfl)
theorem dX0_choose_131 : decode cX0_choose 131 = .ok (.iload 5, 2) := dk_21 5 (dk_at dksX0_choose_5 15 rfl rfl)
theorem dX0_choose_133 : decode cX0_choose 133 = .ok (.putfield 144, 3) := dk_181 0 144 (dk_at dksX0_choose_5 17 rfl rfl)
theorem dX0_choose_136 : decode cX0_choose 136 = .ok (.iload 4, 2) := dk_21 4 (dk_at dksX0_choose_5 20 rfl rfl)
theorem dX0_choose_138 : decode cX0_choose 138 = .ok (.ireturn, 1) := dk_172 (dk_at dksX0_choose_5 22 rfl rfl)
abbrev cX0_slowAnd : ByteArray := prog_1_method_25_code
def yX0_slowAnd : MethodName := ⟨RX0, "slowAnd", "(LSevenRings$Hearer;II)Z"⟩
def dkwX0_slowAnd_2 : List UInt8 := [182, 0, 183, 54, 4, 42, 89, 180, 0, 147, 4, 96, 181, 0, 147, 42, 3, 181, 0, 174, 21, 4, 172]
abbrev dktX0_slowAnd_2 : List UInt8 := dkwX0_slowAnd_2 ++ []
def dkwX0_slowAnd_1 : List UInt8 := [154, 0, 5, 4, 172, 42, 4, 181, 0, 174, 42, 89, 180, 0, 147, 4, 100, 181, 0, 147, 42, 43, 28, 29]
abbrev dktX0_slowAnd_1 : List UInt8 := dkwX0_slowAnd_1 ++ dktX0_slowAnd_2
def dkwX0_slowAnd_0 : List UInt8 := [42, 180, 0, 174, 154, 0, 23, 42, 180, 0, 147, 4, 159, 0, 15, 42, 180, 0, 26, 180, 0, 75, 7, 46]
abbrev dktX0_slowAnd_0 : List UInt8 := dkwX0_slowAnd_0 ++ dktX0_slowAnd_1
theorem dksX0_slowAnd_0 : cX0_slowAnd.data.toList.drop 0 = dktX0_slowAnd_0 := by decide +kernel
theorem dksX0_slowAnd_1 : cX0_slowAnd.data.toList.drop 24 = dktX0_slowAnd_1 := dk_seg dksX0_slowAnd_0 24 rfl rfl
theorem dksX0_slowAnd_2 : cX0_slowAnd.data.toList.drop 48 = dktX0_slowAnd_2 := dk_seg dksX0_slowAnd_1 24 rfl rfl
theorem dX0_slowAnd_0 : decode cX0_slowAnd 0 = .ok (.aload_n 0, 1) := dk_42 (dk_at dksX0_slowAnd_0 0 rfl rfl)
theorem dX0_slowAnd_1 : decode cX0_slowAnd 1 = .ok (.getfield 174, 3) := dk_180 0 174 (dk_at dksX0_slowAnd_0 1 rfl rfl)
theorem dX0_slowAnd_4 : decode cX0_slowAnd 4 = .ok (.ifCond .ne 23, 3) := dk_154 0 23 (dk_at dksX0_slowAnd_0 4 rfl rfl)
theorem dX0_slowAnd_7 : decode cX0_slowAnd 7 = .ok (.aload_n 0, 1) := dk_42 (dk_at dksX0_slowAnd_0 7 rfl rfl)
theorem dX0_slowAnd_8 : decode cX0_slowAnd 8 = .ok (.getfield 147, 3) := dk_180 0 147 (dk_at dksX0_slowAnd_0 8 rfl rfl)
theorem dX0_slowAnd_11 : decode cX0_slowAnd 11 = .ok (.iconst 1, 1) := dk_4 (dk_at dksX0_slowAnd_0 11 rfl rfl)
theorem dX0_slowAnd_12 : decode cX0_slowAnd 12 = .ok (.if_icmp .eq 15, 3) := dk_159 0 15 (dk_at dksX0_slowAnd_0 12 rfl rfl)
theorem dX0_slowAnd_15 : decode cX0_slowAnd 15 = .ok (.aload_n 0, 1) := dk_42 (dk_at dksX0_slowAnd_0 15 rfl rfl)
theorem dX0_slowAnd_16 : decode cX0_slowAnd 16 = .ok (.getfield 26, 3) := dk_180 0 26 (dk_at dksX0_slowAnd_0 16 rfl rfl)
theorem dX0_slowAnd_19 : decode cX0_slowAnd 19 = .ok (.getfield 75, 3) := dk_180 0 75 (dk_at dksX0_slowAnd_0 19 rfl rfl)
theorem dX0_slowAnd_22 : decode cX0_slowAnd 22 = .ok (.iconst 4, 1) := dk_7 (dk_at dksX0_slowAnd_0 22 rfl rfl)
theorem dX0_slowAnd_23 : decode cX0_slowAnd 23 = .ok (.iaload, 1) := dk_46 (dk_at dksX0_slowAnd_0 23 rfl rfl)
theorem dX0_slowAnd_24 : decode cX0_slowAnd 24 = .ok (.ifCond .ne 5, 3) := dk_154 0 5 (dk_at dksX0_slowAnd_1 0 rfl rfl)
theorem dX0_slowAnd_27 : decode cX0_slowAnd 27 = .ok (.iconst 1, 1) := dk_4 (dk_at dksX0_slowAnd_1 3 rfl rfl)
theorem dX0_slowAnd_28 : decode cX0_slowAnd 28 = .ok (.ireturn, 1) := dk_172 (dk_at dksX0_slowAnd_1 4 rfl rfl)
theorem dX0_slowAnd_29 : decode cX0_slowAnd 29 = .ok (.aload_n 0, 1) := dk_42 (dk_at dksX0_slowAnd_1 5 rfl rfl)
theorem dX0_slowAnd_30 : decode cX0_slowAnd 30 = .ok (.iconst 1, 1) := dk_4 (dk_at dksX0_slowAnd_1 6 rfl rfl)
theorem dX0_slowAnd_31 : decode cX0_slowAnd 31 = .ok (.putfield 174, 3) := dk_181 0 174 (dk_at dksX0_slowAnd_1 7 rfl rfl)
theorem dX0_slowAnd_34 : decode cX0_slowAnd 34 = .ok (.aload_n 0, 1) := dk_42 (dk_at dksX0_slowAnd_1 10 rfl rfl)
theorem dX0_slowAnd_35 : decode cX0_slowAnd 35 = .ok (.dup, 1) := dk_89 (dk_at dksX0_slowAnd_1 11 rfl rfl)
theorem dX0_slowAnd_36 : decode cX0_slowAnd 36 = .ok (.getfield 147, 3) := dk_180 0 147 (dk_at dksX0_slowAnd_1 12 rfl rfl)
theorem dX0_slowAnd_39 : decode cX0_slowAnd 39 = .ok (.iconst 1, 1) := dk_4 (dk_at dksX0_slowAnd_1 15 rfl rfl)
theorem dX0_slowAnd_40 : decode cX0_slowAnd 40 = .ok (.isub, 1) := dk_100 (dk_at dksX0_slowAnd_1 16 rfl rfl)
theorem dX0_slowAnd_41 : decode cX0_slowAnd 41 = .ok (.putfield 147, 3) := dk_181 0 147 (dk_at dksX0_slowAnd_1 17 rfl rfl)
theorem dX0_slowAnd_44 : decode cX0_slowAnd 44 = .ok (.aload_n 0, 1) := dk_42 (dk_at dksX0_slowAnd_1 20 rfl rfl)
theorem dX0_slowAnd_45 : decode cX0_slowAnd 45 = .ok (.aload_n 1, 1) := dk_43 (dk_at dksX0_slowAnd_1 21 rfl rfl)
theorem dX0_slowAnd_46 : decode cX0_slowAnd 46 = .ok (.iload_n 2, 1) := dk_28 (dk_at dksX0_slowAnd_1 22 rfl rfl)
theorem dX0_slowAnd_47 : decode cX0_slowAnd 47 = .ok (.iload_n 3, 1) := dk_29 (dk_at dksX0_slowAnd_1 23 rfl rfl)
theorem dX0_slowAnd_48 : decode cX0_slowAnd 48 = .ok (.invokevirtual 183, 3) := dk_182 0 183 (dk_at dksX0_slowAnd_2 0 rfl rfl)
theorem dX0_slowAnd_51 : decode cX0_slowAnd 51 = .ok (.istore 4, 2) := dk_54 4 (dk_at dksX0_slowAnd_2 3 rfl rfl)
theorem dX0_slowAnd_53 : decode cX0_slowAnd 53 = .ok (.aload_n 0, 1) := dk_42 (dk_at dksX0_slowAnd_2 5 rfl rfl)
theorem dX0_slowAnd_54 : decode cX0_slowAnd 54 = .ok (.dup, 1) := dk_89 (dk_at dksX0_slowAnd_2 6 rfl rfl)
theorem dX0_slowAnd_55 : decode cX0_slowAnd 55 = .ok (.getfield 147, 3) := dk_180 0 147 (dk_at dksX0_slowAnd_2 7 rfl rfl)
theorem dX0_slowAnd_58 : decode cX0_slowAnd 58 = .ok (.iconst 1, 1) := dk_4 (dk_at dksX0_slowAnd_2 10 rfl rfl)
theorem dX0_slowAnd_59 : decode cX0_slowAnd 59 = .ok (.iadd, 1) := dk_96 (dk_at dksX0_slowAnd_2 11 rfl rfl)
theorem dX0_slowAnd_60 : decode cX0_slowAnd 60 = .ok (.putfield 147, 3) := dk_181 0 147 (dk_at dksX0_slowAnd_2 12 rfl rfl)
theorem dX0_slowAnd_63 : decode cX0_slowAnd 63 = .ok (.aload_n 0, 1) := dk_42 (dk_at dksX0_slowAnd_2 15 rfl rfl)
theorem dX0_slowAnd_64 : decode cX0_slowAnd 64 = .ok (.iconst 0, 1) := dk_3 (dk_at dksX0_slowAnd_2 16 rfl rfl)
theorem dX0_slowAnd_65 : decode cX0_slowAnd 65 = .ok (.putfield 174, 3) := dk_181 0 174 (dk_at dksX0_slowAnd_2 17 rfl rfl)
theorem dX0_slowAnd_68 : decode cX0_slowAnd 68 = .ok (.iload 4, 2) := dk_21 4 (dk_at dksX0_slowAnd_2 20 rfl rfl)
theorem dX0_slowAnd_70 : decode cX0_slowAnd 70 = .ok (.ireturn, 1) := dk_172 (dk_at dksX0_slowAnd_2 22 rfl rfl)
abbrev cX0_weight : ByteArray := prog_1_method_29_code
def yX0_weight : MethodName := ⟨RX0, "weight", "()J"⟩
def dkwX0_weight_0 : List UInt8 := [42, 182, 0, 196, 180, 0, 203, 173]
abbrev dktX0_weight_0 : List UInt8 := dkwX0_weight_0 ++ []
theorem dksX0_weight_0 : cX0_weight.data.toList.drop 0 = dktX0_weight_0 := by decide +kernel
theorem dX0_weight_0 : decode cX0_weight 0 = .ok (.aload_n 0, 1) := dk_42 (dk_at dksX0_weight_0 0 rfl rfl)
theorem dX0_weight_1 : decode cX0_weight 1 = .ok (.invokevirtual 196, 3) := dk_182 0 196 (dk_at dksX0_weight_0 1 rfl rfl)
theorem dX0_weight_4 : decode cX0_weight 4 = .ok (.getfield 203, 3) := dk_180 0 203 (dk_at dksX0_weight_0 4 rfl rfl)
theorem dX0_weight_7 : decode cX0_weight 7 = .ok (.lreturn, 1) := dk_173 (dk_at dksX0_weight_0 7 rfl rfl)
abbrev cX0_way : ByteArray := prog_1_method_31_code
def yX0_way : MethodName := ⟨RX0, "way", "(II)I"⟩
def dkwX0_way_3 : List UInt8 := [180, 0, 220, 167, 0, 15, 45, 180, 0, 221, 153, 0, 7, 4, 167, 0, 4, 3, 172]
abbrev dktX0_way_3 : List UInt8 := dkwX0_way_3 ++ []
def dkwX0_way_2 : List UInt8 := [167, 0, 40, 28, 2, 160, 0, 10, 45, 180, 0, 218, 167, 0, 28, 28, 16, 254, 160, 0, 10, 45]
abbrev dktX0_way_2 : List UInt8 := dkwX0_way_2 ++ dktX0_way_3
def dkwX0_way_1 : List UInt8 := [182, 0, 213, 78, 45, 180, 0, 210, 155, 0, 6, 16, 252, 172, 28, 155, 0, 12, 45, 180, 0, 217, 28, 46]
abbrev dktX0_way_1 : List UInt8 := dkwX0_way_1 ++ dktX0_way_2
def dkwX0_way_0 : List UInt8 := [27, 155, 0, 19, 28, 16, 253, 42, 180, 0, 26, 182, 0, 160, 184, 0, 3, 154, 0, 5, 2, 172, 42, 27]
abbrev dktX0_way_0 : List UInt8 := dkwX0_way_0 ++ dktX0_way_1
theorem dksX0_way_0 : cX0_way.data.toList.drop 0 = dktX0_way_0 := by decide +kernel
theorem dksX0_way_1 : cX0_way.data.toList.drop 24 = dktX0_way_1 := dk_seg dksX0_way_0 24 rfl rfl
theorem dksX0_way_2 : cX0_way.data.toList.drop 48 = dktX0_way_2 := dk_seg dksX0_way_1 24 rfl rfl
theorem dksX0_way_3 : cX0_way.data.toList.drop 70 = dktX0_way_3 := dk_seg dksX0_way_2 22 rfl rfl
theorem dX0_way_0 : decode cX0_way 0 = .ok (.iload_n 1, 1) := dk_27 (dk_at dksX0_way_0 0 rfl rfl)
theorem dX0_way_1 : decode cX0_way 1 = .ok (.ifCond .lt 19, 3) := dk_155 0 19 (dk_at dksX0_way_0 1 rfl rfl)
theorem dX0_way_4 : decode cX0_way 4 = .ok (.iload_n 2, 1) := dk_28 (dk_at dksX0_way_0 4 rfl rfl)
theorem dX0_way_5 : decode cX0_way 5 = .ok (.bipush (-3), 2) := dk_16 253 (dk_at dksX0_way_0 5 rfl rfl)
theorem dX0_way_7 : decode cX0_way 7 = .ok (.aload_n 0, 1) := dk_42 (dk_at dksX0_way_0 7 rfl rfl)
theorem dX0_way_8 : decode cX0_way 8 = .ok (.getfield 26, 3) := dk_180 0 26 (dk_at dksX0_way_0 8 rfl rfl)
theorem dX0_way_11 : decode cX0_way 11 = .ok (.invokevirtual 160, 3) := dk_182 0 160 (dk_at dksX0_way_0 11 rfl rfl)
theorem dX0_way_14 : decode cX0_way 14 = .ok (.invokestatic 3, 3) := dk_184 0 3 (dk_at dksX0_way_0 14 rfl rfl)
theorem dX0_way_17 : decode cX0_way 17 = .ok (.ifCond .ne 5, 3) := dk_154 0 5 (dk_at dksX0_way_0 17 rfl rfl)
theorem dX0_way_20 : decode cX0_way 20 = .ok (.iconst (-1), 1) := dk_2 (dk_at dksX0_way_0 20 rfl rfl)
theorem dX0_way_21 : decode cX0_way 21 = .ok (.ireturn, 1) := dk_172 (dk_at dksX0_way_0 21 rfl rfl)
theorem dX0_way_22 : decode cX0_way 22 = .ok (.aload_n 0, 1) := dk_42 (dk_at dksX0_way_0 22 rfl rfl)
theorem dX0_way_23 : decode cX0_way 23 = .ok (.iload_n 1, 1) := dk_27 (dk_at dksX0_way_0 23 rfl rfl)
theorem dX0_way_24 : decode cX0_way 24 = .ok (.invokevirtual 213, 3) := dk_182 0 213 (dk_at dksX0_way_1 0 rfl rfl)
theorem dX0_way_27 : decode cX0_way 27 = .ok (.astore_n 3, 1) := dk_78 (dk_at dksX0_way_1 3 rfl rfl)
theorem dX0_way_28 : decode cX0_way 28 = .ok (.aload_n 3, 1) := dk_45 (dk_at dksX0_way_1 4 rfl rfl)
theorem dX0_way_29 : decode cX0_way 29 = .ok (.getfield 210, 3) := dk_180 0 210 (dk_at dksX0_way_1 5 rfl rfl)
theorem dX0_way_32 : decode cX0_way 32 = .ok (.ifCond .lt 6, 3) := dk_155 0 6 (dk_at dksX0_way_1 8 rfl rfl)
theorem dX0_way_35 : decode cX0_way 35 = .ok (.bipush (-4), 2) := dk_16 252 (dk_at dksX0_way_1 11 rfl rfl)
theorem dX0_way_37 : decode cX0_way 37 = .ok (.ireturn, 1) := dk_172 (dk_at dksX0_way_1 13 rfl rfl)
theorem dX0_way_38 : decode cX0_way 38 = .ok (.iload_n 2, 1) := dk_28 (dk_at dksX0_way_1 14 rfl rfl)
theorem dX0_way_39 : decode cX0_way 39 = .ok (.ifCond .lt 12, 3) := dk_155 0 12 (dk_at dksX0_way_1 15 rfl rfl)
theorem dX0_way_42 : decode cX0_way 42 = .ok (.aload_n 3, 1) := dk_45 (dk_at dksX0_way_1 18 rfl rfl)
theorem dX0_way_43 : decode cX0_way 43 = .ok (.getfield 217, 3) := dk_180 0 217 (dk_at dksX0_way_1 19 rfl rfl)
theorem dX0_way_46 : decode cX0_way 46 = .ok (.iload_n 2, 1) := dk_28 (dk_at dksX0_way_1 22 rfl rfl)
theorem dX0_way_47 : decode cX0_way 47 = .ok (.iaload, 1) := dk_46 (dk_at dksX0_way_1 23 rfl rfl)
theorem dX0_way_48 : decode cX0_way 48 = .ok (.goto 40, 3) := dk_167 0 40 (dk_at dksX0_way_2 0 rfl rfl)
theorem dX0_way_51 : decode cX0_way 51 = .ok (.iload_n 2, 1) := dk_28 (dk_at dksX0_way_2 3 rfl rfl)
theorem dX0_way_52 : decode cX0_way 52 = .ok (.iconst (-1), 1) := dk_2 (dk_at dksX0_way_2 4 rfl rfl)
theorem dX0_way_53 : decode cX0_way 53 = .ok (.if_icmp .ne 10, 3) := dk_160 0 10 (dk_at dksX0_way_2 5 rfl rfl)
theorem dX0_way_56 : decode cX0_way 56 = .ok (.aload_n 3, 1) := dk_45 (dk_at dksX0_way_2 8 rfl rfl)
theorem dX0_way_57 : decode cX0_way 57 = .ok (.getfield 218, 3) := dk_180 0 218 (dk_at dksX0_way_2 9 rfl rfl)
theorem dX0_way_60 : decode cX0_way 60 = .ok (.goto 28, 3) := dk_167 0 28 (dk_at dksX0_way_2 12 rfl rfl)
theorem dX0_way_63 : decode cX0_way 63 = .ok (.iload_n 2, 1) := dk_28 (dk_at dksX0_way_2 15 rfl rfl)
theorem dX0_way_64 : decode cX0_way 64 = .ok (.bipush (-2), 2) := dk_16 254 (dk_at dksX0_way_2 16 rfl rfl)
theorem dX0_way_66 : decode cX0_way 66 = .ok (.if_icmp .ne 10, 3) := dk_160 0 10 (dk_at dksX0_way_2 18 rfl rfl)
theorem dX0_way_69 : decode cX0_way 69 = .ok (.aload_n 3, 1) := dk_45 (dk_at dksX0_way_2 21 rfl rfl)
theorem dX0_way_70 : decode cX0_way 70 = .ok (.getfield 220, 3) := dk_180 0 220 (dk_at dksX0_way_3 0 rfl rfl)
theorem dX0_way_73 : decode cX0_way 73 = .ok (.goto 15, 3) := dk_167 0 15 (dk_at dksX0_way_3 3 rfl rfl)
theorem dX0_way_76 : decode cX0_way 76 = .ok (.aload_n 3, 1) := dk_45 (dk_at dksX0_way_3 6 rfl rfl)
theorem dX0_way_77 : decode cX0_way 77 = .ok (.getfield 221, 3) := dk_180 0 221 (dk_at dksX0_way_3 7 rfl rfl)
theorem dX0_way_80 : decode cX0_way 80 = .ok (.ifCond .eq 7, 3) := dk_153 0 7 (dk_at dksX0_way_3 10 rfl rfl)
theorem dX0_way_83 : decode cX0_way 83 = .ok (.iconst 1, 1) := dk_4 (dk_at dksX0_way_3 13 rfl rfl)
theorem dX0_way_84 : decode cX0_way 84 = .ok (.goto 4, 3) := dk_167 0 4 (dk_at dksX0_way_3 14 rfl rfl)
theorem dX0_way_87 : decode cX0_way 87 = .ok (.iconst 0, 1) := dk_3 (dk_at dksX0_way_3 17 rfl rfl)
theorem dX0_way_88 : decode cX0_way 88 = .ok (.ireturn, 1) := dk_172 (dk_at dksX0_way_3 18 rfl rfl)
abbrev cX0_sought : ByteArray := prog_1_method_30_code
def yX0_sought : MethodName := ⟨RX0, "sought", "(I)LSevenRings$Seeker;"⟩
def dkwX0_sought_0 : List UInt8 := [187, 0, 207, 89, 183, 0, 209, 77, 44, 27, 181, 0, 210, 42, 44, 2, 3, 182, 0, 192, 44, 176]
abbrev dktX0_sought_0 : List UInt8 := dkwX0_sought_0 ++ []
theorem dksX0_sought_0 : cX0_sought.data.toList.drop 0 = dktX0_sought_0 := by decide +kernel
theorem dX0_sought_0 : decode cX0_sought 0 = .ok (.new 207, 3) := dk_187 0 207 (dk_at dksX0_sought_0 0 rfl rfl)
theorem dX0_sought_3 : decode cX0_sought 3 = .ok (.dup, 1) := dk_89 (dk_at dksX0_sought_0 3 rfl rfl)
theorem dX0_sought_4 : decode cX0_sought 4 = .ok (.invokespecial 209, 3) := dk_183 0 209 (dk_at dksX0_sought_0 4 rfl rfl)
theorem dX0_sought_7 : decode cX0_sought 7 = .ok (.astore_n 2, 1) := dk_77 (dk_at dksX0_sought_0 7 rfl rfl)
theorem dX0_sought_8 : decode cX0_sought 8 = .ok (.aload_n 2, 1) := dk_44 (dk_at dksX0_sought_0 8 rfl rfl)
theorem dX0_sought_9 : decode cX0_sought 9 = .ok (.iload_n 1, 1) := dk_27 (dk_at dksX0_sought_0 9 rfl rfl)
theorem dX0_sought_10 : decode cX0_sought 10 = .ok (.putfield 210, 3) := dk_181 0 210 (dk_at dksX0_sought_0 10 rfl rfl)
theorem dX0_sought_13 : decode cX0_sought 13 = .ok (.aload_n 0, 1) := dk_42 (dk_at dksX0_sought_0 13 rfl rfl)
theorem dX0_sought_14 : decode cX0_sought 14 = .ok (.aload_n 2, 1) := dk_44 (dk_at dksX0_sought_0 14 rfl rfl)
theorem dX0_sought_15 : decode cX0_sought 15 = .ok (.iconst (-1), 1) := dk_2 (dk_at dksX0_sought_0 15 rfl rfl)
theorem dX0_sought_16 : decode cX0_sought 16 = .ok (.iconst 0, 1) := dk_3 (dk_at dksX0_sought_0 16 rfl rfl)
theorem dX0_sought_17 : decode cX0_sought 17 = .ok (.invokevirtual 192, 3) := dk_182 0 192 (dk_at dksX0_sought_0 17 rfl rfl)
theorem dX0_sought_20 : decode cX0_sought 20 = .ok (.aload_n 2, 1) := dk_44 (dk_at dksX0_sought_0 20 rfl rfl)
theorem dX0_sought_21 : decode cX0_sought 21 = .ok (.areturn, 1) := dk_176 (dk_at dksX0_sought_0 21 rfl rfl)
abbrev cX0_may : ByteArray := prog_1_method_32_code
def yX0_may : MethodName := ⟨RX0, "may", "(II)I"⟩
def dkwX0_may_4 : List UInt8 := [167, 255, 218, 21, 4, 172]
abbrev dktX0_may_4 : List UInt8 := dkwX0_may_4 ++ []
def dkwX0_may_3 : List UInt8 := [28, 104, 21, 5, 96, 51, 153, 0, 10, 4, 21, 5, 120, 167, 0, 4, 3, 128, 54, 4, 132, 5, 1]
abbrev dktX0_may_3 : List UInt8 := dkwX0_may_3 ++ dktX0_may_4
def dkwX0_may_2 : List UInt8 := [182, 0, 192, 3, 54, 4, 3, 54, 5, 21, 5, 16, 10, 162, 0, 37, 21, 4, 45, 180, 0, 228, 16, 10]
abbrev dktX0_may_2 : List UInt8 := dkwX0_may_2 ++ dktX0_may_3
def dkwX0_may_1 : List UInt8 := [154, 0, 5, 2, 172, 187, 0, 222, 89, 183, 0, 224, 78, 45, 27, 181, 0, 225, 42, 45, 2, 3]
abbrev dktX0_may_1 : List UInt8 := dkwX0_may_1 ++ dktX0_may_2
def dkwX0_may_0 : List UInt8 := [27, 3, 42, 180, 0, 26, 182, 0, 160, 184, 0, 3, 153, 0, 13, 28, 3, 16, 9, 184, 0, 3]
abbrev dktX0_may_0 : List UInt8 := dkwX0_may_0 ++ dktX0_may_1
theorem dksX0_may_0 : cX0_may.data.toList.drop 0 = dktX0_may_0 := by decide +kernel
theorem dksX0_may_1 : cX0_may.data.toList.drop 22 = dktX0_may_1 := dk_seg dksX0_may_0 22 rfl rfl
theorem dksX0_may_2 : cX0_may.data.toList.drop 44 = dktX0_may_2 := dk_seg dksX0_may_1 22 rfl rfl
theorem dksX0_may_3 : cX0_may.data.toList.drop 68 = dktX0_may_3 := dk_seg dksX0_may_2 24 rfl rfl
theorem dksX0_may_4 : cX0_may.data.toList.drop 91 = dktX0_may_4 := dk_seg dksX0_may_3 23 rfl rfl
theorem dX0_may_0 : decode cX0_may 0 = .ok (.iload_n 1, 1) := dk_27 (dk_at dksX0_may_0 0 rfl rfl)
theorem dX0_may_1 : decode cX0_may 1 = .ok (.iconst 0, 1) := dk_3 (dk_at dksX0_may_0 1 rfl rfl)
theorem dX0_may_2 : decode cX0_may 2 = .ok (.aload_n 0, 1) := dk_42 (dk_at dksX0_may_0 2 rfl rfl)
theorem dX0_may_3 : decode cX0_may 3 = .ok (.getfield 26, 3) := dk_180 0 26 (dk_at dksX0_may_0 3 rfl rfl)
theorem dX0_may_6 : decode cX0_may 6 = .ok (.invokevirtual 160, 3) := dk_182 0 160 (dk_at dksX0_may_0 6 rfl rfl)
theorem dX0_may_9 : decode cX0_may 9 = .ok (.invokestatic 3, 3) := dk_184 0 3 (dk_at dksX0_may_0 9 rfl rfl)
theorem dX0_may_12 : decode cX0_may 12 = .ok (.ifCond .eq 13, 3) := dk_153 0 13 (dk_at dksX0_may_0 12 rfl rfl)
theorem dX0_may_15 : decode cX0_may 15 = .ok (.iload_n 2, 1) := dk_28 (dk_at dksX0_may_0 15 rfl rfl)
theorem dX0_may_16 : decode cX0_may 16 = .ok (.iconst 0, 1) := dk_3 (dk_at dksX0_may_0 16 rfl rfl)
theorem dX0_may_17 : decode cX0_may 17 = .ok (.bipush 9, 2) := dk_16 9 (dk_at dksX0_may_0 17 rfl rfl)
theorem dX0_may_19 : decode cX0_may 19 = .ok (.invokestatic 3, 3) := dk_184 0 3 (dk_at dksX0_may_0 19 rfl rfl)
theorem dX0_may_22 : decode cX0_may 22 = .ok (.ifCond .ne 5, 3) := dk_154 0 5 (dk_at dksX0_may_1 0 rfl rfl)
theorem dX0_may_25 : decode cX0_may 25 = .ok (.iconst (-1), 1) := dk_2 (dk_at dksX0_may_1 3 rfl rfl)
theorem dX0_may_26 : decode cX0_may 26 = .ok (.ireturn, 1) := dk_172 (dk_at dksX0_may_1 4 rfl rfl)
theorem dX0_may_27 : decode cX0_may 27 = .ok (.new 222, 3) := dk_187 0 222 (dk_at dksX0_may_1 5 rfl rfl)
theorem dX0_may_30 : decode cX0_may 30 = .ok (.dup, 1) := dk_89 (dk_at dksX0_may_1 8 rfl rfl)
theorem dX0_may_31 : decode cX0_may 31 = .ok (.invokespecial 224, 3) := dk_183 0 224 (dk_at dksX0_may_1 9 rfl rfl)
theorem dX0_may_34 : decode cX0_may 34 = .ok (.astore_n 3, 1) := dk_78 (dk_at dksX0_may_1 12 rfl rfl)
theorem dX0_may_35 : decode cX0_may 35 = .ok (.aload_n 3, 1) := dk_45 (dk_at dksX0_may_1 13 rfl rfl)
theorem dX0_may_36 : decode cX0_may 36 = .ok (.iload_n 1, 1) := dk_27 (dk_at dksX0_may_1 14 rfl rfl)
theorem dX0_may_37 : decode cX0_may 37 = .ok (.putfield 225, 3) := dk_181 0 225 (dk_at dksX0_may_1 15 rfl rfl)
theorem dX0_may_40 : decode cX0_may 40 = .ok (.aload_n 0, 1) := dk_42 (dk_at dksX0_may_1 18 rfl rfl)
theorem dX0_may_41 : decode cX0_may 41 = .ok (.aload_n 3, 1) := dk_45 (dk_at dksX0_may_1 19 rfl rfl)
theorem dX0_may_42 : decode cX0_may 42 = .ok (.iconst (-1), 1) := dk_2 (dk_at dksX0_may_1 20 rfl rfl)
theorem dX0_may_43 : decode cX0_may 43 = .ok (.iconst 0, 1) := dk_3 (dk_at dksX0_may_1 21 rfl rfl)
theorem dX0_may_44 : decode cX0_may 44 = .ok (.invokevirtual 192, 3) := dk_182 0 192 (dk_at dksX0_may_2 0 rfl rfl)
theorem dX0_may_47 : decode cX0_may 47 = .ok (.iconst 0, 1) := dk_3 (dk_at dksX0_may_2 3 rfl rfl)
theorem dX0_may_48 : decode cX0_may 48 = .ok (.istore 4, 2) := dk_54 4 (dk_at dksX0_may_2 4 rfl rfl)
theorem dX0_may_50 : decode cX0_may 50 = .ok (.iconst 0, 1) := dk_3 (dk_at dksX0_may_2 6 rfl rfl)
theorem dX0_may_51 : decode cX0_may 51 = .ok (.istore 5, 2) := dk_54 5 (dk_at dksX0_may_2 7 rfl rfl)
theorem dX0_may_53 : decode cX0_may 53 = .ok (.iload 5, 2) := dk_21 5 (dk_at dksX0_may_2 9 rfl rfl)
theorem dX0_may_55 : decode cX0_may 55 = .ok (.bipush 10, 2) := dk_16 10 (dk_at dksX0_may_2 11 rfl rfl)
theorem dX0_may_57 : decode cX0_may 57 = .ok (.if_icmp .ge 37, 3) := dk_162 0 37 (dk_at dksX0_may_2 13 rfl rfl)
theorem dX0_may_60 : decode cX0_may 60 = .ok (.iload 4, 2) := dk_21 4 (dk_at dksX0_may_2 16 rfl rfl)
theorem dX0_may_62 : decode cX0_may 62 = .ok (.aload_n 3, 1) := dk_45 (dk_at dksX0_may_2 18 rfl rfl)
theorem dX0_may_63 : decode cX0_may 63 = .ok (.getfield 228, 3) := dk_180 0 228 (dk_at dksX0_may_2 19 rfl rfl)
theorem dX0_may_66 : decode cX0_may 66 = .ok (.bipush 10, 2) := dk_16 10 (dk_at dksX0_may_2 22 rfl rfl)
theorem dX0_may_68 : decode cX0_may 68 = .ok (.iload_n 2, 1) := dk_28 (dk_at dksX0_may_3 0 rfl rfl)
theorem dX0_may_69 : decode cX0_may 69 = .ok (.imul, 1) := dk_104 (dk_at dksX0_may_3 1 rfl rfl)
theorem dX0_may_70 : decode cX0_may 70 = .ok (.iload 5, 2) := dk_21 5 (dk_at dksX0_may_3 2 rfl rfl)
theorem dX0_may_72 : decode cX0_may 72 = .ok (.iadd, 1) := dk_96 (dk_at dksX0_may_3 4 rfl rfl)
theorem dX0_may_73 : decode cX0_may 73 = .ok (.baload, 1) := dk_51 (dk_at dksX0_may_3 5 rfl rfl)
theorem dX0_may_74 : decode cX0_may 74 = .ok (.ifCond .eq 10, 3) := dk_153 0 10 (dk_at dksX0_may_3 6 rfl rfl)
theorem dX0_may_77 : decode cX0_may 77 = .ok (.iconst 1, 1) := dk_4 (dk_at dksX0_may_3 9 rfl rfl)
theorem dX0_may_78 : decode cX0_may 78 = .ok (.iload 5, 2) := dk_21 5 (dk_at dksX0_may_3 10 rfl rfl)
theorem dX0_may_80 : decode cX0_may 80 = .ok (.ishl, 1) := dk_120 (dk_at dksX0_may_3 12 rfl rfl)
theorem dX0_may_81 : decode cX0_may 81 = .ok (.goto 4, 3) := dk_167 0 4 (dk_at dksX0_may_3 13 rfl rfl)
theorem dX0_may_84 : decode cX0_may 84 = .ok (.iconst 0, 1) := dk_3 (dk_at dksX0_may_3 16 rfl rfl)
theorem dX0_may_85 : decode cX0_may 85 = .ok (.ior, 1) := dk_128 (dk_at dksX0_may_3 17 rfl rfl)
theorem dX0_may_86 : decode cX0_may 86 = .ok (.istore 4, 2) := dk_54 4 (dk_at dksX0_may_3 18 rfl rfl)
theorem dX0_may_88 : decode cX0_may 88 = .ok (.iinc 5 1, 3) := dk_132 5 1 (dk_at dksX0_may_3 20 rfl rfl)
theorem dX0_may_91 : decode cX0_may 91 = .ok (.goto (-38), 3) := dk_167 255 218 (dk_at dksX0_may_4 0 rfl rfl)
theorem dX0_may_94 : decode cX0_may 94 = .ok (.iload 4, 2) := dk_21 4 (dk_at dksX0_may_4 3 rfl rfl)
theorem dX0_may_96 : decode cX0_may 96 = .ok (.ireturn, 1) := dk_172 (dk_at dksX0_may_4 5 rfl rfl)
abbrev cX0_cell : ByteArray := prog_1_method_33_code
def yX0_cell : MethodName := ⟨RX0, "cell", "(IIII)I"⟩
def dkwX0_cell_4 : List UInt8 := [21, 6, 172]
abbrev dktX0_cell_4 : List UInt8 := dkwX0_cell_4 ++ []
def dkwX0_cell_3 : List UInt8 := [25, 5, 16, 100, 27, 104, 28, 96, 51, 54, 6, 25, 5, 16, 100, 27, 104, 28, 96, 21, 4, 145, 84]
abbrev dktX0_cell_3 : List UInt8 := dkwX0_cell_3 ++ dktX0_cell_4
def dkwX0_cell_2 : List UInt8 := [172, 29, 154, 0, 13, 42, 180, 0, 26, 180, 0, 131, 167, 0, 10, 42, 180, 0, 26, 180, 0, 232, 58, 5]
abbrev dktX0_cell_2 : List UInt8 := dkwX0_cell_2 ++ dktX0_cell_3
def dkwX0_cell_1 : List UInt8 := [153, 0, 23, 21, 4, 3, 29, 154, 0, 8, 16, 8, 167, 0, 5, 16, 9, 184, 0, 3, 154, 0, 5, 2]
abbrev dktX0_cell_1 : List UInt8 := dkwX0_cell_1 ++ dktX0_cell_2
def dkwX0_cell_0 : List UInt8 := [27, 3, 4, 184, 0, 3, 153, 0, 39, 28, 184, 0, 71, 153, 0, 32, 29, 3, 4, 184, 0, 3]
abbrev dktX0_cell_0 : List UInt8 := dkwX0_cell_0 ++ dktX0_cell_1
theorem dksX0_cell_0 : cX0_cell.data.toList.drop 0 = dktX0_cell_0 := by decide +kernel
theorem dksX0_cell_1 : cX0_cell.data.toList.drop 22 = dktX0_cell_1 := dk_seg dksX0_cell_0 22 rfl rfl
theorem dksX0_cell_2 : cX0_cell.data.toList.drop 46 = dktX0_cell_2 := dk_seg dksX0_cell_1 24 rfl rfl
theorem dksX0_cell_3 : cX0_cell.data.toList.drop 70 = dktX0_cell_3 := dk_seg dksX0_cell_2 24 rfl rfl
theorem dksX0_cell_4 : cX0_cell.data.toList.drop 93 = dktX0_cell_4 := dk_seg dksX0_cell_3 23 rfl rfl
theorem dX0_cell_0 : decode cX0_cell 0 = .ok (.iload_n 1, 1) := dk_27 (dk_at dksX0_cell_0 0 rfl rfl)
theorem dX0_cell_1 : decode cX0_cell 1 = .ok (.iconst 0, 1) := dk_3 (dk_at dksX0_cell_0 1 rfl rfl)
theorem dX0_cell_2 : decode cX0_cell 2 = .ok (.iconst 1, 1) := dk_4 (dk_at dksX0_cell_0 2 rfl rfl)
theorem dX0_cell_3 : decode cX0_cell 3 = .ok (.invokestatic 3, 3) := dk_184 0 3 (dk_at dksX0_cell_0 3 rfl rfl)
theorem dX0_cell_6 : decode cX0_cell 6 = .ok (.ifCond .eq 39, 3) := dk_153 0 39 (dk_at dksX0_cell_0 6 rfl rfl)
theorem dX0_cell_9 : decode cX0_cell 9 = .ok (.iload_n 2, 1) := dk_28 (dk_at dksX0_cell_0 9 rfl rfl)
theorem dX0_cell_10 : decode cX0_cell 10 = .ok (.invokestatic 71, 3) := dk_184 0 71 (dk_at dksX0_cell_0 10 rfl rfl)
theorem dX0_cell_13 : decode cX0_cell 13 = .ok (.ifCond .eq 32, 3) := dk_153 0 32 (dk_at dksX0_cell_0 13 rfl rfl)
theorem dX0_cell_16 : decode cX0_cell 16 = .ok (.iload_n 3, 1) := dk_29 (dk_at dksX0_cell_0 16 rfl rfl)
theorem dX0_cell_17 : decode cX0_cell 17 = .ok (.iconst 0, 1) := dk_3 (dk_at dksX0_cell_0 17 rfl rfl)
theorem dX0_cell_18 : decode cX0_cell 18 = .ok (.iconst 1, 1) := dk_4 (dk_at dksX0_cell_0 18 rfl rfl)
theorem dX0_cell_19 : decode cX0_cell 19 = .ok (.invokestatic 3, 3) := dk_184 0 3 (dk_at dksX0_cell_0 19 rfl rfl)
theorem dX0_cell_22 : decode cX0_cell 22 = .ok (.ifCond .eq 23, 3) := dk_153 0 23 (dk_at dksX0_cell_1 0 rfl rfl)
theorem dX0_cell_25 : decode cX0_cell 25 = .ok (.iload 4, 2) := dk_21 4 (dk_at dksX0_cell_1 3 rfl rfl)
theorem dX0_cell_27 : decode cX0_cell 27 = .ok (.iconst 0, 1) := dk_3 (dk_at dksX0_cell_1 5 rfl rfl)
theorem dX0_cell_28 : decode cX0_cell 28 = .ok (.iload_n 3, 1) := dk_29 (dk_at dksX0_cell_1 6 rfl rfl)
theorem dX0_cell_29 : decode cX0_cell 29 = .ok (.ifCond .ne 8, 3) := dk_154 0 8 (dk_at dksX0_cell_1 7 rfl rfl)
theorem dX0_cell_32 : decode cX0_cell 32 = .ok (.bipush 8, 2) := dk_16 8 (dk_at dksX0_cell_1 10 rfl rfl)
theorem dX0_cell_34 : decode cX0_cell 34 = .ok (.goto 5, 3) := dk_167 0 5 (dk_at dksX0_cell_1 12 rfl rfl)
theorem dX0_cell_37 : decode cX0_cell 37 = .ok (.bipush 9, 2) := dk_16 9 (dk_at dksX0_cell_1 15 rfl rfl)
theorem dX0_cell_39 : decode cX0_cell 39 = .ok (.invokestatic 3, 3) := dk_184 0 3 (dk_at dksX0_cell_1 17 rfl rfl)
theorem dX0_cell_42 : decode cX0_cell 42 = .ok (.ifCond .ne 5, 3) := dk_154 0 5 (dk_at dksX0_cell_1 20 rfl rfl)
theorem dX0_cell_45 : decode cX0_cell 45 = .ok (.iconst (-1), 1) := dk_2 (dk_at dksX0_cell_1 23 rfl rfl)
theorem dX0_cell_46 : decode cX0_cell 46 = .ok (.ireturn, 1) := dk_172 (dk_at dksX0_cell_2 0 rfl rfl)
theorem dX0_cell_47 : decode cX0_cell 47 = .ok (.iload_n 3, 1) := dk_29 (dk_at dksX0_cell_2 1 rfl rfl)
theorem dX0_cell_48 : decode cX0_cell 48 = .ok (.ifCond .ne 13, 3) := dk_154 0 13 (dk_at dksX0_cell_2 2 rfl rfl)
theorem dX0_cell_51 : decode cX0_cell 51 = .ok (.aload_n 0, 1) := dk_42 (dk_at dksX0_cell_2 5 rfl rfl)
theorem dX0_cell_52 : decode cX0_cell 52 = .ok (.getfield 26, 3) := dk_180 0 26 (dk_at dksX0_cell_2 6 rfl rfl)
theorem dX0_cell_55 : decode cX0_cell 55 = .ok (.getfield 131, 3) := dk_180 0 131 (dk_at dksX0_cell_2 9 rfl rfl)
theorem dX0_cell_58 : decode cX0_cell 58 = .ok (.goto 10, 3) := dk_167 0 10 (dk_at dksX0_cell_2 12 rfl rfl)
theorem dX0_cell_61 : decode cX0_cell 61 = .ok (.aload_n 0, 1) := dk_42 (dk_at dksX0_cell_2 15 rfl rfl)
theorem dX0_cell_62 : decode cX0_cell 62 = .ok (.getfield 26, 3) := dk_180 0 26 (dk_at dksX0_cell_2 16 rfl rfl)
theorem dX0_cell_65 : decode cX0_cell 65 = .ok (.getfield 232, 3) := dk_180 0 232 (dk_at dksX0_cell_2 19 rfl rfl)
theorem dX0_cell_68 : decode cX0_cell 68 = .ok (.astore 5, 2) := dk_58 5 (dk_at dksX0_cell_2 22 rfl rfl)
theorem dX0_cell_70 : decode cX0_cell 70 = .ok (.aload 5, 2) := dk_25 5 (dk_at dksX0_cell_3 0 rfl rfl)
theorem dX0_cell_72 : decode cX0_cell 72 = .ok (.bipush 100, 2) := dk_16 100 (dk_at dksX0_cell_3 2 rfl rfl)
theorem dX0_cell_74 : decode cX0_cell 74 = .ok (.iload_n 1, 1) := dk_27 (dk_at dksX0_cell_3 4 rfl rfl)
theorem dX0_cell_75 : decode cX0_cell 75 = .ok (.imul, 1) := dk_104 (dk_at dksX0_cell_3 5 rfl rfl)
theorem dX0_cell_76 : decode cX0_cell 76 = .ok (.iload_n 2, 1) := dk_28 (dk_at dksX0_cell_3 6 rfl rfl)
theorem dX0_cell_77 : decode cX0_cell 77 = .ok (.iadd, 1) := dk_96 (dk_at dksX0_cell_3 7 rfl rfl)
theorem dX0_cell_78 : decode cX0_cell 78 = .ok (.baload, 1) := dk_51 (dk_at dksX0_cell_3 8 rfl rfl)
theorem dX0_cell_79 : decode cX0_cell 79 = .ok (.istore 6, 2) := dk_54 6 (dk_at dksX0_cell_3 9 rfl rfl)
theorem dX0_cell_81 : decode cX0_cell 81 = .ok (.aload 5, 2) := dk_25 5 (dk_at dksX0_cell_3 11 rfl rfl)
theorem dX0_cell_83 : decode cX0_cell 83 = .ok (.bipush 100, 2) := dk_16 100 (dk_at dksX0_cell_3 13 rfl rfl)
theorem dX0_cell_85 : decode cX0_cell 85 = .ok (.iload_n 1, 1) := dk_27 (dk_at dksX0_cell_3 15 rfl rfl)
theorem dX0_cell_86 : decode cX0_cell 86 = .ok (.imul, 1) := dk_104 (dk_at dksX0_cell_3 16 rfl rfl)
theorem dX0_cell_87 : decode cX0_cell 87 = .ok (.iload_n 2, 1) := dk_28 (dk_at dksX0_cell_3 17 rfl rfl)
theorem dX0_cell_88 : decode cX0_cell 88 = .ok (.iadd, 1) := dk_96 (dk_at dksX0_cell_3 18 rfl rfl)
theorem dX0_cell_89 : decode cX0_cell 89 = .ok (.iload 4, 2) := dk_21 4 (dk_at dksX0_cell_3 19 rfl rfl)
theorem dX0_cell_91 : decode cX0_cell 91 = .ok (.i2b, 1) := dk_145 (dk_at dksX0_cell_3 21 rfl rfl)
theorem dX0_cell_92 : decode cX0_cell 92 = .ok (.bastore, 1) := dk_84 (dk_at dksX0_cell_3 22 rfl rfl)
theorem dX0_cell_93 : decode cX0_cell 93 = .ok (.iload 6, 2) := dk_21 6 (dk_at dksX0_cell_4 0 rfl rfl)
theorem dX0_cell_95 : decode cX0_cell 95 = .ok (.ireturn, 1) := dk_172 (dk_at dksX0_cell_4 2 rfl rfl)
abbrev cX0_depth : ByteArray := prog_1_method_34_code
def yX0_depth : MethodName := ⟨RX0, "depth", "(II)I"⟩
def dkwX0_depth_1 : List UInt8 := [180, 0, 235, 27, 51, 62, 42, 180, 0, 26, 180, 0, 235, 27, 28, 145, 84, 29, 172]
abbrev dktX0_depth_1 : List UInt8 := dkwX0_depth_1 ++ []
def dkwX0_depth_0 : List UInt8 := [27, 184, 0, 71, 153, 0, 13, 28, 4, 16, 9, 184, 0, 3, 154, 0, 5, 2, 172, 42, 180, 0, 26]
abbrev dktX0_depth_0 : List UInt8 := dkwX0_depth_0 ++ dktX0_depth_1
theorem dksX0_depth_0 : cX0_depth.data.toList.drop 0 = dktX0_depth_0 := by decide +kernel
theorem dksX0_depth_1 : cX0_depth.data.toList.drop 23 = dktX0_depth_1 := dk_seg dksX0_depth_0 23 rfl rfl
theorem dX0_depth_0 : decode cX0_depth 0 = .ok (.iload_n 1, 1) := dk_27 (dk_at dksX0_depth_0 0 rfl rfl)
theorem dX0_depth_1 : decode cX0_depth 1 = .ok (.invokestatic 71, 3) := dk_184 0 71 (dk_at dksX0_depth_0 1 rfl rfl)
theorem dX0_depth_4 : decode cX0_depth 4 = .ok (.ifCond .eq 13, 3) := dk_153 0 13 (dk_at dksX0_depth_0 4 rfl rfl)
theorem dX0_depth_7 : decode cX0_depth 7 = .ok (.iload_n 2, 1) := dk_28 (dk_at dksX0_depth_0 7 rfl rfl)
theorem dX0_depth_8 : decode cX0_depth 8 = .ok (.iconst 1, 1) := dk_4 (dk_at dksX0_depth_0 8 rfl rfl)
theorem dX0_depth_9 : decode cX0_depth 9 = .ok (.bipush 9, 2) := dk_16 9 (dk_at dksX0_depth_0 9 rfl rfl)
theorem dX0_depth_11 : decode cX0_depth 11 = .ok (.invokestatic 3, 3) := dk_184 0 3 (dk_at dksX0_depth_0 11 rfl rfl)
theorem dX0_depth_14 : decode cX0_depth 14 = .ok (.ifCond .ne 5, 3) := dk_154 0 5 (dk_at dksX0_depth_0 14 rfl rfl)
theorem dX0_depth_17 : decode cX0_depth 17 = .ok (.iconst (-1), 1) := dk_2 (dk_at dksX0_depth_0 17 rfl rfl)
theorem dX0_depth_18 : decode cX0_depth 18 = .ok (.ireturn, 1) := dk_172 (dk_at dksX0_depth_0 18 rfl rfl)
theorem dX0_depth_19 : decode cX0_depth 19 = .ok (.aload_n 0, 1) := dk_42 (dk_at dksX0_depth_0 19 rfl rfl)
theorem dX0_depth_20 : decode cX0_depth 20 = .ok (.getfield 26, 3) := dk_180 0 26 (dk_at dksX0_depth_0 20 rfl rfl)
theorem dX0_depth_23 : decode cX0_depth 23 = .ok (.getfield 235, 3) := dk_180 0 235 (dk_at dksX0_depth_1 0 rfl rfl)
theorem dX0_depth_26 : decode cX0_depth 26 = .ok (.iload_n 1, 1) := dk_27 (dk_at dksX0_depth_1 3 rfl rfl)
theorem dX0_depth_27 : decode cX0_depth 27 = .ok (.baload, 1) := dk_51 (dk_at dksX0_depth_1 4 rfl rfl)
theorem dX0_depth_28 : decode cX0_depth 28 = .ok (.istore_n 3, 1) := dk_62 (dk_at dksX0_depth_1 5 rfl rfl)
theorem dX0_depth_29 : decode cX0_depth 29 = .ok (.aload_n 0, 1) := dk_42 (dk_at dksX0_depth_1 6 rfl rfl)
theorem dX0_depth_30 : decode cX0_depth 30 = .ok (.getfield 26, 3) := dk_180 0 26 (dk_at dksX0_depth_1 7 rfl rfl)
theorem dX0_depth_33 : decode cX0_depth 33 = .ok (.getfield 235, 3) := dk_180 0 235 (dk_at dksX0_depth_1 10 rfl rfl)
theorem dX0_depth_36 : decode cX0_depth 36 = .ok (.iload_n 1, 1) := dk_27 (dk_at dksX0_depth_1 13 rfl rfl)
theorem dX0_depth_37 : decode cX0_depth 37 = .ok (.iload_n 2, 1) := dk_28 (dk_at dksX0_depth_1 14 rfl rfl)
theorem dX0_depth_38 : decode cX0_depth 38 = .ok (.i2b, 1) := dk_145 (dk_at dksX0_depth_1 15 rfl rfl)
theorem dX0_depth_39 : decode cX0_depth 39 = .ok (.bastore, 1) := dk_84 (dk_at dksX0_depth_1 16 rfl rfl)
theorem dX0_depth_40 : decode cX0_depth 40 = .ok (.iload_n 3, 1) := dk_29 (dk_at dksX0_depth_1 17 rfl rfl)
theorem dX0_depth_41 : decode cX0_depth 41 = .ok (.ireturn, 1) := dk_172 (dk_at dksX0_depth_1 18 rfl rfl)
abbrev cX0_piece : ByteArray := prog_1_method_35_code
def yX0_piece : MethodName := ⟨RX0, "piece", "(IIIII)I"⟩
def dkwX0_piece_5 : List UInt8 := [100, 172]
abbrev dktX0_piece_5 : List UInt8 := dkwX0_piece_5 ++ []
def dkwX0_piece_4 : List UInt8 := [21, 5, 183, 0, 249, 185, 0, 252, 2, 0, 87, 42, 180, 0, 26, 180, 0, 238, 185, 0, 242, 1, 0, 4]
abbrev dktX0_piece_4 : List UInt8 := dkwX0_piece_4 ++ dktX0_piece_5
def dkwX0_piece_3 : List UInt8 := [180, 0, 26, 180, 0, 238, 187, 0, 247, 89, 27, 28, 29, 4, 160, 0, 7, 4, 167, 0, 4, 3, 21, 4]
abbrev dktX0_piece_3 : List UInt8 := dkwX0_piece_3 ++ dktX0_piece_4
def dkwX0_piece_2 : List UInt8 := [2, 172, 42, 180, 0, 26, 180, 0, 238, 185, 0, 242, 1, 0, 7, 160, 0, 6, 16, 253, 172, 42]
abbrev dktX0_piece_2 : List UInt8 := dkwX0_piece_2 ++ dktX0_piece_3
def dkwX0_piece_1 : List UInt8 := [153, 0, 24, 21, 4, 3, 28, 184, 0, 3, 153, 0, 14, 21, 5, 3, 16, 9, 184, 0, 3, 154, 0, 5]
abbrev dktX0_piece_1 : List UInt8 := dkwX0_piece_1 ++ dktX0_piece_2
def dkwX0_piece_0 : List UInt8 := [27, 184, 0, 71, 153, 0, 43, 28, 4, 16, 24, 184, 0, 3, 153, 0, 33, 29, 3, 4, 184, 0, 3]
abbrev dktX0_piece_0 : List UInt8 := dkwX0_piece_0 ++ dktX0_piece_1
theorem dksX0_piece_0 : cX0_piece.data.toList.drop 0 = dktX0_piece_0 := by decide +kernel
theorem dksX0_piece_1 : cX0_piece.data.toList.drop 23 = dktX0_piece_1 := dk_seg dksX0_piece_0 23 rfl rfl
theorem dksX0_piece_2 : cX0_piece.data.toList.drop 47 = dktX0_piece_2 := dk_seg dksX0_piece_1 24 rfl rfl
theorem dksX0_piece_3 : cX0_piece.data.toList.drop 69 = dktX0_piece_3 := dk_seg dksX0_piece_2 22 rfl rfl
theorem dksX0_piece_4 : cX0_piece.data.toList.drop 93 = dktX0_piece_4 := dk_seg dksX0_piece_3 24 rfl rfl
theorem dksX0_piece_5 : cX0_piece.data.toList.drop 117 = dktX0_piece_5 := dk_seg dksX0_piece_4 24 rfl rfl
theorem dX0_piece_0 : decode cX0_piece 0 = .ok (.iload_n 1, 1) := dk_27 (dk_at dksX0_piece_0 0 rfl rfl)
theorem dX0_piece_1 : decode cX0_piece 1 = .ok (.invokestatic 71, 3) := dk_184 0 71 (dk_at dksX0_piece_0 1 rfl rfl)
theorem dX0_piece_4 : decode cX0_piece 4 = .ok (.ifCond .eq 43, 3) := dk_153 0 43 (dk_at dksX0_piece_0 4 rfl rfl)
theorem dX0_piece_7 : decode cX0_piece 7 = .ok (.iload_n 2, 1) := dk_28 (dk_at dksX0_piece_0 7 rfl rfl)
theorem dX0_piece_8 : decode cX0_piece 8 = .ok (.iconst 1, 1) := dk_4 (dk_at dksX0_piece_0 8 rfl rfl)
theorem dX0_piece_9 : decode cX0_piece 9 = .ok (.bipush 24, 2) := dk_16 24 (dk_at dksX0_piece_0 9 rfl rfl)
theorem dX0_piece_11 : decode cX0_piece 11 = .ok (.invokestatic 3, 3) := dk_184 0 3 (dk_at dksX0_piece_0 11 rfl rfl)
theorem dX0_piece_14 : decode cX0_piece 14 = .ok (.ifCond .eq 33, 3) := dk_153 0 33 (dk_at dksX0_piece_0 14 rfl rfl)
theorem dX0_piece_17 : decode cX0_piece 17 = .ok (.iload_n 3, 1) := dk_29 (dk_at dksX0_piece_0 17 rfl rfl)
theorem dX0_piece_18 : decode cX0_piece 18 = .ok (.iconst 0, 1) := dk_3 (dk_at dksX0_piece_0 18 rfl rfl)
theorem dX0_piece_19 : decode cX0_piece 19 = .ok (.iconst 1, 1) := dk_4 (dk_at dksX0_piece_0 19 rfl rfl)
theorem dX0_piece_20 : decode cX0_piece 20 = .ok (.invokestatic 3, 3) := dk_184 0 3 (dk_at dksX0_piece_0 20 rfl rfl)
theorem dX0_piece_23 : decode cX0_piece 23 = .ok (.ifCond .eq 24, 3) := dk_153 0 24 (dk_at dksX0_piece_1 0 rfl rfl)
theorem dX0_piece_26 : decode cX0_piece 26 = .ok (.iload 4, 2) := dk_21 4 (dk_at dksX0_piece_1 3 rfl rfl)
theorem dX0_piece_28 : decode cX0_piece 28 = .ok (.iconst 0, 1) := dk_3 (dk_at dksX0_piece_1 5 rfl rfl)
theorem dX0_piece_29 : decode cX0_piece 29 = .ok (.iload_n 2, 1) := dk_28 (dk_at dksX0_piece_1 6 rfl rfl)
theorem dX0_piece_30 : decode cX0_piece 30 = .ok (.invokestatic 3, 3) := dk_184 0 3 (dk_at dksX0_piece_1 7 rfl rfl)
theorem dX0_piece_33 : decode cX0_piece 33 = .ok (.ifCond .eq 14, 3) := dk_153 0 14 (dk_at dksX0_piece_1 10 rfl rfl)
theorem dX0_piece_36 : decode cX0_piece 36 = .ok (.iload 5, 2) := dk_21 5 (dk_at dksX0_piece_1 13 rfl rfl)
theorem dX0_piece_38 : decode cX0_piece 38 = .ok (.iconst 0, 1) := dk_3 (dk_at dksX0_piece_1 15 rfl rfl)
theorem dX0_piece_39 : decode cX0_piece 39 = .ok (.bipush 9, 2) := dk_16 9 (dk_at dksX0_piece_1 16 rfl rfl)
theorem dX0_piece_41 : decode cX0_piece 41 = .ok (.invokestatic 3, 3) := dk_184 0 3 (dk_at dksX0_piece_1 18 rfl rfl)
theorem dX0_piece_44 : decode cX0_piece 44 = .ok (.ifCond .ne 5, 3) := dk_154 0 5 (dk_at dksX0_piece_1 21 rfl rfl)
theorem dX0_piece_47 : decode cX0_piece 47 = .ok (.iconst (-1), 1) := dk_2 (dk_at dksX0_piece_2 0 rfl rfl)
theorem dX0_piece_48 : decode cX0_piece 48 = .ok (.ireturn, 1) := dk_172 (dk_at dksX0_piece_2 1 rfl rfl)
theorem dX0_piece_49 : decode cX0_piece 49 = .ok (.aload_n 0, 1) := dk_42 (dk_at dksX0_piece_2 2 rfl rfl)
theorem dX0_piece_50 : decode cX0_piece 50 = .ok (.getfield 26, 3) := dk_180 0 26 (dk_at dksX0_piece_2 3 rfl rfl)
theorem dX0_piece_53 : decode cX0_piece 53 = .ok (.getfield 238, 3) := dk_180 0 238 (dk_at dksX0_piece_2 6 rfl rfl)
theorem dX0_piece_56 : decode cX0_piece 56 = .ok (.invokeinterface 242 1, 5) := by decide +kernel
theorem dX0_piece_61 : decode cX0_piece 61 = .ok (.iconst 4, 1) := dk_7 (dk_at dksX0_piece_2 14 rfl rfl)
theorem dX0_piece_62 : decode cX0_piece 62 = .ok (.if_icmp .ne 6, 3) := dk_160 0 6 (dk_at dksX0_piece_2 15 rfl rfl)
theorem dX0_piece_65 : decode cX0_piece 65 = .ok (.bipush (-3), 2) := dk_16 253 (dk_at dksX0_piece_2 18 rfl rfl)
theorem dX0_piece_67 : decode cX0_piece 67 = .ok (.ireturn, 1) := dk_172 (dk_at dksX0_piece_2 20 rfl rfl)
theorem dX0_piece_68 : decode cX0_piece 68 = .ok (.aload_n 0, 1) := dk_42 (dk_at dksX0_piece_2 21 rfl rfl)
theorem dX0_piece_69 : decode cX0_piece 69 = .ok (.getfield 26, 3) := dk_180 0 26 (dk_at dksX0_piece_3 0 rfl rfl)
theorem dX0_piece_72 : decode cX0_piece 72 = .ok (.getfield 238, 3) := dk_180 0 238 (dk_at dksX0_piece_3 3 rfl rfl)
theorem dX0_piece_75 : decode cX0_piece 75 = .ok (.new 247, 3) := dk_187 0 247 (dk_at dksX0_piece_3 6 rfl rfl)
theorem dX0_piece_78 : decode cX0_piece 78 = .ok (.dup, 1) := dk_89 (dk_at dksX0_piece_3 9 rfl rfl)
theorem dX0_piece_79 : decode cX0_piece 79 = .ok (.iload_n 1, 1) := dk_27 (dk_at dksX0_piece_3 10 rfl rfl)
theorem dX0_piece_80 : decode cX0_piece 80 = .ok (.iload_n 2, 1) := dk_28 (dk_at dksX0_piece_3 11 rfl rfl)
theorem dX0_piece_81 : decode cX0_piece 81 = .ok (.iload_n 3, 1) := dk_29 (dk_at dksX0_piece_3 12 rfl rfl)
theorem dX0_piece_82 : decode cX0_piece 82 = .ok (.iconst 1, 1) := dk_4 (dk_at dksX0_piece_3 13 rfl rfl)
theorem dX0_piece_83 : decode cX0_piece 83 = .ok (.if_icmp .ne 7, 3) := dk_160 0 7 (dk_at dksX0_piece_3 14 rfl rfl)
theorem dX0_piece_86 : decode cX0_piece 86 = .ok (.iconst 1, 1) := dk_4 (dk_at dksX0_piece_3 17 rfl rfl)
theorem dX0_piece_87 : decode cX0_piece 87 = .ok (.goto 4, 3) := dk_167 0 4 (dk_at dksX0_piece_3 18 rfl rfl)
theorem dX0_piece_90 : decode cX0_piece 90 = .ok (.iconst 0, 1) := dk_3 (dk_at dksX0_piece_3 21 rfl rfl)
theorem dX0_piece_91 : decode cX0_piece 91 = .ok (.iload 4, 2) := dk_21 4 (dk_at dksX0_piece_3 22 rfl rfl)
theorem dX0_piece_93 : decode cX0_piece 93 = .ok (.iload 5, 2) := dk_21 5 (dk_at dksX0_piece_4 0 rfl rfl)
theorem dX0_piece_95 : decode cX0_piece 95 = .ok (.invokespecial 249, 3) := dk_183 0 249 (dk_at dksX0_piece_4 2 rfl rfl)
theorem dX0_piece_98 : decode cX0_piece 98 = .ok (.invokeinterface 252 2, 5) := by decide +kernel
theorem dX0_piece_103 : decode cX0_piece 103 = .ok (.pop, 1) := dk_87 (dk_at dksX0_piece_4 10 rfl rfl)
theorem dX0_piece_104 : decode cX0_piece 104 = .ok (.aload_n 0, 1) := dk_42 (dk_at dksX0_piece_4 11 rfl rfl)
theorem dX0_piece_105 : decode cX0_piece 105 = .ok (.getfield 26, 3) := dk_180 0 26 (dk_at dksX0_piece_4 12 rfl rfl)
theorem dX0_piece_108 : decode cX0_piece 108 = .ok (.getfield 238, 3) := dk_180 0 238 (dk_at dksX0_piece_4 15 rfl rfl)
theorem dX0_piece_111 : decode cX0_piece 111 = .ok (.invokeinterface 242 1, 5) := by decide +kernel
theorem dX0_piece_116 : decode cX0_piece 116 = .ok (.iconst 1, 1) := dk_4 (dk_at dksX0_piece_4 23 rfl rfl)
theorem dX0_piece_117 : decode cX0_piece 117 = .ok (.isub, 1) := dk_100 (dk_at dksX0_piece_5 0 rfl rfl)
theorem dX0_piece_118 : decode cX0_piece 118 = .ok (.ireturn, 1) := dk_172 (dk_at dksX0_piece_5 1 rfl rfl)
abbrev cX0_drift : ByteArray := prog_1_method_37_code
def yX0_drift : MethodName := ⟨RX0, "drift", "(III)I"⟩
def dkwX0_drift_1 : List UInt8 := [153, 0, 13, 42, 27, 28, 29, 182, 1, 4, 167, 0, 4, 2, 172]
abbrev dktX0_drift_1 : List UInt8 := dkwX0_drift_1 ++ []
def dkwX0_drift_0 : List UInt8 := [27, 184, 0, 71, 153, 0, 32, 28, 3, 16, 24, 184, 0, 3, 153, 0, 22, 29, 3, 4, 184, 0, 3]
abbrev dktX0_drift_0 : List UInt8 := dkwX0_drift_0 ++ dktX0_drift_1
theorem dksX0_drift_0 : cX0_drift.data.toList.drop 0 = dktX0_drift_0 := by decide +kernel
theorem dksX0_drift_1 : cX0_drift.data.toList.drop 23 = dktX0_drift_1 := dk_seg dksX0_drift_0 23 rfl rfl
theorem dX0_drift_0 : decode cX0_drift 0 = .ok (.iload_n 1, 1) := dk_27 (dk_at dksX0_drift_0 0 rfl rfl)
theorem dX0_drift_1 : decode cX0_drift 1 = .ok (.invokestatic 71, 3) := dk_184 0 71 (dk_at dksX0_drift_0 1 rfl rfl)
theorem dX0_drift_4 : decode cX0_drift 4 = .ok (.ifCond .eq 32, 3) := dk_153 0 32 (dk_at dksX0_drift_0 4 rfl rfl)
theorem dX0_drift_7 : decode cX0_drift 7 = .ok (.iload_n 2, 1) := dk_28 (dk_at dksX0_drift_0 7 rfl rfl)
theorem dX0_drift_8 : decode cX0_drift 8 = .ok (.iconst 0, 1) := dk_3 (dk_at dksX0_drift_0 8 rfl rfl)
theorem dX0_drift_9 : decode cX0_drift 9 = .ok (.bipush 24, 2) := dk_16 24 (dk_at dksX0_drift_0 9 rfl rfl)
theorem dX0_drift_11 : decode cX0_drift 11 = .ok (.invokestatic 3, 3) := dk_184 0 3 (dk_at dksX0_drift_0 11 rfl rfl)
theorem dX0_drift_14 : decode cX0_drift 14 = .ok (.ifCond .eq 22, 3) := dk_153 0 22 (dk_at dksX0_drift_0 14 rfl rfl)
theorem dX0_drift_17 : decode cX0_drift 17 = .ok (.iload_n 3, 1) := dk_29 (dk_at dksX0_drift_0 17 rfl rfl)
theorem dX0_drift_18 : decode cX0_drift 18 = .ok (.iconst 0, 1) := dk_3 (dk_at dksX0_drift_0 18 rfl rfl)
theorem dX0_drift_19 : decode cX0_drift 19 = .ok (.iconst 1, 1) := dk_4 (dk_at dksX0_drift_0 19 rfl rfl)
theorem dX0_drift_20 : decode cX0_drift 20 = .ok (.invokestatic 3, 3) := dk_184 0 3 (dk_at dksX0_drift_0 20 rfl rfl)
theorem dX0_drift_23 : decode cX0_drift 23 = .ok (.ifCond .eq 13, 3) := dk_153 0 13 (dk_at dksX0_drift_1 0 rfl rfl)
theorem dX0_drift_26 : decode cX0_drift 26 = .ok (.aload_n 0, 1) := dk_42 (dk_at dksX0_drift_1 3 rfl rfl)
theorem dX0_drift_27 : decode cX0_drift 27 = .ok (.iload_n 1, 1) := dk_27 (dk_at dksX0_drift_1 4 rfl rfl)
theorem dX0_drift_28 : decode cX0_drift 28 = .ok (.iload_n 2, 1) := dk_28 (dk_at dksX0_drift_1 5 rfl rfl)
theorem dX0_drift_29 : decode cX0_drift 29 = .ok (.iload_n 3, 1) := dk_29 (dk_at dksX0_drift_1 6 rfl rfl)
theorem dX0_drift_30 : decode cX0_drift 30 = .ok (.invokevirtual 260, 3) := dk_182 1 4 (dk_at dksX0_drift_1 7 rfl rfl)
theorem dX0_drift_33 : decode cX0_drift 33 = .ok (.goto 4, 3) := dk_167 0 4 (dk_at dksX0_drift_1 10 rfl rfl)
theorem dX0_drift_36 : decode cX0_drift 36 = .ok (.iconst (-1), 1) := dk_2 (dk_at dksX0_drift_1 13 rfl rfl)
theorem dX0_drift_37 : decode cX0_drift 37 = .ok (.ireturn, 1) := dk_172 (dk_at dksX0_drift_1 14 rfl rfl)