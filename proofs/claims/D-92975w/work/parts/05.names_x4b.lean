set_option maxRecDepth 100000
abbrev cX4_fits : ByteArray := prog_14_method_36_code
def yX4_fits : MethodName := ⟨RX4, "fits", "(II)I"⟩
def dkwX4_fits_1 : List UInt8 := [27, 28, 182, 0, 215, 167, 0, 4, 2, 172]
abbrev dktX4_fits_1 : List UInt8 := dkwX4_fits_1 ++ []
def dkwX4_fits_0 : List UInt8 := [27, 133, 9, 42, 180, 0, 206, 4, 100, 133, 184, 0, 100, 153, 0, 19, 28, 184, 0, 115, 153, 0, 12, 42]
abbrev dktX4_fits_0 : List UInt8 := dkwX4_fits_0 ++ dktX4_fits_1
theorem dksX4_fits_0 : cX4_fits.data.toList.drop 0 = dktX4_fits_0 := by decide +kernel
theorem dksX4_fits_1 : cX4_fits.data.toList.drop 24 = dktX4_fits_1 := dk_seg dksX4_fits_0 24 rfl rfl
theorem dX4_fits_0 : decode cX4_fits 0 = .ok (.iload_n 1, 1) := dk_27 (dk_at dksX4_fits_0 0 rfl rfl)
theorem dX4_fits_1 : decode cX4_fits 1 = .ok (.i2l, 1) := dk_133 (dk_at dksX4_fits_0 1 rfl rfl)
theorem dX4_fits_2 : decode cX4_fits 2 = .ok (.lconst 0, 1) := dk_9 (dk_at dksX4_fits_0 2 rfl rfl)
theorem dX4_fits_3 : decode cX4_fits 3 = .ok (.aload_n 0, 1) := dk_42 (dk_at dksX4_fits_0 3 rfl rfl)
theorem dX4_fits_4 : decode cX4_fits 4 = .ok (.getfield 206, 3) := dk_180 0 206 (dk_at dksX4_fits_0 4 rfl rfl)
theorem dX4_fits_7 : decode cX4_fits 7 = .ok (.iconst 1, 1) := dk_4 (dk_at dksX4_fits_0 7 rfl rfl)
theorem dX4_fits_8 : decode cX4_fits 8 = .ok (.isub, 1) := dk_100 (dk_at dksX4_fits_0 8 rfl rfl)
theorem dX4_fits_9 : decode cX4_fits 9 = .ok (.i2l, 1) := dk_133 (dk_at dksX4_fits_0 9 rfl rfl)
theorem dX4_fits_10 : decode cX4_fits 10 = .ok (.invokestatic 100, 3) := dk_184 0 100 (dk_at dksX4_fits_0 10 rfl rfl)
theorem dX4_fits_13 : decode cX4_fits 13 = .ok (.ifCond .eq 19, 3) := dk_153 0 19 (dk_at dksX4_fits_0 13 rfl rfl)
theorem dX4_fits_16 : decode cX4_fits 16 = .ok (.iload_n 2, 1) := dk_28 (dk_at dksX4_fits_0 16 rfl rfl)
theorem dX4_fits_17 : decode cX4_fits 17 = .ok (.invokestatic 115, 3) := dk_184 0 115 (dk_at dksX4_fits_0 17 rfl rfl)
theorem dX4_fits_20 : decode cX4_fits 20 = .ok (.ifCond .eq 12, 3) := dk_153 0 12 (dk_at dksX4_fits_0 20 rfl rfl)
theorem dX4_fits_23 : decode cX4_fits 23 = .ok (.aload_n 0, 1) := dk_42 (dk_at dksX4_fits_0 23 rfl rfl)
theorem dX4_fits_24 : decode cX4_fits 24 = .ok (.iload_n 1, 1) := dk_27 (dk_at dksX4_fits_1 0 rfl rfl)
theorem dX4_fits_25 : decode cX4_fits 25 = .ok (.iload_n 2, 1) := dk_28 (dk_at dksX4_fits_1 1 rfl rfl)
theorem dX4_fits_26 : decode cX4_fits 26 = .ok (.invokevirtual 215, 3) := dk_182 0 215 (dk_at dksX4_fits_1 2 rfl rfl)
theorem dX4_fits_29 : decode cX4_fits 29 = .ok (.goto 4, 3) := dk_167 0 4 (dk_at dksX4_fits_1 5 rfl rfl)
theorem dX4_fits_32 : decode cX4_fits 32 = .ok (.iconst (-1), 1) := dk_2 (dk_at dksX4_fits_1 8 rfl rfl)
theorem dX4_fits_33 : decode cX4_fits 33 = .ok (.ireturn, 1) := dk_172 (dk_at dksX4_fits_1 9 rfl rfl)
abbrev cX4_fit : ByteArray := prog_14_method_35_code
def yX4_fit : MethodName := ⟨RX4, "fit", "(II)I"⟩
def dkwX4_fit_8 : List UInt8 := [21, 5, 42, 180, 0, 64, 29, 46, 160, 0, 7, 7, 167, 0, 4, 4, 172]
abbrev dktX4_fit_8 : List UInt8 := dkwX4_fit_8 ++ []
def dkwX4_fit_7 : List UInt8 := [153, 0, 7, 4, 167, 0, 4, 3, 54, 9, 21, 6, 153, 0, 8, 21, 9, 154, 0, 7, 3, 167, 0, 19]
abbrev dktX4_fit_7 : List UInt8 := dkwX4_fit_7 ++ dktX4_fit_8
def dkwX4_fit_6 : List UInt8 := [21, 7, 133, 20, 0, 124, 10, 184, 0, 100, 153, 0, 20, 21, 8, 133, 20, 0, 124, 10, 184, 0, 100]
abbrev dktX4_fit_6 : List UInt8 := dkwX4_fit_6 ++ dktX4_fit_7
def dkwX4_fit_5 : List UInt8 := [16, 10, 108, 100, 54, 7, 21, 5, 16, 10, 112, 42, 180, 0, 64, 29, 46, 16, 10, 112, 100, 54, 8]
abbrev dktX4_fit_5 : List UInt8 := dkwX4_fit_5 ++ dktX4_fit_6
def dkwX4_fit_4 : List UInt8 := [96, 46, 182, 0, 209, 54, 5, 132, 7, 1, 167, 255, 174, 21, 5, 16, 10, 108, 42, 180, 0, 64, 29, 46]
abbrev dktX4_fit_4 : List UInt8 := dkwX4_fit_4 ++ dktX4_fit_5
def dkwX4_fit_3 : List UInt8 := [7, 96, 46, 161, 0, 7, 4, 167, 0, 4, 3, 54, 6, 42, 21, 5, 21, 7, 42, 180, 0, 64, 29, 5]
abbrev dktX4_fit_3 : List UInt8 := dkwX4_fit_3 ++ dktX4_fit_4
def dkwX4_fit_2 : List UInt8 := [100, 161, 0, 29, 42, 180, 0, 22, 16, 100, 21, 7, 5, 112, 104, 21, 5, 96, 46, 42, 180, 0, 64, 29]
abbrev dktX4_fit_2 : List UInt8 := dkwX4_fit_2 ++ dktX4_fit_3
def dkwX4_fit_1 : List UInt8 := [21, 7, 21, 4, 162, 0, 81, 21, 6, 153, 0, 49, 21, 7, 21, 4, 42, 180, 0, 64, 29, 6, 96, 46]
abbrev dktX4_fit_1 : List UInt8 := dkwX4_fit_1 ++ dktX4_fit_2
def dkwX4_fit_0 : List UInt8 := [8, 27, 104, 62, 42, 180, 0, 64, 29, 4, 96, 46, 54, 4, 28, 54, 5, 4, 54, 6, 3, 54, 7]
abbrev dktX4_fit_0 : List UInt8 := dkwX4_fit_0 ++ dktX4_fit_1
theorem dksX4_fit_0 : cX4_fit.data.toList.drop 0 = dktX4_fit_0 := by decide +kernel
theorem dksX4_fit_1 : cX4_fit.data.toList.drop 23 = dktX4_fit_1 := dk_seg dksX4_fit_0 23 rfl rfl
theorem dksX4_fit_2 : cX4_fit.data.toList.drop 47 = dktX4_fit_2 := dk_seg dksX4_fit_1 24 rfl rfl
theorem dksX4_fit_3 : cX4_fit.data.toList.drop 71 = dktX4_fit_3 := dk_seg dksX4_fit_2 24 rfl rfl
theorem dksX4_fit_4 : cX4_fit.data.toList.drop 95 = dktX4_fit_4 := dk_seg dksX4_fit_3 24 rfl rfl
theorem dksX4_fit_5 : cX4_fit.data.toList.drop 119 = dktX4_fit_5 := dk_seg dksX4_fit_4 24 rfl rfl
theorem dksX4_fit_6 : cX4_fit.data.toList.drop 142 = dktX4_fit_6 := dk_seg dksX4_fit_5 23 rfl rfl
theorem dksX4_fit_7 : cX4_fit.data.toList.drop 165 = dktX4_fit_7 := dk_seg dksX4_fit_6 23 rfl rfl
theorem dksX4_fit_8 : cX4_fit.data.toList.drop 189 = dktX4_fit_8 := dk_seg dksX4_fit_7 24 rfl rfl
theorem dX4_fit_0 : decode cX4_fit 0 = .ok (.iconst 5, 1) := dk_8 (dk_at dksX4_fit_0 0 rfl rfl)
theorem dX4_fit_1 : decode cX4_fit 1 = .ok (.iload_n 1, 1) := dk_27 (dk_at dksX4_fit_0 1 rfl rfl)
theorem dX4_fit_2 : decode cX4_fit 2 = .ok (.imul, 1) := dk_104 (dk_at dksX4_fit_0 2 rfl rfl)
theorem dX4_fit_3 : decode cX4_fit 3 = .ok (.istore_n 3, 1) := dk_62 (dk_at dksX4_fit_0 3 rfl rfl)
theorem dX4_fit_4 : decode cX4_fit 4 = .ok (.aload_n 0, 1) := dk_42 (dk_at dksX4_fit_0 4 rfl rfl)
theorem dX4_fit_5 : decode cX4_fit 5 = .ok (.getfield 64, 3) := dk_180 0 64 (dk_at dksX4_fit_0 5 rfl rfl)
theorem dX4_fit_8 : decode cX4_fit 8 = .ok (.iload_n 3, 1) := dk_29 (dk_at dksX4_fit_0 8 rfl rfl)
theorem dX4_fit_9 : decode cX4_fit 9 = .ok (.iconst 1, 1) := dk_4 (dk_at dksX4_fit_0 9 rfl rfl)
theorem dX4_fit_10 : decode cX4_fit 10 = .ok (.iadd, 1) := dk_96 (dk_at dksX4_fit_0 10 rfl rfl)
theorem dX4_fit_11 : decode cX4_fit 11 = .ok (.iaload, 1) := dk_46 (dk_at dksX4_fit_0 11 rfl rfl)
theorem dX4_fit_12 : decode cX4_fit 12 = .ok (.istore 4, 2) := dk_54 4 (dk_at dksX4_fit_0 12 rfl rfl)
theorem dX4_fit_14 : decode cX4_fit 14 = .ok (.iload_n 2, 1) := dk_28 (dk_at dksX4_fit_0 14 rfl rfl)
theorem dX4_fit_15 : decode cX4_fit 15 = .ok (.istore 5, 2) := dk_54 5 (dk_at dksX4_fit_0 15 rfl rfl)
theorem dX4_fit_17 : decode cX4_fit 17 = .ok (.iconst 1, 1) := dk_4 (dk_at dksX4_fit_0 17 rfl rfl)
theorem dX4_fit_18 : decode cX4_fit 18 = .ok (.istore 6, 2) := dk_54 6 (dk_at dksX4_fit_0 18 rfl rfl)
theorem dX4_fit_20 : decode cX4_fit 20 = .ok (.iconst 0, 1) := dk_3 (dk_at dksX4_fit_0 20 rfl rfl)
theorem dX4_fit_21 : decode cX4_fit 21 = .ok (.istore 7, 2) := dk_54 7 (dk_at dksX4_fit_0 21 rfl rfl)
theorem dX4_fit_23 : decode cX4_fit 23 = .ok (.iload 7, 2) := dk_21 7 (dk_at dksX4_fit_1 0 rfl rfl)
theorem dX4_fit_25 : decode cX4_fit 25 = .ok (.iload 4, 2) := dk_21 4 (dk_at dksX4_fit_1 2 rfl rfl)
theorem dX4_fit_27 : decode cX4_fit 27 = .ok (.if_icmp .ge 81, 3) := dk_162 0 81 (dk_at dksX4_fit_1 4 rfl rfl)
theorem dX4_fit_30 : decode cX4_fit 30 = .ok (.iload 6, 2) := dk_21 6 (dk_at dksX4_fit_1 7 rfl rfl)
theorem dX4_fit_32 : decode cX4_fit 32 = .ok (.ifCond .eq 49, 3) := dk_153 0 49 (dk_at dksX4_fit_1 9 rfl rfl)
theorem dX4_fit_35 : decode cX4_fit 35 = .ok (.iload 7, 2) := dk_21 7 (dk_at dksX4_fit_1 12 rfl rfl)
theorem dX4_fit_37 : decode cX4_fit 37 = .ok (.iload 4, 2) := dk_21 4 (dk_at dksX4_fit_1 14 rfl rfl)
theorem dX4_fit_39 : decode cX4_fit 39 = .ok (.aload_n 0, 1) := dk_42 (dk_at dksX4_fit_1 16 rfl rfl)
theorem dX4_fit_40 : decode cX4_fit 40 = .ok (.getfield 64, 3) := dk_180 0 64 (dk_at dksX4_fit_1 17 rfl rfl)
theorem dX4_fit_43 : decode cX4_fit 43 = .ok (.iload_n 3, 1) := dk_29 (dk_at dksX4_fit_1 20 rfl rfl)
theorem dX4_fit_44 : decode cX4_fit 44 = .ok (.iconst 3, 1) := dk_6 (dk_at dksX4_fit_1 21 rfl rfl)
theorem dX4_fit_45 : decode cX4_fit 45 = .ok (.iadd, 1) := dk_96 (dk_at dksX4_fit_1 22 rfl rfl)
theorem dX4_fit_46 : decode cX4_fit 46 = .ok (.iaload, 1) := dk_46 (dk_at dksX4_fit_1 23 rfl rfl)
theorem dX4_fit_47 : decode cX4_fit 47 = .ok (.isub, 1) := dk_100 (dk_at dksX4_fit_2 0 rfl rfl)
theorem dX4_fit_48 : decode cX4_fit 48 = .ok (.if_icmp .lt 29, 3) := dk_161 0 29 (dk_at dksX4_fit_2 1 rfl rfl)
theorem dX4_fit_51 : decode cX4_fit 51 = .ok (.aload_n 0, 1) := dk_42 (dk_at dksX4_fit_2 4 rfl rfl)
theorem dX4_fit_52 : decode cX4_fit 52 = .ok (.getfield 22, 3) := dk_180 0 22 (dk_at dksX4_fit_2 5 rfl rfl)
theorem dX4_fit_55 : decode cX4_fit 55 = .ok (.bipush 100, 2) := dk_16 100 (dk_at dksX4_fit_2 8 rfl rfl)
theorem dX4_fit_57 : decode cX4_fit 57 = .ok (.iload 7, 2) := dk_21 7 (dk_at dksX4_fit_2 10 rfl rfl)
theorem dX4_fit_59 : decode cX4_fit 59 = .ok (.iconst 2, 1) := dk_5 (dk_at dksX4_fit_2 12 rfl rfl)
theorem dX4_fit_60 : decode cX4_fit 60 = .ok (.irem, 1) := dk_112 (dk_at dksX4_fit_2 13 rfl rfl)
theorem dX4_fit_61 : decode cX4_fit 61 = .ok (.imul, 1) := dk_104 (dk_at dksX4_fit_2 14 rfl rfl)
theorem dX4_fit_62 : decode cX4_fit 62 = .ok (.iload 5, 2) := dk_21 5 (dk_at dksX4_fit_2 15 rfl rfl)
theorem dX4_fit_64 : decode cX4_fit 64 = .ok (.iadd, 1) := dk_96 (dk_at dksX4_fit_2 17 rfl rfl)
theorem dX4_fit_65 : decode cX4_fit 65 = .ok (.iaload, 1) := dk_46 (dk_at dksX4_fit_2 18 rfl rfl)
theorem dX4_fit_66 : decode cX4_fit 66 = .ok (.aload_n 0, 1) := dk_42 (dk_at dksX4_fit_2 19 rfl rfl)
theorem dX4_fit_67 : decode cX4_fit 67 = .ok (.getfield 64, 3) := dk_180 0 64 (dk_at dksX4_fit_2 20 rfl rfl)
theorem dX4_fit_70 : decode cX4_fit 70 = .ok (.iload_n 3, 1) := dk_29 (dk_at dksX4_fit_2 23 rfl rfl)
theorem dX4_fit_71 : decode cX4_fit 71 = .ok (.iconst 4, 1) := dk_7 (dk_at dksX4_fit_3 0 rfl rfl)
theorem dX4_fit_72 : decode cX4_fit 72 = .ok (.iadd, 1) := dk_96 (dk_at dksX4_fit_3 1 rfl rfl)
theorem dX4_fit_73 : decode cX4_fit 73 = .ok (.iaload, 1) := dk_46 (dk_at dksX4_fit_3 2 rfl rfl)
theorem dX4_fit_74 : decode cX4_fit 74 = .ok (.if_icmp .lt 7, 3) := dk_161 0 7 (dk_at dksX4_fit_3 3 rfl rfl)
theorem dX4_fit_77 : decode cX4_fit 77 = .ok (.iconst 1, 1) := dk_4 (dk_at dksX4_fit_3 6 rfl rfl)
theorem dX4_fit_78 : decode cX4_fit 78 = .ok (.goto 4, 3) := dk_167 0 4 (dk_at dksX4_fit_3 7 rfl rfl)
theorem dX4_fit_81 : decode cX4_fit 81 = .ok (.iconst 0, 1) := dk_3 (dk_at dksX4_fit_3 10 rfl rfl)
theorem dX4_fit_82 : decode cX4_fit 82 = .ok (.istore 6, 2) := dk_54 6 (dk_at dksX4_fit_3 11 rfl rfl)
theorem dX4_fit_84 : decode cX4_fit 84 = .ok (.aload_n 0, 1) := dk_42 (dk_at dksX4_fit_3 13 rfl rfl)
theorem dX4_fit_85 : decode cX4_fit 85 = .ok (.iload 5, 2) := dk_21 5 (dk_at dksX4_fit_3 14 rfl rfl)
theorem dX4_fit_87 : decode cX4_fit 87 = .ok (.iload 7, 2) := dk_21 7 (dk_at dksX4_fit_3 16 rfl rfl)
theorem dX4_fit_89 : decode cX4_fit 89 = .ok (.aload_n 0, 1) := dk_42 (dk_at dksX4_fit_3 18 rfl rfl)
theorem dX4_fit_90 : decode cX4_fit 90 = .ok (.getfield 64, 3) := dk_180 0 64 (dk_at dksX4_fit_3 19 rfl rfl)
theorem dX4_fit_93 : decode cX4_fit 93 = .ok (.iload_n 3, 1) := dk_29 (dk_at dksX4_fit_3 22 rfl rfl)
theorem dX4_fit_94 : decode cX4_fit 94 = .ok (.iconst 2, 1) := dk_5 (dk_at dksX4_fit_3 23 rfl rfl)
theorem dX4_fit_95 : decode cX4_fit 95 = .ok (.iadd, 1) := dk_96 (dk_at dksX4_fit_4 0 rfl rfl)
theorem dX4_fit_96 : decode cX4_fit 96 = .ok (.iaload, 1) := dk_46 (dk_at dksX4_fit_4 1 rfl rfl)
theorem dX4_fit_97 : decode cX4_fit 97 = .ok (.invokevirtual 209, 3) := dk_182 0 209 (dk_at dksX4_fit_4 2 rfl rfl)
theorem dX4_fit_100 : decode cX4_fit 100 = .ok (.istore 5, 2) := dk_54 5 (dk_at dksX4_fit_4 5 rfl rfl)
theorem dX4_fit_102 : decode cX4_fit 102 = .ok (.iinc 7 1, 3) := dk_132 7 1 (dk_at dksX4_fit_4 7 rfl rfl)
theorem dX4_fit_105 : decode cX4_fit 105 = .ok (.goto (-82), 3) := dk_167 255 174 (dk_at dksX4_fit_4 10 rfl rfl)
theorem dX4_fit_108 : decode cX4_fit 108 = .ok (.iload 5, 2) := dk_21 5 (dk_at dksX4_fit_4 13 rfl rfl)
theorem dX4_fit_110 : decode cX4_fit 110 = .ok (.bipush 10, 2) := dk_16 10 (dk_at dksX4_fit_4 15 rfl rfl)
theorem dX4_fit_112 : decode cX4_fit 112 = .ok (.idiv, 1) := dk_108 (dk_at dksX4_fit_4 17 rfl rfl)
theorem dX4_fit_113 : decode cX4_fit 113 = .ok (.aload_n 0, 1) := dk_42 (dk_at dksX4_fit_4 18 rfl rfl)
theorem dX4_fit_114 : decode cX4_fit 114 = .ok (.getfield 64, 3) := dk_180 0 64 (dk_at dksX4_fit_4 19 rfl rfl)
theorem dX4_fit_117 : decode cX4_fit 117 = .ok (.iload_n 3, 1) := dk_29 (dk_at dksX4_fit_4 22 rfl rfl)
theorem dX4_fit_118 : decode cX4_fit 118 = .ok (.iaload, 1) := dk_46 (dk_at dksX4_fit_4 23 rfl rfl)
theorem dX4_fit_119 : decode cX4_fit 119 = .ok (.bipush 10, 2) := dk_16 10 (dk_at dksX4_fit_5 0 rfl rfl)
theorem dX4_fit_121 : decode cX4_fit 121 = .ok (.idiv, 1) := dk_108 (dk_at dksX4_fit_5 2 rfl rfl)
theorem dX4_fit_122 : decode cX4_fit 122 = .ok (.isub, 1) := dk_100 (dk_at dksX4_fit_5 3 rfl rfl)
theorem dX4_fit_123 : decode cX4_fit 123 = .ok (.istore 7, 2) := dk_54 7 (dk_at dksX4_fit_5 4 rfl rfl)
theorem dX4_fit_125 : decode cX4_fit 125 = .ok (.iload 5, 2) := dk_21 5 (dk_at dksX4_fit_5 6 rfl rfl)
theorem dX4_fit_127 : decode cX4_fit 127 = .ok (.bipush 10, 2) := dk_16 10 (dk_at dksX4_fit_5 8 rfl rfl)
theorem dX4_fit_129 : decode cX4_fit 129 = .ok (.irem, 1) := dk_112 (dk_at dksX4_fit_5 10 rfl rfl)
theorem dX4_fit_130 : decode cX4_fit 130 = .ok (.aload_n 0, 1) := dk_42 (dk_at dksX4_fit_5 11 rfl rfl)
theorem dX4_fit_131 : decode cX4_fit 131 = .ok (.getfield 64, 3) := dk_180 0 64 (dk_at dksX4_fit_5 12 rfl rfl)
theorem dX4_fit_134 : decode cX4_fit 134 = .ok (.iload_n 3, 1) := dk_29 (dk_at dksX4_fit_5 15 rfl rfl)
theorem dX4_fit_135 : decode cX4_fit 135 = .ok (.iaload, 1) := dk_46 (dk_at dksX4_fit_5 16 rfl rfl)
theorem dX4_fit_136 : decode cX4_fit 136 = .ok (.bipush 10, 2) := dk_16 10 (dk_at dksX4_fit_5 17 rfl rfl)
theorem dX4_fit_138 : decode cX4_fit 138 = .ok (.irem, 1) := dk_112 (dk_at dksX4_fit_5 19 rfl rfl)
theorem dX4_fit_139 : decode cX4_fit 139 = .ok (.isub, 1) := dk_100 (dk_at dksX4_fit_5 20 rfl rfl)
theorem dX4_fit_140 : decode cX4_fit 140 = .ok (.istore 8, 2) := dk_54 8 (dk_at dksX4_fit_5 21 rfl rfl)
theorem dX4_fit_142 : decode cX4_fit 142 = .ok (.iload 7, 2) := dk_21 7 (dk_at dksX4_fit_6 0 rfl rfl)
theorem dX4_fit_144 : decode cX4_fit 144 = .ok (.i2l, 1) := dk_133 (dk_at dksX4_fit_6 2 rfl rfl)
theorem dX4_fit_145 : decode cX4_fit 145 = .ok (.ldc2_w 124, 3) := dk_20 0 124 (dk_at dksX4_fit_6 3 rfl rfl)
theorem dX4_fit_148 : decode cX4_fit 148 = .ok (.lconst 1, 1) := dk_10 (dk_at dksX4_fit_6 6 rfl rfl)
theorem dX4_fit_149 : decode cX4_fit 149 = .ok (.invokestatic 100, 3) := dk_184 0 100 (dk_at dksX4_fit_6 7 rfl rfl)
theorem dX4_fit_152 : decode cX4_fit 152 = .ok (.ifCond .eq 20, 3) := dk_153 0 20 (dk_at dksX4_fit_6 10 rfl rfl)
theorem dX4_fit_155 : decode cX4_fit 155 = .ok (.iload 8, 2) := dk_21 8 (dk_at dksX4_fit_6 13 rfl rfl)
theorem dX4_fit_157 : decode cX4_fit 157 = .ok (.i2l, 1) := dk_133 (dk_at dksX4_fit_6 15 rfl rfl)
theorem dX4_fit_158 : decode cX4_fit 158 = .ok (.ldc2_w 124, 3) := dk_20 0 124 (dk_at dksX4_fit_6 16 rfl rfl)
theorem dX4_fit_161 : decode cX4_fit 161 = .ok (.lconst 1, 1) := dk_10 (dk_at dksX4_fit_6 19 rfl rfl)
theorem dX4_fit_162 : decode cX4_fit 162 = .ok (.invokestatic 100, 3) := dk_184 0 100 (dk_at dksX4_fit_6 20 rfl rfl)
theorem dX4_fit_165 : decode cX4_fit 165 = .ok (.ifCond .eq 7, 3) := dk_153 0 7 (dk_at dksX4_fit_7 0 rfl rfl)
theorem dX4_fit_168 : decode cX4_fit 168 = .ok (.iconst 1, 1) := dk_4 (dk_at dksX4_fit_7 3 rfl rfl)
theorem dX4_fit_169 : decode cX4_fit 169 = .ok (.goto 4, 3) := dk_167 0 4 (dk_at dksX4_fit_7 4 rfl rfl)
theorem dX4_fit_172 : decode cX4_fit 172 = .ok (.iconst 0, 1) := dk_3 (dk_at dksX4_fit_7 7 rfl rfl)
theorem dX4_fit_173 : decode cX4_fit 173 = .ok (.istore 9, 2) := dk_54 9 (dk_at dksX4_fit_7 8 rfl rfl)
theorem dX4_fit_175 : decode cX4_fit 175 = .ok (.iload 6, 2) := dk_21 6 (dk_at dksX4_fit_7 10 rfl rfl)
theorem dX4_fit_177 : decode cX4_fit 177 = .ok (.ifCond .eq 8, 3) := dk_153 0 8 (dk_at dksX4_fit_7 12 rfl rfl)
theorem dX4_fit_180 : decode cX4_fit 180 = .ok (.iload 9, 2) := dk_21 9 (dk_at dksX4_fit_7 15 rfl rfl)
theorem dX4_fit_182 : decode cX4_fit 182 = .ok (.ifCond .ne 7, 3) := dk_154 0 7 (dk_at dksX4_fit_7 17 rfl rfl)
theorem dX4_fit_185 : decode cX4_fit 185 = .ok (.iconst 0, 1) := dk_3 (dk_at dksX4_fit_7 20 rfl rfl)
theorem dX4_fit_186 : decode cX4_fit 186 = .ok (.goto 19, 3) := dk_167 0 19 (dk_at dksX4_fit_7 21 rfl rfl)
theorem dX4_fit_189 : decode cX4_fit 189 = .ok (.iload 5, 2) := dk_21 5 (dk_at dksX4_fit_8 0 rfl rfl)
theorem dX4_fit_191 : decode cX4_fit 191 = .ok (.aload_n 0, 1) := dk_42 (dk_at dksX4_fit_8 2 rfl rfl)
theorem dX4_fit_192 : decode cX4_fit 192 = .ok (.getfield 64, 3) := dk_180 0 64 (dk_at dksX4_fit_8 3 rfl rfl)
theorem dX4_fit_195 : decode cX4_fit 195 = .ok (.iload_n 3, 1) := dk_29 (dk_at dksX4_fit_8 6 rfl rfl)
theorem dX4_fit_196 : decode cX4_fit 196 = .ok (.iaload, 1) := dk_46 (dk_at dksX4_fit_8 7 rfl rfl)
theorem dX4_fit_197 : decode cX4_fit 197 = .ok (.if_icmp .ne 7, 3) := dk_160 0 7 (dk_at dksX4_fit_8 8 rfl rfl)
theorem dX4_fit_200 : decode cX4_fit 200 = .ok (.iconst 4, 1) := dk_7 (dk_at dksX4_fit_8 11 rfl rfl)
theorem dX4_fit_201 : decode cX4_fit 201 = .ok (.goto 4, 3) := dk_167 0 4 (dk_at dksX4_fit_8 12 rfl rfl)
theorem dX4_fit_204 : decode cX4_fit 204 = .ok (.iconst 1, 1) := dk_4 (dk_at dksX4_fit_8 15 rfl rfl)
theorem dX4_fit_205 : decode cX4_fit 205 = .ok (.ireturn, 1) := dk_172 (dk_at dksX4_fit_8 16 rfl rfl)
abbrev cX4_drag : ByteArray := prog_14_method_37_code
def yX4_drag : MethodName := ⟨RX4, "drag", "(II)I"⟩
def dkwX4_drag_2 : List UInt8 := [42, 180, 0, 218, 28, 79, 42, 89, 180, 0, 218, 4, 96, 181, 0, 218, 42, 180, 0, 218, 4, 100, 172]
abbrev dktX4_drag_2 : List UInt8 := dkwX4_drag_2 ++ []
def dkwX4_drag_1 : List UInt8 := [180, 0, 218, 7, 160, 0, 6, 16, 253, 172, 42, 180, 0, 67, 42, 180, 0, 218, 27, 79, 42, 180, 0, 70]
abbrev dktX4_drag_1 : List UInt8 := dkwX4_drag_1 ++ dktX4_drag_2
def dkwX4_drag_0 : List UInt8 := [27, 184, 0, 115, 153, 0, 15, 28, 133, 10, 20, 0, 113, 184, 0, 100, 154, 0, 5, 2, 172, 42]
abbrev dktX4_drag_0 : List UInt8 := dkwX4_drag_0 ++ dktX4_drag_1
theorem dksX4_drag_0 : cX4_drag.data.toList.drop 0 = dktX4_drag_0 := by decide +kernel
theorem dksX4_drag_1 : cX4_drag.data.toList.drop 22 = dktX4_drag_1 := dk_seg dksX4_drag_0 22 rfl rfl
theorem dksX4_drag_2 : cX4_drag.data.toList.drop 46 = dktX4_drag_2 := dk_seg dksX4_drag_1 24 rfl rfl
theorem dX4_drag_0 : decode cX4_drag 0 = .ok (.iload_n 1, 1) := dk_27 (dk_at dksX4_drag_0 0 rfl rfl)
theorem dX4_drag_1 : decode cX4_drag 1 = .ok (.invokestatic 115, 3) := dk_184 0 115 (dk_at dksX4_drag_0 1 rfl rfl)
theorem dX4_drag_4 : decode cX4_drag 4 = .ok (.ifCond .eq 15, 3) := dk_153 0 15 (dk_at dksX4_drag_0 4 rfl rfl)
theorem dX4_drag_7 : decode cX4_drag 7 = .ok (.iload_n 2, 1) := dk_28 (dk_at dksX4_drag_0 7 rfl rfl)
theorem dX4_drag_8 : decode cX4_drag 8 = .ok (.i2l, 1) := dk_133 (dk_at dksX4_drag_0 8 rfl rfl)
theorem dX4_drag_9 : decode cX4_drag 9 = .ok (.lconst 1, 1) := dk_10 (dk_at dksX4_drag_0 9 rfl rfl)
theorem dX4_drag_10 : decode cX4_drag 10 = .ok (.ldc2_w 113, 3) := dk_20 0 113 (dk_at dksX4_drag_0 10 rfl rfl)
theorem dX4_drag_13 : decode cX4_drag 13 = .ok (.invokestatic 100, 3) := dk_184 0 100 (dk_at dksX4_drag_0 13 rfl rfl)
theorem dX4_drag_16 : decode cX4_drag 16 = .ok (.ifCond .ne 5, 3) := dk_154 0 5 (dk_at dksX4_drag_0 16 rfl rfl)
theorem dX4_drag_19 : decode cX4_drag 19 = .ok (.iconst (-1), 1) := dk_2 (dk_at dksX4_drag_0 19 rfl rfl)
theorem dX4_drag_20 : decode cX4_drag 20 = .ok (.ireturn, 1) := dk_172 (dk_at dksX4_drag_0 20 rfl rfl)
theorem dX4_drag_21 : decode cX4_drag 21 = .ok (.aload_n 0, 1) := dk_42 (dk_at dksX4_drag_0 21 rfl rfl)
theorem dX4_drag_22 : decode cX4_drag 22 = .ok (.getfield 218, 3) := dk_180 0 218 (dk_at dksX4_drag_1 0 rfl rfl)
theorem dX4_drag_25 : decode cX4_drag 25 = .ok (.iconst 4, 1) := dk_7 (dk_at dksX4_drag_1 3 rfl rfl)
theorem dX4_drag_26 : decode cX4_drag 26 = .ok (.if_icmp .ne 6, 3) := dk_160 0 6 (dk_at dksX4_drag_1 4 rfl rfl)
theorem dX4_drag_29 : decode cX4_drag 29 = .ok (.bipush (-3), 2) := dk_16 253 (dk_at dksX4_drag_1 7 rfl rfl)
theorem dX4_drag_31 : decode cX4_drag 31 = .ok (.ireturn, 1) := dk_172 (dk_at dksX4_drag_1 9 rfl rfl)
theorem dX4_drag_32 : decode cX4_drag 32 = .ok (.aload_n 0, 1) := dk_42 (dk_at dksX4_drag_1 10 rfl rfl)
theorem dX4_drag_33 : decode cX4_drag 33 = .ok (.getfield 67, 3) := dk_180 0 67 (dk_at dksX4_drag_1 11 rfl rfl)
theorem dX4_drag_36 : decode cX4_drag 36 = .ok (.aload_n 0, 1) := dk_42 (dk_at dksX4_drag_1 14 rfl rfl)
theorem dX4_drag_37 : decode cX4_drag 37 = .ok (.getfield 218, 3) := dk_180 0 218 (dk_at dksX4_drag_1 15 rfl rfl)
theorem dX4_drag_40 : decode cX4_drag 40 = .ok (.iload_n 1, 1) := dk_27 (dk_at dksX4_drag_1 18 rfl rfl)
theorem dX4_drag_41 : decode cX4_drag 41 = .ok (.iastore, 1) := dk_79 (dk_at dksX4_drag_1 19 rfl rfl)
theorem dX4_drag_42 : decode cX4_drag 42 = .ok (.aload_n 0, 1) := dk_42 (dk_at dksX4_drag_1 20 rfl rfl)
theorem dX4_drag_43 : decode cX4_drag 43 = .ok (.getfield 70, 3) := dk_180 0 70 (dk_at dksX4_drag_1 21 rfl rfl)
theorem dX4_drag_46 : decode cX4_drag 46 = .ok (.aload_n 0, 1) := dk_42 (dk_at dksX4_drag_2 0 rfl rfl)
theorem dX4_drag_47 : decode cX4_drag 47 = .ok (.getfield 218, 3) := dk_180 0 218 (dk_at dksX4_drag_2 1 rfl rfl)
theorem dX4_drag_50 : decode cX4_drag 50 = .ok (.iload_n 2, 1) := dk_28 (dk_at dksX4_drag_2 4 rfl rfl)
theorem dX4_drag_51 : decode cX4_drag 51 = .ok (.iastore, 1) := dk_79 (dk_at dksX4_drag_2 5 rfl rfl)
theorem dX4_drag_52 : decode cX4_drag 52 = .ok (.aload_n 0, 1) := dk_42 (dk_at dksX4_drag_2 6 rfl rfl)
theorem dX4_drag_53 : decode cX4_drag 53 = .ok (.dup, 1) := dk_89 (dk_at dksX4_drag_2 7 rfl rfl)
theorem dX4_drag_54 : decode cX4_drag 54 = .ok (.getfield 218, 3) := dk_180 0 218 (dk_at dksX4_drag_2 8 rfl rfl)
theorem dX4_drag_57 : decode cX4_drag 57 = .ok (.iconst 1, 1) := dk_4 (dk_at dksX4_drag_2 11 rfl rfl)
theorem dX4_drag_58 : decode cX4_drag 58 = .ok (.iadd, 1) := dk_96 (dk_at dksX4_drag_2 12 rfl rfl)
theorem dX4_drag_59 : decode cX4_drag 59 = .ok (.putfield 218, 3) := dk_181 0 218 (dk_at dksX4_drag_2 13 rfl rfl)
theorem dX4_drag_62 : decode cX4_drag 62 = .ok (.aload_n 0, 1) := dk_42 (dk_at dksX4_drag_2 16 rfl rfl)
theorem dX4_drag_63 : decode cX4_drag 63 = .ok (.getfield 218, 3) := dk_180 0 218 (dk_at dksX4_drag_2 17 rfl rfl)
theorem dX4_drag_66 : decode cX4_drag 66 = .ok (.iconst 1, 1) := dk_4 (dk_at dksX4_drag_2 20 rfl rfl)
theorem dX4_drag_67 : decode cX4_drag 67 = .ok (.isub, 1) := dk_100 (dk_at dksX4_drag_2 21 rfl rfl)
theorem dX4_drag_68 : decode cX4_drag 68 = .ok (.ireturn, 1) := dk_172 (dk_at dksX4_drag_2 22 rfl rfl)
abbrev cX4_clear : ByteArray := prog_14_method_38_code
def yX4_clear : MethodName := ⟨RX4, "clear", "()I"⟩
def dkwX4_clear_0 : List UInt8 := [42, 180, 0, 206, 42, 180, 0, 218, 96, 60, 42, 3, 181, 0, 206, 42, 3, 181, 0, 218, 27, 172]
abbrev dktX4_clear_0 : List UInt8 := dkwX4_clear_0 ++ []
theorem dksX4_clear_0 : cX4_clear.data.toList.drop 0 = dktX4_clear_0 := by decide +kernel
theorem dX4_clear_0 : decode cX4_clear 0 = .ok (.aload_n 0, 1) := dk_42 (dk_at dksX4_clear_0 0 rfl rfl)
theorem dX4_clear_1 : decode cX4_clear 1 = .ok (.getfield 206, 3) := dk_180 0 206 (dk_at dksX4_clear_0 1 rfl rfl)
theorem dX4_clear_4 : decode cX4_clear 4 = .ok (.aload_n 0, 1) := dk_42 (dk_at dksX4_clear_0 4 rfl rfl)
theorem dX4_clear_5 : decode cX4_clear 5 = .ok (.getfield 218, 3) := dk_180 0 218 (dk_at dksX4_clear_0 5 rfl rfl)
theorem dX4_clear_8 : decode cX4_clear 8 = .ok (.iadd, 1) := dk_96 (dk_at dksX4_clear_0 8 rfl rfl)
theorem dX4_clear_9 : decode cX4_clear 9 = .ok (.istore_n 1, 1) := dk_60 (dk_at dksX4_clear_0 9 rfl rfl)
theorem dX4_clear_10 : decode cX4_clear 10 = .ok (.aload_n 0, 1) := dk_42 (dk_at dksX4_clear_0 10 rfl rfl)
theorem dX4_clear_11 : decode cX4_clear 11 = .ok (.iconst 0, 1) := dk_3 (dk_at dksX4_clear_0 11 rfl rfl)
theorem dX4_clear_12 : decode cX4_clear 12 = .ok (.putfield 206, 3) := dk_181 0 206 (dk_at dksX4_clear_0 12 rfl rfl)
theorem dX4_clear_15 : decode cX4_clear 15 = .ok (.aload_n 0, 1) := dk_42 (dk_at dksX4_clear_0 15 rfl rfl)
theorem dX4_clear_16 : decode cX4_clear 16 = .ok (.iconst 0, 1) := dk_3 (dk_at dksX4_clear_0 16 rfl rfl)
theorem dX4_clear_17 : decode cX4_clear 17 = .ok (.putfield 218, 3) := dk_181 0 218 (dk_at dksX4_clear_0 17 rfl rfl)
theorem dX4_clear_20 : decode cX4_clear 20 = .ok (.iload_n 1, 1) := dk_27 (dk_at dksX4_clear_0 20 rfl rfl)
theorem dX4_clear_21 : decode cX4_clear 21 = .ok (.ireturn, 1) := dk_172 (dk_at dksX4_clear_0 21 rfl rfl)
abbrev cX4_odds : ByteArray := prog_14_method_42_code
def yX4_odds : MethodName := ⟨RX4, "odds", "(II)J"⟩
def dkwX4_odds_2 : List UInt8 := [42, 180, 0, 221, 28, 184, 0, 239, 173]
abbrev dktX4_odds_2 : List UInt8 := dkwX4_odds_2 ++ []
def dkwX4_odds_1 : List UInt8 := [182, 0, 234, 42, 180, 0, 221, 9, 148, 154, 0, 9, 20, 0, 237, 167, 0, 17, 42, 180, 0, 73, 27, 47]
abbrev dktX4_odds_1 : List UInt8 := dkwX4_odds_1 ++ dktX4_odds_2
def dkwX4_odds_0 : List UInt8 := [27, 184, 0, 115, 153, 0, 13, 28, 133, 9, 10, 184, 0, 100, 154, 0, 7, 20, 0, 124, 173, 42]
abbrev dktX4_odds_0 : List UInt8 := dkwX4_odds_0 ++ dktX4_odds_1
theorem dksX4_odds_0 : cX4_odds.data.toList.drop 0 = dktX4_odds_0 := by decide +kernel
theorem dksX4_odds_1 : cX4_odds.data.toList.drop 22 = dktX4_odds_1 := dk_seg dksX4_odds_0 22 rfl rfl
theorem dksX4_odds_2 : cX4_odds.data.toList.drop 46 = dktX4_odds_2 := dk_seg dksX4_odds_1 24 rfl rfl
theorem dX4_odds_0 : decode cX4_odds 0 = .ok (.iload_n 1, 1) := dk_27 (dk_at dksX4_odds_0 0 rfl rfl)
theorem dX4_odds_1 : decode cX4_odds 1 = .ok (.invokestatic 115, 3) := dk_184 0 115 (dk_at dksX4_odds_0 1 rfl rfl)
theorem dX4_odds_4 : decode cX4_odds 4 = .ok (.ifCond .eq 13, 3) := dk_153 0 13 (dk_at dksX4_odds_0 4 rfl rfl)
theorem dX4_odds_7 : decode cX4_odds 7 = .ok (.iload_n 2, 1) := dk_28 (dk_at dksX4_odds_0 7 rfl rfl)
theorem dX4_odds_8 : decode cX4_odds 8 = .ok (.i2l, 1) := dk_133 (dk_at dksX4_odds_0 8 rfl rfl)
theorem dX4_odds_9 : decode cX4_odds 9 = .ok (.lconst 0, 1) := dk_9 (dk_at dksX4_odds_0 9 rfl rfl)
theorem dX4_odds_10 : decode cX4_odds 10 = .ok (.lconst 1, 1) := dk_10 (dk_at dksX4_odds_0 10 rfl rfl)
theorem dX4_odds_11 : decode cX4_odds 11 = .ok (.invokestatic 100, 3) := dk_184 0 100 (dk_at dksX4_odds_0 11 rfl rfl)
theorem dX4_odds_14 : decode cX4_odds 14 = .ok (.ifCond .ne 7, 3) := dk_154 0 7 (dk_at dksX4_odds_0 14 rfl rfl)
theorem dX4_odds_17 : decode cX4_odds 17 = .ok (.ldc2_w 124, 3) := dk_20 0 124 (dk_at dksX4_odds_0 17 rfl rfl)
theorem dX4_odds_20 : decode cX4_odds 20 = .ok (.lreturn, 1) := dk_173 (dk_at dksX4_odds_0 20 rfl rfl)
theorem dX4_odds_21 : decode cX4_odds 21 = .ok (.aload_n 0, 1) := dk_42 (dk_at dksX4_odds_0 21 rfl rfl)
theorem dX4_odds_22 : decode cX4_odds 22 = .ok (.invokevirtual 234, 3) := dk_182 0 234 (dk_at dksX4_odds_1 0 rfl rfl)
theorem dX4_odds_25 : decode cX4_odds 25 = .ok (.aload_n 0, 1) := dk_42 (dk_at dksX4_odds_1 3 rfl rfl)
theorem dX4_odds_26 : decode cX4_odds 26 = .ok (.getfield 221, 3) := dk_180 0 221 (dk_at dksX4_odds_1 4 rfl rfl)
theorem dX4_odds_29 : decode cX4_odds 29 = .ok (.lconst 0, 1) := dk_9 (dk_at dksX4_odds_1 7 rfl rfl)
theorem dX4_odds_30 : decode cX4_odds 30 = .ok (.lcmp, 1) := dk_148 (dk_at dksX4_odds_1 8 rfl rfl)
theorem dX4_odds_31 : decode cX4_odds 31 = .ok (.ifCond .ne 9, 3) := dk_154 0 9 (dk_at dksX4_odds_1 9 rfl rfl)
theorem dX4_odds_34 : decode cX4_odds 34 = .ok (.ldc2_w 237, 3) := dk_20 0 237 (dk_at dksX4_odds_1 12 rfl rfl)
theorem dX4_odds_37 : decode cX4_odds 37 = .ok (.goto 17, 3) := dk_167 0 17 (dk_at dksX4_odds_1 15 rfl rfl)
theorem dX4_odds_40 : decode cX4_odds 40 = .ok (.aload_n 0, 1) := dk_42 (dk_at dksX4_odds_1 18 rfl rfl)
theorem dX4_odds_41 : decode cX4_odds 41 = .ok (.getfield 73, 3) := dk_180 0 73 (dk_at dksX4_odds_1 19 rfl rfl)
theorem dX4_odds_44 : decode cX4_odds 44 = .ok (.iload_n 1, 1) := dk_27 (dk_at dksX4_odds_1 22 rfl rfl)
theorem dX4_odds_45 : decode cX4_odds 45 = .ok (.laload, 1) := dk_47 (dk_at dksX4_odds_1 23 rfl rfl)
theorem dX4_odds_46 : decode cX4_odds 46 = .ok (.aload_n 0, 1) := dk_42 (dk_at dksX4_odds_2 0 rfl rfl)
theorem dX4_odds_47 : decode cX4_odds 47 = .ok (.getfield 221, 3) := dk_180 0 221 (dk_at dksX4_odds_2 1 rfl rfl)
theorem dX4_odds_50 : decode cX4_odds 50 = .ok (.iload_n 2, 1) := dk_28 (dk_at dksX4_odds_2 4 rfl rfl)
theorem dX4_odds_51 : decode cX4_odds 51 = .ok (.invokestatic 239, 3) := dk_184 0 239 (dk_at dksX4_odds_2 5 rfl rfl)
theorem dX4_odds_54 : decode cX4_odds 54 = .ok (.lreturn, 1) := dk_173 (dk_at dksX4_odds_2 8 rfl rfl)
abbrev cX4_endsAsTold : ByteArray := prog_14_method_40_code
def yX4_endsAsTold : MethodName := ⟨RX4, "endsAsTold", "()V"⟩
def dkwX4_endsAsTold_0 : List UInt8 := [42, 182, 0, 187, 42, 3, 181, 0, 225, 42, 3, 181, 0, 228, 42, 182, 0, 231, 177]
abbrev dktX4_endsAsTold_0 : List UInt8 := dkwX4_endsAsTold_0 ++ []
theorem dksX4_endsAsTold_0 : cX4_endsAsTold.data.toList.drop 0 = dktX4_endsAsTold_0 := by decide +kernel
theorem dX4_endsAsTold_0 : decode cX4_endsAsTold 0 = .ok (.aload_n 0, 1) := dk_42 (dk_at dksX4_endsAsTold_0 0 rfl rfl)
theorem dX4_endsAsTold_1 : decode cX4_endsAsTold 1 = .ok (.invokevirtual 187, 3) := dk_182 0 187 (dk_at dksX4_endsAsTold_0 1 rfl rfl)
theorem dX4_endsAsTold_4 : decode cX4_endsAsTold 4 = .ok (.aload_n 0, 1) := dk_42 (dk_at dksX4_endsAsTold_0 4 rfl rfl)
theorem dX4_endsAsTold_5 : decode cX4_endsAsTold 5 = .ok (.iconst 0, 1) := dk_3 (dk_at dksX4_endsAsTold_0 5 rfl rfl)
theorem dX4_endsAsTold_6 : decode cX4_endsAsTold 6 = .ok (.putfield 225, 3) := dk_181 0 225 (dk_at dksX4_endsAsTold_0 6 rfl rfl)
theorem dX4_endsAsTold_9 : decode cX4_endsAsTold 9 = .ok (.aload_n 0, 1) := dk_42 (dk_at dksX4_endsAsTold_0 9 rfl rfl)
theorem dX4_endsAsTold_10 : decode cX4_endsAsTold 10 = .ok (.iconst 0, 1) := dk_3 (dk_at dksX4_endsAsTold_0 10 rfl rfl)
theorem dX4_endsAsTold_11 : decode cX4_endsAsTold 11 = .ok (.putfield 228, 3) := dk_181 0 228 (dk_at dksX4_endsAsTold_0 11 rfl rfl)
theorem dX4_endsAsTold_14 : decode cX4_endsAsTold 14 = .ok (.aload_n 0, 1) := dk_42 (dk_at dksX4_endsAsTold_0 14 rfl rfl)
theorem dX4_endsAsTold_15 : decode cX4_endsAsTold 15 = .ok (.invokevirtual 231, 3) := dk_182 0 231 (dk_at dksX4_endsAsTold_0 15 rfl rfl)
theorem dX4_endsAsTold_18 : decode cX4_endsAsTold 18 = .ok (.return_, 1) := dk_177 (dk_at dksX4_endsAsTold_0 18 rfl rfl)
abbrev cX4_ends : ByteArray := prog_14_method_39_code
def yX4_ends : MethodName := ⟨RX4, "ends", "()V"⟩
def dkwX4_ends_11 : List UInt8 := [42, 89, 180, 0, 221, 42, 180, 0, 73, 27, 47, 97, 181, 0, 221, 132, 1, 1, 167, 255, 115, 177]
abbrev dktX4_ends_11 : List UInt8 := dkwX4_ends_11 ++ []
def dkwX4_ends_10 : List UInt8 := [16, 8, 42, 180, 0, 70, 28, 46, 100, 133, 167, 0, 6, 20, 0, 130, 105, 80, 132, 2, 1, 167, 255, 203]
abbrev dktX4_ends_10 : List UInt8 := dkwX4_ends_10 ++ dktX4_ends_11
def dkwX4_ends_9 : List UInt8 := [180, 0, 228, 154, 0, 44, 42, 180, 0, 73, 27, 92, 47, 42, 180, 0, 67, 28, 46, 27, 160, 0, 16]
abbrev dktX4_ends_9 : List UInt8 := dkwX4_ends_9 ++ dktX4_ends_10
def dkwX4_ends_8 : List UInt8 := [182, 0, 215, 133, 105, 80, 132, 2, 1, 167, 255, 202, 3, 61, 28, 42, 180, 0, 218, 162, 0, 51, 42]
abbrev dktX4_ends_8 : List UInt8 := dkwX4_ends_8 ++ dktX4_ends_9
def dkwX4_ends_7 : List UInt8 := [153, 0, 15, 42, 180, 0, 225, 28, 122, 4, 126, 4, 160, 0, 7, 10, 167, 0, 10, 42, 28, 27]
abbrev dktX4_ends_7 : List UInt8 := dkwX4_ends_7 ++ dktX4_ends_8
def dkwX4_ends_6 : List UInt8 := [28, 42, 180, 0, 206, 162, 0, 52, 42, 180, 0, 73, 27, 92, 47, 42, 180, 0, 73, 27, 47, 9, 148]
abbrev dktX4_ends_6 : List UInt8 := dkwX4_ends_6 ++ dktX4_ends_7
def dkwX4_ends_5 : List UInt8 := [132, 3, 1, 167, 255, 205, 167, 255, 161, 42, 9, 181, 0, 221, 3, 60, 27, 16, 100, 162, 0, 141, 3, 61]
abbrev dktX4_ends_5 : List UInt8 := dkwX4_ends_5 ++ dktX4_ends_6
def dkwX4_ends_4 : List UInt8 := [184, 0, 173, 54, 4, 21, 4, 155, 0, 15, 42, 180, 0, 73, 21, 4, 92, 47, 28, 133, 97, 80]
abbrev dktX4_ends_4 : List UInt8 := dkwX4_ends_4 ++ dktX4_ends_5
def dkwX4_ends_3 : List UInt8 := [180, 0, 7, 16, 6, 46, 163, 0, 46, 42, 180, 0, 43, 27, 46, 42, 180, 0, 46, 27, 4, 100, 46, 29]
abbrev dktX4_ends_3 : List UInt8 := dkwX4_ends_3 ++ dktX4_ends_4
def dkwX4_ends_2 : List UInt8 := [180, 0, 73, 42, 180, 0, 43, 27, 46, 92, 47, 20, 0, 128, 28, 133, 105, 97, 80, 4, 62, 29, 42]
abbrev dktX4_ends_2 : List UInt8 := dkwX4_ends_2 ++ dktX4_ends_3
def dkwX4_ends_1 : List UInt8 := [182, 0, 190, 42, 182, 0, 193, 153, 0, 94, 42, 180, 0, 7, 5, 46, 60, 42, 182, 0, 196, 61, 42]
abbrev dktX4_ends_1 : List UInt8 := dkwX4_ends_1 ++ dktX4_ends_2
def dkwX4_ends_0 : List UInt8 := [3, 60, 27, 16, 100, 162, 0, 16, 42, 180, 0, 73, 27, 9, 80, 132, 1, 1, 167, 255, 240, 42]
abbrev dktX4_ends_0 : List UInt8 := dkwX4_ends_0 ++ dktX4_ends_1
theorem dksX4_ends_0 : cX4_ends.data.toList.drop 0 = dktX4_ends_0 := by decide +kernel
theorem dksX4_ends_1 : cX4_ends.data.toList.drop 22 = dktX4_ends_1 := dk_seg dksX4_ends_0 22 rfl rfl
theorem dksX4_ends_2 : cX4_ends.data.toList.drop 45 = dktX4_ends_2 := dk_seg dksX4_ends_1 23 rfl rfl
theorem dksX4_ends_3 : cX4_ends.data.toList.drop 68 = dktX4_ends_3 := dk_seg dksX4_ends_2 23 rfl rfl
theorem dksX4_ends_4 : cX4_ends.data.toList.drop 92 = dktX4_ends_4 := dk_seg dksX4_ends_3 24 rfl rfl
theorem dksX4_ends_5 : cX4_ends.data.toList.drop 114 = dktX4_ends_5 := dk_seg dksX4_ends_4 22 rfl rfl
theorem dksX4_ends_6 : cX4_ends.data.toList.drop 138 = dktX4_ends_6 := dk_seg dksX4_ends_5 24 rfl rfl
theorem dksX4_ends_7 : cX4_ends.data.toList.drop 161 = dktX4_ends_7 := dk_seg dksX4_ends_6 23 rfl rfl
theorem dksX4_ends_8 : cX4_ends.data.toList.drop 183 = dktX4_ends_8 := dk_seg dksX4_ends_7 22 rfl rfl
theorem dksX4_ends_9 : cX4_ends.data.toList.drop 206 = dktX4_ends_9 := dk_seg dksX4_ends_8 23 rfl rfl
theorem dksX4_ends_10 : cX4_ends.data.toList.drop 229 = dktX4_ends_10 := dk_seg dksX4_ends_9 23 rfl rfl
theorem dksX4_ends_11 : cX4_ends.data.toList.drop 253 = dktX4_ends_11 := dk_seg dksX4_ends_10 24 rfl rfl
theorem dX4_ends_0 : decode cX4_ends 0 = .ok (.iconst 0, 1) := dk_3 (dk_at dksX4_ends_0 0 rfl rfl)
theorem dX4_ends_1 : decode cX4_ends 1 = .ok (.istore_n 1, 1) := dk_60 (dk_at dksX4_ends_0 1 rfl rfl)
theorem dX4_ends_2 : decode cX4_ends 2 = .ok (.iload_n 1, 1) := dk_27 (dk_at dksX4_ends_0 2 rfl rfl)
theorem dX4_ends_3 : decode cX4_ends 3 = .ok (.bipush 100, 2) := dk_16 100 (dk_at dksX4_ends_0 3 rfl rfl)
theorem dX4_ends_5 : decode cX4_ends 5 = .ok (.if_icmp .ge 16, 3) := dk_162 0 16 (dk_at dksX4_ends_0 5 rfl rfl)
theorem dX4_ends_8 : decode cX4_ends 8 = .ok (.aload_n 0, 1) := dk_42 (dk_at dksX4_ends_0 8 rfl rfl)
theorem dX4_ends_9 : decode cX4_ends 9 = .ok (.getfield 73, 3) := dk_180 0 73 (dk_at dksX4_ends_0 9 rfl rfl)
theorem dX4_ends_12 : decode cX4_ends 12 = .ok (.iload_n 1, 1) := dk_27 (dk_at dksX4_ends_0 12 rfl rfl)
theorem dX4_ends_13 : decode cX4_ends 13 = .ok (.lconst 0, 1) := dk_9 (dk_at dksX4_ends_0 13 rfl rfl)
theorem dX4_ends_14 : decode cX4_ends 14 = .ok (.lastore, 1) := dk_80 (dk_at dksX4_ends_0 14 rfl rfl)
theorem dX4_ends_15 : decode cX4_ends 15 = .ok (.iinc 1 1, 3) := dk_132 1 1 (dk_at dksX4_ends_0 15 rfl rfl)
theorem dX4_ends_18 : decode cX4_ends 18 = .ok (.goto (-16), 3) := dk_167 255 240 (dk_at dksX4_ends_0 18 rfl rfl)
theorem dX4_ends_21 : decode cX4_ends 21 = .ok (.aload_n 0, 1) := dk_42 (dk_at dksX4_ends_0 21 rfl rfl)
theorem dX4_ends_22 : decode cX4_ends 22 = .ok (.invokevirtual 190, 3) := dk_182 0 190 (dk_at dksX4_ends_1 0 rfl rfl)
theorem dX4_ends_25 : decode cX4_ends 25 = .ok (.aload_n 0, 1) := dk_42 (dk_at dksX4_ends_1 3 rfl rfl)
theorem dX4_ends_26 : decode cX4_ends 26 = .ok (.invokevirtual 193, 3) := dk_182 0 193 (dk_at dksX4_ends_1 4 rfl rfl)
theorem dX4_ends_29 : decode cX4_ends 29 = .ok (.ifCond .eq 94, 3) := dk_153 0 94 (dk_at dksX4_ends_1 7 rfl rfl)
theorem dX4_ends_32 : decode cX4_ends 32 = .ok (.aload_n 0, 1) := dk_42 (dk_at dksX4_ends_1 10 rfl rfl)
theorem dX4_ends_33 : decode cX4_ends 33 = .ok (.getfield 7, 3) := dk_180 0 7 (dk_at dksX4_ends_1 11 rfl rfl)
theorem dX4_ends_36 : decode cX4_ends 36 = .ok (.iconst 2, 1) := dk_5 (dk_at dksX4_ends_1 14 rfl rfl)
theorem dX4_ends_37 : decode cX4_ends 37 = .ok (.iaload, 1) := dk_46 (dk_at dksX4_ends_1 15 rfl rfl)
theorem dX4_ends_38 : decode cX4_ends 38 = .ok (.istore_n 1, 1) := dk_60 (dk_at dksX4_ends_1 16 rfl rfl)
theorem dX4_ends_39 : decode cX4_ends 39 = .ok (.aload_n 0, 1) := dk_42 (dk_at dksX4_ends_1 17 rfl rfl)
theorem dX4_ends_40 : decode cX4_ends 40 = .ok (.invokevirtual 196, 3) := dk_182 0 196 (dk_at dksX4_ends_1 18 rfl rfl)
theorem dX4_ends_43 : decode cX4_ends 43 = .ok (.istore_n 2, 1) := dk_61 (dk_at dksX4_ends_1 21 rfl rfl)
theorem dX4_ends_44 : decode cX4_ends 44 = .ok (.aload_n 0, 1) := dk_42 (dk_at dksX4_ends_1 22 rfl rfl)
theorem dX4_ends_45 : decode cX4_ends 45 = .ok (.getfield 73, 3) := dk_180 0 73 (dk_at dksX4_ends_2 0 rfl rfl)
theorem dX4_ends_48 : decode cX4_ends 48 = .ok (.aload_n 0, 1) := dk_42 (dk_at dksX4_ends_2 3 rfl rfl)
theorem dX4_ends_49 : decode cX4_ends 49 = .ok (.getfield 43, 3) := dk_180 0 43 (dk_at dksX4_ends_2 4 rfl rfl)
theorem dX4_ends_52 : decode cX4_ends 52 = .ok (.iload_n 1, 1) := dk_27 (dk_at dksX4_ends_2 7 rfl rfl)
theorem dX4_ends_53 : decode cX4_ends 53 = .ok (.iaload, 1) := dk_46 (dk_at dksX4_ends_2 8 rfl rfl)
theorem dX4_ends_54 : decode cX4_ends 54 = .ok (.dup2, 1) := dk_92 (dk_at dksX4_ends_2 9 rfl rfl)
theorem dX4_ends_55 : decode cX4_ends 55 = .ok (.laload, 1) := dk_47 (dk_at dksX4_ends_2 10 rfl rfl)
theorem dX4_ends_56 : decode cX4_ends 56 = .ok (.ldc2_w 128, 3) := dk_20 0 128 (dk_at dksX4_ends_2 11 rfl rfl)
theorem dX4_ends_59 : decode cX4_ends 59 = .ok (.iload_n 2, 1) := dk_28 (dk_at dksX4_ends_2 14 rfl rfl)
theorem dX4_ends_60 : decode cX4_ends 60 = .ok (.i2l, 1) := dk_133 (dk_at dksX4_ends_2 15 rfl rfl)
theorem dX4_ends_61 : decode cX4_ends 61 = .ok (.lmul, 1) := dk_105 (dk_at dksX4_ends_2 16 rfl rfl)
theorem dX4_ends_62 : decode cX4_ends 62 = .ok (.ladd, 1) := dk_97 (dk_at dksX4_ends_2 17 rfl rfl)
theorem dX4_ends_63 : decode cX4_ends 63 = .ok (.lastore, 1) := dk_80 (dk_at dksX4_ends_2 18 rfl rfl)
theorem dX4_ends_64 : decode cX4_ends 64 = .ok (.iconst 1, 1) := dk_4 (dk_at dksX4_ends_2 19 rfl rfl)
theorem dX4_ends_65 : decode cX4_ends 65 = .ok (.istore_n 3, 1) := dk_62 (dk_at dksX4_ends_2 20 rfl rfl)
theorem dX4_ends_66 : decode cX4_ends 66 = .ok (.iload_n 3, 1) := dk_29 (dk_at dksX4_ends_2 21 rfl rfl)
theorem dX4_ends_67 : decode cX4_ends 67 = .ok (.aload_n 0, 1) := dk_42 (dk_at dksX4_ends_2 22 rfl rfl)
theorem dX4_ends_68 : decode cX4_ends 68 = .ok (.getfield 7, 3) := dk_180 0 7 (dk_at dksX4_ends_3 0 rfl rfl)
theorem dX4_ends_71 : decode cX4_ends 71 = .ok (.bipush 6, 2) := dk_16 6 (dk_at dksX4_ends_3 3 rfl rfl)
theorem dX4_ends_73 : decode cX4_ends 73 = .ok (.iaload, 1) := dk_46 (dk_at dksX4_ends_3 5 rfl rfl)
theorem dX4_ends_74 : decode cX4_ends 74 = .ok (.if_icmp .gt 46, 3) := dk_163 0 46 (dk_at dksX4_ends_3 6 rfl rfl)
theorem dX4_ends_77 : decode cX4_ends 77 = .ok (.aload_n 0, 1) := dk_42 (dk_at dksX4_ends_3 9 rfl rfl)
theorem dX4_ends_78 : decode cX4_ends 78 = .ok (.getfield 43, 3) := dk_180 0 43 (dk_at dksX4_ends_3 10 rfl rfl)
theorem dX4_ends_81 : decode cX4_ends 81 = .ok (.iload_n 1, 1) := dk_27 (dk_at dksX4_ends_3 13 rfl rfl)
theorem dX4_ends_82 : decode cX4_ends 82 = .ok (.iaload, 1) := dk_46 (dk_at dksX4_ends_3 14 rfl rfl)
theorem dX4_ends_83 : decode cX4_ends 83 = .ok (.aload_n 0, 1) := dk_42 (dk_at dksX4_ends_3 15 rfl rfl)
theorem dX4_ends_84 : decode cX4_ends 84 = .ok (.getfield 46, 3) := dk_180 0 46 (dk_at dksX4_ends_3 16 rfl rfl)
theorem dX4_ends_87 : decode cX4_ends 87 = .ok (.iload_n 1, 1) := dk_27 (dk_at dksX4_ends_3 19 rfl rfl)
theorem dX4_ends_88 : decode cX4_ends 88 = .ok (.iconst 1, 1) := dk_4 (dk_at dksX4_ends_3 20 rfl rfl)
theorem dX4_ends_89 : decode cX4_ends 89 = .ok (.isub, 1) := dk_100 (dk_at dksX4_ends_3 21 rfl rfl)
theorem dX4_ends_90 : decode cX4_ends 90 = .ok (.iaload, 1) := dk_46 (dk_at dksX4_ends_3 22 rfl rfl)
theorem dX4_ends_91 : decode cX4_ends 91 = .ok (.iload_n 3, 1) := dk_29 (dk_at dksX4_ends_3 23 rfl rfl)
theorem dX4_ends_92 : decode cX4_ends 92 = .ok (.invokestatic 173, 3) := dk_184 0 173 (dk_at dksX4_ends_4 0 rfl rfl)
theorem dX4_ends_95 : decode cX4_ends 95 = .ok (.istore 4, 2) := dk_54 4 (dk_at dksX4_ends_4 3 rfl rfl)
theorem dX4_ends_97 : decode cX4_ends 97 = .ok (.iload 4, 2) := dk_21 4 (dk_at dksX4_ends_4 5 rfl rfl)
theorem dX4_ends_99 : decode cX4_ends 99 = .ok (.ifCond .lt 15, 3) := dk_155 0 15 (dk_at dksX4_ends_4 7 rfl rfl)
theorem dX4_ends_102 : decode cX4_ends 102 = .ok (.aload_n 0, 1) := dk_42 (dk_at dksX4_ends_4 10 rfl rfl)
theorem dX4_ends_103 : decode cX4_ends 103 = .ok (.getfield 73, 3) := dk_180 0 73 (dk_at dksX4_ends_4 11 rfl rfl)
theorem dX4_ends_106 : decode cX4_ends 106 = .ok (.iload 4, 2) := dk_21 4 (dk_at dksX4_ends_4 14 rfl rfl)
theorem dX4_ends_108 : decode cX4_ends 108 = .ok (.dup2, 1) := dk_92 (dk_at dksX4_ends_4 16 rfl rfl)
theorem dX4_ends_109 : decode cX4_ends 109 = .ok (.laload, 1) := dk_47 (dk_at dksX4_ends_4 17 rfl rfl)
theorem dX4_ends_110 : decode cX4_ends 110 = .ok (.iload_n 2, 1) := dk_28 (dk_at dksX4_ends_4 18 rfl rfl)
theorem dX4_ends_111 : decode cX4_ends 111 = .ok (.i2l, 1) := dk_133 (dk_at dksX4_ends_4 19 rfl rfl)
theorem dX4_ends_112 : decode cX4_ends 112 = .ok (.ladd, 1) := dk_97 (dk_at dksX4_ends_4 20 rfl rfl)
theorem dX4_ends_113 : decode cX4_ends 113 = .ok (.lastore, 1) := dk_80 (dk_at dksX4_ends_4 21 rfl rfl)
theorem dX4_ends_114 : decode cX4_ends 114 = .ok (.iinc 3 1, 3) := dk_132 3 1 (dk_at dksX4_ends_5 0 rfl rfl)
theorem dX4_ends_117 : decode cX4_ends 117 = .ok (.goto (-51), 3) := dk_167 255 205 (dk_at dksX4_ends_5 3 rfl rfl)
theorem dX4_ends_120 : decode cX4_ends 120 = .ok (.goto (-95), 3) := dk_167 255 161 (dk_at dksX4_ends_5 6 rfl rfl)
theorem dX4_ends_123 : decode cX4_ends 123 = .ok (.aload_n 0, 1) := dk_42 (dk_at dksX4_ends_5 9 rfl rfl)
theorem dX4_ends_124 : decode cX4_ends 124 = .ok (.lconst 0, 1) := dk_9 (dk_at dksX4_ends_5 10 rfl rfl)
theorem dX4_ends_125 : decode cX4_ends 125 = .ok (.putfield 221, 3) := dk_181 0 221 (dk_at dksX4_ends_5 11 rfl rfl)
theorem dX4_ends_128 : decode cX4_ends 128 = .ok (.iconst 0, 1) := dk_3 (dk_at dksX4_ends_5 14 rfl rfl)
theorem dX4_ends_129 : decode cX4_ends 129 = .ok (.istore_n 1, 1) := dk_60 (dk_at dksX4_ends_5 15 rfl rfl)
theorem dX4_ends_130 : decode cX4_ends 130 = .ok (.iload_n 1, 1) := dk_27 (dk_at dksX4_ends_5 16 rfl rfl)
theorem dX4_ends_131 : decode cX4_ends 131 = .ok (.bipush 100, 2) := dk_16 100 (dk_at dksX4_ends_5 17 rfl rfl)
theorem dX4_ends_133 : decode cX4_ends 133 = .ok (.if_icmp .ge 141, 3) := dk_162 0 141 (dk_at dksX4_ends_5 19 rfl rfl)
theorem dX4_ends_136 : decode cX4_ends 136 = .ok (.iconst 0, 1) := dk_3 (dk_at dksX4_ends_5 22 rfl rfl)
theorem dX4_ends_137 : decode cX4_ends 137 = .ok (.istore_n 2, 1) := dk_61 (dk_at dksX4_ends_5 23 rfl rfl)
theorem dX4_ends_138 : decode cX4_ends 138 = .ok (.iload_n 2, 1) := dk_28 (dk_at dksX4_ends_6 0 rfl rfl)
theorem dX4_ends_139 : decode cX4_ends 139 = .ok (.aload_n 0, 1) := dk_42 (dk_at dksX4_ends_6 1 rfl rfl)
theorem dX4_ends_140 : decode cX4_ends 140 = .ok (.getfield 206, 3) := dk_180 0 206 (dk_at dksX4_ends_6 2 rfl rfl)
theorem dX4_ends_143 : decode cX4_ends 143 = .ok (.if_icmp .ge 52, 3) := dk_162 0 52 (dk_at dksX4_ends_6 5 rfl rfl)
theorem dX4_ends_146 : decode cX4_ends 146 = .ok (.aload_n 0, 1) := dk_42 (dk_at dksX4_ends_6 8 rfl rfl)
theorem dX4_ends_147 : decode cX4_ends 147 = .ok (.getfield 73, 3) := dk_180 0 73 (dk_at dksX4_ends_6 9 rfl rfl)
theorem dX4_ends_150 : decode cX4_ends 150 = .ok (.iload_n 1, 1) := dk_27 (dk_at dksX4_ends_6 12 rfl rfl)
theorem dX4_ends_151 : decode cX4_ends 151 = .ok (.dup2, 1) := dk_92 (dk_at dksX4_ends_6 13 rfl rfl)
theorem dX4_ends_152 : decode cX4_ends 152 = .ok (.laload, 1) := dk_47 (dk_at dksX4_ends_6 14 rfl rfl)
theorem dX4_ends_153 : decode cX4_ends 153 = .ok (.aload_n 0, 1) := dk_42 (dk_at dksX4_ends_6 15 rfl rfl)
theorem dX4_ends_154 : decode cX4_ends 154 = .ok (.getfield 73, 3) := dk_180 0 73 (dk_at dksX4_ends_6 16 rfl rfl)
theorem dX4_ends_157 : decode cX4_ends 157 = .ok (.iload_n 1, 1) := dk_27 (dk_at dksX4_ends_6 19 rfl rfl)
theorem dX4_ends_158 : decode cX4_ends 158 = .ok (.laload, 1) := dk_47 (dk_at dksX4_ends_6 20 rfl rfl)
theorem dX4_ends_159 : decode cX4_ends 159 = .ok (.lconst 0, 1) := dk_9 (dk_at dksX4_ends_6 21 rfl rfl)
theorem dX4_ends_160 : decode cX4_ends 160 = .ok (.lcmp, 1) := dk_148 (dk_at dksX4_ends_6 22 rfl rfl)
theorem dX4_ends_161 : decode cX4_ends 161 = .ok (.ifCond .eq 15, 3) := dk_153 0 15 (dk_at dksX4_ends_7 0 rfl rfl)
theorem dX4_ends_164 : decode cX4_ends 164 = .ok (.aload_n 0, 1) := dk_42 (dk_at dksX4_ends_7 3 rfl rfl)
theorem dX4_ends_165 : decode cX4_ends 165 = .ok (.getfield 225, 3) := dk_180 0 225 (dk_at dksX4_ends_7 4 rfl rfl)
theorem dX4_ends_168 : decode cX4_ends 168 = .ok (.iload_n 2, 1) := dk_28 (dk_at dksX4_ends_7 7 rfl rfl)
theorem dX4_ends_169 : decode cX4_ends 169 = .ok (.ishr, 1) := dk_122 (dk_at dksX4_ends_7 8 rfl rfl)
theorem dX4_ends_170 : decode cX4_ends 170 = .ok (.iconst 1, 1) := dk_4 (dk_at dksX4_ends_7 9 rfl rfl)
theorem dX4_ends_171 : decode cX4_ends 171 = .ok (.iand, 1) := dk_126 (dk_at dksX4_ends_7 10 rfl rfl)
theorem dX4_ends_172 : decode cX4_ends 172 = .ok (.iconst 1, 1) := dk_4 (dk_at dksX4_ends_7 11 rfl rfl)
theorem dX4_ends_173 : decode cX4_ends 173 = .ok (.if_icmp .ne 7, 3) := dk_160 0 7 (dk_at dksX4_ends_7 12 rfl rfl)
theorem dX4_ends_176 : decode cX4_ends 176 = .ok (.lconst 1, 1) := dk_10 (dk_at dksX4_ends_7 15 rfl rfl)
theorem dX4_ends_177 : decode cX4_ends 177 = .ok (.goto 10, 3) := dk_167 0 10 (dk_at dksX4_ends_7 16 rfl rfl)
theorem dX4_ends_180 : decode cX4_ends 180 = .ok (.aload_n 0, 1) := dk_42 (dk_at dksX4_ends_7 19 rfl rfl)
theorem dX4_ends_181 : decode cX4_ends 181 = .ok (.iload_n 2, 1) := dk_28 (dk_at dksX4_ends_7 20 rfl rfl)
theorem dX4_ends_182 : decode cX4_ends 182 = .ok (.iload_n 1, 1) := dk_27 (dk_at dksX4_ends_7 21 rfl rfl)
theorem dX4_ends_183 : decode cX4_ends 183 = .ok (.invokevirtual 215, 3) := dk_182 0 215 (dk_at dksX4_ends_8 0 rfl rfl)
theorem dX4_ends_186 : decode cX4_ends 186 = .ok (.i2l, 1) := dk_133 (dk_at dksX4_ends_8 3 rfl rfl)
theorem dX4_ends_187 : decode cX4_ends 187 = .ok (.lmul, 1) := dk_105 (dk_at dksX4_ends_8 4 rfl rfl)
theorem dX4_ends_188 : decode cX4_ends 188 = .ok (.lastore, 1) := dk_80 (dk_at dksX4_ends_8 5 rfl rfl)
theorem dX4_ends_189 : decode cX4_ends 189 = .ok (.iinc 2 1, 3) := dk_132 2 1 (dk_at dksX4_ends_8 6 rfl rfl)
theorem dX4_ends_192 : decode cX4_ends 192 = .ok (.goto (-54), 3) := dk_167 255 202 (dk_at dksX4_ends_8 9 rfl rfl)
theorem dX4_ends_195 : decode cX4_ends 195 = .ok (.iconst 0, 1) := dk_3 (dk_at dksX4_ends_8 12 rfl rfl)
theorem dX4_ends_196 : decode cX4_ends 196 = .ok (.istore_n 2, 1) := dk_61 (dk_at dksX4_ends_8 13 rfl rfl)
theorem dX4_ends_197 : decode cX4_ends 197 = .ok (.iload_n 2, 1) := dk_28 (dk_at dksX4_ends_8 14 rfl rfl)
theorem dX4_ends_198 : decode cX4_ends 198 = .ok (.aload_n 0, 1) := dk_42 (dk_at dksX4_ends_8 15 rfl rfl)
theorem dX4_ends_199 : decode cX4_ends 199 = .ok (.getfield 218, 3) := dk_180 0 218 (dk_at dksX4_ends_8 16 rfl rfl)
theorem dX4_ends_202 : decode cX4_ends 202 = .ok (.if_icmp .ge 51, 3) := dk_162 0 51 (dk_at dksX4_ends_8 19 rfl rfl)
theorem dX4_ends_205 : decode cX4_ends 205 = .ok (.aload_n 0, 1) := dk_42 (dk_at dksX4_ends_8 22 rfl rfl)
theorem dX4_ends_206 : decode cX4_ends 206 = .ok (.getfield 228, 3) := dk_180 0 228 (dk_at dksX4_ends_9 0 rfl rfl)
theorem dX4_ends_209 : decode cX4_ends 209 = .ok (.ifCond .ne 44, 3) := dk_154 0 44 (dk_at dksX4_ends_9 3 rfl rfl)
theorem dX4_ends_212 : decode cX4_ends 212 = .ok (.aload_n 0, 1) := dk_42 (dk_at dksX4_ends_9 6 rfl rfl)
theorem dX4_ends_213 : decode cX4_ends 213 = .ok (.getfield 73, 3) := dk_180 0 73 (dk_at dksX4_ends_9 7 rfl rfl)
theorem dX4_ends_216 : decode cX4_ends 216 = .ok (.iload_n 1, 1) := dk_27 (dk_at dksX4_ends_9 10 rfl rfl)
theorem dX4_ends_217 : decode cX4_ends 217 = .ok (.dup2, 1) := dk_92 (dk_at dksX4_ends_9 11 rfl rfl)
theorem dX4_ends_218 : decode cX4_ends 218 = .ok (.laload, 1) := dk_47 (dk_at dksX4_ends_9 12 rfl rfl)
theorem dX4_ends_219 : decode cX4_ends 219 = .ok (.aload_n 0, 1) := dk_42 (dk_at dksX4_ends_9 13 rfl rfl)
theorem dX4_ends_220 : decode cX4_ends 220 = .ok (.getfield 67, 3) := dk_180 0 67 (dk_at dksX4_ends_9 14 rfl rfl)
theorem dX4_ends_223 : decode cX4_ends 223 = .ok (.iload_n 2, 1) := dk_28 (dk_at dksX4_ends_9 17 rfl rfl)
theorem dX4_ends_224 : decode cX4_ends 224 = .ok (.iaload, 1) := dk_46 (dk_at dksX4_ends_9 18 rfl rfl)
theorem dX4_ends_225 : decode cX4_ends 225 = .ok (.iload_n 1, 1) := dk_27 (dk_at dksX4_ends_9 19 rfl rfl)
theorem dX4_ends_226 : decode cX4_ends 226 = .ok (.if_icmp .ne 16, 3) := dk_160 0 16 (dk_at dksX4_ends_9 20 rfl rfl)
theorem dX4_ends_229 : decode cX4_ends 229 = .ok (.bipush 8, 2) := dk_16 8 (dk_at dksX4_ends_10 0 rfl rfl)
theorem dX4_ends_231 : decode cX4_ends 231 = .ok (.aload_n 0, 1) := dk_42 (dk_at dksX4_ends_10 2 rfl rfl)
theorem dX4_ends_232 : decode cX4_ends 232 = .ok (.getfield 70, 3) := dk_180 0 70 (dk_at dksX4_ends_10 3 rfl rfl)
theorem dX4_ends_235 : decode cX4_ends 235 = .ok (.iload_n 2, 1) := dk_28 (dk_at dksX4_ends_10 6 rfl rfl)
theorem dX4_ends_236 : decode cX4_ends 236 = .ok (.iaload, 1) := dk_46 (dk_at dksX4_ends_10 7 rfl rfl)
theorem dX4_ends_237 : decode cX4_ends 237 = .ok (.isub, 1) := dk_100 (dk_at dksX4_ends_10 8 rfl rfl)
theorem dX4_ends_238 : decode cX4_ends 238 = .ok (.i2l, 1) := dk_133 (dk_at dksX4_ends_10 9 rfl rfl)
theorem dX4_ends_239 : decode cX4_ends 239 = .ok (.goto 6, 3) := dk_167 0 6 (dk_at dksX4_ends_10 10 rfl rfl)
theorem dX4_ends_242 : decode cX4_ends 242 = .ok (.ldc2_w 130, 3) := dk_20 0 130 (dk_at dksX4_ends_10 13 rfl rfl)
theorem dX4_ends_245 : decode cX4_ends 245 = .ok (.lmul, 1) := dk_105 (dk_at dksX4_ends_10 16 rfl rfl)
theorem dX4_ends_246 : decode cX4_ends 246 = .ok (.lastore, 1) := dk_80 (dk_at dksX4_ends_10 17 rfl rfl)
theorem dX4_ends_247 : decode cX4_ends 247 = .ok (.iinc 2 1, 3) := dk_132 2 1 (dk_at dksX4_ends_10 18 rfl rfl)
theorem dX4_ends_250 : decode cX4_ends 250 = .ok (.goto (-53), 3) := dk_167 255 203 (dk_at dksX4_ends_10 21 rfl rfl)
theorem dX4_ends_253 : decode cX4_ends 253 = .ok (.aload_n 0, 1) := dk_42 (dk_at dksX4_ends_11 0 rfl rfl)
theorem dX4_ends_254 : decode cX4_ends 254 = .ok (.dup, 1) := dk_89 (dk_at dksX4_ends_11 1 rfl rfl)
theorem dX4_ends_255 : decode cX4_ends 255 = .ok (.getfield 221, 3) := dk_180 0 221 (dk_at dksX4_ends_11 2 rfl rfl)
theorem dX4_ends_258 : decode cX4_ends 258 = .ok (.aload_n 0, 1) := dk_42 (dk_at dksX4_ends_11 5 rfl rfl)
theorem dX4_ends_259 : decode cX4_ends 259 = .ok (.getfield 73, 3) := dk_180 0 73 (dk_at dksX4_ends_11 6 rfl rfl)
theorem dX4_ends_262 : decode cX4_ends 262 = .ok (.iload_n 1, 1) := dk_27 (dk_at dksX4_ends_11 9 rfl rfl)
theorem dX4_ends_263 : decode cX4_ends 263 = .ok (.laload, 1) := dk_47 (dk_at dksX4_ends_11 10 rfl rfl)
theorem dX4_ends_264 : decode cX4_ends 264 = .ok (.ladd, 1) := dk_97 (dk_at dksX4_ends_11 11 rfl rfl)
theorem dX4_ends_265 : decode cX4_ends 265 = .ok (.putfield 221, 3) := dk_181 0 221 (dk_at dksX4_ends_11 12 rfl rfl)
theorem dX4_ends_268 : decode cX4_ends 268 = .ok (.iinc 1 1, 3) := dk_132 1 1 (dk_at dksX4_ends_11 15 rfl rfl)
theorem dX4_ends_271 : decode cX4_ends 271 = .ok (.goto (-141), 3) := dk_167 255 115 (dk_at dksX4_ends_11 18 rfl rfl)
theorem dX4_ends_274 : decode cX4_ends 274 = .ok (.return_, 1) := dk_177 (dk_at dksX4_ends_11 21 rfl rfl)
abbrev cX4_lowest : ByteArray := prog_14_method_41_code
def yX4_lowest : MethodName := ⟨RX4, "lowest", "(JJI)J"⟩
def dkwX4_lowest_1 : List UInt8 := [22, 9, 55, 7, 167, 255, 234, 21, 4, 154, 0, 10, 30, 22, 5, 109, 167, 0, 7, 32, 22, 5, 109, 173]
abbrev dktX4_lowest_1 : List UInt8 := dkwX4_lowest_1 ++ []
def dkwX4_lowest_0 : List UInt8 := [30, 55, 5, 32, 55, 7, 22, 7, 9, 148, 153, 0, 21, 22, 5, 22, 7, 113, 55, 9, 22, 7, 55, 5]
abbrev dktX4_lowest_0 : List UInt8 := dkwX4_lowest_0 ++ dktX4_lowest_1
theorem dksX4_lowest_0 : cX4_lowest.data.toList.drop 0 = dktX4_lowest_0 := by decide +kernel
theorem dksX4_lowest_1 : cX4_lowest.data.toList.drop 24 = dktX4_lowest_1 := dk_seg dksX4_lowest_0 24 rfl rfl
theorem dX4_lowest_0 : decode cX4_lowest 0 = .ok (.lload_n 0, 1) := dk_30 (dk_at dksX4_lowest_0 0 rfl rfl)
theorem dX4_lowest_1 : decode cX4_lowest 1 = .ok (.lstore 5, 2) := dk_55 5 (dk_at dksX4_lowest_0 1 rfl rfl)
theorem dX4_lowest_3 : decode cX4_lowest 3 = .ok (.lload_n 2, 1) := dk_32 (dk_at dksX4_lowest_0 3 rfl rfl)
theorem dX4_lowest_4 : decode cX4_lowest 4 = .ok (.lstore 7, 2) := dk_55 7 (dk_at dksX4_lowest_0 4 rfl rfl)
theorem dX4_lowest_6 : decode cX4_lowest 6 = .ok (.lload 7, 2) := dk_22 7 (dk_at dksX4_lowest_0 6 rfl rfl)
theorem dX4_lowest_8 : decode cX4_lowest 8 = .ok (.lconst 0, 1) := dk_9 (dk_at dksX4_lowest_0 8 rfl rfl)
theorem dX4_lowest_9 : decode cX4_lowest 9 = .ok (.lcmp, 1) := dk_148 (dk_at dksX4_lowest_0 9 rfl rfl)
theorem dX4_lowest_10 : decode cX4_lowest 10 = .ok (.ifCond .eq 21, 3) := dk_153 0 21 (dk_at dksX4_lowest_0 10 rfl rfl)
theorem dX4_lowest_13 : decode cX4_lowest 13 = .ok (.lload 5, 2) := dk_22 5 (dk_at dksX4_lowest_0 13 rfl rfl)
theorem dX4_lowest_15 : decode cX4_lowest 15 = .ok (.lload 7, 2) := dk_22 7 (dk_at dksX4_lowest_0 15 rfl rfl)
theorem dX4_lowest_17 : decode cX4_lowest 17 = .ok (.lrem, 1) := dk_113 (dk_at dksX4_lowest_0 17 rfl rfl)
theorem dX4_lowest_18 : decode cX4_lowest 18 = .ok (.lstore 9, 2) := dk_55 9 (dk_at dksX4_lowest_0 18 rfl rfl)
theorem dX4_lowest_20 : decode cX4_lowest 20 = .ok (.lload 7, 2) := dk_22 7 (dk_at dksX4_lowest_0 20 rfl rfl)
theorem dX4_lowest_22 : decode cX4_lowest 22 = .ok (.lstore 5, 2) := dk_55 5 (dk_at dksX4_lowest_0 22 rfl rfl)
theorem dX4_lowest_24 : decode cX4_lowest 24 = .ok (.lload 9, 2) := dk_22 9 (dk_at dksX4_lowest_1 0 rfl rfl)
theorem dX4_lowest_26 : decode cX4_lowest 26 = .ok (.lstore 7, 2) := dk_55 7 (dk_at dksX4_lowest_1 2 rfl rfl)
theorem dX4_lowest_28 : decode cX4_lowest 28 = .ok (.goto (-22), 3) := dk_167 255 234 (dk_at dksX4_lowest_1 4 rfl rfl)
theorem dX4_lowest_31 : decode cX4_lowest 31 = .ok (.iload 4, 2) := dk_21 4 (dk_at dksX4_lowest_1 7 rfl rfl)
theorem dX4_lowest_33 : decode cX4_lowest 33 = .ok (.ifCond .ne 10, 3) := dk_154 0 10 (dk_at dksX4_lowest_1 9 rfl rfl)
theorem dX4_lowest_36 : decode cX4_lowest 36 = .ok (.lload_n 0, 1) := dk_30 (dk_at dksX4_lowest_1 12 rfl rfl)
theorem dX4_lowest_37 : decode cX4_lowest 37 = .ok (.lload 5, 2) := dk_22 5 (dk_at dksX4_lowest_1 13 rfl rfl)
theorem dX4_lowest_39 : decode cX4_lowest 39 = .ok (.ldiv, 1) := dk_109 (dk_at dksX4_lowest_1 15 rfl rfl)
theorem dX4_lowest_40 : decode cX4_lowest 40 = .ok (.goto 7, 3) := dk_167 0 7 (dk_at dksX4_lowest_1 16 rfl rfl)
theorem dX4_lowest_43 : decode cX4_lowest 43 = .ok (.lload_n 2, 1) := dk_32 (dk_at dksX4_lowest_1 19 rfl rfl)
theorem dX4_lowest_44 : decode cX4_lowest 44 = .ok (.lload 5, 2) := dk_22 5 (dk_at dksX4_lowest_1 20 rfl rfl)
theorem dX4_lowest_46 : decode cX4_lowest 46 = .ok (.ldiv, 1) := dk_109 (dk_at dksX4_lowest_1 22 rfl rfl)
theorem dX4_lowest_47 : decode cX4_lowest 47 = .ok (.lreturn, 1) := dk_173 (dk_at dksX4_lowest_1 23 rfl rfl)
abbrev cX4_where : ByteArray := prog_14_method_43_code
def yX4_where : MethodName := ⟨RX4, "where", "(I)I"⟩
def dkwX4_where_2 : List UInt8 := [120, 167, 0, 4, 3, 128, 61, 132, 3, 1, 167, 255, 221, 28, 172]
abbrev dktX4_where_2 : List UInt8 := dkwX4_where_2 ++ []
def dkwX4_where_1 : List UInt8 := [16, 10, 162, 0, 35, 28, 42, 180, 0, 73, 16, 10, 27, 104, 29, 96, 47, 9, 148, 158, 0, 9, 4, 29]
abbrev dktX4_where_1 : List UInt8 := dkwX4_where_1 ++ dktX4_where_2
def dkwX4_where_0 : List UInt8 := [27, 133, 9, 20, 0, 111, 184, 0, 100, 154, 0, 5, 2, 172, 42, 182, 0, 234, 3, 61, 3, 62, 29]
abbrev dktX4_where_0 : List UInt8 := dkwX4_where_0 ++ dktX4_where_1
theorem dksX4_where_0 : cX4_where.data.toList.drop 0 = dktX4_where_0 := by decide +kernel
theorem dksX4_where_1 : cX4_where.data.toList.drop 23 = dktX4_where_1 := dk_seg dksX4_where_0 23 rfl rfl
theorem dksX4_where_2 : cX4_where.data.toList.drop 47 = dktX4_where_2 := dk_seg dksX4_where_1 24 rfl rfl
theorem dX4_where_0 : decode cX4_where 0 = .ok (.iload_n 1, 1) := dk_27 (dk_at dksX4_where_0 0 rfl rfl)
theorem dX4_where_1 : decode cX4_where 1 = .ok (.i2l, 1) := dk_133 (dk_at dksX4_where_0 1 rfl rfl)
theorem dX4_where_2 : decode cX4_where 2 = .ok (.lconst 0, 1) := dk_9 (dk_at dksX4_where_0 2 rfl rfl)
theorem dX4_where_3 : decode cX4_where 3 = .ok (.ldc2_w 111, 3) := dk_20 0 111 (dk_at dksX4_where_0 3 rfl rfl)
theorem dX4_where_6 : decode cX4_where 6 = .ok (.invokestatic 100, 3) := dk_184 0 100 (dk_at dksX4_where_0 6 rfl rfl)
theorem dX4_where_9 : decode cX4_where 9 = .ok (.ifCond .ne 5, 3) := dk_154 0 5 (dk_at dksX4_where_0 9 rfl rfl)
theorem dX4_where_12 : decode cX4_where 12 = .ok (.iconst (-1), 1) := dk_2 (dk_at dksX4_where_0 12 rfl rfl)
theorem dX4_where_13 : decode cX4_where 13 = .ok (.ireturn, 1) := dk_172 (dk_at dksX4_where_0 13 rfl rfl)
theorem dX4_where_14 : decode cX4_where 14 = .ok (.aload_n 0, 1) := dk_42 (dk_at dksX4_where_0 14 rfl rfl)
theorem dX4_where_15 : decode cX4_where 15 = .ok (.invokevirtual 234, 3) := dk_182 0 234 (dk_at dksX4_where_0 15 rfl rfl)
theorem dX4_where_18 : decode cX4_where 18 = .ok (.iconst 0, 1) := dk_3 (dk_at dksX4_where_0 18 rfl rfl)
theorem dX4_where_19 : decode cX4_where 19 = .ok (.istore_n 2, 1) := dk_61 (dk_at dksX4_where_0 19 rfl rfl)
theorem dX4_where_20 : decode cX4_where 20 = .ok (.iconst 0, 1) := dk_3 (dk_at dksX4_where_0 20 rfl rfl)
theorem dX4_where_21 : decode cX4_where 21 = .ok (.istore_n 3, 1) := dk_62 (dk_at dksX4_where_0 21 rfl rfl)
theorem dX4_where_22 : decode cX4_where 22 = .ok (.iload_n 3, 1) := dk_29 (dk_at dksX4_where_0 22 rfl rfl)
theorem dX4_where_23 : decode cX4_where 23 = .ok (.bipush 10, 2) := dk_16 10 (dk_at dksX4_where_1 0 rfl rfl)
theorem dX4_where_25 : decode cX4_where 25 = .ok (.if_icmp .ge 35, 3) := dk_162 0 35 (dk_at dksX4_where_1 2 rfl rfl)
theorem dX4_where_28 : decode cX4_where 28 = .ok (.iload_n 2, 1) := dk_28 (dk_at dksX4_where_1 5 rfl rfl)
theorem dX4_where_29 : decode cX4_where 29 = .ok (.aload_n 0, 1) := dk_42 (dk_at dksX4_where_1 6 rfl rfl)
theorem dX4_where_30 : decode cX4_where 30 = .ok (.getfield 73, 3) := dk_180 0 73 (dk_at dksX4_where_1 7 rfl rfl)
theorem dX4_where_33 : decode cX4_where 33 = .ok (.bipush 10, 2) := dk_16 10 (dk_at dksX4_where_1 10 rfl rfl)
theorem dX4_where_35 : decode cX4_where 35 = .ok (.iload_n 1, 1) := dk_27 (dk_at dksX4_where_1 12 rfl rfl)
theorem dX4_where_36 : decode cX4_where 36 = .ok (.imul, 1) := dk_104 (dk_at dksX4_where_1 13 rfl rfl)
theorem dX4_where_37 : decode cX4_where 37 = .ok (.iload_n 3, 1) := dk_29 (dk_at dksX4_where_1 14 rfl rfl)
theorem dX4_where_38 : decode cX4_where 38 = .ok (.iadd, 1) := dk_96 (dk_at dksX4_where_1 15 rfl rfl)
theorem dX4_where_39 : decode cX4_where 39 = .ok (.laload, 1) := dk_47 (dk_at dksX4_where_1 16 rfl rfl)
theorem dX4_where_40 : decode cX4_where 40 = .ok (.lconst 0, 1) := dk_9 (dk_at dksX4_where_1 17 rfl rfl)
theorem dX4_where_41 : decode cX4_where 41 = .ok (.lcmp, 1) := dk_148 (dk_at dksX4_where_1 18 rfl rfl)
theorem dX4_where_42 : decode cX4_where 42 = .ok (.ifCond .le 9, 3) := dk_158 0 9 (dk_at dksX4_where_1 19 rfl rfl)
theorem dX4_where_45 : decode cX4_where 45 = .ok (.iconst 1, 1) := dk_4 (dk_at dksX4_where_1 22 rfl rfl)
theorem dX4_where_46 : decode cX4_where 46 = .ok (.iload_n 3, 1) := dk_29 (dk_at dksX4_where_1 23 rfl rfl)
theorem dX4_where_47 : decode cX4_where 47 = .ok (.ishl, 1) := dk_120 (dk_at dksX4_where_2 0 rfl rfl)
theorem dX4_where_48 : decode cX4_where 48 = .ok (.goto 4, 3) := dk_167 0 4 (dk_at dksX4_where_2 1 rfl rfl)
theorem dX4_where_51 : decode cX4_where 51 = .ok (.iconst 0, 1) := dk_3 (dk_at dksX4_where_2 4 rfl rfl)
theorem dX4_where_52 : decode cX4_where 52 = .ok (.ior, 1) := dk_128 (dk_at dksX4_where_2 5 rfl rfl)
theorem dX4_where_53 : decode cX4_where 53 = .ok (.istore_n 2, 1) := dk_61 (dk_at dksX4_where_2 6 rfl rfl)
theorem dX4_where_54 : decode cX4_where 54 = .ok (.iinc 3 1, 3) := dk_132 3 1 (dk_at dksX4_where_2 7 rfl rfl)
theorem dX4_where_57 : decode cX4_where 57 = .ok (.goto (-35), 3) := dk_167 255 221 (dk_at dksX4_where_2 10 rfl rfl)
theorem dX4_where_60 : decode cX4_where 60 = .ok (.iload_n 2, 1) := dk_28 (dk_at dksX4_where_2 13 rfl rfl)
theorem dX4_where_61 : decode cX4_where 61 = .ok (.ireturn, 1) := dk_172 (dk_at dksX4_where_2 14 rfl rfl)
abbrev cX4_count : ByteArray := prog_14_method_44_code
def yX4_count : MethodName := ⟨RX4, "count", "(I)I"⟩
def dkwX4_count_5 : List UInt8 := [180, 0, 206, 167, 0, 16, 27, 6, 160, 0, 10, 42, 180, 0, 218, 167, 0, 4, 28, 172]
abbrev dktX4_count_5 : List UInt8 := dkwX4_count_5 ++ []
def dkwX4_count_4 : List UInt8 := [158, 0, 7, 4, 167, 0, 4, 3, 96, 61, 132, 3, 1, 167, 255, 228, 27, 5, 160, 0, 10, 42]
abbrev dktX4_count_4 : List UInt8 := dkwX4_count_4 ++ dktX4_count_5
def dkwX4_count_3 : List UInt8 := [160, 0, 40, 42, 182, 0, 234, 3, 62, 29, 16, 100, 162, 0, 28, 28, 42, 180, 0, 73, 29, 47, 9, 148]
abbrev dktX4_count_3 : List UInt8 := dkwX4_count_3 ++ dktX4_count_4
def dkwX4_count_2 : List UInt8 := [42, 180, 0, 16, 29, 46, 158, 0, 7, 4, 167, 0, 4, 3, 96, 61, 132, 3, 1, 167, 255, 207, 27, 7]
abbrev dktX4_count_2 : List UInt8 := dkwX4_count_2 ++ dktX4_count_3
def dkwX4_count_1 : List UInt8 := [27, 5, 162, 0, 44, 28, 27, 154, 0, 12, 42, 180, 0, 13, 29, 46, 156, 0, 17, 27, 4, 160, 0, 16]
abbrev dktX4_count_1 : List UInt8 := dkwX4_count_1 ++ dktX4_count_2
def dkwX4_count_0 : List UInt8 := [27, 133, 9, 20, 0, 243, 184, 0, 100, 154, 0, 5, 2, 172, 3, 61, 4, 62, 29, 16, 7, 162, 0, 49]
abbrev dktX4_count_0 : List UInt8 := dkwX4_count_0 ++ dktX4_count_1
theorem dksX4_count_0 : cX4_count.data.toList.drop 0 = dktX4_count_0 := by decide +kernel
theorem dksX4_count_1 : cX4_count.data.toList.drop 24 = dktX4_count_1 := dk_seg dksX4_count_0 24 rfl rfl
theorem dksX4_count_2 : cX4_count.data.toList.drop 48 = dktX4_count_2 := dk_seg dksX4_count_1 24 rfl rfl
theorem dksX4_count_3 : cX4_count.data.toList.drop 72 = dktX4_count_3 := dk_seg dksX4_count_2 24 rfl rfl
theorem dksX4_count_4 : cX4_count.data.toList.drop 96 = dktX4_count_4 := dk_seg dksX4_count_3 24 rfl rfl
theorem dksX4_count_5 : cX4_count.data.toList.drop 118 = dktX4_count_5 := dk_seg dksX4_count_4 22 rfl rfl
theorem dX4_count_0 : decode cX4_count 0 = .ok (.iload_n 1, 1) := dk_27 (dk_at dksX4_count_0 0 rfl rfl)
theorem dX4_count_1 : decode cX4_count 1 = .ok (.i2l, 1) := dk_133 (dk_at dksX4_count_0 1 rfl rfl)
theorem dX4_count_2 : decode cX4_count 2 = .ok (.lconst 0, 1) := dk_9 (dk_at dksX4_count_0 2 rfl rfl)
theorem dX4_count_3 : decode cX4_count 3 = .ok (.ldc2_w 243, 3) := dk_20 0 243 (dk_at dksX4_count_0 3 rfl rfl)
theorem dX4_count_6 : decode cX4_count 6 = .ok (.invokestatic 100, 3) := dk_184 0 100 (dk_at dksX4_count_0 6 rfl rfl)
theorem dX4_count_9 : decode cX4_count 9 = .ok (.ifCond .ne 5, 3) := dk_154 0 5 (dk_at dksX4_count_0 9 rfl rfl)
theorem dX4_count_12 : decode cX4_count 12 = .ok (.iconst (-1), 1) := dk_2 (dk_at dksX4_count_0 12 rfl rfl)
theorem dX4_count_13 : decode cX4_count 13 = .ok (.ireturn, 1) := dk_172 (dk_at dksX4_count_0 13 rfl rfl)
theorem dX4_count_14 : decode cX4_count 14 = .ok (.iconst 0, 1) := dk_3 (dk_at dksX4_count_0 14 rfl rfl)
theorem dX4_count_15 : decode cX4_count 15 = .ok (.istore_n 2, 1) := dk_61 (dk_at dksX4_count_0 15 rfl rfl)
theorem dX4_count_16 : decode cX4_count 16 = .ok (.iconst 1, 1) := dk_4 (dk_at dksX4_count_0 16 rfl rfl)
theorem dX4_count_17 : decode cX4_count 17 = .ok (.istore_n 3, 1) := dk_62 (dk_at dksX4_count_0 17 rfl rfl)
theorem dX4_count_18 : decode cX4_count 18 = .ok (.iload_n 3, 1) := dk_29 (dk_at dksX4_count_0 18 rfl rfl)
theorem dX4_count_19 : decode cX4_count 19 = .ok (.bipush 7, 2) := dk_16 7 (dk_at dksX4_count_0 19 rfl rfl)
theorem dX4_count_21 : decode cX4_count 21 = .ok (.if_icmp .ge 49, 3) := dk_162 0 49 (dk_at dksX4_count_0 21 rfl rfl)
theorem dX4_count_24 : decode cX4_count 24 = .ok (.iload_n 1, 1) := dk_27 (dk_at dksX4_count_1 0 rfl rfl)
theorem dX4_count_25 : decode cX4_count 25 = .ok (.iconst 2, 1) := dk_5 (dk_at dksX4_count_1 1 rfl rfl)
theorem dX4_count_26 : decode cX4_count 26 = .ok (.if_icmp .ge 44, 3) := dk_162 0 44 (dk_at dksX4_count_1 2 rfl rfl)
theorem dX4_count_29 : decode cX4_count 29 = .ok (.iload_n 2, 1) := dk_28 (dk_at dksX4_count_1 5 rfl rfl)
theorem dX4_count_30 : decode cX4_count 30 = .ok (.iload_n 1, 1) := dk_27 (dk_at dksX4_count_1 6 rfl rfl)
theorem dX4_count_31 : decode cX4_count 31 = .ok (.ifCond .ne 12, 3) := dk_154 0 12 (dk_at dksX4_count_1 7 rfl rfl)
theorem dX4_count_34 : decode cX4_count 34 = .ok (.aload_n 0, 1) := dk_42 (dk_at dksX4_count_1 10 rfl rfl)
theorem dX4_count_35 : decode cX4_count 35 = .ok (.getfield 13, 3) := dk_180 0 13 (dk_at dksX4_count_1 11 rfl rfl)
theorem dX4_count_38 : decode cX4_count 38 = .ok (.iload_n 3, 1) := dk_29 (dk_at dksX4_count_1 14 rfl rfl)
theorem dX4_count_39 : decode cX4_count 39 = .ok (.iaload, 1) := dk_46 (dk_at dksX4_count_1 15 rfl rfl)
theorem dX4_count_40 : decode cX4_count 40 = .ok (.ifCond .ge 17, 3) := dk_156 0 17 (dk_at dksX4_count_1 16 rfl rfl)
theorem dX4_count_43 : decode cX4_count 43 = .ok (.iload_n 1, 1) := dk_27 (dk_at dksX4_count_1 19 rfl rfl)
theorem dX4_count_44 : decode cX4_count 44 = .ok (.iconst 1, 1) := dk_4 (dk_at dksX4_count_1 20 rfl rfl)
theorem dX4_count_45 : decode cX4_count 45 = .ok (.if_icmp .ne 16, 3) := dk_160 0 16 (dk_at dksX4_count_1 21 rfl rfl)
theorem dX4_count_48 : decode cX4_count 48 = .ok (.aload_n 0, 1) := dk_42 (dk_at dksX4_count_2 0 rfl rfl)
theorem dX4_count_49 : decode cX4_count 49 = .ok (.getfield 16, 3) := dk_180 0 16 (dk_at dksX4_count_2 1 rfl rfl)
theorem dX4_count_52 : decode cX4_count 52 = .ok (.iload_n 3, 1) := dk_29 (dk_at dksX4_count_2 4 rfl rfl)
theorem dX4_count_53 : decode cX4_count 53 = .ok (.iaload, 1) := dk_46 (dk_at dksX4_count_2 5 rfl rfl)
theorem dX4_count_54 : decode cX4_count 54 = .ok (.ifCond .le 7, 3) := dk_158 0 7 (dk_at dksX4_count_2 6 rfl rfl)
theorem dX4_count_57 : decode cX4_count 57 = .ok (.iconst 1, 1) := dk_4 (dk_at dksX4_count_2 9 rfl rfl)
theorem dX4_count_58 : decode cX4_count 58 = .ok (.goto 4, 3) := dk_167 0 4 (dk_at dksX4_count_2 10 rfl rfl)
theorem dX4_count_61 : decode cX4_count 61 = .ok (.iconst 0, 1) := dk_3 (dk_at dksX4_count_2 13 rfl rfl)
theorem dX4_count_62 : decode cX4_count 62 = .ok (.iadd, 1) := dk_96 (dk_at dksX4_count_2 14 rfl rfl)
theorem dX4_count_63 : decode cX4_count 63 = .ok (.istore_n 2, 1) := dk_61 (dk_at dksX4_count_2 15 rfl rfl)
theorem dX4_count_64 : decode cX4_count 64 = .ok (.iinc 3 1, 3) := dk_132 3 1 (dk_at dksX4_count_2 16 rfl rfl)
theorem dX4_count_67 : decode cX4_count 67 = .ok (.goto (-49), 3) := dk_167 255 207 (dk_at dksX4_count_2 19 rfl rfl)
theorem dX4_count_70 : decode cX4_count 70 = .ok (.iload_n 1, 1) := dk_27 (dk_at dksX4_count_2 22 rfl rfl)
theorem dX4_count_71 : decode cX4_count 71 = .ok (.iconst 4, 1) := dk_7 (dk_at dksX4_count_2 23 rfl rfl)
theorem dX4_count_72 : decode cX4_count 72 = .ok (.if_icmp .ne 40, 3) := dk_160 0 40 (dk_at dksX4_count_3 0 rfl rfl)
theorem dX4_count_75 : decode cX4_count 75 = .ok (.aload_n 0, 1) := dk_42 (dk_at dksX4_count_3 3 rfl rfl)
theorem dX4_count_76 : decode cX4_count 76 = .ok (.invokevirtual 234, 3) := dk_182 0 234 (dk_at dksX4_count_3 4 rfl rfl)
theorem dX4_count_79 : decode cX4_count 79 = .ok (.iconst 0, 1) := dk_3 (dk_at dksX4_count_3 7 rfl rfl)
theorem dX4_count_80 : decode cX4_count 80 = .ok (.istore_n 3, 1) := dk_62 (dk_at dksX4_count_3 8 rfl rfl)
theorem dX4_count_81 : decode cX4_count 81 = .ok (.iload_n 3, 1) := dk_29 (dk_at dksX4_count_3 9 rfl rfl)
theorem dX4_count_82 : decode cX4_count 82 = .ok (.bipush 100, 2) := dk_16 100 (dk_at dksX4_count_3 10 rfl rfl)
theorem dX4_count_84 : decode cX4_count 84 = .ok (.if_icmp .ge 28, 3) := dk_162 0 28 (dk_at dksX4_count_3 12 rfl rfl)
theorem dX4_count_87 : decode cX4_count 87 = .ok (.iload_n 2, 1) := dk_28 (dk_at dksX4_count_3 15 rfl rfl)
theorem dX4_count_88 : decode cX4_count 88 = .ok (.aload_n 0, 1) := dk_42 (dk_at dksX4_count_3 16 rfl rfl)
theorem dX4_count_89 : decode cX4_count 89 = .ok (.getfield 73, 3) := dk_180 0 73 (dk_at dksX4_count_3 17 rfl rfl)
theorem dX4_count_92 : decode cX4_count 92 = .ok (.iload_n 3, 1) := dk_29 (dk_at dksX4_count_3 20 rfl rfl)
theorem dX4_count_93 : decode cX4_count 93 = .ok (.laload, 1) := dk_47 (dk_at dksX4_count_3 21 rfl rfl)
theorem dX4_count_94 : decode cX4_count 94 = .ok (.lconst 0, 1) := dk_9 (dk_at dksX4_count_3 22 rfl rfl)
theorem dX4_count_95 : decode cX4_count 95 = .ok (.lcmp, 1) := dk_148 (dk_at dksX4_count_3 23 rfl rfl)
theorem dX4_count_96 : decode cX4_count 96 = .ok (.ifCond .le 7, 3) := dk_158 0 7 (dk_at dksX4_count_4 0 rfl rfl)
theorem dX4_count_99 : decode cX4_count 99 = .ok (.iconst 1, 1) := dk_4 (dk_at dksX4_count_4 3 rfl rfl)
theorem dX4_count_100 : decode cX4_count 100 = .ok (.goto 4, 3) := dk_167 0 4 (dk_at dksX4_count_4 4 rfl rfl)
theorem dX4_count_103 : decode cX4_count 103 = .ok (.iconst 0, 1) := dk_3 (dk_at dksX4_count_4 7 rfl rfl)
theorem dX4_count_104 : decode cX4_count 104 = .ok (.iadd, 1) := dk_96 (dk_at dksX4_count_4 8 rfl rfl)
theorem dX4_count_105 : decode cX4_count 105 = .ok (.istore_n 2, 1) := dk_61 (dk_at dksX4_count_4 9 rfl rfl)
theorem dX4_count_106 : decode cX4_count 106 = .ok (.iinc 3 1, 3) := dk_132 3 1 (dk_at dksX4_count_4 10 rfl rfl)
theorem dX4_count_109 : decode cX4_count 109 = .ok (.goto (-28), 3) := dk_167 255 228 (dk_at dksX4_count_4 13 rfl rfl)
theorem dX4_count_112 : decode cX4_count 112 = .ok (.iload_n 1, 1) := dk_27 (dk_at dksX4_count_4 16 rfl rfl)
theorem dX4_count_113 : decode cX4_count 113 = .ok (.iconst 2, 1) := dk_5 (dk_at dksX4_count_4 17 rfl rfl)
theorem dX4_count_114 : decode cX4_count 114 = .ok (.if_icmp .ne 10, 3) := dk_160 0 10 (dk_at dksX4_count_4 18 rfl rfl)
theorem dX4_count_117 : decode cX4_count 117 = .ok (.aload_n 0, 1) := dk_42 (dk_at dksX4_count_4 21 rfl rfl)
theorem dX4_count_118 : decode cX4_count 118 = .ok (.getfield 206, 3) := dk_180 0 206 (dk_at dksX4_count_5 0 rfl rfl)
theorem dX4_count_121 : decode cX4_count 121 = .ok (.goto 16, 3) := dk_167 0 16 (dk_at dksX4_count_5 3 rfl rfl)
theorem dX4_count_124 : decode cX4_count 124 = .ok (.iload_n 1, 1) := dk_27 (dk_at dksX4_count_5 6 rfl rfl)
theorem dX4_count_125 : decode cX4_count 125 = .ok (.iconst 3, 1) := dk_6 (dk_at dksX4_count_5 7 rfl rfl)
theorem dX4_count_126 : decode cX4_count 126 = .ok (.if_icmp .ne 10, 3) := dk_160 0 10 (dk_at dksX4_count_5 8 rfl rfl)
theorem dX4_count_129 : decode cX4_count 129 = .ok (.aload_n 0, 1) := dk_42 (dk_at dksX4_count_5 11 rfl rfl)
theorem dX4_count_130 : decode cX4_count 130 = .ok (.getfield 218, 3) := dk_180 0 218 (dk_at dksX4_count_5 12 rfl rfl)
theorem dX4_count_133 : decode cX4_count 133 = .ok (.goto 4, 3) := dk_167 0 4 (dk_at dksX4_count_5 15 rfl rfl)
theorem dX4_count_136 : decode cX4_count 136 = .ok (.iload_n 2, 1) := dk_28 (dk_at dksX4_count_5 18 rfl rfl)
theorem dX4_count_137 : decode cX4_count 137 = .ok (.ireturn, 1) := dk_172 (dk_at dksX4_count_5 19 rfl rfl)
abbrev cX4_moves : ByteArray := prog_14_method_48_code
def yX4_moves : MethodName := ⟨RX4, "moves", "(I)I"⟩
def dkwX4_moves_0 : List UInt8 := [42, 27, 182, 0, 253, 153, 0, 11, 42, 27, 182, 1, 0, 167, 0, 4, 2, 172]
abbrev dktX4_moves_0 : List UInt8 := dkwX4_moves_0 ++ []
theorem dksX4_moves_0 : cX4_moves.data.toList.drop 0 = dktX4_moves_0 := by decide +kernel
theorem dX4_moves_0 : decode cX4_moves 0 = .ok (.aload_n 0, 1) := dk_42 (dk_at dksX4_moves_0 0 rfl rfl)
theorem dX4_moves_1 : decode cX4_moves 1 = .ok (.iload_n 1, 1) := dk_27 (dk_at dksX4_moves_0 1 rfl rfl)
theorem dX4_moves_2 : decode cX4_moves 2 = .ok (.invokevirtual 253, 3) := dk_182 0 253 (dk_at dksX4_moves_0 2 rfl rfl)
theorem dX4_moves_5 : decode cX4_moves 5 = .ok (.ifCond .eq 11, 3) := dk_153 0 11 (dk_at dksX4_moves_0 5 rfl rfl)
theorem dX4_moves_8 : decode cX4_moves 8 = .ok (.aload_n 0, 1) := dk_42 (dk_at dksX4_moves_0 8 rfl rfl)
theorem dX4_moves_9 : decode cX4_moves 9 = .ok (.iload_n 1, 1) := dk_27 (dk_at dksX4_moves_0 9 rfl rfl)
theorem dX4_moves_10 : decode cX4_moves 10 = .ok (.invokevirtual 256, 3) := dk_182 1 0 (dk_at dksX4_moves_0 10 rfl rfl)
theorem dX4_moves_13 : decode cX4_moves 13 = .ok (.goto 4, 3) := dk_167 0 4 (dk_at dksX4_moves_0 13 rfl rfl)
theorem dX4_moves_16 : decode cX4_moves 16 = .ok (.iconst (-1), 1) := dk_2 (dk_at dksX4_moves_0 16 rfl rfl)
theorem dX4_moves_17 : decode cX4_moves 17 = .ok (.ireturn, 1) := dk_172 (dk_at dksX4_moves_0 17 rfl rfl)
abbrev cX4_isAssumption : ByteArray := prog_14_method_47_code
def yX4_isAssumption : MethodName := ⟨RX4, "isAssumption", "(I)Z"⟩
def dkwX4_isAssumption_1 : List UInt8 := [27, 16, 8, 100, 42, 180, 0, 206, 162, 0, 7, 4, 167, 0, 4, 3, 172]
abbrev dktX4_isAssumption_1 : List UInt8 := dkwX4_isAssumption_1 ++ []
def dkwX4_isAssumption_0 : List UInt8 := [27, 133, 9, 20, 0, 251, 184, 0, 100, 153, 0, 30, 27, 16, 8, 161, 0, 20, 27, 16, 12, 159, 0, 14]
abbrev dktX4_isAssumption_0 : List UInt8 := dkwX4_isAssumption_0 ++ dktX4_isAssumption_1
theorem dksX4_isAssumption_0 : cX4_isAssumption.data.toList.drop 0 = dktX4_isAssumption_0 := by decide +kernel
theorem dksX4_isAssumption_1 : cX4_isAssumption.data.toList.drop 24 = dktX4_isAssumption_1 := dk_seg dksX4_isAssumption_0 24 rfl rfl
theorem dX4_isAssumption_0 : decode cX4_isAssumption 0 = .ok (.iload_n 1, 1) := dk_27 (dk_at dksX4_isAssumption_0 0 rfl rfl)
theorem dX4_isAssumption_1 : decode cX4_isAssumption 1 = .ok (.i2l, 1) := dk_133 (dk_at dksX4_isAssumption_0 1 rfl rfl)
theorem dX4_isAssumption_2 : decode cX4_isAssumption 2 = .ok (.lconst 0, 1) := dk_9 (dk_at dksX4_isAssumption_0 2 rfl rfl)
theorem dX4_isAssumption_3 : decode cX4_isAssumption 3 = .ok (.ldc2_w 251, 3) := dk_20 0 251 (dk_at dksX4_isAssumption_0 3 rfl rfl)
theorem dX4_isAssumption_6 : decode cX4_isAssumption 6 = .ok (.invokestatic 100, 3) := dk_184 0 100 (dk_at dksX4_isAssumption_0 6 rfl rfl)
theorem dX4_isAssumption_9 : decode cX4_isAssumption 9 = .ok (.ifCond .eq 30, 3) := dk_153 0 30 (dk_at dksX4_isAssumption_0 9 rfl rfl)
theorem dX4_isAssumption_12 : decode cX4_isAssumption 12 = .ok (.iload_n 1, 1) := dk_27 (dk_at dksX4_isAssumption_0 12 rfl rfl)
theorem dX4_isAssumption_13 : decode cX4_isAssumption 13 = .ok (.bipush 8, 2) := dk_16 8 (dk_at dksX4_isAssumption_0 13 rfl rfl)
theorem dX4_isAssumption_15 : decode cX4_isAssumption 15 = .ok (.if_icmp .lt 20, 3) := dk_161 0 20 (dk_at dksX4_isAssumption_0 15 rfl rfl)
theorem dX4_isAssumption_18 : decode cX4_isAssumption 18 = .ok (.iload_n 1, 1) := dk_27 (dk_at dksX4_isAssumption_0 18 rfl rfl)
theorem dX4_isAssumption_19 : decode cX4_isAssumption 19 = .ok (.bipush 12, 2) := dk_16 12 (dk_at dksX4_isAssumption_0 19 rfl rfl)
theorem dX4_isAssumption_21 : decode cX4_isAssumption 21 = .ok (.if_icmp .eq 14, 3) := dk_159 0 14 (dk_at dksX4_isAssumption_0 21 rfl rfl)
theorem dX4_isAssumption_24 : decode cX4_isAssumption 24 = .ok (.iload_n 1, 1) := dk_27 (dk_at dksX4_isAssumption_1 0 rfl rfl)
theorem dX4_isAssumption_25 : decode cX4_isAssumption 25 = .ok (.bipush 8, 2) := dk_16 8 (dk_at dksX4_isAssumption_1 1 rfl rfl)
theorem dX4_isAssumption_27 : decode cX4_isAssumption 27 = .ok (.isub, 1) := dk_100 (dk_at dksX4_isAssumption_1 3 rfl rfl)
theorem dX4_isAssumption_28 : decode cX4_isAssumption 28 = .ok (.aload_n 0, 1) := dk_42 (dk_at dksX4_isAssumption_1 4 rfl rfl)
theorem dX4_isAssumption_29 : decode cX4_isAssumption 29 = .ok (.getfield 206, 3) := dk_180 0 206 (dk_at dksX4_isAssumption_1 5 rfl rfl)
theorem dX4_isAssumption_32 : decode cX4_isAssumption 32 = .ok (.if_icmp .ge 7, 3) := dk_162 0 7 (dk_at dksX4_isAssumption_1 8 rfl rfl)
theorem dX4_isAssumption_35 : decode cX4_isAssumption 35 = .ok (.iconst 1, 1) := dk_4 (dk_at dksX4_isAssumption_1 11 rfl rfl)
theorem dX4_isAssumption_36 : decode cX4_isAssumption 36 = .ok (.goto 4, 3) := dk_167 0 4 (dk_at dksX4_isAssumption_1 12 rfl rfl)
theorem dX4_isAssumption_39 : decode cX4_isAssumption 39 = .ok (.iconst 0, 1) := dk_3 (dk_at dksX4_isAssumption_1 15 rfl rfl)
theorem dX4_isAssumption_40 : decode cX4_isAssumption 40 = .ok (.ireturn, 1) := dk_172 (dk_at dksX4_isAssumption_1 16 rfl rfl)
abbrev cX4_moved : ByteArray := prog_14_method_46_code
def yX4_moved : MethodName := ⟨RX4, "moved", "(I)I"⟩
def dkwX4_moved_10 : List UInt8 := [62, 132, 4, 1, 167, 255, 209, 29, 172]
abbrev dktX4_moved_10 : List UInt8 := dkwX4_moved_10 ++ []
def dkwX4_moved_9 : List UInt8 := [180, 0, 77, 21, 4, 46, 100, 54, 5, 29, 21, 5, 156, 0, 9, 21, 5, 116, 167, 0, 5, 21, 5, 96]
abbrev dktX4_moved_9 : List UInt8 := dkwX4_moved_9 ++ dktX4_moved_10
def dkwX4_moved_8 : List UInt8 := [3, 62, 3, 54, 4, 21, 4, 16, 100, 162, 0, 46, 42, 42, 180, 0, 73, 21, 4, 47, 182, 0, 247, 42]
abbrev dktX4_moved_8 : List UInt8 := dkwX4_moved_8 ++ dktX4_moved_9
def dkwX4_moved_7 : List UInt8 := [180, 0, 221, 9, 148, 158, 0, 7, 4, 167, 0, 4, 3, 160, 0, 7, 3, 167, 0, 6, 17, 3, 232, 172]
abbrev dktX4_moved_7 : List UInt8 := dkwX4_moved_7 ++ dktX4_moved_8
def dkwX4_moved_6 : List UInt8 := [3, 181, 0, 228, 42, 182, 0, 231, 28, 153, 0, 12, 42, 180, 0, 221, 9, 148, 154, 0, 29, 28, 42]
abbrev dktX4_moved_6 : List UInt8 := dkwX4_moved_6 ++ dktX4_moved_7
def dkwX4_moved_5 : List UInt8 := [4, 27, 16, 8, 100, 120, 167, 0, 4, 3, 181, 0, 225, 42, 27, 16, 12, 160, 0, 7, 4, 167, 0, 4]
abbrev dktX4_moved_5 : List UInt8 := dkwX4_moved_5 ++ dktX4_moved_6
def dkwX4_moved_4 : List UInt8 := [160, 0, 7, 4, 167, 0, 4, 3, 181, 0, 177, 42, 27, 16, 7, 164, 0, 18, 27, 16, 12, 162, 0, 12]
abbrev dktX4_moved_4 : List UInt8 := dkwX4_moved_4 ++ dktX4_moved_5
def dkwX4_moved_3 : List UInt8 := [3, 181, 0, 167, 42, 27, 16, 6, 160, 0, 7, 4, 167, 0, 4, 3, 181, 0, 170, 42, 27, 16, 7]
abbrev dktX4_moved_3 : List UInt8 := dkwX4_moved_3 ++ dktX4_moved_4
def dkwX4_moved_2 : List UInt8 := [167, 0, 4, 3, 79, 132, 3, 1, 167, 255, 223, 42, 27, 16, 6, 162, 0, 9, 5, 27, 120, 167, 0, 4]
abbrev dktX4_moved_2 : List UInt8 := dkwX4_moved_2 ++ dktX4_moved_3
def dkwX4_moved_1 : List UInt8 := [162, 0, 33, 42, 180, 0, 77, 29, 28, 153, 0, 16, 42, 42, 180, 0, 73, 29, 47, 182, 0, 247]
abbrev dktX4_moved_1 : List UInt8 := dkwX4_moved_1 ++ dktX4_moved_2
def dkwX4_moved_0 : List UInt8 := [42, 182, 0, 234, 42, 180, 0, 221, 9, 148, 158, 0, 7, 4, 167, 0, 4, 3, 61, 3, 62, 29, 16, 100]
abbrev dktX4_moved_0 : List UInt8 := dkwX4_moved_0 ++ dktX4_moved_1
theorem dksX4_moved_0 : cX4_moved.data.toList.drop 0 = dktX4_moved_0 := by decide +kernel
theorem dksX4_moved_1 : cX4_moved.data.toList.drop 24 = dktX4_moved_1 := dk_seg dksX4_moved_0 24 rfl rfl
theorem dksX4_moved_2 : cX4_moved.data.toList.drop 46 = dktX4_moved_2 := dk_seg dksX4_moved_1 22 rfl rfl
theorem dksX4_moved_3 : cX4_moved.data.toList.drop 70 = dktX4_moved_3 := dk_seg dksX4_moved_2 24 rfl rfl
theorem dksX4_moved_4 : cX4_moved.data.toList.drop 93 = dktX4_moved_4 := dk_seg dksX4_moved_3 23 rfl rfl
theorem dksX4_moved_5 : cX4_moved.data.toList.drop 117 = dktX4_moved_5 := dk_seg dksX4_moved_4 24 rfl rfl
theorem dksX4_moved_6 : cX4_moved.data.toList.drop 141 = dktX4_moved_6 := dk_seg dksX4_moved_5 24 rfl rfl
theorem dksX4_moved_7 : cX4_moved.data.toList.drop 164 = dktX4_moved_7 := dk_seg dksX4_moved_6 23 rfl rfl
theorem dksX4_moved_8 : cX4_moved.data.toList.drop 188 = dktX4_moved_8 := dk_seg dksX4_moved_7 24 rfl rfl
theorem dksX4_moved_9 : cX4_moved.data.toList.drop 212 = dktX4_moved_9 := dk_seg dksX4_moved_8 24 rfl rfl
theorem dksX4_moved_10 : cX4_moved.data.toList.drop 236 = dktX4_moved_10 := dk_seg dksX4_moved_9 24 rfl rfl
theorem dX4_moved_0 : decode cX4_moved 0 = .ok (.aload_n 0, 1) := dk_42 (dk_at dksX4_moved_0 0 rfl rfl)
theorem dX4_moved_1 : decode cX4_moved 1 = .ok (.invokevirtual 234, 3) := dk_182 0 234 (dk_at dksX4_moved_0 1 rfl rfl)
theorem dX4_moved_4 : decode cX4_moved 4 = .ok (.aload_n 0, 1) := dk_42 (dk_at dksX4_moved_0 4 rfl rfl)
theorem dX4_moved_5 : decode cX4_moved 5 = .ok (.getfield 221, 3) := dk_180 0 221 (dk_at dksX4_moved_0 5 rfl rfl)
theorem dX4_moved_8 : decode cX4_moved 8 = .ok (.lconst 0, 1) := dk_9 (dk_at dksX4_moved_0 8 rfl rfl)
theorem dX4_moved_9 : decode cX4_moved 9 = .ok (.lcmp, 1) := dk_148 (dk_at dksX4_moved_0 9 rfl rfl)
theorem dX4_moved_10 : decode cX4_moved 10 = .ok (.ifCond .le 7, 3) := dk_158 0 7 (dk_at dksX4_moved_0 10 rfl rfl)
theorem dX4_moved_13 : decode cX4_moved 13 = .ok (.iconst 1, 1) := dk_4 (dk_at dksX4_moved_0 13 rfl rfl)
theorem dX4_moved_14 : decode cX4_moved 14 = .ok (.goto 4, 3) := dk_167 0 4 (dk_at dksX4_moved_0 14 rfl rfl)
theorem dX4_moved_17 : decode cX4_moved 17 = .ok (.iconst 0, 1) := dk_3 (dk_at dksX4_moved_0 17 rfl rfl)
theorem dX4_moved_18 : decode cX4_moved 18 = .ok (.istore_n 2, 1) := dk_61 (dk_at dksX4_moved_0 18 rfl rfl)
theorem dX4_moved_19 : decode cX4_moved 19 = .ok (.iconst 0, 1) := dk_3 (dk_at dksX4_moved_0 19 rfl rfl)
theorem dX4_moved_20 : decode cX4_moved 20 = .ok (.istore_n 3, 1) := dk_62 (dk_at dksX4_moved_0 20 rfl rfl)
theorem dX4_moved_21 : decode cX4_moved 21 = .ok (.iload_n 3, 1) := dk_29 (dk_at dksX4_moved_0 21 rfl rfl)
theorem dX4_moved_22 : decode cX4_moved 22 = .ok (.bipush 100, 2) := dk_16 100 (dk_at dksX4_moved_0 22 rfl rfl)
theorem dX4_moved_24 : decode cX4_moved 24 = .ok (.if_icmp .ge 33, 3) := dk_162 0 33 (dk_at dksX4_moved_1 0 rfl rfl)
theorem dX4_moved_27 : decode cX4_moved 27 = .ok (.aload_n 0, 1) := dk_42 (dk_at dksX4_moved_1 3 rfl rfl)
theorem dX4_moved_28 : decode cX4_moved 28 = .ok (.getfield 77, 3) := dk_180 0 77 (dk_at dksX4_moved_1 4 rfl rfl)
theorem dX4_moved_31 : decode cX4_moved 31 = .ok (.iload_n 3, 1) := dk_29 (dk_at dksX4_moved_1 7 rfl rfl)
theorem dX4_moved_32 : decode cX4_moved 32 = .ok (.iload_n 2, 1) := dk_28 (dk_at dksX4_moved_1 8 rfl rfl)
theorem dX4_moved_33 : decode cX4_moved 33 = .ok (.ifCond .eq 16, 3) := dk_153 0 16 (dk_at dksX4_moved_1 9 rfl rfl)
theorem dX4_moved_36 : decode cX4_moved 36 = .ok (.aload_n 0, 1) := dk_42 (dk_at dksX4_moved_1 12 rfl rfl)
theorem dX4_moved_37 : decode cX4_moved 37 = .ok (.aload_n 0, 1) := dk_42 (dk_at dksX4_moved_1 13 rfl rfl)
theorem dX4_moved_38 : decode cX4_moved 38 = .ok (.getfield 73, 3) := dk_180 0 73 (dk_at dksX4_moved_1 14 rfl rfl)
theorem dX4_moved_41 : decode cX4_moved 41 = .ok (.iload_n 3, 1) := dk_29 (dk_at dksX4_moved_1 17 rfl rfl)
theorem dX4_moved_42 : decode cX4_moved 42 = .ok (.laload, 1) := dk_47 (dk_at dksX4_moved_1 18 rfl rfl)
theorem dX4_moved_43 : decode cX4_moved 43 = .ok (.invokevirtual 247, 3) := dk_182 0 247 (dk_at dksX4_moved_1 19 rfl rfl)
theorem dX4_moved_46 : decode cX4_moved 46 = .ok (.goto 4, 3) := dk_167 0 4 (dk_at dksX4_moved_2 0 rfl rfl)
theorem dX4_moved_49 : decode cX4_moved 49 = .ok (.iconst 0, 1) := dk_3 (dk_at dksX4_moved_2 3 rfl rfl)
theorem dX4_moved_50 : decode cX4_moved 50 = .ok (.iastore, 1) := dk_79 (dk_at dksX4_moved_2 4 rfl rfl)
theorem dX4_moved_51 : decode cX4_moved 51 = .ok (.iinc 3 1, 3) := dk_132 3 1 (dk_at dksX4_moved_2 5 rfl rfl)
theorem dX4_moved_54 : decode cX4_moved 54 = .ok (.goto (-33), 3) := dk_167 255 223 (dk_at dksX4_moved_2 8 rfl rfl)
theorem dX4_moved_57 : decode cX4_moved 57 = .ok (.aload_n 0, 1) := dk_42 (dk_at dksX4_moved_2 11 rfl rfl)
theorem dX4_moved_58 : decode cX4_moved 58 = .ok (.iload_n 1, 1) := dk_27 (dk_at dksX4_moved_2 12 rfl rfl)
theorem dX4_moved_59 : decode cX4_moved 59 = .ok (.bipush 6, 2) := dk_16 6 (dk_at dksX4_moved_2 13 rfl rfl)
theorem dX4_moved_61 : decode cX4_moved 61 = .ok (.if_icmp .ge 9, 3) := dk_162 0 9 (dk_at dksX4_moved_2 15 rfl rfl)
theorem dX4_moved_64 : decode cX4_moved 64 = .ok (.iconst 2, 1) := dk_5 (dk_at dksX4_moved_2 18 rfl rfl)
theorem dX4_moved_65 : decode cX4_moved 65 = .ok (.iload_n 1, 1) := dk_27 (dk_at dksX4_moved_2 19 rfl rfl)
theorem dX4_moved_66 : decode cX4_moved 66 = .ok (.ishl, 1) := dk_120 (dk_at dksX4_moved_2 20 rfl rfl)
theorem dX4_moved_67 : decode cX4_moved 67 = .ok (.goto 4, 3) := dk_167 0 4 (dk_at dksX4_moved_2 21 rfl rfl)
theorem dX4_moved_70 : decode cX4_moved 70 = .ok (.iconst 0, 1) := dk_3 (dk_at dksX4_moved_3 0 rfl rfl)
theorem dX4_moved_71 : decode cX4_moved 71 = .ok (.putfield 167, 3) := dk_181 0 167 (dk_at dksX4_moved_3 1 rfl rfl)
theorem dX4_moved_74 : decode cX4_moved 74 = .ok (.aload_n 0, 1) := dk_42 (dk_at dksX4_moved_3 4 rfl rfl)
theorem dX4_moved_75 : decode cX4_moved 75 = .ok (.iload_n 1, 1) := dk_27 (dk_at dksX4_moved_3 5 rfl rfl)
theorem dX4_moved_76 : decode cX4_moved 76 = .ok (.bipush 6, 2) := dk_16 6 (dk_at dksX4_moved_3 6 rfl rfl)
theorem dX4_moved_78 : decode cX4_moved 78 = .ok (.if_icmp .ne 7, 3) := dk_160 0 7 (dk_at dksX4_moved_3 8 rfl rfl)
theorem dX4_moved_81 : decode cX4_moved 81 = .ok (.iconst 1, 1) := dk_4 (dk_at dksX4_moved_3 11 rfl rfl)
theorem dX4_moved_82 : decode cX4_moved 82 = .ok (.goto 4, 3) := dk_167 0 4 (dk_at dksX4_moved_3 12 rfl rfl)
theorem dX4_moved_85 : decode cX4_moved 85 = .ok (.iconst 0, 1) := dk_3 (dk_at dksX4_moved_3 15 rfl rfl)
theorem dX4_moved_86 : decode cX4_moved 86 = .ok (.putfield 170, 3) := dk_181 0 170 (dk_at dksX4_moved_3 16 rfl rfl)
theorem dX4_moved_89 : decode cX4_moved 89 = .ok (.aload_n 0, 1) := dk_42 (dk_at dksX4_moved_3 19 rfl rfl)
theorem dX4_moved_90 : decode cX4_moved 90 = .ok (.iload_n 1, 1) := dk_27 (dk_at dksX4_moved_3 20 rfl rfl)
theorem dX4_moved_91 : decode cX4_moved 91 = .ok (.bipush 7, 2) := dk_16 7 (dk_at dksX4_moved_3 21 rfl rfl)
theorem dX4_moved_93 : decode cX4_moved 93 = .ok (.if_icmp .ne 7, 3) := dk_160 0 7 (dk_at dksX4_moved_4 0 rfl rfl)
theorem dX4_moved_96 : decode cX4_moved 96 = .ok (.iconst 1, 1) := dk_4 (dk_at dksX4_moved_4 3 rfl rfl)
theorem dX4_moved_97 : decode cX4_moved 97 = .ok (.goto 4, 3) := dk_167 0 4 (dk_at dksX4_moved_4 4 rfl rfl)
theorem dX4_moved_100 : decode cX4_moved 100 = .ok (.iconst 0, 1) := dk_3 (dk_at dksX4_moved_4 7 rfl rfl)
theorem dX4_moved_101 : decode cX4_moved 101 = .ok (.putfield 177, 3) := dk_181 0 177 (dk_at dksX4_moved_4 8 rfl rfl)
theorem dX4_moved_104 : decode cX4_moved 104 = .ok (.aload_n 0, 1) := dk_42 (dk_at dksX4_moved_4 11 rfl rfl)
theorem dX4_moved_105 : decode cX4_moved 105 = .ok (.iload_n 1, 1) := dk_27 (dk_at dksX4_moved_4 12 rfl rfl)
theorem dX4_moved_106 : decode cX4_moved 106 = .ok (.bipush 7, 2) := dk_16 7 (dk_at dksX4_moved_4 13 rfl rfl)
theorem dX4_moved_108 : decode cX4_moved 108 = .ok (.if_icmp .le 18, 3) := dk_164 0 18 (dk_at dksX4_moved_4 15 rfl rfl)
theorem dX4_moved_111 : decode cX4_moved 111 = .ok (.iload_n 1, 1) := dk_27 (dk_at dksX4_moved_4 18 rfl rfl)
theorem dX4_moved_112 : decode cX4_moved 112 = .ok (.bipush 12, 2) := dk_16 12 (dk_at dksX4_moved_4 19 rfl rfl)
theorem dX4_moved_114 : decode cX4_moved 114 = .ok (.if_icmp .ge 12, 3) := dk_162 0 12 (dk_at dksX4_moved_4 21 rfl rfl)
theorem dX4_moved_117 : decode cX4_moved 117 = .ok (.iconst 1, 1) := dk_4 (dk_at dksX4_moved_5 0 rfl rfl)
theorem dX4_moved_118 : decode cX4_moved 118 = .ok (.iload_n 1, 1) := dk_27 (dk_at dksX4_moved_5 1 rfl rfl)
theorem dX4_moved_119 : decode cX4_moved 119 = .ok (.bipush 8, 2) := dk_16 8 (dk_at dksX4_moved_5 2 rfl rfl)
theorem dX4_moved_121 : decode cX4_moved 121 = .ok (.isub, 1) := dk_100 (dk_at dksX4_moved_5 4 rfl rfl)
theorem dX4_moved_122 : decode cX4_moved 122 = .ok (.ishl, 1) := dk_120 (dk_at dksX4_moved_5 5 rfl rfl)
theorem dX4_moved_123 : decode cX4_moved 123 = .ok (.goto 4, 3) := dk_167 0 4 (dk_at dksX4_moved_5 6 rfl rfl)
theorem dX4_moved_126 : decode cX4_moved 126 = .ok (.iconst 0, 1) := dk_3 (dk_at dksX4_moved_5 9 rfl rfl)
theorem dX4_moved_127 : decode cX4_moved 127 = .ok (.putfield 225, 3) := dk_181 0 225 (dk_at dksX4_moved_5 10 rfl rfl)
theorem dX4_moved_130 : decode cX4_moved 130 = .ok (.aload_n 0, 1) := dk_42 (dk_at dksX4_moved_5 13 rfl rfl)
theorem dX4_moved_131 : decode cX4_moved 131 = .ok (.iload_n 1, 1) := dk_27 (dk_at dksX4_moved_5 14 rfl rfl)
theorem dX4_moved_132 : decode cX4_moved 132 = .ok (.bipush 12, 2) := dk_16 12 (dk_at dksX4_moved_5 15 rfl rfl)
theorem dX4_moved_134 : decode cX4_moved 134 = .ok (.if_icmp .ne 7, 3) := dk_160 0 7 (dk_at dksX4_moved_5 17 rfl rfl)
theorem dX4_moved_137 : decode cX4_moved 137 = .ok (.iconst 1, 1) := dk_4 (dk_at dksX4_moved_5 20 rfl rfl)
theorem dX4_moved_138 : decode cX4_moved 138 = .ok (.goto 4, 3) := dk_167 0 4 (dk_at dksX4_moved_5 21 rfl rfl)
theorem dX4_moved_141 : decode cX4_moved 141 = .ok (.iconst 0, 1) := dk_3 (dk_at dksX4_moved_6 0 rfl rfl)
theorem dX4_moved_142 : decode cX4_moved 142 = .ok (.putfield 228, 3) := dk_181 0 228 (dk_at dksX4_moved_6 1 rfl rfl)
theorem dX4_moved_145 : decode cX4_moved 145 = .ok (.aload_n 0, 1) := dk_42 (dk_at dksX4_moved_6 4 rfl rfl)
theorem dX4_moved_146 : decode cX4_moved 146 = .ok (.invokevirtual 231, 3) := dk_182 0 231 (dk_at dksX4_moved_6 5 rfl rfl)
theorem dX4_moved_149 : decode cX4_moved 149 = .ok (.iload_n 2, 1) := dk_28 (dk_at dksX4_moved_6 8 rfl rfl)
theorem dX4_moved_150 : decode cX4_moved 150 = .ok (.ifCond .eq 12, 3) := dk_153 0 12 (dk_at dksX4_moved_6 9 rfl rfl)
theorem dX4_moved_153 : decode cX4_moved 153 = .ok (.aload_n 0, 1) := dk_42 (dk_at dksX4_moved_6 12 rfl rfl)
theorem dX4_moved_154 : decode cX4_moved 154 = .ok (.getfield 221, 3) := dk_180 0 221 (dk_at dksX4_moved_6 13 rfl rfl)
theorem dX4_moved_157 : decode cX4_moved 157 = .ok (.lconst 0, 1) := dk_9 (dk_at dksX4_moved_6 16 rfl rfl)
theorem dX4_moved_158 : decode cX4_moved 158 = .ok (.lcmp, 1) := dk_148 (dk_at dksX4_moved_6 17 rfl rfl)
theorem dX4_moved_159 : decode cX4_moved 159 = .ok (.ifCond .ne 29, 3) := dk_154 0 29 (dk_at dksX4_moved_6 18 rfl rfl)
theorem dX4_moved_162 : decode cX4_moved 162 = .ok (.iload_n 2, 1) := dk_28 (dk_at dksX4_moved_6 21 rfl rfl)
theorem dX4_moved_163 : decode cX4_moved 163 = .ok (.aload_n 0, 1) := dk_42 (dk_at dksX4_moved_6 22 rfl rfl)
theorem dX4_moved_164 : decode cX4_moved 164 = .ok (.getfield 221, 3) := dk_180 0 221 (dk_at dksX4_moved_7 0 rfl rfl)
theorem dX4_moved_167 : decode cX4_moved 167 = .ok (.lconst 0, 1) := dk_9 (dk_at dksX4_moved_7 3 rfl rfl)
theorem dX4_moved_168 : decode cX4_moved 168 = .ok (.lcmp, 1) := dk_148 (dk_at dksX4_moved_7 4 rfl rfl)
theorem dX4_moved_169 : decode cX4_moved 169 = .ok (.ifCond .le 7, 3) := dk_158 0 7 (dk_at dksX4_moved_7 5 rfl rfl)
theorem dX4_moved_172 : decode cX4_moved 172 = .ok (.iconst 1, 1) := dk_4 (dk_at dksX4_moved_7 8 rfl rfl)
theorem dX4_moved_173 : decode cX4_moved 173 = .ok (.goto 4, 3) := dk_167 0 4 (dk_at dksX4_moved_7 9 rfl rfl)
theorem dX4_moved_176 : decode cX4_moved 176 = .ok (.iconst 0, 1) := dk_3 (dk_at dksX4_moved_7 12 rfl rfl)
theorem dX4_moved_177 : decode cX4_moved 177 = .ok (.if_icmp .ne 7, 3) := dk_160 0 7 (dk_at dksX4_moved_7 13 rfl rfl)
theorem dX4_moved_180 : decode cX4_moved 180 = .ok (.iconst 0, 1) := dk_3 (dk_at dksX4_moved_7 16 rfl rfl)
theorem dX4_moved_181 : decode cX4_moved 181 = .ok (.goto 6, 3) := dk_167 0 6 (dk_at dksX4_moved_7 17 rfl rfl)
theorem dX4_moved_184 : decode cX4_moved 184 = .ok (.sipush 1000, 3) := dk_17 3 232 (dk_at dksX4_moved_7 20 rfl rfl)
theorem dX4_moved_187 : decode cX4_moved 187 = .ok (.ireturn, 1) := dk_172 (dk_at dksX4_moved_7 23 rfl rfl)
theorem dX4_moved_188 : decode cX4_moved 188 = .ok (.iconst 0, 1) := dk_3 (dk_at dksX4_moved_8 0 rfl rfl)
theorem dX4_moved_189 : decode cX4_moved 189 = .ok (.istore_n 3, 1) := dk_62 (dk_at dksX4_moved_8 1 rfl rfl)
theorem dX4_moved_190 : decode cX4_moved 190 = .ok (.iconst 0, 1) := dk_3 (dk_at dksX4_moved_8 2 rfl rfl)
theorem dX4_moved_191 : decode cX4_moved 191 = .ok (.istore 4, 2) := dk_54 4 (dk_at dksX4_moved_8 3 rfl rfl)
theorem dX4_moved_193 : decode cX4_moved 193 = .ok (.iload 4, 2) := dk_21 4 (dk_at dksX4_moved_8 5 rfl rfl)
theorem dX4_moved_195 : decode cX4_moved 195 = .ok (.bipush 100, 2) := dk_16 100 (dk_at dksX4_moved_8 7 rfl rfl)
theorem dX4_moved_197 : decode cX4_moved 197 = .ok (.if_icmp .ge 46, 3) := dk_162 0 46 (dk_at dksX4_moved_8 9 rfl rfl)
theorem dX4_moved_200 : decode cX4_moved 200 = .ok (.aload_n 0, 1) := dk_42 (dk_at dksX4_moved_8 12 rfl rfl)
theorem dX4_moved_201 : decode cX4_moved 201 = .ok (.aload_n 0, 1) := dk_42 (dk_at dksX4_moved_8 13 rfl rfl)
theorem dX4_moved_202 : decode cX4_moved 202 = .ok (.getfield 73, 3) := dk_180 0 73 (dk_at dksX4_moved_8 14 rfl rfl)
theorem dX4_moved_205 : decode cX4_moved 205 = .ok (.iload 4, 2) := dk_21 4 (dk_at dksX4_moved_8 17 rfl rfl)
theorem dX4_moved_207 : decode cX4_moved 207 = .ok (.laload, 1) := dk_47 (dk_at dksX4_moved_8 19 rfl rfl)
theorem dX4_moved_208 : decode cX4_moved 208 = .ok (.invokevirtual 247, 3) := dk_182 0 247 (dk_at dksX4_moved_8 20 rfl rfl)
theorem dX4_moved_211 : decode cX4_moved 211 = .ok (.aload_n 0, 1) := dk_42 (dk_at dksX4_moved_8 23 rfl rfl)
theorem dX4_moved_212 : decode cX4_moved 212 = .ok (.getfield 77, 3) := dk_180 0 77 (dk_at dksX4_moved_9 0 rfl rfl)
theorem dX4_moved_215 : decode cX4_moved 215 = .ok (.iload 4, 2) := dk_21 4 (dk_at dksX4_moved_9 3 rfl rfl)
theorem dX4_moved_217 : decode cX4_moved 217 = .ok (.iaload, 1) := dk_46 (dk_at dksX4_moved_9 5 rfl rfl)
theorem dX4_moved_218 : decode cX4_moved 218 = .ok (.isub, 1) := dk_100 (dk_at dksX4_moved_9 6 rfl rfl)
theorem dX4_moved_219 : decode cX4_moved 219 = .ok (.istore 5, 2) := dk_54 5 (dk_at dksX4_moved_9 7 rfl rfl)
theorem dX4_moved_221 : decode cX4_moved 221 = .ok (.iload_n 3, 1) := dk_29 (dk_at dksX4_moved_9 9 rfl rfl)
theorem dX4_moved_222 : decode cX4_moved 222 = .ok (.iload 5, 2) := dk_21 5 (dk_at dksX4_moved_9 10 rfl rfl)
theorem dX4_moved_224 : decode cX4_moved 224 = .ok (.ifCond .ge 9, 3) := dk_156 0 9 (dk_at dksX4_moved_9 12 rfl rfl)
theorem dX4_moved_227 : decode cX4_moved 227 = .ok (.iload 5, 2) := dk_21 5 (dk_at dksX4_moved_9 15 rfl rfl)
theorem dX4_moved_229 : decode cX4_moved 229 = .ok (.ineg, 1) := dk_116 (dk_at dksX4_moved_9 17 rfl rfl)
theorem dX4_moved_230 : decode cX4_moved 230 = .ok (.goto 5, 3) := dk_167 0 5 (dk_at dksX4_moved_9 18 rfl rfl)
theorem dX4_moved_233 : decode cX4_moved 233 = .ok (.iload 5, 2) := dk_21 5 (dk_at dksX4_moved_9 21 rfl rfl)
theorem dX4_moved_235 : decode cX4_moved 235 = .ok (.iadd, 1) := dk_96 (dk_at dksX4_moved_9 23 rfl rfl)
theorem dX4_moved_236 : decode cX4_moved 236 = .ok (.istore_n 3, 1) := dk_62 (dk_at dksX4_moved_10 0 rfl rfl)
theorem dX4_moved_237 : decode cX4_moved 237 = .ok (.iinc 4 1, 3) := dk_132 4 1 (dk_at dksX4_moved_10 1 rfl rfl)
theorem dX4_moved_240 : decode cX4_moved 240 = .ok (.goto (-47), 3) := dk_167 255 209 (dk_at dksX4_moved_10 4 rfl rfl)
theorem dX4_moved_243 : decode cX4_moved 243 = .ok (.iload_n 3, 1) := dk_29 (dk_at dksX4_moved_10 7 rfl rfl)
theorem dX4_moved_244 : decode cX4_moved 244 = .ok (.ireturn, 1) := dk_172 (dk_at dksX4_moved_10 8 rfl rfl)
abbrev cX4_thousandths : ByteArray := prog_14_method_45_code
def yX4_thousandths : MethodName := ⟨RX4, "thousandths", "(J)I"⟩
def dkwX4_thousandths_2 : List UInt8 := [20, 0, 245, 105, 42, 180, 0, 221, 113, 55, 4, 132, 6, 1, 167, 255, 216, 29, 172]
abbrev dktX4_thousandths_2 : List UInt8 := dkwX4_thousandths_2 ++ []
def dkwX4_thousandths_1 : List UInt8 := [162, 0, 40, 16, 10, 29, 104, 22, 4, 20, 0, 245, 105, 42, 180, 0, 221, 109, 136, 96, 62, 22, 4]
abbrev dktX4_thousandths_1 : List UInt8 := dkwX4_thousandths_1 ++ dktX4_thousandths_2
def dkwX4_thousandths_0 : List UInt8 := [31, 42, 180, 0, 221, 148, 154, 0, 7, 17, 3, 232, 172, 3, 62, 31, 55, 4, 3, 54, 6, 21, 6, 6]
abbrev dktX4_thousandths_0 : List UInt8 := dkwX4_thousandths_0 ++ dktX4_thousandths_1
theorem dksX4_thousandths_0 : cX4_thousandths.data.toList.drop 0 = dktX4_thousandths_0 := by decide +kernel
theorem dksX4_thousandths_1 : cX4_thousandths.data.toList.drop 24 = dktX4_thousandths_1 := dk_seg dksX4_thousandths_0 24 rfl rfl
theorem dksX4_thousandths_2 : cX4_thousandths.data.toList.drop 47 = dktX4_thousandths_2 := dk_seg dksX4_thousandths_1 23 rfl rfl
theorem dX4_thousandths_0 : decode cX4_thousandths 0 = .ok (.lload_n 1, 1) := dk_31 (dk_at dksX4_thousandths_0 0 rfl rfl)
theorem dX4_thousandths_1 : decode cX4_thousandths 1 = .ok (.aload_n 0, 1) := dk_42 (dk_at dksX4_thousandths_0 1 rfl rfl)
theorem dX4_thousandths_2 : decode cX4_thousandths 2 = .ok (.getfield 221, 3) := dk_180 0 221 (dk_at dksX4_thousandths_0 2 rfl rfl)
theorem dX4_thousandths_5 : decode cX4_thousandths 5 = .ok (.lcmp, 1) := dk_148 (dk_at dksX4_thousandths_0 5 rfl rfl)
theorem dX4_thousandths_6 : decode cX4_thousandths 6 = .ok (.ifCond .ne 7, 3) := dk_154 0 7 (dk_at dksX4_thousandths_0 6 rfl rfl)
theorem dX4_thousandths_9 : decode cX4_thousandths 9 = .ok (.sipush 1000, 3) := dk_17 3 232 (dk_at dksX4_thousandths_0 9 rfl rfl)
theorem dX4_thousandths_12 : decode cX4_thousandths 12 = .ok (.ireturn, 1) := dk_172 (dk_at dksX4_thousandths_0 12 rfl rfl)
theorem dX4_thousandths_13 : decode cX4_thousandths 13 = .ok (.iconst 0, 1) := dk_3 (dk_at dksX4_thousandths_0 13 rfl rfl)
theorem dX4_thousandths_14 : decode cX4_thousandths 14 = .ok (.istore_n 3, 1) := dk_62 (dk_at dksX4_thousandths_0 14 rfl rfl)
theorem dX4_thousandths_15 : decode cX4_thousandths 15 = .ok (.lload_n 1, 1) := dk_31 (dk_at dksX4_thousandths_0 15 rfl rfl)
theorem dX4_thousandths_16 : decode cX4_thousandths 16 = .ok (.lstore 4, 2) := dk_55 4 (dk_at dksX4_thousandths_0 16 rfl rfl)
theorem dX4_thousandths_18 : decode cX4_thousandths 18 = .ok (.iconst 0, 1) := dk_3 (dk_at dksX4_thousandths_0 18 rfl rfl)
theorem dX4_thousandths_19 : decode cX4_thousandths 19 = .ok (.istore 6, 2) := dk_54 6 (dk_at dksX4_thousandths_0 19 rfl rfl)
theorem dX4_thousandths_21 : decode cX4_thousandths 21 = .ok (.iload 6, 2) := dk_21 6 (dk_at dksX4_thousandths_0 21 rfl rfl)
theorem dX4_thousandths_23 : decode cX4_thousandths 23 = .ok (.iconst 3, 1) := dk_6 (dk_at dksX4_thousandths_0 23 rfl rfl)
theorem dX4_thousandths_24 : decode cX4_thousandths 24 = .ok (.if_icmp .ge 40, 3) := dk_162 0 40 (dk_at dksX4_thousandths_1 0 rfl rfl)
theorem dX4_thousandths_27 : decode cX4_thousandths 27 = .ok (.bipush 10, 2) := dk_16 10 (dk_at dksX4_thousandths_1 3 rfl rfl)
theorem dX4_thousandths_29 : decode cX4_thousandths 29 = .ok (.iload_n 3, 1) := dk_29 (dk_at dksX4_thousandths_1 5 rfl rfl)
theorem dX4_thousandths_30 : decode cX4_thousandths 30 = .ok (.imul, 1) := dk_104 (dk_at dksX4_thousandths_1 6 rfl rfl)
theorem dX4_thousandths_31 : decode cX4_thousandths 31 = .ok (.lload 4, 2) := dk_22 4 (dk_at dksX4_thousandths_1 7 rfl rfl)
theorem dX4_thousandths_33 : decode cX4_thousandths 33 = .ok (.ldc2_w 245, 3) := dk_20 0 245 (dk_at dksX4_thousandths_1 9 rfl rfl)
theorem dX4_thousandths_36 : decode cX4_thousandths 36 = .ok (.lmul, 1) := dk_105 (dk_at dksX4_thousandths_1 12 rfl rfl)
theorem dX4_thousandths_37 : decode cX4_thousandths 37 = .ok (.aload_n 0, 1) := dk_42 (dk_at dksX4_thousandths_1 13 rfl rfl)
theorem dX4_thousandths_38 : decode cX4_thousandths 38 = .ok (.getfield 221, 3) := dk_180 0 221 (dk_at dksX4_thousandths_1 14 rfl rfl)
theorem dX4_thousandths_41 : decode cX4_thousandths 41 = .ok (.ldiv, 1) := dk_109 (dk_at dksX4_thousandths_1 17 rfl rfl)
theorem dX4_thousandths_42 : decode cX4_thousandths 42 = .ok (.l2i, 1) := dk_136 (dk_at dksX4_thousandths_1 18 rfl rfl)
theorem dX4_thousandths_43 : decode cX4_thousandths 43 = .ok (.iadd, 1) := dk_96 (dk_at dksX4_thousandths_1 19 rfl rfl)
theorem dX4_thousandths_44 : decode cX4_thousandths 44 = .ok (.istore_n 3, 1) := dk_62 (dk_at dksX4_thousandths_1 20 rfl rfl)
theorem dX4_thousandths_45 : decode cX4_thousandths 45 = .ok (.lload 4, 2) := dk_22 4 (dk_at dksX4_thousandths_1 21 rfl rfl)
theorem dX4_thousandths_47 : decode cX4_thousandths 47 = .ok (.ldc2_w 245, 3) := dk_20 0 245 (dk_at dksX4_thousandths_2 0 rfl rfl)
theorem dX4_thousandths_50 : decode cX4_thousandths 50 = .ok (.lmul, 1) := dk_105 (dk_at dksX4_thousandths_2 3 rfl rfl)
theorem dX4_thousandths_51 : decode cX4_thousandths 51 = .ok (.aload_n 0, 1) := dk_42 (dk_at dksX4_thousandths_2 4 rfl rfl)
theorem dX4_thousandths_52 : decode cX4_thousandths 52 = .ok (.getfield 221, 3) := dk_180 0 221 (dk_at dksX4_thousandths_2 5 rfl rfl)
theorem dX4_thousandths_55 : decode cX4_thousandths 55 = .ok (.lrem, 1) := dk_113 (dk_at dksX4_thousandths_2 8 rfl rfl)
theorem dX4_thousandths_56 : decode cX4_thousandths 56 = .ok (.lstore 4, 2) := dk_55 4 (dk_at dksX4_thousandths_2 9 rfl rfl)
theorem dX4_thousandths_58 : decode cX4_thousandths 58 = .ok (.iinc 6 1, 3) := dk_132 6 1 (dk_at dksX4_thousandths_2 11 rfl rfl)
theorem dX4_thousandths_61 : decode cX4_thousandths 61 = .ok (.goto (-40), 3) := dk_167 255 216 (dk_at dksX4_thousandths_2 14 rfl rfl)
theorem dX4_thousandths_64 : decode cX4_thousandths 64 = .ok (.iload_n 3, 1) := dk_29 (dk_at dksX4_thousandths_2 17 rfl rfl)
theorem dX4_thousandths_65 : decode cX4_thousandths 65 = .ok (.ireturn, 1) := dk_172 (dk_at dksX4_thousandths_2 18 rfl rfl)
abbrev cX4_most : ByteArray := prog_14_method_49_code
def yX4_most : MethodName := ⟨RX4, "most", "()I"⟩
def dkwX4_most_2 : List UInt8 := [164, 0, 8, 21, 4, 167, 0, 4, 28, 61, 132, 3, 1, 167, 255, 203, 27, 172]
abbrev dktX4_most_2 : List UInt8 := dkwX4_most_2 ++ []
def dkwX4_most_1 : List UInt8 := [182, 1, 0, 167, 0, 4, 2, 54, 4, 21, 4, 28, 164, 0, 7, 29, 167, 0, 4, 27, 60, 21, 4, 28]
abbrev dktX4_most_1 : List UInt8 := dkwX4_most_1 ++ dktX4_most_2
def dkwX4_most_0 : List UInt8 := [3, 60, 2, 61, 3, 62, 29, 16, 13, 162, 0, 53, 42, 29, 182, 0, 253, 153, 0, 11, 42, 29]
abbrev dktX4_most_0 : List UInt8 := dkwX4_most_0 ++ dktX4_most_1
theorem dksX4_most_0 : cX4_most.data.toList.drop 0 = dktX4_most_0 := by decide +kernel
theorem dksX4_most_1 : cX4_most.data.toList.drop 22 = dktX4_most_1 := dk_seg dksX4_most_0 22 rfl rfl
theorem dksX4_most_2 : cX4_most.data.toList.drop 46 = dktX4_most_2 := dk_seg dksX4_most_1 24 rfl rfl
theorem dX4_most_0 : decode cX4_most 0 = .ok (.iconst 0, 1) := dk_3 (dk_at dksX4_most_0 0 rfl rfl)
theorem dX4_most_1 : decode cX4_most 1 = .ok (.istore_n 1, 1) := dk_60 (dk_at dksX4_most_0 1 rfl rfl)
theorem dX4_most_2 : decode cX4_most 2 = .ok (.iconst (-1), 1) := dk_2 (dk_at dksX4_most_0 2 rfl rfl)
theorem dX4_most_3 : decode cX4_most 3 = .ok (.istore_n 2, 1) := dk_61 (dk_at dksX4_most_0 3 rfl rfl)
theorem dX4_most_4 : decode cX4_most 4 = .ok (.iconst 0, 1) := dk_3 (dk_at dksX4_most_0 4 rfl rfl)
theorem dX4_most_5 : decode cX4_most 5 = .ok (.istore_n 3, 1) := dk_62 (dk_at dksX4_most_0 5 rfl rfl)
theorem dX4_most_6 : decode cX4_most 6 = .ok (.iload_n 3, 1) := dk_29 (dk_at dksX4_most_0 6 rfl rfl)
theorem dX4_most_7 : decode cX4_most 7 = .ok (.bipush 13, 2) := dk_16 13 (dk_at dksX4_most_0 7 rfl rfl)
theorem dX4_most_9 : decode cX4_most 9 = .ok (.if_icmp .ge 53, 3) := dk_162 0 53 (dk_at dksX4_most_0 9 rfl rfl)
theorem dX4_most_12 : decode cX4_most 12 = .ok (.aload_n 0, 1) := dk_42 (dk_at dksX4_most_0 12 rfl rfl)
theorem dX4_most_13 : decode cX4_most 13 = .ok (.iload_n 3, 1) := dk_29 (dk_at dksX4_most_0 13 rfl rfl)
theorem dX4_most_14 : decode cX4_most 14 = .ok (.invokevirtual 253, 3) := dk_182 0 253 (dk_at dksX4_most_0 14 rfl rfl)
theorem dX4_most_17 : decode cX4_most 17 = .ok (.ifCond .eq 11, 3) := dk_153 0 11 (dk_at dksX4_most_0 17 rfl rfl)
theorem dX4_most_20 : decode cX4_most 20 = .ok (.aload_n 0, 1) := dk_42 (dk_at dksX4_most_0 20 rfl rfl)
theorem dX4_most_21 : decode cX4_most 21 = .ok (.iload_n 3, 1) := dk_29 (dk_at dksX4_most_0 21 rfl rfl)
theorem dX4_most_22 : decode cX4_most 22 = .ok (.invokevirtual 256, 3) := dk_182 1 0 (dk_at dksX4_most_1 0 rfl rfl)
theorem dX4_most_25 : decode cX4_most 25 = .ok (.goto 4, 3) := dk_167 0 4 (dk_at dksX4_most_1 3 rfl rfl)
theorem dX4_most_28 : decode cX4_most 28 = .ok (.iconst (-1), 1) := dk_2 (dk_at dksX4_most_1 6 rfl rfl)
theorem dX4_most_29 : decode cX4_most 29 = .ok (.istore 4, 2) := dk_54 4 (dk_at dksX4_most_1 7 rfl rfl)
theorem dX4_most_31 : decode cX4_most 31 = .ok (.iload 4, 2) := dk_21 4 (dk_at dksX4_most_1 9 rfl rfl)
theorem dX4_most_33 : decode cX4_most 33 = .ok (.iload_n 2, 1) := dk_28 (dk_at dksX4_most_1 11 rfl rfl)
theorem dX4_most_34 : decode cX4_most 34 = .ok (.if_icmp .le 7, 3) := dk_164 0 7 (dk_at dksX4_most_1 12 rfl rfl)
theorem dX4_most_37 : decode cX4_most 37 = .ok (.iload_n 3, 1) := dk_29 (dk_at dksX4_most_1 15 rfl rfl)
theorem dX4_most_38 : decode cX4_most 38 = .ok (.goto 4, 3) := dk_167 0 4 (dk_at dksX4_most_1 16 rfl rfl)
theorem dX4_most_41 : decode cX4_most 41 = .ok (.iload_n 1, 1) := dk_27 (dk_at dksX4_most_1 19 rfl rfl)
theorem dX4_most_42 : decode cX4_most 42 = .ok (.istore_n 1, 1) := dk_60 (dk_at dksX4_most_1 20 rfl rfl)
theorem dX4_most_43 : decode cX4_most 43 = .ok (.iload 4, 2) := dk_21 4 (dk_at dksX4_most_1 21 rfl rfl)
theorem dX4_most_45 : decode cX4_most 45 = .ok (.iload_n 2, 1) := dk_28 (dk_at dksX4_most_1 23 rfl rfl)
theorem dX4_most_46 : decode cX4_most 46 = .ok (.if_icmp .le 8, 3) := dk_164 0 8 (dk_at dksX4_most_2 0 rfl rfl)
theorem dX4_most_49 : decode cX4_most 49 = .ok (.iload 4, 2) := dk_21 4 (dk_at dksX4_most_2 3 rfl rfl)
theorem dX4_most_51 : decode cX4_most 51 = .ok (.goto 4, 3) := dk_167 0 4 (dk_at dksX4_most_2 5 rfl rfl)
theorem dX4_most_54 : decode cX4_most 54 = .ok (.iload_n 2, 1) := dk_28 (dk_at dksX4_most_2 8 rfl rfl)
theorem dX4_most_55 : decode cX4_most 55 = .ok (.istore_n 2, 1) := dk_61 (dk_at dksX4_most_2 9 rfl rfl)
theorem dX4_most_56 : decode cX4_most 56 = .ok (.iinc 3 1, 3) := dk_132 3 1 (dk_at dksX4_most_2 10 rfl rfl)
theorem dX4_most_59 : decode cX4_most 59 = .ok (.goto (-53), 3) := dk_167 255 203 (dk_at dksX4_most_2 13 rfl rfl)
theorem dX4_most_62 : decode cX4_most 62 = .ok (.iload_n 1, 1) := dk_27 (dk_at dksX4_most_2 16 rfl rfl)
theorem dX4_most_63 : decode cX4_most 63 = .ok (.ireturn, 1) := dk_172 (dk_at dksX4_most_2 17 rfl rfl)
abbrev cX4_next : ByteArray := prog_14_method_50_code
def yX4_next : MethodName := ⟨RX4, "next", "()I"⟩
def dkwX4_next_5 : List UInt8 := [60, 132, 2, 1, 167, 255, 145, 27, 172]
abbrev dktX4_next_5 : List UInt8 := dkwX4_next_5 ++ []
def dkwX4_next_4 : List UInt8 := [105, 42, 180, 0, 73, 27, 47, 42, 180, 0, 25, 28, 46, 133, 105, 148, 158, 0, 7, 28, 167, 0, 4, 27]
abbrev dktX4_next_4 : List UInt8 := dkwX4_next_4 ++ dktX4_next_5
def dkwX4_next_3 : List UInt8 := [167, 255, 223, 29, 153, 0, 43, 27, 155, 0, 35, 42, 180, 0, 73, 28, 47, 42, 180, 0, 25, 27, 46, 133]
abbrev dktX4_next_3 : List UInt8 := dkwX4_next_3 ++ dktX4_next_4
def dkwX4_next_2 : List UInt8 := [153, 0, 18, 42, 180, 0, 67, 21, 4, 46, 28, 159, 0, 7, 4, 167, 0, 4, 3, 62, 132, 4, 1]
abbrev dktX4_next_2 : List UInt8 := dkwX4_next_2 ++ dktX4_next_3
def dkwX4_next_1 : List UInt8 := [158, 0, 7, 4, 167, 0, 4, 3, 62, 3, 54, 4, 21, 4, 42, 180, 0, 218, 162, 0, 30, 29]
abbrev dktX4_next_1 : List UInt8 := dkwX4_next_1 ++ dktX4_next_2
def dkwX4_next_0 : List UInt8 := [42, 182, 0, 234, 16, 252, 60, 3, 61, 28, 16, 100, 162, 0, 111, 42, 180, 0, 73, 28, 47, 9, 148]
abbrev dktX4_next_0 : List UInt8 := dkwX4_next_0 ++ dktX4_next_1
theorem dksX4_next_0 : cX4_next.data.toList.drop 0 = dktX4_next_0 := by decide +kernel
theorem dksX4_next_1 : cX4_next.data.toList.drop 23 = dktX4_next_1 := dk_seg dksX4_next_0 23 rfl rfl
theorem dksX4_next_2 : cX4_next.data.toList.drop 45 = dktX4_next_2 := dk_seg dksX4_next_1 22 rfl rfl
theorem dksX4_next_3 : cX4_next.data.toList.drop 68 = dktX4_next_3 := dk_seg dksX4_next_2 23 rfl rfl
theorem dksX4_next_4 : cX4_next.data.toList.drop 92 = dktX4_next_4 := dk_seg dksX4_next_3 24 rfl rfl
theorem dksX4_next_5 : cX4_next.data.toList.drop 116 = dktX4_next_5 := dk_seg dksX4_next_4 24 rfl rfl
theorem dX4_next_0 : decode cX4_next 0 = .ok (.aload_n 0, 1) := dk_42 (dk_at dksX4_next_0 0 rfl rfl)
theorem dX4_next_1 : decode cX4_next 1 = .ok (.invokevirtual 234, 3) := dk_182 0 234 (dk_at dksX4_next_0 1 rfl rfl)
theorem dX4_next_4 : decode cX4_next 4 = .ok (.bipush (-4), 2) := dk_16 252 (dk_at dksX4_next_0 4 rfl rfl)
theorem dX4_next_6 : decode cX4_next 6 = .ok (.istore_n 1, 1) := dk_60 (dk_at dksX4_next_0 6 rfl rfl)
theorem dX4_next_7 : decode cX4_next 7 = .ok (.iconst 0, 1) := dk_3 (dk_at dksX4_next_0 7 rfl rfl)
theorem dX4_next_8 : decode cX4_next 8 = .ok (.istore_n 2, 1) := dk_61 (dk_at dksX4_next_0 8 rfl rfl)
theorem dX4_next_9 : decode cX4_next 9 = .ok (.iload_n 2, 1) := dk_28 (dk_at dksX4_next_0 9 rfl rfl)
theorem dX4_next_10 : decode cX4_next 10 = .ok (.bipush 100, 2) := dk_16 100 (dk_at dksX4_next_0 10 rfl rfl)
theorem dX4_next_12 : decode cX4_next 12 = .ok (.if_icmp .ge 111, 3) := dk_162 0 111 (dk_at dksX4_next_0 12 rfl rfl)
theorem dX4_next_15 : decode cX4_next 15 = .ok (.aload_n 0, 1) := dk_42 (dk_at dksX4_next_0 15 rfl rfl)
theorem dX4_next_16 : decode cX4_next 16 = .ok (.getfield 73, 3) := dk_180 0 73 (dk_at dksX4_next_0 16 rfl rfl)
theorem dX4_next_19 : decode cX4_next 19 = .ok (.iload_n 2, 1) := dk_28 (dk_at dksX4_next_0 19 rfl rfl)
theorem dX4_next_20 : decode cX4_next 20 = .ok (.laload, 1) := dk_47 (dk_at dksX4_next_0 20 rfl rfl)
theorem dX4_next_21 : decode cX4_next 21 = .ok (.lconst 0, 1) := dk_9 (dk_at dksX4_next_0 21 rfl rfl)
theorem dX4_next_22 : decode cX4_next 22 = .ok (.lcmp, 1) := dk_148 (dk_at dksX4_next_0 22 rfl rfl)
theorem dX4_next_23 : decode cX4_next 23 = .ok (.ifCond .le 7, 3) := dk_158 0 7 (dk_at dksX4_next_1 0 rfl rfl)
theorem dX4_next_26 : decode cX4_next 26 = .ok (.iconst 1, 1) := dk_4 (dk_at dksX4_next_1 3 rfl rfl)
theorem dX4_next_27 : decode cX4_next 27 = .ok (.goto 4, 3) := dk_167 0 4 (dk_at dksX4_next_1 4 rfl rfl)
theorem dX4_next_30 : decode cX4_next 30 = .ok (.iconst 0, 1) := dk_3 (dk_at dksX4_next_1 7 rfl rfl)
theorem dX4_next_31 : decode cX4_next 31 = .ok (.istore_n 3, 1) := dk_62 (dk_at dksX4_next_1 8 rfl rfl)
theorem dX4_next_32 : decode cX4_next 32 = .ok (.iconst 0, 1) := dk_3 (dk_at dksX4_next_1 9 rfl rfl)
theorem dX4_next_33 : decode cX4_next 33 = .ok (.istore 4, 2) := dk_54 4 (dk_at dksX4_next_1 10 rfl rfl)
theorem dX4_next_35 : decode cX4_next 35 = .ok (.iload 4, 2) := dk_21 4 (dk_at dksX4_next_1 12 rfl rfl)
theorem dX4_next_37 : decode cX4_next 37 = .ok (.aload_n 0, 1) := dk_42 (dk_at dksX4_next_1 14 rfl rfl)
theorem dX4_next_38 : decode cX4_next 38 = .ok (.getfield 218, 3) := dk_180 0 218 (dk_at dksX4_next_1 15 rfl rfl)
theorem dX4_next_41 : decode cX4_next 41 = .ok (.if_icmp .ge 30, 3) := dk_162 0 30 (dk_at dksX4_next_1 18 rfl rfl)
theorem dX4_next_44 : decode cX4_next 44 = .ok (.iload_n 3, 1) := dk_29 (dk_at dksX4_next_1 21 rfl rfl)
theorem dX4_next_45 : decode cX4_next 45 = .ok (.ifCond .eq 18, 3) := dk_153 0 18 (dk_at dksX4_next_2 0 rfl rfl)
theorem dX4_next_48 : decode cX4_next 48 = .ok (.aload_n 0, 1) := dk_42 (dk_at dksX4_next_2 3 rfl rfl)
theorem dX4_next_49 : decode cX4_next 49 = .ok (.getfield 67, 3) := dk_180 0 67 (dk_at dksX4_next_2 4 rfl rfl)
theorem dX4_next_52 : decode cX4_next 52 = .ok (.iload 4, 2) := dk_21 4 (dk_at dksX4_next_2 7 rfl rfl)
theorem dX4_next_54 : decode cX4_next 54 = .ok (.iaload, 1) := dk_46 (dk_at dksX4_next_2 9 rfl rfl)
theorem dX4_next_55 : decode cX4_next 55 = .ok (.iload_n 2, 1) := dk_28 (dk_at dksX4_next_2 10 rfl rfl)
theorem dX4_next_56 : decode cX4_next 56 = .ok (.if_icmp .eq 7, 3) := dk_159 0 7 (dk_at dksX4_next_2 11 rfl rfl)
theorem dX4_next_59 : decode cX4_next 59 = .ok (.iconst 1, 1) := dk_4 (dk_at dksX4_next_2 14 rfl rfl)
theorem dX4_next_60 : decode cX4_next 60 = .ok (.goto 4, 3) := dk_167 0 4 (dk_at dksX4_next_2 15 rfl rfl)
theorem dX4_next_63 : decode cX4_next 63 = .ok (.iconst 0, 1) := dk_3 (dk_at dksX4_next_2 18 rfl rfl)
theorem dX4_next_64 : decode cX4_next 64 = .ok (.istore_n 3, 1) := dk_62 (dk_at dksX4_next_2 19 rfl rfl)
theorem dX4_next_65 : decode cX4_next 65 = .ok (.iinc 4 1, 3) := dk_132 4 1 (dk_at dksX4_next_2 20 rfl rfl)
theorem dX4_next_68 : decode cX4_next 68 = .ok (.goto (-33), 3) := dk_167 255 223 (dk_at dksX4_next_3 0 rfl rfl)
theorem dX4_next_71 : decode cX4_next 71 = .ok (.iload_n 3, 1) := dk_29 (dk_at dksX4_next_3 3 rfl rfl)
theorem dX4_next_72 : decode cX4_next 72 = .ok (.ifCond .eq 43, 3) := dk_153 0 43 (dk_at dksX4_next_3 4 rfl rfl)
theorem dX4_next_75 : decode cX4_next 75 = .ok (.iload_n 1, 1) := dk_27 (dk_at dksX4_next_3 7 rfl rfl)
theorem dX4_next_76 : decode cX4_next 76 = .ok (.ifCond .lt 35, 3) := dk_155 0 35 (dk_at dksX4_next_3 8 rfl rfl)
theorem dX4_next_79 : decode cX4_next 79 = .ok (.aload_n 0, 1) := dk_42 (dk_at dksX4_next_3 11 rfl rfl)
theorem dX4_next_80 : decode cX4_next 80 = .ok (.getfield 73, 3) := dk_180 0 73 (dk_at dksX4_next_3 12 rfl rfl)
theorem dX4_next_83 : decode cX4_next 83 = .ok (.iload_n 2, 1) := dk_28 (dk_at dksX4_next_3 15 rfl rfl)
theorem dX4_next_84 : decode cX4_next 84 = .ok (.laload, 1) := dk_47 (dk_at dksX4_next_3 16 rfl rfl)
theorem dX4_next_85 : decode cX4_next 85 = .ok (.aload_n 0, 1) := dk_42 (dk_at dksX4_next_3 17 rfl rfl)
theorem dX4_next_86 : decode cX4_next 86 = .ok (.getfield 25, 3) := dk_180 0 25 (dk_at dksX4_next_3 18 rfl rfl)
theorem dX4_next_89 : decode cX4_next 89 = .ok (.iload_n 1, 1) := dk_27 (dk_at dksX4_next_3 21 rfl rfl)
theorem dX4_next_90 : decode cX4_next 90 = .ok (.iaload, 1) := dk_46 (dk_at dksX4_next_3 22 rfl rfl)
theorem dX4_next_91 : decode cX4_next 91 = .ok (.i2l, 1) := dk_133 (dk_at dksX4_next_3 23 rfl rfl)
theorem dX4_next_92 : decode cX4_next 92 = .ok (.lmul, 1) := dk_105 (dk_at dksX4_next_4 0 rfl rfl)
theorem dX4_next_93 : decode cX4_next 93 = .ok (.aload_n 0, 1) := dk_42 (dk_at dksX4_next_4 1 rfl rfl)
theorem dX4_next_94 : decode cX4_next 94 = .ok (.getfield 73, 3) := dk_180 0 73 (dk_at dksX4_next_4 2 rfl rfl)
theorem dX4_next_97 : decode cX4_next 97 = .ok (.iload_n 1, 1) := dk_27 (dk_at dksX4_next_4 5 rfl rfl)
theorem dX4_next_98 : decode cX4_next 98 = .ok (.laload, 1) := dk_47 (dk_at dksX4_next_4 6 rfl rfl)
theorem dX4_next_99 : decode cX4_next 99 = .ok (.aload_n 0, 1) := dk_42 (dk_at dksX4_next_4 7 rfl rfl)
theorem dX4_next_100 : decode cX4_next 100 = .ok (.getfield 25, 3) := dk_180 0 25 (dk_at dksX4_next_4 8 rfl rfl)
theorem dX4_next_103 : decode cX4_next 103 = .ok (.iload_n 2, 1) := dk_28 (dk_at dksX4_next_4 11 rfl rfl)
theorem dX4_next_104 : decode cX4_next 104 = .ok (.iaload, 1) := dk_46 (dk_at dksX4_next_4 12 rfl rfl)
theorem dX4_next_105 : decode cX4_next 105 = .ok (.i2l, 1) := dk_133 (dk_at dksX4_next_4 13 rfl rfl)
theorem dX4_next_106 : decode cX4_next 106 = .ok (.lmul, 1) := dk_105 (dk_at dksX4_next_4 14 rfl rfl)
theorem dX4_next_107 : decode cX4_next 107 = .ok (.lcmp, 1) := dk_148 (dk_at dksX4_next_4 15 rfl rfl)
theorem dX4_next_108 : decode cX4_next 108 = .ok (.ifCond .le 7, 3) := dk_158 0 7 (dk_at dksX4_next_4 16 rfl rfl)
theorem dX4_next_111 : decode cX4_next 111 = .ok (.iload_n 2, 1) := dk_28 (dk_at dksX4_next_4 19 rfl rfl)
theorem dX4_next_112 : decode cX4_next 112 = .ok (.goto 4, 3) := dk_167 0 4 (dk_at dksX4_next_4 20 rfl rfl)
theorem dX4_next_115 : decode cX4_next 115 = .ok (.iload_n 1, 1) := dk_27 (dk_at dksX4_next_4 23 rfl rfl)
theorem dX4_next_116 : decode cX4_next 116 = .ok (.istore_n 1, 1) := dk_60 (dk_at dksX4_next_5 0 rfl rfl)
theorem dX4_next_117 : decode cX4_next 117 = .ok (.iinc 2 1, 3) := dk_132 2 1 (dk_at dksX4_next_5 1 rfl rfl)
theorem dX4_next_120 : decode cX4_next 120 = .ok (.goto (-111), 3) := dk_167 255 145 (dk_at dksX4_next_5 4 rfl rfl)
theorem dX4_next_123 : decode cX4_next 123 = .ok (.iload_n 1, 1) := dk_27 (dk_at dksX4_next_5 7 rfl rfl)
theorem dX4_next_124 : decode cX4_next 124 = .ok (.ireturn, 1) := dk_172 (dk_at dksX4_next_5 8 rfl rfl)
abbrev cX4_should : ByteArray := prog_14_method_51_code
def yX4_should : MethodName := ⟨RX4, "should", "(IIII)J"⟩
def dkwX4_should_5 : List UInt8 := [167, 255, 206, 22, 5, 42, 180, 0, 221, 21, 4, 184, 0, 239, 173]
abbrev dktX4_should_5 : List UInt8 := dkwX4_should_5 ++ []
def dkwX4_should_4 : List UInt8 := [182, 0, 212, 27, 160, 0, 13, 42, 180, 0, 73, 21, 7, 47, 167, 0, 4, 9, 97, 55, 5, 132, 7, 1]
abbrev dktX4_should_4 : List UInt8 := dkwX4_should_4 ++ dktX4_should_5
def dkwX4_should_3 : List UInt8 := [16, 100, 162, 0, 49, 22, 5, 42, 180, 0, 73, 21, 7, 47, 9, 148, 158, 0, 25, 42, 21, 7, 28, 29]
abbrev dktX4_should_3 : List UInt8 := dkwX4_should_3 ++ dktX4_should_4
def dkwX4_should_2 : List UInt8 := [182, 0, 234, 42, 180, 0, 221, 9, 148, 154, 0, 7, 20, 0, 237, 173, 9, 55, 5, 3, 54, 7, 21, 7]
abbrev dktX4_should_2 : List UInt8 := dkwX4_should_2 ++ dktX4_should_3
def dkwX4_should_1 : List UInt8 := [184, 0, 100, 153, 0, 14, 21, 4, 133, 9, 10, 184, 0, 100, 154, 0, 7, 20, 0, 124, 173, 42]
abbrev dktX4_should_1 : List UInt8 := dkwX4_should_1 ++ dktX4_should_2
def dkwX4_should_0 : List UInt8 := [27, 184, 0, 115, 153, 0, 36, 28, 133, 9, 20, 0, 204, 184, 0, 100, 153, 0, 24, 29, 133, 9, 10]
abbrev dktX4_should_0 : List UInt8 := dkwX4_should_0 ++ dktX4_should_1
theorem dksX4_should_0 : cX4_should.data.toList.drop 0 = dktX4_should_0 := by decide +kernel
theorem dksX4_should_1 : cX4_should.data.toList.drop 23 = dktX4_should_1 := dk_seg dksX4_should_0 23 rfl rfl
theorem dksX4_should_2 : cX4_should.data.toList.drop 45 = dktX4_should_2 := dk_seg dksX4_should_1 22 rfl rfl
theorem dksX4_should_3 : cX4_should.data.toList.drop 69 = dktX4_should_3 := dk_seg dksX4_should_2 24 rfl rfl
theorem dksX4_should_4 : cX4_should.data.toList.drop 93 = dktX4_should_4 := dk_seg dksX4_should_3 24 rfl rfl
theorem dksX4_should_5 : cX4_should.data.toList.drop 117 = dktX4_should_5 := dk_seg dksX4_should_4 24 rfl rfl
theorem dX4_should_0 : decode cX4_should 0 = .ok (.iload_n 1, 1) := dk_27 (dk_at dksX4_should_0 0 rfl rfl)
theorem dX4_should_1 : decode cX4_should 1 = .ok (.invokestatic 115, 3) := dk_184 0 115 (dk_at dksX4_should_0 1 rfl rfl)
theorem dX4_should_4 : decode cX4_should 4 = .ok (.ifCond .eq 36, 3) := dk_153 0 36 (dk_at dksX4_should_0 4 rfl rfl)
theorem dX4_should_7 : decode cX4_should 7 = .ok (.iload_n 2, 1) := dk_28 (dk_at dksX4_should_0 7 rfl rfl)
theorem dX4_should_8 : decode cX4_should 8 = .ok (.i2l, 1) := dk_133 (dk_at dksX4_should_0 8 rfl rfl)
theorem dX4_should_9 : decode cX4_should 9 = .ok (.lconst 0, 1) := dk_9 (dk_at dksX4_should_0 9 rfl rfl)
theorem dX4_should_10 : decode cX4_should 10 = .ok (.ldc2_w 204, 3) := dk_20 0 204 (dk_at dksX4_should_0 10 rfl rfl)
theorem dX4_should_13 : decode cX4_should 13 = .ok (.invokestatic 100, 3) := dk_184 0 100 (dk_at dksX4_should_0 13 rfl rfl)
theorem dX4_should_16 : decode cX4_should 16 = .ok (.ifCond .eq 24, 3) := dk_153 0 24 (dk_at dksX4_should_0 16 rfl rfl)
theorem dX4_should_19 : decode cX4_should 19 = .ok (.iload_n 3, 1) := dk_29 (dk_at dksX4_should_0 19 rfl rfl)
theorem dX4_should_20 : decode cX4_should 20 = .ok (.i2l, 1) := dk_133 (dk_at dksX4_should_0 20 rfl rfl)
theorem dX4_should_21 : decode cX4_should 21 = .ok (.lconst 0, 1) := dk_9 (dk_at dksX4_should_0 21 rfl rfl)
theorem dX4_should_22 : decode cX4_should 22 = .ok (.lconst 1, 1) := dk_10 (dk_at dksX4_should_0 22 rfl rfl)
theorem dX4_should_23 : decode cX4_should 23 = .ok (.invokestatic 100, 3) := dk_184 0 100 (dk_at dksX4_should_1 0 rfl rfl)
theorem dX4_should_26 : decode cX4_should 26 = .ok (.ifCond .eq 14, 3) := dk_153 0 14 (dk_at dksX4_should_1 3 rfl rfl)
theorem dX4_should_29 : decode cX4_should 29 = .ok (.iload 4, 2) := dk_21 4 (dk_at dksX4_should_1 6 rfl rfl)
theorem dX4_should_31 : decode cX4_should 31 = .ok (.i2l, 1) := dk_133 (dk_at dksX4_should_1 8 rfl rfl)
theorem dX4_should_32 : decode cX4_should 32 = .ok (.lconst 0, 1) := dk_9 (dk_at dksX4_should_1 9 rfl rfl)
theorem dX4_should_33 : decode cX4_should 33 = .ok (.lconst 1, 1) := dk_10 (dk_at dksX4_should_1 10 rfl rfl)
theorem dX4_should_34 : decode cX4_should 34 = .ok (.invokestatic 100, 3) := dk_184 0 100 (dk_at dksX4_should_1 11 rfl rfl)
theorem dX4_should_37 : decode cX4_should 37 = .ok (.ifCond .ne 7, 3) := dk_154 0 7 (dk_at dksX4_should_1 14 rfl rfl)
theorem dX4_should_40 : decode cX4_should 40 = .ok (.ldc2_w 124, 3) := dk_20 0 124 (dk_at dksX4_should_1 17 rfl rfl)
theorem dX4_should_43 : decode cX4_should 43 = .ok (.lreturn, 1) := dk_173 (dk_at dksX4_should_1 20 rfl rfl)
theorem dX4_should_44 : decode cX4_should 44 = .ok (.aload_n 0, 1) := dk_42 (dk_at dksX4_should_1 21 rfl rfl)
theorem dX4_should_45 : decode cX4_should 45 = .ok (.invokevirtual 234, 3) := dk_182 0 234 (dk_at dksX4_should_2 0 rfl rfl)
theorem dX4_should_48 : decode cX4_should 48 = .ok (.aload_n 0, 1) := dk_42 (dk_at dksX4_should_2 3 rfl rfl)
theorem dX4_should_49 : decode cX4_should 49 = .ok (.getfield 221, 3) := dk_180 0 221 (dk_at dksX4_should_2 4 rfl rfl)
theorem dX4_should_52 : decode cX4_should 52 = .ok (.lconst 0, 1) := dk_9 (dk_at dksX4_should_2 7 rfl rfl)
theorem dX4_should_53 : decode cX4_should 53 = .ok (.lcmp, 1) := dk_148 (dk_at dksX4_should_2 8 rfl rfl)
theorem dX4_should_54 : decode cX4_should 54 = .ok (.ifCond .ne 7, 3) := dk_154 0 7 (dk_at dksX4_should_2 9 rfl rfl)
theorem dX4_should_57 : decode cX4_should 57 = .ok (.ldc2_w 237, 3) := dk_20 0 237 (dk_at dksX4_should_2 12 rfl rfl)
theorem dX4_should_60 : decode cX4_should 60 = .ok (.lreturn, 1) := dk_173 (dk_at dksX4_should_2 15 rfl rfl)
theorem dX4_should_61 : decode cX4_should 61 = .ok (.lconst 0, 1) := dk_9 (dk_at dksX4_should_2 16 rfl rfl)
theorem dX4_should_62 : decode cX4_should 62 = .ok (.lstore 5, 2) := dk_55 5 (dk_at dksX4_should_2 17 rfl rfl)
theorem dX4_should_64 : decode cX4_should 64 = .ok (.iconst 0, 1) := dk_3 (dk_at dksX4_should_2 19 rfl rfl)
theorem dX4_should_65 : decode cX4_should 65 = .ok (.istore 7, 2) := dk_54 7 (dk_at dksX4_should_2 20 rfl rfl)
theorem dX4_should_67 : decode cX4_should 67 = .ok (.iload 7, 2) := dk_21 7 (dk_at dksX4_should_2 22 rfl rfl)
theorem dX4_should_69 : decode cX4_should 69 = .ok (.bipush 100, 2) := dk_16 100 (dk_at dksX4_should_3 0 rfl rfl)
theorem dX4_should_71 : decode cX4_should 71 = .ok (.if_icmp .ge 49, 3) := dk_162 0 49 (dk_at dksX4_should_3 2 rfl rfl)
theorem dX4_should_74 : decode cX4_should 74 = .ok (.lload 5, 2) := dk_22 5 (dk_at dksX4_should_3 5 rfl rfl)
theorem dX4_should_76 : decode cX4_should 76 = .ok (.aload_n 0, 1) := dk_42 (dk_at dksX4_should_3 7 rfl rfl)
theorem dX4_should_77 : decode cX4_should 77 = .ok (.getfield 73, 3) := dk_180 0 73 (dk_at dksX4_should_3 8 rfl rfl)
theorem dX4_should_80 : decode cX4_should 80 = .ok (.iload 7, 2) := dk_21 7 (dk_at dksX4_should_3 11 rfl rfl)
theorem dX4_should_82 : decode cX4_should 82 = .ok (.laload, 1) := dk_47 (dk_at dksX4_should_3 13 rfl rfl)
theorem dX4_should_83 : decode cX4_should 83 = .ok (.lconst 0, 1) := dk_9 (dk_at dksX4_should_3 14 rfl rfl)
theorem dX4_should_84 : decode cX4_should 84 = .ok (.lcmp, 1) := dk_148 (dk_at dksX4_should_3 15 rfl rfl)
theorem dX4_should_85 : decode cX4_should 85 = .ok (.ifCond .le 25, 3) := dk_158 0 25 (dk_at dksX4_should_3 16 rfl rfl)
theorem dX4_should_88 : decode cX4_should 88 = .ok (.aload_n 0, 1) := dk_42 (dk_at dksX4_should_3 19 rfl rfl)
theorem dX4_should_89 : decode cX4_should 89 = .ok (.iload 7, 2) := dk_21 7 (dk_at dksX4_should_3 20 rfl rfl)
theorem dX4_should_91 : decode cX4_should 91 = .ok (.iload_n 2, 1) := dk_28 (dk_at dksX4_should_3 22 rfl rfl)
theorem dX4_should_92 : decode cX4_should 92 = .ok (.iload_n 3, 1) := dk_29 (dk_at dksX4_should_3 23 rfl rfl)
theorem dX4_should_93 : decode cX4_should 93 = .ok (.invokevirtual 212, 3) := dk_182 0 212 (dk_at dksX4_should_4 0 rfl rfl)
theorem dX4_should_96 : decode cX4_should 96 = .ok (.iload_n 1, 1) := dk_27 (dk_at dksX4_should_4 3 rfl rfl)
theorem dX4_should_97 : decode cX4_should 97 = .ok (.if_icmp .ne 13, 3) := dk_160 0 13 (dk_at dksX4_should_4 4 rfl rfl)
theorem dX4_should_100 : decode cX4_should 100 = .ok (.aload_n 0, 1) := dk_42 (dk_at dksX4_should_4 7 rfl rfl)
theorem dX4_should_101 : decode cX4_should 101 = .ok (.getfield 73, 3) := dk_180 0 73 (dk_at dksX4_should_4 8 rfl rfl)
theorem dX4_should_104 : decode cX4_should 104 = .ok (.iload 7, 2) := dk_21 7 (dk_at dksX4_should_4 11 rfl rfl)
theorem dX4_should_106 : decode cX4_should 106 = .ok (.laload, 1) := dk_47 (dk_at dksX4_should_4 13 rfl rfl)
theorem dX4_should_107 : decode cX4_should 107 = .ok (.goto 4, 3) := dk_167 0 4 (dk_at dksX4_should_4 14 rfl rfl)
theorem dX4_should_110 : decode cX4_should 110 = .ok (.lconst 0, 1) := dk_9 (dk_at dksX4_should_4 17 rfl rfl)
theorem dX4_should_111 : decode cX4_should 111 = .ok (.ladd, 1) := dk_97 (dk_at dksX4_should_4 18 rfl rfl)
theorem dX4_should_112 : decode cX4_should 112 = .ok (.lstore 5, 2) := dk_55 5 (dk_at dksX4_should_4 19 rfl rfl)
theorem dX4_should_114 : decode cX4_should 114 = .ok (.iinc 7 1, 3) := dk_132 7 1 (dk_at dksX4_should_4 21 rfl rfl)
theorem dX4_should_117 : decode cX4_should 117 = .ok (.goto (-50), 3) := dk_167 255 206 (dk_at dksX4_should_5 0 rfl rfl)
theorem dX4_should_120 : decode cX4_should 120 = .ok (.lload 5, 2) := dk_22 5 (dk_at dksX4_should_5 3 rfl rfl)
theorem dX4_should_122 : decode cX4_should 122 = .ok (.aload_n 0, 1) := dk_42 (dk_at dksX4_should_5 5 rfl rfl)
theorem dX4_should_123 : decode cX4_should 123 = .ok (.getfield 221, 3) := dk_180 0 221 (dk_at dksX4_should_5 6 rfl rfl)
theorem dX4_should_126 : decode cX4_should 126 = .ok (.iload 4, 2) := dk_21 4 (dk_at dksX4_should_5 9 rfl rfl)
theorem dX4_should_128 : decode cX4_should 128 = .ok (.invokestatic 239, 3) := dk_184 0 239 (dk_at dksX4_should_5 11 rfl rfl)
theorem dX4_should_131 : decode cX4_should 131 = .ok (.lreturn, 1) := dk_173 (dk_at dksX4_should_5 14 rfl rfl)
abbrev cX4_held : ByteArray := prog_14_method_53_code
def yX4_held : MethodName := ⟨RX4, "held", "(III)I"⟩
def dkwX4_held_10 : List UInt8 := [167, 255, 206, 21, 6, 172]
abbrev dktX4_held_10 : List UInt8 := dkwX4_held_10 ++ []
def dkwX4_held_9 : List UInt8 := [42, 180, 0, 7, 5, 46, 96, 46, 47, 148, 158, 0, 7, 4, 167, 0, 4, 3, 96, 54, 6, 132, 7, 1]
abbrev dktX4_held_9 : List UInt8 := dkwX4_held_9 ++ dktX4_held_10
def dkwX4_held_8 : List UInt8 := [16, 100, 162, 0, 49, 21, 6, 42, 180, 0, 73, 21, 7, 47, 42, 180, 0, 73, 42, 180, 0, 92, 21, 5]
abbrev dktX4_held_8 : List UInt8 := dkwX4_held_8 ++ dktX4_held_9
def dkwX4_held_7 : List UInt8 := [21, 6, 42, 180, 0, 80, 21, 6, 46, 79, 132, 6, 1, 167, 255, 232, 3, 54, 6, 3, 54, 7, 21, 7]
abbrev dktX4_held_7 : List UInt8 := dkwX4_held_7 ++ dktX4_held_8
def dkwX4_held_6 : List UInt8 := [132, 6, 1, 167, 255, 196, 42, 182, 0, 231, 4, 54, 6, 21, 6, 16, 7, 162, 0, 23, 42, 180, 0, 13]
abbrev dktX4_held_6 : List UInt8 := dkwX4_held_6 ++ dktX4_held_7
def dkwX4_held_5 : List UInt8 := [163, 0, 20, 42, 42, 180, 0, 92, 21, 5, 21, 6, 96, 46, 182, 0, 119, 167, 0, 4, 2, 79]
abbrev dktX4_held_5 : List UInt8 := dkwX4_held_5 ++ dktX4_held_6
def dkwX4_held_4 : List UInt8 := [21, 6, 42, 180, 0, 13, 21, 6, 46, 79, 42, 180, 0, 13, 21, 6, 21, 6, 42, 180, 0, 7, 5, 46]
abbrev dktX4_held_4 : List UInt8 := dkwX4_held_4 ++ dktX4_held_5
def dkwX4_held_3 : List UInt8 := [16, 15, 181, 0, 225, 42, 4, 181, 0, 228, 4, 54, 6, 21, 6, 16, 7, 162, 0, 59, 42, 180, 0, 80]
abbrev dktX4_held_3 : List UInt8 := dkwX4_held_3 ++ dktX4_held_4
def dkwX4_held_2 : List UInt8 := [54, 5, 42, 21, 5, 182, 1, 13, 154, 0, 6, 16, 254, 172, 42, 182, 0, 187, 42, 4, 181, 0, 170, 42]
abbrev dktX4_held_2 : List UInt8 := dkwX4_held_2 ++ dktX4_held_3
def dkwX4_held_1 : List UInt8 := [5, 46, 4, 96, 182, 1, 9, 54, 4, 21, 4, 156, 0, 6, 21, 4, 172, 16, 16, 27, 104, 29, 96]
abbrev dktX4_held_1 : List UInt8 := dkwX4_held_1 ++ dktX4_held_2
def dkwX4_held_0 : List UInt8 := [27, 184, 1, 3, 153, 0, 10, 28, 184, 1, 6, 154, 0, 5, 2, 172, 42, 27, 28, 29, 42, 180, 0, 7]
abbrev dktX4_held_0 : List UInt8 := dkwX4_held_0 ++ dktX4_held_1
theorem dksX4_held_0 : cX4_held.data.toList.drop 0 = dktX4_held_0 := by decide +kernel
theorem dksX4_held_1 : cX4_held.data.toList.drop 24 = dktX4_held_1 := dk_seg dksX4_held_0 24 rfl rfl
theorem dksX4_held_2 : cX4_held.data.toList.drop 47 = dktX4_held_2 := dk_seg dksX4_held_1 23 rfl rfl
theorem dksX4_held_3 : cX4_held.data.toList.drop 71 = dktX4_held_3 := dk_seg dksX4_held_2 24 rfl rfl
theorem dksX4_held_4 : cX4_held.data.toList.drop 95 = dktX4_held_4 := dk_seg dksX4_held_3 24 rfl rfl
theorem dksX4_held_5 : cX4_held.data.toList.drop 119 = dktX4_held_5 := dk_seg dksX4_held_4 24 rfl rfl
theorem dksX4_held_6 : cX4_held.data.toList.drop 141 = dktX4_held_6 := dk_seg dksX4_held_5 22 rfl rfl
theorem dksX4_held_7 : cX4_held.data.toList.drop 165 = dktX4_held_7 := dk_seg dksX4_held_6 24 rfl rfl
theorem dksX4_held_8 : cX4_held.data.toList.drop 189 = dktX4_held_8 := dk_seg dksX4_held_7 24 rfl rfl
theorem dksX4_held_9 : cX4_held.data.toList.drop 213 = dktX4_held_9 := dk_seg dksX4_held_8 24 rfl rfl
theorem dksX4_held_10 : cX4_held.data.toList.drop 237 = dktX4_held_10 := dk_seg dksX4_held_9 24 rfl rfl
theorem dX4_held_0 : decode cX4_held 0 = .ok (.iload_n 1, 1) := dk_27 (dk_at dksX4_held_0 0 rfl rfl)
theorem dX4_held_1 : decode cX4_held 1 = .ok (.invokestatic 259, 3) := dk_184 1 3 (dk_at dksX4_held_0 1 rfl rfl)
theorem dX4_held_4 : decode cX4_held 4 = .ok (.ifCond .eq 10, 3) := dk_153 0 10 (dk_at dksX4_held_0 4 rfl rfl)
theorem dX4_held_7 : decode cX4_held 7 = .ok (.iload_n 2, 1) := dk_28 (dk_at dksX4_held_0 7 rfl rfl)
theorem dX4_held_8 : decode cX4_held 8 = .ok (.invokestatic 262, 3) := dk_184 1 6 (dk_at dksX4_held_0 8 rfl rfl)
theorem dX4_held_11 : decode cX4_held 11 = .ok (.ifCond .ne 5, 3) := dk_154 0 5 (dk_at dksX4_held_0 11 rfl rfl)
theorem dX4_held_14 : decode cX4_held 14 = .ok (.iconst (-1), 1) := dk_2 (dk_at dksX4_held_0 14 rfl rfl)
theorem dX4_held_15 : decode cX4_held 15 = .ok (.ireturn, 1) := dk_172 (dk_at dksX4_held_0 15 rfl rfl)
theorem dX4_held_16 : decode cX4_held 16 = .ok (.aload_n 0, 1) := dk_42 (dk_at dksX4_held_0 16 rfl rfl)
theorem dX4_held_17 : decode cX4_held 17 = .ok (.iload_n 1, 1) := dk_27 (dk_at dksX4_held_0 17 rfl rfl)
theorem dX4_held_18 : decode cX4_held 18 = .ok (.iload_n 2, 1) := dk_28 (dk_at dksX4_held_0 18 rfl rfl)
theorem dX4_held_19 : decode cX4_held 19 = .ok (.iload_n 3, 1) := dk_29 (dk_at dksX4_held_0 19 rfl rfl)
theorem dX4_held_20 : decode cX4_held 20 = .ok (.aload_n 0, 1) := dk_42 (dk_at dksX4_held_0 20 rfl rfl)
theorem dX4_held_21 : decode cX4_held 21 = .ok (.getfield 7, 3) := dk_180 0 7 (dk_at dksX4_held_0 21 rfl rfl)
theorem dX4_held_24 : decode cX4_held 24 = .ok (.iconst 2, 1) := dk_5 (dk_at dksX4_held_1 0 rfl rfl)
theorem dX4_held_25 : decode cX4_held 25 = .ok (.iaload, 1) := dk_46 (dk_at dksX4_held_1 1 rfl rfl)
theorem dX4_held_26 : decode cX4_held 26 = .ok (.iconst 1, 1) := dk_4 (dk_at dksX4_held_1 2 rfl rfl)
theorem dX4_held_27 : decode cX4_held 27 = .ok (.iadd, 1) := dk_96 (dk_at dksX4_held_1 3 rfl rfl)
theorem dX4_held_28 : decode cX4_held 28 = .ok (.invokevirtual 265, 3) := dk_182 1 9 (dk_at dksX4_held_1 4 rfl rfl)
theorem dX4_held_31 : decode cX4_held 31 = .ok (.istore 4, 2) := dk_54 4 (dk_at dksX4_held_1 7 rfl rfl)
theorem dX4_held_33 : decode cX4_held 33 = .ok (.iload 4, 2) := dk_21 4 (dk_at dksX4_held_1 9 rfl rfl)
theorem dX4_held_35 : decode cX4_held 35 = .ok (.ifCond .ge 6, 3) := dk_156 0 6 (dk_at dksX4_held_1 11 rfl rfl)
theorem dX4_held_38 : decode cX4_held 38 = .ok (.iload 4, 2) := dk_21 4 (dk_at dksX4_held_1 14 rfl rfl)
theorem dX4_held_40 : decode cX4_held 40 = .ok (.ireturn, 1) := dk_172 (dk_at dksX4_held_1 16 rfl rfl)
theorem dX4_held_41 : decode cX4_held 41 = .ok (.bipush 16, 2) := dk_16 16 (dk_at dksX4_held_1 17 rfl rfl)
theorem dX4_held_43 : decode cX4_held 43 = .ok (.iload_n 1, 1) := dk_27 (dk_at dksX4_held_1 19 rfl rfl)
theorem dX4_held_44 : decode cX4_held 44 = .ok (.imul, 1) := dk_104 (dk_at dksX4_held_1 20 rfl rfl)
theorem dX4_held_45 : decode cX4_held 45 = .ok (.iload_n 3, 1) := dk_29 (dk_at dksX4_held_1 21 rfl rfl)
theorem dX4_held_46 : decode cX4_held 46 = .ok (.iadd, 1) := dk_96 (dk_at dksX4_held_1 22 rfl rfl)
theorem dX4_held_47 : decode cX4_held 47 = .ok (.istore 5, 2) := dk_54 5 (dk_at dksX4_held_2 0 rfl rfl)
theorem dX4_held_49 : decode cX4_held 49 = .ok (.aload_n 0, 1) := dk_42 (dk_at dksX4_held_2 2 rfl rfl)
theorem dX4_held_50 : decode cX4_held 50 = .ok (.iload 5, 2) := dk_21 5 (dk_at dksX4_held_2 3 rfl rfl)
theorem dX4_held_52 : decode cX4_held 52 = .ok (.invokevirtual 269, 3) := dk_182 1 13 (dk_at dksX4_held_2 5 rfl rfl)
theorem dX4_held_55 : decode cX4_held 55 = .ok (.ifCond .ne 6, 3) := dk_154 0 6 (dk_at dksX4_held_2 8 rfl rfl)
theorem dX4_held_58 : decode cX4_held 58 = .ok (.bipush (-2), 2) := dk_16 254 (dk_at dksX4_held_2 11 rfl rfl)
theorem dX4_held_60 : decode cX4_held 60 = .ok (.ireturn, 1) := dk_172 (dk_at dksX4_held_2 13 rfl rfl)
theorem dX4_held_61 : decode cX4_held 61 = .ok (.aload_n 0, 1) := dk_42 (dk_at dksX4_held_2 14 rfl rfl)
theorem dX4_held_62 : decode cX4_held 62 = .ok (.invokevirtual 187, 3) := dk_182 0 187 (dk_at dksX4_held_2 15 rfl rfl)
theorem dX4_held_65 : decode cX4_held 65 = .ok (.aload_n 0, 1) := dk_42 (dk_at dksX4_held_2 18 rfl rfl)
theorem dX4_held_66 : decode cX4_held 66 = .ok (.iconst 1, 1) := dk_4 (dk_at dksX4_held_2 19 rfl rfl)
theorem dX4_held_67 : decode cX4_held 67 = .ok (.putfield 170, 3) := dk_181 0 170 (dk_at dksX4_held_2 20 rfl rfl)
theorem dX4_held_70 : decode cX4_held 70 = .ok (.aload_n 0, 1) := dk_42 (dk_at dksX4_held_2 23 rfl rfl)
theorem dX4_held_71 : decode cX4_held 71 = .ok (.bipush 15, 2) := dk_16 15 (dk_at dksX4_held_3 0 rfl rfl)
theorem dX4_held_73 : decode cX4_held 73 = .ok (.putfield 225, 3) := dk_181 0 225 (dk_at dksX4_held_3 2 rfl rfl)
theorem dX4_held_76 : decode cX4_held 76 = .ok (.aload_n 0, 1) := dk_42 (dk_at dksX4_held_3 5 rfl rfl)
theorem dX4_held_77 : decode cX4_held 77 = .ok (.iconst 1, 1) := dk_4 (dk_at dksX4_held_3 6 rfl rfl)
theorem dX4_held_78 : decode cX4_held 78 = .ok (.putfield 228, 3) := dk_181 0 228 (dk_at dksX4_held_3 7 rfl rfl)
theorem dX4_held_81 : decode cX4_held 81 = .ok (.iconst 1, 1) := dk_4 (dk_at dksX4_held_3 10 rfl rfl)
theorem dX4_held_82 : decode cX4_held 82 = .ok (.istore 6, 2) := dk_54 6 (dk_at dksX4_held_3 11 rfl rfl)
theorem dX4_held_84 : decode cX4_held 84 = .ok (.iload 6, 2) := dk_21 6 (dk_at dksX4_held_3 13 rfl rfl)
theorem dX4_held_86 : decode cX4_held 86 = .ok (.bipush 7, 2) := dk_16 7 (dk_at dksX4_held_3 15 rfl rfl)
theorem dX4_held_88 : decode cX4_held 88 = .ok (.if_icmp .ge 59, 3) := dk_162 0 59 (dk_at dksX4_held_3 17 rfl rfl)
theorem dX4_held_91 : decode cX4_held 91 = .ok (.aload_n 0, 1) := dk_42 (dk_at dksX4_held_3 20 rfl rfl)
theorem dX4_held_92 : decode cX4_held 92 = .ok (.getfield 80, 3) := dk_180 0 80 (dk_at dksX4_held_3 21 rfl rfl)
theorem dX4_held_95 : decode cX4_held 95 = .ok (.iload 6, 2) := dk_21 6 (dk_at dksX4_held_4 0 rfl rfl)
theorem dX4_held_97 : decode cX4_held 97 = .ok (.aload_n 0, 1) := dk_42 (dk_at dksX4_held_4 2 rfl rfl)
theorem dX4_held_98 : decode cX4_held 98 = .ok (.getfield 13, 3) := dk_180 0 13 (dk_at dksX4_held_4 3 rfl rfl)
theorem dX4_held_101 : decode cX4_held 101 = .ok (.iload 6, 2) := dk_21 6 (dk_at dksX4_held_4 6 rfl rfl)
theorem dX4_held_103 : decode cX4_held 103 = .ok (.iaload, 1) := dk_46 (dk_at dksX4_held_4 8 rfl rfl)
theorem dX4_held_104 : decode cX4_held 104 = .ok (.iastore, 1) := dk_79 (dk_at dksX4_held_4 9 rfl rfl)
theorem dX4_held_105 : decode cX4_held 105 = .ok (.aload_n 0, 1) := dk_42 (dk_at dksX4_held_4 10 rfl rfl)
theorem dX4_held_106 : decode cX4_held 106 = .ok (.getfield 13, 3) := dk_180 0 13 (dk_at dksX4_held_4 11 rfl rfl)
theorem dX4_held_109 : decode cX4_held 109 = .ok (.iload 6, 2) := dk_21 6 (dk_at dksX4_held_4 14 rfl rfl)
theorem dX4_held_111 : decode cX4_held 111 = .ok (.iload 6, 2) := dk_21 6 (dk_at dksX4_held_4 16 rfl rfl)
theorem dX4_held_113 : decode cX4_held 113 = .ok (.aload_n 0, 1) := dk_42 (dk_at dksX4_held_4 18 rfl rfl)
theorem dX4_held_114 : decode cX4_held 114 = .ok (.getfield 7, 3) := dk_180 0 7 (dk_at dksX4_held_4 19 rfl rfl)
theorem dX4_held_117 : decode cX4_held 117 = .ok (.iconst 2, 1) := dk_5 (dk_at dksX4_held_4 22 rfl rfl)
theorem dX4_held_118 : decode cX4_held 118 = .ok (.iaload, 1) := dk_46 (dk_at dksX4_held_4 23 rfl rfl)
theorem dX4_held_119 : decode cX4_held 119 = .ok (.if_icmp .gt 20, 3) := dk_163 0 20 (dk_at dksX4_held_5 0 rfl rfl)
theorem dX4_held_122 : decode cX4_held 122 = .ok (.aload_n 0, 1) := dk_42 (dk_at dksX4_held_5 3 rfl rfl)
theorem dX4_held_123 : decode cX4_held 123 = .ok (.aload_n 0, 1) := dk_42 (dk_at dksX4_held_5 4 rfl rfl)
theorem dX4_held_124 : decode cX4_held 124 = .ok (.getfield 92, 3) := dk_180 0 92 (dk_at dksX4_held_5 5 rfl rfl)
theorem dX4_held_127 : decode cX4_held 127 = .ok (.iload 5, 2) := dk_21 5 (dk_at dksX4_held_5 8 rfl rfl)
theorem dX4_held_129 : decode cX4_held 129 = .ok (.iload 6, 2) := dk_21 6 (dk_at dksX4_held_5 10 rfl rfl)
theorem dX4_held_131 : decode cX4_held 131 = .ok (.iadd, 1) := dk_96 (dk_at dksX4_held_5 12 rfl rfl)
theorem dX4_held_132 : decode cX4_held 132 = .ok (.iaload, 1) := dk_46 (dk_at dksX4_held_5 13 rfl rfl)
theorem dX4_held_133 : decode cX4_held 133 = .ok (.invokevirtual 119, 3) := dk_182 0 119 (dk_at dksX4_held_5 14 rfl rfl)
theorem dX4_held_136 : decode cX4_held 136 = .ok (.goto 4, 3) := dk_167 0 4 (dk_at dksX4_held_5 17 rfl rfl)
theorem dX4_held_139 : decode cX4_held 139 = .ok (.iconst (-1), 1) := dk_2 (dk_at dksX4_held_5 20 rfl rfl)
theorem dX4_held_140 : decode cX4_held 140 = .ok (.iastore, 1) := dk_79 (dk_at dksX4_held_5 21 rfl rfl)
theorem dX4_held_141 : decode cX4_held 141 = .ok (.iinc 6 1, 3) := dk_132 6 1 (dk_at dksX4_held_6 0 rfl rfl)
theorem dX4_held_144 : decode cX4_held 144 = .ok (.goto (-60), 3) := dk_167 255 196 (dk_at dksX4_held_6 3 rfl rfl)
theorem dX4_held_147 : decode cX4_held 147 = .ok (.aload_n 0, 1) := dk_42 (dk_at dksX4_held_6 6 rfl rfl)
theorem dX4_held_148 : decode cX4_held 148 = .ok (.invokevirtual 231, 3) := dk_182 0 231 (dk_at dksX4_held_6 7 rfl rfl)
theorem dX4_held_151 : decode cX4_held 151 = .ok (.iconst 1, 1) := dk_4 (dk_at dksX4_held_6 10 rfl rfl)
theorem dX4_held_152 : decode cX4_held 152 = .ok (.istore 6, 2) := dk_54 6 (dk_at dksX4_held_6 11 rfl rfl)
theorem dX4_held_154 : decode cX4_held 154 = .ok (.iload 6, 2) := dk_21 6 (dk_at dksX4_held_6 13 rfl rfl)
theorem dX4_held_156 : decode cX4_held 156 = .ok (.bipush 7, 2) := dk_16 7 (dk_at dksX4_held_6 15 rfl rfl)
theorem dX4_held_158 : decode cX4_held 158 = .ok (.if_icmp .ge 23, 3) := dk_162 0 23 (dk_at dksX4_held_6 17 rfl rfl)
theorem dX4_held_161 : decode cX4_held 161 = .ok (.aload_n 0, 1) := dk_42 (dk_at dksX4_held_6 20 rfl rfl)
theorem dX4_held_162 : decode cX4_held 162 = .ok (.getfield 13, 3) := dk_180 0 13 (dk_at dksX4_held_6 21 rfl rfl)
theorem dX4_held_165 : decode cX4_held 165 = .ok (.iload 6, 2) := dk_21 6 (dk_at dksX4_held_7 0 rfl rfl)
theorem dX4_held_167 : decode cX4_held 167 = .ok (.aload_n 0, 1) := dk_42 (dk_at dksX4_held_7 2 rfl rfl)
theorem dX4_held_168 : decode cX4_held 168 = .ok (.getfield 80, 3) := dk_180 0 80 (dk_at dksX4_held_7 3 rfl rfl)
theorem dX4_held_171 : decode cX4_held 171 = .ok (.iload 6, 2) := dk_21 6 (dk_at dksX4_held_7 6 rfl rfl)
theorem dX4_held_173 : decode cX4_held 173 = .ok (.iaload, 1) := dk_46 (dk_at dksX4_held_7 8 rfl rfl)
theorem dX4_held_174 : decode cX4_held 174 = .ok (.iastore, 1) := dk_79 (dk_at dksX4_held_7 9 rfl rfl)
theorem dX4_held_175 : decode cX4_held 175 = .ok (.iinc 6 1, 3) := dk_132 6 1 (dk_at dksX4_held_7 10 rfl rfl)
theorem dX4_held_178 : decode cX4_held 178 = .ok (.goto (-24), 3) := dk_167 255 232 (dk_at dksX4_held_7 13 rfl rfl)
theorem dX4_held_181 : decode cX4_held 181 = .ok (.iconst 0, 1) := dk_3 (dk_at dksX4_held_7 16 rfl rfl)
theorem dX4_held_182 : decode cX4_held 182 = .ok (.istore 6, 2) := dk_54 6 (dk_at dksX4_held_7 17 rfl rfl)
theorem dX4_held_184 : decode cX4_held 184 = .ok (.iconst 0, 1) := dk_3 (dk_at dksX4_held_7 19 rfl rfl)
theorem dX4_held_185 : decode cX4_held 185 = .ok (.istore 7, 2) := dk_54 7 (dk_at dksX4_held_7 20 rfl rfl)
theorem dX4_held_187 : decode cX4_held 187 = .ok (.iload 7, 2) := dk_21 7 (dk_at dksX4_held_7 22 rfl rfl)
theorem dX4_held_189 : decode cX4_held 189 = .ok (.bipush 100, 2) := dk_16 100 (dk_at dksX4_held_8 0 rfl rfl)
theorem dX4_held_191 : decode cX4_held 191 = .ok (.if_icmp .ge 49, 3) := dk_162 0 49 (dk_at dksX4_held_8 2 rfl rfl)
theorem dX4_held_194 : decode cX4_held 194 = .ok (.iload 6, 2) := dk_21 6 (dk_at dksX4_held_8 5 rfl rfl)
theorem dX4_held_196 : decode cX4_held 196 = .ok (.aload_n 0, 1) := dk_42 (dk_at dksX4_held_8 7 rfl rfl)
theorem dX4_held_197 : decode cX4_held 197 = .ok (.getfield 73, 3) := dk_180 0 73 (dk_at dksX4_held_8 8 rfl rfl)
theorem dX4_held_200 : decode cX4_held 200 = .ok (.iload 7, 2) := dk_21 7 (dk_at dksX4_held_8 11 rfl rfl)
theorem dX4_held_202 : decode cX4_held 202 = .ok (.laload, 1) := dk_47 (dk_at dksX4_held_8 13 rfl rfl)
theorem dX4_held_203 : decode cX4_held 203 = .ok (.aload_n 0, 1) := dk_42 (dk_at dksX4_held_8 14 rfl rfl)
theorem dX4_held_204 : decode cX4_held 204 = .ok (.getfield 73, 3) := dk_180 0 73 (dk_at dksX4_held_8 15 rfl rfl)
theorem dX4_held_207 : decode cX4_held 207 = .ok (.aload_n 0, 1) := dk_42 (dk_at dksX4_held_8 18 rfl rfl)
theorem dX4_held_208 : decode cX4_held 208 = .ok (.getfield 92, 3) := dk_180 0 92 (dk_at dksX4_held_8 19 rfl rfl)
theorem dX4_held_211 : decode cX4_held 211 = .ok (.iload 5, 2) := dk_21 5 (dk_at dksX4_held_8 22 rfl rfl)
theorem dX4_held_213 : decode cX4_held 213 = .ok (.aload_n 0, 1) := dk_42 (dk_at dksX4_held_9 0 rfl rfl)
theorem dX4_held_214 : decode cX4_held 214 = .ok (.getfield 7, 3) := dk_180 0 7 (dk_at dksX4_held_9 1 rfl rfl)
theorem dX4_held_217 : decode cX4_held 217 = .ok (.iconst 2, 1) := dk_5 (dk_at dksX4_held_9 4 rfl rfl)
theorem dX4_held_218 : decode cX4_held 218 = .ok (.iaload, 1) := dk_46 (dk_at dksX4_held_9 5 rfl rfl)
theorem dX4_held_219 : decode cX4_held 219 = .ok (.iadd, 1) := dk_96 (dk_at dksX4_held_9 6 rfl rfl)
theorem dX4_held_220 : decode cX4_held 220 = .ok (.iaload, 1) := dk_46 (dk_at dksX4_held_9 7 rfl rfl)
theorem dX4_held_221 : decode cX4_held 221 = .ok (.laload, 1) := dk_47 (dk_at dksX4_held_9 8 rfl rfl)
theorem dX4_held_222 : decode cX4_held 222 = .ok (.lcmp, 1) := dk_148 (dk_at dksX4_held_9 9 rfl rfl)
theorem dX4_held_223 : decode cX4_held 223 = .ok (.ifCond .le 7, 3) := dk_158 0 7 (dk_at dksX4_held_9 10 rfl rfl)
theorem dX4_held_226 : decode cX4_held 226 = .ok (.iconst 1, 1) := dk_4 (dk_at dksX4_held_9 13 rfl rfl)
theorem dX4_held_227 : decode cX4_held 227 = .ok (.goto 4, 3) := dk_167 0 4 (dk_at dksX4_held_9 14 rfl rfl)
theorem dX4_held_230 : decode cX4_held 230 = .ok (.iconst 0, 1) := dk_3 (dk_at dksX4_held_9 17 rfl rfl)
theorem dX4_held_231 : decode cX4_held 231 = .ok (.iadd, 1) := dk_96 (dk_at dksX4_held_9 18 rfl rfl)
theorem dX4_held_232 : decode cX4_held 232 = .ok (.istore 6, 2) := dk_54 6 (dk_at dksX4_held_9 19 rfl rfl)
theorem dX4_held_234 : decode cX4_held 234 = .ok (.iinc 7 1, 3) := dk_132 7 1 (dk_at dksX4_held_9 21 rfl rfl)
theorem dX4_held_237 : decode cX4_held 237 = .ok (.goto (-50), 3) := dk_167 255 206 (dk_at dksX4_held_10 0 rfl rfl)
theorem dX4_held_240 : decode cX4_held 240 = .ok (.iload 6, 2) := dk_21 6 (dk_at dksX4_held_10 3 rfl rfl)
theorem dX4_held_242 : decode cX4_held 242 = .ok (.ireturn, 1) := dk_172 (dk_at dksX4_held_10 5 rfl rfl)
abbrev cX4_isSheet : ByteArray := prog_14_method_58_code
def yX4_isSheet : MethodName := ⟨RX4, "isSheet", "(I)Z"⟩
def dkwX4_isSheet_0 : List UInt8 := [26, 133, 9, 20, 1, 27, 184, 0, 100, 172]
abbrev dktX4_isSheet_0 : List UInt8 := dkwX4_isSheet_0 ++ []
theorem dksX4_isSheet_0 : cX4_isSheet.data.toList.drop 0 = dktX4_isSheet_0 := by decide +kernel
theorem dX4_isSheet_0 : decode cX4_isSheet 0 = .ok (.iload_n 0, 1) := dk_26 (dk_at dksX4_isSheet_0 0 rfl rfl)
theorem dX4_isSheet_1 : decode cX4_isSheet 1 = .ok (.i2l, 1) := dk_133 (dk_at dksX4_isSheet_0 1 rfl rfl)
theorem dX4_isSheet_2 : decode cX4_isSheet 2 = .ok (.lconst 0, 1) := dk_9 (dk_at dksX4_isSheet_0 2 rfl rfl)
theorem dX4_isSheet_3 : decode cX4_isSheet 3 = .ok (.ldc2_w 283, 3) := dk_20 1 27 (dk_at dksX4_isSheet_0 3 rfl rfl)
theorem dX4_isSheet_6 : decode cX4_isSheet 6 = .ok (.invokestatic 100, 3) := dk_184 0 100 (dk_at dksX4_isSheet_0 6 rfl rfl)
theorem dX4_isSheet_9 : decode cX4_isSheet 9 = .ok (.ireturn, 1) := dk_172 (dk_at dksX4_isSheet_0 9 rfl rfl)
abbrev cX4_isLane : ByteArray := prog_14_method_59_code
def yX4_isLane : MethodName := ⟨RX4, "isLane", "(I)Z"⟩
def dkwX4_isLane_0 : List UInt8 := [26, 133, 9, 20, 0, 128, 184, 0, 100, 172]
abbrev dktX4_isLane_0 : List UInt8 := dkwX4_isLane_0 ++ []
theorem dksX4_isLane_0 : cX4_isLane.data.toList.drop 0 = dktX4_isLane_0 := by decide +kernel
theorem dX4_isLane_0 : decode cX4_isLane 0 = .ok (.iload_n 0, 1) := dk_26 (dk_at dksX4_isLane_0 0 rfl rfl)
theorem dX4_isLane_1 : decode cX4_isLane 1 = .ok (.i2l, 1) := dk_133 (dk_at dksX4_isLane_0 1 rfl rfl)
theorem dX4_isLane_2 : decode cX4_isLane 2 = .ok (.lconst 0, 1) := dk_9 (dk_at dksX4_isLane_0 2 rfl rfl)
theorem dX4_isLane_3 : decode cX4_isLane 3 = .ok (.ldc2_w 128, 3) := dk_20 0 128 (dk_at dksX4_isLane_0 3 rfl rfl)
theorem dX4_isLane_6 : decode cX4_isLane 6 = .ok (.invokestatic 100, 3) := dk_184 0 100 (dk_at dksX4_isLane_0 6 rfl rfl)
theorem dX4_isLane_9 : decode cX4_isLane 9 = .ok (.ireturn, 1) := dk_172 (dk_at dksX4_isLane_0 9 rfl rfl)
abbrev cX4_refuses : ByteArray := prog_14_method_60_code
def yX4_refuses : MethodName := ⟨RX4, "refuses", "(IIII)I"⟩
def dkwX4_refuses_2 : List UInt8 := [167, 0, 4, 3, 172]
abbrev dktX4_refuses_2 : List UInt8 := dkwX4_refuses_2 ++ []
def dkwX4_refuses_1 : List UInt8 := [172, 29, 155, 0, 20, 29, 133, 21, 4, 133, 97, 42, 180, 0, 89, 27, 46, 133, 148, 158, 0, 8, 16, 243]
abbrev dktX4_refuses_1 : List UInt8 := dkwX4_refuses_1 ++ dktX4_refuses_2
def dkwX4_refuses_0 : List UInt8 := [42, 180, 0, 86, 27, 46, 156, 0, 6, 16, 245, 172, 42, 180, 0, 86, 27, 46, 28, 159, 0, 6, 16, 244]
abbrev dktX4_refuses_0 : List UInt8 := dkwX4_refuses_0 ++ dktX4_refuses_1
theorem dksX4_refuses_0 : cX4_refuses.data.toList.drop 0 = dktX4_refuses_0 := by decide +kernel
theorem dksX4_refuses_1 : cX4_refuses.data.toList.drop 24 = dktX4_refuses_1 := dk_seg dksX4_refuses_0 24 rfl rfl
theorem dksX4_refuses_2 : cX4_refuses.data.toList.drop 48 = dktX4_refuses_2 := dk_seg dksX4_refuses_1 24 rfl rfl
theorem dX4_refuses_0 : decode cX4_refuses 0 = .ok (.aload_n 0, 1) := dk_42 (dk_at dksX4_refuses_0 0 rfl rfl)
theorem dX4_refuses_1 : decode cX4_refuses 1 = .ok (.getfield 86, 3) := dk_180 0 86 (dk_at dksX4_refuses_0 1 rfl rfl)
theorem dX4_refuses_4 : decode cX4_refuses 4 = .ok (.iload_n 1, 1) := dk_27 (dk_at dksX4_refuses_0 4 rfl rfl)
theorem dX4_refuses_5 : decode cX4_refuses 5 = .ok (.iaload, 1) := dk_46 (dk_at dksX4_refuses_0 5 rfl rfl)
theorem dX4_refuses_6 : decode cX4_refuses 6 = .ok (.ifCond .ge 6, 3) := dk_156 0 6 (dk_at dksX4_refuses_0 6 rfl rfl)
theorem dX4_refuses_9 : decode cX4_refuses 9 = .ok (.bipush (-11), 2) := dk_16 245 (dk_at dksX4_refuses_0 9 rfl rfl)
theorem dX4_refuses_11 : decode cX4_refuses 11 = .ok (.ireturn, 1) := dk_172 (dk_at dksX4_refuses_0 11 rfl rfl)
theorem dX4_refuses_12 : decode cX4_refuses 12 = .ok (.aload_n 0, 1) := dk_42 (dk_at dksX4_refuses_0 12 rfl rfl)
theorem dX4_refuses_13 : decode cX4_refuses 13 = .ok (.getfield 86, 3) := dk_180 0 86 (dk_at dksX4_refuses_0 13 rfl rfl)
theorem dX4_refuses_16 : decode cX4_refuses 16 = .ok (.iload_n 1, 1) := dk_27 (dk_at dksX4_refuses_0 16 rfl rfl)
theorem dX4_refuses_17 : decode cX4_refuses 17 = .ok (.iaload, 1) := dk_46 (dk_at dksX4_refuses_0 17 rfl rfl)
theorem dX4_refuses_18 : decode cX4_refuses 18 = .ok (.iload_n 2, 1) := dk_28 (dk_at dksX4_refuses_0 18 rfl rfl)
theorem dX4_refuses_19 : decode cX4_refuses 19 = .ok (.if_icmp .eq 6, 3) := dk_159 0 6 (dk_at dksX4_refuses_0 19 rfl rfl)
theorem dX4_refuses_22 : decode cX4_refuses 22 = .ok (.bipush (-12), 2) := dk_16 244 (dk_at dksX4_refuses_0 22 rfl rfl)
theorem dX4_refuses_24 : decode cX4_refuses 24 = .ok (.ireturn, 1) := dk_172 (dk_at dksX4_refuses_1 0 rfl rfl)
theorem dX4_refuses_25 : decode cX4_refuses 25 = .ok (.iload_n 3, 1) := dk_29 (dk_at dksX4_refuses_1 1 rfl rfl)
theorem dX4_refuses_26 : decode cX4_refuses 26 = .ok (.ifCond .lt 20, 3) := dk_155 0 20 (dk_at dksX4_refuses_1 2 rfl rfl)
theorem dX4_refuses_29 : decode cX4_refuses 29 = .ok (.iload_n 3, 1) := dk_29 (dk_at dksX4_refuses_1 5 rfl rfl)
theorem dX4_refuses_30 : decode cX4_refuses 30 = .ok (.i2l, 1) := dk_133 (dk_at dksX4_refuses_1 6 rfl rfl)
theorem dX4_refuses_31 : decode cX4_refuses 31 = .ok (.iload 4, 2) := dk_21 4 (dk_at dksX4_refuses_1 7 rfl rfl)
theorem dX4_refuses_33 : decode cX4_refuses 33 = .ok (.i2l, 1) := dk_133 (dk_at dksX4_refuses_1 9 rfl rfl)
theorem dX4_refuses_34 : decode cX4_refuses 34 = .ok (.ladd, 1) := dk_97 (dk_at dksX4_refuses_1 10 rfl rfl)
theorem dX4_refuses_35 : decode cX4_refuses 35 = .ok (.aload_n 0, 1) := dk_42 (dk_at dksX4_refuses_1 11 rfl rfl)
theorem dX4_refuses_36 : decode cX4_refuses 36 = .ok (.getfield 89, 3) := dk_180 0 89 (dk_at dksX4_refuses_1 12 rfl rfl)
theorem dX4_refuses_39 : decode cX4_refuses 39 = .ok (.iload_n 1, 1) := dk_27 (dk_at dksX4_refuses_1 15 rfl rfl)
theorem dX4_refuses_40 : decode cX4_refuses 40 = .ok (.iaload, 1) := dk_46 (dk_at dksX4_refuses_1 16 rfl rfl)
theorem dX4_refuses_41 : decode cX4_refuses 41 = .ok (.i2l, 1) := dk_133 (dk_at dksX4_refuses_1 17 rfl rfl)
theorem dX4_refuses_42 : decode cX4_refuses 42 = .ok (.lcmp, 1) := dk_148 (dk_at dksX4_refuses_1 18 rfl rfl)
theorem dX4_refuses_43 : decode cX4_refuses 43 = .ok (.ifCond .le 8, 3) := dk_158 0 8 (dk_at dksX4_refuses_1 19 rfl rfl)
theorem dX4_refuses_46 : decode cX4_refuses 46 = .ok (.bipush (-13), 2) := dk_16 243 (dk_at dksX4_refuses_1 22 rfl rfl)
theorem dX4_refuses_48 : decode cX4_refuses 48 = .ok (.goto 4, 3) := dk_167 0 4 (dk_at dksX4_refuses_2 0 rfl rfl)
theorem dX4_refuses_51 : decode cX4_refuses 51 = .ok (.iconst 0, 1) := dk_3 (dk_at dksX4_refuses_2 3 rfl rfl)
theorem dX4_refuses_52 : decode cX4_refuses 52 = .ok (.ireturn, 1) := dk_172 (dk_at dksX4_refuses_2 4 rfl rfl)
abbrev cX4_isKnown : ByteArray := prog_14_method_52_code
def yX4_isKnown : MethodName := ⟨RX4, "isKnown", "(I)Z"⟩
def dkwX4_isKnown_3 : List UInt8 := [132, 3, 1, 167, 255, 216, 167, 255, 198, 28, 172]
abbrev dktX4_isKnown_3 : List UInt8 := dkwX4_isKnown_3 ++ []
def dkwX4_isKnown_2 : List UInt8 := [180, 0, 43, 29, 46, 42, 180, 0, 92, 27, 29, 96, 46, 160, 0, 7, 4, 167, 0, 4, 3, 61]
abbrev dktX4_isKnown_2 : List UInt8 := dkwX4_isKnown_2 ++ dktX4_isKnown_3
def dkwX4_isKnown_1 : List UInt8 := [153, 0, 53, 4, 61, 3, 62, 29, 42, 180, 0, 7, 5, 46, 163, 0, 36, 28, 153, 0, 24, 42]
abbrev dktX4_isKnown_1 : List UInt8 := dkwX4_isKnown_1 ++ dktX4_isKnown_2
def dkwX4_isKnown_0 : List UInt8 := [42, 182, 0, 187, 42, 16, 127, 181, 0, 167, 42, 182, 0, 190, 3, 61, 28, 154, 0, 60, 42, 182, 0, 193]
abbrev dktX4_isKnown_0 : List UInt8 := dkwX4_isKnown_0 ++ dktX4_isKnown_1
theorem dksX4_isKnown_0 : cX4_isKnown.data.toList.drop 0 = dktX4_isKnown_0 := by decide +kernel
theorem dksX4_isKnown_1 : cX4_isKnown.data.toList.drop 24 = dktX4_isKnown_1 := dk_seg dksX4_isKnown_0 24 rfl rfl
theorem dksX4_isKnown_2 : cX4_isKnown.data.toList.drop 46 = dktX4_isKnown_2 := dk_seg dksX4_isKnown_1 22 rfl rfl
theorem dksX4_isKnown_3 : cX4_isKnown.data.toList.drop 68 = dktX4_isKnown_3 := dk_seg dksX4_isKnown_2 22 rfl rfl
theorem dX4_isKnown_0 : decode cX4_isKnown 0 = .ok (.aload_n 0, 1) := dk_42 (dk_at dksX4_isKnown_0 0 rfl rfl)
theorem dX4_isKnown_1 : decode cX4_isKnown 1 = .ok (.invokevirtual 187, 3) := dk_182 0 187 (dk_at dksX4_isKnown_0 1 rfl rfl)
theorem dX4_isKnown_4 : decode cX4_isKnown 4 = .ok (.aload_n 0, 1) := dk_42 (dk_at dksX4_isKnown_0 4 rfl rfl)
theorem dX4_isKnown_5 : decode cX4_isKnown 5 = .ok (.bipush 127, 2) := dk_16 127 (dk_at dksX4_isKnown_0 5 rfl rfl)
theorem dX4_isKnown_7 : decode cX4_isKnown 7 = .ok (.putfield 167, 3) := dk_181 0 167 (dk_at dksX4_isKnown_0 7 rfl rfl)
theorem dX4_isKnown_10 : decode cX4_isKnown 10 = .ok (.aload_n 0, 1) := dk_42 (dk_at dksX4_isKnown_0 10 rfl rfl)
theorem dX4_isKnown_11 : decode cX4_isKnown 11 = .ok (.invokevirtual 190, 3) := dk_182 0 190 (dk_at dksX4_isKnown_0 11 rfl rfl)
theorem dX4_isKnown_14 : decode cX4_isKnown 14 = .ok (.iconst 0, 1) := dk_3 (dk_at dksX4_isKnown_0 14 rfl rfl)
theorem dX4_isKnown_15 : decode cX4_isKnown 15 = .ok (.istore_n 2, 1) := dk_61 (dk_at dksX4_isKnown_0 15 rfl rfl)
theorem dX4_isKnown_16 : decode cX4_isKnown 16 = .ok (.iload_n 2, 1) := dk_28 (dk_at dksX4_isKnown_0 16 rfl rfl)
theorem dX4_isKnown_17 : decode cX4_isKnown 17 = .ok (.ifCond .ne 60, 3) := dk_154 0 60 (dk_at dksX4_isKnown_0 17 rfl rfl)
theorem dX4_isKnown_20 : decode cX4_isKnown 20 = .ok (.aload_n 0, 1) := dk_42 (dk_at dksX4_isKnown_0 20 rfl rfl)
theorem dX4_isKnown_21 : decode cX4_isKnown 21 = .ok (.invokevirtual 193, 3) := dk_182 0 193 (dk_at dksX4_isKnown_0 21 rfl rfl)
theorem dX4_isKnown_24 : decode cX4_isKnown 24 = .ok (.ifCond .eq 53, 3) := dk_153 0 53 (dk_at dksX4_isKnown_1 0 rfl rfl)
theorem dX4_isKnown_27 : decode cX4_isKnown 27 = .ok (.iconst 1, 1) := dk_4 (dk_at dksX4_isKnown_1 3 rfl rfl)
theorem dX4_isKnown_28 : decode cX4_isKnown 28 = .ok (.istore_n 2, 1) := dk_61 (dk_at dksX4_isKnown_1 4 rfl rfl)
theorem dX4_isKnown_29 : decode cX4_isKnown 29 = .ok (.iconst 0, 1) := dk_3 (dk_at dksX4_isKnown_1 5 rfl rfl)
theorem dX4_isKnown_30 : decode cX4_isKnown 30 = .ok (.istore_n 3, 1) := dk_62 (dk_at dksX4_isKnown_1 6 rfl rfl)
theorem dX4_isKnown_31 : decode cX4_isKnown 31 = .ok (.iload_n 3, 1) := dk_29 (dk_at dksX4_isKnown_1 7 rfl rfl)
theorem dX4_isKnown_32 : decode cX4_isKnown 32 = .ok (.aload_n 0, 1) := dk_42 (dk_at dksX4_isKnown_1 8 rfl rfl)
theorem dX4_isKnown_33 : decode cX4_isKnown 33 = .ok (.getfield 7, 3) := dk_180 0 7 (dk_at dksX4_isKnown_1 9 rfl rfl)
theorem dX4_isKnown_36 : decode cX4_isKnown 36 = .ok (.iconst 2, 1) := dk_5 (dk_at dksX4_isKnown_1 12 rfl rfl)
theorem dX4_isKnown_37 : decode cX4_isKnown 37 = .ok (.iaload, 1) := dk_46 (dk_at dksX4_isKnown_1 13 rfl rfl)
theorem dX4_isKnown_38 : decode cX4_isKnown 38 = .ok (.if_icmp .gt 36, 3) := dk_163 0 36 (dk_at dksX4_isKnown_1 14 rfl rfl)
theorem dX4_isKnown_41 : decode cX4_isKnown 41 = .ok (.iload_n 2, 1) := dk_28 (dk_at dksX4_isKnown_1 17 rfl rfl)
theorem dX4_isKnown_42 : decode cX4_isKnown 42 = .ok (.ifCond .eq 24, 3) := dk_153 0 24 (dk_at dksX4_isKnown_1 18 rfl rfl)
theorem dX4_isKnown_45 : decode cX4_isKnown 45 = .ok (.aload_n 0, 1) := dk_42 (dk_at dksX4_isKnown_1 21 rfl rfl)
theorem dX4_isKnown_46 : decode cX4_isKnown 46 = .ok (.getfield 43, 3) := dk_180 0 43 (dk_at dksX4_isKnown_2 0 rfl rfl)
theorem dX4_isKnown_49 : decode cX4_isKnown 49 = .ok (.iload_n 3, 1) := dk_29 (dk_at dksX4_isKnown_2 3 rfl rfl)
theorem dX4_isKnown_50 : decode cX4_isKnown 50 = .ok (.iaload, 1) := dk_46 (dk_at dksX4_isKnown_2 4 rfl rfl)
theorem dX4_isKnown_51 : decode cX4_isKnown 51 = .ok (.aload_n 0, 1) := dk_42 (dk_at dksX4_isKnown_2 5 rfl rfl)
theorem dX4_isKnown_52 : decode cX4_isKnown 52 = .ok (.getfield 92, 3) := dk_180 0 92 (dk_at dksX4_isKnown_2 6 rfl rfl)
theorem dX4_isKnown_55 : decode cX4_isKnown 55 = .ok (.iload_n 1, 1) := dk_27 (dk_at dksX4_isKnown_2 9 rfl rfl)
theorem dX4_isKnown_56 : decode cX4_isKnown 56 = .ok (.iload_n 3, 1) := dk_29 (dk_at dksX4_isKnown_2 10 rfl rfl)
theorem dX4_isKnown_57 : decode cX4_isKnown 57 = .ok (.iadd, 1) := dk_96 (dk_at dksX4_isKnown_2 11 rfl rfl)
theorem dX4_isKnown_58 : decode cX4_isKnown 58 = .ok (.iaload, 1) := dk_46 (dk_at dksX4_isKnown_2 12 rfl rfl)
theorem dX4_isKnown_59 : decode cX4_isKnown 59 = .ok (.if_icmp .ne 7, 3) := dk_160 0 7 (dk_at dksX4_isKnown_2 13 rfl rfl)
theorem dX4_isKnown_62 : decode cX4_isKnown 62 = .ok (.iconst 1, 1) := dk_4 (dk_at dksX4_isKnown_2 16 rfl rfl)
theorem dX4_isKnown_63 : decode cX4_isKnown 63 = .ok (.goto 4, 3) := dk_167 0 4 (dk_at dksX4_isKnown_2 17 rfl rfl)
theorem dX4_isKnown_66 : decode cX4_isKnown 66 = .ok (.iconst 0, 1) := dk_3 (dk_at dksX4_isKnown_2 20 rfl rfl)
theorem dX4_isKnown_67 : decode cX4_isKnown 67 = .ok (.istore_n 2, 1) := dk_61 (dk_at dksX4_isKnown_2 21 rfl rfl)
theorem dX4_isKnown_68 : decode cX4_isKnown 68 = .ok (.iinc 3 1, 3) := dk_132 3 1 (dk_at dksX4_isKnown_3 0 rfl rfl)
theorem dX4_isKnown_71 : decode cX4_isKnown 71 = .ok (.goto (-40), 3) := dk_167 255 216 (dk_at dksX4_isKnown_3 3 rfl rfl)
theorem dX4_isKnown_74 : decode cX4_isKnown 74 = .ok (.goto (-58), 3) := dk_167 255 198 (dk_at dksX4_isKnown_3 6 rfl rfl)
theorem dX4_isKnown_77 : decode cX4_isKnown 77 = .ok (.iload_n 2, 1) := dk_28 (dk_at dksX4_isKnown_3 9 rfl rfl)
theorem dX4_isKnown_78 : decode cX4_isKnown 78 = .ok (.ireturn, 1) := dk_172 (dk_at dksX4_isKnown_3 10 rfl rfl)
abbrev cX4_image : ByteArray := prog_14_method_56_code
def yX4_image : MethodName := ⟨RX4, "image", "()I"⟩
def dkwX4_image_6 : List UInt8 := [180, 0, 218, 79, 42, 4, 181, 1, 20, 4, 172]
abbrev dktX4_image_6 : List UInt8 := dkwX4_image_6 ++ []
def dkwX4_image_5 : List UInt8 := [184, 1, 16, 60, 42, 180, 0, 83, 27, 42, 180, 0, 206, 79, 42, 180, 0, 83, 27, 4, 96, 42]
abbrev dktX4_image_5 : List UInt8 := dkwX4_image_5 ++ dktX4_image_6
def dkwX4_image_4 : List UInt8 := [60, 42, 180, 0, 67, 42, 180, 0, 83, 27, 184, 1, 16, 60, 42, 180, 0, 70, 42, 180, 0, 83, 27]
abbrev dktX4_image_4 : List UInt8 := dkwX4_image_4 ++ dktX4_image_5
def dkwX4_image_3 : List UInt8 := [180, 0, 25, 42, 180, 0, 83, 27, 184, 1, 16, 60, 42, 180, 0, 64, 42, 180, 0, 83, 27, 184, 1, 16]
abbrev dktX4_image_3 : List UInt8 := dkwX4_image_3 ++ dktX4_image_4
def dkwX4_image_2 : List UInt8 := [180, 0, 83, 27, 184, 1, 16, 60, 42, 180, 0, 22, 42, 180, 0, 83, 27, 184, 1, 16, 60, 42]
abbrev dktX4_image_2 : List UInt8 := dkwX4_image_2 ++ dktX4_image_3
def dkwX4_image_1 : List UInt8 := [184, 1, 16, 60, 42, 180, 0, 16, 42, 180, 0, 83, 27, 184, 1, 16, 60, 42, 180, 0, 19, 42]
abbrev dktX4_image_1 : List UInt8 := dkwX4_image_1 ++ dktX4_image_2
def dkwX4_image_0 : List UInt8 := [42, 180, 0, 7, 42, 180, 0, 83, 3, 184, 1, 16, 60, 42, 180, 0, 13, 42, 180, 0, 83, 27]
abbrev dktX4_image_0 : List UInt8 := dkwX4_image_0 ++ dktX4_image_1
theorem dksX4_image_0 : cX4_image.data.toList.drop 0 = dktX4_image_0 := by decide +kernel
theorem dksX4_image_1 : cX4_image.data.toList.drop 22 = dktX4_image_1 := dk_seg dksX4_image_0 22 rfl rfl
theorem dksX4_image_2 : cX4_image.data.toList.drop 44 = dktX4_image_2 := dk_seg dksX4_image_1 22 rfl rfl
theorem dksX4_image_3 : cX4_image.data.toList.drop 66 = dktX4_image_3 := dk_seg dksX4_image_2 22 rfl rfl
theorem dksX4_image_4 : cX4_image.data.toList.drop 90 = dktX4_image_4 := dk_seg dksX4_image_3 24 rfl rfl
theorem dksX4_image_5 : cX4_image.data.toList.drop 113 = dktX4_image_5 := dk_seg dksX4_image_4 23 rfl rfl
theorem dksX4_image_6 : cX4_image.data.toList.drop 135 = dktX4_image_6 := dk_seg dksX4_image_5 22 rfl rfl
theorem dX4_image_0 : decode cX4_image 0 = .ok (.aload_n 0, 1) := dk_42 (dk_at dksX4_image_0 0 rfl rfl)
theorem dX4_image_1 : decode cX4_image 1 = .ok (.getfield 7, 3) := dk_180 0 7 (dk_at dksX4_image_0 1 rfl rfl)
theorem dX4_image_4 : decode cX4_image 4 = .ok (.aload_n 0, 1) := dk_42 (dk_at dksX4_image_0 4 rfl rfl)
theorem dX4_image_5 : decode cX4_image 5 = .ok (.getfield 83, 3) := dk_180 0 83 (dk_at dksX4_image_0 5 rfl rfl)
theorem dX4_image_8 : decode cX4_image 8 = .ok (.iconst 0, 1) := dk_3 (dk_at dksX4_image_0 8 rfl rfl)
theorem dX4_image_9 : decode cX4_image 9 = .ok (.invokestatic 272, 3) := dk_184 1 16 (dk_at dksX4_image_0 9 rfl rfl)
theorem dX4_image_12 : decode cX4_image 12 = .ok (.istore_n 1, 1) := dk_60 (dk_at dksX4_image_0 12 rfl rfl)
theorem dX4_image_13 : decode cX4_image 13 = .ok (.aload_n 0, 1) := dk_42 (dk_at dksX4_image_0 13 rfl rfl)
theorem dX4_image_14 : decode cX4_image 14 = .ok (.getfield 13, 3) := dk_180 0 13 (dk_at dksX4_image_0 14 rfl rfl)
theorem dX4_image_17 : decode cX4_image 17 = .ok (.aload_n 0, 1) := dk_42 (dk_at dksX4_image_0 17 rfl rfl)
theorem dX4_image_18 : decode cX4_image 18 = .ok (.getfield 83, 3) := dk_180 0 83 (dk_at dksX4_image_0 18 rfl rfl)
theorem dX4_image_21 : decode cX4_image 21 = .ok (.iload_n 1, 1) := dk_27 (dk_at dksX4_image_0 21 rfl rfl)
theorem dX4_image_22 : decode cX4_image 22 = .ok (.invokestatic 272, 3) := dk_184 1 16 (dk_at dksX4_image_1 0 rfl rfl)
theorem dX4_image_25 : decode cX4_image 25 = .ok (.istore_n 1, 1) := dk_60 (dk_at dksX4_image_1 3 rfl rfl)
theorem dX4_image_26 : decode cX4_image 26 = .ok (.aload_n 0, 1) := dk_42 (dk_at dksX4_image_1 4 rfl rfl)
theorem dX4_image_27 : decode cX4_image 27 = .ok (.getfield 16, 3) := dk_180 0 16 (dk_at dksX4_image_1 5 rfl rfl)
theorem dX4_image_30 : decode cX4_image 30 = .ok (.aload_n 0, 1) := dk_42 (dk_at dksX4_image_1 8 rfl rfl)
theorem dX4_image_31 : decode cX4_image 31 = .ok (.getfield 83, 3) := dk_180 0 83 (dk_at dksX4_image_1 9 rfl rfl)
theorem dX4_image_34 : decode cX4_image 34 = .ok (.iload_n 1, 1) := dk_27 (dk_at dksX4_image_1 12 rfl rfl)
theorem dX4_image_35 : decode cX4_image 35 = .ok (.invokestatic 272, 3) := dk_184 1 16 (dk_at dksX4_image_1 13 rfl rfl)
theorem dX4_image_38 : decode cX4_image 38 = .ok (.istore_n 1, 1) := dk_60 (dk_at dksX4_image_1 16 rfl rfl)
theorem dX4_image_39 : decode cX4_image 39 = .ok (.aload_n 0, 1) := dk_42 (dk_at dksX4_image_1 17 rfl rfl)
theorem dX4_image_40 : decode cX4_image 40 = .ok (.getfield 19, 3) := dk_180 0 19 (dk_at dksX4_image_1 18 rfl rfl)
theorem dX4_image_43 : decode cX4_image 43 = .ok (.aload_n 0, 1) := dk_42 (dk_at dksX4_image_1 21 rfl rfl)
theorem dX4_image_44 : decode cX4_image 44 = .ok (.getfield 83, 3) := dk_180 0 83 (dk_at dksX4_image_2 0 rfl rfl)
theorem dX4_image_47 : decode cX4_image 47 = .ok (.iload_n 1, 1) := dk_27 (dk_at dksX4_image_2 3 rfl rfl)
theorem dX4_image_48 : decode cX4_image 48 = .ok (.invokestatic 272, 3) := dk_184 1 16 (dk_at dksX4_image_2 4 rfl rfl)
theorem dX4_image_51 : decode cX4_image 51 = .ok (.istore_n 1, 1) := dk_60 (dk_at dksX4_image_2 7 rfl rfl)
theorem dX4_image_52 : decode cX4_image 52 = .ok (.aload_n 0, 1) := dk_42 (dk_at dksX4_image_2 8 rfl rfl)
theorem dX4_image_53 : decode cX4_image 53 = .ok (.getfield 22, 3) := dk_180 0 22 (dk_at dksX4_image_2 9 rfl rfl)
theorem dX4_image_56 : decode cX4_image 56 = .ok (.aload_n 0, 1) := dk_42 (dk_at dksX4_image_2 12 rfl rfl)
theorem dX4_image_57 : decode cX4_image 57 = .ok (.getfield 83, 3) := dk_180 0 83 (dk_at dksX4_image_2 13 rfl rfl)
theorem dX4_image_60 : decode cX4_image 60 = .ok (.iload_n 1, 1) := dk_27 (dk_at dksX4_image_2 16 rfl rfl)
theorem dX4_image_61 : decode cX4_image 61 = .ok (.invokestatic 272, 3) := dk_184 1 16 (dk_at dksX4_image_2 17 rfl rfl)
theorem dX4_image_64 : decode cX4_image 64 = .ok (.istore_n 1, 1) := dk_60 (dk_at dksX4_image_2 20 rfl rfl)
theorem dX4_image_65 : decode cX4_image 65 = .ok (.aload_n 0, 1) := dk_42 (dk_at dksX4_image_2 21 rfl rfl)
theorem dX4_image_66 : decode cX4_image 66 = .ok (.getfield 25, 3) := dk_180 0 25 (dk_at dksX4_image_3 0 rfl rfl)
theorem dX4_image_69 : decode cX4_image 69 = .ok (.aload_n 0, 1) := dk_42 (dk_at dksX4_image_3 3 rfl rfl)
theorem dX4_image_70 : decode cX4_image 70 = .ok (.getfield 83, 3) := dk_180 0 83 (dk_at dksX4_image_3 4 rfl rfl)
theorem dX4_image_73 : decode cX4_image 73 = .ok (.iload_n 1, 1) := dk_27 (dk_at dksX4_image_3 7 rfl rfl)
theorem dX4_image_74 : decode cX4_image 74 = .ok (.invokestatic 272, 3) := dk_184 1 16 (dk_at dksX4_image_3 8 rfl rfl)
theorem dX4_image_77 : decode cX4_image 77 = .ok (.istore_n 1, 1) := dk_60 (dk_at dksX4_image_3 11 rfl rfl)
theorem dX4_image_78 : decode cX4_image 78 = .ok (.aload_n 0, 1) := dk_42 (dk_at dksX4_image_3 12 rfl rfl)
theorem dX4_image_79 : decode cX4_image 79 = .ok (.getfield 64, 3) := dk_180 0 64 (dk_at dksX4_image_3 13 rfl rfl)
theorem dX4_image_82 : decode cX4_image 82 = .ok (.aload_n 0, 1) := dk_42 (dk_at dksX4_image_3 16 rfl rfl)
theorem dX4_image_83 : decode cX4_image 83 = .ok (.getfield 83, 3) := dk_180 0 83 (dk_at dksX4_image_3 17 rfl rfl)
theorem dX4_image_86 : decode cX4_image 86 = .ok (.iload_n 1, 1) := dk_27 (dk_at dksX4_image_3 20 rfl rfl)
theorem dX4_image_87 : decode cX4_image 87 = .ok (.invokestatic 272, 3) := dk_184 1 16 (dk_at dksX4_image_3 21 rfl rfl)
theorem dX4_image_90 : decode cX4_image 90 = .ok (.istore_n 1, 1) := dk_60 (dk_at dksX4_image_4 0 rfl rfl)
theorem dX4_image_91 : decode cX4_image 91 = .ok (.aload_n 0, 1) := dk_42 (dk_at dksX4_image_4 1 rfl rfl)
theorem dX4_image_92 : decode cX4_image 92 = .ok (.getfield 67, 3) := dk_180 0 67 (dk_at dksX4_image_4 2 rfl rfl)
theorem dX4_image_95 : decode cX4_image 95 = .ok (.aload_n 0, 1) := dk_42 (dk_at dksX4_image_4 5 rfl rfl)
theorem dX4_image_96 : decode cX4_image 96 = .ok (.getfield 83, 3) := dk_180 0 83 (dk_at dksX4_image_4 6 rfl rfl)
theorem dX4_image_99 : decode cX4_image 99 = .ok (.iload_n 1, 1) := dk_27 (dk_at dksX4_image_4 9 rfl rfl)
theorem dX4_image_100 : decode cX4_image 100 = .ok (.invokestatic 272, 3) := dk_184 1 16 (dk_at dksX4_image_4 10 rfl rfl)
theorem dX4_image_103 : decode cX4_image 103 = .ok (.istore_n 1, 1) := dk_60 (dk_at dksX4_image_4 13 rfl rfl)
theorem dX4_image_104 : decode cX4_image 104 = .ok (.aload_n 0, 1) := dk_42 (dk_at dksX4_image_4 14 rfl rfl)
theorem dX4_image_105 : decode cX4_image 105 = .ok (.getfield 70, 3) := dk_180 0 70 (dk_at dksX4_image_4 15 rfl rfl)
theorem dX4_image_108 : decode cX4_image 108 = .ok (.aload_n 0, 1) := dk_42 (dk_at dksX4_image_4 18 rfl rfl)
theorem dX4_image_109 : decode cX4_image 109 = .ok (.getfield 83, 3) := dk_180 0 83 (dk_at dksX4_image_4 19 rfl rfl)
theorem dX4_image_112 : decode cX4_image 112 = .ok (.iload_n 1, 1) := dk_27 (dk_at dksX4_image_4 22 rfl rfl)
theorem dX4_image_113 : decode cX4_image 113 = .ok (.invokestatic 272, 3) := dk_184 1 16 (dk_at dksX4_image_5 0 rfl rfl)
theorem dX4_image_116 : decode cX4_image 116 = .ok (.istore_n 1, 1) := dk_60 (dk_at dksX4_image_5 3 rfl rfl)
theorem dX4_image_117 : decode cX4_image 117 = .ok (.aload_n 0, 1) := dk_42 (dk_at dksX4_image_5 4 rfl rfl)
theorem dX4_image_118 : decode cX4_image 118 = .ok (.getfield 83, 3) := dk_180 0 83 (dk_at dksX4_image_5 5 rfl rfl)
theorem dX4_image_121 : decode cX4_image 121 = .ok (.iload_n 1, 1) := dk_27 (dk_at dksX4_image_5 8 rfl rfl)
theorem dX4_image_122 : decode cX4_image 122 = .ok (.aload_n 0, 1) := dk_42 (dk_at dksX4_image_5 9 rfl rfl)
theorem dX4_image_123 : decode cX4_image 123 = .ok (.getfield 206, 3) := dk_180 0 206 (dk_at dksX4_image_5 10 rfl rfl)
theorem dX4_image_126 : decode cX4_image 126 = .ok (.iastore, 1) := dk_79 (dk_at dksX4_image_5 13 rfl rfl)
theorem dX4_image_127 : decode cX4_image 127 = .ok (.aload_n 0, 1) := dk_42 (dk_at dksX4_image_5 14 rfl rfl)
theorem dX4_image_128 : decode cX4_image 128 = .ok (.getfield 83, 3) := dk_180 0 83 (dk_at dksX4_image_5 15 rfl rfl)
theorem dX4_image_131 : decode cX4_image 131 = .ok (.iload_n 1, 1) := dk_27 (dk_at dksX4_image_5 18 rfl rfl)
theorem dX4_image_132 : decode cX4_image 132 = .ok (.iconst 1, 1) := dk_4 (dk_at dksX4_image_5 19 rfl rfl)
theorem dX4_image_133 : decode cX4_image 133 = .ok (.iadd, 1) := dk_96 (dk_at dksX4_image_5 20 rfl rfl)
theorem dX4_image_134 : decode cX4_image 134 = .ok (.aload_n 0, 1) := dk_42 (dk_at dksX4_image_5 21 rfl rfl)
theorem dX4_image_135 : decode cX4_image 135 = .ok (.getfield 218, 3) := dk_180 0 218 (dk_at dksX4_image_6 0 rfl rfl)
theorem dX4_image_138 : decode cX4_image 138 = .ok (.iastore, 1) := dk_79 (dk_at dksX4_image_6 3 rfl rfl)
theorem dX4_image_139 : decode cX4_image 139 = .ok (.aload_n 0, 1) := dk_42 (dk_at dksX4_image_6 4 rfl rfl)
theorem dX4_image_140 : decode cX4_image 140 = .ok (.iconst 1, 1) := dk_4 (dk_at dksX4_image_6 5 rfl rfl)
theorem dX4_image_141 : decode cX4_image 141 = .ok (.putfield 276, 3) := dk_181 1 20 (dk_at dksX4_image_6 6 rfl rfl)
theorem dX4_image_144 : decode cX4_image 144 = .ok (.iconst 1, 1) := dk_4 (dk_at dksX4_image_6 9 rfl rfl)
theorem dX4_image_145 : decode cX4_image 145 = .ok (.ireturn, 1) := dk_172 (dk_at dksX4_image_6 10 rfl rfl)
abbrev cX4_saves : ByteArray := prog_14_method_54_code
def yX4_saves : MethodName := ⟨RX4, "saves", "([I[II)I"⟩
def dkwX4_saves_1 : List UInt8 := [190, 96, 172]
abbrev dktX4_saves_1 : List UInt8 := dkwX4_saves_1 ++ []
def dkwX4_saves_0 : List UInt8 := [3, 62, 29, 42, 190, 162, 0, 17, 43, 28, 29, 96, 42, 29, 46, 79, 132, 3, 1, 167, 255, 239, 28, 42]
abbrev dktX4_saves_0 : List UInt8 := dkwX4_saves_0 ++ dktX4_saves_1
theorem dksX4_saves_0 : cX4_saves.data.toList.drop 0 = dktX4_saves_0 := by decide +kernel
theorem dksX4_saves_1 : cX4_saves.data.toList.drop 24 = dktX4_saves_1 := dk_seg dksX4_saves_0 24 rfl rfl
theorem dX4_saves_0 : decode cX4_saves 0 = .ok (.iconst 0, 1) := dk_3 (dk_at dksX4_saves_0 0 rfl rfl)
theorem dX4_saves_1 : decode cX4_saves 1 = .ok (.istore_n 3, 1) := dk_62 (dk_at dksX4_saves_0 1 rfl rfl)
theorem dX4_saves_2 : decode cX4_saves 2 = .ok (.iload_n 3, 1) := dk_29 (dk_at dksX4_saves_0 2 rfl rfl)
theorem dX4_saves_3 : decode cX4_saves 3 = .ok (.aload_n 0, 1) := dk_42 (dk_at dksX4_saves_0 3 rfl rfl)
theorem dX4_saves_4 : decode cX4_saves 4 = .ok (.arraylength, 1) := dk_190 (dk_at dksX4_saves_0 4 rfl rfl)
theorem dX4_saves_5 : decode cX4_saves 5 = .ok (.if_icmp .ge 17, 3) := dk_162 0 17 (dk_at dksX4_saves_0 5 rfl rfl)
theorem dX4_saves_8 : decode cX4_saves 8 = .ok (.aload_n 1, 1) := dk_43 (dk_at dksX4_saves_0 8 rfl rfl)
theorem dX4_saves_9 : decode cX4_saves 9 = .ok (.iload_n 2, 1) := dk_28 (dk_at dksX4_saves_0 9 rfl rfl)
theorem dX4_saves_10 : decode cX4_saves 10 = .ok (.iload_n 3, 1) := dk_29 (dk_at dksX4_saves_0 10 rfl rfl)
theorem dX4_saves_11 : decode cX4_saves 11 = .ok (.iadd, 1) := dk_96 (dk_at dksX4_saves_0 11 rfl rfl)
theorem dX4_saves_12 : decode cX4_saves 12 = .ok (.aload_n 0, 1) := dk_42 (dk_at dksX4_saves_0 12 rfl rfl)
theorem dX4_saves_13 : decode cX4_saves 13 = .ok (.iload_n 3, 1) := dk_29 (dk_at dksX4_saves_0 13 rfl rfl)
theorem dX4_saves_14 : decode cX4_saves 14 = .ok (.iaload, 1) := dk_46 (dk_at dksX4_saves_0 14 rfl rfl)
theorem dX4_saves_15 : decode cX4_saves 15 = .ok (.iastore, 1) := dk_79 (dk_at dksX4_saves_0 15 rfl rfl)
theorem dX4_saves_16 : decode cX4_saves 16 = .ok (.iinc 3 1, 3) := dk_132 3 1 (dk_at dksX4_saves_0 16 rfl rfl)
theorem dX4_saves_19 : decode cX4_saves 19 = .ok (.goto (-17), 3) := dk_167 255 239 (dk_at dksX4_saves_0 19 rfl rfl)
theorem dX4_saves_22 : decode cX4_saves 22 = .ok (.iload_n 2, 1) := dk_28 (dk_at dksX4_saves_0 22 rfl rfl)
theorem dX4_saves_23 : decode cX4_saves 23 = .ok (.aload_n 0, 1) := dk_42 (dk_at dksX4_saves_0 23 rfl rfl)
theorem dX4_saves_24 : decode cX4_saves 24 = .ok (.arraylength, 1) := dk_190 (dk_at dksX4_saves_1 0 rfl rfl)
theorem dX4_saves_25 : decode cX4_saves 25 = .ok (.iadd, 1) := dk_96 (dk_at dksX4_saves_1 1 rfl rfl)
theorem dX4_saves_26 : decode cX4_saves 26 = .ok (.ireturn, 1) := dk_172 (dk_at dksX4_saves_1 2 rfl rfl)
abbrev cX4_restore : ByteArray := prog_14_method_57_code
def yX4_restore : MethodName := ⟨RX4, "restore", "()I"⟩
def dkwX4_restore_6 : List UInt8 := [27, 4, 96, 46, 181, 0, 218, 4, 172]
abbrev dktX4_restore_6 : List UInt8 := dkwX4_restore_6 ++ []
def dkwX4_restore_5 : List UInt8 := [27, 42, 180, 0, 70, 184, 1, 23, 60, 42, 42, 180, 0, 83, 27, 46, 181, 0, 206, 42, 42, 180, 0, 83]
abbrev dktX4_restore_5 : List UInt8 := dkwX4_restore_5 ++ dktX4_restore_6
def dkwX4_restore_4 : List UInt8 := [180, 0, 64, 184, 1, 23, 60, 42, 180, 0, 83, 27, 42, 180, 0, 67, 184, 1, 23, 60, 42, 180, 0, 83]
abbrev dktX4_restore_4 : List UInt8 := dkwX4_restore_4 ++ dktX4_restore_5
def dkwX4_restore_3 : List UInt8 := [184, 1, 23, 60, 42, 180, 0, 83, 27, 42, 180, 0, 25, 184, 1, 23, 60, 42, 180, 0, 83, 27, 42]
abbrev dktX4_restore_3 : List UInt8 := dkwX4_restore_3 ++ dktX4_restore_4
def dkwX4_restore_2 : List UInt8 := [60, 42, 180, 0, 83, 27, 42, 180, 0, 19, 184, 1, 23, 60, 42, 180, 0, 83, 27, 42, 180, 0, 22]
abbrev dktX4_restore_2 : List UInt8 := dkwX4_restore_2 ++ dktX4_restore_3
def dkwX4_restore_1 : List UInt8 := [180, 0, 83, 27, 42, 180, 0, 13, 184, 1, 23, 60, 42, 180, 0, 83, 27, 42, 180, 0, 16, 184, 1, 23]
abbrev dktX4_restore_1 : List UInt8 := dkwX4_restore_1 ++ dktX4_restore_2
def dkwX4_restore_0 : List UInt8 := [42, 180, 1, 20, 154, 0, 6, 16, 252, 172, 42, 180, 0, 83, 3, 42, 180, 0, 7, 184, 1, 23, 60, 42]
abbrev dktX4_restore_0 : List UInt8 := dkwX4_restore_0 ++ dktX4_restore_1
theorem dksX4_restore_0 : cX4_restore.data.toList.drop 0 = dktX4_restore_0 := by decide +kernel
theorem dksX4_restore_1 : cX4_restore.data.toList.drop 24 = dktX4_restore_1 := dk_seg dksX4_restore_0 24 rfl rfl
theorem dksX4_restore_2 : cX4_restore.data.toList.drop 48 = dktX4_restore_2 := dk_seg dksX4_restore_1 24 rfl rfl
theorem dksX4_restore_3 : cX4_restore.data.toList.drop 71 = dktX4_restore_3 := dk_seg dksX4_restore_2 23 rfl rfl
theorem dksX4_restore_4 : cX4_restore.data.toList.drop 94 = dktX4_restore_4 := dk_seg dksX4_restore_3 23 rfl rfl
theorem dksX4_restore_5 : cX4_restore.data.toList.drop 118 = dktX4_restore_5 := dk_seg dksX4_restore_4 24 rfl rfl
theorem dksX4_restore_6 : cX4_restore.data.toList.drop 142 = dktX4_restore_6 := dk_seg dksX4_restore_5 24 rfl rfl
theorem dX4_restore_0 : decode cX4_restore 0 = .ok (.aload_n 0, 1) := dk_42 (dk_at dksX4_restore_0 0 rfl rfl)
theorem dX4_restore_1 : decode cX4_restore 1 = .ok (.getfield 276, 3) := dk_180 1 20 (dk_at dksX4_restore_0 1 rfl rfl)
theorem dX4_restore_4 : decode cX4_restore 4 = .ok (.ifCond .ne 6, 3) := dk_154 0 6 (dk_at dksX4_restore_0 4 rfl rfl)
theorem dX4_restore_7 : decode cX4_restore 7 = .ok (.bipush (-4), 2) := dk_16 252 (dk_at dksX4_restore_0 7 rfl rfl)
theorem dX4_restore_9 : decode cX4_restore 9 = .ok (.ireturn, 1) := dk_172 (dk_at dksX4_restore_0 9 rfl rfl)
theorem dX4_restore_10 : decode cX4_restore 10 = .ok (.aload_n 0, 1) := dk_42 (dk_at dksX4_restore_0 10 rfl rfl)
theorem dX4_restore_11 : decode cX4_restore 11 = .ok (.getfield 83, 3) := dk_180 0 83 (dk_at dksX4_restore_0 11 rfl rfl)
theorem dX4_restore_14 : decode cX4_restore 14 = .ok (.iconst 0, 1) := dk_3 (dk_at dksX4_restore_0 14 rfl rfl)
theorem dX4_restore_15 : decode cX4_restore 15 = .ok (.aload_n 0, 1) := dk_42 (dk_at dksX4_restore_0 15 rfl rfl)
theorem dX4_restore_16 : decode cX4_restore 16 = .ok (.getfield 7, 3) := dk_180 0 7 (dk_at dksX4_restore_0 16 rfl rfl)
theorem dX4_restore_19 : decode cX4_restore 19 = .ok (.invokestatic 279, 3) := dk_184 1 23 (dk_at dksX4_restore_0 19 rfl rfl)
theorem dX4_restore_22 : decode cX4_restore 22 = .ok (.istore_n 1, 1) := dk_60 (dk_at dksX4_restore_0 22 rfl rfl)
theorem dX4_restore_23 : decode cX4_restore 23 = .ok (.aload_n 0, 1) := dk_42 (dk_at dksX4_restore_0 23 rfl rfl)
theorem dX4_restore_24 : decode cX4_restore 24 = .ok (.getfield 83, 3) := dk_180 0 83 (dk_at dksX4_restore_1 0 rfl rfl)
theorem dX4_restore_27 : decode cX4_restore 27 = .ok (.iload_n 1, 1) := dk_27 (dk_at dksX4_restore_1 3 rfl rfl)
theorem dX4_restore_28 : decode cX4_restore 28 = .ok (.aload_n 0, 1) := dk_42 (dk_at dksX4_restore_1 4 rfl rfl)
theorem dX4_restore_29 : decode cX4_restore 29 = .ok (.getfield 13, 3) := dk_180 0 13 (dk_at dksX4_restore_1 5 rfl rfl)
theorem dX4_restore_32 : decode cX4_restore 32 = .ok (.invokestatic 279, 3) := dk_184 1 23 (dk_at dksX4_restore_1 8 rfl rfl)
theorem dX4_restore_35 : decode cX4_restore 35 = .ok (.istore_n 1, 1) := dk_60 (dk_at dksX4_restore_1 11 rfl rfl)
theorem dX4_restore_36 : decode cX4_restore 36 = .ok (.aload_n 0, 1) := dk_42 (dk_at dksX4_restore_1 12 rfl rfl)
theorem dX4_restore_37 : decode cX4_restore 37 = .ok (.getfield 83, 3) := dk_180 0 83 (dk_at dksX4_restore_1 13 rfl rfl)
theorem dX4_restore_40 : decode cX4_restore 40 = .ok (.iload_n 1, 1) := dk_27 (dk_at dksX4_restore_1 16 rfl rfl)
theorem dX4_restore_41 : decode cX4_restore 41 = .ok (.aload_n 0, 1) := dk_42 (dk_at dksX4_restore_1 17 rfl rfl)
theorem dX4_restore_42 : decode cX4_restore 42 = .ok (.getfield 16, 3) := dk_180 0 16 (dk_at dksX4_restore_1 18 rfl rfl)
theorem dX4_restore_45 : decode cX4_restore 45 = .ok (.invokestatic 279, 3) := dk_184 1 23 (dk_at dksX4_restore_1 21 rfl rfl)
theorem dX4_restore_48 : decode cX4_restore 48 = .ok (.istore_n 1, 1) := dk_60 (dk_at dksX4_restore_2 0 rfl rfl)
theorem dX4_restore_49 : decode cX4_restore 49 = .ok (.aload_n 0, 1) := dk_42 (dk_at dksX4_restore_2 1 rfl rfl)
theorem dX4_restore_50 : decode cX4_restore 50 = .ok (.getfield 83, 3) := dk_180 0 83 (dk_at dksX4_restore_2 2 rfl rfl)
theorem dX4_restore_53 : decode cX4_restore 53 = .ok (.iload_n 1, 1) := dk_27 (dk_at dksX4_restore_2 5 rfl rfl)
theorem dX4_restore_54 : decode cX4_restore 54 = .ok (.aload_n 0, 1) := dk_42 (dk_at dksX4_restore_2 6 rfl rfl)
theorem dX4_restore_55 : decode cX4_restore 55 = .ok (.getfield 19, 3) := dk_180 0 19 (dk_at dksX4_restore_2 7 rfl rfl)
theorem dX4_restore_58 : decode cX4_restore 58 = .ok (.invokestatic 279, 3) := dk_184 1 23 (dk_at dksX4_restore_2 10 rfl rfl)
theorem dX4_restore_61 : decode cX4_restore 61 = .ok (.istore_n 1, 1) := dk_60 (dk_at dksX4_restore_2 13 rfl rfl)
theorem dX4_restore_62 : decode cX4_restore 62 = .ok (.aload_n 0, 1) := dk_42 (dk_at dksX4_restore_2 14 rfl rfl)
theorem dX4_restore_63 : decode cX4_restore 63 = .ok (.getfield 83, 3) := dk_180 0 83 (dk_at dksX4_restore_2 15 rfl rfl)
theorem dX4_restore_66 : decode cX4_restore 66 = .ok (.iload_n 1, 1) := dk_27 (dk_at dksX4_restore_2 18 rfl rfl)
theorem dX4_restore_67 : decode cX4_restore 67 = .ok (.aload_n 0, 1) := dk_42 (dk_at dksX4_restore_2 19 rfl rfl)
theorem dX4_restore_68 : decode cX4_restore 68 = .ok (.getfield 22, 3) := dk_180 0 22 (dk_at dksX4_restore_2 20 rfl rfl)
theorem dX4_restore_71 : decode cX4_restore 71 = .ok (.invokestatic 279, 3) := dk_184 1 23 (dk_at dksX4_restore_3 0 rfl rfl)
theorem dX4_restore_74 : decode cX4_restore 74 = .ok (.istore_n 1, 1) := dk_60 (dk_at dksX4_restore_3 3 rfl rfl)
theorem dX4_restore_75 : decode cX4_restore 75 = .ok (.aload_n 0, 1) := dk_42 (dk_at dksX4_restore_3 4 rfl rfl)
theorem dX4_restore_76 : decode cX4_restore 76 = .ok (.getfield 83, 3) := dk_180 0 83 (dk_at dksX4_restore_3 5 rfl rfl)
theorem dX4_restore_79 : decode cX4_restore 79 = .ok (.iload_n 1, 1) := dk_27 (dk_at dksX4_restore_3 8 rfl rfl)
theorem dX4_restore_80 : decode cX4_restore 80 = .ok (.aload_n 0, 1) := dk_42 (dk_at dksX4_restore_3 9 rfl rfl)
theorem dX4_restore_81 : decode cX4_restore 81 = .ok (.getfield 25, 3) := dk_180 0 25 (dk_at dksX4_restore_3 10 rfl rfl)
theorem dX4_restore_84 : decode cX4_restore 84 = .ok (.invokestatic 279, 3) := dk_184 1 23 (dk_at dksX4_restore_3 13 rfl rfl)
theorem dX4_restore_87 : decode cX4_restore 87 = .ok (.istore_n 1, 1) := dk_60 (dk_at dksX4_restore_3 16 rfl rfl)
theorem dX4_restore_88 : decode cX4_restore 88 = .ok (.aload_n 0, 1) := dk_42 (dk_at dksX4_restore_3 17 rfl rfl)
theorem dX4_restore_89 : decode cX4_restore 89 = .ok (.getfield 83, 3) := dk_180 0 83 (dk_at dksX4_restore_3 18 rfl rfl)
theorem dX4_restore_92 : decode cX4_restore 92 = .ok (.iload_n 1, 1) := dk_27 (dk_at dksX4_restore_3 21 rfl rfl)
theorem dX4_restore_93 : decode cX4_restore 93 = .ok (.aload_n 0, 1) := dk_42 (dk_at dksX4_restore_3 22 rfl rfl)
theorem dX4_restore_94 : decode cX4_restore 94 = .ok (.getfield 64, 3) := dk_180 0 64 (dk_at dksX4_restore_4 0 rfl rfl)
theorem dX4_restore_97 : decode cX4_restore 97 = .ok (.invokestatic 279, 3) := dk_184 1 23 (dk_at dksX4_restore_4 3 rfl rfl)
theorem dX4_restore_100 : decode cX4_restore 100 = .ok (.istore_n 1, 1) := dk_60 (dk_at dksX4_restore_4 6 rfl rfl)
theorem dX4_restore_101 : decode cX4_restore 101 = .ok (.aload_n 0, 1) := dk_42 (dk_at dksX4_restore_4 7 rfl rfl)
theorem dX4_restore_102 : decode cX4_restore 102 = .ok (.getfield 83, 3) := dk_180 0 83 (dk_at dksX4_restore_4 8 rfl rfl)
theorem dX4_restore_105 : decode cX4_restore 105 = .ok (.iload_n 1, 1) := dk_27 (dk_at dksX4_restore_4 11 rfl rfl)
theorem dX4_restore_106 : decode cX4_restore 106 = .ok (.aload_n 0, 1) := dk_42 (dk_at dksX4_restore_4 12 rfl rfl)
theorem dX4_restore_107 : decode cX4_restore 107 = .ok (.getfield 67, 3) := dk_180 0 67 (dk_at dksX4_restore_4 13 rfl rfl)
theorem dX4_restore_110 : decode cX4_restore 110 = .ok (.invokestatic 279, 3) := dk_184 1 23 (dk_at dksX4_restore_4 16 rfl rfl)
theorem dX4_restore_113 : decode cX4_restore 113 = .ok (.istore_n 1, 1) := dk_60 (dk_at dksX4_restore_4 19 rfl rfl)
theorem dX4_restore_114 : decode cX4_restore 114 = .ok (.aload_n 0, 1) := dk_42 (dk_at dksX4_restore_4 20 rfl rfl)
theorem dX4_restore_115 : decode cX4_restore 115 = .ok (.getfield 83, 3) := dk_180 0 83 (dk_at dksX4_restore_4 21 rfl rfl)
theorem dX4_restore_118 : decode cX4_restore 118 = .ok (.iload_n 1, 1) := dk_27 (dk_at dksX4_restore_5 0 rfl rfl)
theorem dX4_restore_119 : decode cX4_restore 119 = .ok (.aload_n 0, 1) := dk_42 (dk_at dksX4_restore_5 1 rfl rfl)
theorem dX4_restore_120 : decode cX4_restore 120 = .ok (.getfield 70, 3) := dk_180 0 70 (dk_at dksX4_restore_5 2 rfl rfl)
theorem dX4_restore_123 : decode cX4_restore 123 = .ok (.invokestatic 279, 3) := dk_184 1 23 (dk_at dksX4_restore_5 5 rfl rfl)
theorem dX4_restore_126 : decode cX4_restore 126 = .ok (.istore_n 1, 1) := dk_60 (dk_at dksX4_restore_5 8 rfl rfl)
theorem dX4_restore_127 : decode cX4_restore 127 = .ok (.aload_n 0, 1) := dk_42 (dk_at dksX4_restore_5 9 rfl rfl)
theorem dX4_restore_128 : decode cX4_restore 128 = .ok (.aload_n 0, 1) := dk_42 (dk_at dksX4_restore_5 10 rfl rfl)
theorem dX4_restore_129 : decode cX4_restore 129 = .ok (.getfield 83, 3) := dk_180 0 83 (dk_at dksX4_restore_5 11 rfl rfl)
theorem dX4_restore_132 : decode cX4_restore 132 = .ok (.iload_n 1, 1) := dk_27 (dk_at dksX4_restore_5 14 rfl rfl)
theorem dX4_restore_133 : decode cX4_restore 133 = .ok (.iaload, 1) := dk_46 (dk_at dksX4_restore_5 15 rfl rfl)
theorem dX4_restore_134 : decode cX4_restore 134 = .ok (.putfield 206, 3) := dk_181 0 206 (dk_at dksX4_restore_5 16 rfl rfl)
theorem dX4_restore_137 : decode cX4_restore 137 = .ok (.aload_n 0, 1) := dk_42 (dk_at dksX4_restore_5 19 rfl rfl)
theorem dX4_restore_138 : decode cX4_restore 138 = .ok (.aload_n 0, 1) := dk_42 (dk_at dksX4_restore_5 20 rfl rfl)
theorem dX4_restore_139 : decode cX4_restore 139 = .ok (.getfield 83, 3) := dk_180 0 83 (dk_at dksX4_restore_5 21 rfl rfl)
theorem dX4_restore_142 : decode cX4_restore 142 = .ok (.iload_n 1, 1) := dk_27 (dk_at dksX4_restore_6 0 rfl rfl)
theorem dX4_restore_143 : decode cX4_restore 143 = .ok (.iconst 1, 1) := dk_4 (dk_at dksX4_restore_6 1 rfl rfl)
theorem dX4_restore_144 : decode cX4_restore 144 = .ok (.iadd, 1) := dk_96 (dk_at dksX4_restore_6 2 rfl rfl)
theorem dX4_restore_145 : decode cX4_restore 145 = .ok (.iaload, 1) := dk_46 (dk_at dksX4_restore_6 3 rfl rfl)
theorem dX4_restore_146 : decode cX4_restore 146 = .ok (.putfield 218, 3) := dk_181 0 218 (dk_at dksX4_restore_6 4 rfl rfl)
theorem dX4_restore_149 : decode cX4_restore 149 = .ok (.iconst 1, 1) := dk_4 (dk_at dksX4_restore_6 7 rfl rfl)
theorem dX4_restore_150 : decode cX4_restore 150 = .ok (.ireturn, 1) := dk_172 (dk_at dksX4_restore_6 8 rfl rfl)
abbrev cX4_gives : ByteArray := prog_14_method_55_code
def yX4_gives : MethodName := ⟨RX4, "gives", "([II[I)I"⟩
def dkwX4_gives_1 : List UInt8 := [190, 96, 172]
abbrev dktX4_gives_1 : List UInt8 := dkwX4_gives_1 ++ []
def dkwX4_gives_0 : List UInt8 := [3, 62, 29, 44, 190, 162, 0, 17, 44, 29, 42, 27, 29, 96, 46, 79, 132, 3, 1, 167, 255, 239, 27, 44]
abbrev dktX4_gives_0 : List UInt8 := dkwX4_gives_0 ++ dktX4_gives_1
theorem dksX4_gives_0 : cX4_gives.data.toList.drop 0 = dktX4_gives_0 := by decide +kernel
theorem dksX4_gives_1 : cX4_gives.data.toList.drop 24 = dktX4_gives_1 := dk_seg dksX4_gives_0 24 rfl rfl
theorem dX4_gives_0 : decode cX4_gives 0 = .ok (.iconst 0, 1) := dk_3 (dk_at dksX4_gives_0 0 rfl rfl)
theorem dX4_gives_1 : decode cX4_gives 1 = .ok (.istore_n 3, 1) := dk_62 (dk_at dksX4_gives_0 1 rfl rfl)
theorem dX4_gives_2 : decode cX4_gives 2 = .ok (.iload_n 3, 1) := dk_29 (dk_at dksX4_gives_0 2 rfl rfl)
theorem dX4_gives_3 : decode cX4_gives 3 = .ok (.aload_n 2, 1) := dk_44 (dk_at dksX4_gives_0 3 rfl rfl)
theorem dX4_gives_4 : decode cX4_gives 4 = .ok (.arraylength, 1) := dk_190 (dk_at dksX4_gives_0 4 rfl rfl)
theorem dX4_gives_5 : decode cX4_gives 5 = .ok (.if_icmp .ge 17, 3) := dk_162 0 17 (dk_at dksX4_gives_0 5 rfl rfl)
theorem dX4_gives_8 : decode cX4_gives 8 = .ok (.aload_n 2, 1) := dk_44 (dk_at dksX4_gives_0 8 rfl rfl)
theorem dX4_gives_9 : decode cX4_gives 9 = .ok (.iload_n 3, 1) := dk_29 (dk_at dksX4_gives_0 9 rfl rfl)
theorem dX4_gives_10 : decode cX4_gives 10 = .ok (.aload_n 0, 1) := dk_42 (dk_at dksX4_gives_0 10 rfl rfl)
theorem dX4_gives_11 : decode cX4_gives 11 = .ok (.iload_n 1, 1) := dk_27 (dk_at dksX4_gives_0 11 rfl rfl)
theorem dX4_gives_12 : decode cX4_gives 12 = .ok (.iload_n 3, 1) := dk_29 (dk_at dksX4_gives_0 12 rfl rfl)
theorem dX4_gives_13 : decode cX4_gives 13 = .ok (.iadd, 1) := dk_96 (dk_at dksX4_gives_0 13 rfl rfl)
theorem dX4_gives_14 : decode cX4_gives 14 = .ok (.iaload, 1) := dk_46 (dk_at dksX4_gives_0 14 rfl rfl)
theorem dX4_gives_15 : decode cX4_gives 15 = .ok (.iastore, 1) := dk_79 (dk_at dksX4_gives_0 15 rfl rfl)
theorem dX4_gives_16 : decode cX4_gives 16 = .ok (.iinc 3 1, 3) := dk_132 3 1 (dk_at dksX4_gives_0 16 rfl rfl)
theorem dX4_gives_19 : decode cX4_gives 19 = .ok (.goto (-17), 3) := dk_167 255 239 (dk_at dksX4_gives_0 19 rfl rfl)
theorem dX4_gives_22 : decode cX4_gives 22 = .ok (.iload_n 1, 1) := dk_27 (dk_at dksX4_gives_0 22 rfl rfl)
theorem dX4_gives_23 : decode cX4_gives 23 = .ok (.aload_n 2, 1) := dk_44 (dk_at dksX4_gives_0 23 rfl rfl)
theorem dX4_gives_24 : decode cX4_gives 24 = .ok (.arraylength, 1) := dk_190 (dk_at dksX4_gives_1 0 rfl rfl)
theorem dX4_gives_25 : decode cX4_gives 25 = .ok (.iadd, 1) := dk_96 (dk_at dksX4_gives_1 1 rfl rfl)
theorem dX4_gives_26 : decode cX4_gives 26 = .ok (.ireturn, 1) := dk_172 (dk_at dksX4_gives_1 2 rfl rfl)
abbrev cX4_sheet : ByteArray := prog_14_method_61_code
def yX4_sheet : MethodName := ⟨RX4, "sheet", "(III)I"⟩
def dkwX4_sheet_3 : List UInt8 := [167, 255, 233, 29, 172]
abbrev dktX4_sheet_3 : List UInt8 := dkwX4_sheet_3 ++ []
def dkwX4_sheet_2 : List UInt8 := [21, 4, 16, 16, 162, 0, 22, 42, 180, 0, 92, 16, 16, 27, 104, 21, 4, 96, 3, 79, 132, 4, 1]
abbrev dktX4_sheet_2 : List UInt8 := dkwX4_sheet_2 ++ dktX4_sheet_3
def dkwX4_sheet_1 : List UInt8 := [156, 0, 6, 16, 242, 172, 42, 180, 0, 86, 27, 28, 79, 42, 180, 0, 89, 27, 29, 79, 3, 54, 4]
abbrev dktX4_sheet_1 : List UInt8 := dkwX4_sheet_1 ++ dktX4_sheet_2
def dkwX4_sheet_0 : List UInt8 := [27, 184, 1, 3, 153, 0, 16, 28, 184, 1, 6, 153, 0, 9, 29, 16, 16, 164, 0, 5, 2, 172, 29]
abbrev dktX4_sheet_0 : List UInt8 := dkwX4_sheet_0 ++ dktX4_sheet_1
theorem dksX4_sheet_0 : cX4_sheet.data.toList.drop 0 = dktX4_sheet_0 := by decide +kernel
theorem dksX4_sheet_1 : cX4_sheet.data.toList.drop 23 = dktX4_sheet_1 := dk_seg dksX4_sheet_0 23 rfl rfl
theorem dksX4_sheet_2 : cX4_sheet.data.toList.drop 46 = dktX4_sheet_2 := dk_seg dksX4_sheet_1 23 rfl rfl
theorem dksX4_sheet_3 : cX4_sheet.data.toList.drop 69 = dktX4_sheet_3 := dk_seg dksX4_sheet_2 23 rfl rfl
theorem dX4_sheet_0 : decode cX4_sheet 0 = .ok (.iload_n 1, 1) := dk_27 (dk_at dksX4_sheet_0 0 rfl rfl)
theorem dX4_sheet_1 : decode cX4_sheet 1 = .ok (.invokestatic 259, 3) := dk_184 1 3 (dk_at dksX4_sheet_0 1 rfl rfl)
theorem dX4_sheet_4 : decode cX4_sheet 4 = .ok (.ifCond .eq 16, 3) := dk_153 0 16 (dk_at dksX4_sheet_0 4 rfl rfl)
theorem dX4_sheet_7 : decode cX4_sheet 7 = .ok (.iload_n 2, 1) := dk_28 (dk_at dksX4_sheet_0 7 rfl rfl)
theorem dX4_sheet_8 : decode cX4_sheet 8 = .ok (.invokestatic 262, 3) := dk_184 1 6 (dk_at dksX4_sheet_0 8 rfl rfl)
theorem dX4_sheet_11 : decode cX4_sheet 11 = .ok (.ifCond .eq 9, 3) := dk_153 0 9 (dk_at dksX4_sheet_0 11 rfl rfl)
theorem dX4_sheet_14 : decode cX4_sheet 14 = .ok (.iload_n 3, 1) := dk_29 (dk_at dksX4_sheet_0 14 rfl rfl)
theorem dX4_sheet_15 : decode cX4_sheet 15 = .ok (.bipush 16, 2) := dk_16 16 (dk_at dksX4_sheet_0 15 rfl rfl)
theorem dX4_sheet_17 : decode cX4_sheet 17 = .ok (.if_icmp .le 5, 3) := dk_164 0 5 (dk_at dksX4_sheet_0 17 rfl rfl)
theorem dX4_sheet_20 : decode cX4_sheet 20 = .ok (.iconst (-1), 1) := dk_2 (dk_at dksX4_sheet_0 20 rfl rfl)
theorem dX4_sheet_21 : decode cX4_sheet 21 = .ok (.ireturn, 1) := dk_172 (dk_at dksX4_sheet_0 21 rfl rfl)
theorem dX4_sheet_22 : decode cX4_sheet 22 = .ok (.iload_n 3, 1) := dk_29 (dk_at dksX4_sheet_0 22 rfl rfl)
theorem dX4_sheet_23 : decode cX4_sheet 23 = .ok (.ifCond .ge 6, 3) := dk_156 0 6 (dk_at dksX4_sheet_1 0 rfl rfl)
theorem dX4_sheet_26 : decode cX4_sheet 26 = .ok (.bipush (-14), 2) := dk_16 242 (dk_at dksX4_sheet_1 3 rfl rfl)
theorem dX4_sheet_28 : decode cX4_sheet 28 = .ok (.ireturn, 1) := dk_172 (dk_at dksX4_sheet_1 5 rfl rfl)
theorem dX4_sheet_29 : decode cX4_sheet 29 = .ok (.aload_n 0, 1) := dk_42 (dk_at dksX4_sheet_1 6 rfl rfl)
theorem dX4_sheet_30 : decode cX4_sheet 30 = .ok (.getfield 86, 3) := dk_180 0 86 (dk_at dksX4_sheet_1 7 rfl rfl)
theorem dX4_sheet_33 : decode cX4_sheet 33 = .ok (.iload_n 1, 1) := dk_27 (dk_at dksX4_sheet_1 10 rfl rfl)
theorem dX4_sheet_34 : decode cX4_sheet 34 = .ok (.iload_n 2, 1) := dk_28 (dk_at dksX4_sheet_1 11 rfl rfl)
theorem dX4_sheet_35 : decode cX4_sheet 35 = .ok (.iastore, 1) := dk_79 (dk_at dksX4_sheet_1 12 rfl rfl)
theorem dX4_sheet_36 : decode cX4_sheet 36 = .ok (.aload_n 0, 1) := dk_42 (dk_at dksX4_sheet_1 13 rfl rfl)
theorem dX4_sheet_37 : decode cX4_sheet 37 = .ok (.getfield 89, 3) := dk_180 0 89 (dk_at dksX4_sheet_1 14 rfl rfl)
theorem dX4_sheet_40 : decode cX4_sheet 40 = .ok (.iload_n 1, 1) := dk_27 (dk_at dksX4_sheet_1 17 rfl rfl)
theorem dX4_sheet_41 : decode cX4_sheet 41 = .ok (.iload_n 3, 1) := dk_29 (dk_at dksX4_sheet_1 18 rfl rfl)
theorem dX4_sheet_42 : decode cX4_sheet 42 = .ok (.iastore, 1) := dk_79 (dk_at dksX4_sheet_1 19 rfl rfl)
theorem dX4_sheet_43 : decode cX4_sheet 43 = .ok (.iconst 0, 1) := dk_3 (dk_at dksX4_sheet_1 20 rfl rfl)
theorem dX4_sheet_44 : decode cX4_sheet 44 = .ok (.istore 4, 2) := dk_54 4 (dk_at dksX4_sheet_1 21 rfl rfl)
theorem dX4_sheet_46 : decode cX4_sheet 46 = .ok (.iload 4, 2) := dk_21 4 (dk_at dksX4_sheet_2 0 rfl rfl)
theorem dX4_sheet_48 : decode cX4_sheet 48 = .ok (.bipush 16, 2) := dk_16 16 (dk_at dksX4_sheet_2 2 rfl rfl)
theorem dX4_sheet_50 : decode cX4_sheet 50 = .ok (.if_icmp .ge 22, 3) := dk_162 0 22 (dk_at dksX4_sheet_2 4 rfl rfl)
theorem dX4_sheet_53 : decode cX4_sheet 53 = .ok (.aload_n 0, 1) := dk_42 (dk_at dksX4_sheet_2 7 rfl rfl)
theorem dX4_sheet_54 : decode cX4_sheet 54 = .ok (.getfield 92, 3) := dk_180 0 92 (dk_at dksX4_sheet_2 8 rfl rfl)
theorem dX4_sheet_57 : decode cX4_sheet 57 = .ok (.bipush 16, 2) := dk_16 16 (dk_at dksX4_sheet_2 11 rfl rfl)
theorem dX4_sheet_59 : decode cX4_sheet 59 = .ok (.iload_n 1, 1) := dk_27 (dk_at dksX4_sheet_2 13 rfl rfl)
theorem dX4_sheet_60 : decode cX4_sheet 60 = .ok (.imul, 1) := dk_104 (dk_at dksX4_sheet_2 14 rfl rfl)
theorem dX4_sheet_61 : decode cX4_sheet 61 = .ok (.iload 4, 2) := dk_21 4 (dk_at dksX4_sheet_2 15 rfl rfl)
theorem dX4_sheet_63 : decode cX4_sheet 63 = .ok (.iadd, 1) := dk_96 (dk_at dksX4_sheet_2 17 rfl rfl)
theorem dX4_sheet_64 : decode cX4_sheet 64 = .ok (.iconst 0, 1) := dk_3 (dk_at dksX4_sheet_2 18 rfl rfl)
theorem dX4_sheet_65 : decode cX4_sheet 65 = .ok (.iastore, 1) := dk_79 (dk_at dksX4_sheet_2 19 rfl rfl)
theorem dX4_sheet_66 : decode cX4_sheet 66 = .ok (.iinc 4 1, 3) := dk_132 4 1 (dk_at dksX4_sheet_2 20 rfl rfl)
theorem dX4_sheet_69 : decode cX4_sheet 69 = .ok (.goto (-23), 3) := dk_167 255 233 (dk_at dksX4_sheet_3 0 rfl rfl)
theorem dX4_sheet_72 : decode cX4_sheet 72 = .ok (.iload_n 3, 1) := dk_29 (dk_at dksX4_sheet_3 3 rfl rfl)
theorem dX4_sheet_73 : decode cX4_sheet 73 = .ok (.ireturn, 1) := dk_172 (dk_at dksX4_sheet_3 4 rfl rfl)
abbrev cX4_drop : ByteArray := prog_14_method_62_code
def yX4_drop : MethodName := ⟨RX4, "drop", "(I)I"⟩
def dkwX4_drop_1 : List UInt8 := [180, 0, 86, 27, 2, 79, 42, 180, 0, 89, 27, 46, 172]
abbrev dktX4_drop_1 : List UInt8 := dkwX4_drop_1 ++ []
def dkwX4_drop_0 : List UInt8 := [27, 184, 1, 3, 154, 0, 5, 2, 172, 42, 180, 0, 86, 27, 46, 156, 0, 6, 16, 245, 172, 42]
abbrev dktX4_drop_0 : List UInt8 := dkwX4_drop_0 ++ dktX4_drop_1
theorem dksX4_drop_0 : cX4_drop.data.toList.drop 0 = dktX4_drop_0 := by decide +kernel
theorem dksX4_drop_1 : cX4_drop.data.toList.drop 22 = dktX4_drop_1 := dk_seg dksX4_drop_0 22 rfl rfl
theorem dX4_drop_0 : decode cX4_drop 0 = .ok (.iload_n 1, 1) := dk_27 (dk_at dksX4_drop_0 0 rfl rfl)
theorem dX4_drop_1 : decode cX4_drop 1 = .ok (.invokestatic 259, 3) := dk_184 1 3 (dk_at dksX4_drop_0 1 rfl rfl)
theorem dX4_drop_4 : decode cX4_drop 4 = .ok (.ifCond .ne 5, 3) := dk_154 0 5 (dk_at dksX4_drop_0 4 rfl rfl)
theorem dX4_drop_7 : decode cX4_drop 7 = .ok (.iconst (-1), 1) := dk_2 (dk_at dksX4_drop_0 7 rfl rfl)
theorem dX4_drop_8 : decode cX4_drop 8 = .ok (.ireturn, 1) := dk_172 (dk_at dksX4_drop_0 8 rfl rfl)
theorem dX4_drop_9 : decode cX4_drop 9 = .ok (.aload_n 0, 1) := dk_42 (dk_at dksX4_drop_0 9 rfl rfl)
theorem dX4_drop_10 : decode cX4_drop 10 = .ok (.getfield 86, 3) := dk_180 0 86 (dk_at dksX4_drop_0 10 rfl rfl)
theorem dX4_drop_13 : decode cX4_drop 13 = .ok (.iload_n 1, 1) := dk_27 (dk_at dksX4_drop_0 13 rfl rfl)
theorem dX4_drop_14 : decode cX4_drop 14 = .ok (.iaload, 1) := dk_46 (dk_at dksX4_drop_0 14 rfl rfl)
theorem dX4_drop_15 : decode cX4_drop 15 = .ok (.ifCond .ge 6, 3) := dk_156 0 6 (dk_at dksX4_drop_0 15 rfl rfl)
theorem dX4_drop_18 : decode cX4_drop 18 = .ok (.bipush (-11), 2) := dk_16 245 (dk_at dksX4_drop_0 18 rfl rfl)
theorem dX4_drop_20 : decode cX4_drop 20 = .ok (.ireturn, 1) := dk_172 (dk_at dksX4_drop_0 20 rfl rfl)
theorem dX4_drop_21 : decode cX4_drop 21 = .ok (.aload_n 0, 1) := dk_42 (dk_at dksX4_drop_0 21 rfl rfl)
theorem dX4_drop_22 : decode cX4_drop 22 = .ok (.getfield 86, 3) := dk_180 0 86 (dk_at dksX4_drop_1 0 rfl rfl)
theorem dX4_drop_25 : decode cX4_drop 25 = .ok (.iload_n 1, 1) := dk_27 (dk_at dksX4_drop_1 3 rfl rfl)
theorem dX4_drop_26 : decode cX4_drop 26 = .ok (.iconst (-1), 1) := dk_2 (dk_at dksX4_drop_1 4 rfl rfl)
theorem dX4_drop_27 : decode cX4_drop 27 = .ok (.iastore, 1) := dk_79 (dk_at dksX4_drop_1 5 rfl rfl)
theorem dX4_drop_28 : decode cX4_drop 28 = .ok (.aload_n 0, 1) := dk_42 (dk_at dksX4_drop_1 6 rfl rfl)
theorem dX4_drop_29 : decode cX4_drop 29 = .ok (.getfield 89, 3) := dk_180 0 89 (dk_at dksX4_drop_1 7 rfl rfl)
theorem dX4_drop_32 : decode cX4_drop 32 = .ok (.iload_n 1, 1) := dk_27 (dk_at dksX4_drop_1 10 rfl rfl)
theorem dX4_drop_33 : decode cX4_drop 33 = .ok (.iaload, 1) := dk_46 (dk_at dksX4_drop_1 11 rfl rfl)
theorem dX4_drop_34 : decode cX4_drop 34 = .ok (.ireturn, 1) := dk_172 (dk_at dksX4_drop_1 12 rfl rfl)
abbrev cX4_item : ByteArray := prog_14_method_63_code
def yX4_item : MethodName := ⟨RX4, "item", "(IIII)I"⟩
def dkwX4_item_2 : List UInt8 := [21, 4, 145, 167, 0, 16, 28, 4, 160, 0, 9, 21, 4, 147, 167, 0, 5, 21, 4, 79, 4, 172]
abbrev dktX4_item_2 : List UInt8 := dkwX4_item_2 ++ []
def dkwX4_item_1 : List UInt8 := [54, 5, 21, 5, 156, 0, 6, 21, 5, 172, 42, 180, 0, 92, 16, 16, 27, 104, 29, 96, 28, 154, 0, 9]
abbrev dktX4_item_1 : List UInt8 := dkwX4_item_1 ++ dktX4_item_2
def dkwX4_item_0 : List UInt8 := [27, 184, 1, 3, 153, 0, 10, 28, 184, 1, 6, 154, 0, 5, 2, 172, 42, 27, 28, 29, 4, 182, 1, 9]
abbrev dktX4_item_0 : List UInt8 := dkwX4_item_0 ++ dktX4_item_1
theorem dksX4_item_0 : cX4_item.data.toList.drop 0 = dktX4_item_0 := by decide +kernel
theorem dksX4_item_1 : cX4_item.data.toList.drop 24 = dktX4_item_1 := dk_seg dksX4_item_0 24 rfl rfl
theorem dksX4_item_2 : cX4_item.data.toList.drop 48 = dktX4_item_2 := dk_seg dksX4_item_1 24 rfl rfl
theorem dX4_item_0 : decode cX4_item 0 = .ok (.iload_n 1, 1) := dk_27 (dk_at dksX4_item_0 0 rfl rfl)
theorem dX4_item_1 : decode cX4_item 1 = .ok (.invokestatic 259, 3) := dk_184 1 3 (dk_at dksX4_item_0 1 rfl rfl)
theorem dX4_item_4 : decode cX4_item 4 = .ok (.ifCond .eq 10, 3) := dk_153 0 10 (dk_at dksX4_item_0 4 rfl rfl)
theorem dX4_item_7 : decode cX4_item 7 = .ok (.iload_n 2, 1) := dk_28 (dk_at dksX4_item_0 7 rfl rfl)
theorem dX4_item_8 : decode cX4_item 8 = .ok (.invokestatic 262, 3) := dk_184 1 6 (dk_at dksX4_item_0 8 rfl rfl)
theorem dX4_item_11 : decode cX4_item 11 = .ok (.ifCond .ne 5, 3) := dk_154 0 5 (dk_at dksX4_item_0 11 rfl rfl)
theorem dX4_item_14 : decode cX4_item 14 = .ok (.iconst (-1), 1) := dk_2 (dk_at dksX4_item_0 14 rfl rfl)
theorem dX4_item_15 : decode cX4_item 15 = .ok (.ireturn, 1) := dk_172 (dk_at dksX4_item_0 15 rfl rfl)
theorem dX4_item_16 : decode cX4_item 16 = .ok (.aload_n 0, 1) := dk_42 (dk_at dksX4_item_0 16 rfl rfl)
theorem dX4_item_17 : decode cX4_item 17 = .ok (.iload_n 1, 1) := dk_27 (dk_at dksX4_item_0 17 rfl rfl)
theorem dX4_item_18 : decode cX4_item 18 = .ok (.iload_n 2, 1) := dk_28 (dk_at dksX4_item_0 18 rfl rfl)
theorem dX4_item_19 : decode cX4_item 19 = .ok (.iload_n 3, 1) := dk_29 (dk_at dksX4_item_0 19 rfl rfl)
theorem dX4_item_20 : decode cX4_item 20 = .ok (.iconst 1, 1) := dk_4 (dk_at dksX4_item_0 20 rfl rfl)
theorem dX4_item_21 : decode cX4_item 21 = .ok (.invokevirtual 265, 3) := dk_182 1 9 (dk_at dksX4_item_0 21 rfl rfl)
theorem dX4_item_24 : decode cX4_item 24 = .ok (.istore 5, 2) := dk_54 5 (dk_at dksX4_item_1 0 rfl rfl)
theorem dX4_item_26 : decode cX4_item 26 = .ok (.iload 5, 2) := dk_21 5 (dk_at dksX4_item_1 2 rfl rfl)
theorem dX4_item_28 : decode cX4_item 28 = .ok (.ifCond .ge 6, 3) := dk_156 0 6 (dk_at dksX4_item_1 4 rfl rfl)
theorem dX4_item_31 : decode cX4_item 31 = .ok (.iload 5, 2) := dk_21 5 (dk_at dksX4_item_1 7 rfl rfl)
theorem dX4_item_33 : decode cX4_item 33 = .ok (.ireturn, 1) := dk_172 (dk_at dksX4_item_1 9 rfl rfl)
theorem dX4_item_34 : decode cX4_item 34 = .ok (.aload_n 0, 1) := dk_42 (dk_at dksX4_item_1 10 rfl rfl)
theorem dX4_item_35 : decode cX4_item 35 = .ok (.getfield 92, 3) := dk_180 0 92 (dk_at dksX4_item_1 11 rfl rfl)
theorem dX4_item_38 : decode cX4_item 38 = .ok (.bipush 16, 2) := dk_16 16 (dk_at dksX4_item_1 14 rfl rfl)
theorem dX4_item_40 : decode cX4_item 40 = .ok (.iload_n 1, 1) := dk_27 (dk_at dksX4_item_1 16 rfl rfl)
theorem dX4_item_41 : decode cX4_item 41 = .ok (.imul, 1) := dk_104 (dk_at dksX4_item_1 17 rfl rfl)
theorem dX4_item_42 : decode cX4_item 42 = .ok (.iload_n 3, 1) := dk_29 (dk_at dksX4_item_1 18 rfl rfl)
theorem dX4_item_43 : decode cX4_item 43 = .ok (.iadd, 1) := dk_96 (dk_at dksX4_item_1 19 rfl rfl)
theorem dX4_item_44 : decode cX4_item 44 = .ok (.iload_n 2, 1) := dk_28 (dk_at dksX4_item_1 20 rfl rfl)
theorem dX4_item_45 : decode cX4_item 45 = .ok (.ifCond .ne 9, 3) := dk_154 0 9 (dk_at dksX4_item_1 21 rfl rfl)
theorem dX4_item_48 : decode cX4_item 48 = .ok (.iload 4, 2) := dk_21 4 (dk_at dksX4_item_2 0 rfl rfl)
theorem dX4_item_50 : decode cX4_item 50 = .ok (.i2b, 1) := dk_145 (dk_at dksX4_item_2 2 rfl rfl)
theorem dX4_item_51 : decode cX4_item 51 = .ok (.goto 16, 3) := dk_167 0 16 (dk_at dksX4_item_2 3 rfl rfl)
theorem dX4_item_54 : decode cX4_item 54 = .ok (.iload_n 2, 1) := dk_28 (dk_at dksX4_item_2 6 rfl rfl)
theorem dX4_item_55 : decode cX4_item 55 = .ok (.iconst 1, 1) := dk_4 (dk_at dksX4_item_2 7 rfl rfl)
theorem dX4_item_56 : decode cX4_item 56 = .ok (.if_icmp .ne 9, 3) := dk_160 0 9 (dk_at dksX4_item_2 8 rfl rfl)
theorem dX4_item_59 : decode cX4_item 59 = .ok (.iload 4, 2) := dk_21 4 (dk_at dksX4_item_2 11 rfl rfl)
theorem dX4_item_61 : decode cX4_item 61 = .ok (.i2s, 1) := dk_147 (dk_at dksX4_item_2 13 rfl rfl)
theorem dX4_item_62 : decode cX4_item 62 = .ok (.goto 5, 3) := dk_167 0 5 (dk_at dksX4_item_2 14 rfl rfl)
theorem dX4_item_65 : decode cX4_item 65 = .ok (.iload 4, 2) := dk_21 4 (dk_at dksX4_item_2 17 rfl rfl)
theorem dX4_item_67 : decode cX4_item 67 = .ok (.iastore, 1) := dk_79 (dk_at dksX4_item_2 19 rfl rfl)
theorem dX4_item_68 : decode cX4_item 68 = .ok (.iconst 1, 1) := dk_4 (dk_at dksX4_item_2 20 rfl rfl)
theorem dX4_item_69 : decode cX4_item 69 = .ok (.ireturn, 1) := dk_172 (dk_at dksX4_item_2 21 rfl rfl)
abbrev cX4_film : ByteArray := prog_14_method_64_code
def yX4_film : MethodName := ⟨RX4, "film", "(IIII)I"⟩
def dkwX4_film_4 : List UInt8 := [132, 6, 1, 167, 255, 220, 42, 180, 0, 7, 5, 46, 4, 96, 172]
abbrev dktX4_film_4 : List UInt8 := dkwX4_film_4 ++ []
def dkwX4_film_3 : List UInt8 := [42, 180, 0, 92, 16, 16, 28, 104, 21, 4, 96, 21, 6, 96, 42, 180, 0, 43, 21, 6, 46, 79]
abbrev dktX4_film_3 : List UInt8 := dkwX4_film_3 ++ dktX4_film_4
def dkwX4_film_2 : List UInt8 := [27, 182, 0, 201, 154, 0, 6, 16, 254, 172, 3, 54, 6, 21, 6, 42, 180, 0, 7, 5, 46, 163, 0, 31]
abbrev dktX4_film_2 : List UInt8 := dkwX4_film_2 ++ dktX4_film_3
def dkwX4_film_1 : List UInt8 := [21, 4, 42, 180, 0, 7, 5, 46, 4, 96, 182, 1, 9, 54, 5, 21, 5, 156, 0, 6, 21, 5, 172, 42]
abbrev dktX4_film_1 : List UInt8 := dkwX4_film_1 ++ dktX4_film_2
def dkwX4_film_0 : List UInt8 := [27, 155, 0, 17, 28, 184, 1, 3, 153, 0, 10, 29, 184, 1, 6, 154, 0, 5, 2, 172, 42, 28, 29]
abbrev dktX4_film_0 : List UInt8 := dkwX4_film_0 ++ dktX4_film_1
theorem dksX4_film_0 : cX4_film.data.toList.drop 0 = dktX4_film_0 := by decide +kernel
theorem dksX4_film_1 : cX4_film.data.toList.drop 23 = dktX4_film_1 := dk_seg dksX4_film_0 23 rfl rfl
theorem dksX4_film_2 : cX4_film.data.toList.drop 47 = dktX4_film_2 := dk_seg dksX4_film_1 24 rfl rfl
theorem dksX4_film_3 : cX4_film.data.toList.drop 71 = dktX4_film_3 := dk_seg dksX4_film_2 24 rfl rfl
theorem dksX4_film_4 : cX4_film.data.toList.drop 93 = dktX4_film_4 := dk_seg dksX4_film_3 22 rfl rfl
theorem dX4_film_0 : decode cX4_film 0 = .ok (.iload_n 1, 1) := dk_27 (dk_at dksX4_film_0 0 rfl rfl)
theorem dX4_film_1 : decode cX4_film 1 = .ok (.ifCond .lt 17, 3) := dk_155 0 17 (dk_at dksX4_film_0 1 rfl rfl)
theorem dX4_film_4 : decode cX4_film 4 = .ok (.iload_n 2, 1) := dk_28 (dk_at dksX4_film_0 4 rfl rfl)
theorem dX4_film_5 : decode cX4_film 5 = .ok (.invokestatic 259, 3) := dk_184 1 3 (dk_at dksX4_film_0 5 rfl rfl)
theorem dX4_film_8 : decode cX4_film 8 = .ok (.ifCond .eq 10, 3) := dk_153 0 10 (dk_at dksX4_film_0 8 rfl rfl)
theorem dX4_film_11 : decode cX4_film 11 = .ok (.iload_n 3, 1) := dk_29 (dk_at dksX4_film_0 11 rfl rfl)
theorem dX4_film_12 : decode cX4_film 12 = .ok (.invokestatic 262, 3) := dk_184 1 6 (dk_at dksX4_film_0 12 rfl rfl)
theorem dX4_film_15 : decode cX4_film 15 = .ok (.ifCond .ne 5, 3) := dk_154 0 5 (dk_at dksX4_film_0 15 rfl rfl)
theorem dX4_film_18 : decode cX4_film 18 = .ok (.iconst (-1), 1) := dk_2 (dk_at dksX4_film_0 18 rfl rfl)
theorem dX4_film_19 : decode cX4_film 19 = .ok (.ireturn, 1) := dk_172 (dk_at dksX4_film_0 19 rfl rfl)
theorem dX4_film_20 : decode cX4_film 20 = .ok (.aload_n 0, 1) := dk_42 (dk_at dksX4_film_0 20 rfl rfl)
theorem dX4_film_21 : decode cX4_film 21 = .ok (.iload_n 2, 1) := dk_28 (dk_at dksX4_film_0 21 rfl rfl)
theorem dX4_film_22 : decode cX4_film 22 = .ok (.iload_n 3, 1) := dk_29 (dk_at dksX4_film_0 22 rfl rfl)
theorem dX4_film_23 : decode cX4_film 23 = .ok (.iload 4, 2) := dk_21 4 (dk_at dksX4_film_1 0 rfl rfl)
theorem dX4_film_25 : decode cX4_film 25 = .ok (.aload_n 0, 1) := dk_42 (dk_at dksX4_film_1 2 rfl rfl)
theorem dX4_film_26 : decode cX4_film 26 = .ok (.getfield 7, 3) := dk_180 0 7 (dk_at dksX4_film_1 3 rfl rfl)
theorem dX4_film_29 : decode cX4_film 29 = .ok (.iconst 2, 1) := dk_5 (dk_at dksX4_film_1 6 rfl rfl)
theorem dX4_film_30 : decode cX4_film 30 = .ok (.iaload, 1) := dk_46 (dk_at dksX4_film_1 7 rfl rfl)
theorem dX4_film_31 : decode cX4_film 31 = .ok (.iconst 1, 1) := dk_4 (dk_at dksX4_film_1 8 rfl rfl)
theorem dX4_film_32 : decode cX4_film 32 = .ok (.iadd, 1) := dk_96 (dk_at dksX4_film_1 9 rfl rfl)
theorem dX4_film_33 : decode cX4_film 33 = .ok (.invokevirtual 265, 3) := dk_182 1 9 (dk_at dksX4_film_1 10 rfl rfl)
theorem dX4_film_36 : decode cX4_film 36 = .ok (.istore 5, 2) := dk_54 5 (dk_at dksX4_film_1 13 rfl rfl)
theorem dX4_film_38 : decode cX4_film 38 = .ok (.iload 5, 2) := dk_21 5 (dk_at dksX4_film_1 15 rfl rfl)
theorem dX4_film_40 : decode cX4_film 40 = .ok (.ifCond .ge 6, 3) := dk_156 0 6 (dk_at dksX4_film_1 17 rfl rfl)
theorem dX4_film_43 : decode cX4_film 43 = .ok (.iload 5, 2) := dk_21 5 (dk_at dksX4_film_1 20 rfl rfl)
theorem dX4_film_45 : decode cX4_film 45 = .ok (.ireturn, 1) := dk_172 (dk_at dksX4_film_1 22 rfl rfl)
theorem dX4_film_46 : decode cX4_film 46 = .ok (.aload_n 0, 1) := dk_42 (dk_at dksX4_film_1 23 rfl rfl)
theorem dX4_film_47 : decode cX4_film 47 = .ok (.iload_n 1, 1) := dk_27 (dk_at dksX4_film_2 0 rfl rfl)
theorem dX4_film_48 : decode cX4_film 48 = .ok (.invokevirtual 201, 3) := dk_182 0 201 (dk_at dksX4_film_2 1 rfl rfl)
theorem dX4_film_51 : decode cX4_film 51 = .ok (.ifCond .ne 6, 3) := dk_154 0 6 (dk_at dksX4_film_2 4 rfl rfl)
theorem dX4_film_54 : decode cX4_film 54 = .ok (.bipush (-2), 2) := dk_16 254 (dk_at dksX4_film_2 7 rfl rfl)
theorem dX4_film_56 : decode cX4_film 56 = .ok (.ireturn, 1) := dk_172 (dk_at dksX4_film_2 9 rfl rfl)
theorem dX4_film_57 : decode cX4_film 57 = .ok (.iconst 0, 1) := dk_3 (dk_at dksX4_film_2 10 rfl rfl)
theorem dX4_film_58 : decode cX4_film 58 = .ok (.istore 6, 2) := dk_54 6 (dk_at dksX4_film_2 11 rfl rfl)
theorem dX4_film_60 : decode cX4_film 60 = .ok (.iload 6, 2) := dk_21 6 (dk_at dksX4_film_2 13 rfl rfl)
theorem dX4_film_62 : decode cX4_film 62 = .ok (.aload_n 0, 1) := dk_42 (dk_at dksX4_film_2 15 rfl rfl)
theorem dX4_film_63 : decode cX4_film 63 = .ok (.getfield 7, 3) := dk_180 0 7 (dk_at dksX4_film_2 16 rfl rfl)
theorem dX4_film_66 : decode cX4_film 66 = .ok (.iconst 2, 1) := dk_5 (dk_at dksX4_film_2 19 rfl rfl)
theorem dX4_film_67 : decode cX4_film 67 = .ok (.iaload, 1) := dk_46 (dk_at dksX4_film_2 20 rfl rfl)
theorem dX4_film_68 : decode cX4_film 68 = .ok (.if_icmp .gt 31, 3) := dk_163 0 31 (dk_at dksX4_film_2 21 rfl rfl)
theorem dX4_film_71 : decode cX4_film 71 = .ok (.aload_n 0, 1) := dk_42 (dk_at dksX4_film_3 0 rfl rfl)
theorem dX4_film_72 : decode cX4_film 72 = .ok (.getfield 92, 3) := dk_180 0 92 (dk_at dksX4_film_3 1 rfl rfl)
theorem dX4_film_75 : decode cX4_film 75 = .ok (.bipush 16, 2) := dk_16 16 (dk_at dksX4_film_3 4 rfl rfl)
theorem dX4_film_77 : decode cX4_film 77 = .ok (.iload_n 2, 1) := dk_28 (dk_at dksX4_film_3 6 rfl rfl)
theorem dX4_film_78 : decode cX4_film 78 = .ok (.imul, 1) := dk_104 (dk_at dksX4_film_3 7 rfl rfl)
theorem dX4_film_79 : decode cX4_film 79 = .ok (.iload 4, 2) := dk_21 4 (dk_at dksX4_film_3 8 rfl rfl)
theorem dX4_film_81 : decode cX4_film 81 = .ok (.iadd, 1) := dk_96 (dk_at dksX4_film_3 10 rfl rfl)
theorem dX4_film_82 : decode cX4_film 82 = .ok (.iload 6, 2) := dk_21 6 (dk_at dksX4_film_3 11 rfl rfl)
theorem dX4_film_84 : decode cX4_film 84 = .ok (.iadd, 1) := dk_96 (dk_at dksX4_film_3 13 rfl rfl)
theorem dX4_film_85 : decode cX4_film 85 = .ok (.aload_n 0, 1) := dk_42 (dk_at dksX4_film_3 14 rfl rfl)
theorem dX4_film_86 : decode cX4_film 86 = .ok (.getfield 43, 3) := dk_180 0 43 (dk_at dksX4_film_3 15 rfl rfl)
theorem dX4_film_89 : decode cX4_film 89 = .ok (.iload 6, 2) := dk_21 6 (dk_at dksX4_film_3 18 rfl rfl)
theorem dX4_film_91 : decode cX4_film 91 = .ok (.iaload, 1) := dk_46 (dk_at dksX4_film_3 20 rfl rfl)
theorem dX4_film_92 : decode cX4_film 92 = .ok (.iastore, 1) := dk_79 (dk_at dksX4_film_3 21 rfl rfl)
theorem dX4_film_93 : decode cX4_film 93 = .ok (.iinc 6 1, 3) := dk_132 6 1 (dk_at dksX4_film_4 0 rfl rfl)
theorem dX4_film_96 : decode cX4_film 96 = .ok (.goto (-36), 3) := dk_167 255 220 (dk_at dksX4_film_4 3 rfl rfl)
theorem dX4_film_99 : decode cX4_film 99 = .ok (.aload_n 0, 1) := dk_42 (dk_at dksX4_film_4 6 rfl rfl)
theorem dX4_film_100 : decode cX4_film 100 = .ok (.getfield 7, 3) := dk_180 0 7 (dk_at dksX4_film_4 7 rfl rfl)
theorem dX4_film_103 : decode cX4_film 103 = .ok (.iconst 2, 1) := dk_5 (dk_at dksX4_film_4 10 rfl rfl)
theorem dX4_film_104 : decode cX4_film 104 = .ok (.iaload, 1) := dk_46 (dk_at dksX4_film_4 11 rfl rfl)
theorem dX4_film_105 : decode cX4_film 105 = .ok (.iconst 1, 1) := dk_4 (dk_at dksX4_film_4 12 rfl rfl)
theorem dX4_film_106 : decode cX4_film 106 = .ok (.iadd, 1) := dk_96 (dk_at dksX4_film_4 13 rfl rfl)
theorem dX4_film_107 : decode cX4_film 107 = .ok (.ireturn, 1) := dk_172 (dk_at dksX4_film_4 14 rfl rfl)
abbrev cX4_copy : ByteArray := prog_14_method_65_code
def yX4_copy : MethodName := ⟨RX4, "copy", "(IIIII)I"⟩
def dkwX4_copy_7 : List UInt8 := [180, 0, 95, 21, 6, 46, 79, 132, 6, 1, 167, 255, 224, 21, 5, 172]
abbrev dktX4_copy_7 : List UInt8 := dkwX4_copy_7 ++ []
def dkwX4_copy_6 : List UInt8 := [21, 6, 21, 5, 162, 0, 31, 42, 180, 0, 92, 16, 16, 29, 104, 21, 4, 96, 21, 6, 96, 42]
abbrev dktX4_copy_6 : List UInt8 := dkwX4_copy_6 ++ dktX4_copy_7
def dkwX4_copy_5 : List UInt8 := [180, 0, 92, 16, 16, 27, 104, 28, 96, 21, 6, 96, 46, 79, 132, 6, 1, 167, 255, 225, 3, 54, 6]
abbrev dktX4_copy_5 : List UInt8 := dkwX4_copy_5 ++ dktX4_copy_6
def dkwX4_copy_4 : List UInt8 := [156, 0, 6, 16, 243, 172, 3, 54, 6, 21, 6, 21, 5, 162, 0, 30, 42, 180, 0, 95, 21, 6, 42]
abbrev dktX4_copy_4 : List UInt8 := dkwX4_copy_4 ++ dktX4_copy_5
def dkwX4_copy_3 : List UInt8 := [28, 21, 5, 182, 1, 9, 155, 0, 21, 42, 29, 42, 180, 0, 86, 29, 46, 21, 4, 21, 5, 182, 1, 9]
abbrev dktX4_copy_3 : List UInt8 := dkwX4_copy_3 ++ dktX4_copy_4
def dkwX4_copy_2 : List UInt8 := [180, 0, 86, 29, 46, 159, 0, 6, 16, 244, 172, 21, 5, 155, 0, 38, 42, 27, 42, 180, 0, 86, 27, 46]
abbrev dktX4_copy_2 : List UInt8 := dkwX4_copy_2 ++ dktX4_copy_3
def dkwX4_copy_1 : List UInt8 := [155, 0, 12, 42, 180, 0, 86, 29, 46, 156, 0, 6, 16, 245, 172, 42, 180, 0, 86, 27, 46, 42]
abbrev dktX4_copy_1 : List UInt8 := dkwX4_copy_1 ++ dktX4_copy_2
def dkwX4_copy_0 : List UInt8 := [27, 184, 1, 3, 153, 0, 10, 29, 184, 1, 3, 154, 0, 5, 2, 172, 42, 180, 0, 86, 27, 46]
abbrev dktX4_copy_0 : List UInt8 := dkwX4_copy_0 ++ dktX4_copy_1
theorem dksX4_copy_0 : cX4_copy.data.toList.drop 0 = dktX4_copy_0 := by decide +kernel
theorem dksX4_copy_1 : cX4_copy.data.toList.drop 22 = dktX4_copy_1 := dk_seg dksX4_copy_0 22 rfl rfl
theorem dksX4_copy_2 : cX4_copy.data.toList.drop 44 = dktX4_copy_2 := dk_seg dksX4_copy_1 22 rfl rfl
theorem dksX4_copy_3 : cX4_copy.data.toList.drop 68 = dktX4_copy_3 := dk_seg dksX4_copy_2 24 rfl rfl
theorem dksX4_copy_4 : cX4_copy.data.toList.drop 92 = dktX4_copy_4 := dk_seg dksX4_copy_3 24 rfl rfl
theorem dksX4_copy_5 : cX4_copy.data.toList.drop 115 = dktX4_copy_5 := dk_seg dksX4_copy_4 23 rfl rfl
theorem dksX4_copy_6 : cX4_copy.data.toList.drop 138 = dktX4_copy_6 := dk_seg dksX4_copy_5 23 rfl rfl
theorem dksX4_copy_7 : cX4_copy.data.toList.drop 160 = dktX4_copy_7 := dk_seg dksX4_copy_6 22 rfl rfl
theorem dX4_copy_0 : decode cX4_copy 0 = .ok (.iload_n 1, 1) := dk_27 (dk_at dksX4_copy_0 0 rfl rfl)
theorem dX4_copy_1 : decode cX4_copy 1 = .ok (.invokestatic 259, 3) := dk_184 1 3 (dk_at dksX4_copy_0 1 rfl rfl)
theorem dX4_copy_4 : decode cX4_copy 4 = .ok (.ifCond .eq 10, 3) := dk_153 0 10 (dk_at dksX4_copy_0 4 rfl rfl)
theorem dX4_copy_7 : decode cX4_copy 7 = .ok (.iload_n 3, 1) := dk_29 (dk_at dksX4_copy_0 7 rfl rfl)
theorem dX4_copy_8 : decode cX4_copy 8 = .ok (.invokestatic 259, 3) := dk_184 1 3 (dk_at dksX4_copy_0 8 rfl rfl)
theorem dX4_copy_11 : decode cX4_copy 11 = .ok (.ifCond .ne 5, 3) := dk_154 0 5 (dk_at dksX4_copy_0 11 rfl rfl)
theorem dX4_copy_14 : decode cX4_copy 14 = .ok (.iconst (-1), 1) := dk_2 (dk_at dksX4_copy_0 14 rfl rfl)
theorem dX4_copy_15 : decode cX4_copy 15 = .ok (.ireturn, 1) := dk_172 (dk_at dksX4_copy_0 15 rfl rfl)
theorem dX4_copy_16 : decode cX4_copy 16 = .ok (.aload_n 0, 1) := dk_42 (dk_at dksX4_copy_0 16 rfl rfl)
theorem dX4_copy_17 : decode cX4_copy 17 = .ok (.getfield 86, 3) := dk_180 0 86 (dk_at dksX4_copy_0 17 rfl rfl)
theorem dX4_copy_20 : decode cX4_copy 20 = .ok (.iload_n 1, 1) := dk_27 (dk_at dksX4_copy_0 20 rfl rfl)
theorem dX4_copy_21 : decode cX4_copy 21 = .ok (.iaload, 1) := dk_46 (dk_at dksX4_copy_0 21 rfl rfl)
theorem dX4_copy_22 : decode cX4_copy 22 = .ok (.ifCond .lt 12, 3) := dk_155 0 12 (dk_at dksX4_copy_1 0 rfl rfl)
theorem dX4_copy_25 : decode cX4_copy 25 = .ok (.aload_n 0, 1) := dk_42 (dk_at dksX4_copy_1 3 rfl rfl)
theorem dX4_copy_26 : decode cX4_copy 26 = .ok (.getfield 86, 3) := dk_180 0 86 (dk_at dksX4_copy_1 4 rfl rfl)
theorem dX4_copy_29 : decode cX4_copy 29 = .ok (.iload_n 3, 1) := dk_29 (dk_at dksX4_copy_1 7 rfl rfl)
theorem dX4_copy_30 : decode cX4_copy 30 = .ok (.iaload, 1) := dk_46 (dk_at dksX4_copy_1 8 rfl rfl)
theorem dX4_copy_31 : decode cX4_copy 31 = .ok (.ifCond .ge 6, 3) := dk_156 0 6 (dk_at dksX4_copy_1 9 rfl rfl)
theorem dX4_copy_34 : decode cX4_copy 34 = .ok (.bipush (-11), 2) := dk_16 245 (dk_at dksX4_copy_1 12 rfl rfl)
theorem dX4_copy_36 : decode cX4_copy 36 = .ok (.ireturn, 1) := dk_172 (dk_at dksX4_copy_1 14 rfl rfl)
theorem dX4_copy_37 : decode cX4_copy 37 = .ok (.aload_n 0, 1) := dk_42 (dk_at dksX4_copy_1 15 rfl rfl)
theorem dX4_copy_38 : decode cX4_copy 38 = .ok (.getfield 86, 3) := dk_180 0 86 (dk_at dksX4_copy_1 16 rfl rfl)
theorem dX4_copy_41 : decode cX4_copy 41 = .ok (.iload_n 1, 1) := dk_27 (dk_at dksX4_copy_1 19 rfl rfl)
theorem dX4_copy_42 : decode cX4_copy 42 = .ok (.iaload, 1) := dk_46 (dk_at dksX4_copy_1 20 rfl rfl)
theorem dX4_copy_43 : decode cX4_copy 43 = .ok (.aload_n 0, 1) := dk_42 (dk_at dksX4_copy_1 21 rfl rfl)
theorem dX4_copy_44 : decode cX4_copy 44 = .ok (.getfield 86, 3) := dk_180 0 86 (dk_at dksX4_copy_2 0 rfl rfl)
theorem dX4_copy_47 : decode cX4_copy 47 = .ok (.iload_n 3, 1) := dk_29 (dk_at dksX4_copy_2 3 rfl rfl)
theorem dX4_copy_48 : decode cX4_copy 48 = .ok (.iaload, 1) := dk_46 (dk_at dksX4_copy_2 4 rfl rfl)
theorem dX4_copy_49 : decode cX4_copy 49 = .ok (.if_icmp .eq 6, 3) := dk_159 0 6 (dk_at dksX4_copy_2 5 rfl rfl)
theorem dX4_copy_52 : decode cX4_copy 52 = .ok (.bipush (-12), 2) := dk_16 244 (dk_at dksX4_copy_2 8 rfl rfl)
theorem dX4_copy_54 : decode cX4_copy 54 = .ok (.ireturn, 1) := dk_172 (dk_at dksX4_copy_2 10 rfl rfl)
theorem dX4_copy_55 : decode cX4_copy 55 = .ok (.iload 5, 2) := dk_21 5 (dk_at dksX4_copy_2 11 rfl rfl)
theorem dX4_copy_57 : decode cX4_copy 57 = .ok (.ifCond .lt 38, 3) := dk_155 0 38 (dk_at dksX4_copy_2 13 rfl rfl)
theorem dX4_copy_60 : decode cX4_copy 60 = .ok (.aload_n 0, 1) := dk_42 (dk_at dksX4_copy_2 16 rfl rfl)
theorem dX4_copy_61 : decode cX4_copy 61 = .ok (.iload_n 1, 1) := dk_27 (dk_at dksX4_copy_2 17 rfl rfl)
theorem dX4_copy_62 : decode cX4_copy 62 = .ok (.aload_n 0, 1) := dk_42 (dk_at dksX4_copy_2 18 rfl rfl)
theorem dX4_copy_63 : decode cX4_copy 63 = .ok (.getfield 86, 3) := dk_180 0 86 (dk_at dksX4_copy_2 19 rfl rfl)
theorem dX4_copy_66 : decode cX4_copy 66 = .ok (.iload_n 1, 1) := dk_27 (dk_at dksX4_copy_2 22 rfl rfl)
theorem dX4_copy_67 : decode cX4_copy 67 = .ok (.iaload, 1) := dk_46 (dk_at dksX4_copy_2 23 rfl rfl)
theorem dX4_copy_68 : decode cX4_copy 68 = .ok (.iload_n 2, 1) := dk_28 (dk_at dksX4_copy_3 0 rfl rfl)
theorem dX4_copy_69 : decode cX4_copy 69 = .ok (.iload 5, 2) := dk_21 5 (dk_at dksX4_copy_3 1 rfl rfl)
theorem dX4_copy_71 : decode cX4_copy 71 = .ok (.invokevirtual 265, 3) := dk_182 1 9 (dk_at dksX4_copy_3 3 rfl rfl)
theorem dX4_copy_74 : decode cX4_copy 74 = .ok (.ifCond .lt 21, 3) := dk_155 0 21 (dk_at dksX4_copy_3 6 rfl rfl)
theorem dX4_copy_77 : decode cX4_copy 77 = .ok (.aload_n 0, 1) := dk_42 (dk_at dksX4_copy_3 9 rfl rfl)
theorem dX4_copy_78 : decode cX4_copy 78 = .ok (.iload_n 3, 1) := dk_29 (dk_at dksX4_copy_3 10 rfl rfl)
theorem dX4_copy_79 : decode cX4_copy 79 = .ok (.aload_n 0, 1) := dk_42 (dk_at dksX4_copy_3 11 rfl rfl)
theorem dX4_copy_80 : decode cX4_copy 80 = .ok (.getfield 86, 3) := dk_180 0 86 (dk_at dksX4_copy_3 12 rfl rfl)
theorem dX4_copy_83 : decode cX4_copy 83 = .ok (.iload_n 3, 1) := dk_29 (dk_at dksX4_copy_3 15 rfl rfl)
theorem dX4_copy_84 : decode cX4_copy 84 = .ok (.iaload, 1) := dk_46 (dk_at dksX4_copy_3 16 rfl rfl)
theorem dX4_copy_85 : decode cX4_copy 85 = .ok (.iload 4, 2) := dk_21 4 (dk_at dksX4_copy_3 17 rfl rfl)
theorem dX4_copy_87 : decode cX4_copy 87 = .ok (.iload 5, 2) := dk_21 5 (dk_at dksX4_copy_3 19 rfl rfl)
theorem dX4_copy_89 : decode cX4_copy 89 = .ok (.invokevirtual 265, 3) := dk_182 1 9 (dk_at dksX4_copy_3 21 rfl rfl)
theorem dX4_copy_92 : decode cX4_copy 92 = .ok (.ifCond .ge 6, 3) := dk_156 0 6 (dk_at dksX4_copy_4 0 rfl rfl)
theorem dX4_copy_95 : decode cX4_copy 95 = .ok (.bipush (-13), 2) := dk_16 243 (dk_at dksX4_copy_4 3 rfl rfl)
theorem dX4_copy_97 : decode cX4_copy 97 = .ok (.ireturn, 1) := dk_172 (dk_at dksX4_copy_4 5 rfl rfl)
theorem dX4_copy_98 : decode cX4_copy 98 = .ok (.iconst 0, 1) := dk_3 (dk_at dksX4_copy_4 6 rfl rfl)
theorem dX4_copy_99 : decode cX4_copy 99 = .ok (.istore 6, 2) := dk_54 6 (dk_at dksX4_copy_4 7 rfl rfl)
theorem dX4_copy_101 : decode cX4_copy 101 = .ok (.iload 6, 2) := dk_21 6 (dk_at dksX4_copy_4 9 rfl rfl)
theorem dX4_copy_103 : decode cX4_copy 103 = .ok (.iload 5, 2) := dk_21 5 (dk_at dksX4_copy_4 11 rfl rfl)
theorem dX4_copy_105 : decode cX4_copy 105 = .ok (.if_icmp .ge 30, 3) := dk_162 0 30 (dk_at dksX4_copy_4 13 rfl rfl)
theorem dX4_copy_108 : decode cX4_copy 108 = .ok (.aload_n 0, 1) := dk_42 (dk_at dksX4_copy_4 16 rfl rfl)
theorem dX4_copy_109 : decode cX4_copy 109 = .ok (.getfield 95, 3) := dk_180 0 95 (dk_at dksX4_copy_4 17 rfl rfl)
theorem dX4_copy_112 : decode cX4_copy 112 = .ok (.iload 6, 2) := dk_21 6 (dk_at dksX4_copy_4 20 rfl rfl)
theorem dX4_copy_114 : decode cX4_copy 114 = .ok (.aload_n 0, 1) := dk_42 (dk_at dksX4_copy_4 22 rfl rfl)
theorem dX4_copy_115 : decode cX4_copy 115 = .ok (.getfield 92, 3) := dk_180 0 92 (dk_at dksX4_copy_5 0 rfl rfl)
theorem dX4_copy_118 : decode cX4_copy 118 = .ok (.bipush 16, 2) := dk_16 16 (dk_at dksX4_copy_5 3 rfl rfl)
theorem dX4_copy_120 : decode cX4_copy 120 = .ok (.iload_n 1, 1) := dk_27 (dk_at dksX4_copy_5 5 rfl rfl)
theorem dX4_copy_121 : decode cX4_copy 121 = .ok (.imul, 1) := dk_104 (dk_at dksX4_copy_5 6 rfl rfl)
theorem dX4_copy_122 : decode cX4_copy 122 = .ok (.iload_n 2, 1) := dk_28 (dk_at dksX4_copy_5 7 rfl rfl)
theorem dX4_copy_123 : decode cX4_copy 123 = .ok (.iadd, 1) := dk_96 (dk_at dksX4_copy_5 8 rfl rfl)
theorem dX4_copy_124 : decode cX4_copy 124 = .ok (.iload 6, 2) := dk_21 6 (dk_at dksX4_copy_5 9 rfl rfl)
theorem dX4_copy_126 : decode cX4_copy 126 = .ok (.iadd, 1) := dk_96 (dk_at dksX4_copy_5 11 rfl rfl)
theorem dX4_copy_127 : decode cX4_copy 127 = .ok (.iaload, 1) := dk_46 (dk_at dksX4_copy_5 12 rfl rfl)
theorem dX4_copy_128 : decode cX4_copy 128 = .ok (.iastore, 1) := dk_79 (dk_at dksX4_copy_5 13 rfl rfl)
theorem dX4_copy_129 : decode cX4_copy 129 = .ok (.iinc 6 1, 3) := dk_132 6 1 (dk_at dksX4_copy_5 14 rfl rfl)
theorem dX4_copy_132 : decode cX4_copy 132 = .ok (.goto (-31), 3) := dk_167 255 225 (dk_at dksX4_copy_5 17 rfl rfl)
theorem dX4_copy_135 : decode cX4_copy 135 = .ok (.iconst 0, 1) := dk_3 (dk_at dksX4_copy_5 20 rfl rfl)
theorem dX4_copy_136 : decode cX4_copy 136 = .ok (.istore 6, 2) := dk_54 6 (dk_at dksX4_copy_5 21 rfl rfl)
theorem dX4_copy_138 : decode cX4_copy 138 = .ok (.iload 6, 2) := dk_21 6 (dk_at dksX4_copy_6 0 rfl rfl)
theorem dX4_copy_140 : decode cX4_copy 140 = .ok (.iload 5, 2) := dk_21 5 (dk_at dksX4_copy_6 2 rfl rfl)
theorem dX4_copy_142 : decode cX4_copy 142 = .ok (.if_icmp .ge 31, 3) := dk_162 0 31 (dk_at dksX4_copy_6 4 rfl rfl)
theorem dX4_copy_145 : decode cX4_copy 145 = .ok (.aload_n 0, 1) := dk_42 (dk_at dksX4_copy_6 7 rfl rfl)
theorem dX4_copy_146 : decode cX4_copy 146 = .ok (.getfield 92, 3) := dk_180 0 92 (dk_at dksX4_copy_6 8 rfl rfl)
theorem dX4_copy_149 : decode cX4_copy 149 = .ok (.bipush 16, 2) := dk_16 16 (dk_at dksX4_copy_6 11 rfl rfl)
theorem dX4_copy_151 : decode cX4_copy 151 = .ok (.iload_n 3, 1) := dk_29 (dk_at dksX4_copy_6 13 rfl rfl)
theorem dX4_copy_152 : decode cX4_copy 152 = .ok (.imul, 1) := dk_104 (dk_at dksX4_copy_6 14 rfl rfl)
theorem dX4_copy_153 : decode cX4_copy 153 = .ok (.iload 4, 2) := dk_21 4 (dk_at dksX4_copy_6 15 rfl rfl)
theorem dX4_copy_155 : decode cX4_copy 155 = .ok (.iadd, 1) := dk_96 (dk_at dksX4_copy_6 17 rfl rfl)
theorem dX4_copy_156 : decode cX4_copy 156 = .ok (.iload 6, 2) := dk_21 6 (dk_at dksX4_copy_6 18 rfl rfl)
theorem dX4_copy_158 : decode cX4_copy 158 = .ok (.iadd, 1) := dk_96 (dk_at dksX4_copy_6 20 rfl rfl)
theorem dX4_copy_159 : decode cX4_copy 159 = .ok (.aload_n 0, 1) := dk_42 (dk_at dksX4_copy_6 21 rfl rfl)
theorem dX4_copy_160 : decode cX4_copy 160 = .ok (.getfield 95, 3) := dk_180 0 95 (dk_at dksX4_copy_7 0 rfl rfl)
theorem dX4_copy_163 : decode cX4_copy 163 = .ok (.iload 6, 2) := dk_21 6 (dk_at dksX4_copy_7 3 rfl rfl)
theorem dX4_copy_165 : decode cX4_copy 165 = .ok (.iaload, 1) := dk_46 (dk_at dksX4_copy_7 5 rfl rfl)
theorem dX4_copy_166 : decode cX4_copy 166 = .ok (.iastore, 1) := dk_79 (dk_at dksX4_copy_7 6 rfl rfl)
theorem dX4_copy_167 : decode cX4_copy 167 = .ok (.iinc 6 1, 3) := dk_132 6 1 (dk_at dksX4_copy_7 7 rfl rfl)
theorem dX4_copy_170 : decode cX4_copy 170 = .ok (.goto (-32), 3) := dk_167 255 224 (dk_at dksX4_copy_7 10 rfl rfl)
theorem dX4_copy_173 : decode cX4_copy 173 = .ok (.iload 5, 2) := dk_21 5 (dk_at dksX4_copy_7 13 rfl rfl)
theorem dX4_copy_175 : decode cX4_copy 175 = .ok (.ireturn, 1) := dk_172 (dk_at dksX4_copy_7 15 rfl rfl)
theorem q60 : (Jvm.Cond.initialized "SevenRingsModel") ∈ lw_all := lw_g (lw_at lw_m1 10 rfl) rfl
theorem q636 : (Jvm.Cond.selects "SevenRingsModel" ({ cls := "java/lang/Object", name := "getClass", desc := "()Ljava/lang/Class;" } : Jvm.MethodName) ({ cls := "java/lang/Object", name := "getClass", desc := "()Ljava/lang/Class;" } : Jvm.MethodName)) ∈ lw_all := lw_g (lw_at lw_m3 106 rfl) rfl
theorem q1016 : (Jvm.Cond.instantiable "SevenRingsModel" (42 : Nat)) ∈ lw_all := lw_g (lw_at lw_m5 6 rfl) rfl
theorem q1018 : (Jvm.Cond.instanceMethod ({ cls := "SevenRingsModel", name := "<init>", desc := "()V" } : Jvm.MethodName)) ∈ lw_all := lw_g (lw_at lw_m5 8 rfl) rfl
theorem q1019 : (Jvm.Cond.code ({ cls := "SevenRingsModel", name := "<init>", desc := "()V" } : Jvm.MethodName) prog_14_method_3_code (2 : Nat) (Option.none : Option Jvm.ClassFile.FieldType)) ∈ lw_all := lw_g (lw_at lw_m5 9 rfl) rfl
theorem q1020 : (Jvm.Cond.methodLink "SevenRingsModel" (1 : Nat) ({ cls := "java/lang/Object", name := "<init>", desc := "()V" } : Jvm.MethodName)) ∈ lw_all := lw_g (lw_at lw_m5 10 rfl) rfl
theorem q1021 : (Jvm.Cond.fieldLink "SevenRingsModel" (7 : Nat) "SevenRingsModel" "sets" "[I") ∈ lw_all := lw_g (lw_at lw_m5 11 rfl) rfl
theorem q1022 : (Jvm.Cond.fieldLink "SevenRingsModel" (13 : Nat) "SevenRingsModel" "ringFar" "[I") ∈ lw_all := lw_g (lw_at lw_m5 12 rfl) rfl
theorem q1023 : (Jvm.Cond.fieldLink "SevenRingsModel" (16 : Nat) "SevenRingsModel" "ringTone" "[I") ∈ lw_all := lw_g (lw_at lw_m5 13 rfl) rfl
theorem q1024 : (Jvm.Cond.fieldLink "SevenRingsModel" (19 : Nat) "SevenRingsModel" "currents" "[I") ∈ lw_all := lw_g (lw_at lw_m5 14 rfl) rfl
theorem q1025 : (Jvm.Cond.fieldLink "SevenRingsModel" (22 : Nat) "SevenRingsModel" "warmths" "[I") ∈ lw_all := lw_g (lw_at lw_m5 15 rfl) rfl
theorem q1026 : (Jvm.Cond.fieldLink "SevenRingsModel" (25 : Nat) "SevenRingsModel" "depths" "[I") ∈ lw_all := lw_g (lw_at lw_m5 16 rfl) rfl
theorem q1027 : (Jvm.Cond.fieldLink "SevenRingsModel" (28 : Nat) "SevenRingsModel" "tape" "[I") ∈ lw_all := lw_g (lw_at lw_m5 17 rfl) rfl
theorem q1028 : (Jvm.Cond.fieldLink "SevenRingsModel" (138 : Nat) "SevenRingsModel" "taped" "I") ∈ lw_all := lw_g (lw_at lw_m5 18 rfl) rfl
theorem q1029 : (Jvm.Cond.fieldLink "SevenRingsModel" (142 : Nat) "SevenRingsModel" "at" "I") ∈ lw_all := lw_g (lw_at lw_m5 19 rfl) rfl
theorem q1030 : (Jvm.Cond.fieldLink "SevenRingsModel" (145 : Nat) "SevenRingsModel" "wrong" "Z") ∈ lw_all := lw_g (lw_at lw_m5 20 rfl) rfl
theorem q1031 : (Jvm.Cond.fieldLink "SevenRingsModel" (31 : Nat) "SevenRingsModel" "readFar" "[I") ∈ lw_all := lw_g (lw_at lw_m5 21 rfl) rfl
theorem q1032 : (Jvm.Cond.fieldLink "SevenRingsModel" (34 : Nat) "SevenRingsModel" "readTone" "[I") ∈ lw_all := lw_g (lw_at lw_m5 22 rfl) rfl
theorem q1033 : (Jvm.Cond.fieldLink "SevenRingsModel" (37 : Nat) "SevenRingsModel" "readSea" "[I") ∈ lw_all := lw_g (lw_at lw_m5 23 rfl) rfl
theorem q1034 : (Jvm.Cond.fieldLink "SevenRingsModel" (40 : Nat) "SevenRingsModel" "code" "[I") ∈ lw_all := lw_g (lw_at lw_m5 24 rfl) rfl
theorem q1035 : (Jvm.Cond.fieldLink "SevenRingsModel" (43 : Nat) "SevenRingsModel" "cellAt" "[I") ∈ lw_all := lw_g (lw_at lw_m5 25 rfl) rfl
theorem q1036 : (Jvm.Cond.fieldLink "SevenRingsModel" (46 : Nat) "SevenRingsModel" "courseAt" "[I") ∈ lw_all := lw_g (lw_at lw_m5 26 rfl) rfl
theorem q1037 : (Jvm.Cond.fieldLink "SevenRingsModel" (49 : Nat) "SevenRingsModel" "paceAt" "[I") ∈ lw_all := lw_g (lw_at lw_m5 27 rfl) rfl
theorem q1038 : (Jvm.Cond.fieldLink "SevenRingsModel" (52 : Nat) "SevenRingsModel" "turnsAt" "[I") ∈ lw_all := lw_g (lw_at lw_m5 28 rfl) rfl
theorem q1039 : (Jvm.Cond.fieldLink "SevenRingsModel" (55 : Nat) "SevenRingsModel" "slowAt" "[I") ∈ lw_all := lw_g (lw_at lw_m5 29 rfl) rfl
theorem q1040 : (Jvm.Cond.fieldLink "SevenRingsModel" (58 : Nat) "SevenRingsModel" "fuelAt" "[I") ∈ lw_all := lw_g (lw_at lw_m5 30 rfl) rfl
theorem q1041 : (Jvm.Cond.fieldLink "SevenRingsModel" (61 : Nat) "SevenRingsModel" "ringAt" "[I") ∈ lw_all := lw_g (lw_at lw_m5 31 rfl) rfl
theorem q1042 : (Jvm.Cond.fieldLink "SevenRingsModel" (164 : Nat) "SevenRingsModel" "level" "I") ∈ lw_all := lw_g (lw_at lw_m5 32 rfl) rfl
theorem q1043 : (Jvm.Cond.fieldLink "SevenRingsModel" (167 : Nat) "SevenRingsModel" "noRings" "I") ∈ lw_all := lw_g (lw_at lw_m5 33 rfl) rfl
theorem q1044 : (Jvm.Cond.fieldLink "SevenRingsModel" (170 : Nat) "SevenRingsModel" "noTones" "Z") ∈ lw_all := lw_g (lw_at lw_m5 34 rfl) rfl
theorem q1045 : (Jvm.Cond.fieldLink "SevenRingsModel" (177 : Nat) "SevenRingsModel" "noFuel" "Z") ∈ lw_all := lw_g (lw_at lw_m5 35 rfl) rfl
theorem q1046 : (Jvm.Cond.fieldLink "SevenRingsModel" (206 : Nat) "SevenRingsModel" "pieces" "I") ∈ lw_all := lw_g (lw_at lw_m5 36 rfl) rfl
theorem q1047 : (Jvm.Cond.fieldLink "SevenRingsModel" (64 : Nat) "SevenRingsModel" "pieceParts" "[I") ∈ lw_all := lw_g (lw_at lw_m5 37 rfl) rfl
theorem q1048 : (Jvm.Cond.fieldLink "SevenRingsModel" (218 : Nat) "SevenRingsModel" "drags" "I") ∈ lw_all := lw_g (lw_at lw_m5 38 rfl) rfl
theorem q1049 : (Jvm.Cond.fieldLink "SevenRingsModel" (67 : Nat) "SevenRingsModel" "dragCell" "[I") ∈ lw_all := lw_g (lw_at lw_m5 39 rfl) rfl
theorem q1050 : (Jvm.Cond.fieldLink "SevenRingsModel" (70 : Nat) "SevenRingsModel" "dragBy" "[I") ∈ lw_all := lw_g (lw_at lw_m5 40 rfl) rfl
theorem q1051 : (Jvm.Cond.fieldLink "SevenRingsModel" (73 : Nat) "SevenRingsModel" "sums" "[J") ∈ lw_all := lw_g (lw_at lw_m5 41 rfl) rfl
theorem q1052 : (Jvm.Cond.fieldLink "SevenRingsModel" (221 : Nat) "SevenRingsModel" "all" "J") ∈ lw_all := lw_g (lw_at lw_m5 42 rfl) rfl
theorem q1053 : (Jvm.Cond.fieldLink "SevenRingsModel" (225 : Nat) "SevenRingsModel" "noPieces" "I") ∈ lw_all := lw_g (lw_at lw_m5 43 rfl) rfl
theorem q1054 : (Jvm.Cond.fieldLink "SevenRingsModel" (228 : Nat) "SevenRingsModel" "noDrags" "Z") ∈ lw_all := lw_g (lw_at lw_m5 44 rfl) rfl
theorem q1055 : (Jvm.Cond.fieldLink "SevenRingsModel" (77 : Nat) "SevenRingsModel" "shares" "[I") ∈ lw_all := lw_g (lw_at lw_m5 45 rfl) rfl
theorem q1056 : (Jvm.Cond.fieldLink "SevenRingsModel" (80 : Nat) "SevenRingsModel" "keptFar" "[I") ∈ lw_all := lw_g (lw_at lw_m5 46 rfl) rfl
theorem q1057 : (Jvm.Cond.fieldLink "SevenRingsModel" (83 : Nat) "SevenRingsModel" "image" "[I") ∈ lw_all := lw_g (lw_at lw_m5 47 rfl) rfl
theorem q1058 : (Jvm.Cond.fieldLink "SevenRingsModel" (276 : Nat) "SevenRingsModel" "kept" "Z") ∈ lw_all := lw_g (lw_at lw_m5 48 rfl) rfl
theorem q1059 : (Jvm.Cond.fieldLink "SevenRingsModel" (86 : Nat) "SevenRingsModel" "lanes" "[I") ∈ lw_all := lw_g (lw_at lw_m5 49 rfl) rfl
theorem q1060 : (Jvm.Cond.fieldLink "SevenRingsModel" (89 : Nat) "SevenRingsModel" "sizes" "[I") ∈ lw_all := lw_g (lw_at lw_m5 50 rfl) rfl
theorem q1061 : (Jvm.Cond.fieldLink "SevenRingsModel" (92 : Nat) "SevenRingsModel" "items" "[I") ∈ lw_all := lw_g (lw_at lw_m5 51 rfl) rfl
theorem q1062 : (Jvm.Cond.fieldLink "SevenRingsModel" (95 : Nat) "SevenRingsModel" "movedItems" "[I") ∈ lw_all := lw_g (lw_at lw_m5 52 rfl) rfl
theorem q1063 : (Jvm.Cond.laysFinal "SevenRingsModel" "SevenRingsModel" "sets" "[I") ∈ lw_all := lw_g (lw_at lw_m5 53 rfl) rfl
theorem q1064 : (Jvm.Cond.soleField "SevenRingsModel" "sets") ∈ lw_all := lw_g (lw_at lw_m5 54 rfl) rfl
theorem q1065 : (Jvm.Cond.laysFinal "SevenRingsModel" "SevenRingsModel" "ringFar" "[I") ∈ lw_all := lw_g (lw_at lw_m5 55 rfl) rfl
theorem q1066 : (Jvm.Cond.soleField "SevenRingsModel" "ringFar") ∈ lw_all := lw_g (lw_at lw_m5 56 rfl) rfl
theorem q1067 : (Jvm.Cond.laysFinal "SevenRingsModel" "SevenRingsModel" "ringTone" "[I") ∈ lw_all := lw_g (lw_at lw_m5 57 rfl) rfl
theorem q1068 : (Jvm.Cond.soleField "SevenRingsModel" "ringTone") ∈ lw_all := lw_g (lw_at lw_m5 58 rfl) rfl
theorem q1069 : (Jvm.Cond.laysFinal "SevenRingsModel" "SevenRingsModel" "currents" "[I") ∈ lw_all := lw_g (lw_at lw_m5 59 rfl) rfl
theorem q1070 : (Jvm.Cond.soleField "SevenRingsModel" "currents") ∈ lw_all := lw_g (lw_at lw_m5 60 rfl) rfl
theorem q1071 : (Jvm.Cond.laysFinal "SevenRingsModel" "SevenRingsModel" "warmths" "[I") ∈ lw_all := lw_g (lw_at lw_m5 61 rfl) rfl
theorem q1072 : (Jvm.Cond.soleField "SevenRingsModel" "warmths") ∈ lw_all := lw_g (lw_at lw_m5 62 rfl) rfl
theorem q1073 : (Jvm.Cond.laysFinal "SevenRingsModel" "SevenRingsModel" "depths" "[I") ∈ lw_all := lw_g (lw_at lw_m5 63 rfl) rfl
theorem q1074 : (Jvm.Cond.soleField "SevenRingsModel" "depths") ∈ lw_all := lw_g (lw_at lw_m5 64 rfl) rfl
theorem q1075 : (Jvm.Cond.laysFinal "SevenRingsModel" "SevenRingsModel" "tape" "[I") ∈ lw_all := lw_g (lw_at lw_m5 65 rfl) rfl
theorem q1076 : (Jvm.Cond.soleField "SevenRingsModel" "tape") ∈ lw_all := lw_g (lw_at lw_m5 66 rfl) rfl
theorem q1077 : (Jvm.Cond.lays "SevenRingsModel" "SevenRingsModel" "taped" "I") ∈ lw_all := lw_g (lw_at lw_m5 67 rfl) rfl
theorem q1078 : (Jvm.Cond.soleField "SevenRingsModel" "taped") ∈ lw_all := lw_g (lw_at lw_m5 68 rfl) rfl
theorem q1079 : (Jvm.Cond.lays "SevenRingsModel" "SevenRingsModel" "at" "I") ∈ lw_all := lw_g (lw_at lw_m5 69 rfl) rfl
theorem q1080 : (Jvm.Cond.soleField "SevenRingsModel" "at") ∈ lw_all := lw_g (lw_at lw_m5 70 rfl) rfl
theorem q1081 : (Jvm.Cond.lays "SevenRingsModel" "SevenRingsModel" "wrong" "Z") ∈ lw_all := lw_g (lw_at lw_m5 71 rfl) rfl
theorem q1082 : (Jvm.Cond.soleField "SevenRingsModel" "wrong") ∈ lw_all := lw_g (lw_at lw_m5 72 rfl) rfl
theorem q1083 : (Jvm.Cond.laysFinal "SevenRingsModel" "SevenRingsModel" "readFar" "[I") ∈ lw_all := lw_g (lw_at lw_m5 73 rfl) rfl
theorem q1084 : (Jvm.Cond.soleField "SevenRingsModel" "readFar") ∈ lw_all := lw_g (lw_at lw_m5 74 rfl) rfl
theorem q1085 : (Jvm.Cond.laysFinal "SevenRingsModel" "SevenRingsModel" "readTone" "[I") ∈ lw_all := lw_g (lw_at lw_m5 75 rfl) rfl
theorem q1086 : (Jvm.Cond.soleField "SevenRingsModel" "readTone") ∈ lw_all := lw_g (lw_at lw_m5 76 rfl) rfl
theorem q1087 : (Jvm.Cond.laysFinal "SevenRingsModel" "SevenRingsModel" "readSea" "[I") ∈ lw_all := lw_g (lw_at lw_m5 77 rfl) rfl
theorem q1088 : (Jvm.Cond.soleField "SevenRingsModel" "readSea") ∈ lw_all := lw_g (lw_at lw_m5 78 rfl) rfl
theorem q1089 : (Jvm.Cond.laysFinal "SevenRingsModel" "SevenRingsModel" "code" "[I") ∈ lw_all := lw_g (lw_at lw_m5 79 rfl) rfl
theorem q1090 : (Jvm.Cond.soleField "SevenRingsModel" "code") ∈ lw_all := lw_g (lw_at lw_m5 80 rfl) rfl
theorem q1091 : (Jvm.Cond.laysFinal "SevenRingsModel" "SevenRingsModel" "cellAt" "[I") ∈ lw_all := lw_g (lw_at lw_m5 81 rfl) rfl
theorem q1092 : (Jvm.Cond.soleField "SevenRingsModel" "cellAt") ∈ lw_all := lw_g (lw_at lw_m5 82 rfl) rfl
theorem q1093 : (Jvm.Cond.laysFinal "SevenRingsModel" "SevenRingsModel" "courseAt" "[I") ∈ lw_all := lw_g (lw_at lw_m5 83 rfl) rfl
theorem q1094 : (Jvm.Cond.soleField "SevenRingsModel" "courseAt") ∈ lw_all := lw_g (lw_at lw_m5 84 rfl) rfl
theorem q1095 : (Jvm.Cond.laysFinal "SevenRingsModel" "SevenRingsModel" "paceAt" "[I") ∈ lw_all := lw_g (lw_at lw_m5 85 rfl) rfl
theorem q1096 : (Jvm.Cond.soleField "SevenRingsModel" "paceAt") ∈ lw_all := lw_g (lw_at lw_m5 86 rfl) rfl
theorem q1097 : (Jvm.Cond.laysFinal "SevenRingsModel" "SevenRingsModel" "turnsAt" "[I") ∈ lw_all := lw_g (lw_at lw_m5 87 rfl) rfl
theorem q1098 : (Jvm.Cond.soleField "SevenRingsModel" "turnsAt") ∈ lw_all := lw_g (lw_at lw_m5 88 rfl) rfl
theorem q1099 : (Jvm.Cond.laysFinal "SevenRingsModel" "SevenRingsModel" "slowAt" "[I") ∈ lw_all := lw_g (lw_at lw_m5 89 rfl) rfl
theorem q1100 : (Jvm.Cond.soleField "SevenRingsModel" "slowAt") ∈ lw_all := lw_g (lw_at lw_m5 90 rfl) rfl
theorem q1101 : (Jvm.Cond.laysFinal "SevenRingsModel" "SevenRingsModel" "fuelAt" "[I") ∈ lw_all := lw_g (lw_at lw_m5 91 rfl) rfl
theorem q1102 : (Jvm.Cond.soleField "SevenRingsModel" "fuelAt") ∈ lw_all := lw_g (lw_at lw_m5 92 rfl) rfl
theorem q1103 : (Jvm.Cond.laysFinal "SevenRingsModel" "SevenRingsModel" "ringAt" "[I") ∈ lw_all := lw_g (lw_at lw_m5 93 rfl) rfl
theorem q1104 : (Jvm.Cond.soleField "SevenRingsModel" "ringAt") ∈ lw_all := lw_g (lw_at lw_m5 94 rfl) rfl
theorem q1105 : (Jvm.Cond.lays "SevenRingsModel" "SevenRingsModel" "level" "I") ∈ lw_all := lw_g (lw_at lw_m5 95 rfl) rfl
theorem q1106 : (Jvm.Cond.soleField "SevenRingsModel" "level") ∈ lw_all := lw_g (lw_at lw_m5 96 rfl) rfl
theorem q1107 : (Jvm.Cond.lays "SevenRingsModel" "SevenRingsModel" "noRings" "I") ∈ lw_all := lw_g (lw_at lw_m5 97 rfl) rfl
theorem q1108 : (Jvm.Cond.soleField "SevenRingsModel" "noRings") ∈ lw_all := lw_g (lw_at lw_m5 98 rfl) rfl
theorem q1109 : (Jvm.Cond.lays "SevenRingsModel" "SevenRingsModel" "noTones" "Z") ∈ lw_all := lw_g (lw_at lw_m5 99 rfl) rfl
theorem q1110 : (Jvm.Cond.soleField "SevenRingsModel" "noTones") ∈ lw_all := lw_g (lw_at lw_m5 100 rfl) rfl
theorem q1111 : (Jvm.Cond.lays "SevenRingsModel" "SevenRingsModel" "noFuel" "Z") ∈ lw_all := lw_g (lw_at lw_m5 101 rfl) rfl
theorem q1112 : (Jvm.Cond.soleField "SevenRingsModel" "noFuel") ∈ lw_all := lw_g (lw_at lw_m5 102 rfl) rfl
theorem q1113 : (Jvm.Cond.lays "SevenRingsModel" "SevenRingsModel" "pieces" "I") ∈ lw_all := lw_g (lw_at lw_m5 103 rfl) rfl
theorem q1114 : (Jvm.Cond.soleField "SevenRingsModel" "pieces") ∈ lw_all := lw_g (lw_at lw_m5 104 rfl) rfl
theorem q1115 : (Jvm.Cond.laysFinal "SevenRingsModel" "SevenRingsModel" "pieceParts" "[I") ∈ lw_all := lw_g (lw_at lw_m5 105 rfl) rfl
theorem q1116 : (Jvm.Cond.soleField "SevenRingsModel" "pieceParts") ∈ lw_all := lw_g (lw_at lw_m5 106 rfl) rfl
theorem q1117 : (Jvm.Cond.lays "SevenRingsModel" "SevenRingsModel" "drags" "I") ∈ lw_all := lw_g (lw_at lw_m5 107 rfl) rfl
theorem q1118 : (Jvm.Cond.soleField "SevenRingsModel" "drags") ∈ lw_all := lw_g (lw_at lw_m5 108 rfl) rfl
theorem q1119 : (Jvm.Cond.laysFinal "SevenRingsModel" "SevenRingsModel" "dragCell" "[I") ∈ lw_all := lw_g (lw_at lw_m5 109 rfl) rfl
theorem q1120 : (Jvm.Cond.soleField "SevenRingsModel" "dragCell") ∈ lw_all := lw_g (lw_at lw_m5 110 rfl) rfl
theorem q1121 : (Jvm.Cond.laysFinal "SevenRingsModel" "SevenRingsModel" "dragBy" "[I") ∈ lw_all := lw_g (lw_at lw_m5 111 rfl) rfl
theorem q1122 : (Jvm.Cond.soleField "SevenRingsModel" "dragBy") ∈ lw_all := lw_g (lw_at lw_m5 112 rfl) rfl
theorem q1123 : (Jvm.Cond.laysFinal "SevenRingsModel" "SevenRingsModel" "sums" "[J") ∈ lw_all := lw_g (lw_at lw_m5 113 rfl) rfl
theorem q1124 : (Jvm.Cond.soleField "SevenRingsModel" "sums") ∈ lw_all := lw_g (lw_at lw_m5 114 rfl) rfl
theorem q1125 : (Jvm.Cond.lays "SevenRingsModel" "SevenRingsModel" "all" "J") ∈ lw_all := lw_g (lw_at lw_m5 115 rfl) rfl
theorem q1126 : (Jvm.Cond.soleField "SevenRingsModel" "all") ∈ lw_all := lw_g (lw_at lw_m5 116 rfl) rfl
theorem q1127 : (Jvm.Cond.lays "SevenRingsModel" "SevenRingsModel" "noPieces" "I") ∈ lw_all := lw_g (lw_at lw_m5 117 rfl) rfl
theorem q1128 : (Jvm.Cond.soleField "SevenRingsModel" "noPieces") ∈ lw_all := lw_g (lw_at lw_m5 118 rfl) rfl
theorem q1129 : (Jvm.Cond.lays "SevenRingsModel" "SevenRingsModel" "noDrags" "Z") ∈ lw_all := lw_g (lw_at lw_m5 119 rfl) rfl
theorem q1130 : (Jvm.Cond.soleField "SevenRingsModel" "noDrags") ∈ lw_all := lw_g (lw_at lw_m5 120 rfl) rfl
theorem q1131 : (Jvm.Cond.laysFinal "SevenRingsModel" "SevenRingsModel" "shares" "[I") ∈ lw_all := lw_g (lw_at lw_m5 121 rfl) rfl
theorem q1132 : (Jvm.Cond.soleField "SevenRingsModel" "shares") ∈ lw_all := lw_g (lw_at lw_m5 122 rfl) rfl
theorem q1133 : (Jvm.Cond.laysFinal "SevenRingsModel" "SevenRingsModel" "keptFar" "[I") ∈ lw_all := lw_g (lw_at lw_m5 123 rfl) rfl
theorem q1134 : (Jvm.Cond.soleField "SevenRingsModel" "keptFar") ∈ lw_all := lw_g (lw_at lw_m5 124 rfl) rfl
theorem q1135 : (Jvm.Cond.laysFinal "SevenRingsModel" "SevenRingsModel" "image" "[I") ∈ lw_all := lw_g (lw_at lw_m5 125 rfl) rfl
theorem q1136 : (Jvm.Cond.soleField "SevenRingsModel" "image") ∈ lw_all := lw_g (lw_at lw_m5 126 rfl) rfl
theorem q1137 : (Jvm.Cond.lays "SevenRingsModel" "SevenRingsModel" "kept" "Z") ∈ lw_all := lw_g (lw_at lw_m5 127 rfl) rfl
theorem q1138 : (Jvm.Cond.soleField "SevenRingsModel" "kept") ∈ lw_all := lw_g (lw_at lw_m5 128 rfl) rfl
theorem q1139 : (Jvm.Cond.laysFinal "SevenRingsModel" "SevenRingsModel" "lanes" "[I") ∈ lw_all := lw_g (lw_at lw_m5 129 rfl) rfl
theorem q1140 : (Jvm.Cond.soleField "SevenRingsModel" "lanes") ∈ lw_all := lw_g (lw_at lw_m5 130 rfl) rfl
theorem q1141 : (Jvm.Cond.laysFinal "SevenRingsModel" "SevenRingsModel" "sizes" "[I") ∈ lw_all := lw_g (lw_at lw_m5 131 rfl) rfl
theorem q1142 : (Jvm.Cond.soleField "SevenRingsModel" "sizes") ∈ lw_all := lw_g (lw_at lw_m5 132 rfl) rfl
theorem q1143 : (Jvm.Cond.laysFinal "SevenRingsModel" "SevenRingsModel" "items" "[I") ∈ lw_all := lw_g (lw_at lw_m5 133 rfl) rfl
theorem q1144 : (Jvm.Cond.soleField "SevenRingsModel" "items") ∈ lw_all := lw_g (lw_at lw_m5 134 rfl) rfl
theorem q1145 : (Jvm.Cond.laysFinal "SevenRingsModel" "SevenRingsModel" "movedItems" "[I") ∈ lw_all := lw_g (lw_at lw_m5 135 rfl) rfl
theorem q1146 : (Jvm.Cond.soleField "SevenRingsModel" "movedItems") ∈ lw_all := lw_g (lw_at lw_m5 136 rfl) rfl
theorem q1147 : (Jvm.Cond.superclass "SevenRingsModel" "java/lang/Object") ∈ lw_all := lw_g (lw_at lw_m5 137 rfl) rfl
theorem q1149 : (Jvm.Cond.instanceMethod ({ cls := "SevenRingsModel", name := "set", desc := "(II)I" } : Jvm.MethodName)) ∈ lw_all := lw_g (lw_at lw_m5 139 rfl) rfl
theorem q1150 : (Jvm.Cond.selects "SevenRingsModel" ({ cls := "SevenRingsModel", name := "set", desc := "(II)I" } : Jvm.MethodName) ({ cls := "SevenRingsModel", name := "set", desc := "(II)I" } : Jvm.MethodName)) ∈ lw_all := lw_g (lw_at lw_m5 140 rfl) rfl
theorem q1151 : (Jvm.Cond.code ({ cls := "SevenRingsModel", name := "set", desc := "(II)I" } : Jvm.MethodName) prog_14_method_9_code (5 : Nat) (Option.some Jvm.ClassFile.FieldType.int)) ∈ lw_all := lw_g (lw_at lw_m5 141 rfl) rfl
theorem q1152 : (Jvm.Cond.constantLong "SevenRingsModel" (113 : Nat) (7 : Int64)) ∈ lw_all := lw_g (lw_at lw_m5 142 rfl) rfl
theorem q1153 : (Jvm.Cond.methodLink "SevenRingsModel" (100 : Nat) ({ cls := "SevenRingsModel", name := "in", desc := "(JJJ)Z" } : Jvm.MethodName)) ∈ lw_all := lw_g (lw_at lw_m5 143 rfl) rfl
theorem q1154 : (Jvm.Cond.static ({ cls := "SevenRingsModel", name := "in", desc := "(JJJ)Z" } : Jvm.MethodName)) ∈ lw_all := lw_g (lw_at lw_m5 144 rfl) rfl
theorem q1155 : (Jvm.Cond.code ({ cls := "SevenRingsModel", name := "in", desc := "(JJJ)Z" } : Jvm.MethodName) prog_14_method_2_code (6 : Nat) (Option.some Jvm.ClassFile.FieldType.boolean)) ∈ lw_all := lw_g (lw_at lw_m5 145 rfl) rfl
theorem q1157 : (Jvm.Cond.instanceMethod ({ cls := "SevenRingsModel", name := "far", desc := "(I)I" } : Jvm.MethodName)) ∈ lw_all := lw_g (lw_at lw_m5 147 rfl) rfl
theorem q1158 : (Jvm.Cond.selects "SevenRingsModel" ({ cls := "SevenRingsModel", name := "far", desc := "(I)I" } : Jvm.MethodName) ({ cls := "SevenRingsModel", name := "far", desc := "(I)I" } : Jvm.MethodName)) ∈ lw_all := lw_g (lw_at lw_m5 148 rfl) rfl
theorem q1159 : (Jvm.Cond.code ({ cls := "SevenRingsModel", name := "far", desc := "(I)I" } : Jvm.MethodName) prog_14_method_10_code (2 : Nat) (Option.some Jvm.ClassFile.FieldType.int)) ∈ lw_all := lw_g (lw_at lw_m5 149 rfl) rfl
theorem q1160 : (Jvm.Cond.methodLink "SevenRingsModel" (115 : Nat) ({ cls := "SevenRingsModel", name := "isCell", desc := "(I)Z" } : Jvm.MethodName)) ∈ lw_all := lw_g (lw_at lw_m5 150 rfl) rfl
theorem q1161 : (Jvm.Cond.static ({ cls := "SevenRingsModel", name := "isCell", desc := "(I)Z" } : Jvm.MethodName)) ∈ lw_all := lw_g (lw_at lw_m5 151 rfl) rfl
theorem q1162 : (Jvm.Cond.code ({ cls := "SevenRingsModel", name := "isCell", desc := "(I)Z" } : Jvm.MethodName) prog_14_method_4_code (1 : Nat) (Option.some Jvm.ClassFile.FieldType.boolean)) ∈ lw_all := lw_g (lw_at lw_m5 152 rfl) rfl
theorem q1163 : (Jvm.Cond.constantLong "SevenRingsModel" (98 : Nat) (99 : Int64)) ∈ lw_all := lw_g (lw_at lw_m5 153 rfl) rfl
theorem q1164 : (Jvm.Cond.methodLink "SevenRingsModel" (119 : Nat) ({ cls := "SevenRingsModel", name := "away", desc := "(I)I" } : Jvm.MethodName)) ∈ lw_all := lw_g (lw_at lw_m5 154 rfl) rfl
theorem q1165 : (Jvm.Cond.privateMethod ({ cls := "SevenRingsModel", name := "away", desc := "(I)I" } : Jvm.MethodName)) ∈ lw_tbl := lw_at lw_m5 155 rfl
theorem q1166 : (Jvm.Cond.instanceMethod ({ cls := "SevenRingsModel", name := "away", desc := "(I)I" } : Jvm.MethodName)) ∈ lw_all := lw_g (lw_at lw_m5 156 rfl) rfl
theorem q1167 : (Jvm.Cond.code ({ cls := "SevenRingsModel", name := "away", desc := "(I)I" } : Jvm.MethodName) prog_14_method_8_code (6 : Nat) (Option.some Jvm.ClassFile.FieldType.int)) ∈ lw_all := lw_g (lw_at lw_m5 157 rfl) rfl
theorem q1169 : (Jvm.Cond.instanceMethod ({ cls := "SevenRingsModel", name := "ring", desc := "(III)I" } : Jvm.MethodName)) ∈ lw_all := lw_g (lw_at lw_m5 159 rfl) rfl
theorem q1170 : (Jvm.Cond.selects "SevenRingsModel" ({ cls := "SevenRingsModel", name := "ring", desc := "(III)I" } : Jvm.MethodName) ({ cls := "SevenRingsModel", name := "ring", desc := "(III)I" } : Jvm.MethodName)) ∈ lw_all := lw_g (lw_at lw_m5 160 rfl) rfl
theorem q1171 : (Jvm.Cond.code ({ cls := "SevenRingsModel", name := "ring", desc := "(III)I" } : Jvm.MethodName) prog_14_method_11_code (5 : Nat) (Option.some Jvm.ClassFile.FieldType.int)) ∈ lw_all := lw_g (lw_at lw_m5 161 rfl) rfl
theorem q1172 : (Jvm.Cond.constantLong "SevenRingsModel" (122 : Nat) (6 : Int64)) ∈ lw_all := lw_g (lw_at lw_m5 162 rfl) rfl
theorem q1173 : (Jvm.Cond.constantLong "SevenRingsModel" (124 : Nat) (-1 : Int64)) ∈ lw_all := lw_g (lw_at lw_m5 163 rfl) rfl
theorem q1174 : (Jvm.Cond.constantLong "SevenRingsModel" (126 : Nat) (40 : Int64)) ∈ lw_all := lw_g (lw_at lw_m5 164 rfl) rfl
theorem q1175 : (Jvm.Cond.constantLong "SevenRingsModel" (128 : Nat) (2 : Int64)) ∈ lw_all := lw_g (lw_at lw_m5 165 rfl) rfl
theorem q1177 : (Jvm.Cond.instanceMethod ({ cls := "SevenRingsModel", name := "type", desc := "(JI)I" } : Jvm.MethodName)) ∈ lw_all := lw_g (lw_at lw_m5 167 rfl) rfl
theorem q1178 : (Jvm.Cond.selects "SevenRingsModel" ({ cls := "SevenRingsModel", name := "type", desc := "(JI)I" } : Jvm.MethodName) ({ cls := "SevenRingsModel", name := "type", desc := "(JI)I" } : Jvm.MethodName)) ∈ lw_all := lw_g (lw_at lw_m5 168 rfl) rfl
theorem q1179 : (Jvm.Cond.code ({ cls := "SevenRingsModel", name := "type", desc := "(JI)I" } : Jvm.MethodName) prog_14_method_12_code (5 : Nat) (Option.some Jvm.ClassFile.FieldType.int)) ∈ lw_all := lw_g (lw_at lw_m5 169 rfl) rfl
theorem q1180 : (Jvm.Cond.constantLong "SevenRingsModel" (130 : Nat) (8 : Int64)) ∈ lw_all := lw_g (lw_at lw_m5 170 rfl) rfl
theorem q1181 : (Jvm.Cond.constantLong "SevenRingsModel" (132 : Nat) (255 : Int64)) ∈ lw_all := lw_g (lw_at lw_m5 171 rfl) rfl
theorem q1182 : (Jvm.Cond.constantLong "SevenRingsModel" (134 : Nat) (32 : Int64)) ∈ lw_all := lw_g (lw_at lw_m5 172 rfl) rfl
theorem q1183 : (Jvm.Cond.constantLong "SevenRingsModel" (136 : Nat) (126 : Int64)) ∈ lw_all := lw_g (lw_at lw_m5 173 rfl) rfl
theorem q1185 : (Jvm.Cond.instanceMethod ({ cls := "SevenRingsModel", name := "rings", desc := "()I" } : Jvm.MethodName)) ∈ lw_all := lw_g (lw_at lw_m5 175 rfl) rfl
theorem q1186 : (Jvm.Cond.selects "SevenRingsModel" ({ cls := "SevenRingsModel", name := "rings", desc := "()I" } : Jvm.MethodName) ({ cls := "SevenRingsModel", name := "rings", desc := "()I" } : Jvm.MethodName)) ∈ lw_all := lw_g (lw_at lw_m5 176 rfl) rfl
theorem q1187 : (Jvm.Cond.code ({ cls := "SevenRingsModel", name := "rings", desc := "()I" } : Jvm.MethodName) prog_14_method_16_code (6 : Nat) (Option.some Jvm.ClassFile.FieldType.int)) ∈ lw_all := lw_g (lw_at lw_m5 177 rfl) rfl
theorem q1188 : (Jvm.Cond.methodLink "SevenRingsModel" (157 : Nat) ({ cls := "SevenRingsModel", name := "digit", desc := "(II)I" } : Jvm.MethodName)) ∈ lw_all := lw_g (lw_at lw_m5 178 rfl) rfl
theorem q1189 : (Jvm.Cond.privateMethod ({ cls := "SevenRingsModel", name := "digit", desc := "(II)I" } : Jvm.MethodName)) ∈ lw_tbl := lw_at lw_m5 179 rfl
theorem q1190 : (Jvm.Cond.instanceMethod ({ cls := "SevenRingsModel", name := "digit", desc := "(II)I" } : Jvm.MethodName)) ∈ lw_all := lw_g (lw_at lw_m5 180 rfl) rfl
theorem q1191 : (Jvm.Cond.code ({ cls := "SevenRingsModel", name := "digit", desc := "(II)I" } : Jvm.MethodName) prog_14_method_14_code (4 : Nat) (Option.some Jvm.ClassFile.FieldType.int)) ∈ lw_all := lw_g (lw_at lw_m5 181 rfl) rfl
theorem q1192 : (Jvm.Cond.methodLink "SevenRingsModel" (149 : Nat) ({ cls := "SevenRingsModel", name := "here", desc := "()I" } : Jvm.MethodName)) ∈ lw_all := lw_g (lw_at lw_m5 182 rfl) rfl
theorem q1193 : (Jvm.Cond.privateMethod ({ cls := "SevenRingsModel", name := "here", desc := "()I" } : Jvm.MethodName)) ∈ lw_tbl := lw_at lw_m5 183 rfl
theorem q1194 : (Jvm.Cond.instanceMethod ({ cls := "SevenRingsModel", name := "here", desc := "()I" } : Jvm.MethodName)) ∈ lw_all := lw_g (lw_at lw_m5 184 rfl) rfl
theorem q1195 : (Jvm.Cond.code ({ cls := "SevenRingsModel", name := "here", desc := "()I" } : Jvm.MethodName) prog_14_method_13_code (1 : Nat) (Option.some Jvm.ClassFile.FieldType.int)) ∈ lw_all := lw_g (lw_at lw_m5 185 rfl) rfl
theorem q1196 : (Jvm.Cond.methodLink "SevenRingsModel" (161 : Nat) ({ cls := "SevenRingsModel", name := "number", desc := "()I" } : Jvm.MethodName)) ∈ lw_all := lw_g (lw_at lw_m5 186 rfl) rfl
theorem q1197 : (Jvm.Cond.privateMethod ({ cls := "SevenRingsModel", name := "number", desc := "()I" } : Jvm.MethodName)) ∈ lw_tbl := lw_at lw_m5 187 rfl
theorem q1198 : (Jvm.Cond.instanceMethod ({ cls := "SevenRingsModel", name := "number", desc := "()I" } : Jvm.MethodName)) ∈ lw_all := lw_g (lw_at lw_m5 188 rfl) rfl
theorem q1199 : (Jvm.Cond.code ({ cls := "SevenRingsModel", name := "number", desc := "()I" } : Jvm.MethodName) prog_14_method_15_code (3 : Nat) (Option.some Jvm.ClassFile.FieldType.int)) ∈ lw_all := lw_g (lw_at lw_m5 189 rfl) rfl
theorem q1200 : (Jvm.Cond.constantLong "SevenRingsModel" (153 : Nat) (48 : Int64)) ∈ lw_all := lw_g (lw_at lw_m5 190 rfl) rfl
theorem q1201 : (Jvm.Cond.constantLong "SevenRingsModel" (155 : Nat) (57 : Int64)) ∈ lw_all := lw_g (lw_at lw_m5 191 rfl) rfl
theorem q1203 : (Jvm.Cond.instanceMethod ({ cls := "SevenRingsModel", name := "sea", desc := "(II)I" } : Jvm.MethodName)) ∈ lw_all := lw_g (lw_at lw_m5 193 rfl) rfl
theorem q1204 : (Jvm.Cond.selects "SevenRingsModel" ({ cls := "SevenRingsModel", name := "sea", desc := "(II)I" } : Jvm.MethodName) ({ cls := "SevenRingsModel", name := "sea", desc := "(II)I" } : Jvm.MethodName)) ∈ lw_all := lw_g (lw_at lw_m5 194 rfl) rfl
theorem q1205 : (Jvm.Cond.code ({ cls := "SevenRingsModel", name := "sea", desc := "(II)I" } : Jvm.MethodName) prog_14_method_17_code (5 : Nat) (Option.some Jvm.ClassFile.FieldType.int)) ∈ lw_all := lw_g (lw_at lw_m5 195 rfl) rfl
theorem q1206 : (Jvm.Cond.constantLong "SevenRingsModel" (111 : Nat) (9 : Int64)) ∈ lw_all := lw_g (lw_at lw_m5 196 rfl) rfl
theorem q1208 : (Jvm.Cond.instanceMethod ({ cls := "SevenRingsModel", name := "ways", desc := "()I" } : Jvm.MethodName)) ∈ lw_all := lw_g (lw_at lw_m5 198 rfl) rfl
theorem q1209 : (Jvm.Cond.selects "SevenRingsModel" ({ cls := "SevenRingsModel", name := "ways", desc := "()I" } : Jvm.MethodName) ({ cls := "SevenRingsModel", name := "ways", desc := "()I" } : Jvm.MethodName)) ∈ lw_all := lw_g (lw_at lw_m5 199 rfl) rfl
theorem q1210 : (Jvm.Cond.code ({ cls := "SevenRingsModel", name := "ways", desc := "()I" } : Jvm.MethodName) prog_14_method_24_code (2 : Nat) (Option.some Jvm.ClassFile.FieldType.int)) ∈ lw_all := lw_g (lw_at lw_m5 200 rfl) rfl
theorem q1211 : (Jvm.Cond.methodLink "SevenRingsModel" (187 : Nat) ({ cls := "SevenRingsModel", name := "asTold", desc := "()V" } : Jvm.MethodName)) ∈ lw_all := lw_g (lw_at lw_m5 201 rfl) rfl
theorem q1212 : (Jvm.Cond.privateMethod ({ cls := "SevenRingsModel", name := "asTold", desc := "()V" } : Jvm.MethodName)) ∈ lw_tbl := lw_at lw_m5 202 rfl
theorem q1213 : (Jvm.Cond.instanceMethod ({ cls := "SevenRingsModel", name := "asTold", desc := "()V" } : Jvm.MethodName)) ∈ lw_all := lw_g (lw_at lw_m5 203 rfl) rfl
theorem q1214 : (Jvm.Cond.code ({ cls := "SevenRingsModel", name := "asTold", desc := "()V" } : Jvm.MethodName) prog_14_method_23_code (1 : Nat) (Option.none : Option Jvm.ClassFile.FieldType)) ∈ lw_all := lw_g (lw_at lw_m5 204 rfl) rfl
theorem q1215 : (Jvm.Cond.methodLink "SevenRingsModel" (190 : Nat) ({ cls := "SevenRingsModel", name := "begins", desc := "()V" } : Jvm.MethodName)) ∈ lw_all := lw_g (lw_at lw_m5 205 rfl) rfl
theorem q1216 : (Jvm.Cond.privateMethod ({ cls := "SevenRingsModel", name := "begins", desc := "()V" } : Jvm.MethodName)) ∈ lw_tbl := lw_at lw_m5 206 rfl
theorem q1217 : (Jvm.Cond.instanceMethod ({ cls := "SevenRingsModel", name := "begins", desc := "()V" } : Jvm.MethodName)) ∈ lw_all := lw_g (lw_at lw_m5 207 rfl) rfl
theorem q1218 : (Jvm.Cond.code ({ cls := "SevenRingsModel", name := "begins", desc := "()V" } : Jvm.MethodName) prog_14_method_18_code (1 : Nat) (Option.none : Option Jvm.ClassFile.FieldType)) ∈ lw_all := lw_g (lw_at lw_m5 208 rfl) rfl
theorem q1219 : (Jvm.Cond.methodLink "SevenRingsModel" (193 : Nat) ({ cls := "SevenRingsModel", name := "goesOn", desc := "()Z" } : Jvm.MethodName)) ∈ lw_all := lw_g (lw_at lw_m5 209 rfl) rfl
theorem q1220 : (Jvm.Cond.privateMethod ({ cls := "SevenRingsModel", name := "goesOn", desc := "()Z" } : Jvm.MethodName)) ∈ lw_tbl := lw_at lw_m5 210 rfl
theorem q1221 : (Jvm.Cond.instanceMethod ({ cls := "SevenRingsModel", name := "goesOn", desc := "()Z" } : Jvm.MethodName)) ∈ lw_all := lw_g (lw_at lw_m5 211 rfl) rfl
theorem q1222 : (Jvm.Cond.code ({ cls := "SevenRingsModel", name := "goesOn", desc := "()Z" } : Jvm.MethodName) prog_14_method_21_code (1 : Nat) (Option.some Jvm.ClassFile.FieldType.boolean)) ∈ lw_all := lw_g (lw_at lw_m5 212 rfl) rfl
theorem q1223 : (Jvm.Cond.methodLink "SevenRingsModel" (183 : Nat) ({ cls := "SevenRingsModel", name := "goes", desc := "()Z" } : Jvm.MethodName)) ∈ lw_all := lw_g (lw_at lw_m5 213 rfl) rfl
theorem q1224 : (Jvm.Cond.privateMethod ({ cls := "SevenRingsModel", name := "goes", desc := "()Z" } : Jvm.MethodName)) ∈ lw_tbl := lw_at lw_m5 214 rfl
theorem q1225 : (Jvm.Cond.instanceMethod ({ cls := "SevenRingsModel", name := "goes", desc := "()Z" } : Jvm.MethodName)) ∈ lw_all := lw_g (lw_at lw_m5 215 rfl) rfl
theorem q1226 : (Jvm.Cond.code ({ cls := "SevenRingsModel", name := "goes", desc := "()Z" } : Jvm.MethodName) prog_14_method_20_code (9 : Nat) (Option.some Jvm.ClassFile.FieldType.boolean)) ∈ lw_all := lw_g (lw_at lw_m5 216 rfl) rfl
theorem q1227 : (Jvm.Cond.methodLink "SevenRingsModel" (173 : Nat) ({ cls := "SevenRingsModel", name := "gone", desc := "(III)I" } : Jvm.MethodName)) ∈ lw_all := lw_g (lw_at lw_m5 217 rfl) rfl
theorem q1228 : (Jvm.Cond.static ({ cls := "SevenRingsModel", name := "gone", desc := "(III)I" } : Jvm.MethodName)) ∈ lw_all := lw_g (lw_at lw_m5 218 rfl) rfl
theorem q1229 : (Jvm.Cond.code ({ cls := "SevenRingsModel", name := "gone", desc := "(III)I" } : Jvm.MethodName) prog_14_method_7_code (5 : Nat) (Option.some Jvm.ClassFile.FieldType.int)) ∈ lw_all := lw_g (lw_at lw_m5 219 rfl) rfl
theorem q1230 : (Jvm.Cond.methodLink "SevenRingsModel" (104 : Nat) ({ cls := "SevenRingsModel", name := "rowStep", desc := "(I)I" } : Jvm.MethodName)) ∈ lw_all := lw_g (lw_at lw_m5 220 rfl) rfl
theorem q1231 : (Jvm.Cond.static ({ cls := "SevenRingsModel", name := "rowStep", desc := "(I)I" } : Jvm.MethodName)) ∈ lw_all := lw_g (lw_at lw_m5 221 rfl) rfl
theorem q1232 : (Jvm.Cond.code ({ cls := "SevenRingsModel", name := "rowStep", desc := "(I)I" } : Jvm.MethodName) prog_14_method_5_code (1 : Nat) (Option.some Jvm.ClassFile.FieldType.int)) ∈ lw_all := lw_g (lw_at lw_m5 222 rfl) rfl
theorem q1233 : (Jvm.Cond.methodLink "SevenRingsModel" (108 : Nat) ({ cls := "SevenRingsModel", name := "columnStep", desc := "(I)I" } : Jvm.MethodName)) ∈ lw_all := lw_g (lw_at lw_m5 223 rfl) rfl
theorem q1234 : (Jvm.Cond.static ({ cls := "SevenRingsModel", name := "columnStep", desc := "(I)I" } : Jvm.MethodName)) ∈ lw_all := lw_g (lw_at lw_m5 224 rfl) rfl
theorem q1235 : (Jvm.Cond.code ({ cls := "SevenRingsModel", name := "columnStep", desc := "(I)I" } : Jvm.MethodName) prog_14_method_6_code (1 : Nat) (Option.some Jvm.ClassFile.FieldType.int)) ∈ lw_all := lw_g (lw_at lw_m5 225 rfl) rfl
theorem q1236 : (Jvm.Cond.methodLink "SevenRingsModel" (180 : Nat) ({ cls := "SevenRingsModel", name := "ringed", desc := "(I)I" } : Jvm.MethodName)) ∈ lw_all := lw_g (lw_at lw_m5 226 rfl) rfl
theorem q1237 : (Jvm.Cond.privateMethod ({ cls := "SevenRingsModel", name := "ringed", desc := "(I)I" } : Jvm.MethodName)) ∈ lw_tbl := lw_at lw_m5 227 rfl
theorem q1238 : (Jvm.Cond.instanceMethod ({ cls := "SevenRingsModel", name := "ringed", desc := "(I)I" } : Jvm.MethodName)) ∈ lw_all := lw_g (lw_at lw_m5 228 rfl) rfl
theorem q1239 : (Jvm.Cond.code ({ cls := "SevenRingsModel", name := "ringed", desc := "(I)I" } : Jvm.MethodName) prog_14_method_19_code (6 : Nat) (Option.some Jvm.ClassFile.FieldType.int)) ∈ lw_all := lw_g (lw_at lw_m5 229 rfl) rfl
theorem q1241 : (Jvm.Cond.instanceMethod ({ cls := "SevenRingsModel", name := "weight", desc := "()J" } : Jvm.MethodName)) ∈ lw_all := lw_g (lw_at lw_m5 231 rfl) rfl
theorem q1242 : (Jvm.Cond.selects "SevenRingsModel" ({ cls := "SevenRingsModel", name := "weight", desc := "()J" } : Jvm.MethodName) ({ cls := "SevenRingsModel", name := "weight", desc := "()J" } : Jvm.MethodName)) ∈ lw_all := lw_g (lw_at lw_m5 232 rfl) rfl
theorem q1243 : (Jvm.Cond.code ({ cls := "SevenRingsModel", name := "weight", desc := "()J" } : Jvm.MethodName) prog_14_method_25_code (3 : Nat) (Option.some Jvm.ClassFile.FieldType.long)) ∈ lw_all := lw_g (lw_at lw_m5 233 rfl) rfl
theorem q1244 : (Jvm.Cond.methodLink "SevenRingsModel" (196 : Nat) ({ cls := "SevenRingsModel", name := "heavy", desc := "()I" } : Jvm.MethodName)) ∈ lw_all := lw_g (lw_at lw_m5 234 rfl) rfl
theorem q1245 : (Jvm.Cond.privateMethod ({ cls := "SevenRingsModel", name := "heavy", desc := "()I" } : Jvm.MethodName)) ∈ lw_tbl := lw_at lw_m5 235 rfl
theorem q1246 : (Jvm.Cond.instanceMethod ({ cls := "SevenRingsModel", name := "heavy", desc := "()I" } : Jvm.MethodName)) ∈ lw_all := lw_g (lw_at lw_m5 236 rfl) rfl
theorem q1247 : (Jvm.Cond.code ({ cls := "SevenRingsModel", name := "heavy", desc := "()I" } : Jvm.MethodName) prog_14_method_22_code (4 : Nat) (Option.some Jvm.ClassFile.FieldType.int)) ∈ lw_all := lw_g (lw_at lw_m5 237 rfl) rfl
theorem q1249 : (Jvm.Cond.instanceMethod ({ cls := "SevenRingsModel", name := "way", desc := "(II)I" } : Jvm.MethodName)) ∈ lw_all := lw_g (lw_at lw_m5 239 rfl) rfl
theorem q1250 : (Jvm.Cond.selects "SevenRingsModel" ({ cls := "SevenRingsModel", name := "way", desc := "(II)I" } : Jvm.MethodName) ({ cls := "SevenRingsModel", name := "way", desc := "(II)I" } : Jvm.MethodName)) ∈ lw_all := lw_g (lw_at lw_m6 0 rfl) rfl
theorem q1251 : (Jvm.Cond.code ({ cls := "SevenRingsModel", name := "way", desc := "(II)I" } : Jvm.MethodName) prog_14_method_27_code (3 : Nat) (Option.some Jvm.ClassFile.FieldType.int)) ∈ lw_all := lw_g (lw_at lw_m6 1 rfl) rfl
theorem q1252 : (Jvm.Cond.constantLong "SevenRingsModel" (199 : Nat) (-3 : Int64)) ∈ lw_all := lw_g (lw_at lw_m6 2 rfl) rfl
theorem q1253 : (Jvm.Cond.methodLink "SevenRingsModel" (201 : Nat) ({ cls := "SevenRingsModel", name := "finds", desc := "(I)Z" } : Jvm.MethodName)) ∈ lw_all := lw_g (lw_at lw_m6 3 rfl) rfl
theorem q1254 : (Jvm.Cond.privateMethod ({ cls := "SevenRingsModel", name := "finds", desc := "(I)Z" } : Jvm.MethodName)) ∈ lw_tbl := lw_at lw_m6 4 rfl
theorem q1255 : (Jvm.Cond.instanceMethod ({ cls := "SevenRingsModel", name := "finds", desc := "(I)Z" } : Jvm.MethodName)) ∈ lw_all := lw_g (lw_at lw_m6 5 rfl) rfl
theorem q1256 : (Jvm.Cond.code ({ cls := "SevenRingsModel", name := "finds", desc := "(I)Z" } : Jvm.MethodName) prog_14_method_26_code (4 : Nat) (Option.some Jvm.ClassFile.FieldType.boolean)) ∈ lw_all := lw_g (lw_at lw_m6 6 rfl) rfl
theorem q1258 : (Jvm.Cond.instanceMethod ({ cls := "SevenRingsModel", name := "may", desc := "(II)I" } : Jvm.MethodName)) ∈ lw_all := lw_g (lw_at lw_m6 8 rfl) rfl
theorem q1259 : (Jvm.Cond.selects "SevenRingsModel" ({ cls := "SevenRingsModel", name := "may", desc := "(II)I" } : Jvm.MethodName) ({ cls := "SevenRingsModel", name := "may", desc := "(II)I" } : Jvm.MethodName)) ∈ lw_all := lw_g (lw_at lw_m6 9 rfl) rfl
theorem q1260 : (Jvm.Cond.code ({ cls := "SevenRingsModel", name := "may", desc := "(II)I" } : Jvm.MethodName) prog_14_method_28_code (4 : Nat) (Option.some Jvm.ClassFile.FieldType.int)) ∈ lw_all := lw_g (lw_at lw_m6 10 rfl) rfl
theorem q1262 : (Jvm.Cond.instanceMethod ({ cls := "SevenRingsModel", name := "cell", desc := "(IIII)I" } : Jvm.MethodName)) ∈ lw_all := lw_g (lw_at lw_m6 12 rfl) rfl
theorem q1263 : (Jvm.Cond.selects "SevenRingsModel" ({ cls := "SevenRingsModel", name := "cell", desc := "(IIII)I" } : Jvm.MethodName) ({ cls := "SevenRingsModel", name := "cell", desc := "(IIII)I" } : Jvm.MethodName)) ∈ lw_all := lw_g (lw_at lw_m6 13 rfl) rfl
theorem q1264 : (Jvm.Cond.code ({ cls := "SevenRingsModel", name := "cell", desc := "(IIII)I" } : Jvm.MethodName) prog_14_method_29_code (7 : Nat) (Option.some Jvm.ClassFile.FieldType.int)) ∈ lw_all := lw_g (lw_at lw_m6 14 rfl) rfl
theorem q1266 : (Jvm.Cond.instanceMethod ({ cls := "SevenRingsModel", name := "depth", desc := "(II)I" } : Jvm.MethodName)) ∈ lw_all := lw_g (lw_at lw_m6 16 rfl) rfl
theorem q1267 : (Jvm.Cond.selects "SevenRingsModel" ({ cls := "SevenRingsModel", name := "depth", desc := "(II)I" } : Jvm.MethodName) ({ cls := "SevenRingsModel", name := "depth", desc := "(II)I" } : Jvm.MethodName)) ∈ lw_all := lw_g (lw_at lw_m6 17 rfl) rfl
theorem q1268 : (Jvm.Cond.code ({ cls := "SevenRingsModel", name := "depth", desc := "(II)I" } : Jvm.MethodName) prog_14_method_30_code (4 : Nat) (Option.some Jvm.ClassFile.FieldType.int)) ∈ lw_all := lw_g (lw_at lw_m6 18 rfl) rfl
theorem q1270 : (Jvm.Cond.instanceMethod ({ cls := "SevenRingsModel", name := "piece", desc := "(IIIII)I" } : Jvm.MethodName)) ∈ lw_all := lw_g (lw_at lw_m6 20 rfl) rfl
theorem q1271 : (Jvm.Cond.selects "SevenRingsModel" ({ cls := "SevenRingsModel", name := "piece", desc := "(IIIII)I" } : Jvm.MethodName) ({ cls := "SevenRingsModel", name := "piece", desc := "(IIIII)I" } : Jvm.MethodName)) ∈ lw_all := lw_g (lw_at lw_m6 21 rfl) rfl
theorem q1272 : (Jvm.Cond.code ({ cls := "SevenRingsModel", name := "piece", desc := "(IIIII)I" } : Jvm.MethodName) prog_14_method_31_code (7 : Nat) (Option.some Jvm.ClassFile.FieldType.int)) ∈ lw_all := lw_g (lw_at lw_m6 22 rfl) rfl
theorem q1273 : (Jvm.Cond.constantLong "SevenRingsModel" (204 : Nat) (24 : Int64)) ∈ lw_all := lw_g (lw_at lw_m6 23 rfl) rfl
theorem q1275 : (Jvm.Cond.instanceMethod ({ cls := "SevenRingsModel", name := "drift", desc := "(III)I" } : Jvm.MethodName)) ∈ lw_all := lw_g (lw_at lw_m6 25 rfl) rfl
theorem q1276 : (Jvm.Cond.selects "SevenRingsModel" ({ cls := "SevenRingsModel", name := "drift", desc := "(III)I" } : Jvm.MethodName) ({ cls := "SevenRingsModel", name := "drift", desc := "(III)I" } : Jvm.MethodName)) ∈ lw_all := lw_g (lw_at lw_m6 26 rfl) rfl
theorem q1277 : (Jvm.Cond.code ({ cls := "SevenRingsModel", name := "drift", desc := "(III)I" } : Jvm.MethodName) prog_14_method_34_code (4 : Nat) (Option.some Jvm.ClassFile.FieldType.int)) ∈ lw_all := lw_g (lw_at lw_m6 27 rfl) rfl
theorem q1278 : (Jvm.Cond.methodLink "SevenRingsModel" (212 : Nat) ({ cls := "SevenRingsModel", name := "driftTo", desc := "(III)I" } : Jvm.MethodName)) ∈ lw_all := lw_g (lw_at lw_m6 28 rfl) rfl
theorem q1279 : (Jvm.Cond.privateMethod ({ cls := "SevenRingsModel", name := "driftTo", desc := "(III)I" } : Jvm.MethodName)) ∈ lw_tbl := lw_at lw_m6 29 rfl
theorem q1280 : (Jvm.Cond.instanceMethod ({ cls := "SevenRingsModel", name := "driftTo", desc := "(III)I" } : Jvm.MethodName)) ∈ lw_all := lw_g (lw_at lw_m6 30 rfl) rfl
theorem q1281 : (Jvm.Cond.code ({ cls := "SevenRingsModel", name := "driftTo", desc := "(III)I" } : Jvm.MethodName) prog_14_method_33_code (6 : Nat) (Option.some Jvm.ClassFile.FieldType.int)) ∈ lw_all := lw_g (lw_at lw_m6 31 rfl) rfl
theorem q1282 : (Jvm.Cond.methodLink "SevenRingsModel" (209 : Nat) ({ cls := "SevenRingsModel", name := "drifted", desc := "(III)I" } : Jvm.MethodName)) ∈ lw_all := lw_g (lw_at lw_m6 32 rfl) rfl
theorem q1283 : (Jvm.Cond.privateMethod ({ cls := "SevenRingsModel", name := "drifted", desc := "(III)I" } : Jvm.MethodName)) ∈ lw_tbl := lw_at lw_m6 33 rfl
theorem q1284 : (Jvm.Cond.instanceMethod ({ cls := "SevenRingsModel", name := "drifted", desc := "(III)I" } : Jvm.MethodName)) ∈ lw_all := lw_g (lw_at lw_m6 34 rfl) rfl
theorem q1285 : (Jvm.Cond.code ({ cls := "SevenRingsModel", name := "drifted", desc := "(III)I" } : Jvm.MethodName) prog_14_method_32_code (7 : Nat) (Option.some Jvm.ClassFile.FieldType.int)) ∈ lw_all := lw_g (lw_at lw_m6 35 rfl) rfl
theorem q1287 : (Jvm.Cond.instanceMethod ({ cls := "SevenRingsModel", name := "fits", desc := "(II)I" } : Jvm.MethodName)) ∈ lw_all := lw_g (lw_at lw_m6 37 rfl) rfl
theorem q1288 : (Jvm.Cond.selects "SevenRingsModel" ({ cls := "SevenRingsModel", name := "fits", desc := "(II)I" } : Jvm.MethodName) ({ cls := "SevenRingsModel", name := "fits", desc := "(II)I" } : Jvm.MethodName)) ∈ lw_all := lw_g (lw_at lw_m6 38 rfl) rfl
theorem q1289 : (Jvm.Cond.code ({ cls := "SevenRingsModel", name := "fits", desc := "(II)I" } : Jvm.MethodName) prog_14_method_36_code (3 : Nat) (Option.some Jvm.ClassFile.FieldType.int)) ∈ lw_all := lw_g (lw_at lw_m6 39 rfl) rfl
theorem q1290 : (Jvm.Cond.methodLink "SevenRingsModel" (215 : Nat) ({ cls := "SevenRingsModel", name := "fit", desc := "(II)I" } : Jvm.MethodName)) ∈ lw_all := lw_g (lw_at lw_m6 40 rfl) rfl
theorem q1291 : (Jvm.Cond.privateMethod ({ cls := "SevenRingsModel", name := "fit", desc := "(II)I" } : Jvm.MethodName)) ∈ lw_tbl := lw_at lw_m6 41 rfl
theorem q1292 : (Jvm.Cond.instanceMethod ({ cls := "SevenRingsModel", name := "fit", desc := "(II)I" } : Jvm.MethodName)) ∈ lw_all := lw_g (lw_at lw_m6 42 rfl) rfl
theorem q1293 : (Jvm.Cond.code ({ cls := "SevenRingsModel", name := "fit", desc := "(II)I" } : Jvm.MethodName) prog_14_method_35_code (10 : Nat) (Option.some Jvm.ClassFile.FieldType.int)) ∈ lw_all := lw_g (lw_at lw_m6 43 rfl) rfl
theorem q1295 : (Jvm.Cond.instanceMethod ({ cls := "SevenRingsModel", name := "drag", desc := "(II)I" } : Jvm.MethodName)) ∈ lw_all := lw_g (lw_at lw_m6 45 rfl) rfl
theorem q1296 : (Jvm.Cond.selects "SevenRingsModel" ({ cls := "SevenRingsModel", name := "drag", desc := "(II)I" } : Jvm.MethodName) ({ cls := "SevenRingsModel", name := "drag", desc := "(II)I" } : Jvm.MethodName)) ∈ lw_all := lw_g (lw_at lw_m6 46 rfl) rfl
theorem q1297 : (Jvm.Cond.code ({ cls := "SevenRingsModel", name := "drag", desc := "(II)I" } : Jvm.MethodName) prog_14_method_37_code (3 : Nat) (Option.some Jvm.ClassFile.FieldType.int)) ∈ lw_all := lw_g (lw_at lw_m6 47 rfl) rfl
theorem q1299 : (Jvm.Cond.instanceMethod ({ cls := "SevenRingsModel", name := "clear", desc := "()I" } : Jvm.MethodName)) ∈ lw_all := lw_g (lw_at lw_m6 49 rfl) rfl
theorem q1300 : (Jvm.Cond.selects "SevenRingsModel" ({ cls := "SevenRingsModel", name := "clear", desc := "()I" } : Jvm.MethodName) ({ cls := "SevenRingsModel", name := "clear", desc := "()I" } : Jvm.MethodName)) ∈ lw_all := lw_g (lw_at lw_m6 50 rfl) rfl
theorem q1301 : (Jvm.Cond.code ({ cls := "SevenRingsModel", name := "clear", desc := "()I" } : Jvm.MethodName) prog_14_method_38_code (2 : Nat) (Option.some Jvm.ClassFile.FieldType.int)) ∈ lw_all := lw_g (lw_at lw_m6 51 rfl) rfl
theorem q1303 : (Jvm.Cond.instanceMethod ({ cls := "SevenRingsModel", name := "odds", desc := "(II)J" } : Jvm.MethodName)) ∈ lw_all := lw_g (lw_at lw_m6 53 rfl) rfl
theorem q1304 : (Jvm.Cond.selects "SevenRingsModel" ({ cls := "SevenRingsModel", name := "odds", desc := "(II)J" } : Jvm.MethodName) ({ cls := "SevenRingsModel", name := "odds", desc := "(II)J" } : Jvm.MethodName)) ∈ lw_all := lw_g (lw_at lw_m6 54 rfl) rfl
theorem q1305 : (Jvm.Cond.code ({ cls := "SevenRingsModel", name := "odds", desc := "(II)J" } : Jvm.MethodName) prog_14_method_42_code (3 : Nat) (Option.some Jvm.ClassFile.FieldType.long)) ∈ lw_all := lw_g (lw_at lw_m6 55 rfl) rfl
theorem q1306 : (Jvm.Cond.methodLink "SevenRingsModel" (234 : Nat) ({ cls := "SevenRingsModel", name := "endsAsTold", desc := "()V" } : Jvm.MethodName)) ∈ lw_all := lw_g (lw_at lw_m6 56 rfl) rfl
theorem q1307 : (Jvm.Cond.privateMethod ({ cls := "SevenRingsModel", name := "endsAsTold", desc := "()V" } : Jvm.MethodName)) ∈ lw_tbl := lw_at lw_m6 57 rfl
theorem q1308 : (Jvm.Cond.instanceMethod ({ cls := "SevenRingsModel", name := "endsAsTold", desc := "()V" } : Jvm.MethodName)) ∈ lw_all := lw_g (lw_at lw_m6 58 rfl) rfl
theorem q1309 : (Jvm.Cond.code ({ cls := "SevenRingsModel", name := "endsAsTold", desc := "()V" } : Jvm.MethodName) prog_14_method_40_code (1 : Nat) (Option.none : Option Jvm.ClassFile.FieldType)) ∈ lw_all := lw_g (lw_at lw_m6 59 rfl) rfl
theorem q1310 : (Jvm.Cond.methodLink "SevenRingsModel" (231 : Nat) ({ cls := "SevenRingsModel", name := "ends", desc := "()V" } : Jvm.MethodName)) ∈ lw_all := lw_g (lw_at lw_m6 60 rfl) rfl
theorem q1311 : (Jvm.Cond.privateMethod ({ cls := "SevenRingsModel", name := "ends", desc := "()V" } : Jvm.MethodName)) ∈ lw_tbl := lw_at lw_m6 61 rfl
theorem q1312 : (Jvm.Cond.instanceMethod ({ cls := "SevenRingsModel", name := "ends", desc := "()V" } : Jvm.MethodName)) ∈ lw_all := lw_g (lw_at lw_m6 62 rfl) rfl
theorem q1313 : (Jvm.Cond.code ({ cls := "SevenRingsModel", name := "ends", desc := "()V" } : Jvm.MethodName) prog_14_method_39_code (5 : Nat) (Option.none : Option Jvm.ClassFile.FieldType)) ∈ lw_all := lw_g (lw_at lw_m6 63 rfl) rfl
theorem q1314 : (Jvm.Cond.constantLong "SevenRingsModel" (237 : Nat) (-4 : Int64)) ∈ lw_all := lw_g (lw_at lw_m6 64 rfl) rfl
theorem q1315 : (Jvm.Cond.methodLink "SevenRingsModel" (239 : Nat) ({ cls := "SevenRingsModel", name := "lowest", desc := "(JJI)J" } : Jvm.MethodName)) ∈ lw_all := lw_g (lw_at lw_m6 65 rfl) rfl
theorem q1316 : (Jvm.Cond.static ({ cls := "SevenRingsModel", name := "lowest", desc := "(JJI)J" } : Jvm.MethodName)) ∈ lw_all := lw_g (lw_at lw_m6 66 rfl) rfl
theorem q1317 : (Jvm.Cond.code ({ cls := "SevenRingsModel", name := "lowest", desc := "(JJI)J" } : Jvm.MethodName) prog_14_method_41_code (11 : Nat) (Option.some Jvm.ClassFile.FieldType.long)) ∈ lw_all := lw_g (lw_at lw_m6 67 rfl) rfl
theorem q1319 : (Jvm.Cond.instanceMethod ({ cls := "SevenRingsModel", name := "where", desc := "(I)I" } : Jvm.MethodName)) ∈ lw_all := lw_g (lw_at lw_m6 69 rfl) rfl
theorem q1320 : (Jvm.Cond.selects "SevenRingsModel" ({ cls := "SevenRingsModel", name := "where", desc := "(I)I" } : Jvm.MethodName) ({ cls := "SevenRingsModel", name := "where", desc := "(I)I" } : Jvm.MethodName)) ∈ lw_all := lw_g (lw_at lw_m6 70 rfl) rfl
theorem q1321 : (Jvm.Cond.code ({ cls := "SevenRingsModel", name := "where", desc := "(I)I" } : Jvm.MethodName) prog_14_method_43_code (4 : Nat) (Option.some Jvm.ClassFile.FieldType.int)) ∈ lw_all := lw_g (lw_at lw_m6 71 rfl) rfl
theorem q1323 : (Jvm.Cond.instanceMethod ({ cls := "SevenRingsModel", name := "count", desc := "(I)I" } : Jvm.MethodName)) ∈ lw_all := lw_g (lw_at lw_m6 73 rfl) rfl
theorem q1324 : (Jvm.Cond.selects "SevenRingsModel" ({ cls := "SevenRingsModel", name := "count", desc := "(I)I" } : Jvm.MethodName) ({ cls := "SevenRingsModel", name := "count", desc := "(I)I" } : Jvm.MethodName)) ∈ lw_all := lw_g (lw_at lw_m6 74 rfl) rfl
theorem q1325 : (Jvm.Cond.code ({ cls := "SevenRingsModel", name := "count", desc := "(I)I" } : Jvm.MethodName) prog_14_method_44_code (4 : Nat) (Option.some Jvm.ClassFile.FieldType.int)) ∈ lw_all := lw_g (lw_at lw_m6 75 rfl) rfl
theorem q1326 : (Jvm.Cond.constantLong "SevenRingsModel" (243 : Nat) (4 : Int64)) ∈ lw_all := lw_g (lw_at lw_m6 76 rfl) rfl
theorem q1328 : (Jvm.Cond.instanceMethod ({ cls := "SevenRingsModel", name := "moves", desc := "(I)I" } : Jvm.MethodName)) ∈ lw_all := lw_g (lw_at lw_m6 78 rfl) rfl
theorem q1329 : (Jvm.Cond.selects "SevenRingsModel" ({ cls := "SevenRingsModel", name := "moves", desc := "(I)I" } : Jvm.MethodName) ({ cls := "SevenRingsModel", name := "moves", desc := "(I)I" } : Jvm.MethodName)) ∈ lw_all := lw_g (lw_at lw_m6 79 rfl) rfl
theorem q1330 : (Jvm.Cond.code ({ cls := "SevenRingsModel", name := "moves", desc := "(I)I" } : Jvm.MethodName) prog_14_method_48_code (2 : Nat) (Option.some Jvm.ClassFile.FieldType.int)) ∈ lw_all := lw_g (lw_at lw_m6 80 rfl) rfl
theorem q1331 : (Jvm.Cond.methodLink "SevenRingsModel" (253 : Nat) ({ cls := "SevenRingsModel", name := "isAssumption", desc := "(I)Z" } : Jvm.MethodName)) ∈ lw_all := lw_g (lw_at lw_m6 81 rfl) rfl
theorem q1332 : (Jvm.Cond.privateMethod ({ cls := "SevenRingsModel", name := "isAssumption", desc := "(I)Z" } : Jvm.MethodName)) ∈ lw_tbl := lw_at lw_m6 82 rfl
theorem q1333 : (Jvm.Cond.instanceMethod ({ cls := "SevenRingsModel", name := "isAssumption", desc := "(I)Z" } : Jvm.MethodName)) ∈ lw_all := lw_g (lw_at lw_m6 83 rfl) rfl
theorem q1334 : (Jvm.Cond.code ({ cls := "SevenRingsModel", name := "isAssumption", desc := "(I)Z" } : Jvm.MethodName) prog_14_method_47_code (2 : Nat) (Option.some Jvm.ClassFile.FieldType.boolean)) ∈ lw_all := lw_g (lw_at lw_m6 84 rfl) rfl
theorem q1335 : (Jvm.Cond.constantLong "SevenRingsModel" (251 : Nat) (12 : Int64)) ∈ lw_all := lw_g (lw_at lw_m6 85 rfl) rfl
theorem q1336 : (Jvm.Cond.methodLink "SevenRingsModel" (256 : Nat) ({ cls := "SevenRingsModel", name := "moved", desc := "(I)I" } : Jvm.MethodName)) ∈ lw_all := lw_g (lw_at lw_m6 86 rfl) rfl
theorem q1337 : (Jvm.Cond.privateMethod ({ cls := "SevenRingsModel", name := "moved", desc := "(I)I" } : Jvm.MethodName)) ∈ lw_tbl := lw_at lw_m6 87 rfl
theorem q1338 : (Jvm.Cond.instanceMethod ({ cls := "SevenRingsModel", name := "moved", desc := "(I)I" } : Jvm.MethodName)) ∈ lw_all := lw_g (lw_at lw_m6 88 rfl) rfl
theorem q1339 : (Jvm.Cond.code ({ cls := "SevenRingsModel", name := "moved", desc := "(I)I" } : Jvm.MethodName) prog_14_method_46_code (6 : Nat) (Option.some Jvm.ClassFile.FieldType.int)) ∈ lw_all := lw_g (lw_at lw_m6 89 rfl) rfl
theorem q1340 : (Jvm.Cond.methodLink "SevenRingsModel" (247 : Nat) ({ cls := "SevenRingsModel", name := "thousandths", desc := "(J)I" } : Jvm.MethodName)) ∈ lw_all := lw_g (lw_at lw_m6 90 rfl) rfl
theorem q1341 : (Jvm.Cond.privateMethod ({ cls := "SevenRingsModel", name := "thousandths", desc := "(J)I" } : Jvm.MethodName)) ∈ lw_tbl := lw_at lw_m6 91 rfl
theorem q1342 : (Jvm.Cond.instanceMethod ({ cls := "SevenRingsModel", name := "thousandths", desc := "(J)I" } : Jvm.MethodName)) ∈ lw_all := lw_g (lw_at lw_m6 92 rfl) rfl
theorem q1343 : (Jvm.Cond.code ({ cls := "SevenRingsModel", name := "thousandths", desc := "(J)I" } : Jvm.MethodName) prog_14_method_45_code (7 : Nat) (Option.some Jvm.ClassFile.FieldType.int)) ∈ lw_all := lw_g (lw_at lw_m6 93 rfl) rfl
theorem q1344 : (Jvm.Cond.constantLong "SevenRingsModel" (245 : Nat) (10 : Int64)) ∈ lw_all := lw_g (lw_at lw_m6 94 rfl) rfl
theorem q1346 : (Jvm.Cond.instanceMethod ({ cls := "SevenRingsModel", name := "most", desc := "()I" } : Jvm.MethodName)) ∈ lw_all := lw_g (lw_at lw_m6 96 rfl) rfl
theorem q1347 : (Jvm.Cond.selects "SevenRingsModel" ({ cls := "SevenRingsModel", name := "most", desc := "()I" } : Jvm.MethodName) ({ cls := "SevenRingsModel", name := "most", desc := "()I" } : Jvm.MethodName)) ∈ lw_all := lw_g (lw_at lw_m6 97 rfl) rfl
theorem q1348 : (Jvm.Cond.code ({ cls := "SevenRingsModel", name := "most", desc := "()I" } : Jvm.MethodName) prog_14_method_49_code (5 : Nat) (Option.some Jvm.ClassFile.FieldType.int)) ∈ lw_all := lw_g (lw_at lw_m6 98 rfl) rfl
theorem q1350 : (Jvm.Cond.instanceMethod ({ cls := "SevenRingsModel", name := "next", desc := "()I" } : Jvm.MethodName)) ∈ lw_all := lw_g (lw_at lw_m6 100 rfl) rfl
theorem q1351 : (Jvm.Cond.selects "SevenRingsModel" ({ cls := "SevenRingsModel", name := "next", desc := "()I" } : Jvm.MethodName) ({ cls := "SevenRingsModel", name := "next", desc := "()I" } : Jvm.MethodName)) ∈ lw_all := lw_g (lw_at lw_m6 101 rfl) rfl
theorem q1352 : (Jvm.Cond.code ({ cls := "SevenRingsModel", name := "next", desc := "()I" } : Jvm.MethodName) prog_14_method_50_code (5 : Nat) (Option.some Jvm.ClassFile.FieldType.int)) ∈ lw_all := lw_g (lw_at lw_m6 102 rfl) rfl
theorem q1354 : (Jvm.Cond.instanceMethod ({ cls := "SevenRingsModel", name := "should", desc := "(IIII)J" } : Jvm.MethodName)) ∈ lw_all := lw_g (lw_at lw_m6 104 rfl) rfl
theorem q1355 : (Jvm.Cond.selects "SevenRingsModel" ({ cls := "SevenRingsModel", name := "should", desc := "(IIII)J" } : Jvm.MethodName) ({ cls := "SevenRingsModel", name := "should", desc := "(IIII)J" } : Jvm.MethodName)) ∈ lw_all := lw_g (lw_at lw_m6 105 rfl) rfl
theorem q1356 : (Jvm.Cond.code ({ cls := "SevenRingsModel", name := "should", desc := "(IIII)J" } : Jvm.MethodName) prog_14_method_51_code (8 : Nat) (Option.some Jvm.ClassFile.FieldType.long)) ∈ lw_all := lw_g (lw_at lw_m6 106 rfl) rfl
theorem q1358 : (Jvm.Cond.instanceMethod ({ cls := "SevenRingsModel", name := "held", desc := "(III)I" } : Jvm.MethodName)) ∈ lw_all := lw_g (lw_at lw_m6 108 rfl) rfl
theorem q1359 : (Jvm.Cond.selects "SevenRingsModel" ({ cls := "SevenRingsModel", name := "held", desc := "(III)I" } : Jvm.MethodName) ({ cls := "SevenRingsModel", name := "held", desc := "(III)I" } : Jvm.MethodName)) ∈ lw_all := lw_g (lw_at lw_m6 109 rfl) rfl
theorem q1360 : (Jvm.Cond.code ({ cls := "SevenRingsModel", name := "held", desc := "(III)I" } : Jvm.MethodName) prog_14_method_53_code (8 : Nat) (Option.some Jvm.ClassFile.FieldType.int)) ∈ lw_all := lw_g (lw_at lw_m6 110 rfl) rfl
theorem q1361 : (Jvm.Cond.methodLink "SevenRingsModel" (259 : Nat) ({ cls := "SevenRingsModel", name := "isSheet", desc := "(I)Z" } : Jvm.MethodName)) ∈ lw_all := lw_g (lw_at lw_m6 111 rfl) rfl
theorem q1362 : (Jvm.Cond.static ({ cls := "SevenRingsModel", name := "isSheet", desc := "(I)Z" } : Jvm.MethodName)) ∈ lw_all := lw_g (lw_at lw_m6 112 rfl) rfl
theorem q1363 : (Jvm.Cond.code ({ cls := "SevenRingsModel", name := "isSheet", desc := "(I)Z" } : Jvm.MethodName) prog_14_method_58_code (1 : Nat) (Option.some Jvm.ClassFile.FieldType.boolean)) ∈ lw_all := lw_g (lw_at lw_m6 113 rfl) rfl
theorem q1364 : (Jvm.Cond.constantLong "SevenRingsModel" (283 : Nat) (3 : Int64)) ∈ lw_all := lw_g (lw_at lw_m6 114 rfl) rfl
theorem q1365 : (Jvm.Cond.methodLink "SevenRingsModel" (262 : Nat) ({ cls := "SevenRingsModel", name := "isLane", desc := "(I)Z" } : Jvm.MethodName)) ∈ lw_all := lw_g (lw_at lw_m6 115 rfl) rfl
theorem q1366 : (Jvm.Cond.static ({ cls := "SevenRingsModel", name := "isLane", desc := "(I)Z" } : Jvm.MethodName)) ∈ lw_all := lw_g (lw_at lw_m6 116 rfl) rfl
theorem q1367 : (Jvm.Cond.code ({ cls := "SevenRingsModel", name := "isLane", desc := "(I)Z" } : Jvm.MethodName) prog_14_method_59_code (1 : Nat) (Option.some Jvm.ClassFile.FieldType.boolean)) ∈ lw_all := lw_g (lw_at lw_m6 117 rfl) rfl
theorem q1368 : (Jvm.Cond.methodLink "SevenRingsModel" (265 : Nat) ({ cls := "SevenRingsModel", name := "refuses", desc := "(IIII)I" } : Jvm.MethodName)) ∈ lw_all := lw_g (lw_at lw_m6 118 rfl) rfl
theorem q1369 : (Jvm.Cond.privateMethod ({ cls := "SevenRingsModel", name := "refuses", desc := "(IIII)I" } : Jvm.MethodName)) ∈ lw_tbl := lw_at lw_m6 119 rfl
theorem q1370 : (Jvm.Cond.instanceMethod ({ cls := "SevenRingsModel", name := "refuses", desc := "(IIII)I" } : Jvm.MethodName)) ∈ lw_all := lw_g (lw_at lw_m6 120 rfl) rfl
theorem q1371 : (Jvm.Cond.code ({ cls := "SevenRingsModel", name := "refuses", desc := "(IIII)I" } : Jvm.MethodName) prog_14_method_60_code (5 : Nat) (Option.some Jvm.ClassFile.FieldType.int)) ∈ lw_all := lw_g (lw_at lw_m6 121 rfl) rfl
theorem q1372 : (Jvm.Cond.methodLink "SevenRingsModel" (269 : Nat) ({ cls := "SevenRingsModel", name := "isKnown", desc := "(I)Z" } : Jvm.MethodName)) ∈ lw_all := lw_g (lw_at lw_m6 122 rfl) rfl
theorem q1373 : (Jvm.Cond.privateMethod ({ cls := "SevenRingsModel", name := "isKnown", desc := "(I)Z" } : Jvm.MethodName)) ∈ lw_tbl := lw_at lw_m6 123 rfl
theorem q1374 : (Jvm.Cond.instanceMethod ({ cls := "SevenRingsModel", name := "isKnown", desc := "(I)Z" } : Jvm.MethodName)) ∈ lw_all := lw_g (lw_at lw_m6 124 rfl) rfl
theorem q1375 : (Jvm.Cond.code ({ cls := "SevenRingsModel", name := "isKnown", desc := "(I)Z" } : Jvm.MethodName) prog_14_method_52_code (4 : Nat) (Option.some Jvm.ClassFile.FieldType.boolean)) ∈ lw_all := lw_g (lw_at lw_m6 125 rfl) rfl
theorem q1377 : (Jvm.Cond.instanceMethod ({ cls := "SevenRingsModel", name := "image", desc := "()I" } : Jvm.MethodName)) ∈ lw_all := lw_g (lw_at lw_m6 127 rfl) rfl
theorem q1378 : (Jvm.Cond.selects "SevenRingsModel" ({ cls := "SevenRingsModel", name := "image", desc := "()I" } : Jvm.MethodName) ({ cls := "SevenRingsModel", name := "image", desc := "()I" } : Jvm.MethodName)) ∈ lw_all := lw_g (lw_at lw_m6 128 rfl) rfl
theorem q1379 : (Jvm.Cond.code ({ cls := "SevenRingsModel", name := "image", desc := "()I" } : Jvm.MethodName) prog_14_method_56_code (2 : Nat) (Option.some Jvm.ClassFile.FieldType.int)) ∈ lw_all := lw_g (lw_at lw_m6 129 rfl) rfl
theorem q1380 : (Jvm.Cond.methodLink "SevenRingsModel" (272 : Nat) ({ cls := "SevenRingsModel", name := "saves", desc := "([I[II)I" } : Jvm.MethodName)) ∈ lw_all := lw_g (lw_at lw_m6 130 rfl) rfl
theorem q1381 : (Jvm.Cond.static ({ cls := "SevenRingsModel", name := "saves", desc := "([I[II)I" } : Jvm.MethodName)) ∈ lw_all := lw_g (lw_at lw_m6 131 rfl) rfl
theorem q1382 : (Jvm.Cond.code ({ cls := "SevenRingsModel", name := "saves", desc := "([I[II)I" } : Jvm.MethodName) prog_14_method_54_code (4 : Nat) (Option.some Jvm.ClassFile.FieldType.int)) ∈ lw_all := lw_g (lw_at lw_m6 132 rfl) rfl
theorem q1384 : (Jvm.Cond.instanceMethod ({ cls := "SevenRingsModel", name := "restore", desc := "()I" } : Jvm.MethodName)) ∈ lw_all := lw_g (lw_at lw_m6 134 rfl) rfl
theorem q1385 : (Jvm.Cond.selects "SevenRingsModel" ({ cls := "SevenRingsModel", name := "restore", desc := "()I" } : Jvm.MethodName) ({ cls := "SevenRingsModel", name := "restore", desc := "()I" } : Jvm.MethodName)) ∈ lw_all := lw_g (lw_at lw_m6 135 rfl) rfl
theorem q1386 : (Jvm.Cond.code ({ cls := "SevenRingsModel", name := "restore", desc := "()I" } : Jvm.MethodName) prog_14_method_57_code (2 : Nat) (Option.some Jvm.ClassFile.FieldType.int)) ∈ lw_all := lw_g (lw_at lw_m6 136 rfl) rfl
theorem q1387 : (Jvm.Cond.methodLink "SevenRingsModel" (279 : Nat) ({ cls := "SevenRingsModel", name := "gives", desc := "([II[I)I" } : Jvm.MethodName)) ∈ lw_all := lw_g (lw_at lw_m6 137 rfl) rfl
theorem q1388 : (Jvm.Cond.static ({ cls := "SevenRingsModel", name := "gives", desc := "([II[I)I" } : Jvm.MethodName)) ∈ lw_all := lw_g (lw_at lw_m6 138 rfl) rfl
theorem q1389 : (Jvm.Cond.code ({ cls := "SevenRingsModel", name := "gives", desc := "([II[I)I" } : Jvm.MethodName) prog_14_method_55_code (4 : Nat) (Option.some Jvm.ClassFile.FieldType.int)) ∈ lw_all := lw_g (lw_at lw_m6 139 rfl) rfl
theorem q1391 : (Jvm.Cond.instanceMethod ({ cls := "SevenRingsModel", name := "sheet", desc := "(III)I" } : Jvm.MethodName)) ∈ lw_all := lw_g (lw_at lw_m6 141 rfl) rfl
theorem q1392 : (Jvm.Cond.selects "SevenRingsModel" ({ cls := "SevenRingsModel", name := "sheet", desc := "(III)I" } : Jvm.MethodName) ({ cls := "SevenRingsModel", name := "sheet", desc := "(III)I" } : Jvm.MethodName)) ∈ lw_all := lw_g (lw_at lw_m6 142 rfl) rfl
theorem q1393 : (Jvm.Cond.code ({ cls := "SevenRingsModel", name := "sheet", desc := "(III)I" } : Jvm.MethodName) prog_14_method_61_code (5 : Nat) (Option.some Jvm.ClassFile.FieldType.int)) ∈ lw_all := lw_g (lw_at lw_m6 143 rfl) rfl
theorem q1395 : (Jvm.Cond.instanceMethod ({ cls := "SevenRingsModel", name := "drop", desc := "(I)I" } : Jvm.MethodName)) ∈ lw_all := lw_g (lw_at lw_m6 145 rfl) rfl
theorem q1396 : (Jvm.Cond.selects "SevenRingsModel" ({ cls := "SevenRingsModel", name := "drop", desc := "(I)I" } : Jvm.MethodName) ({ cls := "SevenRingsModel", name := "drop", desc := "(I)I" } : Jvm.MethodName)) ∈ lw_all := lw_g (lw_at lw_m6 146 rfl) rfl
theorem q1397 : (Jvm.Cond.code ({ cls := "SevenRingsModel", name := "drop", desc := "(I)I" } : Jvm.MethodName) prog_14_method_62_code (2 : Nat) (Option.some Jvm.ClassFile.FieldType.int)) ∈ lw_all := lw_g (lw_at lw_m6 147 rfl) rfl
theorem q1399 : (Jvm.Cond.instanceMethod ({ cls := "SevenRingsModel", name := "item", desc := "(IIII)I" } : Jvm.MethodName)) ∈ lw_all := lw_g (lw_at lw_m6 149 rfl) rfl
theorem q1400 : (Jvm.Cond.selects "SevenRingsModel" ({ cls := "SevenRingsModel", name := "item", desc := "(IIII)I" } : Jvm.MethodName) ({ cls := "SevenRingsModel", name := "item", desc := "(IIII)I" } : Jvm.MethodName)) ∈ lw_all := lw_g (lw_at lw_m6 150 rfl) rfl
theorem q1401 : (Jvm.Cond.code ({ cls := "SevenRingsModel", name := "item", desc := "(IIII)I" } : Jvm.MethodName) prog_14_method_63_code (6 : Nat) (Option.some Jvm.ClassFile.FieldType.int)) ∈ lw_all := lw_g (lw_at lw_m6 151 rfl) rfl
theorem q1403 : (Jvm.Cond.instanceMethod ({ cls := "SevenRingsModel", name := "film", desc := "(IIII)I" } : Jvm.MethodName)) ∈ lw_all := lw_g (lw_at lw_m6 153 rfl) rfl
theorem q1404 : (Jvm.Cond.selects "SevenRingsModel" ({ cls := "SevenRingsModel", name := "film", desc := "(IIII)I" } : Jvm.MethodName) ({ cls := "SevenRingsModel", name := "film", desc := "(IIII)I" } : Jvm.MethodName)) ∈ lw_all := lw_g (lw_at lw_m6 154 rfl) rfl
theorem q1405 : (Jvm.Cond.code ({ cls := "SevenRingsModel", name := "film", desc := "(IIII)I" } : Jvm.MethodName) prog_14_method_64_code (7 : Nat) (Option.some Jvm.ClassFile.FieldType.int)) ∈ lw_all := lw_g (lw_at lw_m6 155 rfl) rfl
theorem q1407 : (Jvm.Cond.instanceMethod ({ cls := "SevenRingsModel", name := "copy", desc := "(IIIII)I" } : Jvm.MethodName)) ∈ lw_all := lw_g (lw_at lw_m6 157 rfl) rfl
theorem q1408 : (Jvm.Cond.selects "SevenRingsModel" ({ cls := "SevenRingsModel", name := "copy", desc := "(IIIII)I" } : Jvm.MethodName) ({ cls := "SevenRingsModel", name := "copy", desc := "(IIIII)I" } : Jvm.MethodName)) ∈ lw_all := lw_g (lw_at lw_m6 158 rfl) rfl
theorem q1409 : (Jvm.Cond.code ({ cls := "SevenRingsModel", name := "copy", desc := "(IIIII)I" } : Jvm.MethodName) prog_14_method_65_code (7 : Nat) (Option.some Jvm.ClassFile.FieldType.int)) ∈ lw_all := lw_g (lw_at lw_m6 159 rfl) rfl
theorem q1418 : (Jvm.Cond.castable "SevenRingsModel" "java/lang/Object") ∈ lw_tbl := lw_at lw_m6 168 rfl
theorem in_X4 : ∀ w ∈ wsX40, w ∈ lw_all := lw_in wsX40 [1063, 1065, 1067, 1069, 1071, 1073, 1075, 1077, 1079, 1081, 1083, 1085, 1087, 1089, 1091, 1093, 1095, 1097, 1099, 1101, 1103, 1105, 1107, 1109, 1111, 1113, 1115, 1117, 1119, 1121, 1123, 1125, 1127, 1129, 1131, 1133, 1135, 1137, 1139, 1141, 1143, 1145] (by decide +kernel) (by decide +kernel)
