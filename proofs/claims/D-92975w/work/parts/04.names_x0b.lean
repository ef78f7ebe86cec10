set_option maxRecDepth 100000
abbrev cX0_drifted : ByteArray := prog_1_method_36_code
def yX0_drifted : MethodName := ⟨RX0, "drifted", "(III)I"⟩
def dkwX0_drifted_1 : List UInt8 := [160, 0, 7, 4, 167, 0, 4, 3, 182, 1, 0, 54, 4, 132, 5, 1, 167, 255, 224, 21, 4, 172]
abbrev dktX0_drifted_1 : List UInt8 := dkwX0_drifted_1 ++ []
def dkwX0_drifted_0 : List UInt8 := [27, 54, 4, 3, 54, 5, 21, 5, 28, 162, 0, 32, 42, 180, 0, 26, 21, 4, 21, 5, 29, 4]
abbrev dktX0_drifted_0 : List UInt8 := dkwX0_drifted_0 ++ dktX0_drifted_1
theorem dksX0_drifted_0 : cX0_drifted.data.toList.drop 0 = dktX0_drifted_0 := by decide +kernel
theorem dksX0_drifted_1 : cX0_drifted.data.toList.drop 22 = dktX0_drifted_1 := dk_seg dksX0_drifted_0 22 rfl rfl
theorem dX0_drifted_0 : decode cX0_drifted 0 = .ok (.iload_n 1, 1) := dk_27 (dk_at dksX0_drifted_0 0 rfl rfl)
theorem dX0_drifted_1 : decode cX0_drifted 1 = .ok (.istore 4, 2) := dk_54 4 (dk_at dksX0_drifted_0 1 rfl rfl)
theorem dX0_drifted_3 : decode cX0_drifted 3 = .ok (.iconst 0, 1) := dk_3 (dk_at dksX0_drifted_0 3 rfl rfl)
theorem dX0_drifted_4 : decode cX0_drifted 4 = .ok (.istore 5, 2) := dk_54 5 (dk_at dksX0_drifted_0 4 rfl rfl)
theorem dX0_drifted_6 : decode cX0_drifted 6 = .ok (.iload 5, 2) := dk_21 5 (dk_at dksX0_drifted_0 6 rfl rfl)
theorem dX0_drifted_8 : decode cX0_drifted 8 = .ok (.iload_n 2, 1) := dk_28 (dk_at dksX0_drifted_0 8 rfl rfl)
theorem dX0_drifted_9 : decode cX0_drifted 9 = .ok (.if_icmp .ge 32, 3) := dk_162 0 32 (dk_at dksX0_drifted_0 9 rfl rfl)
theorem dX0_drifted_12 : decode cX0_drifted 12 = .ok (.aload_n 0, 1) := dk_42 (dk_at dksX0_drifted_0 12 rfl rfl)
theorem dX0_drifted_13 : decode cX0_drifted 13 = .ok (.getfield 26, 3) := dk_180 0 26 (dk_at dksX0_drifted_0 13 rfl rfl)
theorem dX0_drifted_16 : decode cX0_drifted 16 = .ok (.iload 4, 2) := dk_21 4 (dk_at dksX0_drifted_0 16 rfl rfl)
theorem dX0_drifted_18 : decode cX0_drifted 18 = .ok (.iload 5, 2) := dk_21 5 (dk_at dksX0_drifted_0 18 rfl rfl)
theorem dX0_drifted_20 : decode cX0_drifted 20 = .ok (.iload_n 3, 1) := dk_29 (dk_at dksX0_drifted_0 20 rfl rfl)
theorem dX0_drifted_21 : decode cX0_drifted 21 = .ok (.iconst 1, 1) := dk_4 (dk_at dksX0_drifted_0 21 rfl rfl)
theorem dX0_drifted_22 : decode cX0_drifted 22 = .ok (.if_icmp .ne 7, 3) := dk_160 0 7 (dk_at dksX0_drifted_1 0 rfl rfl)
theorem dX0_drifted_25 : decode cX0_drifted 25 = .ok (.iconst 1, 1) := dk_4 (dk_at dksX0_drifted_1 3 rfl rfl)
theorem dX0_drifted_26 : decode cX0_drifted 26 = .ok (.goto 4, 3) := dk_167 0 4 (dk_at dksX0_drifted_1 4 rfl rfl)
theorem dX0_drifted_29 : decode cX0_drifted 29 = .ok (.iconst 0, 1) := dk_3 (dk_at dksX0_drifted_1 7 rfl rfl)
theorem dX0_drifted_30 : decode cX0_drifted 30 = .ok (.invokevirtual 256, 3) := dk_182 1 0 (dk_at dksX0_drifted_1 8 rfl rfl)
theorem dX0_drifted_33 : decode cX0_drifted 33 = .ok (.istore 4, 2) := dk_54 4 (dk_at dksX0_drifted_1 11 rfl rfl)
theorem dX0_drifted_35 : decode cX0_drifted 35 = .ok (.iinc 5 1, 3) := dk_132 5 1 (dk_at dksX0_drifted_1 13 rfl rfl)
theorem dX0_drifted_38 : decode cX0_drifted 38 = .ok (.goto (-32), 3) := dk_167 255 224 (dk_at dksX0_drifted_1 16 rfl rfl)
theorem dX0_drifted_41 : decode cX0_drifted 41 = .ok (.iload 4, 2) := dk_21 4 (dk_at dksX0_drifted_1 19 rfl rfl)
theorem dX0_drifted_43 : decode cX0_drifted 43 = .ok (.ireturn, 1) := dk_172 (dk_at dksX0_drifted_1 21 rfl rfl)
abbrev cX0_fits : ByteArray := prog_1_method_38_code
def yX0_fits : MethodName := ⟨RX0, "fits", "(II)I"⟩
def dkwX0_fits_2 : List UInt8 := [180, 0, 26, 28, 182, 1, 11, 167, 0, 4, 2, 172]
abbrev dktX0_fits_2 : List UInt8 := dkwX0_fits_2 ++ []
def dkwX0_fits_1 : List UInt8 := [184, 0, 71, 153, 0, 30, 42, 180, 0, 26, 180, 0, 238, 27, 185, 1, 7, 2, 0, 192, 0, 247, 42]
abbrev dktX0_fits_1 : List UInt8 := dkwX0_fits_1 ++ dktX0_fits_2
def dkwX0_fits_0 : List UInt8 := [27, 3, 42, 180, 0, 26, 180, 0, 238, 185, 0, 242, 1, 0, 4, 100, 184, 0, 3, 153, 0, 37, 28]
abbrev dktX0_fits_0 : List UInt8 := dkwX0_fits_0 ++ dktX0_fits_1
theorem dksX0_fits_0 : cX0_fits.data.toList.drop 0 = dktX0_fits_0 := by decide +kernel
theorem dksX0_fits_1 : cX0_fits.data.toList.drop 23 = dktX0_fits_1 := dk_seg dksX0_fits_0 23 rfl rfl
theorem dksX0_fits_2 : cX0_fits.data.toList.drop 46 = dktX0_fits_2 := dk_seg dksX0_fits_1 23 rfl rfl
theorem dX0_fits_0 : decode cX0_fits 0 = .ok (.iload_n 1, 1) := dk_27 (dk_at dksX0_fits_0 0 rfl rfl)
theorem dX0_fits_1 : decode cX0_fits 1 = .ok (.iconst 0, 1) := dk_3 (dk_at dksX0_fits_0 1 rfl rfl)
theorem dX0_fits_2 : decode cX0_fits 2 = .ok (.aload_n 0, 1) := dk_42 (dk_at dksX0_fits_0 2 rfl rfl)
theorem dX0_fits_3 : decode cX0_fits 3 = .ok (.getfield 26, 3) := dk_180 0 26 (dk_at dksX0_fits_0 3 rfl rfl)
theorem dX0_fits_6 : decode cX0_fits 6 = .ok (.getfield 238, 3) := dk_180 0 238 (dk_at dksX0_fits_0 6 rfl rfl)
theorem dX0_fits_9 : decode cX0_fits 9 = .ok (.invokeinterface 242 1, 5) := by decide +kernel
theorem dX0_fits_14 : decode cX0_fits 14 = .ok (.iconst 1, 1) := dk_4 (dk_at dksX0_fits_0 14 rfl rfl)
theorem dX0_fits_15 : decode cX0_fits 15 = .ok (.isub, 1) := dk_100 (dk_at dksX0_fits_0 15 rfl rfl)
theorem dX0_fits_16 : decode cX0_fits 16 = .ok (.invokestatic 3, 3) := dk_184 0 3 (dk_at dksX0_fits_0 16 rfl rfl)
theorem dX0_fits_19 : decode cX0_fits 19 = .ok (.ifCond .eq 37, 3) := dk_153 0 37 (dk_at dksX0_fits_0 19 rfl rfl)
theorem dX0_fits_22 : decode cX0_fits 22 = .ok (.iload_n 2, 1) := dk_28 (dk_at dksX0_fits_0 22 rfl rfl)
theorem dX0_fits_23 : decode cX0_fits 23 = .ok (.invokestatic 71, 3) := dk_184 0 71 (dk_at dksX0_fits_1 0 rfl rfl)
theorem dX0_fits_26 : decode cX0_fits 26 = .ok (.ifCond .eq 30, 3) := dk_153 0 30 (dk_at dksX0_fits_1 3 rfl rfl)
theorem dX0_fits_29 : decode cX0_fits 29 = .ok (.aload_n 0, 1) := dk_42 (dk_at dksX0_fits_1 6 rfl rfl)
theorem dX0_fits_30 : decode cX0_fits 30 = .ok (.getfield 26, 3) := dk_180 0 26 (dk_at dksX0_fits_1 7 rfl rfl)
theorem dX0_fits_33 : decode cX0_fits 33 = .ok (.getfield 238, 3) := dk_180 0 238 (dk_at dksX0_fits_1 10 rfl rfl)
theorem dX0_fits_36 : decode cX0_fits 36 = .ok (.iload_n 1, 1) := dk_27 (dk_at dksX0_fits_1 13 rfl rfl)
theorem dX0_fits_37 : decode cX0_fits 37 = .ok (.invokeinterface 263 2, 5) := by decide +kernel
theorem dX0_fits_42 : decode cX0_fits 42 = .ok (.checkcast 247, 3) := dk_192 0 247 (dk_at dksX0_fits_1 19 rfl rfl)
theorem dX0_fits_45 : decode cX0_fits 45 = .ok (.aload_n 0, 1) := dk_42 (dk_at dksX0_fits_1 22 rfl rfl)
theorem dX0_fits_46 : decode cX0_fits 46 = .ok (.getfield 26, 3) := dk_180 0 26 (dk_at dksX0_fits_2 0 rfl rfl)
theorem dX0_fits_49 : decode cX0_fits 49 = .ok (.iload_n 2, 1) := dk_28 (dk_at dksX0_fits_2 3 rfl rfl)
theorem dX0_fits_50 : decode cX0_fits 50 = .ok (.invokevirtual 267, 3) := dk_182 1 11 (dk_at dksX0_fits_2 4 rfl rfl)
theorem dX0_fits_53 : decode cX0_fits 53 = .ok (.goto 4, 3) := dk_167 0 4 (dk_at dksX0_fits_2 7 rfl rfl)
theorem dX0_fits_56 : decode cX0_fits 56 = .ok (.iconst (-1), 1) := dk_2 (dk_at dksX0_fits_2 10 rfl rfl)
theorem dX0_fits_57 : decode cX0_fits 57 = .ok (.ireturn, 1) := dk_172 (dk_at dksX0_fits_2 11 rfl rfl)
abbrev cX0_areBeside : ByteArray := prog_1_method_5_code
def yX0_areBeside : MethodName := ⟨RX0, "areBeside", "(II)Z"⟩
def dkwX0_areBeside_1 : List UInt8 := [112, 27, 16, 10, 112, 100, 184, 0, 11, 4, 163, 0, 7, 4, 167, 0, 4, 3, 172]
abbrev dktX0_areBeside_1 : List UInt8 := dkwX0_areBeside_1 ++ []
def dkwX0_areBeside_0 : List UInt8 := [26, 27, 159, 0, 39, 26, 16, 10, 108, 27, 16, 10, 108, 100, 184, 0, 11, 4, 163, 0, 23, 26, 16, 10]
abbrev dktX0_areBeside_0 : List UInt8 := dkwX0_areBeside_0 ++ dktX0_areBeside_1
theorem dksX0_areBeside_0 : cX0_areBeside.data.toList.drop 0 = dktX0_areBeside_0 := by decide +kernel
theorem dksX0_areBeside_1 : cX0_areBeside.data.toList.drop 24 = dktX0_areBeside_1 := dk_seg dksX0_areBeside_0 24 rfl rfl
theorem dX0_areBeside_0 : decode cX0_areBeside 0 = .ok (.iload_n 0, 1) := dk_26 (dk_at dksX0_areBeside_0 0 rfl rfl)
theorem dX0_areBeside_1 : decode cX0_areBeside 1 = .ok (.iload_n 1, 1) := dk_27 (dk_at dksX0_areBeside_0 1 rfl rfl)
theorem dX0_areBeside_2 : decode cX0_areBeside 2 = .ok (.if_icmp .eq 39, 3) := dk_159 0 39 (dk_at dksX0_areBeside_0 2 rfl rfl)
theorem dX0_areBeside_5 : decode cX0_areBeside 5 = .ok (.iload_n 0, 1) := dk_26 (dk_at dksX0_areBeside_0 5 rfl rfl)
theorem dX0_areBeside_6 : decode cX0_areBeside 6 = .ok (.bipush 10, 2) := dk_16 10 (dk_at dksX0_areBeside_0 6 rfl rfl)
theorem dX0_areBeside_8 : decode cX0_areBeside 8 = .ok (.idiv, 1) := dk_108 (dk_at dksX0_areBeside_0 8 rfl rfl)
theorem dX0_areBeside_9 : decode cX0_areBeside 9 = .ok (.iload_n 1, 1) := dk_27 (dk_at dksX0_areBeside_0 9 rfl rfl)
theorem dX0_areBeside_10 : decode cX0_areBeside 10 = .ok (.bipush 10, 2) := dk_16 10 (dk_at dksX0_areBeside_0 10 rfl rfl)
theorem dX0_areBeside_12 : decode cX0_areBeside 12 = .ok (.idiv, 1) := dk_108 (dk_at dksX0_areBeside_0 12 rfl rfl)
theorem dX0_areBeside_13 : decode cX0_areBeside 13 = .ok (.isub, 1) := dk_100 (dk_at dksX0_areBeside_0 13 rfl rfl)
theorem dX0_areBeside_14 : decode cX0_areBeside 14 = .ok (.invokestatic 11, 3) := dk_184 0 11 (dk_at dksX0_areBeside_0 14 rfl rfl)
theorem dX0_areBeside_17 : decode cX0_areBeside 17 = .ok (.iconst 1, 1) := dk_4 (dk_at dksX0_areBeside_0 17 rfl rfl)
theorem dX0_areBeside_18 : decode cX0_areBeside 18 = .ok (.if_icmp .gt 23, 3) := dk_163 0 23 (dk_at dksX0_areBeside_0 18 rfl rfl)
theorem dX0_areBeside_21 : decode cX0_areBeside 21 = .ok (.iload_n 0, 1) := dk_26 (dk_at dksX0_areBeside_0 21 rfl rfl)
theorem dX0_areBeside_22 : decode cX0_areBeside 22 = .ok (.bipush 10, 2) := dk_16 10 (dk_at dksX0_areBeside_0 22 rfl rfl)
theorem dX0_areBeside_24 : decode cX0_areBeside 24 = .ok (.irem, 1) := dk_112 (dk_at dksX0_areBeside_1 0 rfl rfl)
theorem dX0_areBeside_25 : decode cX0_areBeside 25 = .ok (.iload_n 1, 1) := dk_27 (dk_at dksX0_areBeside_1 1 rfl rfl)
theorem dX0_areBeside_26 : decode cX0_areBeside 26 = .ok (.bipush 10, 2) := dk_16 10 (dk_at dksX0_areBeside_1 2 rfl rfl)
theorem dX0_areBeside_28 : decode cX0_areBeside 28 = .ok (.irem, 1) := dk_112 (dk_at dksX0_areBeside_1 4 rfl rfl)
theorem dX0_areBeside_29 : decode cX0_areBeside 29 = .ok (.isub, 1) := dk_100 (dk_at dksX0_areBeside_1 5 rfl rfl)
theorem dX0_areBeside_30 : decode cX0_areBeside 30 = .ok (.invokestatic 11, 3) := dk_184 0 11 (dk_at dksX0_areBeside_1 6 rfl rfl)
theorem dX0_areBeside_33 : decode cX0_areBeside 33 = .ok (.iconst 1, 1) := dk_4 (dk_at dksX0_areBeside_1 9 rfl rfl)
theorem dX0_areBeside_34 : decode cX0_areBeside 34 = .ok (.if_icmp .gt 7, 3) := dk_163 0 7 (dk_at dksX0_areBeside_1 10 rfl rfl)
theorem dX0_areBeside_37 : decode cX0_areBeside 37 = .ok (.iconst 1, 1) := dk_4 (dk_at dksX0_areBeside_1 13 rfl rfl)
theorem dX0_areBeside_38 : decode cX0_areBeside 38 = .ok (.goto 4, 3) := dk_167 0 4 (dk_at dksX0_areBeside_1 14 rfl rfl)
theorem dX0_areBeside_41 : decode cX0_areBeside 41 = .ok (.iconst 0, 1) := dk_3 (dk_at dksX0_areBeside_1 17 rfl rfl)
theorem dX0_areBeside_42 : decode cX0_areBeside 42 = .ok (.ireturn, 1) := dk_172 (dk_at dksX0_areBeside_1 18 rfl rfl)
abbrev cX0_drag : ByteArray := prog_1_method_39_code
def yX0_drag : MethodName := ⟨RX0, "drag", "(II)I"⟩
def dkwX0_drag_3 : List UInt8 := [185, 0, 242, 1, 0, 4, 100, 172]
abbrev dktX0_drag_3 : List UInt8 := dkwX0_drag_3 ++ []
def dkwX0_drag_2 : List UInt8 := [187, 1, 18, 89, 27, 28, 183, 1, 20, 185, 0, 252, 2, 0, 87, 42, 180, 0, 26, 180, 1, 15]
abbrev dktX0_drag_2 : List UInt8 := dkwX0_drag_2 ++ dktX0_drag_3
def dkwX0_drag_1 : List UInt8 := [180, 1, 15, 185, 0, 242, 1, 0, 7, 160, 0, 6, 16, 253, 172, 42, 180, 0, 26, 180, 1, 15]
abbrev dktX0_drag_1 : List UInt8 := dkwX0_drag_1 ++ dktX0_drag_2
def dkwX0_drag_0 : List UInt8 := [27, 184, 0, 71, 153, 0, 13, 28, 4, 16, 7, 184, 0, 3, 154, 0, 5, 2, 172, 42, 180, 0, 26]
abbrev dktX0_drag_0 : List UInt8 := dkwX0_drag_0 ++ dktX0_drag_1
theorem dksX0_drag_0 : cX0_drag.data.toList.drop 0 = dktX0_drag_0 := by decide +kernel
theorem dksX0_drag_1 : cX0_drag.data.toList.drop 23 = dktX0_drag_1 := dk_seg dksX0_drag_0 23 rfl rfl
theorem dksX0_drag_2 : cX0_drag.data.toList.drop 45 = dktX0_drag_2 := dk_seg dksX0_drag_1 22 rfl rfl
theorem dksX0_drag_3 : cX0_drag.data.toList.drop 67 = dktX0_drag_3 := dk_seg dksX0_drag_2 22 rfl rfl
theorem dX0_drag_0 : decode cX0_drag 0 = .ok (.iload_n 1, 1) := dk_27 (dk_at dksX0_drag_0 0 rfl rfl)
theorem dX0_drag_1 : decode cX0_drag 1 = .ok (.invokestatic 71, 3) := dk_184 0 71 (dk_at dksX0_drag_0 1 rfl rfl)
theorem dX0_drag_4 : decode cX0_drag 4 = .ok (.ifCond .eq 13, 3) := dk_153 0 13 (dk_at dksX0_drag_0 4 rfl rfl)
theorem dX0_drag_7 : decode cX0_drag 7 = .ok (.iload_n 2, 1) := dk_28 (dk_at dksX0_drag_0 7 rfl rfl)
theorem dX0_drag_8 : decode cX0_drag 8 = .ok (.iconst 1, 1) := dk_4 (dk_at dksX0_drag_0 8 rfl rfl)
theorem dX0_drag_9 : decode cX0_drag 9 = .ok (.bipush 7, 2) := dk_16 7 (dk_at dksX0_drag_0 9 rfl rfl)
theorem dX0_drag_11 : decode cX0_drag 11 = .ok (.invokestatic 3, 3) := dk_184 0 3 (dk_at dksX0_drag_0 11 rfl rfl)
theorem dX0_drag_14 : decode cX0_drag 14 = .ok (.ifCond .ne 5, 3) := dk_154 0 5 (dk_at dksX0_drag_0 14 rfl rfl)
theorem dX0_drag_17 : decode cX0_drag 17 = .ok (.iconst (-1), 1) := dk_2 (dk_at dksX0_drag_0 17 rfl rfl)
theorem dX0_drag_18 : decode cX0_drag 18 = .ok (.ireturn, 1) := dk_172 (dk_at dksX0_drag_0 18 rfl rfl)
theorem dX0_drag_19 : decode cX0_drag 19 = .ok (.aload_n 0, 1) := dk_42 (dk_at dksX0_drag_0 19 rfl rfl)
theorem dX0_drag_20 : decode cX0_drag 20 = .ok (.getfield 26, 3) := dk_180 0 26 (dk_at dksX0_drag_0 20 rfl rfl)
theorem dX0_drag_23 : decode cX0_drag 23 = .ok (.getfield 271, 3) := dk_180 1 15 (dk_at dksX0_drag_1 0 rfl rfl)
theorem dX0_drag_26 : decode cX0_drag 26 = .ok (.invokeinterface 242 1, 5) := by decide +kernel
theorem dX0_drag_31 : decode cX0_drag 31 = .ok (.iconst 4, 1) := dk_7 (dk_at dksX0_drag_1 8 rfl rfl)
theorem dX0_drag_32 : decode cX0_drag 32 = .ok (.if_icmp .ne 6, 3) := dk_160 0 6 (dk_at dksX0_drag_1 9 rfl rfl)
theorem dX0_drag_35 : decode cX0_drag 35 = .ok (.bipush (-3), 2) := dk_16 253 (dk_at dksX0_drag_1 12 rfl rfl)
theorem dX0_drag_37 : decode cX0_drag 37 = .ok (.ireturn, 1) := dk_172 (dk_at dksX0_drag_1 14 rfl rfl)
theorem dX0_drag_38 : decode cX0_drag 38 = .ok (.aload_n 0, 1) := dk_42 (dk_at dksX0_drag_1 15 rfl rfl)
theorem dX0_drag_39 : decode cX0_drag 39 = .ok (.getfield 26, 3) := dk_180 0 26 (dk_at dksX0_drag_1 16 rfl rfl)
theorem dX0_drag_42 : decode cX0_drag 42 = .ok (.getfield 271, 3) := dk_180 1 15 (dk_at dksX0_drag_1 19 rfl rfl)
theorem dX0_drag_45 : decode cX0_drag 45 = .ok (.new 274, 3) := dk_187 1 18 (dk_at dksX0_drag_2 0 rfl rfl)
theorem dX0_drag_48 : decode cX0_drag 48 = .ok (.dup, 1) := dk_89 (dk_at dksX0_drag_2 3 rfl rfl)
theorem dX0_drag_49 : decode cX0_drag 49 = .ok (.iload_n 1, 1) := dk_27 (dk_at dksX0_drag_2 4 rfl rfl)
theorem dX0_drag_50 : decode cX0_drag 50 = .ok (.iload_n 2, 1) := dk_28 (dk_at dksX0_drag_2 5 rfl rfl)
theorem dX0_drag_51 : decode cX0_drag 51 = .ok (.invokespecial 276, 3) := dk_183 1 20 (dk_at dksX0_drag_2 6 rfl rfl)
theorem dX0_drag_54 : decode cX0_drag 54 = .ok (.invokeinterface 252 2, 5) := by decide +kernel
theorem dX0_drag_59 : decode cX0_drag 59 = .ok (.pop, 1) := dk_87 (dk_at dksX0_drag_2 14 rfl rfl)
theorem dX0_drag_60 : decode cX0_drag 60 = .ok (.aload_n 0, 1) := dk_42 (dk_at dksX0_drag_2 15 rfl rfl)
theorem dX0_drag_61 : decode cX0_drag 61 = .ok (.getfield 26, 3) := dk_180 0 26 (dk_at dksX0_drag_2 16 rfl rfl)
theorem dX0_drag_64 : decode cX0_drag 64 = .ok (.getfield 271, 3) := dk_180 1 15 (dk_at dksX0_drag_2 19 rfl rfl)
theorem dX0_drag_67 : decode cX0_drag 67 = .ok (.invokeinterface 242 1, 5) := by decide +kernel
theorem dX0_drag_72 : decode cX0_drag 72 = .ok (.iconst 1, 1) := dk_4 (dk_at dksX0_drag_3 5 rfl rfl)
theorem dX0_drag_73 : decode cX0_drag 73 = .ok (.isub, 1) := dk_100 (dk_at dksX0_drag_3 6 rfl rfl)
theorem dX0_drag_74 : decode cX0_drag 74 = .ok (.ireturn, 1) := dk_172 (dk_at dksX0_drag_3 7 rfl rfl)
abbrev cX0_clear : ByteArray := prog_1_method_40_code
def yX0_clear : MethodName := ⟨RX0, "clear", "()I"⟩
def dkwX0_clear_2 : List UInt8 := [185, 1, 23, 1, 0, 27, 172]
abbrev dktX0_clear_2 : List UInt8 := dkwX0_clear_2 ++ []
def dkwX0_clear_1 : List UInt8 := [96, 60, 42, 180, 0, 26, 180, 0, 238, 185, 1, 23, 1, 0, 42, 180, 0, 26, 180, 1, 15]
abbrev dktX0_clear_1 : List UInt8 := dkwX0_clear_1 ++ dktX0_clear_2
def dkwX0_clear_0 : List UInt8 := [42, 180, 0, 26, 180, 0, 238, 185, 0, 242, 1, 0, 42, 180, 0, 26, 180, 1, 15, 185, 0, 242, 1, 0]
abbrev dktX0_clear_0 : List UInt8 := dkwX0_clear_0 ++ dktX0_clear_1
theorem dksX0_clear_0 : cX0_clear.data.toList.drop 0 = dktX0_clear_0 := by decide +kernel
theorem dksX0_clear_1 : cX0_clear.data.toList.drop 24 = dktX0_clear_1 := dk_seg dksX0_clear_0 24 rfl rfl
theorem dksX0_clear_2 : cX0_clear.data.toList.drop 45 = dktX0_clear_2 := dk_seg dksX0_clear_1 21 rfl rfl
theorem dX0_clear_0 : decode cX0_clear 0 = .ok (.aload_n 0, 1) := dk_42 (dk_at dksX0_clear_0 0 rfl rfl)
theorem dX0_clear_1 : decode cX0_clear 1 = .ok (.getfield 26, 3) := dk_180 0 26 (dk_at dksX0_clear_0 1 rfl rfl)
theorem dX0_clear_4 : decode cX0_clear 4 = .ok (.getfield 238, 3) := dk_180 0 238 (dk_at dksX0_clear_0 4 rfl rfl)
theorem dX0_clear_7 : decode cX0_clear 7 = .ok (.invokeinterface 242 1, 5) := by decide +kernel
theorem dX0_clear_12 : decode cX0_clear 12 = .ok (.aload_n 0, 1) := dk_42 (dk_at dksX0_clear_0 12 rfl rfl)
theorem dX0_clear_13 : decode cX0_clear 13 = .ok (.getfield 26, 3) := dk_180 0 26 (dk_at dksX0_clear_0 13 rfl rfl)
theorem dX0_clear_16 : decode cX0_clear 16 = .ok (.getfield 271, 3) := dk_180 1 15 (dk_at dksX0_clear_0 16 rfl rfl)
theorem dX0_clear_19 : decode cX0_clear 19 = .ok (.invokeinterface 242 1, 5) := by decide +kernel
theorem dX0_clear_24 : decode cX0_clear 24 = .ok (.iadd, 1) := dk_96 (dk_at dksX0_clear_1 0 rfl rfl)
theorem dX0_clear_25 : decode cX0_clear 25 = .ok (.istore_n 1, 1) := dk_60 (dk_at dksX0_clear_1 1 rfl rfl)
theorem dX0_clear_26 : decode cX0_clear 26 = .ok (.aload_n 0, 1) := dk_42 (dk_at dksX0_clear_1 2 rfl rfl)
theorem dX0_clear_27 : decode cX0_clear 27 = .ok (.getfield 26, 3) := dk_180 0 26 (dk_at dksX0_clear_1 3 rfl rfl)
theorem dX0_clear_30 : decode cX0_clear 30 = .ok (.getfield 238, 3) := dk_180 0 238 (dk_at dksX0_clear_1 6 rfl rfl)
theorem dX0_clear_33 : decode cX0_clear 33 = .ok (.invokeinterface 279 1, 5) := by decide +kernel
theorem dX0_clear_38 : decode cX0_clear 38 = .ok (.aload_n 0, 1) := dk_42 (dk_at dksX0_clear_1 14 rfl rfl)
theorem dX0_clear_39 : decode cX0_clear 39 = .ok (.getfield 26, 3) := dk_180 0 26 (dk_at dksX0_clear_1 15 rfl rfl)
theorem dX0_clear_42 : decode cX0_clear 42 = .ok (.getfield 271, 3) := dk_180 1 15 (dk_at dksX0_clear_1 18 rfl rfl)
theorem dX0_clear_45 : decode cX0_clear 45 = .ok (.invokeinterface 279 1, 5) := by decide +kernel
theorem dX0_clear_50 : decode cX0_clear 50 = .ok (.iload_n 1, 1) := dk_27 (dk_at dksX0_clear_2 5 rfl rfl)
theorem dX0_clear_51 : decode cX0_clear 51 = .ok (.ireturn, 1) := dk_172 (dk_at dksX0_clear_2 6 rfl rfl)
abbrev cX0_odds : ByteArray := prog_1_method_43_code
def yX0_odds : MethodName := ⟨RX0, "odds", "(II)J"⟩
def dkwX0_odds_2 : List UInt8 := [47, 33, 28, 184, 1, 41, 173]
abbrev dktX0_odds_2 : List UInt8 := dkwX0_odds_2 ++ []
def dkwX0_odds_1 : List UInt8 := [180, 0, 54, 182, 1, 35, 66, 33, 9, 148, 154, 0, 9, 20, 1, 39, 167, 0, 14, 42, 180, 0, 54, 27]
abbrev dktX0_odds_1 : List UInt8 := dkwX0_odds_1 ++ dktX0_odds_2
def dkwX0_odds_0 : List UInt8 := [27, 184, 0, 71, 153, 0, 12, 28, 3, 4, 184, 0, 3, 154, 0, 7, 20, 1, 33, 173, 42, 2, 42]
abbrev dktX0_odds_0 : List UInt8 := dkwX0_odds_0 ++ dktX0_odds_1
theorem dksX0_odds_0 : cX0_odds.data.toList.drop 0 = dktX0_odds_0 := by decide +kernel
theorem dksX0_odds_1 : cX0_odds.data.toList.drop 23 = dktX0_odds_1 := dk_seg dksX0_odds_0 23 rfl rfl
theorem dksX0_odds_2 : cX0_odds.data.toList.drop 47 = dktX0_odds_2 := dk_seg dksX0_odds_1 24 rfl rfl
theorem dX0_odds_0 : decode cX0_odds 0 = .ok (.iload_n 1, 1) := dk_27 (dk_at dksX0_odds_0 0 rfl rfl)
theorem dX0_odds_1 : decode cX0_odds 1 = .ok (.invokestatic 71, 3) := dk_184 0 71 (dk_at dksX0_odds_0 1 rfl rfl)
theorem dX0_odds_4 : decode cX0_odds 4 = .ok (.ifCond .eq 12, 3) := dk_153 0 12 (dk_at dksX0_odds_0 4 rfl rfl)
theorem dX0_odds_7 : decode cX0_odds 7 = .ok (.iload_n 2, 1) := dk_28 (dk_at dksX0_odds_0 7 rfl rfl)
theorem dX0_odds_8 : decode cX0_odds 8 = .ok (.iconst 0, 1) := dk_3 (dk_at dksX0_odds_0 8 rfl rfl)
theorem dX0_odds_9 : decode cX0_odds 9 = .ok (.iconst 1, 1) := dk_4 (dk_at dksX0_odds_0 9 rfl rfl)
theorem dX0_odds_10 : decode cX0_odds 10 = .ok (.invokestatic 3, 3) := dk_184 0 3 (dk_at dksX0_odds_0 10 rfl rfl)
theorem dX0_odds_13 : decode cX0_odds 13 = .ok (.ifCond .ne 7, 3) := dk_154 0 7 (dk_at dksX0_odds_0 13 rfl rfl)
theorem dX0_odds_16 : decode cX0_odds 16 = .ok (.ldc2_w 289, 3) := dk_20 1 33 (dk_at dksX0_odds_0 16 rfl rfl)
theorem dX0_odds_19 : decode cX0_odds 19 = .ok (.lreturn, 1) := dk_173 (dk_at dksX0_odds_0 19 rfl rfl)
theorem dX0_odds_20 : decode cX0_odds 20 = .ok (.aload_n 0, 1) := dk_42 (dk_at dksX0_odds_0 20 rfl rfl)
theorem dX0_odds_21 : decode cX0_odds 21 = .ok (.iconst (-1), 1) := dk_2 (dk_at dksX0_odds_0 21 rfl rfl)
theorem dX0_odds_22 : decode cX0_odds 22 = .ok (.aload_n 0, 1) := dk_42 (dk_at dksX0_odds_0 22 rfl rfl)
theorem dX0_odds_23 : decode cX0_odds 23 = .ok (.getfield 54, 3) := dk_180 0 54 (dk_at dksX0_odds_1 0 rfl rfl)
theorem dX0_odds_26 : decode cX0_odds 26 = .ok (.invokevirtual 291, 3) := dk_182 1 35 (dk_at dksX0_odds_1 3 rfl rfl)
theorem dX0_odds_29 : decode cX0_odds 29 = .ok (.lstore_n 3, 1) := dk_66 (dk_at dksX0_odds_1 6 rfl rfl)
theorem dX0_odds_30 : decode cX0_odds 30 = .ok (.lload_n 3, 1) := dk_33 (dk_at dksX0_odds_1 7 rfl rfl)
theorem dX0_odds_31 : decode cX0_odds 31 = .ok (.lconst 0, 1) := dk_9 (dk_at dksX0_odds_1 8 rfl rfl)
theorem dX0_odds_32 : decode cX0_odds 32 = .ok (.lcmp, 1) := dk_148 (dk_at dksX0_odds_1 9 rfl rfl)
theorem dX0_odds_33 : decode cX0_odds 33 = .ok (.ifCond .ne 9, 3) := dk_154 0 9 (dk_at dksX0_odds_1 10 rfl rfl)
theorem dX0_odds_36 : decode cX0_odds 36 = .ok (.ldc2_w 295, 3) := dk_20 1 39 (dk_at dksX0_odds_1 13 rfl rfl)
theorem dX0_odds_39 : decode cX0_odds 39 = .ok (.goto 14, 3) := dk_167 0 14 (dk_at dksX0_odds_1 16 rfl rfl)
theorem dX0_odds_42 : decode cX0_odds 42 = .ok (.aload_n 0, 1) := dk_42 (dk_at dksX0_odds_1 19 rfl rfl)
theorem dX0_odds_43 : decode cX0_odds 43 = .ok (.getfield 54, 3) := dk_180 0 54 (dk_at dksX0_odds_1 20 rfl rfl)
theorem dX0_odds_46 : decode cX0_odds 46 = .ok (.iload_n 1, 1) := dk_27 (dk_at dksX0_odds_1 23 rfl rfl)
theorem dX0_odds_47 : decode cX0_odds 47 = .ok (.laload, 1) := dk_47 (dk_at dksX0_odds_2 0 rfl rfl)
theorem dX0_odds_48 : decode cX0_odds 48 = .ok (.lload_n 3, 1) := dk_33 (dk_at dksX0_odds_2 1 rfl rfl)
theorem dX0_odds_49 : decode cX0_odds 49 = .ok (.iload_n 2, 1) := dk_28 (dk_at dksX0_odds_2 2 rfl rfl)
theorem dX0_odds_50 : decode cX0_odds 50 = .ok (.invokestatic 297, 3) := dk_184 1 41 (dk_at dksX0_odds_2 3 rfl rfl)
theorem dX0_odds_53 : decode cX0_odds 53 = .ok (.lreturn, 1) := dk_173 (dk_at dksX0_odds_2 6 rfl rfl)
abbrev cX0_findOdds : ByteArray := prog_1_method_41_code
def yX0_findOdds : MethodName := ⟨RX0, "findOdds", "(I[J)J"⟩
def dkwX0_findOdds_8 : List UInt8 := [22, 7, 97, 55, 4, 132, 6, 1, 167, 255, 82, 22, 4, 173]
abbrev dktX0_findOdds_8 : List UInt8 := dkwX0_findOdds_8 ++ []
def dkwX0_findOdds_7 : List UInt8 := [21, 6, 182, 1, 30, 133, 105, 55, 7, 132, 9, 1, 167, 255, 198, 44, 21, 6, 22, 7, 80, 22, 4]
abbrev dktX0_findOdds_7 : List UInt8 := dkwX0_findOdds_7 ++ dktX0_findOdds_8
def dkwX0_findOdds_6 : List UInt8 := [160, 0, 7, 10, 167, 0, 26, 42, 180, 0, 26, 180, 1, 15, 21, 9, 185, 1, 7, 2, 0, 192, 1, 18]
abbrev dktX0_findOdds_6 : List UInt8 := dkwX0_findOdds_6 ++ dktX0_findOdds_7
def dkwX0_findOdds_5 : List UInt8 := [54, 9, 21, 9, 42, 180, 0, 26, 180, 1, 15, 185, 0, 242, 1, 0, 162, 0, 47, 22, 7, 27, 16, 12]
abbrev dktX0_findOdds_5 : List UInt8 := dkwX0_findOdds_5 ++ dktX0_findOdds_6
def dkwX0_findOdds_4 : List UInt8 := [192, 0, 247, 42, 180, 0, 26, 21, 6, 182, 1, 11, 133, 105, 55, 7, 132, 9, 1, 167, 255, 184, 3]
abbrev dktX0_findOdds_4 : List UInt8 := dkwX0_findOdds_4 ++ dktX0_findOdds_5
def dkwX0_findOdds_3 : List UInt8 := [21, 9, 96, 160, 0, 7, 10, 167, 0, 30, 42, 180, 0, 26, 180, 0, 238, 21, 9, 185, 1, 7, 2, 0]
abbrev dktX0_findOdds_3 : List UInt8 := dkwX0_findOdds_3 ++ dktX0_findOdds_4
def dkwX0_findOdds_2 : List UInt8 := [180, 0, 238, 185, 0, 242, 1, 0, 162, 0, 61, 22, 7, 9, 148, 158, 0, 54, 22, 7, 27, 16, 8]
abbrev dktX0_findOdds_2 : List UInt8 := dkwX0_findOdds_2 ++ dktX0_findOdds_3
def dkwX0_findOdds_1 : List UInt8 := [16, 100, 162, 0, 173, 45, 180, 1, 29, 21, 6, 47, 55, 7, 3, 54, 9, 21, 9, 42, 180, 0, 26]
abbrev dktX0_findOdds_1 : List UInt8 := dkwX0_findOdds_1 ++ dktX0_findOdds_2
def dkwX0_findOdds_0 : List UInt8 := [187, 1, 26, 89, 183, 1, 28, 78, 42, 45, 27, 3, 182, 0, 192, 9, 55, 4, 3, 54, 6, 21, 6]
abbrev dktX0_findOdds_0 : List UInt8 := dkwX0_findOdds_0 ++ dktX0_findOdds_1
theorem dksX0_findOdds_0 : cX0_findOdds.data.toList.drop 0 = dktX0_findOdds_0 := by decide +kernel
theorem dksX0_findOdds_1 : cX0_findOdds.data.toList.drop 23 = dktX0_findOdds_1 := dk_seg dksX0_findOdds_0 23 rfl rfl
theorem dksX0_findOdds_2 : cX0_findOdds.data.toList.drop 46 = dktX0_findOdds_2 := dk_seg dksX0_findOdds_1 23 rfl rfl
theorem dksX0_findOdds_3 : cX0_findOdds.data.toList.drop 69 = dktX0_findOdds_3 := dk_seg dksX0_findOdds_2 23 rfl rfl
theorem dksX0_findOdds_4 : cX0_findOdds.data.toList.drop 93 = dktX0_findOdds_4 := dk_seg dksX0_findOdds_3 24 rfl rfl
theorem dksX0_findOdds_5 : cX0_findOdds.data.toList.drop 116 = dktX0_findOdds_5 := dk_seg dksX0_findOdds_4 23 rfl rfl
theorem dksX0_findOdds_6 : cX0_findOdds.data.toList.drop 140 = dktX0_findOdds_6 := dk_seg dksX0_findOdds_5 24 rfl rfl
theorem dksX0_findOdds_7 : cX0_findOdds.data.toList.drop 164 = dktX0_findOdds_7 := dk_seg dksX0_findOdds_6 24 rfl rfl
theorem dksX0_findOdds_8 : cX0_findOdds.data.toList.drop 187 = dktX0_findOdds_8 := dk_seg dksX0_findOdds_7 23 rfl rfl
theorem dX0_findOdds_0 : decode cX0_findOdds 0 = .ok (.new 282, 3) := dk_187 1 26 (dk_at dksX0_findOdds_0 0 rfl rfl)
theorem dX0_findOdds_3 : decode cX0_findOdds 3 = .ok (.dup, 1) := dk_89 (dk_at dksX0_findOdds_0 3 rfl rfl)
theorem dX0_findOdds_4 : decode cX0_findOdds 4 = .ok (.invokespecial 284, 3) := dk_183 1 28 (dk_at dksX0_findOdds_0 4 rfl rfl)
theorem dX0_findOdds_7 : decode cX0_findOdds 7 = .ok (.astore_n 3, 1) := dk_78 (dk_at dksX0_findOdds_0 7 rfl rfl)
theorem dX0_findOdds_8 : decode cX0_findOdds 8 = .ok (.aload_n 0, 1) := dk_42 (dk_at dksX0_findOdds_0 8 rfl rfl)
theorem dX0_findOdds_9 : decode cX0_findOdds 9 = .ok (.aload_n 3, 1) := dk_45 (dk_at dksX0_findOdds_0 9 rfl rfl)
theorem dX0_findOdds_10 : decode cX0_findOdds 10 = .ok (.iload_n 1, 1) := dk_27 (dk_at dksX0_findOdds_0 10 rfl rfl)
theorem dX0_findOdds_11 : decode cX0_findOdds 11 = .ok (.iconst 0, 1) := dk_3 (dk_at dksX0_findOdds_0 11 rfl rfl)
theorem dX0_findOdds_12 : decode cX0_findOdds 12 = .ok (.invokevirtual 192, 3) := dk_182 0 192 (dk_at dksX0_findOdds_0 12 rfl rfl)
theorem dX0_findOdds_15 : decode cX0_findOdds 15 = .ok (.lconst 0, 1) := dk_9 (dk_at dksX0_findOdds_0 15 rfl rfl)
theorem dX0_findOdds_16 : decode cX0_findOdds 16 = .ok (.lstore 4, 2) := dk_55 4 (dk_at dksX0_findOdds_0 16 rfl rfl)
theorem dX0_findOdds_18 : decode cX0_findOdds 18 = .ok (.iconst 0, 1) := dk_3 (dk_at dksX0_findOdds_0 18 rfl rfl)
theorem dX0_findOdds_19 : decode cX0_findOdds 19 = .ok (.istore 6, 2) := dk_54 6 (dk_at dksX0_findOdds_0 19 rfl rfl)
theorem dX0_findOdds_21 : decode cX0_findOdds 21 = .ok (.iload 6, 2) := dk_21 6 (dk_at dksX0_findOdds_0 21 rfl rfl)
theorem dX0_findOdds_23 : decode cX0_findOdds 23 = .ok (.bipush 100, 2) := dk_16 100 (dk_at dksX0_findOdds_1 0 rfl rfl)
theorem dX0_findOdds_25 : decode cX0_findOdds 25 = .ok (.if_icmp .ge 173, 3) := dk_162 0 173 (dk_at dksX0_findOdds_1 2 rfl rfl)
theorem dX0_findOdds_28 : decode cX0_findOdds 28 = .ok (.aload_n 3, 1) := dk_45 (dk_at dksX0_findOdds_1 5 rfl rfl)
theorem dX0_findOdds_29 : decode cX0_findOdds 29 = .ok (.getfield 285, 3) := dk_180 1 29 (dk_at dksX0_findOdds_1 6 rfl rfl)
theorem dX0_findOdds_32 : decode cX0_findOdds 32 = .ok (.iload 6, 2) := dk_21 6 (dk_at dksX0_findOdds_1 9 rfl rfl)
theorem dX0_findOdds_34 : decode cX0_findOdds 34 = .ok (.laload, 1) := dk_47 (dk_at dksX0_findOdds_1 11 rfl rfl)
theorem dX0_findOdds_35 : decode cX0_findOdds 35 = .ok (.lstore 7, 2) := dk_55 7 (dk_at dksX0_findOdds_1 12 rfl rfl)
theorem dX0_findOdds_37 : decode cX0_findOdds 37 = .ok (.iconst 0, 1) := dk_3 (dk_at dksX0_findOdds_1 14 rfl rfl)
theorem dX0_findOdds_38 : decode cX0_findOdds 38 = .ok (.istore 9, 2) := dk_54 9 (dk_at dksX0_findOdds_1 15 rfl rfl)
theorem dX0_findOdds_40 : decode cX0_findOdds 40 = .ok (.iload 9, 2) := dk_21 9 (dk_at dksX0_findOdds_1 17 rfl rfl)
theorem dX0_findOdds_42 : decode cX0_findOdds 42 = .ok (.aload_n 0, 1) := dk_42 (dk_at dksX0_findOdds_1 19 rfl rfl)
theorem dX0_findOdds_43 : decode cX0_findOdds 43 = .ok (.getfield 26, 3) := dk_180 0 26 (dk_at dksX0_findOdds_1 20 rfl rfl)
theorem dX0_findOdds_46 : decode cX0_findOdds 46 = .ok (.getfield 238, 3) := dk_180 0 238 (dk_at dksX0_findOdds_2 0 rfl rfl)
theorem dX0_findOdds_49 : decode cX0_findOdds 49 = .ok (.invokeinterface 242 1, 5) := by decide +kernel
theorem dX0_findOdds_54 : decode cX0_findOdds 54 = .ok (.if_icmp .ge 61, 3) := dk_162 0 61 (dk_at dksX0_findOdds_2 8 rfl rfl)
theorem dX0_findOdds_57 : decode cX0_findOdds 57 = .ok (.lload 7, 2) := dk_22 7 (dk_at dksX0_findOdds_2 11 rfl rfl)
theorem dX0_findOdds_59 : decode cX0_findOdds 59 = .ok (.lconst 0, 1) := dk_9 (dk_at dksX0_findOdds_2 13 rfl rfl)
theorem dX0_findOdds_60 : decode cX0_findOdds 60 = .ok (.lcmp, 1) := dk_148 (dk_at dksX0_findOdds_2 14 rfl rfl)
theorem dX0_findOdds_61 : decode cX0_findOdds 61 = .ok (.ifCond .le 54, 3) := dk_158 0 54 (dk_at dksX0_findOdds_2 15 rfl rfl)
theorem dX0_findOdds_64 : decode cX0_findOdds 64 = .ok (.lload 7, 2) := dk_22 7 (dk_at dksX0_findOdds_2 18 rfl rfl)
theorem dX0_findOdds_66 : decode cX0_findOdds 66 = .ok (.iload_n 1, 1) := dk_27 (dk_at dksX0_findOdds_2 20 rfl rfl)
theorem dX0_findOdds_67 : decode cX0_findOdds 67 = .ok (.bipush 8, 2) := dk_16 8 (dk_at dksX0_findOdds_2 21 rfl rfl)
theorem dX0_findOdds_69 : decode cX0_findOdds 69 = .ok (.iload 9, 2) := dk_21 9 (dk_at dksX0_findOdds_3 0 rfl rfl)
theorem dX0_findOdds_71 : decode cX0_findOdds 71 = .ok (.iadd, 1) := dk_96 (dk_at dksX0_findOdds_3 2 rfl rfl)
theorem dX0_findOdds_72 : decode cX0_findOdds 72 = .ok (.if_icmp .ne 7, 3) := dk_160 0 7 (dk_at dksX0_findOdds_3 3 rfl rfl)
theorem dX0_findOdds_75 : decode cX0_findOdds 75 = .ok (.lconst 1, 1) := dk_10 (dk_at dksX0_findOdds_3 6 rfl rfl)
theorem dX0_findOdds_76 : decode cX0_findOdds 76 = .ok (.goto 30, 3) := dk_167 0 30 (dk_at dksX0_findOdds_3 7 rfl rfl)
theorem dX0_findOdds_79 : decode cX0_findOdds 79 = .ok (.aload_n 0, 1) := dk_42 (dk_at dksX0_findOdds_3 10 rfl rfl)
theorem dX0_findOdds_80 : decode cX0_findOdds 80 = .ok (.getfield 26, 3) := dk_180 0 26 (dk_at dksX0_findOdds_3 11 rfl rfl)
theorem dX0_findOdds_83 : decode cX0_findOdds 83 = .ok (.getfield 238, 3) := dk_180 0 238 (dk_at dksX0_findOdds_3 14 rfl rfl)
theorem dX0_findOdds_86 : decode cX0_findOdds 86 = .ok (.iload 9, 2) := dk_21 9 (dk_at dksX0_findOdds_3 17 rfl rfl)
theorem dX0_findOdds_88 : decode cX0_findOdds 88 = .ok (.invokeinterface 263 2, 5) := by decide +kernel
theorem dX0_findOdds_93 : decode cX0_findOdds 93 = .ok (.checkcast 247, 3) := dk_192 0 247 (dk_at dksX0_findOdds_4 0 rfl rfl)
theorem dX0_findOdds_96 : decode cX0_findOdds 96 = .ok (.aload_n 0, 1) := dk_42 (dk_at dksX0_findOdds_4 3 rfl rfl)
theorem dX0_findOdds_97 : decode cX0_findOdds 97 = .ok (.getfield 26, 3) := dk_180 0 26 (dk_at dksX0_findOdds_4 4 rfl rfl)
theorem dX0_findOdds_100 : decode cX0_findOdds 100 = .ok (.iload 6, 2) := dk_21 6 (dk_at dksX0_findOdds_4 7 rfl rfl)
theorem dX0_findOdds_102 : decode cX0_findOdds 102 = .ok (.invokevirtual 267, 3) := dk_182 1 11 (dk_at dksX0_findOdds_4 9 rfl rfl)
theorem dX0_findOdds_105 : decode cX0_findOdds 105 = .ok (.i2l, 1) := dk_133 (dk_at dksX0_findOdds_4 12 rfl rfl)
theorem dX0_findOdds_106 : decode cX0_findOdds 106 = .ok (.lmul, 1) := dk_105 (dk_at dksX0_findOdds_4 13 rfl rfl)
theorem dX0_findOdds_107 : decode cX0_findOdds 107 = .ok (.lstore 7, 2) := dk_55 7 (dk_at dksX0_findOdds_4 14 rfl rfl)
theorem dX0_findOdds_109 : decode cX0_findOdds 109 = .ok (.iinc 9 1, 3) := dk_132 9 1 (dk_at dksX0_findOdds_4 16 rfl rfl)
theorem dX0_findOdds_112 : decode cX0_findOdds 112 = .ok (.goto (-72), 3) := dk_167 255 184 (dk_at dksX0_findOdds_4 19 rfl rfl)
theorem dX0_findOdds_115 : decode cX0_findOdds 115 = .ok (.iconst 0, 1) := dk_3 (dk_at dksX0_findOdds_4 22 rfl rfl)
theorem dX0_findOdds_116 : decode cX0_findOdds 116 = .ok (.istore 9, 2) := dk_54 9 (dk_at dksX0_findOdds_5 0 rfl rfl)
theorem dX0_findOdds_118 : decode cX0_findOdds 118 = .ok (.iload 9, 2) := dk_21 9 (dk_at dksX0_findOdds_5 2 rfl rfl)
theorem dX0_findOdds_120 : decode cX0_findOdds 120 = .ok (.aload_n 0, 1) := dk_42 (dk_at dksX0_findOdds_5 4 rfl rfl)
theorem dX0_findOdds_121 : decode cX0_findOdds 121 = .ok (.getfield 26, 3) := dk_180 0 26 (dk_at dksX0_findOdds_5 5 rfl rfl)
theorem dX0_findOdds_124 : decode cX0_findOdds 124 = .ok (.getfield 271, 3) := dk_180 1 15 (dk_at dksX0_findOdds_5 8 rfl rfl)
theorem dX0_findOdds_127 : decode cX0_findOdds 127 = .ok (.invokeinterface 242 1, 5) := by decide +kernel
theorem dX0_findOdds_132 : decode cX0_findOdds 132 = .ok (.if_icmp .ge 47, 3) := dk_162 0 47 (dk_at dksX0_findOdds_5 16 rfl rfl)
theorem dX0_findOdds_135 : decode cX0_findOdds 135 = .ok (.lload 7, 2) := dk_22 7 (dk_at dksX0_findOdds_5 19 rfl rfl)
theorem dX0_findOdds_137 : decode cX0_findOdds 137 = .ok (.iload_n 1, 1) := dk_27 (dk_at dksX0_findOdds_5 21 rfl rfl)
theorem dX0_findOdds_138 : decode cX0_findOdds 138 = .ok (.bipush 12, 2) := dk_16 12 (dk_at dksX0_findOdds_5 22 rfl rfl)
theorem dX0_findOdds_140 : decode cX0_findOdds 140 = .ok (.if_icmp .ne 7, 3) := dk_160 0 7 (dk_at dksX0_findOdds_6 0 rfl rfl)
theorem dX0_findOdds_143 : decode cX0_findOdds 143 = .ok (.lconst 1, 1) := dk_10 (dk_at dksX0_findOdds_6 3 rfl rfl)
theorem dX0_findOdds_144 : decode cX0_findOdds 144 = .ok (.goto 26, 3) := dk_167 0 26 (dk_at dksX0_findOdds_6 4 rfl rfl)
theorem dX0_findOdds_147 : decode cX0_findOdds 147 = .ok (.aload_n 0, 1) := dk_42 (dk_at dksX0_findOdds_6 7 rfl rfl)
theorem dX0_findOdds_148 : decode cX0_findOdds 148 = .ok (.getfield 26, 3) := dk_180 0 26 (dk_at dksX0_findOdds_6 8 rfl rfl)
theorem dX0_findOdds_151 : decode cX0_findOdds 151 = .ok (.getfield 271, 3) := dk_180 1 15 (dk_at dksX0_findOdds_6 11 rfl rfl)
theorem dX0_findOdds_154 : decode cX0_findOdds 154 = .ok (.iload 9, 2) := dk_21 9 (dk_at dksX0_findOdds_6 14 rfl rfl)
theorem dX0_findOdds_156 : decode cX0_findOdds 156 = .ok (.invokeinterface 263 2, 5) := by decide +kernel
theorem dX0_findOdds_161 : decode cX0_findOdds 161 = .ok (.checkcast 274, 3) := dk_192 1 18 (dk_at dksX0_findOdds_6 21 rfl rfl)
theorem dX0_findOdds_164 : decode cX0_findOdds 164 = .ok (.iload 6, 2) := dk_21 6 (dk_at dksX0_findOdds_7 0 rfl rfl)
theorem dX0_findOdds_166 : decode cX0_findOdds 166 = .ok (.invokevirtual 286, 3) := dk_182 1 30 (dk_at dksX0_findOdds_7 2 rfl rfl)
theorem dX0_findOdds_169 : decode cX0_findOdds 169 = .ok (.i2l, 1) := dk_133 (dk_at dksX0_findOdds_7 5 rfl rfl)
theorem dX0_findOdds_170 : decode cX0_findOdds 170 = .ok (.lmul, 1) := dk_105 (dk_at dksX0_findOdds_7 6 rfl rfl)
theorem dX0_findOdds_171 : decode cX0_findOdds 171 = .ok (.lstore 7, 2) := dk_55 7 (dk_at dksX0_findOdds_7 7 rfl rfl)
theorem dX0_findOdds_173 : decode cX0_findOdds 173 = .ok (.iinc 9 1, 3) := dk_132 9 1 (dk_at dksX0_findOdds_7 9 rfl rfl)
theorem dX0_findOdds_176 : decode cX0_findOdds 176 = .ok (.goto (-58), 3) := dk_167 255 198 (dk_at dksX0_findOdds_7 12 rfl rfl)
theorem dX0_findOdds_179 : decode cX0_findOdds 179 = .ok (.aload_n 2, 1) := dk_44 (dk_at dksX0_findOdds_7 15 rfl rfl)
theorem dX0_findOdds_180 : decode cX0_findOdds 180 = .ok (.iload 6, 2) := dk_21 6 (dk_at dksX0_findOdds_7 16 rfl rfl)
theorem dX0_findOdds_182 : decode cX0_findOdds 182 = .ok (.lload 7, 2) := dk_22 7 (dk_at dksX0_findOdds_7 18 rfl rfl)
theorem dX0_findOdds_184 : decode cX0_findOdds 184 = .ok (.lastore, 1) := dk_80 (dk_at dksX0_findOdds_7 20 rfl rfl)
theorem dX0_findOdds_185 : decode cX0_findOdds 185 = .ok (.lload 4, 2) := dk_22 4 (dk_at dksX0_findOdds_7 21 rfl rfl)
theorem dX0_findOdds_187 : decode cX0_findOdds 187 = .ok (.lload 7, 2) := dk_22 7 (dk_at dksX0_findOdds_8 0 rfl rfl)
theorem dX0_findOdds_189 : decode cX0_findOdds 189 = .ok (.ladd, 1) := dk_97 (dk_at dksX0_findOdds_8 2 rfl rfl)
theorem dX0_findOdds_190 : decode cX0_findOdds 190 = .ok (.lstore 4, 2) := dk_55 4 (dk_at dksX0_findOdds_8 3 rfl rfl)
theorem dX0_findOdds_192 : decode cX0_findOdds 192 = .ok (.iinc 6 1, 3) := dk_132 6 1 (dk_at dksX0_findOdds_8 5 rfl rfl)
theorem dX0_findOdds_195 : decode cX0_findOdds 195 = .ok (.goto (-174), 3) := dk_167 255 82 (dk_at dksX0_findOdds_8 8 rfl rfl)
theorem dX0_findOdds_198 : decode cX0_findOdds 198 = .ok (.lload 4, 2) := dk_22 4 (dk_at dksX0_findOdds_8 11 rfl rfl)
theorem dX0_findOdds_200 : decode cX0_findOdds 200 = .ok (.lreturn, 1) := dk_173 (dk_at dksX0_findOdds_8 13 rfl rfl)
abbrev cX0_part : ByteArray := prog_1_method_42_code
def yX0_part : MethodName := ⟨RX0, "part", "(JJI)J"⟩
def dkwX0_part_1 : List UInt8 := [22, 9, 55, 7, 167, 255, 234, 21, 4, 154, 0, 7, 30, 167, 0, 4, 32, 22, 5, 109, 173]
abbrev dktX0_part_1 : List UInt8 := dkwX0_part_1 ++ []
def dkwX0_part_0 : List UInt8 := [30, 55, 5, 32, 55, 7, 22, 7, 9, 148, 153, 0, 21, 22, 5, 22, 7, 113, 55, 9, 22, 7, 55, 5]
abbrev dktX0_part_0 : List UInt8 := dkwX0_part_0 ++ dktX0_part_1
theorem dksX0_part_0 : cX0_part.data.toList.drop 0 = dktX0_part_0 := by decide +kernel
theorem dksX0_part_1 : cX0_part.data.toList.drop 24 = dktX0_part_1 := dk_seg dksX0_part_0 24 rfl rfl
theorem dX0_part_0 : decode cX0_part 0 = .ok (.lload_n 0, 1) := dk_30 (dk_at dksX0_part_0 0 rfl rfl)
theorem dX0_part_1 : decode cX0_part 1 = .ok (.lstore 5, 2) := dk_55 5 (dk_at dksX0_part_0 1 rfl rfl)
theorem dX0_part_3 : decode cX0_part 3 = .ok (.lload_n 2, 1) := dk_32 (dk_at dksX0_part_0 3 rfl rfl)
theorem dX0_part_4 : decode cX0_part 4 = .ok (.lstore 7, 2) := dk_55 7 (dk_at dksX0_part_0 4 rfl rfl)
theorem dX0_part_6 : decode cX0_part 6 = .ok (.lload 7, 2) := dk_22 7 (dk_at dksX0_part_0 6 rfl rfl)
theorem dX0_part_8 : decode cX0_part 8 = .ok (.lconst 0, 1) := dk_9 (dk_at dksX0_part_0 8 rfl rfl)
theorem dX0_part_9 : decode cX0_part 9 = .ok (.lcmp, 1) := dk_148 (dk_at dksX0_part_0 9 rfl rfl)
theorem dX0_part_10 : decode cX0_part 10 = .ok (.ifCond .eq 21, 3) := dk_153 0 21 (dk_at dksX0_part_0 10 rfl rfl)
theorem dX0_part_13 : decode cX0_part 13 = .ok (.lload 5, 2) := dk_22 5 (dk_at dksX0_part_0 13 rfl rfl)
theorem dX0_part_15 : decode cX0_part 15 = .ok (.lload 7, 2) := dk_22 7 (dk_at dksX0_part_0 15 rfl rfl)
theorem dX0_part_17 : decode cX0_part 17 = .ok (.lrem, 1) := dk_113 (dk_at dksX0_part_0 17 rfl rfl)
theorem dX0_part_18 : decode cX0_part 18 = .ok (.lstore 9, 2) := dk_55 9 (dk_at dksX0_part_0 18 rfl rfl)
theorem dX0_part_20 : decode cX0_part 20 = .ok (.lload 7, 2) := dk_22 7 (dk_at dksX0_part_0 20 rfl rfl)
theorem dX0_part_22 : decode cX0_part 22 = .ok (.lstore 5, 2) := dk_55 5 (dk_at dksX0_part_0 22 rfl rfl)
theorem dX0_part_24 : decode cX0_part 24 = .ok (.lload 9, 2) := dk_22 9 (dk_at dksX0_part_1 0 rfl rfl)
theorem dX0_part_26 : decode cX0_part 26 = .ok (.lstore 7, 2) := dk_55 7 (dk_at dksX0_part_1 2 rfl rfl)
theorem dX0_part_28 : decode cX0_part 28 = .ok (.goto (-22), 3) := dk_167 255 234 (dk_at dksX0_part_1 4 rfl rfl)
theorem dX0_part_31 : decode cX0_part 31 = .ok (.iload 4, 2) := dk_21 4 (dk_at dksX0_part_1 7 rfl rfl)
theorem dX0_part_33 : decode cX0_part 33 = .ok (.ifCond .ne 7, 3) := dk_154 0 7 (dk_at dksX0_part_1 9 rfl rfl)
theorem dX0_part_36 : decode cX0_part 36 = .ok (.lload_n 0, 1) := dk_30 (dk_at dksX0_part_1 12 rfl rfl)
theorem dX0_part_37 : decode cX0_part 37 = .ok (.goto 4, 3) := dk_167 0 4 (dk_at dksX0_part_1 13 rfl rfl)
theorem dX0_part_40 : decode cX0_part 40 = .ok (.lload_n 2, 1) := dk_32 (dk_at dksX0_part_1 16 rfl rfl)
theorem dX0_part_41 : decode cX0_part 41 = .ok (.lload 5, 2) := dk_22 5 (dk_at dksX0_part_1 17 rfl rfl)
theorem dX0_part_43 : decode cX0_part 43 = .ok (.ldiv, 1) := dk_109 (dk_at dksX0_part_1 19 rfl rfl)
theorem dX0_part_44 : decode cX0_part 44 = .ok (.lreturn, 1) := dk_173 (dk_at dksX0_part_1 20 rfl rfl)
abbrev cX0_where : ByteArray := prog_1_method_44_code
def yX0_where : MethodName := ⟨RX0, "where", "(I)I"⟩
def dkwX0_where_2 : List UInt8 := [158, 0, 9, 4, 29, 120, 167, 0, 4, 3, 128, 61, 132, 3, 1, 167, 255, 221, 28, 172]
abbrev dktX0_where_2 : List UInt8 := dkwX0_where_2 ++ []
def dkwX0_where_1 : List UInt8 := [3, 62, 29, 16, 10, 162, 0, 35, 28, 42, 180, 0, 54, 16, 10, 27, 104, 29, 96, 47, 9, 148]
abbrev dktX0_where_1 : List UInt8 := dkwX0_where_1 ++ dktX0_where_2
def dkwX0_where_0 : List UInt8 := [27, 3, 16, 9, 184, 0, 3, 154, 0, 5, 2, 172, 42, 2, 42, 180, 0, 54, 182, 1, 35, 88, 3, 61]
abbrev dktX0_where_0 : List UInt8 := dkwX0_where_0 ++ dktX0_where_1
theorem dksX0_where_0 : cX0_where.data.toList.drop 0 = dktX0_where_0 := by decide +kernel
theorem dksX0_where_1 : cX0_where.data.toList.drop 24 = dktX0_where_1 := dk_seg dksX0_where_0 24 rfl rfl
theorem dksX0_where_2 : cX0_where.data.toList.drop 46 = dktX0_where_2 := dk_seg dksX0_where_1 22 rfl rfl
theorem dX0_where_0 : decode cX0_where 0 = .ok (.iload_n 1, 1) := dk_27 (dk_at dksX0_where_0 0 rfl rfl)
theorem dX0_where_1 : decode cX0_where 1 = .ok (.iconst 0, 1) := dk_3 (dk_at dksX0_where_0 1 rfl rfl)
theorem dX0_where_2 : decode cX0_where 2 = .ok (.bipush 9, 2) := dk_16 9 (dk_at dksX0_where_0 2 rfl rfl)
theorem dX0_where_4 : decode cX0_where 4 = .ok (.invokestatic 3, 3) := dk_184 0 3 (dk_at dksX0_where_0 4 rfl rfl)
theorem dX0_where_7 : decode cX0_where 7 = .ok (.ifCond .ne 5, 3) := dk_154 0 5 (dk_at dksX0_where_0 7 rfl rfl)
theorem dX0_where_10 : decode cX0_where 10 = .ok (.iconst (-1), 1) := dk_2 (dk_at dksX0_where_0 10 rfl rfl)
theorem dX0_where_11 : decode cX0_where 11 = .ok (.ireturn, 1) := dk_172 (dk_at dksX0_where_0 11 rfl rfl)
theorem dX0_where_12 : decode cX0_where 12 = .ok (.aload_n 0, 1) := dk_42 (dk_at dksX0_where_0 12 rfl rfl)
theorem dX0_where_13 : decode cX0_where 13 = .ok (.iconst (-1), 1) := dk_2 (dk_at dksX0_where_0 13 rfl rfl)
theorem dX0_where_14 : decode cX0_where 14 = .ok (.aload_n 0, 1) := dk_42 (dk_at dksX0_where_0 14 rfl rfl)
theorem dX0_where_15 : decode cX0_where 15 = .ok (.getfield 54, 3) := dk_180 0 54 (dk_at dksX0_where_0 15 rfl rfl)
theorem dX0_where_18 : decode cX0_where 18 = .ok (.invokevirtual 291, 3) := dk_182 1 35 (dk_at dksX0_where_0 18 rfl rfl)
theorem dX0_where_21 : decode cX0_where 21 = .ok (.pop2, 1) := dk_88 (dk_at dksX0_where_0 21 rfl rfl)
theorem dX0_where_22 : decode cX0_where 22 = .ok (.iconst 0, 1) := dk_3 (dk_at dksX0_where_0 22 rfl rfl)
theorem dX0_where_23 : decode cX0_where 23 = .ok (.istore_n 2, 1) := dk_61 (dk_at dksX0_where_0 23 rfl rfl)
theorem dX0_where_24 : decode cX0_where 24 = .ok (.iconst 0, 1) := dk_3 (dk_at dksX0_where_1 0 rfl rfl)
theorem dX0_where_25 : decode cX0_where 25 = .ok (.istore_n 3, 1) := dk_62 (dk_at dksX0_where_1 1 rfl rfl)
theorem dX0_where_26 : decode cX0_where 26 = .ok (.iload_n 3, 1) := dk_29 (dk_at dksX0_where_1 2 rfl rfl)
theorem dX0_where_27 : decode cX0_where 27 = .ok (.bipush 10, 2) := dk_16 10 (dk_at dksX0_where_1 3 rfl rfl)
theorem dX0_where_29 : decode cX0_where 29 = .ok (.if_icmp .ge 35, 3) := dk_162 0 35 (dk_at dksX0_where_1 5 rfl rfl)
theorem dX0_where_32 : decode cX0_where 32 = .ok (.iload_n 2, 1) := dk_28 (dk_at dksX0_where_1 8 rfl rfl)
theorem dX0_where_33 : decode cX0_where 33 = .ok (.aload_n 0, 1) := dk_42 (dk_at dksX0_where_1 9 rfl rfl)
theorem dX0_where_34 : decode cX0_where 34 = .ok (.getfield 54, 3) := dk_180 0 54 (dk_at dksX0_where_1 10 rfl rfl)
theorem dX0_where_37 : decode cX0_where 37 = .ok (.bipush 10, 2) := dk_16 10 (dk_at dksX0_where_1 13 rfl rfl)
theorem dX0_where_39 : decode cX0_where 39 = .ok (.iload_n 1, 1) := dk_27 (dk_at dksX0_where_1 15 rfl rfl)
theorem dX0_where_40 : decode cX0_where 40 = .ok (.imul, 1) := dk_104 (dk_at dksX0_where_1 16 rfl rfl)
theorem dX0_where_41 : decode cX0_where 41 = .ok (.iload_n 3, 1) := dk_29 (dk_at dksX0_where_1 17 rfl rfl)
theorem dX0_where_42 : decode cX0_where 42 = .ok (.iadd, 1) := dk_96 (dk_at dksX0_where_1 18 rfl rfl)
theorem dX0_where_43 : decode cX0_where 43 = .ok (.laload, 1) := dk_47 (dk_at dksX0_where_1 19 rfl rfl)
theorem dX0_where_44 : decode cX0_where 44 = .ok (.lconst 0, 1) := dk_9 (dk_at dksX0_where_1 20 rfl rfl)
theorem dX0_where_45 : decode cX0_where 45 = .ok (.lcmp, 1) := dk_148 (dk_at dksX0_where_1 21 rfl rfl)
theorem dX0_where_46 : decode cX0_where 46 = .ok (.ifCond .le 9, 3) := dk_158 0 9 (dk_at dksX0_where_2 0 rfl rfl)
theorem dX0_where_49 : decode cX0_where 49 = .ok (.iconst 1, 1) := dk_4 (dk_at dksX0_where_2 3 rfl rfl)
theorem dX0_where_50 : decode cX0_where 50 = .ok (.iload_n 3, 1) := dk_29 (dk_at dksX0_where_2 4 rfl rfl)
theorem dX0_where_51 : decode cX0_where 51 = .ok (.ishl, 1) := dk_120 (dk_at dksX0_where_2 5 rfl rfl)
theorem dX0_where_52 : decode cX0_where 52 = .ok (.goto 4, 3) := dk_167 0 4 (dk_at dksX0_where_2 6 rfl rfl)
theorem dX0_where_55 : decode cX0_where 55 = .ok (.iconst 0, 1) := dk_3 (dk_at dksX0_where_2 9 rfl rfl)
theorem dX0_where_56 : decode cX0_where 56 = .ok (.ior, 1) := dk_128 (dk_at dksX0_where_2 10 rfl rfl)
theorem dX0_where_57 : decode cX0_where 57 = .ok (.istore_n 2, 1) := dk_61 (dk_at dksX0_where_2 11 rfl rfl)
theorem dX0_where_58 : decode cX0_where 58 = .ok (.iinc 3 1, 3) := dk_132 3 1 (dk_at dksX0_where_2 12 rfl rfl)
theorem dX0_where_61 : decode cX0_where 61 = .ok (.goto (-35), 3) := dk_167 255 221 (dk_at dksX0_where_2 15 rfl rfl)
theorem dX0_where_64 : decode cX0_where 64 = .ok (.iload_n 2, 1) := dk_28 (dk_at dksX0_where_2 18 rfl rfl)
theorem dX0_where_65 : decode cX0_where 65 = .ok (.ireturn, 1) := dk_172 (dk_at dksX0_where_2 19 rfl rfl)
abbrev cX0_count : ByteArray := prog_1_method_45_code
def yX0_count : MethodName := ⟨RX0, "count", "(I)I"⟩
def dkwX0_count_8 : List UInt8 := [167, 255, 228, 28, 172, 2, 172]
abbrev dktX0_count_8 : List UInt8 := dkwX0_count_8 ++ []
def dkwX0_count_7 : List UInt8 := [28, 42, 180, 0, 54, 29, 47, 9, 148, 158, 0, 7, 4, 167, 0, 4, 3, 96, 61, 132, 3, 1]
abbrev dktX0_count_7 : List UInt8 := dkwX0_count_7 ++ dktX0_count_8
def dkwX0_count_6 : List UInt8 := [185, 0, 242, 1, 0, 172, 42, 2, 42, 180, 0, 54, 182, 1, 35, 88, 3, 62, 29, 16, 100, 162, 0, 28]
abbrev dktX0_count_6 : List UInt8 := dkwX0_count_6 ++ dktX0_count_7
def dkwX0_count_5 : List UInt8 := [28, 172, 42, 180, 0, 26, 180, 0, 238, 185, 0, 242, 1, 0, 172, 42, 180, 0, 26, 180, 1, 15]
abbrev dktX0_count_5 : List UInt8 := dkwX0_count_5 ++ dktX0_count_6
def dkwX0_count_4 : List UInt8 := [180, 0, 26, 180, 0, 81, 29, 46, 158, 0, 7, 4, 167, 0, 4, 3, 96, 61, 132, 3, 1, 167, 255, 227]
abbrev dktX0_count_4 : List UInt8 := dkwX0_count_4 ++ dktX0_count_5
def dkwX0_count_3 : List UInt8 := [167, 0, 4, 3, 96, 61, 132, 3, 1, 167, 255, 227, 28, 172, 4, 62, 29, 16, 6, 163, 0, 29, 28, 42]
abbrev dktX0_count_3 : List UInt8 := dkwX0_count_3 ++ dktX0_count_4
def dkwX0_count_2 : List UInt8 := [4, 62, 29, 16, 6, 163, 0, 29, 28, 42, 180, 0, 26, 180, 0, 84, 29, 46, 155, 0, 7, 4]
abbrev dktX0_count_2 : List UInt8 := dkwX0_count_2 ++ dktX0_count_3
def dkwX0_count_1 : List UInt8 := [170, 0, 0, 0, 176, 0, 0, 0, 0, 0, 0, 0, 4, 0, 0, 0, 33, 0, 0, 0, 69, 0, 0, 0, 105, 0, 0, 0, 118, 0, 0, 0, 131]
abbrev dktX0_count_1 : List UInt8 := dkwX0_count_1 ++ dktX0_count_2
def dkwX0_count_0 : List UInt8 := [3, 61, 27]
abbrev dktX0_count_0 : List UInt8 := dkwX0_count_0 ++ dktX0_count_1
theorem dksX0_count_0 : cX0_count.data.toList.drop 0 = dktX0_count_0 := by decide +kernel
theorem dksX0_count_1 : cX0_count.data.toList.drop 3 = dktX0_count_1 := dk_seg dksX0_count_0 3 rfl rfl
theorem dksX0_count_2 : cX0_count.data.toList.drop 36 = dktX0_count_2 := dk_seg dksX0_count_1 33 rfl rfl
theorem dksX0_count_3 : cX0_count.data.toList.drop 58 = dktX0_count_3 := dk_seg dksX0_count_2 22 rfl rfl
theorem dksX0_count_4 : cX0_count.data.toList.drop 82 = dktX0_count_4 := dk_seg dksX0_count_3 24 rfl rfl
theorem dksX0_count_5 : cX0_count.data.toList.drop 106 = dktX0_count_5 := dk_seg dksX0_count_4 24 rfl rfl
theorem dksX0_count_6 : cX0_count.data.toList.drop 128 = dktX0_count_6 := dk_seg dksX0_count_5 22 rfl rfl
theorem dksX0_count_7 : cX0_count.data.toList.drop 152 = dktX0_count_7 := dk_seg dksX0_count_6 24 rfl rfl
theorem dksX0_count_8 : cX0_count.data.toList.drop 174 = dktX0_count_8 := dk_seg dksX0_count_7 22 rfl rfl
theorem dX0_count_0 : decode cX0_count 0 = .ok (.iconst 0, 1) := dk_3 (dk_at dksX0_count_0 0 rfl rfl)
theorem dX0_count_1 : decode cX0_count 1 = .ok (.istore_n 2, 1) := dk_61 (dk_at dksX0_count_0 1 rfl rfl)
theorem dX0_count_2 : decode cX0_count 2 = .ok (.iload_n 1, 1) := dk_27 (dk_at dksX0_count_0 2 rfl rfl)
theorem dX0_count_3 : decode cX0_count 3 = .ok (.tableswitch 176 0 4 #[33, 69, 105, 118, 131], 33) := by decide +kernel
theorem dX0_count_36 : decode cX0_count 36 = .ok (.iconst 1, 1) := dk_4 (dk_at dksX0_count_2 0 rfl rfl)
theorem dX0_count_37 : decode cX0_count 37 = .ok (.istore_n 3, 1) := dk_62 (dk_at dksX0_count_2 1 rfl rfl)
theorem dX0_count_38 : decode cX0_count 38 = .ok (.iload_n 3, 1) := dk_29 (dk_at dksX0_count_2 2 rfl rfl)
theorem dX0_count_39 : decode cX0_count 39 = .ok (.bipush 6, 2) := dk_16 6 (dk_at dksX0_count_2 3 rfl rfl)
theorem dX0_count_41 : decode cX0_count 41 = .ok (.if_icmp .gt 29, 3) := dk_163 0 29 (dk_at dksX0_count_2 5 rfl rfl)
theorem dX0_count_44 : decode cX0_count 44 = .ok (.iload_n 2, 1) := dk_28 (dk_at dksX0_count_2 8 rfl rfl)
theorem dX0_count_45 : decode cX0_count 45 = .ok (.aload_n 0, 1) := dk_42 (dk_at dksX0_count_2 9 rfl rfl)
theorem dX0_count_46 : decode cX0_count 46 = .ok (.getfield 26, 3) := dk_180 0 26 (dk_at dksX0_count_2 10 rfl rfl)
theorem dX0_count_49 : decode cX0_count 49 = .ok (.getfield 84, 3) := dk_180 0 84 (dk_at dksX0_count_2 13 rfl rfl)
theorem dX0_count_52 : decode cX0_count 52 = .ok (.iload_n 3, 1) := dk_29 (dk_at dksX0_count_2 16 rfl rfl)
theorem dX0_count_53 : decode cX0_count 53 = .ok (.iaload, 1) := dk_46 (dk_at dksX0_count_2 17 rfl rfl)
theorem dX0_count_54 : decode cX0_count 54 = .ok (.ifCond .lt 7, 3) := dk_155 0 7 (dk_at dksX0_count_2 18 rfl rfl)
theorem dX0_count_57 : decode cX0_count 57 = .ok (.iconst 1, 1) := dk_4 (dk_at dksX0_count_2 21 rfl rfl)
theorem dX0_count_58 : decode cX0_count 58 = .ok (.goto 4, 3) := dk_167 0 4 (dk_at dksX0_count_3 0 rfl rfl)
theorem dX0_count_61 : decode cX0_count 61 = .ok (.iconst 0, 1) := dk_3 (dk_at dksX0_count_3 3 rfl rfl)
theorem dX0_count_62 : decode cX0_count 62 = .ok (.iadd, 1) := dk_96 (dk_at dksX0_count_3 4 rfl rfl)
theorem dX0_count_63 : decode cX0_count 63 = .ok (.istore_n 2, 1) := dk_61 (dk_at dksX0_count_3 5 rfl rfl)
theorem dX0_count_64 : decode cX0_count 64 = .ok (.iinc 3 1, 3) := dk_132 3 1 (dk_at dksX0_count_3 6 rfl rfl)
theorem dX0_count_67 : decode cX0_count 67 = .ok (.goto (-29), 3) := dk_167 255 227 (dk_at dksX0_count_3 9 rfl rfl)
theorem dX0_count_70 : decode cX0_count 70 = .ok (.iload_n 2, 1) := dk_28 (dk_at dksX0_count_3 12 rfl rfl)
theorem dX0_count_71 : decode cX0_count 71 = .ok (.ireturn, 1) := dk_172 (dk_at dksX0_count_3 13 rfl rfl)
theorem dX0_count_72 : decode cX0_count 72 = .ok (.iconst 1, 1) := dk_4 (dk_at dksX0_count_3 14 rfl rfl)
theorem dX0_count_73 : decode cX0_count 73 = .ok (.istore_n 3, 1) := dk_62 (dk_at dksX0_count_3 15 rfl rfl)
theorem dX0_count_74 : decode cX0_count 74 = .ok (.iload_n 3, 1) := dk_29 (dk_at dksX0_count_3 16 rfl rfl)
theorem dX0_count_75 : decode cX0_count 75 = .ok (.bipush 6, 2) := dk_16 6 (dk_at dksX0_count_3 17 rfl rfl)
theorem dX0_count_77 : decode cX0_count 77 = .ok (.if_icmp .gt 29, 3) := dk_163 0 29 (dk_at dksX0_count_3 19 rfl rfl)
theorem dX0_count_80 : decode cX0_count 80 = .ok (.iload_n 2, 1) := dk_28 (dk_at dksX0_count_3 22 rfl rfl)
theorem dX0_count_81 : decode cX0_count 81 = .ok (.aload_n 0, 1) := dk_42 (dk_at dksX0_count_3 23 rfl rfl)
theorem dX0_count_82 : decode cX0_count 82 = .ok (.getfield 26, 3) := dk_180 0 26 (dk_at dksX0_count_4 0 rfl rfl)
theorem dX0_count_85 : decode cX0_count 85 = .ok (.getfield 81, 3) := dk_180 0 81 (dk_at dksX0_count_4 3 rfl rfl)
theorem dX0_count_88 : decode cX0_count 88 = .ok (.iload_n 3, 1) := dk_29 (dk_at dksX0_count_4 6 rfl rfl)
theorem dX0_count_89 : decode cX0_count 89 = .ok (.iaload, 1) := dk_46 (dk_at dksX0_count_4 7 rfl rfl)
theorem dX0_count_90 : decode cX0_count 90 = .ok (.ifCond .le 7, 3) := dk_158 0 7 (dk_at dksX0_count_4 8 rfl rfl)
theorem dX0_count_93 : decode cX0_count 93 = .ok (.iconst 1, 1) := dk_4 (dk_at dksX0_count_4 11 rfl rfl)
theorem dX0_count_94 : decode cX0_count 94 = .ok (.goto 4, 3) := dk_167 0 4 (dk_at dksX0_count_4 12 rfl rfl)
theorem dX0_count_97 : decode cX0_count 97 = .ok (.iconst 0, 1) := dk_3 (dk_at dksX0_count_4 15 rfl rfl)
theorem dX0_count_98 : decode cX0_count 98 = .ok (.iadd, 1) := dk_96 (dk_at dksX0_count_4 16 rfl rfl)
theorem dX0_count_99 : decode cX0_count 99 = .ok (.istore_n 2, 1) := dk_61 (dk_at dksX0_count_4 17 rfl rfl)
theorem dX0_count_100 : decode cX0_count 100 = .ok (.iinc 3 1, 3) := dk_132 3 1 (dk_at dksX0_count_4 18 rfl rfl)
theorem dX0_count_103 : decode cX0_count 103 = .ok (.goto (-29), 3) := dk_167 255 227 (dk_at dksX0_count_4 21 rfl rfl)
theorem dX0_count_106 : decode cX0_count 106 = .ok (.iload_n 2, 1) := dk_28 (dk_at dksX0_count_5 0 rfl rfl)
theorem dX0_count_107 : decode cX0_count 107 = .ok (.ireturn, 1) := dk_172 (dk_at dksX0_count_5 1 rfl rfl)
theorem dX0_count_108 : decode cX0_count 108 = .ok (.aload_n 0, 1) := dk_42 (dk_at dksX0_count_5 2 rfl rfl)
theorem dX0_count_109 : decode cX0_count 109 = .ok (.getfield 26, 3) := dk_180 0 26 (dk_at dksX0_count_5 3 rfl rfl)
theorem dX0_count_112 : decode cX0_count 112 = .ok (.getfield 238, 3) := dk_180 0 238 (dk_at dksX0_count_5 6 rfl rfl)
theorem dX0_count_115 : decode cX0_count 115 = .ok (.invokeinterface 242 1, 5) := by decide +kernel
theorem dX0_count_120 : decode cX0_count 120 = .ok (.ireturn, 1) := dk_172 (dk_at dksX0_count_5 14 rfl rfl)
theorem dX0_count_121 : decode cX0_count 121 = .ok (.aload_n 0, 1) := dk_42 (dk_at dksX0_count_5 15 rfl rfl)
theorem dX0_count_122 : decode cX0_count 122 = .ok (.getfield 26, 3) := dk_180 0 26 (dk_at dksX0_count_5 16 rfl rfl)
theorem dX0_count_125 : decode cX0_count 125 = .ok (.getfield 271, 3) := dk_180 1 15 (dk_at dksX0_count_5 19 rfl rfl)
theorem dX0_count_128 : decode cX0_count 128 = .ok (.invokeinterface 242 1, 5) := by decide +kernel
theorem dX0_count_133 : decode cX0_count 133 = .ok (.ireturn, 1) := dk_172 (dk_at dksX0_count_6 5 rfl rfl)
theorem dX0_count_134 : decode cX0_count 134 = .ok (.aload_n 0, 1) := dk_42 (dk_at dksX0_count_6 6 rfl rfl)
theorem dX0_count_135 : decode cX0_count 135 = .ok (.iconst (-1), 1) := dk_2 (dk_at dksX0_count_6 7 rfl rfl)
theorem dX0_count_136 : decode cX0_count 136 = .ok (.aload_n 0, 1) := dk_42 (dk_at dksX0_count_6 8 rfl rfl)
theorem dX0_count_137 : decode cX0_count 137 = .ok (.getfield 54, 3) := dk_180 0 54 (dk_at dksX0_count_6 9 rfl rfl)
theorem dX0_count_140 : decode cX0_count 140 = .ok (.invokevirtual 291, 3) := dk_182 1 35 (dk_at dksX0_count_6 12 rfl rfl)
theorem dX0_count_143 : decode cX0_count 143 = .ok (.pop2, 1) := dk_88 (dk_at dksX0_count_6 15 rfl rfl)
theorem dX0_count_144 : decode cX0_count 144 = .ok (.iconst 0, 1) := dk_3 (dk_at dksX0_count_6 16 rfl rfl)
theorem dX0_count_145 : decode cX0_count 145 = .ok (.istore_n 3, 1) := dk_62 (dk_at dksX0_count_6 17 rfl rfl)
theorem dX0_count_146 : decode cX0_count 146 = .ok (.iload_n 3, 1) := dk_29 (dk_at dksX0_count_6 18 rfl rfl)
theorem dX0_count_147 : decode cX0_count 147 = .ok (.bipush 100, 2) := dk_16 100 (dk_at dksX0_count_6 19 rfl rfl)
theorem dX0_count_149 : decode cX0_count 149 = .ok (.if_icmp .ge 28, 3) := dk_162 0 28 (dk_at dksX0_count_6 21 rfl rfl)
theorem dX0_count_152 : decode cX0_count 152 = .ok (.iload_n 2, 1) := dk_28 (dk_at dksX0_count_7 0 rfl rfl)
theorem dX0_count_153 : decode cX0_count 153 = .ok (.aload_n 0, 1) := dk_42 (dk_at dksX0_count_7 1 rfl rfl)
theorem dX0_count_154 : decode cX0_count 154 = .ok (.getfield 54, 3) := dk_180 0 54 (dk_at dksX0_count_7 2 rfl rfl)
theorem dX0_count_157 : decode cX0_count 157 = .ok (.iload_n 3, 1) := dk_29 (dk_at dksX0_count_7 5 rfl rfl)
theorem dX0_count_158 : decode cX0_count 158 = .ok (.laload, 1) := dk_47 (dk_at dksX0_count_7 6 rfl rfl)
theorem dX0_count_159 : decode cX0_count 159 = .ok (.lconst 0, 1) := dk_9 (dk_at dksX0_count_7 7 rfl rfl)
theorem dX0_count_160 : decode cX0_count 160 = .ok (.lcmp, 1) := dk_148 (dk_at dksX0_count_7 8 rfl rfl)
theorem dX0_count_161 : decode cX0_count 161 = .ok (.ifCond .le 7, 3) := dk_158 0 7 (dk_at dksX0_count_7 9 rfl rfl)
theorem dX0_count_164 : decode cX0_count 164 = .ok (.iconst 1, 1) := dk_4 (dk_at dksX0_count_7 12 rfl rfl)
theorem dX0_count_165 : decode cX0_count 165 = .ok (.goto 4, 3) := dk_167 0 4 (dk_at dksX0_count_7 13 rfl rfl)
theorem dX0_count_168 : decode cX0_count 168 = .ok (.iconst 0, 1) := dk_3 (dk_at dksX0_count_7 16 rfl rfl)
theorem dX0_count_169 : decode cX0_count 169 = .ok (.iadd, 1) := dk_96 (dk_at dksX0_count_7 17 rfl rfl)
theorem dX0_count_170 : decode cX0_count 170 = .ok (.istore_n 2, 1) := dk_61 (dk_at dksX0_count_7 18 rfl rfl)
theorem dX0_count_171 : decode cX0_count 171 = .ok (.iinc 3 1, 3) := dk_132 3 1 (dk_at dksX0_count_7 19 rfl rfl)
theorem dX0_count_174 : decode cX0_count 174 = .ok (.goto (-28), 3) := dk_167 255 228 (dk_at dksX0_count_8 0 rfl rfl)
theorem dX0_count_177 : decode cX0_count 177 = .ok (.iload_n 2, 1) := dk_28 (dk_at dksX0_count_8 3 rfl rfl)
theorem dX0_count_178 : decode cX0_count 178 = .ok (.ireturn, 1) := dk_172 (dk_at dksX0_count_8 4 rfl rfl)
theorem dX0_count_179 : decode cX0_count 179 = .ok (.iconst (-1), 1) := dk_2 (dk_at dksX0_count_8 5 rfl rfl)
theorem dX0_count_180 : decode cX0_count 180 = .ok (.ireturn, 1) := dk_172 (dk_at dksX0_count_8 6 rfl rfl)
abbrev cX0_moves : ByteArray := prog_1_method_48_code
def yX0_moves : MethodName := ⟨RX0, "moves", "(I)I"⟩
def dkwX0_moves_1 : List UInt8 := [167, 0, 4, 2, 172]
abbrev dktX0_moves_1 : List UInt8 := dkwX0_moves_1 ++ []
def dkwX0_moves_0 : List UInt8 := [42, 27, 182, 1, 50, 153, 0, 20, 42, 27, 42, 2, 42, 180, 0, 54, 182, 1, 35, 182, 1, 53]
abbrev dktX0_moves_0 : List UInt8 := dkwX0_moves_0 ++ dktX0_moves_1
theorem dksX0_moves_0 : cX0_moves.data.toList.drop 0 = dktX0_moves_0 := by decide +kernel
theorem dksX0_moves_1 : cX0_moves.data.toList.drop 22 = dktX0_moves_1 := dk_seg dksX0_moves_0 22 rfl rfl
theorem dX0_moves_0 : decode cX0_moves 0 = .ok (.aload_n 0, 1) := dk_42 (dk_at dksX0_moves_0 0 rfl rfl)
theorem dX0_moves_1 : decode cX0_moves 1 = .ok (.iload_n 1, 1) := dk_27 (dk_at dksX0_moves_0 1 rfl rfl)
theorem dX0_moves_2 : decode cX0_moves 2 = .ok (.invokevirtual 306, 3) := dk_182 1 50 (dk_at dksX0_moves_0 2 rfl rfl)
theorem dX0_moves_5 : decode cX0_moves 5 = .ok (.ifCond .eq 20, 3) := dk_153 0 20 (dk_at dksX0_moves_0 5 rfl rfl)
theorem dX0_moves_8 : decode cX0_moves 8 = .ok (.aload_n 0, 1) := dk_42 (dk_at dksX0_moves_0 8 rfl rfl)
theorem dX0_moves_9 : decode cX0_moves 9 = .ok (.iload_n 1, 1) := dk_27 (dk_at dksX0_moves_0 9 rfl rfl)
theorem dX0_moves_10 : decode cX0_moves 10 = .ok (.aload_n 0, 1) := dk_42 (dk_at dksX0_moves_0 10 rfl rfl)
theorem dX0_moves_11 : decode cX0_moves 11 = .ok (.iconst (-1), 1) := dk_2 (dk_at dksX0_moves_0 11 rfl rfl)
theorem dX0_moves_12 : decode cX0_moves 12 = .ok (.aload_n 0, 1) := dk_42 (dk_at dksX0_moves_0 12 rfl rfl)
theorem dX0_moves_13 : decode cX0_moves 13 = .ok (.getfield 54, 3) := dk_180 0 54 (dk_at dksX0_moves_0 13 rfl rfl)
theorem dX0_moves_16 : decode cX0_moves 16 = .ok (.invokevirtual 291, 3) := dk_182 1 35 (dk_at dksX0_moves_0 16 rfl rfl)
theorem dX0_moves_19 : decode cX0_moves 19 = .ok (.invokevirtual 309, 3) := dk_182 1 53 (dk_at dksX0_moves_0 19 rfl rfl)
theorem dX0_moves_22 : decode cX0_moves 22 = .ok (.goto 4, 3) := dk_167 0 4 (dk_at dksX0_moves_1 0 rfl rfl)
theorem dX0_moves_25 : decode cX0_moves 25 = .ok (.iconst (-1), 1) := dk_2 (dk_at dksX0_moves_1 3 rfl rfl)
theorem dX0_moves_26 : decode cX0_moves 26 = .ok (.ireturn, 1) := dk_172 (dk_at dksX0_moves_1 4 rfl rfl)
abbrev cX0_isAssumption : ByteArray := prog_1_method_47_code
def yX0_isAssumption : MethodName := ⟨RX0, "isAssumption", "(I)Z"⟩
def dkwX0_isAssumption_1 : List UInt8 := [100, 42, 180, 0, 26, 180, 0, 238, 185, 0, 242, 1, 0, 162, 0, 7, 4, 167, 0, 4, 3, 172]
abbrev dktX0_isAssumption_1 : List UInt8 := dkwX0_isAssumption_1 ++ []
def dkwX0_isAssumption_0 : List UInt8 := [27, 3, 16, 12, 184, 0, 3, 153, 0, 37, 27, 16, 8, 16, 11, 184, 0, 3, 153, 0, 22, 27, 16, 8]
abbrev dktX0_isAssumption_0 : List UInt8 := dkwX0_isAssumption_0 ++ dktX0_isAssumption_1
theorem dksX0_isAssumption_0 : cX0_isAssumption.data.toList.drop 0 = dktX0_isAssumption_0 := by decide +kernel
theorem dksX0_isAssumption_1 : cX0_isAssumption.data.toList.drop 24 = dktX0_isAssumption_1 := dk_seg dksX0_isAssumption_0 24 rfl rfl
theorem dX0_isAssumption_0 : decode cX0_isAssumption 0 = .ok (.iload_n 1, 1) := dk_27 (dk_at dksX0_isAssumption_0 0 rfl rfl)
theorem dX0_isAssumption_1 : decode cX0_isAssumption 1 = .ok (.iconst 0, 1) := dk_3 (dk_at dksX0_isAssumption_0 1 rfl rfl)
theorem dX0_isAssumption_2 : decode cX0_isAssumption 2 = .ok (.bipush 12, 2) := dk_16 12 (dk_at dksX0_isAssumption_0 2 rfl rfl)
theorem dX0_isAssumption_4 : decode cX0_isAssumption 4 = .ok (.invokestatic 3, 3) := dk_184 0 3 (dk_at dksX0_isAssumption_0 4 rfl rfl)
theorem dX0_isAssumption_7 : decode cX0_isAssumption 7 = .ok (.ifCond .eq 37, 3) := dk_153 0 37 (dk_at dksX0_isAssumption_0 7 rfl rfl)
theorem dX0_isAssumption_10 : decode cX0_isAssumption 10 = .ok (.iload_n 1, 1) := dk_27 (dk_at dksX0_isAssumption_0 10 rfl rfl)
theorem dX0_isAssumption_11 : decode cX0_isAssumption 11 = .ok (.bipush 8, 2) := dk_16 8 (dk_at dksX0_isAssumption_0 11 rfl rfl)
theorem dX0_isAssumption_13 : decode cX0_isAssumption 13 = .ok (.bipush 11, 2) := dk_16 11 (dk_at dksX0_isAssumption_0 13 rfl rfl)
theorem dX0_isAssumption_15 : decode cX0_isAssumption 15 = .ok (.invokestatic 3, 3) := dk_184 0 3 (dk_at dksX0_isAssumption_0 15 rfl rfl)
theorem dX0_isAssumption_18 : decode cX0_isAssumption 18 = .ok (.ifCond .eq 22, 3) := dk_153 0 22 (dk_at dksX0_isAssumption_0 18 rfl rfl)
theorem dX0_isAssumption_21 : decode cX0_isAssumption 21 = .ok (.iload_n 1, 1) := dk_27 (dk_at dksX0_isAssumption_0 21 rfl rfl)
theorem dX0_isAssumption_22 : decode cX0_isAssumption 22 = .ok (.bipush 8, 2) := dk_16 8 (dk_at dksX0_isAssumption_0 22 rfl rfl)
theorem dX0_isAssumption_24 : decode cX0_isAssumption 24 = .ok (.isub, 1) := dk_100 (dk_at dksX0_isAssumption_1 0 rfl rfl)
theorem dX0_isAssumption_25 : decode cX0_isAssumption 25 = .ok (.aload_n 0, 1) := dk_42 (dk_at dksX0_isAssumption_1 1 rfl rfl)
theorem dX0_isAssumption_26 : decode cX0_isAssumption 26 = .ok (.getfield 26, 3) := dk_180 0 26 (dk_at dksX0_isAssumption_1 2 rfl rfl)
theorem dX0_isAssumption_29 : decode cX0_isAssumption 29 = .ok (.getfield 238, 3) := dk_180 0 238 (dk_at dksX0_isAssumption_1 5 rfl rfl)
theorem dX0_isAssumption_32 : decode cX0_isAssumption 32 = .ok (.invokeinterface 242 1, 5) := by decide +kernel
theorem dX0_isAssumption_37 : decode cX0_isAssumption 37 = .ok (.if_icmp .ge 7, 3) := dk_162 0 7 (dk_at dksX0_isAssumption_1 13 rfl rfl)
theorem dX0_isAssumption_40 : decode cX0_isAssumption 40 = .ok (.iconst 1, 1) := dk_4 (dk_at dksX0_isAssumption_1 16 rfl rfl)
theorem dX0_isAssumption_41 : decode cX0_isAssumption 41 = .ok (.goto 4, 3) := dk_167 0 4 (dk_at dksX0_isAssumption_1 17 rfl rfl)
theorem dX0_isAssumption_44 : decode cX0_isAssumption 44 = .ok (.iconst 0, 1) := dk_3 (dk_at dksX0_isAssumption_1 20 rfl rfl)
theorem dX0_isAssumption_45 : decode cX0_isAssumption 45 = .ok (.ireturn, 1) := dk_172 (dk_at dksX0_isAssumption_1 21 rfl rfl)
abbrev cX0_movesBy : ByteArray := prog_1_method_46_code
def yX0_movesBy : MethodName := ⟨RX0, "movesBy", "(IJ)I"⟩
def dkwX0_movesBy_4 : List UInt8 := [22, 6, 136, 172]
abbrev dktX0_movesBy_4 : List UInt8 := dkwX0_movesBy_4 ++ []
def dkwX0_movesBy_3 : List UInt8 := [21, 8, 47, 20, 1, 45, 105, 22, 4, 109, 101, 184, 1, 47, 97, 55, 6, 132, 8, 1, 167, 255, 210]
abbrev dktX0_movesBy_3 : List UInt8 := dkwX0_movesBy_3 ++ dktX0_movesBy_4
def dkwX0_movesBy_2 : List UInt8 := [16, 100, 162, 0, 45, 22, 6, 42, 180, 0, 54, 21, 8, 47, 20, 1, 45, 105, 32, 109, 42, 180, 0, 58]
abbrev dktX0_movesBy_2 : List UInt8 := dkwX0_movesBy_2 ++ dktX0_movesBy_3
def dkwX0_movesBy_1 : List UInt8 := [32, 22, 4, 148, 154, 0, 7, 3, 167, 0, 6, 17, 3, 232, 172, 9, 55, 6, 3, 54, 8, 21, 8]
abbrev dktX0_movesBy_1 : List UInt8 := dkwX0_movesBy_1 ++ dktX0_movesBy_2
def dkwX0_movesBy_0 : List UInt8 := [42, 27, 42, 180, 0, 58, 182, 1, 35, 55, 4, 32, 9, 148, 153, 0, 10, 22, 4, 9, 148, 154, 0, 18]
abbrev dktX0_movesBy_0 : List UInt8 := dkwX0_movesBy_0 ++ dktX0_movesBy_1
theorem dksX0_movesBy_0 : cX0_movesBy.data.toList.drop 0 = dktX0_movesBy_0 := by decide +kernel
theorem dksX0_movesBy_1 : cX0_movesBy.data.toList.drop 24 = dktX0_movesBy_1 := dk_seg dksX0_movesBy_0 24 rfl rfl
theorem dksX0_movesBy_2 : cX0_movesBy.data.toList.drop 47 = dktX0_movesBy_2 := dk_seg dksX0_movesBy_1 23 rfl rfl
theorem dksX0_movesBy_3 : cX0_movesBy.data.toList.drop 71 = dktX0_movesBy_3 := dk_seg dksX0_movesBy_2 24 rfl rfl
theorem dksX0_movesBy_4 : cX0_movesBy.data.toList.drop 94 = dktX0_movesBy_4 := dk_seg dksX0_movesBy_3 23 rfl rfl
theorem dX0_movesBy_0 : decode cX0_movesBy 0 = .ok (.aload_n 0, 1) := dk_42 (dk_at dksX0_movesBy_0 0 rfl rfl)
theorem dX0_movesBy_1 : decode cX0_movesBy 1 = .ok (.iload_n 1, 1) := dk_27 (dk_at dksX0_movesBy_0 1 rfl rfl)
theorem dX0_movesBy_2 : decode cX0_movesBy 2 = .ok (.aload_n 0, 1) := dk_42 (dk_at dksX0_movesBy_0 2 rfl rfl)
theorem dX0_movesBy_3 : decode cX0_movesBy 3 = .ok (.getfield 58, 3) := dk_180 0 58 (dk_at dksX0_movesBy_0 3 rfl rfl)
theorem dX0_movesBy_6 : decode cX0_movesBy 6 = .ok (.invokevirtual 291, 3) := dk_182 1 35 (dk_at dksX0_movesBy_0 6 rfl rfl)
theorem dX0_movesBy_9 : decode cX0_movesBy 9 = .ok (.lstore 4, 2) := dk_55 4 (dk_at dksX0_movesBy_0 9 rfl rfl)
theorem dX0_movesBy_11 : decode cX0_movesBy 11 = .ok (.lload_n 2, 1) := dk_32 (dk_at dksX0_movesBy_0 11 rfl rfl)
theorem dX0_movesBy_12 : decode cX0_movesBy 12 = .ok (.lconst 0, 1) := dk_9 (dk_at dksX0_movesBy_0 12 rfl rfl)
theorem dX0_movesBy_13 : decode cX0_movesBy 13 = .ok (.lcmp, 1) := dk_148 (dk_at dksX0_movesBy_0 13 rfl rfl)
theorem dX0_movesBy_14 : decode cX0_movesBy 14 = .ok (.ifCond .eq 10, 3) := dk_153 0 10 (dk_at dksX0_movesBy_0 14 rfl rfl)
theorem dX0_movesBy_17 : decode cX0_movesBy 17 = .ok (.lload 4, 2) := dk_22 4 (dk_at dksX0_movesBy_0 17 rfl rfl)
theorem dX0_movesBy_19 : decode cX0_movesBy 19 = .ok (.lconst 0, 1) := dk_9 (dk_at dksX0_movesBy_0 19 rfl rfl)
theorem dX0_movesBy_20 : decode cX0_movesBy 20 = .ok (.lcmp, 1) := dk_148 (dk_at dksX0_movesBy_0 20 rfl rfl)
theorem dX0_movesBy_21 : decode cX0_movesBy 21 = .ok (.ifCond .ne 18, 3) := dk_154 0 18 (dk_at dksX0_movesBy_0 21 rfl rfl)
theorem dX0_movesBy_24 : decode cX0_movesBy 24 = .ok (.lload_n 2, 1) := dk_32 (dk_at dksX0_movesBy_1 0 rfl rfl)
theorem dX0_movesBy_25 : decode cX0_movesBy 25 = .ok (.lload 4, 2) := dk_22 4 (dk_at dksX0_movesBy_1 1 rfl rfl)
theorem dX0_movesBy_27 : decode cX0_movesBy 27 = .ok (.lcmp, 1) := dk_148 (dk_at dksX0_movesBy_1 3 rfl rfl)
theorem dX0_movesBy_28 : decode cX0_movesBy 28 = .ok (.ifCond .ne 7, 3) := dk_154 0 7 (dk_at dksX0_movesBy_1 4 rfl rfl)
theorem dX0_movesBy_31 : decode cX0_movesBy 31 = .ok (.iconst 0, 1) := dk_3 (dk_at dksX0_movesBy_1 7 rfl rfl)
theorem dX0_movesBy_32 : decode cX0_movesBy 32 = .ok (.goto 6, 3) := dk_167 0 6 (dk_at dksX0_movesBy_1 8 rfl rfl)
theorem dX0_movesBy_35 : decode cX0_movesBy 35 = .ok (.sipush 1000, 3) := dk_17 3 232 (dk_at dksX0_movesBy_1 11 rfl rfl)
theorem dX0_movesBy_38 : decode cX0_movesBy 38 = .ok (.ireturn, 1) := dk_172 (dk_at dksX0_movesBy_1 14 rfl rfl)
theorem dX0_movesBy_39 : decode cX0_movesBy 39 = .ok (.lconst 0, 1) := dk_9 (dk_at dksX0_movesBy_1 15 rfl rfl)
theorem dX0_movesBy_40 : decode cX0_movesBy 40 = .ok (.lstore 6, 2) := dk_55 6 (dk_at dksX0_movesBy_1 16 rfl rfl)
theorem dX0_movesBy_42 : decode cX0_movesBy 42 = .ok (.iconst 0, 1) := dk_3 (dk_at dksX0_movesBy_1 18 rfl rfl)
theorem dX0_movesBy_43 : decode cX0_movesBy 43 = .ok (.istore 8, 2) := dk_54 8 (dk_at dksX0_movesBy_1 19 rfl rfl)
theorem dX0_movesBy_45 : decode cX0_movesBy 45 = .ok (.iload 8, 2) := dk_21 8 (dk_at dksX0_movesBy_1 21 rfl rfl)
theorem dX0_movesBy_47 : decode cX0_movesBy 47 = .ok (.bipush 100, 2) := dk_16 100 (dk_at dksX0_movesBy_2 0 rfl rfl)
theorem dX0_movesBy_49 : decode cX0_movesBy 49 = .ok (.if_icmp .ge 45, 3) := dk_162 0 45 (dk_at dksX0_movesBy_2 2 rfl rfl)
theorem dX0_movesBy_52 : decode cX0_movesBy 52 = .ok (.lload 6, 2) := dk_22 6 (dk_at dksX0_movesBy_2 5 rfl rfl)
theorem dX0_movesBy_54 : decode cX0_movesBy 54 = .ok (.aload_n 0, 1) := dk_42 (dk_at dksX0_movesBy_2 7 rfl rfl)
theorem dX0_movesBy_55 : decode cX0_movesBy 55 = .ok (.getfield 54, 3) := dk_180 0 54 (dk_at dksX0_movesBy_2 8 rfl rfl)
theorem dX0_movesBy_58 : decode cX0_movesBy 58 = .ok (.iload 8, 2) := dk_21 8 (dk_at dksX0_movesBy_2 11 rfl rfl)
theorem dX0_movesBy_60 : decode cX0_movesBy 60 = .ok (.laload, 1) := dk_47 (dk_at dksX0_movesBy_2 13 rfl rfl)
theorem dX0_movesBy_61 : decode cX0_movesBy 61 = .ok (.ldc2_w 301, 3) := dk_20 1 45 (dk_at dksX0_movesBy_2 14 rfl rfl)
theorem dX0_movesBy_64 : decode cX0_movesBy 64 = .ok (.lmul, 1) := dk_105 (dk_at dksX0_movesBy_2 17 rfl rfl)
theorem dX0_movesBy_65 : decode cX0_movesBy 65 = .ok (.lload_n 2, 1) := dk_32 (dk_at dksX0_movesBy_2 18 rfl rfl)
theorem dX0_movesBy_66 : decode cX0_movesBy 66 = .ok (.ldiv, 1) := dk_109 (dk_at dksX0_movesBy_2 19 rfl rfl)
theorem dX0_movesBy_67 : decode cX0_movesBy 67 = .ok (.aload_n 0, 1) := dk_42 (dk_at dksX0_movesBy_2 20 rfl rfl)
theorem dX0_movesBy_68 : decode cX0_movesBy 68 = .ok (.getfield 58, 3) := dk_180 0 58 (dk_at dksX0_movesBy_2 21 rfl rfl)
theorem dX0_movesBy_71 : decode cX0_movesBy 71 = .ok (.iload 8, 2) := dk_21 8 (dk_at dksX0_movesBy_3 0 rfl rfl)
theorem dX0_movesBy_73 : decode cX0_movesBy 73 = .ok (.laload, 1) := dk_47 (dk_at dksX0_movesBy_3 2 rfl rfl)
theorem dX0_movesBy_74 : decode cX0_movesBy 74 = .ok (.ldc2_w 301, 3) := dk_20 1 45 (dk_at dksX0_movesBy_3 3 rfl rfl)
theorem dX0_movesBy_77 : decode cX0_movesBy 77 = .ok (.lmul, 1) := dk_105 (dk_at dksX0_movesBy_3 6 rfl rfl)
theorem dX0_movesBy_78 : decode cX0_movesBy 78 = .ok (.lload 4, 2) := dk_22 4 (dk_at dksX0_movesBy_3 7 rfl rfl)
theorem dX0_movesBy_80 : decode cX0_movesBy 80 = .ok (.ldiv, 1) := dk_109 (dk_at dksX0_movesBy_3 9 rfl rfl)
theorem dX0_movesBy_81 : decode cX0_movesBy 81 = .ok (.lsub, 1) := dk_101 (dk_at dksX0_movesBy_3 10 rfl rfl)
theorem dX0_movesBy_82 : decode cX0_movesBy 82 = .ok (.invokestatic 303, 3) := dk_184 1 47 (dk_at dksX0_movesBy_3 11 rfl rfl)
theorem dX0_movesBy_85 : decode cX0_movesBy 85 = .ok (.ladd, 1) := dk_97 (dk_at dksX0_movesBy_3 14 rfl rfl)
theorem dX0_movesBy_86 : decode cX0_movesBy 86 = .ok (.lstore 6, 2) := dk_55 6 (dk_at dksX0_movesBy_3 15 rfl rfl)
theorem dX0_movesBy_88 : decode cX0_movesBy 88 = .ok (.iinc 8 1, 3) := dk_132 8 1 (dk_at dksX0_movesBy_3 17 rfl rfl)
theorem dX0_movesBy_91 : decode cX0_movesBy 91 = .ok (.goto (-46), 3) := dk_167 255 210 (dk_at dksX0_movesBy_3 20 rfl rfl)
theorem dX0_movesBy_94 : decode cX0_movesBy 94 = .ok (.lload 6, 2) := dk_22 6 (dk_at dksX0_movesBy_4 0 rfl rfl)
theorem dX0_movesBy_96 : decode cX0_movesBy 96 = .ok (.l2i, 1) := dk_136 (dk_at dksX0_movesBy_4 2 rfl rfl)
theorem dX0_movesBy_97 : decode cX0_movesBy 97 = .ok (.ireturn, 1) := dk_172 (dk_at dksX0_movesBy_4 3 rfl rfl)
abbrev cX0_most : ByteArray := prog_1_method_49_code
def yX0_most : MethodName := ⟨RX0, "most", "()I"⟩
def dkwX0_most_3 : List UInt8 := [54, 4, 132, 5, 1, 167, 255, 201, 29, 172]
abbrev dktX0_most_3 : List UInt8 := dkwX0_most_3 ++ []
def dkwX0_most_2 : List UInt8 := [54, 6, 21, 6, 21, 4, 164, 0, 8, 21, 5, 167, 0, 4, 29, 62, 21, 4, 21, 6, 184, 1, 57]
abbrev dktX0_most_2 : List UInt8 := dkwX0_most_2 ++ dktX0_most_3
def dkwX0_most_1 : List UInt8 := [162, 0, 54, 42, 21, 5, 182, 1, 50, 153, 0, 13, 42, 21, 5, 31, 182, 1, 53, 167, 0, 4, 2]
abbrev dktX0_most_1 : List UInt8 := dkwX0_most_1 ++ dktX0_most_2
def dkwX0_most_0 : List UInt8 := [42, 2, 42, 180, 0, 54, 182, 1, 35, 64, 3, 62, 2, 54, 4, 3, 54, 5, 21, 5, 16, 13]
abbrev dktX0_most_0 : List UInt8 := dkwX0_most_0 ++ dktX0_most_1
theorem dksX0_most_0 : cX0_most.data.toList.drop 0 = dktX0_most_0 := by decide +kernel
theorem dksX0_most_1 : cX0_most.data.toList.drop 22 = dktX0_most_1 := dk_seg dksX0_most_0 22 rfl rfl
theorem dksX0_most_2 : cX0_most.data.toList.drop 45 = dktX0_most_2 := dk_seg dksX0_most_1 23 rfl rfl
theorem dksX0_most_3 : cX0_most.data.toList.drop 68 = dktX0_most_3 := dk_seg dksX0_most_2 23 rfl rfl
theorem dX0_most_0 : decode cX0_most 0 = .ok (.aload_n 0, 1) := dk_42 (dk_at dksX0_most_0 0 rfl rfl)
theorem dX0_most_1 : decode cX0_most 1 = .ok (.iconst (-1), 1) := dk_2 (dk_at dksX0_most_0 1 rfl rfl)
theorem dX0_most_2 : decode cX0_most 2 = .ok (.aload_n 0, 1) := dk_42 (dk_at dksX0_most_0 2 rfl rfl)
theorem dX0_most_3 : decode cX0_most 3 = .ok (.getfield 54, 3) := dk_180 0 54 (dk_at dksX0_most_0 3 rfl rfl)
theorem dX0_most_6 : decode cX0_most 6 = .ok (.invokevirtual 291, 3) := dk_182 1 35 (dk_at dksX0_most_0 6 rfl rfl)
theorem dX0_most_9 : decode cX0_most 9 = .ok (.lstore_n 1, 1) := dk_64 (dk_at dksX0_most_0 9 rfl rfl)
theorem dX0_most_10 : decode cX0_most 10 = .ok (.iconst 0, 1) := dk_3 (dk_at dksX0_most_0 10 rfl rfl)
theorem dX0_most_11 : decode cX0_most 11 = .ok (.istore_n 3, 1) := dk_62 (dk_at dksX0_most_0 11 rfl rfl)
theorem dX0_most_12 : decode cX0_most 12 = .ok (.iconst (-1), 1) := dk_2 (dk_at dksX0_most_0 12 rfl rfl)
theorem dX0_most_13 : decode cX0_most 13 = .ok (.istore 4, 2) := dk_54 4 (dk_at dksX0_most_0 13 rfl rfl)
theorem dX0_most_15 : decode cX0_most 15 = .ok (.iconst 0, 1) := dk_3 (dk_at dksX0_most_0 15 rfl rfl)
theorem dX0_most_16 : decode cX0_most 16 = .ok (.istore 5, 2) := dk_54 5 (dk_at dksX0_most_0 16 rfl rfl)
theorem dX0_most_18 : decode cX0_most 18 = .ok (.iload 5, 2) := dk_21 5 (dk_at dksX0_most_0 18 rfl rfl)
theorem dX0_most_20 : decode cX0_most 20 = .ok (.bipush 13, 2) := dk_16 13 (dk_at dksX0_most_0 20 rfl rfl)
theorem dX0_most_22 : decode cX0_most 22 = .ok (.if_icmp .ge 54, 3) := dk_162 0 54 (dk_at dksX0_most_1 0 rfl rfl)
theorem dX0_most_25 : decode cX0_most 25 = .ok (.aload_n 0, 1) := dk_42 (dk_at dksX0_most_1 3 rfl rfl)
theorem dX0_most_26 : decode cX0_most 26 = .ok (.iload 5, 2) := dk_21 5 (dk_at dksX0_most_1 4 rfl rfl)
theorem dX0_most_28 : decode cX0_most 28 = .ok (.invokevirtual 306, 3) := dk_182 1 50 (dk_at dksX0_most_1 6 rfl rfl)
theorem dX0_most_31 : decode cX0_most 31 = .ok (.ifCond .eq 13, 3) := dk_153 0 13 (dk_at dksX0_most_1 9 rfl rfl)
theorem dX0_most_34 : decode cX0_most 34 = .ok (.aload_n 0, 1) := dk_42 (dk_at dksX0_most_1 12 rfl rfl)
theorem dX0_most_35 : decode cX0_most 35 = .ok (.iload 5, 2) := dk_21 5 (dk_at dksX0_most_1 13 rfl rfl)
theorem dX0_most_37 : decode cX0_most 37 = .ok (.lload_n 1, 1) := dk_31 (dk_at dksX0_most_1 15 rfl rfl)
theorem dX0_most_38 : decode cX0_most 38 = .ok (.invokevirtual 309, 3) := dk_182 1 53 (dk_at dksX0_most_1 16 rfl rfl)
theorem dX0_most_41 : decode cX0_most 41 = .ok (.goto 4, 3) := dk_167 0 4 (dk_at dksX0_most_1 19 rfl rfl)
theorem dX0_most_44 : decode cX0_most 44 = .ok (.iconst (-1), 1) := dk_2 (dk_at dksX0_most_1 22 rfl rfl)
theorem dX0_most_45 : decode cX0_most 45 = .ok (.istore 6, 2) := dk_54 6 (dk_at dksX0_most_2 0 rfl rfl)
theorem dX0_most_47 : decode cX0_most 47 = .ok (.iload 6, 2) := dk_21 6 (dk_at dksX0_most_2 2 rfl rfl)
theorem dX0_most_49 : decode cX0_most 49 = .ok (.iload 4, 2) := dk_21 4 (dk_at dksX0_most_2 4 rfl rfl)
theorem dX0_most_51 : decode cX0_most 51 = .ok (.if_icmp .le 8, 3) := dk_164 0 8 (dk_at dksX0_most_2 6 rfl rfl)
theorem dX0_most_54 : decode cX0_most 54 = .ok (.iload 5, 2) := dk_21 5 (dk_at dksX0_most_2 9 rfl rfl)
theorem dX0_most_56 : decode cX0_most 56 = .ok (.goto 4, 3) := dk_167 0 4 (dk_at dksX0_most_2 11 rfl rfl)
theorem dX0_most_59 : decode cX0_most 59 = .ok (.iload_n 3, 1) := dk_29 (dk_at dksX0_most_2 14 rfl rfl)
theorem dX0_most_60 : decode cX0_most 60 = .ok (.istore_n 3, 1) := dk_62 (dk_at dksX0_most_2 15 rfl rfl)
theorem dX0_most_61 : decode cX0_most 61 = .ok (.iload 4, 2) := dk_21 4 (dk_at dksX0_most_2 16 rfl rfl)
theorem dX0_most_63 : decode cX0_most 63 = .ok (.iload 6, 2) := dk_21 6 (dk_at dksX0_most_2 18 rfl rfl)
theorem dX0_most_65 : decode cX0_most 65 = .ok (.invokestatic 313, 3) := dk_184 1 57 (dk_at dksX0_most_2 20 rfl rfl)
theorem dX0_most_68 : decode cX0_most 68 = .ok (.istore 4, 2) := dk_54 4 (dk_at dksX0_most_3 0 rfl rfl)
theorem dX0_most_70 : decode cX0_most 70 = .ok (.iinc 5 1, 3) := dk_132 5 1 (dk_at dksX0_most_3 2 rfl rfl)
theorem dX0_most_73 : decode cX0_most 73 = .ok (.goto (-55), 3) := dk_167 255 201 (dk_at dksX0_most_3 5 rfl rfl)
theorem dX0_most_76 : decode cX0_most 76 = .ok (.iload_n 3, 1) := dk_29 (dk_at dksX0_most_3 8 rfl rfl)
theorem dX0_most_77 : decode cX0_most 77 = .ok (.ireturn, 1) := dk_172 (dk_at dksX0_most_3 9 rfl rfl)
abbrev cX0_next : ByteArray := prog_1_method_51_code
def yX0_next : MethodName := ⟨RX0, "next", "()I"⟩
def dkwX0_next_3 : List UInt8 := [180, 0, 26, 180, 0, 235, 28, 51, 133, 105, 148, 158, 0, 5, 28, 60, 132, 2, 1, 167, 255, 184, 27, 172]
abbrev dktX0_next_3 : List UInt8 := dkwX0_next_3 ++ []
def dkwX0_next_2 : List UInt8 := [180, 0, 54, 28, 47, 42, 180, 0, 26, 180, 0, 235, 27, 51, 133, 105, 42, 180, 0, 54, 27, 47, 42]
abbrev dktX0_next_2 : List UInt8 := dkwX0_next_2 ++ dktX0_next_3
def dkwX0_next_1 : List UInt8 := [180, 0, 54, 28, 47, 9, 148, 158, 0, 55, 42, 28, 182, 1, 63, 154, 0, 47, 27, 155, 0, 41, 42]
abbrev dktX0_next_1 : List UInt8 := dkwX0_next_1 ++ dktX0_next_2
def dkwX0_next_0 : List UInt8 := [42, 2, 42, 180, 0, 54, 182, 1, 35, 88, 16, 252, 60, 3, 61, 28, 16, 100, 162, 0, 72, 42]
abbrev dktX0_next_0 : List UInt8 := dkwX0_next_0 ++ dktX0_next_1
theorem dksX0_next_0 : cX0_next.data.toList.drop 0 = dktX0_next_0 := by decide +kernel
theorem dksX0_next_1 : cX0_next.data.toList.drop 22 = dktX0_next_1 := dk_seg dksX0_next_0 22 rfl rfl
theorem dksX0_next_2 : cX0_next.data.toList.drop 45 = dktX0_next_2 := dk_seg dksX0_next_1 23 rfl rfl
theorem dksX0_next_3 : cX0_next.data.toList.drop 68 = dktX0_next_3 := dk_seg dksX0_next_2 23 rfl rfl
theorem dX0_next_0 : decode cX0_next 0 = .ok (.aload_n 0, 1) := dk_42 (dk_at dksX0_next_0 0 rfl rfl)
theorem dX0_next_1 : decode cX0_next 1 = .ok (.iconst (-1), 1) := dk_2 (dk_at dksX0_next_0 1 rfl rfl)
theorem dX0_next_2 : decode cX0_next 2 = .ok (.aload_n 0, 1) := dk_42 (dk_at dksX0_next_0 2 rfl rfl)
theorem dX0_next_3 : decode cX0_next 3 = .ok (.getfield 54, 3) := dk_180 0 54 (dk_at dksX0_next_0 3 rfl rfl)
theorem dX0_next_6 : decode cX0_next 6 = .ok (.invokevirtual 291, 3) := dk_182 1 35 (dk_at dksX0_next_0 6 rfl rfl)
theorem dX0_next_9 : decode cX0_next 9 = .ok (.pop2, 1) := dk_88 (dk_at dksX0_next_0 9 rfl rfl)
theorem dX0_next_10 : decode cX0_next 10 = .ok (.bipush (-4), 2) := dk_16 252 (dk_at dksX0_next_0 10 rfl rfl)
theorem dX0_next_12 : decode cX0_next 12 = .ok (.istore_n 1, 1) := dk_60 (dk_at dksX0_next_0 12 rfl rfl)
theorem dX0_next_13 : decode cX0_next 13 = .ok (.iconst 0, 1) := dk_3 (dk_at dksX0_next_0 13 rfl rfl)
theorem dX0_next_14 : decode cX0_next 14 = .ok (.istore_n 2, 1) := dk_61 (dk_at dksX0_next_0 14 rfl rfl)
theorem dX0_next_15 : decode cX0_next 15 = .ok (.iload_n 2, 1) := dk_28 (dk_at dksX0_next_0 15 rfl rfl)
theorem dX0_next_16 : decode cX0_next 16 = .ok (.bipush 100, 2) := dk_16 100 (dk_at dksX0_next_0 16 rfl rfl)
theorem dX0_next_18 : decode cX0_next 18 = .ok (.if_icmp .ge 72, 3) := dk_162 0 72 (dk_at dksX0_next_0 18 rfl rfl)
theorem dX0_next_21 : decode cX0_next 21 = .ok (.aload_n 0, 1) := dk_42 (dk_at dksX0_next_0 21 rfl rfl)
theorem dX0_next_22 : decode cX0_next 22 = .ok (.getfield 54, 3) := dk_180 0 54 (dk_at dksX0_next_1 0 rfl rfl)
theorem dX0_next_25 : decode cX0_next 25 = .ok (.iload_n 2, 1) := dk_28 (dk_at dksX0_next_1 3 rfl rfl)
theorem dX0_next_26 : decode cX0_next 26 = .ok (.laload, 1) := dk_47 (dk_at dksX0_next_1 4 rfl rfl)
theorem dX0_next_27 : decode cX0_next 27 = .ok (.lconst 0, 1) := dk_9 (dk_at dksX0_next_1 5 rfl rfl)
theorem dX0_next_28 : decode cX0_next 28 = .ok (.lcmp, 1) := dk_148 (dk_at dksX0_next_1 6 rfl rfl)
theorem dX0_next_29 : decode cX0_next 29 = .ok (.ifCond .le 55, 3) := dk_158 0 55 (dk_at dksX0_next_1 7 rfl rfl)
theorem dX0_next_32 : decode cX0_next 32 = .ok (.aload_n 0, 1) := dk_42 (dk_at dksX0_next_1 10 rfl rfl)
theorem dX0_next_33 : decode cX0_next 33 = .ok (.iload_n 2, 1) := dk_28 (dk_at dksX0_next_1 11 rfl rfl)
theorem dX0_next_34 : decode cX0_next 34 = .ok (.invokevirtual 319, 3) := dk_182 1 63 (dk_at dksX0_next_1 12 rfl rfl)
theorem dX0_next_37 : decode cX0_next 37 = .ok (.ifCond .ne 47, 3) := dk_154 0 47 (dk_at dksX0_next_1 15 rfl rfl)
theorem dX0_next_40 : decode cX0_next 40 = .ok (.iload_n 1, 1) := dk_27 (dk_at dksX0_next_1 18 rfl rfl)
theorem dX0_next_41 : decode cX0_next 41 = .ok (.ifCond .lt 41, 3) := dk_155 0 41 (dk_at dksX0_next_1 19 rfl rfl)
theorem dX0_next_44 : decode cX0_next 44 = .ok (.aload_n 0, 1) := dk_42 (dk_at dksX0_next_1 22 rfl rfl)
theorem dX0_next_45 : decode cX0_next 45 = .ok (.getfield 54, 3) := dk_180 0 54 (dk_at dksX0_next_2 0 rfl rfl)
theorem dX0_next_48 : decode cX0_next 48 = .ok (.iload_n 2, 1) := dk_28 (dk_at dksX0_next_2 3 rfl rfl)
theorem dX0_next_49 : decode cX0_next 49 = .ok (.laload, 1) := dk_47 (dk_at dksX0_next_2 4 rfl rfl)
theorem dX0_next_50 : decode cX0_next 50 = .ok (.aload_n 0, 1) := dk_42 (dk_at dksX0_next_2 5 rfl rfl)
theorem dX0_next_51 : decode cX0_next 51 = .ok (.getfield 26, 3) := dk_180 0 26 (dk_at dksX0_next_2 6 rfl rfl)
theorem dX0_next_54 : decode cX0_next 54 = .ok (.getfield 235, 3) := dk_180 0 235 (dk_at dksX0_next_2 9 rfl rfl)
theorem dX0_next_57 : decode cX0_next 57 = .ok (.iload_n 1, 1) := dk_27 (dk_at dksX0_next_2 12 rfl rfl)
theorem dX0_next_58 : decode cX0_next 58 = .ok (.baload, 1) := dk_51 (dk_at dksX0_next_2 13 rfl rfl)
theorem dX0_next_59 : decode cX0_next 59 = .ok (.i2l, 1) := dk_133 (dk_at dksX0_next_2 14 rfl rfl)
theorem dX0_next_60 : decode cX0_next 60 = .ok (.lmul, 1) := dk_105 (dk_at dksX0_next_2 15 rfl rfl)
theorem dX0_next_61 : decode cX0_next 61 = .ok (.aload_n 0, 1) := dk_42 (dk_at dksX0_next_2 16 rfl rfl)
theorem dX0_next_62 : decode cX0_next 62 = .ok (.getfield 54, 3) := dk_180 0 54 (dk_at dksX0_next_2 17 rfl rfl)
theorem dX0_next_65 : decode cX0_next 65 = .ok (.iload_n 1, 1) := dk_27 (dk_at dksX0_next_2 20 rfl rfl)
theorem dX0_next_66 : decode cX0_next 66 = .ok (.laload, 1) := dk_47 (dk_at dksX0_next_2 21 rfl rfl)
theorem dX0_next_67 : decode cX0_next 67 = .ok (.aload_n 0, 1) := dk_42 (dk_at dksX0_next_2 22 rfl rfl)
theorem dX0_next_68 : decode cX0_next 68 = .ok (.getfield 26, 3) := dk_180 0 26 (dk_at dksX0_next_3 0 rfl rfl)
theorem dX0_next_71 : decode cX0_next 71 = .ok (.getfield 235, 3) := dk_180 0 235 (dk_at dksX0_next_3 3 rfl rfl)
theorem dX0_next_74 : decode cX0_next 74 = .ok (.iload_n 2, 1) := dk_28 (dk_at dksX0_next_3 6 rfl rfl)
theorem dX0_next_75 : decode cX0_next 75 = .ok (.baload, 1) := dk_51 (dk_at dksX0_next_3 7 rfl rfl)
theorem dX0_next_76 : decode cX0_next 76 = .ok (.i2l, 1) := dk_133 (dk_at dksX0_next_3 8 rfl rfl)
theorem dX0_next_77 : decode cX0_next 77 = .ok (.lmul, 1) := dk_105 (dk_at dksX0_next_3 9 rfl rfl)
theorem dX0_next_78 : decode cX0_next 78 = .ok (.lcmp, 1) := dk_148 (dk_at dksX0_next_3 10 rfl rfl)
theorem dX0_next_79 : decode cX0_next 79 = .ok (.ifCond .le 5, 3) := dk_158 0 5 (dk_at dksX0_next_3 11 rfl rfl)
theorem dX0_next_82 : decode cX0_next 82 = .ok (.iload_n 2, 1) := dk_28 (dk_at dksX0_next_3 14 rfl rfl)
theorem dX0_next_83 : decode cX0_next 83 = .ok (.istore_n 1, 1) := dk_60 (dk_at dksX0_next_3 15 rfl rfl)
theorem dX0_next_84 : decode cX0_next 84 = .ok (.iinc 2 1, 3) := dk_132 2 1 (dk_at dksX0_next_3 16 rfl rfl)
theorem dX0_next_87 : decode cX0_next 87 = .ok (.goto (-72), 3) := dk_167 255 184 (dk_at dksX0_next_3 19 rfl rfl)
theorem dX0_next_90 : decode cX0_next 90 = .ok (.iload_n 1, 1) := dk_27 (dk_at dksX0_next_3 22 rfl rfl)
theorem dX0_next_91 : decode cX0_next 91 = .ok (.ireturn, 1) := dk_172 (dk_at dksX0_next_3 23 rfl rfl)
abbrev cX0_isDragged : ByteArray := prog_1_method_50_code
def yX0_isDragged : MethodName := ⟨RX0, "isDragged", "(I)Z"⟩
def dkwX0_isDragged_2 : List UInt8 := [167, 0, 4, 3, 128, 61, 132, 3, 1, 167, 255, 206, 28, 172]
abbrev dktX0_isDragged_2 : List UInt8 := dkwX0_isDragged_2 ++ []
def dkwX0_isDragged_1 : List UInt8 := [180, 0, 26, 180, 1, 15, 29, 185, 1, 7, 2, 0, 192, 1, 18, 180, 1, 60, 27, 160, 0, 7, 4]
abbrev dktX0_isDragged_1 : List UInt8 := dkwX0_isDragged_1 ++ dktX0_isDragged_2
def dkwX0_isDragged_0 : List UInt8 := [3, 61, 3, 62, 29, 42, 180, 0, 26, 180, 1, 15, 185, 0, 242, 1, 0, 162, 0, 40, 28, 42]
abbrev dktX0_isDragged_0 : List UInt8 := dkwX0_isDragged_0 ++ dktX0_isDragged_1
theorem dksX0_isDragged_0 : cX0_isDragged.data.toList.drop 0 = dktX0_isDragged_0 := by decide +kernel
theorem dksX0_isDragged_1 : cX0_isDragged.data.toList.drop 22 = dktX0_isDragged_1 := dk_seg dksX0_isDragged_0 22 rfl rfl
theorem dksX0_isDragged_2 : cX0_isDragged.data.toList.drop 45 = dktX0_isDragged_2 := dk_seg dksX0_isDragged_1 23 rfl rfl
theorem dX0_isDragged_0 : decode cX0_isDragged 0 = .ok (.iconst 0, 1) := dk_3 (dk_at dksX0_isDragged_0 0 rfl rfl)
theorem dX0_isDragged_1 : decode cX0_isDragged 1 = .ok (.istore_n 2, 1) := dk_61 (dk_at dksX0_isDragged_0 1 rfl rfl)
theorem dX0_isDragged_2 : decode cX0_isDragged 2 = .ok (.iconst 0, 1) := dk_3 (dk_at dksX0_isDragged_0 2 rfl rfl)
theorem dX0_isDragged_3 : decode cX0_isDragged 3 = .ok (.istore_n 3, 1) := dk_62 (dk_at dksX0_isDragged_0 3 rfl rfl)
theorem dX0_isDragged_4 : decode cX0_isDragged 4 = .ok (.iload_n 3, 1) := dk_29 (dk_at dksX0_isDragged_0 4 rfl rfl)
theorem dX0_isDragged_5 : decode cX0_isDragged 5 = .ok (.aload_n 0, 1) := dk_42 (dk_at dksX0_isDragged_0 5 rfl rfl)
theorem dX0_isDragged_6 : decode cX0_isDragged 6 = .ok (.getfield 26, 3) := dk_180 0 26 (dk_at dksX0_isDragged_0 6 rfl rfl)
theorem dX0_isDragged_9 : decode cX0_isDragged 9 = .ok (.getfield 271, 3) := dk_180 1 15 (dk_at dksX0_isDragged_0 9 rfl rfl)
theorem dX0_isDragged_12 : decode cX0_isDragged 12 = .ok (.invokeinterface 242 1, 5) := by decide +kernel
theorem dX0_isDragged_17 : decode cX0_isDragged 17 = .ok (.if_icmp .ge 40, 3) := dk_162 0 40 (dk_at dksX0_isDragged_0 17 rfl rfl)
theorem dX0_isDragged_20 : decode cX0_isDragged 20 = .ok (.iload_n 2, 1) := dk_28 (dk_at dksX0_isDragged_0 20 rfl rfl)
theorem dX0_isDragged_21 : decode cX0_isDragged 21 = .ok (.aload_n 0, 1) := dk_42 (dk_at dksX0_isDragged_0 21 rfl rfl)
theorem dX0_isDragged_22 : decode cX0_isDragged 22 = .ok (.getfield 26, 3) := dk_180 0 26 (dk_at dksX0_isDragged_1 0 rfl rfl)
theorem dX0_isDragged_25 : decode cX0_isDragged 25 = .ok (.getfield 271, 3) := dk_180 1 15 (dk_at dksX0_isDragged_1 3 rfl rfl)
theorem dX0_isDragged_28 : decode cX0_isDragged 28 = .ok (.iload_n 3, 1) := dk_29 (dk_at dksX0_isDragged_1 6 rfl rfl)
theorem dX0_isDragged_29 : decode cX0_isDragged 29 = .ok (.invokeinterface 263 2, 5) := by decide +kernel
theorem dX0_isDragged_34 : decode cX0_isDragged 34 = .ok (.checkcast 274, 3) := dk_192 1 18 (dk_at dksX0_isDragged_1 12 rfl rfl)
theorem dX0_isDragged_37 : decode cX0_isDragged 37 = .ok (.getfield 316, 3) := dk_180 1 60 (dk_at dksX0_isDragged_1 15 rfl rfl)
theorem dX0_isDragged_40 : decode cX0_isDragged 40 = .ok (.iload_n 1, 1) := dk_27 (dk_at dksX0_isDragged_1 18 rfl rfl)
theorem dX0_isDragged_41 : decode cX0_isDragged 41 = .ok (.if_icmp .ne 7, 3) := dk_160 0 7 (dk_at dksX0_isDragged_1 19 rfl rfl)
theorem dX0_isDragged_44 : decode cX0_isDragged 44 = .ok (.iconst 1, 1) := dk_4 (dk_at dksX0_isDragged_1 22 rfl rfl)
theorem dX0_isDragged_45 : decode cX0_isDragged 45 = .ok (.goto 4, 3) := dk_167 0 4 (dk_at dksX0_isDragged_2 0 rfl rfl)
theorem dX0_isDragged_48 : decode cX0_isDragged 48 = .ok (.iconst 0, 1) := dk_3 (dk_at dksX0_isDragged_2 3 rfl rfl)
theorem dX0_isDragged_49 : decode cX0_isDragged 49 = .ok (.ior, 1) := dk_128 (dk_at dksX0_isDragged_2 4 rfl rfl)
theorem dX0_isDragged_50 : decode cX0_isDragged 50 = .ok (.istore_n 2, 1) := dk_61 (dk_at dksX0_isDragged_2 5 rfl rfl)
theorem dX0_isDragged_51 : decode cX0_isDragged 51 = .ok (.iinc 3 1, 3) := dk_132 3 1 (dk_at dksX0_isDragged_2 6 rfl rfl)
theorem dX0_isDragged_54 : decode cX0_isDragged 54 = .ok (.goto (-50), 3) := dk_167 255 206 (dk_at dksX0_isDragged_2 9 rfl rfl)
theorem dX0_isDragged_57 : decode cX0_isDragged 57 = .ok (.iload_n 2, 1) := dk_28 (dk_at dksX0_isDragged_2 12 rfl rfl)
theorem dX0_isDragged_58 : decode cX0_isDragged 58 = .ok (.ireturn, 1) := dk_172 (dk_at dksX0_isDragged_2 13 rfl rfl)
abbrev cX0_should : ByteArray := prog_1_method_52_code
def yX0_should : MethodName := ⟨RX0, "should", "(IIII)J"⟩
def dkwX0_should_5 : List UInt8 := [20, 1, 39, 167, 0, 12, 22, 7, 22, 5, 21, 4, 184, 1, 41, 173]
abbrev dktX0_should_5 : List UInt8 := dkwX0_should_5 ++ []
def dkwX0_should_4 : List UInt8 := [21, 9, 47, 167, 0, 4, 9, 97, 55, 7, 132, 9, 1, 167, 255, 206, 22, 5, 9, 148, 154, 0, 9]
abbrev dktX0_should_4 : List UInt8 := dkwX0_should_4 ++ dktX0_should_5
def dkwX0_should_3 : List UInt8 := [21, 9, 47, 9, 148, 158, 0, 25, 42, 21, 9, 28, 29, 182, 1, 4, 27, 160, 0, 13, 42, 180, 0, 54]
abbrev dktX0_should_3 : List UInt8 := dkwX0_should_3 ++ dktX0_should_4
def dkwX0_should_2 : List UInt8 := [182, 1, 35, 55, 5, 9, 55, 7, 3, 54, 9, 21, 9, 16, 100, 162, 0, 49, 22, 7, 42, 180, 0, 54]
abbrev dktX0_should_2 : List UInt8 := dkwX0_should_2 ++ dktX0_should_3
def dkwX0_should_1 : List UInt8 := [153, 0, 13, 21, 4, 3, 4, 184, 0, 3, 154, 0, 7, 20, 1, 33, 173, 42, 2, 42, 180, 0, 54]
abbrev dktX0_should_1 : List UInt8 := dkwX0_should_1 ++ dktX0_should_2
def dkwX0_should_0 : List UInt8 := [27, 184, 0, 71, 153, 0, 32, 28, 3, 16, 24, 184, 0, 3, 153, 0, 22, 29, 3, 4, 184, 0, 3]
abbrev dktX0_should_0 : List UInt8 := dkwX0_should_0 ++ dktX0_should_1
theorem dksX0_should_0 : cX0_should.data.toList.drop 0 = dktX0_should_0 := by decide +kernel
theorem dksX0_should_1 : cX0_should.data.toList.drop 23 = dktX0_should_1 := dk_seg dksX0_should_0 23 rfl rfl
theorem dksX0_should_2 : cX0_should.data.toList.drop 46 = dktX0_should_2 := dk_seg dksX0_should_1 23 rfl rfl
theorem dksX0_should_3 : cX0_should.data.toList.drop 70 = dktX0_should_3 := dk_seg dksX0_should_2 24 rfl rfl
theorem dksX0_should_4 : cX0_should.data.toList.drop 94 = dktX0_should_4 := dk_seg dksX0_should_3 24 rfl rfl
theorem dksX0_should_5 : cX0_should.data.toList.drop 117 = dktX0_should_5 := dk_seg dksX0_should_4 23 rfl rfl
theorem dX0_should_0 : decode cX0_should 0 = .ok (.iload_n 1, 1) := dk_27 (dk_at dksX0_should_0 0 rfl rfl)
theorem dX0_should_1 : decode cX0_should 1 = .ok (.invokestatic 71, 3) := dk_184 0 71 (dk_at dksX0_should_0 1 rfl rfl)
theorem dX0_should_4 : decode cX0_should 4 = .ok (.ifCond .eq 32, 3) := dk_153 0 32 (dk_at dksX0_should_0 4 rfl rfl)
theorem dX0_should_7 : decode cX0_should 7 = .ok (.iload_n 2, 1) := dk_28 (dk_at dksX0_should_0 7 rfl rfl)
theorem dX0_should_8 : decode cX0_should 8 = .ok (.iconst 0, 1) := dk_3 (dk_at dksX0_should_0 8 rfl rfl)
theorem dX0_should_9 : decode cX0_should 9 = .ok (.bipush 24, 2) := dk_16 24 (dk_at dksX0_should_0 9 rfl rfl)
theorem dX0_should_11 : decode cX0_should 11 = .ok (.invokestatic 3, 3) := dk_184 0 3 (dk_at dksX0_should_0 11 rfl rfl)
theorem dX0_should_14 : decode cX0_should 14 = .ok (.ifCond .eq 22, 3) := dk_153 0 22 (dk_at dksX0_should_0 14 rfl rfl)
theorem dX0_should_17 : decode cX0_should 17 = .ok (.iload_n 3, 1) := dk_29 (dk_at dksX0_should_0 17 rfl rfl)
theorem dX0_should_18 : decode cX0_should 18 = .ok (.iconst 0, 1) := dk_3 (dk_at dksX0_should_0 18 rfl rfl)
theorem dX0_should_19 : decode cX0_should 19 = .ok (.iconst 1, 1) := dk_4 (dk_at dksX0_should_0 19 rfl rfl)
theorem dX0_should_20 : decode cX0_should 20 = .ok (.invokestatic 3, 3) := dk_184 0 3 (dk_at dksX0_should_0 20 rfl rfl)
theorem dX0_should_23 : decode cX0_should 23 = .ok (.ifCond .eq 13, 3) := dk_153 0 13 (dk_at dksX0_should_1 0 rfl rfl)
theorem dX0_should_26 : decode cX0_should 26 = .ok (.iload 4, 2) := dk_21 4 (dk_at dksX0_should_1 3 rfl rfl)
theorem dX0_should_28 : decode cX0_should 28 = .ok (.iconst 0, 1) := dk_3 (dk_at dksX0_should_1 5 rfl rfl)
theorem dX0_should_29 : decode cX0_should 29 = .ok (.iconst 1, 1) := dk_4 (dk_at dksX0_should_1 6 rfl rfl)
theorem dX0_should_30 : decode cX0_should 30 = .ok (.invokestatic 3, 3) := dk_184 0 3 (dk_at dksX0_should_1 7 rfl rfl)
theorem dX0_should_33 : decode cX0_should 33 = .ok (.ifCond .ne 7, 3) := dk_154 0 7 (dk_at dksX0_should_1 10 rfl rfl)
theorem dX0_should_36 : decode cX0_should 36 = .ok (.ldc2_w 289, 3) := dk_20 1 33 (dk_at dksX0_should_1 13 rfl rfl)
theorem dX0_should_39 : decode cX0_should 39 = .ok (.lreturn, 1) := dk_173 (dk_at dksX0_should_1 16 rfl rfl)
theorem dX0_should_40 : decode cX0_should 40 = .ok (.aload_n 0, 1) := dk_42 (dk_at dksX0_should_1 17 rfl rfl)
theorem dX0_should_41 : decode cX0_should 41 = .ok (.iconst (-1), 1) := dk_2 (dk_at dksX0_should_1 18 rfl rfl)
theorem dX0_should_42 : decode cX0_should 42 = .ok (.aload_n 0, 1) := dk_42 (dk_at dksX0_should_1 19 rfl rfl)
theorem dX0_should_43 : decode cX0_should 43 = .ok (.getfield 54, 3) := dk_180 0 54 (dk_at dksX0_should_1 20 rfl rfl)
theorem dX0_should_46 : decode cX0_should 46 = .ok (.invokevirtual 291, 3) := dk_182 1 35 (dk_at dksX0_should_2 0 rfl rfl)
theorem dX0_should_49 : decode cX0_should 49 = .ok (.lstore 5, 2) := dk_55 5 (dk_at dksX0_should_2 3 rfl rfl)
theorem dX0_should_51 : decode cX0_should 51 = .ok (.lconst 0, 1) := dk_9 (dk_at dksX0_should_2 5 rfl rfl)
theorem dX0_should_52 : decode cX0_should 52 = .ok (.lstore 7, 2) := dk_55 7 (dk_at dksX0_should_2 6 rfl rfl)
theorem dX0_should_54 : decode cX0_should 54 = .ok (.iconst 0, 1) := dk_3 (dk_at dksX0_should_2 8 rfl rfl)
theorem dX0_should_55 : decode cX0_should 55 = .ok (.istore 9, 2) := dk_54 9 (dk_at dksX0_should_2 9 rfl rfl)
theorem dX0_should_57 : decode cX0_should 57 = .ok (.iload 9, 2) := dk_21 9 (dk_at dksX0_should_2 11 rfl rfl)
theorem dX0_should_59 : decode cX0_should 59 = .ok (.bipush 100, 2) := dk_16 100 (dk_at dksX0_should_2 13 rfl rfl)
theorem dX0_should_61 : decode cX0_should 61 = .ok (.if_icmp .ge 49, 3) := dk_162 0 49 (dk_at dksX0_should_2 15 rfl rfl)
theorem dX0_should_64 : decode cX0_should 64 = .ok (.lload 7, 2) := dk_22 7 (dk_at dksX0_should_2 18 rfl rfl)
theorem dX0_should_66 : decode cX0_should 66 = .ok (.aload_n 0, 1) := dk_42 (dk_at dksX0_should_2 20 rfl rfl)
theorem dX0_should_67 : decode cX0_should 67 = .ok (.getfield 54, 3) := dk_180 0 54 (dk_at dksX0_should_2 21 rfl rfl)
theorem dX0_should_70 : decode cX0_should 70 = .ok (.iload 9, 2) := dk_21 9 (dk_at dksX0_should_3 0 rfl rfl)
theorem dX0_should_72 : decode cX0_should 72 = .ok (.laload, 1) := dk_47 (dk_at dksX0_should_3 2 rfl rfl)
theorem dX0_should_73 : decode cX0_should 73 = .ok (.lconst 0, 1) := dk_9 (dk_at dksX0_should_3 3 rfl rfl)
theorem dX0_should_74 : decode cX0_should 74 = .ok (.lcmp, 1) := dk_148 (dk_at dksX0_should_3 4 rfl rfl)
theorem dX0_should_75 : decode cX0_should 75 = .ok (.ifCond .le 25, 3) := dk_158 0 25 (dk_at dksX0_should_3 5 rfl rfl)
theorem dX0_should_78 : decode cX0_should 78 = .ok (.aload_n 0, 1) := dk_42 (dk_at dksX0_should_3 8 rfl rfl)
theorem dX0_should_79 : decode cX0_should 79 = .ok (.iload 9, 2) := dk_21 9 (dk_at dksX0_should_3 9 rfl rfl)
theorem dX0_should_81 : decode cX0_should 81 = .ok (.iload_n 2, 1) := dk_28 (dk_at dksX0_should_3 11 rfl rfl)
theorem dX0_should_82 : decode cX0_should 82 = .ok (.iload_n 3, 1) := dk_29 (dk_at dksX0_should_3 12 rfl rfl)
theorem dX0_should_83 : decode cX0_should 83 = .ok (.invokevirtual 260, 3) := dk_182 1 4 (dk_at dksX0_should_3 13 rfl rfl)
theorem dX0_should_86 : decode cX0_should 86 = .ok (.iload_n 1, 1) := dk_27 (dk_at dksX0_should_3 16 rfl rfl)
theorem dX0_should_87 : decode cX0_should 87 = .ok (.if_icmp .ne 13, 3) := dk_160 0 13 (dk_at dksX0_should_3 17 rfl rfl)
theorem dX0_should_90 : decode cX0_should 90 = .ok (.aload_n 0, 1) := dk_42 (dk_at dksX0_should_3 20 rfl rfl)
theorem dX0_should_91 : decode cX0_should 91 = .ok (.getfield 54, 3) := dk_180 0 54 (dk_at dksX0_should_3 21 rfl rfl)
theorem dX0_should_94 : decode cX0_should 94 = .ok (.iload 9, 2) := dk_21 9 (dk_at dksX0_should_4 0 rfl rfl)
theorem dX0_should_96 : decode cX0_should 96 = .ok (.laload, 1) := dk_47 (dk_at dksX0_should_4 2 rfl rfl)
theorem dX0_should_97 : decode cX0_should 97 = .ok (.goto 4, 3) := dk_167 0 4 (dk_at dksX0_should_4 3 rfl rfl)
theorem dX0_should_100 : decode cX0_should 100 = .ok (.lconst 0, 1) := dk_9 (dk_at dksX0_should_4 6 rfl rfl)
theorem dX0_should_101 : decode cX0_should 101 = .ok (.ladd, 1) := dk_97 (dk_at dksX0_should_4 7 rfl rfl)
theorem dX0_should_102 : decode cX0_should 102 = .ok (.lstore 7, 2) := dk_55 7 (dk_at dksX0_should_4 8 rfl rfl)
theorem dX0_should_104 : decode cX0_should 104 = .ok (.iinc 9 1, 3) := dk_132 9 1 (dk_at dksX0_should_4 10 rfl rfl)
theorem dX0_should_107 : decode cX0_should 107 = .ok (.goto (-50), 3) := dk_167 255 206 (dk_at dksX0_should_4 13 rfl rfl)
theorem dX0_should_110 : decode cX0_should 110 = .ok (.lload 5, 2) := dk_22 5 (dk_at dksX0_should_4 16 rfl rfl)
theorem dX0_should_112 : decode cX0_should 112 = .ok (.lconst 0, 1) := dk_9 (dk_at dksX0_should_4 18 rfl rfl)
theorem dX0_should_113 : decode cX0_should 113 = .ok (.lcmp, 1) := dk_148 (dk_at dksX0_should_4 19 rfl rfl)
theorem dX0_should_114 : decode cX0_should 114 = .ok (.ifCond .ne 9, 3) := dk_154 0 9 (dk_at dksX0_should_4 20 rfl rfl)
theorem dX0_should_117 : decode cX0_should 117 = .ok (.ldc2_w 295, 3) := dk_20 1 39 (dk_at dksX0_should_5 0 rfl rfl)
theorem dX0_should_120 : decode cX0_should 120 = .ok (.goto 12, 3) := dk_167 0 12 (dk_at dksX0_should_5 3 rfl rfl)
theorem dX0_should_123 : decode cX0_should 123 = .ok (.lload 7, 2) := dk_22 7 (dk_at dksX0_should_5 6 rfl rfl)
theorem dX0_should_125 : decode cX0_should 125 = .ok (.lload 5, 2) := dk_22 5 (dk_at dksX0_should_5 8 rfl rfl)
theorem dX0_should_127 : decode cX0_should 127 = .ok (.iload 4, 2) := dk_21 4 (dk_at dksX0_should_5 10 rfl rfl)
theorem dX0_should_129 : decode cX0_should 129 = .ok (.invokestatic 297, 3) := dk_184 1 41 (dk_at dksX0_should_5 12 rfl rfl)
theorem dX0_should_132 : decode cX0_should 132 = .ok (.lreturn, 1) := dk_173 (dk_at dksX0_should_5 15 rfl rfl)
abbrev cX0_held : ByteArray := prog_1_method_55_code
def yX0_held : MethodName := ⟨RX0, "held", "(III)I"⟩
def dkwX0_held_2 : List UInt8 := [42, 42, 180, 0, 66, 27, 50, 29, 182, 1, 88, 167, 0, 5, 16, 254, 172]
abbrev dktX0_held_2 : List UInt8 := dkwX0_held_2 ++ []
def dkwX0_held_1 : List UInt8 := [54, 4, 21, 4, 156, 0, 6, 21, 4, 172, 42, 42, 180, 0, 66, 27, 50, 29, 182, 1, 84, 153, 0, 17]
abbrev dktX0_held_1 : List UInt8 := dkwX0_held_1 ++ dktX0_held_2
def dkwX0_held_0 : List UInt8 := [27, 184, 1, 75, 153, 0, 10, 28, 184, 1, 78, 154, 0, 5, 2, 172, 42, 27, 28, 29, 182, 1, 81]
abbrev dktX0_held_0 : List UInt8 := dkwX0_held_0 ++ dktX0_held_1
theorem dksX0_held_0 : cX0_held.data.toList.drop 0 = dktX0_held_0 := by decide +kernel
theorem dksX0_held_1 : cX0_held.data.toList.drop 23 = dktX0_held_1 := dk_seg dksX0_held_0 23 rfl rfl
theorem dksX0_held_2 : cX0_held.data.toList.drop 47 = dktX0_held_2 := dk_seg dksX0_held_1 24 rfl rfl
theorem dX0_held_0 : decode cX0_held 0 = .ok (.iload_n 1, 1) := dk_27 (dk_at dksX0_held_0 0 rfl rfl)
theorem dX0_held_1 : decode cX0_held 1 = .ok (.invokestatic 331, 3) := dk_184 1 75 (dk_at dksX0_held_0 1 rfl rfl)
theorem dX0_held_4 : decode cX0_held 4 = .ok (.ifCond .eq 10, 3) := dk_153 0 10 (dk_at dksX0_held_0 4 rfl rfl)
theorem dX0_held_7 : decode cX0_held 7 = .ok (.iload_n 2, 1) := dk_28 (dk_at dksX0_held_0 7 rfl rfl)
theorem dX0_held_8 : decode cX0_held 8 = .ok (.invokestatic 334, 3) := dk_184 1 78 (dk_at dksX0_held_0 8 rfl rfl)
theorem dX0_held_11 : decode cX0_held 11 = .ok (.ifCond .ne 5, 3) := dk_154 0 5 (dk_at dksX0_held_0 11 rfl rfl)
theorem dX0_held_14 : decode cX0_held 14 = .ok (.iconst (-1), 1) := dk_2 (dk_at dksX0_held_0 14 rfl rfl)
theorem dX0_held_15 : decode cX0_held 15 = .ok (.ireturn, 1) := dk_172 (dk_at dksX0_held_0 15 rfl rfl)
theorem dX0_held_16 : decode cX0_held 16 = .ok (.aload_n 0, 1) := dk_42 (dk_at dksX0_held_0 16 rfl rfl)
theorem dX0_held_17 : decode cX0_held 17 = .ok (.iload_n 1, 1) := dk_27 (dk_at dksX0_held_0 17 rfl rfl)
theorem dX0_held_18 : decode cX0_held 18 = .ok (.iload_n 2, 1) := dk_28 (dk_at dksX0_held_0 18 rfl rfl)
theorem dX0_held_19 : decode cX0_held 19 = .ok (.iload_n 3, 1) := dk_29 (dk_at dksX0_held_0 19 rfl rfl)
theorem dX0_held_20 : decode cX0_held 20 = .ok (.invokevirtual 337, 3) := dk_182 1 81 (dk_at dksX0_held_0 20 rfl rfl)
theorem dX0_held_23 : decode cX0_held 23 = .ok (.istore 4, 2) := dk_54 4 (dk_at dksX0_held_1 0 rfl rfl)
theorem dX0_held_25 : decode cX0_held 25 = .ok (.iload 4, 2) := dk_21 4 (dk_at dksX0_held_1 2 rfl rfl)
theorem dX0_held_27 : decode cX0_held 27 = .ok (.ifCond .ge 6, 3) := dk_156 0 6 (dk_at dksX0_held_1 4 rfl rfl)
theorem dX0_held_30 : decode cX0_held 30 = .ok (.iload 4, 2) := dk_21 4 (dk_at dksX0_held_1 7 rfl rfl)
theorem dX0_held_32 : decode cX0_held 32 = .ok (.ireturn, 1) := dk_172 (dk_at dksX0_held_1 9 rfl rfl)
theorem dX0_held_33 : decode cX0_held 33 = .ok (.aload_n 0, 1) := dk_42 (dk_at dksX0_held_1 10 rfl rfl)
theorem dX0_held_34 : decode cX0_held 34 = .ok (.aload_n 0, 1) := dk_42 (dk_at dksX0_held_1 11 rfl rfl)
theorem dX0_held_35 : decode cX0_held 35 = .ok (.getfield 66, 3) := dk_180 0 66 (dk_at dksX0_held_1 12 rfl rfl)
theorem dX0_held_38 : decode cX0_held 38 = .ok (.iload_n 1, 1) := dk_27 (dk_at dksX0_held_1 15 rfl rfl)
theorem dX0_held_39 : decode cX0_held 39 = .ok (.aaload, 1) := dk_50 (dk_at dksX0_held_1 16 rfl rfl)
theorem dX0_held_40 : decode cX0_held 40 = .ok (.iload_n 3, 1) := dk_29 (dk_at dksX0_held_1 17 rfl rfl)
theorem dX0_held_41 : decode cX0_held 41 = .ok (.invokevirtual 340, 3) := dk_182 1 84 (dk_at dksX0_held_1 18 rfl rfl)
theorem dX0_held_44 : decode cX0_held 44 = .ok (.ifCond .eq 17, 3) := dk_153 0 17 (dk_at dksX0_held_1 21 rfl rfl)
theorem dX0_held_47 : decode cX0_held 47 = .ok (.aload_n 0, 1) := dk_42 (dk_at dksX0_held_2 0 rfl rfl)
theorem dX0_held_48 : decode cX0_held 48 = .ok (.aload_n 0, 1) := dk_42 (dk_at dksX0_held_2 1 rfl rfl)
theorem dX0_held_49 : decode cX0_held 49 = .ok (.getfield 66, 3) := dk_180 0 66 (dk_at dksX0_held_2 2 rfl rfl)
theorem dX0_held_52 : decode cX0_held 52 = .ok (.iload_n 1, 1) := dk_27 (dk_at dksX0_held_2 5 rfl rfl)
theorem dX0_held_53 : decode cX0_held 53 = .ok (.aaload, 1) := dk_50 (dk_at dksX0_held_2 6 rfl rfl)
theorem dX0_held_54 : decode cX0_held 54 = .ok (.iload_n 3, 1) := dk_29 (dk_at dksX0_held_2 7 rfl rfl)
theorem dX0_held_55 : decode cX0_held 55 = .ok (.invokevirtual 344, 3) := dk_182 1 88 (dk_at dksX0_held_2 8 rfl rfl)
theorem dX0_held_58 : decode cX0_held 58 = .ok (.goto 5, 3) := dk_167 0 5 (dk_at dksX0_held_2 11 rfl rfl)
theorem dX0_held_61 : decode cX0_held 61 = .ok (.bipush (-2), 2) := dk_16 254 (dk_at dksX0_held_2 14 rfl rfl)
theorem dX0_held_63 : decode cX0_held 63 = .ok (.ireturn, 1) := dk_172 (dk_at dksX0_held_2 16 rfl rfl)
abbrev cX0_isSheet : ByteArray := prog_1_method_59_code
def yX0_isSheet : MethodName := ⟨RX0, "isSheet", "(I)Z"⟩
def dkwX0_isSheet_0 : List UInt8 := [26, 3, 6, 184, 0, 3, 172]
abbrev dktX0_isSheet_0 : List UInt8 := dkwX0_isSheet_0 ++ []
theorem dksX0_isSheet_0 : cX0_isSheet.data.toList.drop 0 = dktX0_isSheet_0 := by decide +kernel
theorem dX0_isSheet_0 : decode cX0_isSheet 0 = .ok (.iload_n 0, 1) := dk_26 (dk_at dksX0_isSheet_0 0 rfl rfl)
theorem dX0_isSheet_1 : decode cX0_isSheet 1 = .ok (.iconst 0, 1) := dk_3 (dk_at dksX0_isSheet_0 1 rfl rfl)
theorem dX0_isSheet_2 : decode cX0_isSheet 2 = .ok (.iconst 3, 1) := dk_6 (dk_at dksX0_isSheet_0 2 rfl rfl)
theorem dX0_isSheet_3 : decode cX0_isSheet 3 = .ok (.invokestatic 3, 3) := dk_184 0 3 (dk_at dksX0_isSheet_0 3 rfl rfl)
theorem dX0_isSheet_6 : decode cX0_isSheet 6 = .ok (.ireturn, 1) := dk_172 (dk_at dksX0_isSheet_0 6 rfl rfl)
abbrev cX0_isLane : ByteArray := prog_1_method_60_code
def yX0_isLane : MethodName := ⟨RX0, "isLane", "(I)Z"⟩
def dkwX0_isLane_0 : List UInt8 := [26, 3, 5, 184, 0, 3, 172]
abbrev dktX0_isLane_0 : List UInt8 := dkwX0_isLane_0 ++ []
theorem dksX0_isLane_0 : cX0_isLane.data.toList.drop 0 = dktX0_isLane_0 := by decide +kernel
theorem dX0_isLane_0 : decode cX0_isLane 0 = .ok (.iload_n 0, 1) := dk_26 (dk_at dksX0_isLane_0 0 rfl rfl)
theorem dX0_isLane_1 : decode cX0_isLane 1 = .ok (.iconst 0, 1) := dk_3 (dk_at dksX0_isLane_0 1 rfl rfl)
theorem dX0_isLane_2 : decode cX0_isLane 2 = .ok (.iconst 2, 1) := dk_5 (dk_at dksX0_isLane_0 2 rfl rfl)
theorem dX0_isLane_3 : decode cX0_isLane 3 = .ok (.invokestatic 3, 3) := dk_184 0 3 (dk_at dksX0_isLane_0 3 rfl rfl)
theorem dX0_isLane_6 : decode cX0_isLane 6 = .ok (.ireturn, 1) := dk_172 (dk_at dksX0_isLane_0 6 rfl rfl)
abbrev cX0_lacks : ByteArray := prog_1_method_61_code
def yX0_lacks : MethodName := ⟨RX0, "lacks", "(III)I"⟩
def dkwX0_lacks_2 : List UInt8 := [100, 4, 100, 164, 0, 8, 16, 243, 167, 0, 4, 3, 172]
abbrev dktX0_lacks_2 : List UInt8 := dkwX0_lacks_2 ++ []
def dkwX0_lacks_1 : List UInt8 := [28, 159, 0, 6, 16, 244, 172, 29, 155, 0, 22, 29, 25, 4, 182, 1, 108, 42, 180, 0, 26, 182, 0, 160]
abbrev dktX0_lacks_1 : List UInt8 := dkwX0_lacks_1 ++ dktX0_lacks_2
def dkwX0_lacks_0 : List UInt8 := [42, 180, 0, 66, 27, 50, 58, 4, 25, 4, 180, 1, 101, 199, 0, 6, 16, 245, 172, 25, 4, 182, 1, 105]
abbrev dktX0_lacks_0 : List UInt8 := dkwX0_lacks_0 ++ dktX0_lacks_1
theorem dksX0_lacks_0 : cX0_lacks.data.toList.drop 0 = dktX0_lacks_0 := by decide +kernel
theorem dksX0_lacks_1 : cX0_lacks.data.toList.drop 24 = dktX0_lacks_1 := dk_seg dksX0_lacks_0 24 rfl rfl
theorem dksX0_lacks_2 : cX0_lacks.data.toList.drop 48 = dktX0_lacks_2 := dk_seg dksX0_lacks_1 24 rfl rfl
theorem dX0_lacks_0 : decode cX0_lacks 0 = .ok (.aload_n 0, 1) := dk_42 (dk_at dksX0_lacks_0 0 rfl rfl)
theorem dX0_lacks_1 : decode cX0_lacks 1 = .ok (.getfield 66, 3) := dk_180 0 66 (dk_at dksX0_lacks_0 1 rfl rfl)
theorem dX0_lacks_4 : decode cX0_lacks 4 = .ok (.iload_n 1, 1) := dk_27 (dk_at dksX0_lacks_0 4 rfl rfl)
theorem dX0_lacks_5 : decode cX0_lacks 5 = .ok (.aaload, 1) := dk_50 (dk_at dksX0_lacks_0 5 rfl rfl)
theorem dX0_lacks_6 : decode cX0_lacks 6 = .ok (.astore 4, 2) := dk_58 4 (dk_at dksX0_lacks_0 6 rfl rfl)
theorem dX0_lacks_8 : decode cX0_lacks 8 = .ok (.aload 4, 2) := dk_25 4 (dk_at dksX0_lacks_0 8 rfl rfl)
theorem dX0_lacks_10 : decode cX0_lacks 10 = .ok (.getfield 357, 3) := dk_180 1 101 (dk_at dksX0_lacks_0 10 rfl rfl)
theorem dX0_lacks_13 : decode cX0_lacks 13 = .ok (.ifnonnull 6, 3) := dk_199 0 6 (dk_at dksX0_lacks_0 13 rfl rfl)
theorem dX0_lacks_16 : decode cX0_lacks 16 = .ok (.bipush (-11), 2) := dk_16 245 (dk_at dksX0_lacks_0 16 rfl rfl)
theorem dX0_lacks_18 : decode cX0_lacks 18 = .ok (.ireturn, 1) := dk_172 (dk_at dksX0_lacks_0 18 rfl rfl)
theorem dX0_lacks_19 : decode cX0_lacks 19 = .ok (.aload 4, 2) := dk_25 4 (dk_at dksX0_lacks_0 19 rfl rfl)
theorem dX0_lacks_21 : decode cX0_lacks 21 = .ok (.invokevirtual 361, 3) := dk_182 1 105 (dk_at dksX0_lacks_0 21 rfl rfl)
theorem dX0_lacks_24 : decode cX0_lacks 24 = .ok (.iload_n 2, 1) := dk_28 (dk_at dksX0_lacks_1 0 rfl rfl)
theorem dX0_lacks_25 : decode cX0_lacks 25 = .ok (.if_icmp .eq 6, 3) := dk_159 0 6 (dk_at dksX0_lacks_1 1 rfl rfl)
theorem dX0_lacks_28 : decode cX0_lacks 28 = .ok (.bipush (-12), 2) := dk_16 244 (dk_at dksX0_lacks_1 4 rfl rfl)
theorem dX0_lacks_30 : decode cX0_lacks 30 = .ok (.ireturn, 1) := dk_172 (dk_at dksX0_lacks_1 6 rfl rfl)
theorem dX0_lacks_31 : decode cX0_lacks 31 = .ok (.iload_n 3, 1) := dk_29 (dk_at dksX0_lacks_1 7 rfl rfl)
theorem dX0_lacks_32 : decode cX0_lacks 32 = .ok (.ifCond .lt 22, 3) := dk_155 0 22 (dk_at dksX0_lacks_1 8 rfl rfl)
theorem dX0_lacks_35 : decode cX0_lacks 35 = .ok (.iload_n 3, 1) := dk_29 (dk_at dksX0_lacks_1 11 rfl rfl)
theorem dX0_lacks_36 : decode cX0_lacks 36 = .ok (.aload 4, 2) := dk_25 4 (dk_at dksX0_lacks_1 12 rfl rfl)
theorem dX0_lacks_38 : decode cX0_lacks 38 = .ok (.invokevirtual 364, 3) := dk_182 1 108 (dk_at dksX0_lacks_1 14 rfl rfl)
theorem dX0_lacks_41 : decode cX0_lacks 41 = .ok (.aload_n 0, 1) := dk_42 (dk_at dksX0_lacks_1 17 rfl rfl)
theorem dX0_lacks_42 : decode cX0_lacks 42 = .ok (.getfield 26, 3) := dk_180 0 26 (dk_at dksX0_lacks_1 18 rfl rfl)
theorem dX0_lacks_45 : decode cX0_lacks 45 = .ok (.invokevirtual 160, 3) := dk_182 0 160 (dk_at dksX0_lacks_1 21 rfl rfl)
theorem dX0_lacks_48 : decode cX0_lacks 48 = .ok (.isub, 1) := dk_100 (dk_at dksX0_lacks_2 0 rfl rfl)
theorem dX0_lacks_49 : decode cX0_lacks 49 = .ok (.iconst 1, 1) := dk_4 (dk_at dksX0_lacks_2 1 rfl rfl)
theorem dX0_lacks_50 : decode cX0_lacks 50 = .ok (.isub, 1) := dk_100 (dk_at dksX0_lacks_2 2 rfl rfl)
theorem dX0_lacks_51 : decode cX0_lacks 51 = .ok (.if_icmp .le 8, 3) := dk_164 0 8 (dk_at dksX0_lacks_2 3 rfl rfl)
theorem dX0_lacks_54 : decode cX0_lacks 54 = .ok (.bipush (-13), 2) := dk_16 243 (dk_at dksX0_lacks_2 6 rfl rfl)
theorem dX0_lacks_56 : decode cX0_lacks 56 = .ok (.goto 4, 3) := dk_167 0 4 (dk_at dksX0_lacks_2 8 rfl rfl)
theorem dX0_lacks_59 : decode cX0_lacks 59 = .ok (.iconst 0, 1) := dk_3 (dk_at dksX0_lacks_2 11 rfl rfl)
theorem dX0_lacks_60 : decode cX0_lacks 60 = .ok (.ireturn, 1) := dk_172 (dk_at dksX0_lacks_2 12 rfl rfl)
abbrev cX0_isKnown : ByteArray := prog_1_method_53_code
def yX0_isKnown : MethodName := ⟨RX0, "isKnown", "(LSevenRings$Sheet;I)Z"⟩
def dkwX0_isKnown_2 : List UInt8 := [182, 0, 192, 45, 180, 1, 72, 172]
abbrev dktX0_isKnown_2 : List UInt8 := dkwX0_isKnown_2 ++ []
def dkwX0_isKnown_1 : List UInt8 := [180, 1, 69, 21, 4, 43, 28, 21, 4, 96, 182, 1, 70, 79, 132, 4, 1, 167, 255, 226, 42, 45, 2, 4]
abbrev dktX0_isKnown_1 : List UInt8 := dkwX0_isKnown_1 ++ dktX0_isKnown_2
def dkwX0_isKnown_0 : List UInt8 := [187, 1, 66, 89, 183, 1, 68, 78, 3, 54, 4, 21, 4, 42, 180, 0, 26, 182, 0, 160, 163, 0, 24, 45]
abbrev dktX0_isKnown_0 : List UInt8 := dkwX0_isKnown_0 ++ dktX0_isKnown_1
theorem dksX0_isKnown_0 : cX0_isKnown.data.toList.drop 0 = dktX0_isKnown_0 := by decide +kernel
theorem dksX0_isKnown_1 : cX0_isKnown.data.toList.drop 24 = dktX0_isKnown_1 := dk_seg dksX0_isKnown_0 24 rfl rfl
theorem dksX0_isKnown_2 : cX0_isKnown.data.toList.drop 48 = dktX0_isKnown_2 := dk_seg dksX0_isKnown_1 24 rfl rfl
theorem dX0_isKnown_0 : decode cX0_isKnown 0 = .ok (.new 322, 3) := dk_187 1 66 (dk_at dksX0_isKnown_0 0 rfl rfl)
theorem dX0_isKnown_3 : decode cX0_isKnown 3 = .ok (.dup, 1) := dk_89 (dk_at dksX0_isKnown_0 3 rfl rfl)
theorem dX0_isKnown_4 : decode cX0_isKnown 4 = .ok (.invokespecial 324, 3) := dk_183 1 68 (dk_at dksX0_isKnown_0 4 rfl rfl)
theorem dX0_isKnown_7 : decode cX0_isKnown 7 = .ok (.astore_n 3, 1) := dk_78 (dk_at dksX0_isKnown_0 7 rfl rfl)
theorem dX0_isKnown_8 : decode cX0_isKnown 8 = .ok (.iconst 0, 1) := dk_3 (dk_at dksX0_isKnown_0 8 rfl rfl)
theorem dX0_isKnown_9 : decode cX0_isKnown 9 = .ok (.istore 4, 2) := dk_54 4 (dk_at dksX0_isKnown_0 9 rfl rfl)
theorem dX0_isKnown_11 : decode cX0_isKnown 11 = .ok (.iload 4, 2) := dk_21 4 (dk_at dksX0_isKnown_0 11 rfl rfl)
theorem dX0_isKnown_13 : decode cX0_isKnown 13 = .ok (.aload_n 0, 1) := dk_42 (dk_at dksX0_isKnown_0 13 rfl rfl)
theorem dX0_isKnown_14 : decode cX0_isKnown 14 = .ok (.getfield 26, 3) := dk_180 0 26 (dk_at dksX0_isKnown_0 14 rfl rfl)
theorem dX0_isKnown_17 : decode cX0_isKnown 17 = .ok (.invokevirtual 160, 3) := dk_182 0 160 (dk_at dksX0_isKnown_0 17 rfl rfl)
theorem dX0_isKnown_20 : decode cX0_isKnown 20 = .ok (.if_icmp .gt 24, 3) := dk_163 0 24 (dk_at dksX0_isKnown_0 20 rfl rfl)
theorem dX0_isKnown_23 : decode cX0_isKnown 23 = .ok (.aload_n 3, 1) := dk_45 (dk_at dksX0_isKnown_0 23 rfl rfl)
theorem dX0_isKnown_24 : decode cX0_isKnown 24 = .ok (.getfield 325, 3) := dk_180 1 69 (dk_at dksX0_isKnown_1 0 rfl rfl)
theorem dX0_isKnown_27 : decode cX0_isKnown 27 = .ok (.iload 4, 2) := dk_21 4 (dk_at dksX0_isKnown_1 3 rfl rfl)
theorem dX0_isKnown_29 : decode cX0_isKnown 29 = .ok (.aload_n 1, 1) := dk_43 (dk_at dksX0_isKnown_1 5 rfl rfl)
theorem dX0_isKnown_30 : decode cX0_isKnown 30 = .ok (.iload_n 2, 1) := dk_28 (dk_at dksX0_isKnown_1 6 rfl rfl)
theorem dX0_isKnown_31 : decode cX0_isKnown 31 = .ok (.iload 4, 2) := dk_21 4 (dk_at dksX0_isKnown_1 7 rfl rfl)
theorem dX0_isKnown_33 : decode cX0_isKnown 33 = .ok (.iadd, 1) := dk_96 (dk_at dksX0_isKnown_1 9 rfl rfl)
theorem dX0_isKnown_34 : decode cX0_isKnown 34 = .ok (.invokevirtual 326, 3) := dk_182 1 70 (dk_at dksX0_isKnown_1 10 rfl rfl)
theorem dX0_isKnown_37 : decode cX0_isKnown 37 = .ok (.iastore, 1) := dk_79 (dk_at dksX0_isKnown_1 13 rfl rfl)
theorem dX0_isKnown_38 : decode cX0_isKnown 38 = .ok (.iinc 4 1, 3) := dk_132 4 1 (dk_at dksX0_isKnown_1 14 rfl rfl)
theorem dX0_isKnown_41 : decode cX0_isKnown 41 = .ok (.goto (-30), 3) := dk_167 255 226 (dk_at dksX0_isKnown_1 17 rfl rfl)
theorem dX0_isKnown_44 : decode cX0_isKnown 44 = .ok (.aload_n 0, 1) := dk_42 (dk_at dksX0_isKnown_1 20 rfl rfl)
theorem dX0_isKnown_45 : decode cX0_isKnown 45 = .ok (.aload_n 3, 1) := dk_45 (dk_at dksX0_isKnown_1 21 rfl rfl)
theorem dX0_isKnown_46 : decode cX0_isKnown 46 = .ok (.iconst (-1), 1) := dk_2 (dk_at dksX0_isKnown_1 22 rfl rfl)
theorem dX0_isKnown_47 : decode cX0_isKnown 47 = .ok (.iconst 1, 1) := dk_4 (dk_at dksX0_isKnown_1 23 rfl rfl)
theorem dX0_isKnown_48 : decode cX0_isKnown 48 = .ok (.invokevirtual 192, 3) := dk_182 0 192 (dk_at dksX0_isKnown_2 0 rfl rfl)
theorem dX0_isKnown_51 : decode cX0_isKnown 51 = .ok (.aload_n 3, 1) := dk_45 (dk_at dksX0_isKnown_2 3 rfl rfl)
theorem dX0_isKnown_52 : decode cX0_isKnown 52 = .ok (.getfield 328, 3) := dk_180 1 72 (dk_at dksX0_isKnown_2 4 rfl rfl)
theorem dX0_isKnown_55 : decode cX0_isKnown 55 = .ok (.ireturn, 1) := dk_172 (dk_at dksX0_isKnown_2 7 rfl rfl)
abbrev cX0_heldBy : ByteArray := prog_1_method_54_code
def yX0_heldBy : MethodName := ⟨RX0, "heldBy", "(LSevenRings$Sheet;I)I"⟩
def dkwX0_heldBy_9 : List UInt8 := [132, 7, 1, 167, 255, 223, 21, 6, 172]
abbrev dktX0_heldBy_9 : List UInt8 := dkwX0_heldBy_9 ++ []
def dkwX0_heldBy_8 : List UInt8 := [21, 6, 45, 180, 1, 29, 21, 7, 47, 22, 4, 148, 158, 0, 7, 4, 167, 0, 4, 3, 96, 54, 6]
abbrev dktX0_heldBy_8 : List UInt8 := dkwX0_heldBy_8 ++ dktX0_heldBy_9
def dkwX0_heldBy_7 : List UInt8 := [182, 0, 160, 96, 182, 1, 70, 47, 55, 4, 3, 54, 6, 3, 54, 7, 21, 7, 16, 100, 162, 0, 32]
abbrev dktX0_heldBy_7 : List UInt8 := dkwX0_heldBy_7 ++ dktX0_heldBy_8
def dkwX0_heldBy_6 : List UInt8 := [180, 0, 26, 180, 0, 81, 3, 16, 7, 184, 0, 119, 45, 180, 1, 29, 43, 28, 42, 180, 0, 26]
abbrev dktX0_heldBy_6 : List UInt8 := dkwX0_heldBy_6 ++ dktX0_heldBy_7
def dkwX0_heldBy_5 : List UInt8 := [180, 0, 41, 3, 42, 180, 0, 26, 180, 0, 84, 3, 16, 7, 184, 0, 119, 42, 180, 0, 45, 3, 42]
abbrev dktX0_heldBy_5 : List UInt8 := dkwX0_heldBy_5 ++ dktX0_heldBy_6
def dkwX0_heldBy_4 : List UInt8 := [132, 3, 1, 167, 255, 198, 187, 1, 26, 89, 183, 1, 28, 78, 42, 45, 2, 3, 182, 0, 192, 42]
abbrev dktX0_heldBy_4 : List UInt8 := dkwX0_heldBy_4 ++ dktX0_heldBy_5
def dkwX0_heldBy_3 : List UInt8 := [29, 96, 182, 1, 70, 182, 0, 78, 167, 0, 5, 16, 252, 79, 42, 180, 0, 26, 180, 0, 81, 29, 3, 79]
abbrev dktX0_heldBy_3 : List UInt8 := dkwX0_heldBy_3 ++ dktX0_heldBy_4
def dkwX0_heldBy_2 : List UInt8 := [180, 0, 26, 180, 0, 84, 29, 29, 42, 180, 0, 26, 182, 0, 160, 163, 0, 20, 42, 180, 0, 26, 43, 28]
abbrev dktX0_heldBy_2 : List UInt8 := dkwX0_heldBy_2 ++ dktX0_heldBy_3
def dkwX0_heldBy_1 : List UInt8 := [180, 0, 81, 3, 42, 180, 0, 45, 3, 16, 7, 184, 0, 119, 4, 62, 29, 16, 6, 163, 0, 58, 42]
abbrev dktX0_heldBy_1 : List UInt8 := dkwX0_heldBy_1 ++ dktX0_heldBy_2
def dkwX0_heldBy_0 : List UInt8 := [42, 180, 0, 26, 180, 0, 84, 3, 42, 180, 0, 41, 3, 16, 7, 184, 0, 119, 42, 180, 0, 26]
abbrev dktX0_heldBy_0 : List UInt8 := dkwX0_heldBy_0 ++ dktX0_heldBy_1
theorem dksX0_heldBy_0 : cX0_heldBy.data.toList.drop 0 = dktX0_heldBy_0 := by decide +kernel
theorem dksX0_heldBy_1 : cX0_heldBy.data.toList.drop 22 = dktX0_heldBy_1 := dk_seg dksX0_heldBy_0 22 rfl rfl
theorem dksX0_heldBy_2 : cX0_heldBy.data.toList.drop 45 = dktX0_heldBy_2 := dk_seg dksX0_heldBy_1 23 rfl rfl
theorem dksX0_heldBy_3 : cX0_heldBy.data.toList.drop 69 = dktX0_heldBy_3 := dk_seg dksX0_heldBy_2 24 rfl rfl
theorem dksX0_heldBy_4 : cX0_heldBy.data.toList.drop 93 = dktX0_heldBy_4 := dk_seg dksX0_heldBy_3 24 rfl rfl
theorem dksX0_heldBy_5 : cX0_heldBy.data.toList.drop 115 = dktX0_heldBy_5 := dk_seg dksX0_heldBy_4 22 rfl rfl
theorem dksX0_heldBy_6 : cX0_heldBy.data.toList.drop 138 = dktX0_heldBy_6 := dk_seg dksX0_heldBy_5 23 rfl rfl
theorem dksX0_heldBy_7 : cX0_heldBy.data.toList.drop 160 = dktX0_heldBy_7 := dk_seg dksX0_heldBy_6 22 rfl rfl
theorem dksX0_heldBy_8 : cX0_heldBy.data.toList.drop 183 = dktX0_heldBy_8 := dk_seg dksX0_heldBy_7 23 rfl rfl
theorem dksX0_heldBy_9 : cX0_heldBy.data.toList.drop 206 = dktX0_heldBy_9 := dk_seg dksX0_heldBy_8 23 rfl rfl
theorem dX0_heldBy_0 : decode cX0_heldBy 0 = .ok (.aload_n 0, 1) := dk_42 (dk_at dksX0_heldBy_0 0 rfl rfl)
theorem dX0_heldBy_1 : decode cX0_heldBy 1 = .ok (.getfield 26, 3) := dk_180 0 26 (dk_at dksX0_heldBy_0 1 rfl rfl)
theorem dX0_heldBy_4 : decode cX0_heldBy 4 = .ok (.getfield 84, 3) := dk_180 0 84 (dk_at dksX0_heldBy_0 4 rfl rfl)
theorem dX0_heldBy_7 : decode cX0_heldBy 7 = .ok (.iconst 0, 1) := dk_3 (dk_at dksX0_heldBy_0 7 rfl rfl)
theorem dX0_heldBy_8 : decode cX0_heldBy 8 = .ok (.aload_n 0, 1) := dk_42 (dk_at dksX0_heldBy_0 8 rfl rfl)
theorem dX0_heldBy_9 : decode cX0_heldBy 9 = .ok (.getfield 41, 3) := dk_180 0 41 (dk_at dksX0_heldBy_0 9 rfl rfl)
theorem dX0_heldBy_12 : decode cX0_heldBy 12 = .ok (.iconst 0, 1) := dk_3 (dk_at dksX0_heldBy_0 12 rfl rfl)
theorem dX0_heldBy_13 : decode cX0_heldBy 13 = .ok (.bipush 7, 2) := dk_16 7 (dk_at dksX0_heldBy_0 13 rfl rfl)
theorem dX0_heldBy_15 : decode cX0_heldBy 15 = .ok (.invokestatic 119, 3) := dk_184 0 119 (dk_at dksX0_heldBy_0 15 rfl rfl)
theorem dX0_heldBy_18 : decode cX0_heldBy 18 = .ok (.aload_n 0, 1) := dk_42 (dk_at dksX0_heldBy_0 18 rfl rfl)
theorem dX0_heldBy_19 : decode cX0_heldBy 19 = .ok (.getfield 26, 3) := dk_180 0 26 (dk_at dksX0_heldBy_0 19 rfl rfl)
theorem dX0_heldBy_22 : decode cX0_heldBy 22 = .ok (.getfield 81, 3) := dk_180 0 81 (dk_at dksX0_heldBy_1 0 rfl rfl)
theorem dX0_heldBy_25 : decode cX0_heldBy 25 = .ok (.iconst 0, 1) := dk_3 (dk_at dksX0_heldBy_1 3 rfl rfl)
theorem dX0_heldBy_26 : decode cX0_heldBy 26 = .ok (.aload_n 0, 1) := dk_42 (dk_at dksX0_heldBy_1 4 rfl rfl)
theorem dX0_heldBy_27 : decode cX0_heldBy 27 = .ok (.getfield 45, 3) := dk_180 0 45 (dk_at dksX0_heldBy_1 5 rfl rfl)
theorem dX0_heldBy_30 : decode cX0_heldBy 30 = .ok (.iconst 0, 1) := dk_3 (dk_at dksX0_heldBy_1 8 rfl rfl)
theorem dX0_heldBy_31 : decode cX0_heldBy 31 = .ok (.bipush 7, 2) := dk_16 7 (dk_at dksX0_heldBy_1 9 rfl rfl)
theorem dX0_heldBy_33 : decode cX0_heldBy 33 = .ok (.invokestatic 119, 3) := dk_184 0 119 (dk_at dksX0_heldBy_1 11 rfl rfl)
theorem dX0_heldBy_36 : decode cX0_heldBy 36 = .ok (.iconst 1, 1) := dk_4 (dk_at dksX0_heldBy_1 14 rfl rfl)
theorem dX0_heldBy_37 : decode cX0_heldBy 37 = .ok (.istore_n 3, 1) := dk_62 (dk_at dksX0_heldBy_1 15 rfl rfl)
theorem dX0_heldBy_38 : decode cX0_heldBy 38 = .ok (.iload_n 3, 1) := dk_29 (dk_at dksX0_heldBy_1 16 rfl rfl)
theorem dX0_heldBy_39 : decode cX0_heldBy 39 = .ok (.bipush 6, 2) := dk_16 6 (dk_at dksX0_heldBy_1 17 rfl rfl)
theorem dX0_heldBy_41 : decode cX0_heldBy 41 = .ok (.if_icmp .gt 58, 3) := dk_163 0 58 (dk_at dksX0_heldBy_1 19 rfl rfl)
theorem dX0_heldBy_44 : decode cX0_heldBy 44 = .ok (.aload_n 0, 1) := dk_42 (dk_at dksX0_heldBy_1 22 rfl rfl)
theorem dX0_heldBy_45 : decode cX0_heldBy 45 = .ok (.getfield 26, 3) := dk_180 0 26 (dk_at dksX0_heldBy_2 0 rfl rfl)
theorem dX0_heldBy_48 : decode cX0_heldBy 48 = .ok (.getfield 84, 3) := dk_180 0 84 (dk_at dksX0_heldBy_2 3 rfl rfl)
theorem dX0_heldBy_51 : decode cX0_heldBy 51 = .ok (.iload_n 3, 1) := dk_29 (dk_at dksX0_heldBy_2 6 rfl rfl)
theorem dX0_heldBy_52 : decode cX0_heldBy 52 = .ok (.iload_n 3, 1) := dk_29 (dk_at dksX0_heldBy_2 7 rfl rfl)
theorem dX0_heldBy_53 : decode cX0_heldBy 53 = .ok (.aload_n 0, 1) := dk_42 (dk_at dksX0_heldBy_2 8 rfl rfl)
theorem dX0_heldBy_54 : decode cX0_heldBy 54 = .ok (.getfield 26, 3) := dk_180 0 26 (dk_at dksX0_heldBy_2 9 rfl rfl)
theorem dX0_heldBy_57 : decode cX0_heldBy 57 = .ok (.invokevirtual 160, 3) := dk_182 0 160 (dk_at dksX0_heldBy_2 12 rfl rfl)
theorem dX0_heldBy_60 : decode cX0_heldBy 60 = .ok (.if_icmp .gt 20, 3) := dk_163 0 20 (dk_at dksX0_heldBy_2 15 rfl rfl)
theorem dX0_heldBy_63 : decode cX0_heldBy 63 = .ok (.aload_n 0, 1) := dk_42 (dk_at dksX0_heldBy_2 18 rfl rfl)
theorem dX0_heldBy_64 : decode cX0_heldBy 64 = .ok (.getfield 26, 3) := dk_180 0 26 (dk_at dksX0_heldBy_2 19 rfl rfl)
theorem dX0_heldBy_67 : decode cX0_heldBy 67 = .ok (.aload_n 1, 1) := dk_43 (dk_at dksX0_heldBy_2 22 rfl rfl)
theorem dX0_heldBy_68 : decode cX0_heldBy 68 = .ok (.iload_n 2, 1) := dk_28 (dk_at dksX0_heldBy_2 23 rfl rfl)
theorem dX0_heldBy_69 : decode cX0_heldBy 69 = .ok (.iload_n 3, 1) := dk_29 (dk_at dksX0_heldBy_3 0 rfl rfl)
theorem dX0_heldBy_70 : decode cX0_heldBy 70 = .ok (.iadd, 1) := dk_96 (dk_at dksX0_heldBy_3 1 rfl rfl)
theorem dX0_heldBy_71 : decode cX0_heldBy 71 = .ok (.invokevirtual 326, 3) := dk_182 1 70 (dk_at dksX0_heldBy_3 2 rfl rfl)
theorem dX0_heldBy_74 : decode cX0_heldBy 74 = .ok (.invokevirtual 78, 3) := dk_182 0 78 (dk_at dksX0_heldBy_3 5 rfl rfl)
theorem dX0_heldBy_77 : decode cX0_heldBy 77 = .ok (.goto 5, 3) := dk_167 0 5 (dk_at dksX0_heldBy_3 8 rfl rfl)
theorem dX0_heldBy_80 : decode cX0_heldBy 80 = .ok (.bipush (-4), 2) := dk_16 252 (dk_at dksX0_heldBy_3 11 rfl rfl)
theorem dX0_heldBy_82 : decode cX0_heldBy 82 = .ok (.iastore, 1) := dk_79 (dk_at dksX0_heldBy_3 13 rfl rfl)
theorem dX0_heldBy_83 : decode cX0_heldBy 83 = .ok (.aload_n 0, 1) := dk_42 (dk_at dksX0_heldBy_3 14 rfl rfl)
theorem dX0_heldBy_84 : decode cX0_heldBy 84 = .ok (.getfield 26, 3) := dk_180 0 26 (dk_at dksX0_heldBy_3 15 rfl rfl)
theorem dX0_heldBy_87 : decode cX0_heldBy 87 = .ok (.getfield 81, 3) := dk_180 0 81 (dk_at dksX0_heldBy_3 18 rfl rfl)
theorem dX0_heldBy_90 : decode cX0_heldBy 90 = .ok (.iload_n 3, 1) := dk_29 (dk_at dksX0_heldBy_3 21 rfl rfl)
theorem dX0_heldBy_91 : decode cX0_heldBy 91 = .ok (.iconst 0, 1) := dk_3 (dk_at dksX0_heldBy_3 22 rfl rfl)
theorem dX0_heldBy_92 : decode cX0_heldBy 92 = .ok (.iastore, 1) := dk_79 (dk_at dksX0_heldBy_3 23 rfl rfl)
theorem dX0_heldBy_93 : decode cX0_heldBy 93 = .ok (.iinc 3 1, 3) := dk_132 3 1 (dk_at dksX0_heldBy_4 0 rfl rfl)
theorem dX0_heldBy_96 : decode cX0_heldBy 96 = .ok (.goto (-58), 3) := dk_167 255 198 (dk_at dksX0_heldBy_4 3 rfl rfl)
theorem dX0_heldBy_99 : decode cX0_heldBy 99 = .ok (.new 282, 3) := dk_187 1 26 (dk_at dksX0_heldBy_4 6 rfl rfl)
theorem dX0_heldBy_102 : decode cX0_heldBy 102 = .ok (.dup, 1) := dk_89 (dk_at dksX0_heldBy_4 9 rfl rfl)
theorem dX0_heldBy_103 : decode cX0_heldBy 103 = .ok (.invokespecial 284, 3) := dk_183 1 28 (dk_at dksX0_heldBy_4 10 rfl rfl)
theorem dX0_heldBy_106 : decode cX0_heldBy 106 = .ok (.astore_n 3, 1) := dk_78 (dk_at dksX0_heldBy_4 13 rfl rfl)
theorem dX0_heldBy_107 : decode cX0_heldBy 107 = .ok (.aload_n 0, 1) := dk_42 (dk_at dksX0_heldBy_4 14 rfl rfl)
theorem dX0_heldBy_108 : decode cX0_heldBy 108 = .ok (.aload_n 3, 1) := dk_45 (dk_at dksX0_heldBy_4 15 rfl rfl)
theorem dX0_heldBy_109 : decode cX0_heldBy 109 = .ok (.iconst (-1), 1) := dk_2 (dk_at dksX0_heldBy_4 16 rfl rfl)
theorem dX0_heldBy_110 : decode cX0_heldBy 110 = .ok (.iconst 0, 1) := dk_3 (dk_at dksX0_heldBy_4 17 rfl rfl)
theorem dX0_heldBy_111 : decode cX0_heldBy 111 = .ok (.invokevirtual 192, 3) := dk_182 0 192 (dk_at dksX0_heldBy_4 18 rfl rfl)
theorem dX0_heldBy_114 : decode cX0_heldBy 114 = .ok (.aload_n 0, 1) := dk_42 (dk_at dksX0_heldBy_4 21 rfl rfl)
theorem dX0_heldBy_115 : decode cX0_heldBy 115 = .ok (.getfield 41, 3) := dk_180 0 41 (dk_at dksX0_heldBy_5 0 rfl rfl)
theorem dX0_heldBy_118 : decode cX0_heldBy 118 = .ok (.iconst 0, 1) := dk_3 (dk_at dksX0_heldBy_5 3 rfl rfl)
theorem dX0_heldBy_119 : decode cX0_heldBy 119 = .ok (.aload_n 0, 1) := dk_42 (dk_at dksX0_heldBy_5 4 rfl rfl)
theorem dX0_heldBy_120 : decode cX0_heldBy 120 = .ok (.getfield 26, 3) := dk_180 0 26 (dk_at dksX0_heldBy_5 5 rfl rfl)
theorem dX0_heldBy_123 : decode cX0_heldBy 123 = .ok (.getfield 84, 3) := dk_180 0 84 (dk_at dksX0_heldBy_5 8 rfl rfl)
theorem dX0_heldBy_126 : decode cX0_heldBy 126 = .ok (.iconst 0, 1) := dk_3 (dk_at dksX0_heldBy_5 11 rfl rfl)
theorem dX0_heldBy_127 : decode cX0_heldBy 127 = .ok (.bipush 7, 2) := dk_16 7 (dk_at dksX0_heldBy_5 12 rfl rfl)
theorem dX0_heldBy_129 : decode cX0_heldBy 129 = .ok (.invokestatic 119, 3) := dk_184 0 119 (dk_at dksX0_heldBy_5 14 rfl rfl)
theorem dX0_heldBy_132 : decode cX0_heldBy 132 = .ok (.aload_n 0, 1) := dk_42 (dk_at dksX0_heldBy_5 17 rfl rfl)
theorem dX0_heldBy_133 : decode cX0_heldBy 133 = .ok (.getfield 45, 3) := dk_180 0 45 (dk_at dksX0_heldBy_5 18 rfl rfl)
theorem dX0_heldBy_136 : decode cX0_heldBy 136 = .ok (.iconst 0, 1) := dk_3 (dk_at dksX0_heldBy_5 21 rfl rfl)
theorem dX0_heldBy_137 : decode cX0_heldBy 137 = .ok (.aload_n 0, 1) := dk_42 (dk_at dksX0_heldBy_5 22 rfl rfl)
theorem dX0_heldBy_138 : decode cX0_heldBy 138 = .ok (.getfield 26, 3) := dk_180 0 26 (dk_at dksX0_heldBy_6 0 rfl rfl)
theorem dX0_heldBy_141 : decode cX0_heldBy 141 = .ok (.getfield 81, 3) := dk_180 0 81 (dk_at dksX0_heldBy_6 3 rfl rfl)
theorem dX0_heldBy_144 : decode cX0_heldBy 144 = .ok (.iconst 0, 1) := dk_3 (dk_at dksX0_heldBy_6 6 rfl rfl)
theorem dX0_heldBy_145 : decode cX0_heldBy 145 = .ok (.bipush 7, 2) := dk_16 7 (dk_at dksX0_heldBy_6 7 rfl rfl)
theorem dX0_heldBy_147 : decode cX0_heldBy 147 = .ok (.invokestatic 119, 3) := dk_184 0 119 (dk_at dksX0_heldBy_6 9 rfl rfl)
theorem dX0_heldBy_150 : decode cX0_heldBy 150 = .ok (.aload_n 3, 1) := dk_45 (dk_at dksX0_heldBy_6 12 rfl rfl)
theorem dX0_heldBy_151 : decode cX0_heldBy 151 = .ok (.getfield 285, 3) := dk_180 1 29 (dk_at dksX0_heldBy_6 13 rfl rfl)
theorem dX0_heldBy_154 : decode cX0_heldBy 154 = .ok (.aload_n 1, 1) := dk_43 (dk_at dksX0_heldBy_6 16 rfl rfl)
theorem dX0_heldBy_155 : decode cX0_heldBy 155 = .ok (.iload_n 2, 1) := dk_28 (dk_at dksX0_heldBy_6 17 rfl rfl)
theorem dX0_heldBy_156 : decode cX0_heldBy 156 = .ok (.aload_n 0, 1) := dk_42 (dk_at dksX0_heldBy_6 18 rfl rfl)
theorem dX0_heldBy_157 : decode cX0_heldBy 157 = .ok (.getfield 26, 3) := dk_180 0 26 (dk_at dksX0_heldBy_6 19 rfl rfl)
theorem dX0_heldBy_160 : decode cX0_heldBy 160 = .ok (.invokevirtual 160, 3) := dk_182 0 160 (dk_at dksX0_heldBy_7 0 rfl rfl)
theorem dX0_heldBy_163 : decode cX0_heldBy 163 = .ok (.iadd, 1) := dk_96 (dk_at dksX0_heldBy_7 3 rfl rfl)
theorem dX0_heldBy_164 : decode cX0_heldBy 164 = .ok (.invokevirtual 326, 3) := dk_182 1 70 (dk_at dksX0_heldBy_7 4 rfl rfl)
theorem dX0_heldBy_167 : decode cX0_heldBy 167 = .ok (.laload, 1) := dk_47 (dk_at dksX0_heldBy_7 7 rfl rfl)
theorem dX0_heldBy_168 : decode cX0_heldBy 168 = .ok (.lstore 4, 2) := dk_55 4 (dk_at dksX0_heldBy_7 8 rfl rfl)
theorem dX0_heldBy_170 : decode cX0_heldBy 170 = .ok (.iconst 0, 1) := dk_3 (dk_at dksX0_heldBy_7 10 rfl rfl)
theorem dX0_heldBy_171 : decode cX0_heldBy 171 = .ok (.istore 6, 2) := dk_54 6 (dk_at dksX0_heldBy_7 11 rfl rfl)
theorem dX0_heldBy_173 : decode cX0_heldBy 173 = .ok (.iconst 0, 1) := dk_3 (dk_at dksX0_heldBy_7 13 rfl rfl)
theorem dX0_heldBy_174 : decode cX0_heldBy 174 = .ok (.istore 7, 2) := dk_54 7 (dk_at dksX0_heldBy_7 14 rfl rfl)
theorem dX0_heldBy_176 : decode cX0_heldBy 176 = .ok (.iload 7, 2) := dk_21 7 (dk_at dksX0_heldBy_7 16 rfl rfl)
theorem dX0_heldBy_178 : decode cX0_heldBy 178 = .ok (.bipush 100, 2) := dk_16 100 (dk_at dksX0_heldBy_7 18 rfl rfl)
theorem dX0_heldBy_180 : decode cX0_heldBy 180 = .ok (.if_icmp .ge 32, 3) := dk_162 0 32 (dk_at dksX0_heldBy_7 20 rfl rfl)
theorem dX0_heldBy_183 : decode cX0_heldBy 183 = .ok (.iload 6, 2) := dk_21 6 (dk_at dksX0_heldBy_8 0 rfl rfl)
theorem dX0_heldBy_185 : decode cX0_heldBy 185 = .ok (.aload_n 3, 1) := dk_45 (dk_at dksX0_heldBy_8 2 rfl rfl)
theorem dX0_heldBy_186 : decode cX0_heldBy 186 = .ok (.getfield 285, 3) := dk_180 1 29 (dk_at dksX0_heldBy_8 3 rfl rfl)
theorem dX0_heldBy_189 : decode cX0_heldBy 189 = .ok (.iload 7, 2) := dk_21 7 (dk_at dksX0_heldBy_8 6 rfl rfl)
theorem dX0_heldBy_191 : decode cX0_heldBy 191 = .ok (.laload, 1) := dk_47 (dk_at dksX0_heldBy_8 8 rfl rfl)
theorem dX0_heldBy_192 : decode cX0_heldBy 192 = .ok (.lload 4, 2) := dk_22 4 (dk_at dksX0_heldBy_8 9 rfl rfl)
theorem dX0_heldBy_194 : decode cX0_heldBy 194 = .ok (.lcmp, 1) := dk_148 (dk_at dksX0_heldBy_8 11 rfl rfl)
theorem dX0_heldBy_195 : decode cX0_heldBy 195 = .ok (.ifCond .le 7, 3) := dk_158 0 7 (dk_at dksX0_heldBy_8 12 rfl rfl)
theorem dX0_heldBy_198 : decode cX0_heldBy 198 = .ok (.iconst 1, 1) := dk_4 (dk_at dksX0_heldBy_8 15 rfl rfl)
theorem dX0_heldBy_199 : decode cX0_heldBy 199 = .ok (.goto 4, 3) := dk_167 0 4 (dk_at dksX0_heldBy_8 16 rfl rfl)
theorem dX0_heldBy_202 : decode cX0_heldBy 202 = .ok (.iconst 0, 1) := dk_3 (dk_at dksX0_heldBy_8 19 rfl rfl)
theorem dX0_heldBy_203 : decode cX0_heldBy 203 = .ok (.iadd, 1) := dk_96 (dk_at dksX0_heldBy_8 20 rfl rfl)
theorem dX0_heldBy_204 : decode cX0_heldBy 204 = .ok (.istore 6, 2) := dk_54 6 (dk_at dksX0_heldBy_8 21 rfl rfl)
theorem dX0_heldBy_206 : decode cX0_heldBy 206 = .ok (.iinc 7 1, 3) := dk_132 7 1 (dk_at dksX0_heldBy_9 0 rfl rfl)
theorem dX0_heldBy_209 : decode cX0_heldBy 209 = .ok (.goto (-33), 3) := dk_167 255 223 (dk_at dksX0_heldBy_9 3 rfl rfl)
theorem dX0_heldBy_212 : decode cX0_heldBy 212 = .ok (.iload 6, 2) := dk_21 6 (dk_at dksX0_heldBy_9 6 rfl rfl)
theorem dX0_heldBy_214 : decode cX0_heldBy 214 = .ok (.ireturn, 1) := dk_172 (dk_at dksX0_heldBy_9 8 rfl rfl)
abbrev cX0_film : ByteArray := prog_1_method_56_code
def yX0_film : MethodName := ⟨RX0, "film", "(IIII)I"⟩
def dkwX0_film_4 : List UInt8 := [132, 7, 1, 167, 255, 219, 42, 180, 0, 26, 182, 0, 160, 4, 96, 172]
abbrev dktX0_film_4 : List UInt8 := dkwX0_film_4 ++ []
def dkwX0_film_3 : List UInt8 := [42, 180, 0, 66, 28, 50, 21, 4, 21, 7, 96, 25, 6, 180, 0, 217, 21, 7, 46, 182, 1, 92]
abbrev dktX0_film_3 : List UInt8 := dkwX0_film_3 ++ dktX0_film_4
def dkwX0_film_2 : List UInt8 := [180, 0, 210, 155, 0, 6, 16, 254, 172, 3, 54, 7, 21, 7, 42, 180, 0, 26, 182, 0, 160, 163, 0, 31]
abbrev dktX0_film_2 : List UInt8 := dkwX0_film_2 ++ dktX0_film_3
def dkwX0_film_1 : List UInt8 := [21, 4, 182, 1, 81, 54, 5, 21, 5, 156, 0, 6, 21, 5, 172, 42, 27, 182, 0, 213, 58, 6, 25, 6]
abbrev dktX0_film_1 : List UInt8 := dkwX0_film_1 ++ dktX0_film_2
def dkwX0_film_0 : List UInt8 := [27, 155, 0, 17, 28, 184, 1, 75, 153, 0, 10, 29, 184, 1, 78, 154, 0, 5, 2, 172, 42, 28, 29]
abbrev dktX0_film_0 : List UInt8 := dkwX0_film_0 ++ dktX0_film_1
theorem dksX0_film_0 : cX0_film.data.toList.drop 0 = dktX0_film_0 := by decide +kernel
theorem dksX0_film_1 : cX0_film.data.toList.drop 23 = dktX0_film_1 := dk_seg dksX0_film_0 23 rfl rfl
theorem dksX0_film_2 : cX0_film.data.toList.drop 47 = dktX0_film_2 := dk_seg dksX0_film_1 24 rfl rfl
theorem dksX0_film_3 : cX0_film.data.toList.drop 71 = dktX0_film_3 := dk_seg dksX0_film_2 24 rfl rfl
theorem dksX0_film_4 : cX0_film.data.toList.drop 93 = dktX0_film_4 := dk_seg dksX0_film_3 22 rfl rfl
theorem dX0_film_0 : decode cX0_film 0 = .ok (.iload_n 1, 1) := dk_27 (dk_at dksX0_film_0 0 rfl rfl)
theorem dX0_film_1 : decode cX0_film 1 = .ok (.ifCond .lt 17, 3) := dk_155 0 17 (dk_at dksX0_film_0 1 rfl rfl)
theorem dX0_film_4 : decode cX0_film 4 = .ok (.iload_n 2, 1) := dk_28 (dk_at dksX0_film_0 4 rfl rfl)
theorem dX0_film_5 : decode cX0_film 5 = .ok (.invokestatic 331, 3) := dk_184 1 75 (dk_at dksX0_film_0 5 rfl rfl)
theorem dX0_film_8 : decode cX0_film 8 = .ok (.ifCond .eq 10, 3) := dk_153 0 10 (dk_at dksX0_film_0 8 rfl rfl)
theorem dX0_film_11 : decode cX0_film 11 = .ok (.iload_n 3, 1) := dk_29 (dk_at dksX0_film_0 11 rfl rfl)
theorem dX0_film_12 : decode cX0_film 12 = .ok (.invokestatic 334, 3) := dk_184 1 78 (dk_at dksX0_film_0 12 rfl rfl)
theorem dX0_film_15 : decode cX0_film 15 = .ok (.ifCond .ne 5, 3) := dk_154 0 5 (dk_at dksX0_film_0 15 rfl rfl)
theorem dX0_film_18 : decode cX0_film 18 = .ok (.iconst (-1), 1) := dk_2 (dk_at dksX0_film_0 18 rfl rfl)
theorem dX0_film_19 : decode cX0_film 19 = .ok (.ireturn, 1) := dk_172 (dk_at dksX0_film_0 19 rfl rfl)
theorem dX0_film_20 : decode cX0_film 20 = .ok (.aload_n 0, 1) := dk_42 (dk_at dksX0_film_0 20 rfl rfl)
theorem dX0_film_21 : decode cX0_film 21 = .ok (.iload_n 2, 1) := dk_28 (dk_at dksX0_film_0 21 rfl rfl)
theorem dX0_film_22 : decode cX0_film 22 = .ok (.iload_n 3, 1) := dk_29 (dk_at dksX0_film_0 22 rfl rfl)
theorem dX0_film_23 : decode cX0_film 23 = .ok (.iload 4, 2) := dk_21 4 (dk_at dksX0_film_1 0 rfl rfl)
theorem dX0_film_25 : decode cX0_film 25 = .ok (.invokevirtual 337, 3) := dk_182 1 81 (dk_at dksX0_film_1 2 rfl rfl)
theorem dX0_film_28 : decode cX0_film 28 = .ok (.istore 5, 2) := dk_54 5 (dk_at dksX0_film_1 5 rfl rfl)
theorem dX0_film_30 : decode cX0_film 30 = .ok (.iload 5, 2) := dk_21 5 (dk_at dksX0_film_1 7 rfl rfl)
theorem dX0_film_32 : decode cX0_film 32 = .ok (.ifCond .ge 6, 3) := dk_156 0 6 (dk_at dksX0_film_1 9 rfl rfl)
theorem dX0_film_35 : decode cX0_film 35 = .ok (.iload 5, 2) := dk_21 5 (dk_at dksX0_film_1 12 rfl rfl)
theorem dX0_film_37 : decode cX0_film 37 = .ok (.ireturn, 1) := dk_172 (dk_at dksX0_film_1 14 rfl rfl)
theorem dX0_film_38 : decode cX0_film 38 = .ok (.aload_n 0, 1) := dk_42 (dk_at dksX0_film_1 15 rfl rfl)
theorem dX0_film_39 : decode cX0_film 39 = .ok (.iload_n 1, 1) := dk_27 (dk_at dksX0_film_1 16 rfl rfl)
theorem dX0_film_40 : decode cX0_film 40 = .ok (.invokevirtual 213, 3) := dk_182 0 213 (dk_at dksX0_film_1 17 rfl rfl)
theorem dX0_film_43 : decode cX0_film 43 = .ok (.astore 6, 2) := dk_58 6 (dk_at dksX0_film_1 20 rfl rfl)
theorem dX0_film_45 : decode cX0_film 45 = .ok (.aload 6, 2) := dk_25 6 (dk_at dksX0_film_1 22 rfl rfl)
theorem dX0_film_47 : decode cX0_film 47 = .ok (.getfield 210, 3) := dk_180 0 210 (dk_at dksX0_film_2 0 rfl rfl)
theorem dX0_film_50 : decode cX0_film 50 = .ok (.ifCond .lt 6, 3) := dk_155 0 6 (dk_at dksX0_film_2 3 rfl rfl)
theorem dX0_film_53 : decode cX0_film 53 = .ok (.bipush (-2), 2) := dk_16 254 (dk_at dksX0_film_2 6 rfl rfl)
theorem dX0_film_55 : decode cX0_film 55 = .ok (.ireturn, 1) := dk_172 (dk_at dksX0_film_2 8 rfl rfl)
theorem dX0_film_56 : decode cX0_film 56 = .ok (.iconst 0, 1) := dk_3 (dk_at dksX0_film_2 9 rfl rfl)
theorem dX0_film_57 : decode cX0_film 57 = .ok (.istore 7, 2) := dk_54 7 (dk_at dksX0_film_2 10 rfl rfl)
theorem dX0_film_59 : decode cX0_film 59 = .ok (.iload 7, 2) := dk_21 7 (dk_at dksX0_film_2 12 rfl rfl)
theorem dX0_film_61 : decode cX0_film 61 = .ok (.aload_n 0, 1) := dk_42 (dk_at dksX0_film_2 14 rfl rfl)
theorem dX0_film_62 : decode cX0_film 62 = .ok (.getfield 26, 3) := dk_180 0 26 (dk_at dksX0_film_2 15 rfl rfl)
theorem dX0_film_65 : decode cX0_film 65 = .ok (.invokevirtual 160, 3) := dk_182 0 160 (dk_at dksX0_film_2 18 rfl rfl)
theorem dX0_film_68 : decode cX0_film 68 = .ok (.if_icmp .gt 31, 3) := dk_163 0 31 (dk_at dksX0_film_2 21 rfl rfl)
theorem dX0_film_71 : decode cX0_film 71 = .ok (.aload_n 0, 1) := dk_42 (dk_at dksX0_film_3 0 rfl rfl)
theorem dX0_film_72 : decode cX0_film 72 = .ok (.getfield 66, 3) := dk_180 0 66 (dk_at dksX0_film_3 1 rfl rfl)
theorem dX0_film_75 : decode cX0_film 75 = .ok (.iload_n 2, 1) := dk_28 (dk_at dksX0_film_3 4 rfl rfl)
theorem dX0_film_76 : decode cX0_film 76 = .ok (.aaload, 1) := dk_50 (dk_at dksX0_film_3 5 rfl rfl)
theorem dX0_film_77 : decode cX0_film 77 = .ok (.iload 4, 2) := dk_21 4 (dk_at dksX0_film_3 6 rfl rfl)
theorem dX0_film_79 : decode cX0_film 79 = .ok (.iload 7, 2) := dk_21 7 (dk_at dksX0_film_3 8 rfl rfl)
theorem dX0_film_81 : decode cX0_film 81 = .ok (.iadd, 1) := dk_96 (dk_at dksX0_film_3 10 rfl rfl)
theorem dX0_film_82 : decode cX0_film 82 = .ok (.aload 6, 2) := dk_25 6 (dk_at dksX0_film_3 11 rfl rfl)
theorem dX0_film_84 : decode cX0_film 84 = .ok (.getfield 217, 3) := dk_180 0 217 (dk_at dksX0_film_3 13 rfl rfl)
theorem dX0_film_87 : decode cX0_film 87 = .ok (.iload 7, 2) := dk_21 7 (dk_at dksX0_film_3 16 rfl rfl)
theorem dX0_film_89 : decode cX0_film 89 = .ok (.iaload, 1) := dk_46 (dk_at dksX0_film_3 18 rfl rfl)
theorem dX0_film_90 : decode cX0_film 90 = .ok (.invokevirtual 348, 3) := dk_182 1 92 (dk_at dksX0_film_3 19 rfl rfl)
theorem dX0_film_93 : decode cX0_film 93 = .ok (.iinc 7 1, 3) := dk_132 7 1 (dk_at dksX0_film_4 0 rfl rfl)
theorem dX0_film_96 : decode cX0_film 96 = .ok (.goto (-37), 3) := dk_167 255 219 (dk_at dksX0_film_4 3 rfl rfl)
theorem dX0_film_99 : decode cX0_film 99 = .ok (.aload_n 0, 1) := dk_42 (dk_at dksX0_film_4 6 rfl rfl)
theorem dX0_film_100 : decode cX0_film 100 = .ok (.getfield 26, 3) := dk_180 0 26 (dk_at dksX0_film_4 7 rfl rfl)
theorem dX0_film_103 : decode cX0_film 103 = .ok (.invokevirtual 160, 3) := dk_182 0 160 (dk_at dksX0_film_4 10 rfl rfl)
theorem dX0_film_106 : decode cX0_film 106 = .ok (.iconst 1, 1) := dk_4 (dk_at dksX0_film_4 13 rfl rfl)
theorem dX0_film_107 : decode cX0_film 107 = .ok (.iadd, 1) := dk_96 (dk_at dksX0_film_4 14 rfl rfl)
theorem dX0_film_108 : decode cX0_film 108 = .ok (.ireturn, 1) := dk_172 (dk_at dksX0_film_4 15 rfl rfl)
abbrev cX0_image : ByteArray := prog_1_method_57_code
def yX0_image : MethodName := ⟨RX0, "image", "()I"⟩
def dkwX0_image_0 : List UInt8 := [42, 180, 0, 61, 42, 180, 0, 26, 182, 1, 94, 42, 4, 181, 1, 98, 4, 172]
abbrev dktX0_image_0 : List UInt8 := dkwX0_image_0 ++ []
theorem dksX0_image_0 : cX0_image.data.toList.drop 0 = dktX0_image_0 := by decide +kernel
theorem dX0_image_0 : decode cX0_image 0 = .ok (.aload_n 0, 1) := dk_42 (dk_at dksX0_image_0 0 rfl rfl)
theorem dX0_image_1 : decode cX0_image 1 = .ok (.getfield 61, 3) := dk_180 0 61 (dk_at dksX0_image_0 1 rfl rfl)
theorem dX0_image_4 : decode cX0_image 4 = .ok (.aload_n 0, 1) := dk_42 (dk_at dksX0_image_0 4 rfl rfl)
theorem dX0_image_5 : decode cX0_image 5 = .ok (.getfield 26, 3) := dk_180 0 26 (dk_at dksX0_image_0 5 rfl rfl)
theorem dX0_image_8 : decode cX0_image 8 = .ok (.invokevirtual 350, 3) := dk_182 1 94 (dk_at dksX0_image_0 8 rfl rfl)
theorem dX0_image_11 : decode cX0_image 11 = .ok (.aload_n 0, 1) := dk_42 (dk_at dksX0_image_0 11 rfl rfl)
theorem dX0_image_12 : decode cX0_image 12 = .ok (.iconst 1, 1) := dk_4 (dk_at dksX0_image_0 12 rfl rfl)
theorem dX0_image_13 : decode cX0_image 13 = .ok (.putfield 354, 3) := dk_181 1 98 (dk_at dksX0_image_0 13 rfl rfl)
theorem dX0_image_16 : decode cX0_image 16 = .ok (.iconst 1, 1) := dk_4 (dk_at dksX0_image_0 16 rfl rfl)
theorem dX0_image_17 : decode cX0_image 17 = .ok (.ireturn, 1) := dk_172 (dk_at dksX0_image_0 17 rfl rfl)
abbrev cX0_restore : ByteArray := prog_1_method_58_code
def yX0_restore : MethodName := ⟨RX0, "restore", "()I"⟩
def dkwX0_restore_0 : List UInt8 := [42, 180, 1, 98, 154, 0, 6, 16, 252, 172, 42, 180, 0, 26, 42, 180, 0, 61, 182, 1, 94, 4, 172]
abbrev dktX0_restore_0 : List UInt8 := dkwX0_restore_0 ++ []
theorem dksX0_restore_0 : cX0_restore.data.toList.drop 0 = dktX0_restore_0 := by decide +kernel
theorem dX0_restore_0 : decode cX0_restore 0 = .ok (.aload_n 0, 1) := dk_42 (dk_at dksX0_restore_0 0 rfl rfl)
theorem dX0_restore_1 : decode cX0_restore 1 = .ok (.getfield 354, 3) := dk_180 1 98 (dk_at dksX0_restore_0 1 rfl rfl)
theorem dX0_restore_4 : decode cX0_restore 4 = .ok (.ifCond .ne 6, 3) := dk_154 0 6 (dk_at dksX0_restore_0 4 rfl rfl)
theorem dX0_restore_7 : decode cX0_restore 7 = .ok (.bipush (-4), 2) := dk_16 252 (dk_at dksX0_restore_0 7 rfl rfl)
theorem dX0_restore_9 : decode cX0_restore 9 = .ok (.ireturn, 1) := dk_172 (dk_at dksX0_restore_0 9 rfl rfl)
theorem dX0_restore_10 : decode cX0_restore 10 = .ok (.aload_n 0, 1) := dk_42 (dk_at dksX0_restore_0 10 rfl rfl)
theorem dX0_restore_11 : decode cX0_restore 11 = .ok (.getfield 26, 3) := dk_180 0 26 (dk_at dksX0_restore_0 11 rfl rfl)
theorem dX0_restore_14 : decode cX0_restore 14 = .ok (.aload_n 0, 1) := dk_42 (dk_at dksX0_restore_0 14 rfl rfl)
theorem dX0_restore_15 : decode cX0_restore 15 = .ok (.getfield 61, 3) := dk_180 0 61 (dk_at dksX0_restore_0 15 rfl rfl)
theorem dX0_restore_18 : decode cX0_restore 18 = .ok (.invokevirtual 350, 3) := dk_182 1 94 (dk_at dksX0_restore_0 18 rfl rfl)
theorem dX0_restore_21 : decode cX0_restore 21 = .ok (.iconst 1, 1) := dk_4 (dk_at dksX0_restore_0 21 rfl rfl)
theorem dX0_restore_22 : decode cX0_restore 22 = .ok (.ireturn, 1) := dk_172 (dk_at dksX0_restore_0 22 rfl rfl)
abbrev cX0_sheet : ByteArray := prog_1_method_62_code
def yX0_sheet : MethodName := ⟨RX0, "sheet", "(III)I"⟩
def dkwX0_sheet_2 : List UInt8 := [167, 0, 6, 29, 188, 10, 181, 1, 101, 167, 0, 8, 58, 4, 16, 242, 172, 29, 172]
abbrev dktX0_sheet_2 : List UInt8 := dkwX0_sheet_2 ++ []
def dkwX0_sheet_1 : List UInt8 := [180, 0, 66, 27, 50, 28, 154, 0, 9, 29, 188, 8, 167, 0, 17, 28, 4, 160, 0, 9, 29, 188, 9]
abbrev dktX0_sheet_1 : List UInt8 := dkwX0_sheet_1 ++ dktX0_sheet_2
def dkwX0_sheet_0 : List UInt8 := [27, 184, 1, 75, 153, 0, 16, 28, 184, 1, 78, 153, 0, 9, 29, 16, 16, 164, 0, 5, 2, 172, 42]
abbrev dktX0_sheet_0 : List UInt8 := dkwX0_sheet_0 ++ dktX0_sheet_1
theorem dksX0_sheet_0 : cX0_sheet.data.toList.drop 0 = dktX0_sheet_0 := by decide +kernel
theorem dksX0_sheet_1 : cX0_sheet.data.toList.drop 23 = dktX0_sheet_1 := dk_seg dksX0_sheet_0 23 rfl rfl
theorem dksX0_sheet_2 : cX0_sheet.data.toList.drop 46 = dktX0_sheet_2 := dk_seg dksX0_sheet_1 23 rfl rfl
theorem dX0_sheet_0 : decode cX0_sheet 0 = .ok (.iload_n 1, 1) := dk_27 (dk_at dksX0_sheet_0 0 rfl rfl)
theorem dX0_sheet_1 : decode cX0_sheet 1 = .ok (.invokestatic 331, 3) := dk_184 1 75 (dk_at dksX0_sheet_0 1 rfl rfl)
theorem dX0_sheet_4 : decode cX0_sheet 4 = .ok (.ifCond .eq 16, 3) := dk_153 0 16 (dk_at dksX0_sheet_0 4 rfl rfl)
theorem dX0_sheet_7 : decode cX0_sheet 7 = .ok (.iload_n 2, 1) := dk_28 (dk_at dksX0_sheet_0 7 rfl rfl)
theorem dX0_sheet_8 : decode cX0_sheet 8 = .ok (.invokestatic 334, 3) := dk_184 1 78 (dk_at dksX0_sheet_0 8 rfl rfl)
theorem dX0_sheet_11 : decode cX0_sheet 11 = .ok (.ifCond .eq 9, 3) := dk_153 0 9 (dk_at dksX0_sheet_0 11 rfl rfl)
theorem dX0_sheet_14 : decode cX0_sheet 14 = .ok (.iload_n 3, 1) := dk_29 (dk_at dksX0_sheet_0 14 rfl rfl)
theorem dX0_sheet_15 : decode cX0_sheet 15 = .ok (.bipush 16, 2) := dk_16 16 (dk_at dksX0_sheet_0 15 rfl rfl)
theorem dX0_sheet_17 : decode cX0_sheet 17 = .ok (.if_icmp .le 5, 3) := dk_164 0 5 (dk_at dksX0_sheet_0 17 rfl rfl)
theorem dX0_sheet_20 : decode cX0_sheet 20 = .ok (.iconst (-1), 1) := dk_2 (dk_at dksX0_sheet_0 20 rfl rfl)
theorem dX0_sheet_21 : decode cX0_sheet 21 = .ok (.ireturn, 1) := dk_172 (dk_at dksX0_sheet_0 21 rfl rfl)
theorem dX0_sheet_22 : decode cX0_sheet 22 = .ok (.aload_n 0, 1) := dk_42 (dk_at dksX0_sheet_0 22 rfl rfl)
theorem dX0_sheet_23 : decode cX0_sheet 23 = .ok (.getfield 66, 3) := dk_180 0 66 (dk_at dksX0_sheet_1 0 rfl rfl)
theorem dX0_sheet_26 : decode cX0_sheet 26 = .ok (.iload_n 1, 1) := dk_27 (dk_at dksX0_sheet_1 3 rfl rfl)
theorem dX0_sheet_27 : decode cX0_sheet 27 = .ok (.aaload, 1) := dk_50 (dk_at dksX0_sheet_1 4 rfl rfl)
theorem dX0_sheet_28 : decode cX0_sheet 28 = .ok (.iload_n 2, 1) := dk_28 (dk_at dksX0_sheet_1 5 rfl rfl)
theorem dX0_sheet_29 : decode cX0_sheet 29 = .ok (.ifCond .ne 9, 3) := dk_154 0 9 (dk_at dksX0_sheet_1 6 rfl rfl)
theorem dX0_sheet_32 : decode cX0_sheet 32 = .ok (.iload_n 3, 1) := dk_29 (dk_at dksX0_sheet_1 9 rfl rfl)
theorem dX0_sheet_33 : decode cX0_sheet 33 = .ok (.newarray .byte, 2) := dk_188_8 (dk_at dksX0_sheet_1 10 rfl rfl)
theorem dX0_sheet_35 : decode cX0_sheet 35 = .ok (.goto 17, 3) := dk_167 0 17 (dk_at dksX0_sheet_1 12 rfl rfl)
theorem dX0_sheet_38 : decode cX0_sheet 38 = .ok (.iload_n 2, 1) := dk_28 (dk_at dksX0_sheet_1 15 rfl rfl)
theorem dX0_sheet_39 : decode cX0_sheet 39 = .ok (.iconst 1, 1) := dk_4 (dk_at dksX0_sheet_1 16 rfl rfl)
theorem dX0_sheet_40 : decode cX0_sheet 40 = .ok (.if_icmp .ne 9, 3) := dk_160 0 9 (dk_at dksX0_sheet_1 17 rfl rfl)
theorem dX0_sheet_43 : decode cX0_sheet 43 = .ok (.iload_n 3, 1) := dk_29 (dk_at dksX0_sheet_1 20 rfl rfl)
theorem dX0_sheet_44 : decode cX0_sheet 44 = .ok (.newarray .short, 2) := dk_188_9 (dk_at dksX0_sheet_1 21 rfl rfl)
theorem dX0_sheet_46 : decode cX0_sheet 46 = .ok (.goto 6, 3) := dk_167 0 6 (dk_at dksX0_sheet_2 0 rfl rfl)
theorem dX0_sheet_49 : decode cX0_sheet 49 = .ok (.iload_n 3, 1) := dk_29 (dk_at dksX0_sheet_2 3 rfl rfl)
theorem dX0_sheet_50 : decode cX0_sheet 50 = .ok (.newarray .int, 2) := dk_188_10 (dk_at dksX0_sheet_2 4 rfl rfl)
theorem dX0_sheet_52 : decode cX0_sheet 52 = .ok (.putfield 357, 3) := dk_181 1 101 (dk_at dksX0_sheet_2 6 rfl rfl)
theorem dX0_sheet_55 : decode cX0_sheet 55 = .ok (.goto 8, 3) := dk_167 0 8 (dk_at dksX0_sheet_2 9 rfl rfl)
theorem dX0_sheet_58 : decode cX0_sheet 58 = .ok (.astore 4, 2) := dk_58 4 (dk_at dksX0_sheet_2 12 rfl rfl)
theorem dX0_sheet_60 : decode cX0_sheet 60 = .ok (.bipush (-14), 2) := dk_16 242 (dk_at dksX0_sheet_2 14 rfl rfl)
theorem dX0_sheet_62 : decode cX0_sheet 62 = .ok (.ireturn, 1) := dk_172 (dk_at dksX0_sheet_2 16 rfl rfl)
theorem dX0_sheet_63 : decode cX0_sheet 63 = .ok (.iload_n 3, 1) := dk_29 (dk_at dksX0_sheet_2 17 rfl rfl)
theorem dX0_sheet_64 : decode cX0_sheet 64 = .ok (.ireturn, 1) := dk_172 (dk_at dksX0_sheet_2 18 rfl rfl)
abbrev cX0_drop : ByteArray := prog_1_method_63_code
def yX0_drop : MethodName := ⟨RX0, "drop", "(I)I"⟩
def dkwX0_drop_1 : List UInt8 := [42, 180, 0, 66, 27, 50, 182, 1, 108, 61, 42, 180, 0, 66, 27, 50, 1, 181, 1, 101, 28, 172]
abbrev dktX0_drop_1 : List UInt8 := dkwX0_drop_1 ++ []
def dkwX0_drop_0 : List UInt8 := [27, 184, 1, 75, 154, 0, 5, 2, 172, 42, 180, 0, 66, 27, 50, 180, 1, 101, 199, 0, 6, 16, 245, 172]
abbrev dktX0_drop_0 : List UInt8 := dkwX0_drop_0 ++ dktX0_drop_1
theorem dksX0_drop_0 : cX0_drop.data.toList.drop 0 = dktX0_drop_0 := by decide +kernel
theorem dksX0_drop_1 : cX0_drop.data.toList.drop 24 = dktX0_drop_1 := dk_seg dksX0_drop_0 24 rfl rfl
theorem dX0_drop_0 : decode cX0_drop 0 = .ok (.iload_n 1, 1) := dk_27 (dk_at dksX0_drop_0 0 rfl rfl)
theorem dX0_drop_1 : decode cX0_drop 1 = .ok (.invokestatic 331, 3) := dk_184 1 75 (dk_at dksX0_drop_0 1 rfl rfl)
theorem dX0_drop_4 : decode cX0_drop 4 = .ok (.ifCond .ne 5, 3) := dk_154 0 5 (dk_at dksX0_drop_0 4 rfl rfl)
theorem dX0_drop_7 : decode cX0_drop 7 = .ok (.iconst (-1), 1) := dk_2 (dk_at dksX0_drop_0 7 rfl rfl)
theorem dX0_drop_8 : decode cX0_drop 8 = .ok (.ireturn, 1) := dk_172 (dk_at dksX0_drop_0 8 rfl rfl)
theorem dX0_drop_9 : decode cX0_drop 9 = .ok (.aload_n 0, 1) := dk_42 (dk_at dksX0_drop_0 9 rfl rfl)
theorem dX0_drop_10 : decode cX0_drop 10 = .ok (.getfield 66, 3) := dk_180 0 66 (dk_at dksX0_drop_0 10 rfl rfl)
theorem dX0_drop_13 : decode cX0_drop 13 = .ok (.iload_n 1, 1) := dk_27 (dk_at dksX0_drop_0 13 rfl rfl)
theorem dX0_drop_14 : decode cX0_drop 14 = .ok (.aaload, 1) := dk_50 (dk_at dksX0_drop_0 14 rfl rfl)
theorem dX0_drop_15 : decode cX0_drop 15 = .ok (.getfield 357, 3) := dk_180 1 101 (dk_at dksX0_drop_0 15 rfl rfl)
theorem dX0_drop_18 : decode cX0_drop 18 = .ok (.ifnonnull 6, 3) := dk_199 0 6 (dk_at dksX0_drop_0 18 rfl rfl)
theorem dX0_drop_21 : decode cX0_drop 21 = .ok (.bipush (-11), 2) := dk_16 245 (dk_at dksX0_drop_0 21 rfl rfl)
theorem dX0_drop_23 : decode cX0_drop 23 = .ok (.ireturn, 1) := dk_172 (dk_at dksX0_drop_0 23 rfl rfl)
theorem dX0_drop_24 : decode cX0_drop 24 = .ok (.aload_n 0, 1) := dk_42 (dk_at dksX0_drop_1 0 rfl rfl)
theorem dX0_drop_25 : decode cX0_drop 25 = .ok (.getfield 66, 3) := dk_180 0 66 (dk_at dksX0_drop_1 1 rfl rfl)
theorem dX0_drop_28 : decode cX0_drop 28 = .ok (.iload_n 1, 1) := dk_27 (dk_at dksX0_drop_1 4 rfl rfl)
theorem dX0_drop_29 : decode cX0_drop 29 = .ok (.aaload, 1) := dk_50 (dk_at dksX0_drop_1 5 rfl rfl)
theorem dX0_drop_30 : decode cX0_drop 30 = .ok (.invokevirtual 364, 3) := dk_182 1 108 (dk_at dksX0_drop_1 6 rfl rfl)
theorem dX0_drop_33 : decode cX0_drop 33 = .ok (.istore_n 2, 1) := dk_61 (dk_at dksX0_drop_1 9 rfl rfl)
theorem dX0_drop_34 : decode cX0_drop 34 = .ok (.aload_n 0, 1) := dk_42 (dk_at dksX0_drop_1 10 rfl rfl)
theorem dX0_drop_35 : decode cX0_drop 35 = .ok (.getfield 66, 3) := dk_180 0 66 (dk_at dksX0_drop_1 11 rfl rfl)
theorem dX0_drop_38 : decode cX0_drop 38 = .ok (.iload_n 1, 1) := dk_27 (dk_at dksX0_drop_1 14 rfl rfl)
theorem dX0_drop_39 : decode cX0_drop 39 = .ok (.aaload, 1) := dk_50 (dk_at dksX0_drop_1 15 rfl rfl)
theorem dX0_drop_40 : decode cX0_drop 40 = .ok (.aconst_null, 1) := dk_1 (dk_at dksX0_drop_1 16 rfl rfl)
theorem dX0_drop_41 : decode cX0_drop 41 = .ok (.putfield 357, 3) := dk_181 1 101 (dk_at dksX0_drop_1 17 rfl rfl)
theorem dX0_drop_44 : decode cX0_drop 44 = .ok (.iload_n 2, 1) := dk_28 (dk_at dksX0_drop_1 20 rfl rfl)
theorem dX0_drop_45 : decode cX0_drop 45 = .ok (.ireturn, 1) := dk_172 (dk_at dksX0_drop_1 21 rfl rfl)
abbrev cX0_item : ByteArray := prog_1_method_64_code
def yX0_item : MethodName := ⟨RX0, "item", "(IIII)I"⟩
def dkwX0_item_5 : List UInt8 := [58, 5, 16, 243, 172, 4, 172]
abbrev dktX0_item_5 : List UInt8 := dkwX0_item_5 ++ []
def dkwX0_item_4 : List UInt8 := [180, 1, 101, 192, 1, 114, 29, 21, 4, 79, 167, 0, 18, 58, 5, 16, 245, 172, 58, 5, 16, 244, 172]
abbrev dktX0_item_4 : List UInt8 := dkwX0_item_4 ++ dktX0_item_5
def dkwX0_item_3 : List UInt8 := [27, 50, 180, 1, 101, 192, 1, 112, 29, 21, 4, 147, 86, 167, 0, 19, 42, 180, 0, 66, 27, 50]
abbrev dktX0_item_3 : List UInt8 := dkwX0_item_3 ++ dktX0_item_4
def dkwX0_item_2 : List UInt8 := [42, 180, 0, 66, 27, 50, 180, 1, 101, 192, 1, 111, 29, 21, 4, 145, 84, 167, 0, 39, 42, 180, 0, 66]
abbrev dktX0_item_2 : List UInt8 := dkwX0_item_2 ++ dktX0_item_3
def dkwX0_item_1 : List UInt8 := [171, 0, 0, 0, 0, 0, 67, 0, 0, 0, 2, 0, 0, 0, 0, 0, 0, 0, 27, 0, 0, 0, 1, 0, 0, 0, 47]
abbrev dktX0_item_1 : List UInt8 := dkwX0_item_1 ++ dktX0_item_2
def dkwX0_item_0 : List UInt8 := [27, 184, 1, 75, 153, 0, 10, 28, 184, 1, 78, 154, 0, 5, 2, 172, 28]
abbrev dktX0_item_0 : List UInt8 := dkwX0_item_0 ++ dktX0_item_1
theorem dksX0_item_0 : cX0_item.data.toList.drop 0 = dktX0_item_0 := by decide +kernel
theorem dksX0_item_1 : cX0_item.data.toList.drop 17 = dktX0_item_1 := dk_seg dksX0_item_0 17 rfl rfl
theorem dksX0_item_2 : cX0_item.data.toList.drop 44 = dktX0_item_2 := dk_seg dksX0_item_1 27 rfl rfl
theorem dksX0_item_3 : cX0_item.data.toList.drop 68 = dktX0_item_3 := dk_seg dksX0_item_2 24 rfl rfl
theorem dksX0_item_4 : cX0_item.data.toList.drop 90 = dktX0_item_4 := dk_seg dksX0_item_3 22 rfl rfl
theorem dksX0_item_5 : cX0_item.data.toList.drop 113 = dktX0_item_5 := dk_seg dksX0_item_4 23 rfl rfl
theorem dX0_item_0 : decode cX0_item 0 = .ok (.iload_n 1, 1) := dk_27 (dk_at dksX0_item_0 0 rfl rfl)
theorem dX0_item_1 : decode cX0_item 1 = .ok (.invokestatic 331, 3) := dk_184 1 75 (dk_at dksX0_item_0 1 rfl rfl)
theorem dX0_item_4 : decode cX0_item 4 = .ok (.ifCond .eq 10, 3) := dk_153 0 10 (dk_at dksX0_item_0 4 rfl rfl)
theorem dX0_item_7 : decode cX0_item 7 = .ok (.iload_n 2, 1) := dk_28 (dk_at dksX0_item_0 7 rfl rfl)
theorem dX0_item_8 : decode cX0_item 8 = .ok (.invokestatic 334, 3) := dk_184 1 78 (dk_at dksX0_item_0 8 rfl rfl)
theorem dX0_item_11 : decode cX0_item 11 = .ok (.ifCond .ne 5, 3) := dk_154 0 5 (dk_at dksX0_item_0 11 rfl rfl)
theorem dX0_item_14 : decode cX0_item 14 = .ok (.iconst (-1), 1) := dk_2 (dk_at dksX0_item_0 14 rfl rfl)
theorem dX0_item_15 : decode cX0_item 15 = .ok (.ireturn, 1) := dk_172 (dk_at dksX0_item_0 15 rfl rfl)
theorem dX0_item_16 : decode cX0_item 16 = .ok (.iload_n 2, 1) := dk_28 (dk_at dksX0_item_0 16 rfl rfl)
theorem dX0_item_17 : decode cX0_item 17 = .ok (.lookupswitch 67 #[(0, 27), (1, 47)], 27) := by decide +kernel
theorem dX0_item_44 : decode cX0_item 44 = .ok (.aload_n 0, 1) := dk_42 (dk_at dksX0_item_2 0 rfl rfl)
theorem dX0_item_45 : decode cX0_item 45 = .ok (.getfield 66, 3) := dk_180 0 66 (dk_at dksX0_item_2 1 rfl rfl)
theorem dX0_item_48 : decode cX0_item 48 = .ok (.iload_n 1, 1) := dk_27 (dk_at dksX0_item_2 4 rfl rfl)
theorem dX0_item_49 : decode cX0_item 49 = .ok (.aaload, 1) := dk_50 (dk_at dksX0_item_2 5 rfl rfl)
theorem dX0_item_50 : decode cX0_item 50 = .ok (.getfield 357, 3) := dk_180 1 101 (dk_at dksX0_item_2 6 rfl rfl)
theorem dX0_item_53 : decode cX0_item 53 = .ok (.checkcast 367, 3) := dk_192 1 111 (dk_at dksX0_item_2 9 rfl rfl)
theorem dX0_item_56 : decode cX0_item 56 = .ok (.iload_n 3, 1) := dk_29 (dk_at dksX0_item_2 12 rfl rfl)
theorem dX0_item_57 : decode cX0_item 57 = .ok (.iload 4, 2) := dk_21 4 (dk_at dksX0_item_2 13 rfl rfl)
theorem dX0_item_59 : decode cX0_item 59 = .ok (.i2b, 1) := dk_145 (dk_at dksX0_item_2 15 rfl rfl)
theorem dX0_item_60 : decode cX0_item 60 = .ok (.bastore, 1) := dk_84 (dk_at dksX0_item_2 16 rfl rfl)
theorem dX0_item_61 : decode cX0_item 61 = .ok (.goto 39, 3) := dk_167 0 39 (dk_at dksX0_item_2 17 rfl rfl)
theorem dX0_item_64 : decode cX0_item 64 = .ok (.aload_n 0, 1) := dk_42 (dk_at dksX0_item_2 20 rfl rfl)
theorem dX0_item_65 : decode cX0_item 65 = .ok (.getfield 66, 3) := dk_180 0 66 (dk_at dksX0_item_2 21 rfl rfl)
theorem dX0_item_68 : decode cX0_item 68 = .ok (.iload_n 1, 1) := dk_27 (dk_at dksX0_item_3 0 rfl rfl)
theorem dX0_item_69 : decode cX0_item 69 = .ok (.aaload, 1) := dk_50 (dk_at dksX0_item_3 1 rfl rfl)
theorem dX0_item_70 : decode cX0_item 70 = .ok (.getfield 357, 3) := dk_180 1 101 (dk_at dksX0_item_3 2 rfl rfl)
theorem dX0_item_73 : decode cX0_item 73 = .ok (.checkcast 368, 3) := dk_192 1 112 (dk_at dksX0_item_3 5 rfl rfl)
theorem dX0_item_76 : decode cX0_item 76 = .ok (.iload_n 3, 1) := dk_29 (dk_at dksX0_item_3 8 rfl rfl)
theorem dX0_item_77 : decode cX0_item 77 = .ok (.iload 4, 2) := dk_21 4 (dk_at dksX0_item_3 9 rfl rfl)
theorem dX0_item_79 : decode cX0_item 79 = .ok (.i2s, 1) := dk_147 (dk_at dksX0_item_3 11 rfl rfl)
theorem dX0_item_80 : decode cX0_item 80 = .ok (.sastore, 1) := dk_86 (dk_at dksX0_item_3 12 rfl rfl)
theorem dX0_item_81 : decode cX0_item 81 = .ok (.goto 19, 3) := dk_167 0 19 (dk_at dksX0_item_3 13 rfl rfl)
theorem dX0_item_84 : decode cX0_item 84 = .ok (.aload_n 0, 1) := dk_42 (dk_at dksX0_item_3 16 rfl rfl)
theorem dX0_item_85 : decode cX0_item 85 = .ok (.getfield 66, 3) := dk_180 0 66 (dk_at dksX0_item_3 17 rfl rfl)
theorem dX0_item_88 : decode cX0_item 88 = .ok (.iload_n 1, 1) := dk_27 (dk_at dksX0_item_3 20 rfl rfl)
theorem dX0_item_89 : decode cX0_item 89 = .ok (.aaload, 1) := dk_50 (dk_at dksX0_item_3 21 rfl rfl)
theorem dX0_item_90 : decode cX0_item 90 = .ok (.getfield 357, 3) := dk_180 1 101 (dk_at dksX0_item_4 0 rfl rfl)
theorem dX0_item_93 : decode cX0_item 93 = .ok (.checkcast 370, 3) := dk_192 1 114 (dk_at dksX0_item_4 3 rfl rfl)
theorem dX0_item_96 : decode cX0_item 96 = .ok (.iload_n 3, 1) := dk_29 (dk_at dksX0_item_4 6 rfl rfl)
theorem dX0_item_97 : decode cX0_item 97 = .ok (.iload 4, 2) := dk_21 4 (dk_at dksX0_item_4 7 rfl rfl)
theorem dX0_item_99 : decode cX0_item 99 = .ok (.iastore, 1) := dk_79 (dk_at dksX0_item_4 9 rfl rfl)
theorem dX0_item_100 : decode cX0_item 100 = .ok (.goto 18, 3) := dk_167 0 18 (dk_at dksX0_item_4 10 rfl rfl)
theorem dX0_item_103 : decode cX0_item 103 = .ok (.astore 5, 2) := dk_58 5 (dk_at dksX0_item_4 13 rfl rfl)
theorem dX0_item_105 : decode cX0_item 105 = .ok (.bipush (-11), 2) := dk_16 245 (dk_at dksX0_item_4 15 rfl rfl)
theorem dX0_item_107 : decode cX0_item 107 = .ok (.ireturn, 1) := dk_172 (dk_at dksX0_item_4 17 rfl rfl)
theorem dX0_item_108 : decode cX0_item 108 = .ok (.astore 5, 2) := dk_58 5 (dk_at dksX0_item_4 18 rfl rfl)
theorem dX0_item_110 : decode cX0_item 110 = .ok (.bipush (-12), 2) := dk_16 244 (dk_at dksX0_item_4 20 rfl rfl)
theorem dX0_item_112 : decode cX0_item 112 = .ok (.ireturn, 1) := dk_172 (dk_at dksX0_item_4 22 rfl rfl)
theorem dX0_item_113 : decode cX0_item 113 = .ok (.astore 5, 2) := dk_58 5 (dk_at dksX0_item_5 0 rfl rfl)
theorem dX0_item_115 : decode cX0_item 115 = .ok (.bipush (-13), 2) := dk_16 243 (dk_at dksX0_item_5 2 rfl rfl)
theorem dX0_item_117 : decode cX0_item 117 = .ok (.ireturn, 1) := dk_172 (dk_at dksX0_item_5 4 rfl rfl)
theorem dX0_item_118 : decode cX0_item 118 = .ok (.iconst 1, 1) := dk_4 (dk_at dksX0_item_5 5 rfl rfl)
theorem dX0_item_119 : decode cX0_item 119 = .ok (.ireturn, 1) := dk_172 (dk_at dksX0_item_5 6 rfl rfl)
abbrev cX0_copy : ByteArray := prog_1_method_65_code
def yX0_copy : MethodName := ⟨RX0, "copy", "(IIIII)I"⟩
def dkwX0_copy_2 : List UInt8 := [58, 6, 16, 245, 172, 58, 6, 16, 244, 172, 58, 6, 16, 243, 172, 21, 5, 172]
abbrev dktX0_copy_2 : List UInt8 := dkwX0_copy_2 ++ []
def dkwX0_copy_1 : List UInt8 := [180, 1, 101, 28, 42, 180, 0, 66, 29, 50, 180, 1, 101, 21, 4, 21, 5, 184, 0, 119, 167, 0, 18]
abbrev dktX0_copy_1 : List UInt8 := dkwX0_copy_1 ++ dktX0_copy_2
def dkwX0_copy_0 : List UInt8 := [27, 184, 1, 75, 153, 0, 10, 29, 184, 1, 75, 154, 0, 5, 2, 172, 42, 180, 0, 66, 27, 50]
abbrev dktX0_copy_0 : List UInt8 := dkwX0_copy_0 ++ dktX0_copy_1
theorem dksX0_copy_0 : cX0_copy.data.toList.drop 0 = dktX0_copy_0 := by decide +kernel
theorem dksX0_copy_1 : cX0_copy.data.toList.drop 22 = dktX0_copy_1 := dk_seg dksX0_copy_0 22 rfl rfl
theorem dksX0_copy_2 : cX0_copy.data.toList.drop 45 = dktX0_copy_2 := dk_seg dksX0_copy_1 23 rfl rfl
theorem dX0_copy_0 : decode cX0_copy 0 = .ok (.iload_n 1, 1) := dk_27 (dk_at dksX0_copy_0 0 rfl rfl)
theorem dX0_copy_1 : decode cX0_copy 1 = .ok (.invokestatic 331, 3) := dk_184 1 75 (dk_at dksX0_copy_0 1 rfl rfl)
theorem dX0_copy_4 : decode cX0_copy 4 = .ok (.ifCond .eq 10, 3) := dk_153 0 10 (dk_at dksX0_copy_0 4 rfl rfl)
theorem dX0_copy_7 : decode cX0_copy 7 = .ok (.iload_n 3, 1) := dk_29 (dk_at dksX0_copy_0 7 rfl rfl)
theorem dX0_copy_8 : decode cX0_copy 8 = .ok (.invokestatic 331, 3) := dk_184 1 75 (dk_at dksX0_copy_0 8 rfl rfl)
theorem dX0_copy_11 : decode cX0_copy 11 = .ok (.ifCond .ne 5, 3) := dk_154 0 5 (dk_at dksX0_copy_0 11 rfl rfl)
theorem dX0_copy_14 : decode cX0_copy 14 = .ok (.iconst (-1), 1) := dk_2 (dk_at dksX0_copy_0 14 rfl rfl)
theorem dX0_copy_15 : decode cX0_copy 15 = .ok (.ireturn, 1) := dk_172 (dk_at dksX0_copy_0 15 rfl rfl)
theorem dX0_copy_16 : decode cX0_copy 16 = .ok (.aload_n 0, 1) := dk_42 (dk_at dksX0_copy_0 16 rfl rfl)
theorem dX0_copy_17 : decode cX0_copy 17 = .ok (.getfield 66, 3) := dk_180 0 66 (dk_at dksX0_copy_0 17 rfl rfl)
theorem dX0_copy_20 : decode cX0_copy 20 = .ok (.iload_n 1, 1) := dk_27 (dk_at dksX0_copy_0 20 rfl rfl)
theorem dX0_copy_21 : decode cX0_copy 21 = .ok (.aaload, 1) := dk_50 (dk_at dksX0_copy_0 21 rfl rfl)
theorem dX0_copy_22 : decode cX0_copy 22 = .ok (.getfield 357, 3) := dk_180 1 101 (dk_at dksX0_copy_1 0 rfl rfl)
theorem dX0_copy_25 : decode cX0_copy 25 = .ok (.iload_n 2, 1) := dk_28 (dk_at dksX0_copy_1 3 rfl rfl)
theorem dX0_copy_26 : decode cX0_copy 26 = .ok (.aload_n 0, 1) := dk_42 (dk_at dksX0_copy_1 4 rfl rfl)
theorem dX0_copy_27 : decode cX0_copy 27 = .ok (.getfield 66, 3) := dk_180 0 66 (dk_at dksX0_copy_1 5 rfl rfl)
theorem dX0_copy_30 : decode cX0_copy 30 = .ok (.iload_n 3, 1) := dk_29 (dk_at dksX0_copy_1 8 rfl rfl)
theorem dX0_copy_31 : decode cX0_copy 31 = .ok (.aaload, 1) := dk_50 (dk_at dksX0_copy_1 9 rfl rfl)
theorem dX0_copy_32 : decode cX0_copy 32 = .ok (.getfield 357, 3) := dk_180 1 101 (dk_at dksX0_copy_1 10 rfl rfl)
theorem dX0_copy_35 : decode cX0_copy 35 = .ok (.iload 4, 2) := dk_21 4 (dk_at dksX0_copy_1 13 rfl rfl)
theorem dX0_copy_37 : decode cX0_copy 37 = .ok (.iload 5, 2) := dk_21 5 (dk_at dksX0_copy_1 15 rfl rfl)
theorem dX0_copy_39 : decode cX0_copy 39 = .ok (.invokestatic 119, 3) := dk_184 0 119 (dk_at dksX0_copy_1 17 rfl rfl)
theorem dX0_copy_42 : decode cX0_copy 42 = .ok (.goto 18, 3) := dk_167 0 18 (dk_at dksX0_copy_1 20 rfl rfl)
theorem dX0_copy_45 : decode cX0_copy 45 = .ok (.astore 6, 2) := dk_58 6 (dk_at dksX0_copy_2 0 rfl rfl)
theorem dX0_copy_47 : decode cX0_copy 47 = .ok (.bipush (-11), 2) := dk_16 245 (dk_at dksX0_copy_2 2 rfl rfl)
theorem dX0_copy_49 : decode cX0_copy 49 = .ok (.ireturn, 1) := dk_172 (dk_at dksX0_copy_2 4 rfl rfl)
theorem dX0_copy_50 : decode cX0_copy 50 = .ok (.astore 6, 2) := dk_58 6 (dk_at dksX0_copy_2 5 rfl rfl)
theorem dX0_copy_52 : decode cX0_copy 52 = .ok (.bipush (-12), 2) := dk_16 244 (dk_at dksX0_copy_2 7 rfl rfl)
theorem dX0_copy_54 : decode cX0_copy 54 = .ok (.ireturn, 1) := dk_172 (dk_at dksX0_copy_2 9 rfl rfl)
theorem dX0_copy_55 : decode cX0_copy 55 = .ok (.astore 6, 2) := dk_58 6 (dk_at dksX0_copy_2 10 rfl rfl)
theorem dX0_copy_57 : decode cX0_copy 57 = .ok (.bipush (-13), 2) := dk_16 243 (dk_at dksX0_copy_2 12 rfl rfl)
theorem dX0_copy_59 : decode cX0_copy 59 = .ok (.ireturn, 1) := dk_172 (dk_at dksX0_copy_2 14 rfl rfl)
theorem dX0_copy_60 : decode cX0_copy 60 = .ok (.iload 5, 2) := dk_21 5 (dk_at dksX0_copy_2 15 rfl rfl)
theorem dX0_copy_62 : decode cX0_copy 62 = .ok (.ireturn, 1) := dk_172 (dk_at dksX0_copy_2 17 rfl rfl)
theorem q51 : (Jvm.Cond.initialized "SevenRings") ∈ lw_all := lw_g (lw_at lw_m1 1 rfl) rfl
theorem q84 : (Jvm.Cond.instantiable "SevenRings" (21 : Nat)) ∈ lw_all := lw_g (lw_at lw_m1 34 rfl) rfl
theorem q86 : (Jvm.Cond.instanceMethod ({ cls := "SevenRings", name := "<init>", desc := "()V" } : Jvm.MethodName)) ∈ lw_all := lw_g (lw_at lw_m1 36 rfl) rfl
theorem q87 : (Jvm.Cond.code ({ cls := "SevenRings", name := "<init>", desc := "()V" } : Jvm.MethodName) prog_1_method_6_code (2 : Nat) (Option.none : Option Jvm.ClassFile.FieldType)) ∈ lw_all := lw_g (lw_at lw_m1 37 rfl) rfl
theorem q88 : (Jvm.Cond.methodLink "SevenRings" (17 : Nat) ({ cls := "java/lang/Object", name := "<init>", desc := "()V" } : Jvm.MethodName)) ∈ lw_all := lw_g (lw_at lw_m1 38 rfl) rfl
theorem q91 : (Jvm.Cond.classLink "SevenRings" (23 : Nat) "SevenRings$Told") ∈ lw_all := lw_g (lw_at lw_m1 41 rfl) rfl
theorem q93 : (Jvm.Cond.methodLink "SevenRings" (25 : Nat) ({ cls := "SevenRings$Told", name := "<init>", desc := "()V" } : Jvm.MethodName)) ∈ lw_all := lw_g (lw_at lw_m1 43 rfl) rfl
theorem q127 : (Jvm.Cond.fieldLinkNest "SevenRings" (75 : Nat) "SevenRings$Told" "set" "[I" "SevenRings") ∈ lw_tbl := lw_at lw_m1 77 rfl
theorem q129 : (Jvm.Cond.fieldLinkNest "SevenRings" (84 : Nat) "SevenRings$Told" "fars" "[I" "SevenRings") ∈ lw_tbl := lw_at lw_m1 79 rfl
theorem q131 : (Jvm.Cond.fieldLinkNest "SevenRings" (81 : Nat) "SevenRings$Told" "tones" "[I" "SevenRings") ∈ lw_tbl := lw_at lw_m1 81 rfl
theorem q133 : (Jvm.Cond.fieldLinkNest "SevenRings" (131 : Nat) "SevenRings$Told" "currents" "[B" "SevenRings") ∈ lw_tbl := lw_at lw_m1 83 rfl
theorem q136 : (Jvm.Cond.fieldLinkNest "SevenRings" (232 : Nat) "SevenRings$Told" "warmths" "[B" "SevenRings") ∈ lw_tbl := lw_at lw_m1 86 rfl
theorem q138 : (Jvm.Cond.fieldLinkNest "SevenRings" (235 : Nat) "SevenRings$Told" "depths" "[B" "SevenRings") ∈ lw_tbl := lw_at lw_m1 88 rfl
theorem q140 : (Jvm.Cond.fieldLinkNest "SevenRings" (238 : Nat) "SevenRings$Told" "pieces" "Ljava/util/List;" "SevenRings") ∈ lw_tbl := lw_at lw_m1 90 rfl
theorem q142 : (Jvm.Cond.fieldLinkNest "SevenRings" (271 : Nat) "SevenRings$Told" "drags" "Ljava/util/List;" "SevenRings") ∈ lw_tbl := lw_at lw_m1 92 rfl
theorem q160 : (Jvm.Cond.classLink "SevenRings" (30 : Nat) "SevenRings$Fault") ∈ lw_all := lw_g (lw_at lw_m1 110 rfl) rfl
theorem q215 : (Jvm.Cond.methodLink "SevenRings" (32 : Nat) ({ cls := "SevenRings$Fault", name := "<init>", desc := "()V" } : Jvm.MethodName)) ∈ lw_all := lw_g (lw_at lw_m1 165 rfl) rfl
theorem q224 : (Jvm.Cond.fieldLinkNest "SevenRings" (96 : Nat) "SevenRings$Fault" "place" "I" "SevenRings") ∈ lw_tbl := lw_at lw_m1 174 rfl
theorem q240 : (Jvm.Cond.classLink "SevenRings" (64 : Nat) "SevenRings$Sheet") ∈ lw_all := lw_g (lw_at lw_m1 190 rfl) rfl
theorem q243 : (Jvm.Cond.methodLinkNest "SevenRings" (70 : Nat) ({ cls := "SevenRings$Sheet", name := "<init>", desc := "()V" } : Jvm.MethodName) "SevenRings") ∈ lw_tbl := lw_at lw_m1 193 rfl
theorem q248 : (Jvm.Cond.fieldLinkNest "SevenRings" (357 : Nat) "SevenRings$Sheet" "row" "Ljava/lang/Object;" "SevenRings") ∈ lw_tbl := lw_at lw_m1 198 rfl
theorem q255 : (Jvm.Cond.fieldLink "SevenRings" (26 : Nat) "SevenRings" "told" "LSevenRings$Told;") ∈ lw_all := lw_g (lw_at lw_m1 205 rfl) rfl
theorem q256 : (Jvm.Cond.fieldLink "SevenRings" (33 : Nat) "SevenRings" "fault" "LSevenRings$Fault;") ∈ lw_all := lw_g (lw_at lw_m1 206 rfl) rfl
theorem q257 : (Jvm.Cond.fieldLink "SevenRings" (37 : Nat) "SevenRings" "tape" "[B") ∈ lw_all := lw_g (lw_at lw_m1 207 rfl) rfl
theorem q258 : (Jvm.Cond.fieldLink "SevenRings" (89 : Nat) "SevenRings" "taped" "I") ∈ lw_all := lw_g (lw_at lw_m1 208 rfl) rfl
theorem q259 : (Jvm.Cond.fieldLink "SevenRings" (93 : Nat) "SevenRings" "at" "I") ∈ lw_all := lw_g (lw_at lw_m1 209 rfl) rfl
theorem q260 : (Jvm.Cond.fieldLink "SevenRings" (41 : Nat) "SevenRings" "gotFars" "[I") ∈ lw_all := lw_g (lw_at lw_m1 210 rfl) rfl
theorem q261 : (Jvm.Cond.fieldLink "SevenRings" (45 : Nat) "SevenRings" "gotTones" "[I") ∈ lw_all := lw_g (lw_at lw_m1 211 rfl) rfl
theorem q262 : (Jvm.Cond.fieldLink "SevenRings" (48 : Nat) "SevenRings" "gotSea" "[B") ∈ lw_all := lw_g (lw_at lw_m1 212 rfl) rfl
theorem q267 : (Jvm.Cond.fieldLink "SevenRings" (51 : Nat) "SevenRings" "cells" "[I") ∈ lw_all := lw_g (lw_at lw_m1 217 rfl) rfl
theorem q269 : (Jvm.Cond.fieldLink "SevenRings" (144 : Nat) "SevenRings" "course" "I") ∈ lw_all := lw_g (lw_at lw_m1 219 rfl) rfl
theorem q270 : (Jvm.Cond.fieldLink "SevenRings" (147 : Nat) "SevenRings" "pace" "I") ∈ lw_all := lw_g (lw_at lw_m1 220 rfl) rfl
theorem q272 : (Jvm.Cond.fieldLink "SevenRings" (171 : Nat) "SevenRings" "turns" "I") ∈ lw_all := lw_g (lw_at lw_m1 222 rfl) rfl
theorem q274 : (Jvm.Cond.fieldLink "SevenRings" (174 : Nat) "SevenRings" "slowed" "Z") ∈ lw_all := lw_g (lw_at lw_m1 224 rfl) rfl
theorem q275 : (Jvm.Cond.fieldLink "SevenRings" (154 : Nat) "SevenRings" "burnt" "I") ∈ lw_all := lw_g (lw_at lw_m1 225 rfl) rfl
theorem q276 : (Jvm.Cond.fieldLink "SevenRings" (138 : Nat) "SevenRings" "without" "I") ∈ lw_all := lw_g (lw_at lw_m1 226 rfl) rfl
theorem q277 : (Jvm.Cond.fieldLink "SevenRings" (134 : Nat) "SevenRings" "anyRings" "Z") ∈ lw_all := lw_g (lw_at lw_m1 227 rfl) rfl
theorem q278 : (Jvm.Cond.fieldLink "SevenRings" (54 : Nat) "SevenRings" "sums" "[J") ∈ lw_all := lw_g (lw_at lw_m1 228 rfl) rfl
theorem q279 : (Jvm.Cond.fieldLink "SevenRings" (58 : Nat) "SevenRings" "others" "[J") ∈ lw_all := lw_g (lw_at lw_m1 229 rfl) rfl
theorem q280 : (Jvm.Cond.fieldLink "SevenRings" (354 : Nat) "SevenRings" "isKept" "Z") ∈ lw_all := lw_g (lw_at lw_m1 230 rfl) rfl
theorem q281 : (Jvm.Cond.fieldLink "SevenRings" (61 : Nat) "SevenRings" "kept" "LSevenRings$Told;") ∈ lw_all := lw_g (lw_at lw_m1 231 rfl) rfl
theorem q282 : (Jvm.Cond.fieldLink "SevenRings" (66 : Nat) "SevenRings" "sheets" "[LSevenRings$Sheet;") ∈ lw_all := lw_g (lw_at lw_m1 232 rfl) rfl
theorem q283 : (Jvm.Cond.laysFinal "SevenRings" "SevenRings" "told" "LSevenRings$Told;") ∈ lw_all := lw_g (lw_at lw_m1 233 rfl) rfl
theorem q284 : (Jvm.Cond.soleField "SevenRings" "told") ∈ lw_all := lw_g (lw_at lw_m1 234 rfl) rfl
theorem q285 : (Jvm.Cond.laysFinal "SevenRings" "SevenRings" "fault" "LSevenRings$Fault;") ∈ lw_all := lw_g (lw_at lw_m1 235 rfl) rfl
theorem q286 : (Jvm.Cond.soleField "SevenRings" "fault") ∈ lw_all := lw_g (lw_at lw_m1 236 rfl) rfl
theorem q287 : (Jvm.Cond.laysFinal "SevenRings" "SevenRings" "tape" "[B") ∈ lw_all := lw_g (lw_at lw_m1 237 rfl) rfl
theorem q288 : (Jvm.Cond.soleField "SevenRings" "tape") ∈ lw_all := lw_g (lw_at lw_m1 238 rfl) rfl
theorem q289 : (Jvm.Cond.lays "SevenRings" "SevenRings" "taped" "I") ∈ lw_all := lw_g (lw_at lw_m1 239 rfl) rfl
theorem q290 : (Jvm.Cond.soleField "SevenRings" "taped") ∈ lw_all := lw_g (lw_at lw_m2 0 rfl) rfl
theorem q291 : (Jvm.Cond.lays "SevenRings" "SevenRings" "at" "I") ∈ lw_all := lw_g (lw_at lw_m2 1 rfl) rfl
theorem q292 : (Jvm.Cond.soleField "SevenRings" "at") ∈ lw_all := lw_g (lw_at lw_m2 2 rfl) rfl
theorem q293 : (Jvm.Cond.laysFinal "SevenRings" "SevenRings" "gotFars" "[I") ∈ lw_all := lw_g (lw_at lw_m2 3 rfl) rfl
theorem q294 : (Jvm.Cond.soleField "SevenRings" "gotFars") ∈ lw_all := lw_g (lw_at lw_m2 4 rfl) rfl
theorem q295 : (Jvm.Cond.laysFinal "SevenRings" "SevenRings" "gotTones" "[I") ∈ lw_all := lw_g (lw_at lw_m2 5 rfl) rfl
theorem q296 : (Jvm.Cond.soleField "SevenRings" "gotTones") ∈ lw_all := lw_g (lw_at lw_m2 6 rfl) rfl
theorem q297 : (Jvm.Cond.laysFinal "SevenRings" "SevenRings" "gotSea" "[B") ∈ lw_all := lw_g (lw_at lw_m2 7 rfl) rfl
theorem q298 : (Jvm.Cond.soleField "SevenRings" "gotSea") ∈ lw_all := lw_g (lw_at lw_m2 8 rfl) rfl
theorem q299 : (Jvm.Cond.laysFinal "SevenRings" "SevenRings" "cells" "[I") ∈ lw_all := lw_g (lw_at lw_m2 9 rfl) rfl
theorem q300 : (Jvm.Cond.soleField "SevenRings" "cells") ∈ lw_all := lw_g (lw_at lw_m2 10 rfl) rfl
theorem q301 : (Jvm.Cond.lays "SevenRings" "SevenRings" "course" "I") ∈ lw_all := lw_g (lw_at lw_m2 11 rfl) rfl
theorem q302 : (Jvm.Cond.soleField "SevenRings" "course") ∈ lw_all := lw_g (lw_at lw_m2 12 rfl) rfl
theorem q303 : (Jvm.Cond.lays "SevenRings" "SevenRings" "pace" "I") ∈ lw_all := lw_g (lw_at lw_m2 13 rfl) rfl
theorem q304 : (Jvm.Cond.soleField "SevenRings" "pace") ∈ lw_all := lw_g (lw_at lw_m2 14 rfl) rfl
theorem q305 : (Jvm.Cond.lays "SevenRings" "SevenRings" "turns" "I") ∈ lw_all := lw_g (lw_at lw_m2 15 rfl) rfl
theorem q306 : (Jvm.Cond.soleField "SevenRings" "turns") ∈ lw_all := lw_g (lw_at lw_m2 16 rfl) rfl
theorem q307 : (Jvm.Cond.lays "SevenRings" "SevenRings" "slowed" "Z") ∈ lw_all := lw_g (lw_at lw_m2 17 rfl) rfl
theorem q308 : (Jvm.Cond.soleField "SevenRings" "slowed") ∈ lw_all := lw_g (lw_at lw_m2 18 rfl) rfl
theorem q309 : (Jvm.Cond.lays "SevenRings" "SevenRings" "burnt" "I") ∈ lw_all := lw_g (lw_at lw_m2 19 rfl) rfl
theorem q310 : (Jvm.Cond.soleField "SevenRings" "burnt") ∈ lw_all := lw_g (lw_at lw_m2 20 rfl) rfl
theorem q311 : (Jvm.Cond.lays "SevenRings" "SevenRings" "without" "I") ∈ lw_all := lw_g (lw_at lw_m2 21 rfl) rfl
theorem q312 : (Jvm.Cond.soleField "SevenRings" "without") ∈ lw_all := lw_g (lw_at lw_m2 22 rfl) rfl
theorem q313 : (Jvm.Cond.lays "SevenRings" "SevenRings" "anyRings" "Z") ∈ lw_all := lw_g (lw_at lw_m2 23 rfl) rfl
theorem q314 : (Jvm.Cond.soleField "SevenRings" "anyRings") ∈ lw_all := lw_g (lw_at lw_m2 24 rfl) rfl
theorem q315 : (Jvm.Cond.laysFinal "SevenRings" "SevenRings" "sums" "[J") ∈ lw_all := lw_g (lw_at lw_m2 25 rfl) rfl
theorem q316 : (Jvm.Cond.soleField "SevenRings" "sums") ∈ lw_all := lw_g (lw_at lw_m2 26 rfl) rfl
theorem q317 : (Jvm.Cond.laysFinal "SevenRings" "SevenRings" "others" "[J") ∈ lw_all := lw_g (lw_at lw_m2 27 rfl) rfl
theorem q318 : (Jvm.Cond.soleField "SevenRings" "others") ∈ lw_all := lw_g (lw_at lw_m2 28 rfl) rfl
theorem q319 : (Jvm.Cond.lays "SevenRings" "SevenRings" "isKept" "Z") ∈ lw_all := lw_g (lw_at lw_m2 29 rfl) rfl
theorem q320 : (Jvm.Cond.soleField "SevenRings" "isKept") ∈ lw_all := lw_g (lw_at lw_m2 30 rfl) rfl
theorem q321 : (Jvm.Cond.laysFinal "SevenRings" "SevenRings" "kept" "LSevenRings$Told;") ∈ lw_all := lw_g (lw_at lw_m2 31 rfl) rfl
theorem q322 : (Jvm.Cond.soleField "SevenRings" "kept") ∈ lw_all := lw_g (lw_at lw_m2 32 rfl) rfl
theorem q323 : (Jvm.Cond.laysFinal "SevenRings" "SevenRings" "sheets" "[LSevenRings$Sheet;") ∈ lw_all := lw_g (lw_at lw_m2 33 rfl) rfl
theorem q324 : (Jvm.Cond.soleField "SevenRings" "sheets") ∈ lw_all := lw_g (lw_at lw_m2 34 rfl) rfl
theorem q325 : (Jvm.Cond.superclass "SevenRings" "java/lang/Object") ∈ lw_all := lw_g (lw_at lw_m2 35 rfl) rfl
theorem q327 : (Jvm.Cond.instanceMethod ({ cls := "SevenRings", name := "set", desc := "(II)I" } : Jvm.MethodName)) ∈ lw_all := lw_g (lw_at lw_m2 37 rfl) rfl
theorem q328 : (Jvm.Cond.selects "SevenRings" ({ cls := "SevenRings", name := "set", desc := "(II)I" } : Jvm.MethodName) ({ cls := "SevenRings", name := "set", desc := "(II)I" } : Jvm.MethodName)) ∈ lw_all := lw_g (lw_at lw_m2 38 rfl) rfl
theorem q329 : (Jvm.Cond.code ({ cls := "SevenRings", name := "set", desc := "(II)I" } : Jvm.MethodName) prog_1_method_7_code (5 : Nat) (Option.some Jvm.ClassFile.FieldType.int)) ∈ lw_all := lw_g (lw_at lw_m2 39 rfl) rfl
theorem q330 : (Jvm.Cond.methodLink "SevenRings" (3 : Nat) ({ cls := "SevenRings", name := "isIn", desc := "(III)Z" } : Jvm.MethodName)) ∈ lw_all := lw_g (lw_at lw_m2 40 rfl) rfl
theorem q331 : (Jvm.Cond.static ({ cls := "SevenRings", name := "isIn", desc := "(III)Z" } : Jvm.MethodName)) ∈ lw_all := lw_g (lw_at lw_m2 41 rfl) rfl
theorem q332 : (Jvm.Cond.code ({ cls := "SevenRings", name := "isIn", desc := "(III)Z" } : Jvm.MethodName) prog_1_method_1_code (3 : Nat) (Option.some Jvm.ClassFile.FieldType.boolean)) ∈ lw_all := lw_g (lw_at lw_m2 42 rfl) rfl
theorem q333 : (Jvm.Cond.methodLink "SevenRings" (71 : Nat) ({ cls := "SevenRings", name := "isCell", desc := "(I)Z" } : Jvm.MethodName)) ∈ lw_all := lw_g (lw_at lw_m2 43 rfl) rfl
theorem q334 : (Jvm.Cond.static ({ cls := "SevenRings", name := "isCell", desc := "(I)Z" } : Jvm.MethodName)) ∈ lw_all := lw_g (lw_at lw_m2 44 rfl) rfl
theorem q335 : (Jvm.Cond.code ({ cls := "SevenRings", name := "isCell", desc := "(I)Z" } : Jvm.MethodName) prog_1_method_2_code (1 : Nat) (Option.some Jvm.ClassFile.FieldType.boolean)) ∈ lw_all := lw_g (lw_at lw_m2 45 rfl) rfl
theorem q337 : (Jvm.Cond.instanceMethod ({ cls := "SevenRings", name := "far", desc := "(I)I" } : Jvm.MethodName)) ∈ lw_all := lw_g (lw_at lw_m2 47 rfl) rfl
theorem q338 : (Jvm.Cond.selects "SevenRings" ({ cls := "SevenRings", name := "far", desc := "(I)I" } : Jvm.MethodName) ({ cls := "SevenRings", name := "far", desc := "(I)I" } : Jvm.MethodName)) ∈ lw_all := lw_g (lw_at lw_m2 48 rfl) rfl
theorem q339 : (Jvm.Cond.code ({ cls := "SevenRings", name := "far", desc := "(I)I" } : Jvm.MethodName) prog_1_method_8_code (2 : Nat) (Option.some Jvm.ClassFile.FieldType.int)) ∈ lw_all := lw_g (lw_at lw_m2 49 rfl) rfl
theorem q340 : (Jvm.Cond.methodLink "SevenRings" (78 : Nat) ({ cls := "SevenRings$Told", name := "far", desc := "(I)I" } : Jvm.MethodName)) ∈ lw_all := lw_g (lw_at lw_m2 50 rfl) rfl
theorem q345 : (Jvm.Cond.instanceMethod ({ cls := "SevenRings", name := "ring", desc := "(III)I" } : Jvm.MethodName)) ∈ lw_all := lw_g (lw_at lw_m2 55 rfl) rfl
theorem q346 : (Jvm.Cond.selects "SevenRings" ({ cls := "SevenRings", name := "ring", desc := "(III)I" } : Jvm.MethodName) ({ cls := "SevenRings", name := "ring", desc := "(III)I" } : Jvm.MethodName)) ∈ lw_all := lw_g (lw_at lw_m2 56 rfl) rfl
theorem q347 : (Jvm.Cond.code ({ cls := "SevenRings", name := "ring", desc := "(III)I" } : Jvm.MethodName) prog_1_method_9_code (5 : Nat) (Option.some Jvm.ClassFile.FieldType.int)) ∈ lw_all := lw_g (lw_at lw_m2 57 rfl) rfl
theorem q349 : (Jvm.Cond.instanceMethod ({ cls := "SevenRings", name := "type", desc := "(JI)I" } : Jvm.MethodName)) ∈ lw_all := lw_g (lw_at lw_m2 59 rfl) rfl
theorem q350 : (Jvm.Cond.selects "SevenRings" ({ cls := "SevenRings", name := "type", desc := "(JI)I" } : Jvm.MethodName) ({ cls := "SevenRings", name := "type", desc := "(JI)I" } : Jvm.MethodName)) ∈ lw_all := lw_g (lw_at lw_m2 60 rfl) rfl
theorem q351 : (Jvm.Cond.code ({ cls := "SevenRings", name := "type", desc := "(JI)I" } : Jvm.MethodName) prog_1_method_10_code (5 : Nat) (Option.some Jvm.ClassFile.FieldType.int)) ∈ lw_all := lw_g (lw_at lw_m2 61 rfl) rfl
theorem q352 : (Jvm.Cond.constantLong "SevenRings" (87 : Nat) (255 : Int64)) ∈ lw_all := lw_g (lw_at lw_m2 62 rfl) rfl
theorem q354 : (Jvm.Cond.instanceMethod ({ cls := "SevenRings", name := "rings", desc := "()I" } : Jvm.MethodName)) ∈ lw_all := lw_g (lw_at lw_m2 64 rfl) rfl
theorem q355 : (Jvm.Cond.selects "SevenRings" ({ cls := "SevenRings", name := "rings", desc := "()I" } : Jvm.MethodName) ({ cls := "SevenRings", name := "rings", desc := "()I" } : Jvm.MethodName)) ∈ lw_all := lw_g (lw_at lw_m2 65 rfl) rfl
theorem q356 : (Jvm.Cond.codeWith ({ cls := "SevenRings", name := "rings", desc := "()I" } : Jvm.MethodName) prog_1_method_17_code (3 : Nat) (Option.some Jvm.ClassFile.FieldType.int) [((36 : Nat), (41 : Nat), (44 : Nat), (30 : Nat))]) ∈ lw_all := lw_g (lw_at lw_m2 66 rfl) rfl
theorem q357 : (Jvm.Cond.methodLink "SevenRings" (119 : Nat) ({ cls := "java/lang/System", name := "arraycopy", desc := "(Ljava/lang/Object;ILjava/lang/Object;II)V" } : Jvm.MethodName)) ∈ lw_all := lw_g (lw_at lw_m2 67 rfl) rfl
theorem q360 : (Jvm.Cond.methodLink "SevenRings" (125 : Nat) ({ cls := "SevenRings", name := "readRings", desc := "()I" } : Jvm.MethodName)) ∈ lw_all := lw_g (lw_at lw_m2 70 rfl) rfl
theorem q361 : (Jvm.Cond.privateMethod ({ cls := "SevenRings", name := "readRings", desc := "()I" } : Jvm.MethodName)) ∈ lw_tbl := lw_at lw_m2 71 rfl
theorem q362 : (Jvm.Cond.instanceMethod ({ cls := "SevenRings", name := "readRings", desc := "()I" } : Jvm.MethodName)) ∈ lw_all := lw_g (lw_at lw_m2 72 rfl) rfl
theorem q363 : (Jvm.Cond.code ({ cls := "SevenRings", name := "readRings", desc := "()I" } : Jvm.MethodName) prog_1_method_16_code (4 : Nat) (Option.some Jvm.ClassFile.FieldType.int)) ∈ lw_all := lw_g (lw_at lw_m2 73 rfl) rfl
theorem q364 : (Jvm.Cond.methodLink "SevenRings" (113 : Nat) ({ cls := "SevenRings", name := "readDigit", desc := "(II)I" } : Jvm.MethodName)) ∈ lw_all := lw_g (lw_at lw_m2 74 rfl) rfl
theorem q365 : (Jvm.Cond.privateMethod ({ cls := "SevenRings", name := "readDigit", desc := "(II)I" } : Jvm.MethodName)) ∈ lw_tbl := lw_at lw_m2 75 rfl
theorem q366 : (Jvm.Cond.instanceMethod ({ cls := "SevenRings", name := "readDigit", desc := "(II)I" } : Jvm.MethodName)) ∈ lw_all := lw_g (lw_at lw_m2 76 rfl) rfl
theorem q367 : (Jvm.Cond.code ({ cls := "SevenRings", name := "readDigit", desc := "(II)I" } : Jvm.MethodName) prog_1_method_14_code (4 : Nat) (Option.some Jvm.ClassFile.FieldType.int)) ∈ lw_all := lw_g (lw_at lw_m2 77 rfl) rfl
theorem q368 : (Jvm.Cond.methodLink "SevenRings" (99 : Nat) ({ cls := "SevenRings", name := "nextByte", desc := "()I" } : Jvm.MethodName)) ∈ lw_all := lw_g (lw_at lw_m2 78 rfl) rfl
theorem q369 : (Jvm.Cond.privateMethod ({ cls := "SevenRings", name := "nextByte", desc := "()I" } : Jvm.MethodName)) ∈ lw_tbl := lw_at lw_m2 79 rfl
theorem q370 : (Jvm.Cond.instanceMethod ({ cls := "SevenRings", name := "nextByte", desc := "()I" } : Jvm.MethodName)) ∈ lw_all := lw_g (lw_at lw_m2 80 rfl) rfl
theorem q371 : (Jvm.Cond.code ({ cls := "SevenRings", name := "nextByte", desc := "()I" } : Jvm.MethodName) prog_1_method_11_code (1 : Nat) (Option.some Jvm.ClassFile.FieldType.int)) ∈ lw_all := lw_g (lw_at lw_m2 81 rfl) rfl
theorem q372 : (Jvm.Cond.methodLink "SevenRings" (103 : Nat) ({ cls := "SevenRings", name := "wrong", desc := "()LSevenRings$Fault;" } : Jvm.MethodName)) ∈ lw_all := lw_g (lw_at lw_m2 82 rfl) rfl
theorem q373 : (Jvm.Cond.privateMethod ({ cls := "SevenRings", name := "wrong", desc := "()LSevenRings$Fault;" } : Jvm.MethodName)) ∈ lw_tbl := lw_at lw_m2 83 rfl
theorem q374 : (Jvm.Cond.instanceMethod ({ cls := "SevenRings", name := "wrong", desc := "()LSevenRings$Fault;" } : Jvm.MethodName)) ∈ lw_all := lw_g (lw_at lw_m2 84 rfl) rfl
theorem q375 : (Jvm.Cond.code ({ cls := "SevenRings", name := "wrong", desc := "()LSevenRings$Fault;" } : Jvm.MethodName) prog_1_method_12_code (1 : Nat) (Option.some (Jvm.ClassFile.FieldType.object "SevenRings$Fault"))) ∈ lw_all := lw_g (lw_at lw_m2 85 rfl) rfl
theorem q376 : (Jvm.Cond.methodLink "SevenRings" (107 : Nat) ({ cls := "SevenRings", name := "takes", desc := "(I)Z" } : Jvm.MethodName)) ∈ lw_all := lw_g (lw_at lw_m2 86 rfl) rfl
theorem q377 : (Jvm.Cond.privateMethod ({ cls := "SevenRings", name := "takes", desc := "(I)Z" } : Jvm.MethodName)) ∈ lw_tbl := lw_at lw_m2 87 rfl
theorem q378 : (Jvm.Cond.instanceMethod ({ cls := "SevenRings", name := "takes", desc := "(I)Z" } : Jvm.MethodName)) ∈ lw_all := lw_g (lw_at lw_m2 88 rfl) rfl
theorem q379 : (Jvm.Cond.code ({ cls := "SevenRings", name := "takes", desc := "(I)Z" } : Jvm.MethodName) prog_1_method_13_code (3 : Nat) (Option.some Jvm.ClassFile.FieldType.boolean)) ∈ lw_all := lw_g (lw_at lw_m2 89 rfl) rfl
theorem q380 : (Jvm.Cond.methodLink "SevenRings" (116 : Nat) ({ cls := "SevenRings", name := "readFar", desc := "()I" } : Jvm.MethodName)) ∈ lw_all := lw_g (lw_at lw_m2 90 rfl) rfl
theorem q381 : (Jvm.Cond.privateMethod ({ cls := "SevenRings", name := "readFar", desc := "()I" } : Jvm.MethodName)) ∈ lw_tbl := lw_at lw_m2 91 rfl
theorem q382 : (Jvm.Cond.instanceMethod ({ cls := "SevenRings", name := "readFar", desc := "()I" } : Jvm.MethodName)) ∈ lw_all := lw_g (lw_at lw_m2 92 rfl) rfl
theorem q383 : (Jvm.Cond.code ({ cls := "SevenRings", name := "readFar", desc := "()I" } : Jvm.MethodName) prog_1_method_15_code (3 : Nat) (Option.some Jvm.ClassFile.FieldType.int)) ∈ lw_all := lw_g (lw_at lw_m2 93 rfl) rfl
theorem q384 : (Jvm.Cond.methodLink "SevenRings" (110 : Nat) ({ cls := "java/lang/Math", name := "min", desc := "(II)I" } : Jvm.MethodName)) ∈ lw_all := lw_g (lw_at lw_m2 94 rfl) rfl
theorem q388 : (Jvm.Cond.instanceMethod ({ cls := "SevenRings", name := "sea", desc := "(II)I" } : Jvm.MethodName)) ∈ lw_all := lw_g (lw_at lw_m2 98 rfl) rfl
theorem q389 : (Jvm.Cond.selects "SevenRings" ({ cls := "SevenRings", name := "sea", desc := "(II)I" } : Jvm.MethodName) ({ cls := "SevenRings", name := "sea", desc := "(II)I" } : Jvm.MethodName)) ∈ lw_all := lw_g (lw_at lw_m2 99 rfl) rfl
theorem q390 : (Jvm.Cond.codeWith ({ cls := "SevenRings", name := "sea", desc := "(II)I" } : Jvm.MethodName) prog_1_method_19_code (5 : Nat) (Option.some Jvm.ClassFile.FieldType.int) [((21 : Nat), (25 : Nat), (28 : Nat), (30 : Nat))]) ∈ lw_all := lw_g (lw_at lw_m2 100 rfl) rfl
theorem q391 : (Jvm.Cond.methodLink "SevenRings" (128 : Nat) ({ cls := "SevenRings", name := "readSea", desc := "()V" } : Jvm.MethodName)) ∈ lw_all := lw_g (lw_at lw_m2 101 rfl) rfl
theorem q392 : (Jvm.Cond.privateMethod ({ cls := "SevenRings", name := "readSea", desc := "()V" } : Jvm.MethodName)) ∈ lw_tbl := lw_at lw_m2 102 rfl
theorem q393 : (Jvm.Cond.instanceMethod ({ cls := "SevenRings", name := "readSea", desc := "()V" } : Jvm.MethodName)) ∈ lw_all := lw_g (lw_at lw_m2 103 rfl) rfl
theorem q394 : (Jvm.Cond.code ({ cls := "SevenRings", name := "readSea", desc := "()V" } : Jvm.MethodName) prog_1_method_18_code (2 : Nat) (Option.none : Option Jvm.ClassFile.FieldType)) ∈ lw_all := lw_g (lw_at lw_m2 104 rfl) rfl
theorem q396 : (Jvm.Cond.instanceMethod ({ cls := "SevenRings", name := "ways", desc := "()I" } : Jvm.MethodName)) ∈ lw_all := lw_g (lw_at lw_m2 106 rfl) rfl
theorem q397 : (Jvm.Cond.selects "SevenRings" ({ cls := "SevenRings", name := "ways", desc := "()I" } : Jvm.MethodName) ({ cls := "SevenRings", name := "ways", desc := "()I" } : Jvm.MethodName)) ∈ lw_all := lw_g (lw_at lw_m2 107 rfl) rfl
theorem q398 : (Jvm.Cond.code ({ cls := "SevenRings", name := "ways", desc := "()I" } : Jvm.MethodName) prog_1_method_28_code (1 : Nat) (Option.some Jvm.ClassFile.FieldType.int)) ∈ lw_all := lw_g (lw_at lw_m2 108 rfl) rfl
theorem q399 : (Jvm.Cond.methodLink "SevenRings" (196 : Nat) ({ cls := "SevenRings", name := "counted", desc := "()LSevenRings$Counter;" } : Jvm.MethodName)) ∈ lw_all := lw_g (lw_at lw_m2 109 rfl) rfl
theorem q400 : (Jvm.Cond.privateMethod ({ cls := "SevenRings", name := "counted", desc := "()LSevenRings$Counter;" } : Jvm.MethodName)) ∈ lw_tbl := lw_at lw_m2 110 rfl
theorem q401 : (Jvm.Cond.instanceMethod ({ cls := "SevenRings", name := "counted", desc := "()LSevenRings$Counter;" } : Jvm.MethodName)) ∈ lw_all := lw_g (lw_at lw_m2 111 rfl) rfl
theorem q402 : (Jvm.Cond.code ({ cls := "SevenRings", name := "counted", desc := "()LSevenRings$Counter;" } : Jvm.MethodName) prog_1_method_27_code (2 : Nat) (Option.some (Jvm.ClassFile.FieldType.object "SevenRings$Counter"))) ∈ lw_all := lw_g (lw_at lw_m2 112 rfl) rfl
theorem q403 : (Jvm.Cond.classLink "SevenRings" (189 : Nat) "SevenRings$Counter") ∈ lw_all := lw_g (lw_at lw_m2 113 rfl) rfl
theorem q405 : (Jvm.Cond.methodLinkNest "SevenRings" (191 : Nat) ({ cls := "SevenRings$Counter", name := "<init>", desc := "()V" } : Jvm.MethodName) "SevenRings") ∈ lw_tbl := lw_at lw_m2 115 rfl
theorem q413 : (Jvm.Cond.fieldLinkNest "SevenRings" (200 : Nat) "SevenRings$Counter" "many" "I" "SevenRings") ∈ lw_tbl := lw_at lw_m2 123 rfl
theorem q415 : (Jvm.Cond.fieldLinkNest "SevenRings" (203 : Nat) "SevenRings$Counter" "weight" "J" "SevenRings") ∈ lw_tbl := lw_at lw_m2 125 rfl
theorem q421 : (Jvm.Cond.methodLink "SevenRings" (192 : Nat) ({ cls := "SevenRings", name := "goAll", desc := "(LSevenRings$Hearer;IZ)V" } : Jvm.MethodName)) ∈ lw_all := lw_g (lw_at lw_m2 131 rfl) rfl
theorem q422 : (Jvm.Cond.privateMethod ({ cls := "SevenRings", name := "goAll", desc := "(LSevenRings$Hearer;IZ)V" } : Jvm.MethodName)) ∈ lw_tbl := lw_at lw_m2 132 rfl
theorem q423 : (Jvm.Cond.instanceMethod ({ cls := "SevenRings", name := "goAll", desc := "(LSevenRings$Hearer;IZ)V" } : Jvm.MethodName)) ∈ lw_all := lw_g (lw_at lw_m2 133 rfl) rfl
theorem q424 : (Jvm.Cond.code ({ cls := "SevenRings", name := "goAll", desc := "(LSevenRings$Hearer;IZ)V" } : Jvm.MethodName) prog_1_method_26_code (6 : Nat) (Option.none : Option Jvm.ClassFile.FieldType)) ∈ lw_all := lw_g (lw_at lw_m2 134 rfl) rfl
theorem q425 : (Jvm.Cond.methodLink "SevenRings" (183 : Nat) ({ cls := "SevenRings", name := "goOn", desc := "(LSevenRings$Hearer;II)Z" } : Jvm.MethodName)) ∈ lw_all := lw_g (lw_at lw_m2 135 rfl) rfl
theorem q426 : (Jvm.Cond.privateMethod ({ cls := "SevenRings", name := "goOn", desc := "(LSevenRings$Hearer;II)Z" } : Jvm.MethodName)) ∈ lw_tbl := lw_at lw_m2 136 rfl
theorem q427 : (Jvm.Cond.instanceMethod ({ cls := "SevenRings", name := "goOn", desc := "(LSevenRings$Hearer;II)Z" } : Jvm.MethodName)) ∈ lw_all := lw_g (lw_at lw_m2 137 rfl) rfl
theorem q428 : (Jvm.Cond.code ({ cls := "SevenRings", name := "goOn", desc := "(LSevenRings$Hearer;II)Z" } : Jvm.MethodName) prog_1_method_22_code (7 : Nat) (Option.some Jvm.ClassFile.FieldType.boolean)) ∈ lw_all := lw_g (lw_at lw_m2 138 rfl) rfl
theorem q429 : (Jvm.Cond.methodLink "SevenRings" (150 : Nat) ({ cls := "SevenRings", name := "beyond", desc := "(III)I" } : Jvm.MethodName)) ∈ lw_all := lw_g (lw_at lw_m2 139 rfl) rfl
theorem q430 : (Jvm.Cond.static ({ cls := "SevenRings", name := "beyond", desc := "(III)I" } : Jvm.MethodName)) ∈ lw_all := lw_g (lw_at lw_m2 140 rfl) rfl
theorem q431 : (Jvm.Cond.code ({ cls := "SevenRings", name := "beyond", desc := "(III)I" } : Jvm.MethodName) prog_1_method_4_code (5 : Nat) (Option.some Jvm.ClassFile.FieldType.int)) ∈ lw_all := lw_g (lw_at lw_m2 141 rfl) rfl
theorem q432 : (Jvm.Cond.methodLink "SevenRings" (7 : Nat) ({ cls := "SevenRings", name := "digit", desc := "(II)I" } : Jvm.MethodName)) ∈ lw_all := lw_g (lw_at lw_m2 142 rfl) rfl
theorem q433 : (Jvm.Cond.static ({ cls := "SevenRings", name := "digit", desc := "(II)I" } : Jvm.MethodName)) ∈ lw_all := lw_g (lw_at lw_m2 143 rfl) rfl
theorem q434 : (Jvm.Cond.code ({ cls := "SevenRings", name := "digit", desc := "(II)I" } : Jvm.MethodName) prog_1_method_3_code (4 : Nat) (Option.some Jvm.ClassFile.FieldType.int)) ∈ lw_all := lw_g (lw_at lw_m2 144 rfl) rfl
theorem q435 : (Jvm.Cond.methodLink "SevenRings" (157 : Nat) ({ cls := "SevenRings", name := "ringOf", desc := "(I)I" } : Jvm.MethodName)) ∈ lw_all := lw_g (lw_at lw_m2 145 rfl) rfl
theorem q436 : (Jvm.Cond.privateMethod ({ cls := "SevenRings", name := "ringOf", desc := "(I)I" } : Jvm.MethodName)) ∈ lw_tbl := lw_at lw_m2 146 rfl
theorem q437 : (Jvm.Cond.instanceMethod ({ cls := "SevenRings", name := "ringOf", desc := "(I)I" } : Jvm.MethodName)) ∈ lw_all := lw_g (lw_at lw_m2 147 rfl) rfl
theorem q438 : (Jvm.Cond.code ({ cls := "SevenRings", name := "ringOf", desc := "(I)I" } : Jvm.MethodName) prog_1_method_21_code (6 : Nat) (Option.some Jvm.ClassFile.FieldType.int)) ∈ lw_all := lw_g (lw_at lw_m2 148 rfl) rfl
theorem q439 : (Jvm.Cond.methodLink "SevenRings" (141 : Nat) ({ cls := "SevenRings", name := "hasRing", desc := "(I)Z" } : Jvm.MethodName)) ∈ lw_all := lw_g (lw_at lw_m2 149 rfl) rfl
theorem q440 : (Jvm.Cond.privateMethod ({ cls := "SevenRings", name := "hasRing", desc := "(I)Z" } : Jvm.MethodName)) ∈ lw_tbl := lw_at lw_m2 150 rfl
theorem q441 : (Jvm.Cond.instanceMethod ({ cls := "SevenRings", name := "hasRing", desc := "(I)Z" } : Jvm.MethodName)) ∈ lw_all := lw_g (lw_at lw_m2 151 rfl) rfl
theorem q442 : (Jvm.Cond.code ({ cls := "SevenRings", name := "hasRing", desc := "(I)Z" } : Jvm.MethodName) prog_1_method_20_code (2 : Nat) (Option.some Jvm.ClassFile.FieldType.boolean)) ∈ lw_all := lw_g (lw_at lw_m2 152 rfl) rfl
theorem q443 : (Jvm.Cond.methodLink "SevenRings" (11 : Nat) ({ cls := "java/lang/Math", name := "abs", desc := "(I)I" } : Jvm.MethodName)) ∈ lw_all := lw_g (lw_at lw_m2 153 rfl) rfl
theorem q446 : (Jvm.Cond.methodLink "SevenRings" (160 : Nat) ({ cls := "SevenRings$Told", name := "hours", desc := "()I" } : Jvm.MethodName)) ∈ lw_all := lw_g (lw_at lw_m2 156 rfl) rfl
theorem q450 : (Jvm.Cond.methodLink "SevenRings" (163 : Nat) ({ cls := "SevenRings", name := "tell", desc := "(LSevenRings$Hearer;I)Z" } : Jvm.MethodName)) ∈ lw_all := lw_g (lw_at lw_m2 160 rfl) rfl
theorem q451 : (Jvm.Cond.privateMethod ({ cls := "SevenRings", name := "tell", desc := "(LSevenRings$Hearer;I)Z" } : Jvm.MethodName)) ∈ lw_tbl := lw_at lw_m2 161 rfl
theorem q452 : (Jvm.Cond.instanceMethod ({ cls := "SevenRings", name := "tell", desc := "(LSevenRings$Hearer;I)Z" } : Jvm.MethodName)) ∈ lw_all := lw_g (lw_at lw_m2 162 rfl) rfl
theorem q453 : (Jvm.Cond.code ({ cls := "SevenRings", name := "tell", desc := "(LSevenRings$Hearer;I)Z" } : Jvm.MethodName) prog_1_method_23_code (3 : Nat) (Option.some Jvm.ClassFile.FieldType.boolean)) ∈ lw_all := lw_g (lw_at lw_m2 163 rfl) rfl
theorem q454 : (Jvm.Cond.methodLink "SevenRings" (177 : Nat) ({ cls := "SevenRings$Hearer", name := "way", desc := "(LSevenRings;I)Z" } : Jvm.MethodName)) ∈ lw_all := lw_g (lw_at lw_m2 164 rfl) rfl
theorem q477 : (Jvm.Cond.methodLink "SevenRings" (167 : Nat) ({ cls := "SevenRings", name := "choose", desc := "(LSevenRings$Hearer;II)Z" } : Jvm.MethodName)) ∈ lw_all := lw_g (lw_at lw_m2 187 rfl) rfl
theorem q478 : (Jvm.Cond.privateMethod ({ cls := "SevenRings", name := "choose", desc := "(LSevenRings$Hearer;II)Z" } : Jvm.MethodName)) ∈ lw_tbl := lw_at lw_m2 188 rfl
theorem q479 : (Jvm.Cond.instanceMethod ({ cls := "SevenRings", name := "choose", desc := "(LSevenRings$Hearer;II)Z" } : Jvm.MethodName)) ∈ lw_all := lw_g (lw_at lw_m2 189 rfl) rfl
theorem q480 : (Jvm.Cond.code ({ cls := "SevenRings", name := "choose", desc := "(LSevenRings$Hearer;II)Z" } : Jvm.MethodName) prog_1_method_24_code (7 : Nat) (Option.some Jvm.ClassFile.FieldType.boolean)) ∈ lw_all := lw_g (lw_at lw_m2 190 rfl) rfl
theorem q481 : (Jvm.Cond.methodLink "SevenRings" (186 : Nat) ({ cls := "SevenRings", name := "slowAnd", desc := "(LSevenRings$Hearer;II)Z" } : Jvm.MethodName)) ∈ lw_all := lw_g (lw_at lw_m2 191 rfl) rfl
theorem q482 : (Jvm.Cond.privateMethod ({ cls := "SevenRings", name := "slowAnd", desc := "(LSevenRings$Hearer;II)Z" } : Jvm.MethodName)) ∈ lw_tbl := lw_at lw_m2 192 rfl
theorem q483 : (Jvm.Cond.instanceMethod ({ cls := "SevenRings", name := "slowAnd", desc := "(LSevenRings$Hearer;II)Z" } : Jvm.MethodName)) ∈ lw_all := lw_g (lw_at lw_m2 193 rfl) rfl
theorem q484 : (Jvm.Cond.code ({ cls := "SevenRings", name := "slowAnd", desc := "(LSevenRings$Hearer;II)Z" } : Jvm.MethodName) prog_1_method_25_code (5 : Nat) (Option.some Jvm.ClassFile.FieldType.boolean)) ∈ lw_all := lw_g (lw_at lw_m2 194 rfl) rfl
theorem q486 : (Jvm.Cond.instanceMethod ({ cls := "SevenRings", name := "weight", desc := "()J" } : Jvm.MethodName)) ∈ lw_all := lw_g (lw_at lw_m2 196 rfl) rfl
theorem q487 : (Jvm.Cond.selects "SevenRings" ({ cls := "SevenRings", name := "weight", desc := "()J" } : Jvm.MethodName) ({ cls := "SevenRings", name := "weight", desc := "()J" } : Jvm.MethodName)) ∈ lw_all := lw_g (lw_at lw_m2 197 rfl) rfl
theorem q488 : (Jvm.Cond.code ({ cls := "SevenRings", name := "weight", desc := "()J" } : Jvm.MethodName) prog_1_method_29_code (1 : Nat) (Option.some Jvm.ClassFile.FieldType.long)) ∈ lw_all := lw_g (lw_at lw_m2 198 rfl) rfl
theorem q490 : (Jvm.Cond.instanceMethod ({ cls := "SevenRings", name := "way", desc := "(II)I" } : Jvm.MethodName)) ∈ lw_all := lw_g (lw_at lw_m2 200 rfl) rfl
theorem q491 : (Jvm.Cond.selects "SevenRings" ({ cls := "SevenRings", name := "way", desc := "(II)I" } : Jvm.MethodName) ({ cls := "SevenRings", name := "way", desc := "(II)I" } : Jvm.MethodName)) ∈ lw_all := lw_g (lw_at lw_m2 201 rfl) rfl
theorem q492 : (Jvm.Cond.code ({ cls := "SevenRings", name := "way", desc := "(II)I" } : Jvm.MethodName) prog_1_method_31_code (4 : Nat) (Option.some Jvm.ClassFile.FieldType.int)) ∈ lw_all := lw_g (lw_at lw_m2 202 rfl) rfl
theorem q493 : (Jvm.Cond.methodLink "SevenRings" (213 : Nat) ({ cls := "SevenRings", name := "sought", desc := "(I)LSevenRings$Seeker;" } : Jvm.MethodName)) ∈ lw_all := lw_g (lw_at lw_m2 203 rfl) rfl
theorem q494 : (Jvm.Cond.privateMethod ({ cls := "SevenRings", name := "sought", desc := "(I)LSevenRings$Seeker;" } : Jvm.MethodName)) ∈ lw_tbl := lw_at lw_m2 204 rfl
theorem q495 : (Jvm.Cond.instanceMethod ({ cls := "SevenRings", name := "sought", desc := "(I)LSevenRings$Seeker;" } : Jvm.MethodName)) ∈ lw_all := lw_g (lw_at lw_m2 205 rfl) rfl
theorem q496 : (Jvm.Cond.code ({ cls := "SevenRings", name := "sought", desc := "(I)LSevenRings$Seeker;" } : Jvm.MethodName) prog_1_method_30_code (3 : Nat) (Option.some (Jvm.ClassFile.FieldType.object "SevenRings$Seeker"))) ∈ lw_all := lw_g (lw_at lw_m2 206 rfl) rfl
theorem q497 : (Jvm.Cond.classLink "SevenRings" (207 : Nat) "SevenRings$Seeker") ∈ lw_all := lw_g (lw_at lw_m2 207 rfl) rfl
theorem q499 : (Jvm.Cond.methodLinkNest "SevenRings" (209 : Nat) ({ cls := "SevenRings$Seeker", name := "<init>", desc := "()V" } : Jvm.MethodName) "SevenRings") ∈ lw_tbl := lw_at lw_m2 209 rfl
theorem q504 : (Jvm.Cond.fieldLinkNest "SevenRings" (210 : Nat) "SevenRings$Seeker" "left" "I" "SevenRings") ∈ lw_tbl := lw_at lw_m2 214 rfl
theorem q506 : (Jvm.Cond.fieldLinkNest "SevenRings" (218 : Nat) "SevenRings$Seeker" "weight" "I" "SevenRings") ∈ lw_tbl := lw_at lw_m2 216 rfl
theorem q508 : (Jvm.Cond.fieldLinkNest "SevenRings" (220 : Nat) "SevenRings$Seeker" "turns" "I" "SevenRings") ∈ lw_tbl := lw_at lw_m2 218 rfl
theorem q510 : (Jvm.Cond.fieldLinkNest "SevenRings" (221 : Nat) "SevenRings$Seeker" "slowed" "Z" "SevenRings") ∈ lw_tbl := lw_at lw_m2 220 rfl
theorem q512 : (Jvm.Cond.fieldLinkNest "SevenRings" (217 : Nat) "SevenRings$Seeker" "cells" "[I" "SevenRings") ∈ lw_tbl := lw_at lw_m2 222 rfl
theorem q525 : (Jvm.Cond.instanceMethod ({ cls := "SevenRings", name := "may", desc := "(II)I" } : Jvm.MethodName)) ∈ lw_all := lw_g (lw_at lw_m2 235 rfl) rfl
theorem q526 : (Jvm.Cond.selects "SevenRings" ({ cls := "SevenRings", name := "may", desc := "(II)I" } : Jvm.MethodName) ({ cls := "SevenRings", name := "may", desc := "(II)I" } : Jvm.MethodName)) ∈ lw_all := lw_g (lw_at lw_m2 236 rfl) rfl
theorem q527 : (Jvm.Cond.code ({ cls := "SevenRings", name := "may", desc := "(II)I" } : Jvm.MethodName) prog_1_method_32_code (6 : Nat) (Option.some Jvm.ClassFile.FieldType.int)) ∈ lw_all := lw_g (lw_at lw_m2 237 rfl) rfl
theorem q528 : (Jvm.Cond.classLink "SevenRings" (222 : Nat) "SevenRings$Marker") ∈ lw_all := lw_g (lw_at lw_m2 238 rfl) rfl
theorem q530 : (Jvm.Cond.methodLinkNest "SevenRings" (224 : Nat) ({ cls := "SevenRings$Marker", name := "<init>", desc := "()V" } : Jvm.MethodName) "SevenRings") ∈ lw_tbl := lw_at lw_m3 0 rfl
theorem q535 : (Jvm.Cond.fieldLinkNest "SevenRings" (225 : Nat) "SevenRings$Marker" "hour" "I" "SevenRings") ∈ lw_tbl := lw_at lw_m3 5 rfl
theorem q537 : (Jvm.Cond.fieldLinkNest "SevenRings" (228 : Nat) "SevenRings$Marker" "marks" "[Z" "SevenRings") ∈ lw_tbl := lw_at lw_m3 7 rfl
theorem q545 : (Jvm.Cond.instanceMethod ({ cls := "SevenRings", name := "cell", desc := "(IIII)I" } : Jvm.MethodName)) ∈ lw_all := lw_g (lw_at lw_m3 15 rfl) rfl
theorem q546 : (Jvm.Cond.selects "SevenRings" ({ cls := "SevenRings", name := "cell", desc := "(IIII)I" } : Jvm.MethodName) ({ cls := "SevenRings", name := "cell", desc := "(IIII)I" } : Jvm.MethodName)) ∈ lw_all := lw_g (lw_at lw_m3 16 rfl) rfl
theorem q547 : (Jvm.Cond.code ({ cls := "SevenRings", name := "cell", desc := "(IIII)I" } : Jvm.MethodName) prog_1_method_33_code (7 : Nat) (Option.some Jvm.ClassFile.FieldType.int)) ∈ lw_all := lw_g (lw_at lw_m3 17 rfl) rfl
theorem q549 : (Jvm.Cond.instanceMethod ({ cls := "SevenRings", name := "depth", desc := "(II)I" } : Jvm.MethodName)) ∈ lw_all := lw_g (lw_at lw_m3 19 rfl) rfl
theorem q550 : (Jvm.Cond.selects "SevenRings" ({ cls := "SevenRings", name := "depth", desc := "(II)I" } : Jvm.MethodName) ({ cls := "SevenRings", name := "depth", desc := "(II)I" } : Jvm.MethodName)) ∈ lw_all := lw_g (lw_at lw_m3 20 rfl) rfl
theorem q551 : (Jvm.Cond.code ({ cls := "SevenRings", name := "depth", desc := "(II)I" } : Jvm.MethodName) prog_1_method_34_code (4 : Nat) (Option.some Jvm.ClassFile.FieldType.int)) ∈ lw_all := lw_g (lw_at lw_m3 21 rfl) rfl
theorem q553 : (Jvm.Cond.instanceMethod ({ cls := "SevenRings", name := "piece", desc := "(IIIII)I" } : Jvm.MethodName)) ∈ lw_all := lw_g (lw_at lw_m3 23 rfl) rfl
theorem q554 : (Jvm.Cond.selects "SevenRings" ({ cls := "SevenRings", name := "piece", desc := "(IIIII)I" } : Jvm.MethodName) ({ cls := "SevenRings", name := "piece", desc := "(IIIII)I" } : Jvm.MethodName)) ∈ lw_all := lw_g (lw_at lw_m3 24 rfl) rfl
theorem q555 : (Jvm.Cond.code ({ cls := "SevenRings", name := "piece", desc := "(IIIII)I" } : Jvm.MethodName) prog_1_method_35_code (6 : Nat) (Option.some Jvm.ClassFile.FieldType.int)) ∈ lw_all := lw_g (lw_at lw_m3 25 rfl) rfl
theorem q556 : (Jvm.Cond.interfaceEntry "SevenRings" (242 : Nat)) ∈ lw_tbl := lw_at lw_m3 26 rfl
theorem q557 : (Jvm.Cond.methodLink "SevenRings" (242 : Nat) ({ cls := "java/util/List", name := "size", desc := "()I" } : Jvm.MethodName)) ∈ lw_all := lw_g (lw_at lw_m3 27 rfl) rfl
theorem q566 : (Jvm.Cond.classLink "SevenRings" (247 : Nat) "SevenRings$Piece") ∈ lw_all := lw_g (lw_at lw_m3 36 rfl) rfl
theorem q568 : (Jvm.Cond.methodLink "SevenRings" (249 : Nat) ({ cls := "SevenRings$Piece", name := "<init>", desc := "(IIZII)V" } : Jvm.MethodName)) ∈ lw_all := lw_g (lw_at lw_m3 38 rfl) rfl
theorem q588 : (Jvm.Cond.interfaceEntry "SevenRings" (252 : Nat)) ∈ lw_tbl := lw_at lw_m3 58 rfl
theorem q589 : (Jvm.Cond.methodLink "SevenRings" (252 : Nat) ({ cls := "java/util/List", name := "add", desc := "(Ljava/lang/Object;)Z" } : Jvm.MethodName)) ∈ lw_all := lw_g (lw_at lw_m3 59 rfl) rfl
theorem q625 : (Jvm.Cond.selects "SevenRings" ({ cls := "java/lang/Object", name := "getClass", desc := "()Ljava/lang/Class;" } : Jvm.MethodName) ({ cls := "java/lang/Object", name := "getClass", desc := "()Ljava/lang/Class;" } : Jvm.MethodName)) ∈ lw_all := lw_g (lw_at lw_m3 95 rfl) rfl
theorem q655 : (Jvm.Cond.instanceMethod ({ cls := "SevenRings", name := "drift", desc := "(III)I" } : Jvm.MethodName)) ∈ lw_all := lw_g (lw_at lw_m3 125 rfl) rfl
theorem q656 : (Jvm.Cond.selects "SevenRings" ({ cls := "SevenRings", name := "drift", desc := "(III)I" } : Jvm.MethodName) ({ cls := "SevenRings", name := "drift", desc := "(III)I" } : Jvm.MethodName)) ∈ lw_all := lw_g (lw_at lw_m3 126 rfl) rfl
theorem q657 : (Jvm.Cond.code ({ cls := "SevenRings", name := "drift", desc := "(III)I" } : Jvm.MethodName) prog_1_method_37_code (4 : Nat) (Option.some Jvm.ClassFile.FieldType.int)) ∈ lw_all := lw_g (lw_at lw_m3 127 rfl) rfl
theorem q658 : (Jvm.Cond.methodLink "SevenRings" (260 : Nat) ({ cls := "SevenRings", name := "drifted", desc := "(III)I" } : Jvm.MethodName)) ∈ lw_all := lw_g (lw_at lw_m3 128 rfl) rfl
theorem q659 : (Jvm.Cond.privateMethod ({ cls := "SevenRings", name := "drifted", desc := "(III)I" } : Jvm.MethodName)) ∈ lw_tbl := lw_at lw_m3 129 rfl
theorem q660 : (Jvm.Cond.instanceMethod ({ cls := "SevenRings", name := "drifted", desc := "(III)I" } : Jvm.MethodName)) ∈ lw_all := lw_g (lw_at lw_m3 130 rfl) rfl
theorem q661 : (Jvm.Cond.code ({ cls := "SevenRings", name := "drifted", desc := "(III)I" } : Jvm.MethodName) prog_1_method_36_code (6 : Nat) (Option.some Jvm.ClassFile.FieldType.int)) ∈ lw_all := lw_g (lw_at lw_m3 131 rfl) rfl
theorem q662 : (Jvm.Cond.methodLink "SevenRings" (256 : Nat) ({ cls := "SevenRings$Told", name := "drift", desc := "(IIZ)I" } : Jvm.MethodName)) ∈ lw_all := lw_g (lw_at lw_m3 132 rfl) rfl
theorem q668 : (Jvm.Cond.instanceMethod ({ cls := "SevenRings", name := "fits", desc := "(II)I" } : Jvm.MethodName)) ∈ lw_all := lw_g (lw_at lw_m3 138 rfl) rfl
theorem q669 : (Jvm.Cond.selects "SevenRings" ({ cls := "SevenRings", name := "fits", desc := "(II)I" } : Jvm.MethodName) ({ cls := "SevenRings", name := "fits", desc := "(II)I" } : Jvm.MethodName)) ∈ lw_all := lw_g (lw_at lw_m3 139 rfl) rfl
theorem q670 : (Jvm.Cond.code ({ cls := "SevenRings", name := "fits", desc := "(II)I" } : Jvm.MethodName) prog_1_method_38_code (3 : Nat) (Option.some Jvm.ClassFile.FieldType.int)) ∈ lw_all := lw_g (lw_at lw_m3 140 rfl) rfl
theorem q671 : (Jvm.Cond.interfaceEntry "SevenRings" (263 : Nat)) ∈ lw_tbl := lw_at lw_m3 141 rfl
theorem q672 : (Jvm.Cond.methodLink "SevenRings" (263 : Nat) ({ cls := "java/util/List", name := "get", desc := "(I)Ljava/lang/Object;" } : Jvm.MethodName)) ∈ lw_all := lw_g (lw_at lw_m3 142 rfl) rfl
theorem q690 : (Jvm.Cond.methodLink "SevenRings" (267 : Nat) ({ cls := "SevenRings$Piece", name := "fits", desc := "(LSevenRings$Told;I)I" } : Jvm.MethodName)) ∈ lw_all := lw_g (lw_at lw_m3 160 rfl) rfl
theorem q696 : (Jvm.Cond.static ({ cls := "SevenRings", name := "areBeside", desc := "(II)Z" } : Jvm.MethodName)) ∈ lw_all := lw_g (lw_at lw_m3 166 rfl) rfl
theorem q697 : (Jvm.Cond.code ({ cls := "SevenRings", name := "areBeside", desc := "(II)Z" } : Jvm.MethodName) prog_1_method_5_code (2 : Nat) (Option.some Jvm.ClassFile.FieldType.boolean)) ∈ lw_all := lw_g (lw_at lw_m3 167 rfl) rfl
theorem q699 : (Jvm.Cond.instanceMethod ({ cls := "SevenRings", name := "drag", desc := "(II)I" } : Jvm.MethodName)) ∈ lw_all := lw_g (lw_at lw_m3 169 rfl) rfl
theorem q700 : (Jvm.Cond.selects "SevenRings" ({ cls := "SevenRings", name := "drag", desc := "(II)I" } : Jvm.MethodName) ({ cls := "SevenRings", name := "drag", desc := "(II)I" } : Jvm.MethodName)) ∈ lw_all := lw_g (lw_at lw_m3 170 rfl) rfl
theorem q701 : (Jvm.Cond.code ({ cls := "SevenRings", name := "drag", desc := "(II)I" } : Jvm.MethodName) prog_1_method_39_code (3 : Nat) (Option.some Jvm.ClassFile.FieldType.int)) ∈ lw_all := lw_g (lw_at lw_m3 171 rfl) rfl
theorem q702 : (Jvm.Cond.classLink "SevenRings" (274 : Nat) "SevenRings$Drag") ∈ lw_all := lw_g (lw_at lw_m3 172 rfl) rfl
theorem q704 : (Jvm.Cond.methodLink "SevenRings" (276 : Nat) ({ cls := "SevenRings$Drag", name := "<init>", desc := "(II)V" } : Jvm.MethodName)) ∈ lw_all := lw_g (lw_at lw_m3 174 rfl) rfl
theorem q709 : (Jvm.Cond.fieldLinkNest "SevenRings" (316 : Nat) "SevenRings$Drag" "cell" "I" "SevenRings") ∈ lw_tbl := lw_at lw_m3 179 rfl
theorem q717 : (Jvm.Cond.instanceMethod ({ cls := "SevenRings", name := "clear", desc := "()I" } : Jvm.MethodName)) ∈ lw_all := lw_g (lw_at lw_m3 187 rfl) rfl
theorem q718 : (Jvm.Cond.selects "SevenRings" ({ cls := "SevenRings", name := "clear", desc := "()I" } : Jvm.MethodName) ({ cls := "SevenRings", name := "clear", desc := "()I" } : Jvm.MethodName)) ∈ lw_all := lw_g (lw_at lw_m3 188 rfl) rfl
theorem q719 : (Jvm.Cond.code ({ cls := "SevenRings", name := "clear", desc := "()I" } : Jvm.MethodName) prog_1_method_40_code (2 : Nat) (Option.some Jvm.ClassFile.FieldType.int)) ∈ lw_all := lw_g (lw_at lw_m3 189 rfl) rfl
theorem q720 : (Jvm.Cond.interfaceEntry "SevenRings" (279 : Nat)) ∈ lw_tbl := lw_at lw_m3 190 rfl
theorem q721 : (Jvm.Cond.methodLink "SevenRings" (279 : Nat) ({ cls := "java/util/List", name := "clear", desc := "()V" } : Jvm.MethodName)) ∈ lw_all := lw_g (lw_at lw_m3 191 rfl) rfl
theorem q730 : (Jvm.Cond.instanceMethod ({ cls := "SevenRings", name := "odds", desc := "(II)J" } : Jvm.MethodName)) ∈ lw_all := lw_g (lw_at lw_m3 200 rfl) rfl
theorem q731 : (Jvm.Cond.selects "SevenRings" ({ cls := "SevenRings", name := "odds", desc := "(II)J" } : Jvm.MethodName) ({ cls := "SevenRings", name := "odds", desc := "(II)J" } : Jvm.MethodName)) ∈ lw_all := lw_g (lw_at lw_m3 201 rfl) rfl
theorem q732 : (Jvm.Cond.code ({ cls := "SevenRings", name := "odds", desc := "(II)J" } : Jvm.MethodName) prog_1_method_43_code (5 : Nat) (Option.some Jvm.ClassFile.FieldType.long)) ∈ lw_all := lw_g (lw_at lw_m3 202 rfl) rfl
theorem q733 : (Jvm.Cond.constantLong "SevenRings" (289 : Nat) (-1 : Int64)) ∈ lw_all := lw_g (lw_at lw_m3 203 rfl) rfl
theorem q734 : (Jvm.Cond.methodLink "SevenRings" (291 : Nat) ({ cls := "SevenRings", name := "findOdds", desc := "(I[J)J" } : Jvm.MethodName)) ∈ lw_all := lw_g (lw_at lw_m3 204 rfl) rfl
theorem q735 : (Jvm.Cond.privateMethod ({ cls := "SevenRings", name := "findOdds", desc := "(I[J)J" } : Jvm.MethodName)) ∈ lw_tbl := lw_at lw_m3 205 rfl
theorem q736 : (Jvm.Cond.instanceMethod ({ cls := "SevenRings", name := "findOdds", desc := "(I[J)J" } : Jvm.MethodName)) ∈ lw_all := lw_g (lw_at lw_m3 206 rfl) rfl
theorem q737 : (Jvm.Cond.code ({ cls := "SevenRings", name := "findOdds", desc := "(I[J)J" } : Jvm.MethodName) prog_1_method_41_code (10 : Nat) (Option.some Jvm.ClassFile.FieldType.long)) ∈ lw_all := lw_g (lw_at lw_m3 207 rfl) rfl
theorem q738 : (Jvm.Cond.classLink "SevenRings" (282 : Nat) "SevenRings$Ender") ∈ lw_all := lw_g (lw_at lw_m3 208 rfl) rfl
theorem q740 : (Jvm.Cond.methodLinkNest "SevenRings" (284 : Nat) ({ cls := "SevenRings$Ender", name := "<init>", desc := "()V" } : Jvm.MethodName) "SevenRings") ∈ lw_tbl := lw_at lw_m3 210 rfl
theorem q745 : (Jvm.Cond.fieldLinkNest "SevenRings" (285 : Nat) "SevenRings$Ender" "sums" "[J" "SevenRings") ∈ lw_tbl := lw_at lw_m3 215 rfl
theorem q749 : (Jvm.Cond.methodLink "SevenRings" (286 : Nat) ({ cls := "SevenRings$Drag", name := "misses", desc := "(I)I" } : Jvm.MethodName)) ∈ lw_all := lw_g (lw_at lw_m3 219 rfl) rfl
theorem q753 : (Jvm.Cond.constantLong "SevenRings" (295 : Nat) (-4 : Int64)) ∈ lw_all := lw_g (lw_at lw_m3 223 rfl) rfl
theorem q754 : (Jvm.Cond.methodLink "SevenRings" (297 : Nat) ({ cls := "SevenRings", name := "part", desc := "(JJI)J" } : Jvm.MethodName)) ∈ lw_all := lw_g (lw_at lw_m3 224 rfl) rfl
theorem q755 : (Jvm.Cond.static ({ cls := "SevenRings", name := "part", desc := "(JJI)J" } : Jvm.MethodName)) ∈ lw_all := lw_g (lw_at lw_m3 225 rfl) rfl
theorem q756 : (Jvm.Cond.code ({ cls := "SevenRings", name := "part", desc := "(JJI)J" } : Jvm.MethodName) prog_1_method_42_code (11 : Nat) (Option.some Jvm.ClassFile.FieldType.long)) ∈ lw_all := lw_g (lw_at lw_m3 226 rfl) rfl
theorem q758 : (Jvm.Cond.instanceMethod ({ cls := "SevenRings", name := "where", desc := "(I)I" } : Jvm.MethodName)) ∈ lw_all := lw_g (lw_at lw_m3 228 rfl) rfl
theorem q759 : (Jvm.Cond.selects "SevenRings" ({ cls := "SevenRings", name := "where", desc := "(I)I" } : Jvm.MethodName) ({ cls := "SevenRings", name := "where", desc := "(I)I" } : Jvm.MethodName)) ∈ lw_all := lw_g (lw_at lw_m3 229 rfl) rfl
theorem q760 : (Jvm.Cond.code ({ cls := "SevenRings", name := "where", desc := "(I)I" } : Jvm.MethodName) prog_1_method_44_code (4 : Nat) (Option.some Jvm.ClassFile.FieldType.int)) ∈ lw_all := lw_g (lw_at lw_m3 230 rfl) rfl
theorem q762 : (Jvm.Cond.instanceMethod ({ cls := "SevenRings", name := "count", desc := "(I)I" } : Jvm.MethodName)) ∈ lw_all := lw_g (lw_at lw_m3 232 rfl) rfl
theorem q763 : (Jvm.Cond.selects "SevenRings" ({ cls := "SevenRings", name := "count", desc := "(I)I" } : Jvm.MethodName) ({ cls := "SevenRings", name := "count", desc := "(I)I" } : Jvm.MethodName)) ∈ lw_all := lw_g (lw_at lw_m3 233 rfl) rfl
theorem q764 : (Jvm.Cond.code ({ cls := "SevenRings", name := "count", desc := "(I)I" } : Jvm.MethodName) prog_1_method_45_code (4 : Nat) (Option.some Jvm.ClassFile.FieldType.int)) ∈ lw_all := lw_g (lw_at lw_m3 234 rfl) rfl
theorem q766 : (Jvm.Cond.instanceMethod ({ cls := "SevenRings", name := "moves", desc := "(I)I" } : Jvm.MethodName)) ∈ lw_all := lw_g (lw_at lw_m3 236 rfl) rfl
theorem q767 : (Jvm.Cond.selects "SevenRings" ({ cls := "SevenRings", name := "moves", desc := "(I)I" } : Jvm.MethodName) ({ cls := "SevenRings", name := "moves", desc := "(I)I" } : Jvm.MethodName)) ∈ lw_all := lw_g (lw_at lw_m3 237 rfl) rfl
theorem q768 : (Jvm.Cond.code ({ cls := "SevenRings", name := "moves", desc := "(I)I" } : Jvm.MethodName) prog_1_method_48_code (2 : Nat) (Option.some Jvm.ClassFile.FieldType.int)) ∈ lw_all := lw_g (lw_at lw_m3 238 rfl) rfl
theorem q769 : (Jvm.Cond.methodLink "SevenRings" (306 : Nat) ({ cls := "SevenRings", name := "isAssumption", desc := "(I)Z" } : Jvm.MethodName)) ∈ lw_all := lw_g (lw_at lw_m3 239 rfl) rfl
theorem q770 : (Jvm.Cond.privateMethod ({ cls := "SevenRings", name := "isAssumption", desc := "(I)Z" } : Jvm.MethodName)) ∈ lw_tbl := lw_at lw_m4 0 rfl
theorem q771 : (Jvm.Cond.instanceMethod ({ cls := "SevenRings", name := "isAssumption", desc := "(I)Z" } : Jvm.MethodName)) ∈ lw_all := lw_g (lw_at lw_m4 1 rfl) rfl
theorem q772 : (Jvm.Cond.code ({ cls := "SevenRings", name := "isAssumption", desc := "(I)Z" } : Jvm.MethodName) prog_1_method_47_code (2 : Nat) (Option.some Jvm.ClassFile.FieldType.boolean)) ∈ lw_all := lw_g (lw_at lw_m4 2 rfl) rfl
theorem q773 : (Jvm.Cond.methodLink "SevenRings" (309 : Nat) ({ cls := "SevenRings", name := "movesBy", desc := "(IJ)I" } : Jvm.MethodName)) ∈ lw_all := lw_g (lw_at lw_m4 3 rfl) rfl
theorem q774 : (Jvm.Cond.privateMethod ({ cls := "SevenRings", name := "movesBy", desc := "(IJ)I" } : Jvm.MethodName)) ∈ lw_tbl := lw_at lw_m4 4 rfl
theorem q775 : (Jvm.Cond.instanceMethod ({ cls := "SevenRings", name := "movesBy", desc := "(IJ)I" } : Jvm.MethodName)) ∈ lw_all := lw_g (lw_at lw_m4 5 rfl) rfl
theorem q776 : (Jvm.Cond.code ({ cls := "SevenRings", name := "movesBy", desc := "(IJ)I" } : Jvm.MethodName) prog_1_method_46_code (9 : Nat) (Option.some Jvm.ClassFile.FieldType.int)) ∈ lw_all := lw_g (lw_at lw_m4 6 rfl) rfl
theorem q777 : (Jvm.Cond.constantLong "SevenRings" (301 : Nat) (1000 : Int64)) ∈ lw_all := lw_g (lw_at lw_m4 7 rfl) rfl
theorem q778 : (Jvm.Cond.methodLink "SevenRings" (303 : Nat) ({ cls := "java/lang/Math", name := "abs", desc := "(J)J" } : Jvm.MethodName)) ∈ lw_all := lw_g (lw_at lw_m4 8 rfl) rfl
theorem q782 : (Jvm.Cond.instanceMethod ({ cls := "SevenRings", name := "most", desc := "()I" } : Jvm.MethodName)) ∈ lw_all := lw_g (lw_at lw_m4 12 rfl) rfl
theorem q783 : (Jvm.Cond.selects "SevenRings" ({ cls := "SevenRings", name := "most", desc := "()I" } : Jvm.MethodName) ({ cls := "SevenRings", name := "most", desc := "()I" } : Jvm.MethodName)) ∈ lw_all := lw_g (lw_at lw_m4 13 rfl) rfl
theorem q784 : (Jvm.Cond.code ({ cls := "SevenRings", name := "most", desc := "()I" } : Jvm.MethodName) prog_1_method_49_code (7 : Nat) (Option.some Jvm.ClassFile.FieldType.int)) ∈ lw_all := lw_g (lw_at lw_m4 14 rfl) rfl
theorem q785 : (Jvm.Cond.methodLink "SevenRings" (313 : Nat) ({ cls := "java/lang/Math", name := "max", desc := "(II)I" } : Jvm.MethodName)) ∈ lw_all := lw_g (lw_at lw_m4 15 rfl) rfl
theorem q787 : (Jvm.Cond.instanceMethod ({ cls := "SevenRings", name := "next", desc := "()I" } : Jvm.MethodName)) ∈ lw_all := lw_g (lw_at lw_m4 17 rfl) rfl
theorem q788 : (Jvm.Cond.selects "SevenRings" ({ cls := "SevenRings", name := "next", desc := "()I" } : Jvm.MethodName) ({ cls := "SevenRings", name := "next", desc := "()I" } : Jvm.MethodName)) ∈ lw_all := lw_g (lw_at lw_m4 18 rfl) rfl
theorem q789 : (Jvm.Cond.code ({ cls := "SevenRings", name := "next", desc := "()I" } : Jvm.MethodName) prog_1_method_51_code (3 : Nat) (Option.some Jvm.ClassFile.FieldType.int)) ∈ lw_all := lw_g (lw_at lw_m4 19 rfl) rfl
theorem q790 : (Jvm.Cond.methodLink "SevenRings" (319 : Nat) ({ cls := "SevenRings", name := "isDragged", desc := "(I)Z" } : Jvm.MethodName)) ∈ lw_all := lw_g (lw_at lw_m4 20 rfl) rfl
theorem q791 : (Jvm.Cond.privateMethod ({ cls := "SevenRings", name := "isDragged", desc := "(I)Z" } : Jvm.MethodName)) ∈ lw_tbl := lw_at lw_m4 21 rfl
theorem q792 : (Jvm.Cond.instanceMethod ({ cls := "SevenRings", name := "isDragged", desc := "(I)Z" } : Jvm.MethodName)) ∈ lw_all := lw_g (lw_at lw_m4 22 rfl) rfl
theorem q793 : (Jvm.Cond.code ({ cls := "SevenRings", name := "isDragged", desc := "(I)Z" } : Jvm.MethodName) prog_1_method_50_code (4 : Nat) (Option.some Jvm.ClassFile.FieldType.boolean)) ∈ lw_all := lw_g (lw_at lw_m4 23 rfl) rfl
theorem q795 : (Jvm.Cond.instanceMethod ({ cls := "SevenRings", name := "should", desc := "(IIII)J" } : Jvm.MethodName)) ∈ lw_all := lw_g (lw_at lw_m4 25 rfl) rfl
theorem q796 : (Jvm.Cond.selects "SevenRings" ({ cls := "SevenRings", name := "should", desc := "(IIII)J" } : Jvm.MethodName) ({ cls := "SevenRings", name := "should", desc := "(IIII)J" } : Jvm.MethodName)) ∈ lw_all := lw_g (lw_at lw_m4 26 rfl) rfl
theorem q797 : (Jvm.Cond.code ({ cls := "SevenRings", name := "should", desc := "(IIII)J" } : Jvm.MethodName) prog_1_method_52_code (10 : Nat) (Option.some Jvm.ClassFile.FieldType.long)) ∈ lw_all := lw_g (lw_at lw_m4 27 rfl) rfl
theorem q799 : (Jvm.Cond.instanceMethod ({ cls := "SevenRings", name := "held", desc := "(III)I" } : Jvm.MethodName)) ∈ lw_all := lw_g (lw_at lw_m4 29 rfl) rfl
theorem q800 : (Jvm.Cond.selects "SevenRings" ({ cls := "SevenRings", name := "held", desc := "(III)I" } : Jvm.MethodName) ({ cls := "SevenRings", name := "held", desc := "(III)I" } : Jvm.MethodName)) ∈ lw_all := lw_g (lw_at lw_m4 30 rfl) rfl
theorem q801 : (Jvm.Cond.code ({ cls := "SevenRings", name := "held", desc := "(III)I" } : Jvm.MethodName) prog_1_method_55_code (5 : Nat) (Option.some Jvm.ClassFile.FieldType.int)) ∈ lw_all := lw_g (lw_at lw_m4 31 rfl) rfl
theorem q802 : (Jvm.Cond.methodLink "SevenRings" (331 : Nat) ({ cls := "SevenRings", name := "isSheet", desc := "(I)Z" } : Jvm.MethodName)) ∈ lw_all := lw_g (lw_at lw_m4 32 rfl) rfl
theorem q803 : (Jvm.Cond.static ({ cls := "SevenRings", name := "isSheet", desc := "(I)Z" } : Jvm.MethodName)) ∈ lw_all := lw_g (lw_at lw_m4 33 rfl) rfl
theorem q804 : (Jvm.Cond.code ({ cls := "SevenRings", name := "isSheet", desc := "(I)Z" } : Jvm.MethodName) prog_1_method_59_code (1 : Nat) (Option.some Jvm.ClassFile.FieldType.boolean)) ∈ lw_all := lw_g (lw_at lw_m4 34 rfl) rfl
theorem q805 : (Jvm.Cond.methodLink "SevenRings" (334 : Nat) ({ cls := "SevenRings", name := "isLane", desc := "(I)Z" } : Jvm.MethodName)) ∈ lw_all := lw_g (lw_at lw_m4 35 rfl) rfl
theorem q806 : (Jvm.Cond.static ({ cls := "SevenRings", name := "isLane", desc := "(I)Z" } : Jvm.MethodName)) ∈ lw_all := lw_g (lw_at lw_m4 36 rfl) rfl
theorem q807 : (Jvm.Cond.code ({ cls := "SevenRings", name := "isLane", desc := "(I)Z" } : Jvm.MethodName) prog_1_method_60_code (1 : Nat) (Option.some Jvm.ClassFile.FieldType.boolean)) ∈ lw_all := lw_g (lw_at lw_m4 37 rfl) rfl
theorem q808 : (Jvm.Cond.methodLink "SevenRings" (337 : Nat) ({ cls := "SevenRings", name := "lacks", desc := "(III)I" } : Jvm.MethodName)) ∈ lw_all := lw_g (lw_at lw_m4 38 rfl) rfl
theorem q809 : (Jvm.Cond.privateMethod ({ cls := "SevenRings", name := "lacks", desc := "(III)I" } : Jvm.MethodName)) ∈ lw_tbl := lw_at lw_m4 39 rfl
theorem q810 : (Jvm.Cond.instanceMethod ({ cls := "SevenRings", name := "lacks", desc := "(III)I" } : Jvm.MethodName)) ∈ lw_all := lw_g (lw_at lw_m4 40 rfl) rfl
theorem q811 : (Jvm.Cond.code ({ cls := "SevenRings", name := "lacks", desc := "(III)I" } : Jvm.MethodName) prog_1_method_61_code (5 : Nat) (Option.some Jvm.ClassFile.FieldType.int)) ∈ lw_all := lw_g (lw_at lw_m4 41 rfl) rfl
theorem q812 : (Jvm.Cond.methodLink "SevenRings" (361 : Nat) ({ cls := "SevenRings$Sheet", name := "lane", desc := "()I" } : Jvm.MethodName)) ∈ lw_all := lw_g (lw_at lw_m4 42 rfl) rfl
theorem q818 : (Jvm.Cond.methodLink "SevenRings" (364 : Nat) ({ cls := "SevenRings$Sheet", name := "size", desc := "()I" } : Jvm.MethodName)) ∈ lw_all := lw_g (lw_at lw_m4 48 rfl) rfl
theorem q823 : (Jvm.Cond.methodLink "SevenRings" (340 : Nat) ({ cls := "SevenRings", name := "isKnown", desc := "(LSevenRings$Sheet;I)Z" } : Jvm.MethodName)) ∈ lw_all := lw_g (lw_at lw_m4 53 rfl) rfl
theorem q824 : (Jvm.Cond.privateMethod ({ cls := "SevenRings", name := "isKnown", desc := "(LSevenRings$Sheet;I)Z" } : Jvm.MethodName)) ∈ lw_tbl := lw_at lw_m4 54 rfl
theorem q825 : (Jvm.Cond.instanceMethod ({ cls := "SevenRings", name := "isKnown", desc := "(LSevenRings$Sheet;I)Z" } : Jvm.MethodName)) ∈ lw_all := lw_g (lw_at lw_m4 55 rfl) rfl
theorem q826 : (Jvm.Cond.code ({ cls := "SevenRings", name := "isKnown", desc := "(LSevenRings$Sheet;I)Z" } : Jvm.MethodName) prog_1_method_53_code (5 : Nat) (Option.some Jvm.ClassFile.FieldType.boolean)) ∈ lw_all := lw_g (lw_at lw_m4 56 rfl) rfl
theorem q827 : (Jvm.Cond.classLink "SevenRings" (322 : Nat) "SevenRings$Knower") ∈ lw_all := lw_g (lw_at lw_m4 57 rfl) rfl
theorem q829 : (Jvm.Cond.methodLinkNest "SevenRings" (324 : Nat) ({ cls := "SevenRings$Knower", name := "<init>", desc := "()V" } : Jvm.MethodName) "SevenRings") ∈ lw_tbl := lw_at lw_m4 59 rfl
theorem q834 : (Jvm.Cond.fieldLinkNest "SevenRings" (325 : Nat) "SevenRings$Knower" "cells" "[I" "SevenRings") ∈ lw_tbl := lw_at lw_m4 64 rfl
theorem q836 : (Jvm.Cond.fieldLinkNest "SevenRings" (328 : Nat) "SevenRings$Knower" "knows" "Z" "SevenRings") ∈ lw_tbl := lw_at lw_m4 66 rfl
theorem q842 : (Jvm.Cond.methodLink "SevenRings" (326 : Nat) ({ cls := "SevenRings$Sheet", name := "get", desc := "(I)I" } : Jvm.MethodName)) ∈ lw_all := lw_g (lw_at lw_m4 72 rfl) rfl
theorem q846 : (Jvm.Cond.methodLink "SevenRings" (344 : Nat) ({ cls := "SevenRings", name := "heldBy", desc := "(LSevenRings$Sheet;I)I" } : Jvm.MethodName)) ∈ lw_all := lw_g (lw_at lw_m4 76 rfl) rfl
theorem q847 : (Jvm.Cond.privateMethod ({ cls := "SevenRings", name := "heldBy", desc := "(LSevenRings$Sheet;I)I" } : Jvm.MethodName)) ∈ lw_tbl := lw_at lw_m4 77 rfl
theorem q848 : (Jvm.Cond.instanceMethod ({ cls := "SevenRings", name := "heldBy", desc := "(LSevenRings$Sheet;I)I" } : Jvm.MethodName)) ∈ lw_all := lw_g (lw_at lw_m4 78 rfl) rfl
theorem q849 : (Jvm.Cond.code ({ cls := "SevenRings", name := "heldBy", desc := "(LSevenRings$Sheet;I)I" } : Jvm.MethodName) prog_1_method_54_code (8 : Nat) (Option.some Jvm.ClassFile.FieldType.int)) ∈ lw_all := lw_g (lw_at lw_m4 79 rfl) rfl
theorem q851 : (Jvm.Cond.instanceMethod ({ cls := "SevenRings", name := "film", desc := "(IIII)I" } : Jvm.MethodName)) ∈ lw_all := lw_g (lw_at lw_m4 81 rfl) rfl
theorem q852 : (Jvm.Cond.selects "SevenRings" ({ cls := "SevenRings", name := "film", desc := "(IIII)I" } : Jvm.MethodName) ({ cls := "SevenRings", name := "film", desc := "(IIII)I" } : Jvm.MethodName)) ∈ lw_all := lw_g (lw_at lw_m4 82 rfl) rfl
theorem q853 : (Jvm.Cond.code ({ cls := "SevenRings", name := "film", desc := "(IIII)I" } : Jvm.MethodName) prog_1_method_56_code (8 : Nat) (Option.some Jvm.ClassFile.FieldType.int)) ∈ lw_all := lw_g (lw_at lw_m4 83 rfl) rfl
theorem q854 : (Jvm.Cond.methodLink "SevenRings" (348 : Nat) ({ cls := "SevenRings$Sheet", name := "set", desc := "(II)V" } : Jvm.MethodName)) ∈ lw_all := lw_g (lw_at lw_m4 84 rfl) rfl
theorem q859 : (Jvm.Cond.instanceMethod ({ cls := "SevenRings", name := "image", desc := "()I" } : Jvm.MethodName)) ∈ lw_all := lw_g (lw_at lw_m4 89 rfl) rfl
theorem q860 : (Jvm.Cond.selects "SevenRings" ({ cls := "SevenRings", name := "image", desc := "()I" } : Jvm.MethodName) ({ cls := "SevenRings", name := "image", desc := "()I" } : Jvm.MethodName)) ∈ lw_all := lw_g (lw_at lw_m4 90 rfl) rfl
theorem q861 : (Jvm.Cond.code ({ cls := "SevenRings", name := "image", desc := "()I" } : Jvm.MethodName) prog_1_method_57_code (1 : Nat) (Option.some Jvm.ClassFile.FieldType.int)) ∈ lw_all := lw_g (lw_at lw_m4 91 rfl) rfl
theorem q862 : (Jvm.Cond.methodLink "SevenRings" (350 : Nat) ({ cls := "SevenRings$Told", name := "takeFrom", desc := "(LSevenRings$Told;)V" } : Jvm.MethodName)) ∈ lw_all := lw_g (lw_at lw_m4 92 rfl) rfl
theorem q890 : (Jvm.Cond.instanceMethod ({ cls := "SevenRings", name := "restore", desc := "()I" } : Jvm.MethodName)) ∈ lw_all := lw_g (lw_at lw_m4 120 rfl) rfl
theorem q891 : (Jvm.Cond.selects "SevenRings" ({ cls := "SevenRings", name := "restore", desc := "()I" } : Jvm.MethodName) ({ cls := "SevenRings", name := "restore", desc := "()I" } : Jvm.MethodName)) ∈ lw_all := lw_g (lw_at lw_m4 121 rfl) rfl
theorem q892 : (Jvm.Cond.code ({ cls := "SevenRings", name := "restore", desc := "()I" } : Jvm.MethodName) prog_1_method_58_code (1 : Nat) (Option.some Jvm.ClassFile.FieldType.int)) ∈ lw_all := lw_g (lw_at lw_m4 122 rfl) rfl
theorem q894 : (Jvm.Cond.instanceMethod ({ cls := "SevenRings", name := "sheet", desc := "(III)I" } : Jvm.MethodName)) ∈ lw_all := lw_g (lw_at lw_m4 124 rfl) rfl
theorem q895 : (Jvm.Cond.selects "SevenRings" ({ cls := "SevenRings", name := "sheet", desc := "(III)I" } : Jvm.MethodName) ({ cls := "SevenRings", name := "sheet", desc := "(III)I" } : Jvm.MethodName)) ∈ lw_all := lw_g (lw_at lw_m4 125 rfl) rfl
theorem q896 : (Jvm.Cond.codeWith ({ cls := "SevenRings", name := "sheet", desc := "(III)I" } : Jvm.MethodName) prog_1_method_62_code (5 : Nat) (Option.some Jvm.ClassFile.FieldType.int) [((22 : Nat), (55 : Nat), (58 : Nat), (365 : Nat))]) ∈ lw_all := lw_g (lw_at lw_m4 126 rfl) rfl
theorem q897 : (Jvm.Cond.classLink "SevenRings" (365 : Nat) "java/lang/NegativeArraySizeException") ∈ lw_all := lw_g (lw_at lw_m4 127 rfl) rfl
theorem q928 : (Jvm.Cond.instanceMethod ({ cls := "SevenRings", name := "drop", desc := "(I)I" } : Jvm.MethodName)) ∈ lw_all := lw_g (lw_at lw_m4 158 rfl) rfl
theorem q929 : (Jvm.Cond.selects "SevenRings" ({ cls := "SevenRings", name := "drop", desc := "(I)I" } : Jvm.MethodName) ({ cls := "SevenRings", name := "drop", desc := "(I)I" } : Jvm.MethodName)) ∈ lw_all := lw_g (lw_at lw_m4 159 rfl) rfl
theorem q930 : (Jvm.Cond.code ({ cls := "SevenRings", name := "drop", desc := "(I)I" } : Jvm.MethodName) prog_1_method_63_code (3 : Nat) (Option.some Jvm.ClassFile.FieldType.int)) ∈ lw_all := lw_g (lw_at lw_m4 160 rfl) rfl
theorem q932 : (Jvm.Cond.instanceMethod ({ cls := "SevenRings", name := "item", desc := "(IIII)I" } : Jvm.MethodName)) ∈ lw_all := lw_g (lw_at lw_m4 162 rfl) rfl
theorem q933 : (Jvm.Cond.selects "SevenRings" ({ cls := "SevenRings", name := "item", desc := "(IIII)I" } : Jvm.MethodName) ({ cls := "SevenRings", name := "item", desc := "(IIII)I" } : Jvm.MethodName)) ∈ lw_all := lw_g (lw_at lw_m4 163 rfl) rfl
theorem q934 : (Jvm.Cond.codeWith ({ cls := "SevenRings", name := "item", desc := "(IIII)I" } : Jvm.MethodName) prog_1_method_64_code (6 : Nat) (Option.some Jvm.ClassFile.FieldType.int) [((16 : Nat), (100 : Nat), (103 : Nat), (371 : Nat)), ((16 : Nat), (100 : Nat), (108 : Nat), (373 : Nat)), ((16 : Nat), (100 : Nat), (113 : Nat), (375 : Nat))]) ∈ lw_all := lw_g (lw_at lw_m4 164 rfl) rfl
theorem q935 : (Jvm.Cond.classLink "SevenRings" (371 : Nat) "java/lang/NullPointerException") ∈ lw_all := lw_g (lw_at lw_m4 165 rfl) rfl
theorem q960 : (Jvm.Cond.classLink "SevenRings" (373 : Nat) "java/lang/ClassCastException") ∈ lw_all := lw_g (lw_at lw_m4 190 rfl) rfl
theorem q974 : (Jvm.Cond.classLink "SevenRings" (375 : Nat) "java/lang/ArrayIndexOutOfBoundsException") ∈ lw_all := lw_g (lw_at lw_m4 204 rfl) rfl
theorem q993 : (Jvm.Cond.classLink "SevenRings" (367 : Nat) "[B") ∈ lw_all := lw_g (lw_at lw_m4 223 rfl) rfl
theorem q994 : (Jvm.Cond.classLink "SevenRings" (368 : Nat) "[S") ∈ lw_all := lw_g (lw_at lw_m4 224 rfl) rfl
theorem q995 : (Jvm.Cond.classLink "SevenRings" (370 : Nat) "[I") ∈ lw_all := lw_g (lw_at lw_m4 225 rfl) rfl
theorem q997 : (Jvm.Cond.instanceMethod ({ cls := "SevenRings", name := "copy", desc := "(IIIII)I" } : Jvm.MethodName)) ∈ lw_all := lw_g (lw_at lw_m4 227 rfl) rfl
theorem q998 : (Jvm.Cond.selects "SevenRings" ({ cls := "SevenRings", name := "copy", desc := "(IIIII)I" } : Jvm.MethodName) ({ cls := "SevenRings", name := "copy", desc := "(IIIII)I" } : Jvm.MethodName)) ∈ lw_all := lw_g (lw_at lw_m4 228 rfl) rfl
theorem q999 : (Jvm.Cond.codeWith ({ cls := "SevenRings", name := "copy", desc := "(IIIII)I" } : Jvm.MethodName) prog_1_method_65_code (7 : Nat) (Option.some Jvm.ClassFile.FieldType.int) [((16 : Nat), (42 : Nat), (45 : Nat), (371 : Nat)), ((16 : Nat), (42 : Nat), (50 : Nat), (377 : Nat)), ((16 : Nat), (42 : Nat), (55 : Nat), (379 : Nat))]) ∈ lw_all := lw_g (lw_at lw_m4 229 rfl) rfl
theorem q1000 : (Jvm.Cond.classLink "SevenRings" (377 : Nat) "java/lang/ArrayStoreException") ∈ lw_all := lw_g (lw_at lw_m4 230 rfl) rfl
theorem q1014 : (Jvm.Cond.classLink "SevenRings" (379 : Nat) "java/lang/IndexOutOfBoundsException") ∈ lw_all := lw_g (lw_at lw_m5 4 rfl) rfl
theorem q1414 : (Jvm.Cond.castable "SevenRings" "java/lang/Object") ∈ lw_tbl := lw_at lw_m6 164 rfl
theorem in_X0 : ∀ w ∈ wsX00, w ∈ lw_all := lw_in wsX00 [283, 285, 287, 289, 291, 293, 295, 297, 299, 301, 303, 305, 307, 309, 311, 313, 315, 317, 319, 321, 323] (by decide +kernel) (by decide +kernel)
