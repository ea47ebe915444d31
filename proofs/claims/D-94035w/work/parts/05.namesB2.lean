set_option maxRecDepth 100000
abbrev cX0_pagesIn : ByteArray := prog_1_method_69_code
def yX0_pagesIn : MethodName := ⟨RX0, "pagesIn", "(II)I"⟩
def dkwX0_pagesIn_3 : List UInt8 := [167, 0, 4, 3, 96, 62, 132, 4, 1, 167, 255, 184, 29, 172]
abbrev dktX0_pagesIn_3 : List UInt8 := dkwX0_pagesIn_3 ++ []
def dkwX0_pagesIn_2 : List UInt8 := [184, 0, 111, 153, 0, 24, 42, 180, 0, 26, 180, 1, 204, 21, 4, 182, 0, 42, 192, 1, 199, 180, 1, 210]
abbrev dktX0_pagesIn_2 : List UInt8 := dkwX0_pagesIn_2 ++ dktX0_pagesIn_3
def dkwX0_pagesIn_1 : List UInt8 := [180, 0, 26, 180, 1, 204, 21, 4, 182, 0, 42, 192, 1, 199, 180, 1, 207, 133, 27, 133, 28, 133]
abbrev dktX0_pagesIn_1 : List UInt8 := dkwX0_pagesIn_1 ++ dktX0_pagesIn_2
def dkwX0_pagesIn_0 : List UInt8 := [3, 62, 3, 54, 4, 21, 4, 42, 180, 0, 26, 180, 1, 204, 182, 0, 36, 162, 0, 63, 29, 42]
abbrev dktX0_pagesIn_0 : List UInt8 := dkwX0_pagesIn_0 ++ dktX0_pagesIn_1
theorem dksX0_pagesIn_0 : cX0_pagesIn.data.toList.drop 0 = dktX0_pagesIn_0 := by decide +kernel
theorem dksX0_pagesIn_1 : cX0_pagesIn.data.toList.drop 22 = dktX0_pagesIn_1 := dk_seg dksX0_pagesIn_0 22 rfl rfl
theorem dksX0_pagesIn_2 : cX0_pagesIn.data.toList.drop 44 = dktX0_pagesIn_2 := dk_seg dksX0_pagesIn_1 22 rfl rfl
theorem dksX0_pagesIn_3 : cX0_pagesIn.data.toList.drop 68 = dktX0_pagesIn_3 := dk_seg dksX0_pagesIn_2 24 rfl rfl
theorem dX0_pagesIn_0 : decode cX0_pagesIn 0 = .ok (.iconst 0, 1) := dk_3 (dk_at dksX0_pagesIn_0 0 rfl rfl)
theorem dX0_pagesIn_1 : decode cX0_pagesIn 1 = .ok (.istore_n 3, 1) := dk_62 (dk_at dksX0_pagesIn_0 1 rfl rfl)
theorem dX0_pagesIn_2 : decode cX0_pagesIn 2 = .ok (.iconst 0, 1) := dk_3 (dk_at dksX0_pagesIn_0 2 rfl rfl)
theorem dX0_pagesIn_3 : decode cX0_pagesIn 3 = .ok (.istore 4, 2) := dk_54 4 (dk_at dksX0_pagesIn_0 3 rfl rfl)
theorem dX0_pagesIn_5 : decode cX0_pagesIn 5 = .ok (.iload 4, 2) := dk_21 4 (dk_at dksX0_pagesIn_0 5 rfl rfl)
theorem dX0_pagesIn_7 : decode cX0_pagesIn 7 = .ok (.aload_n 0, 1) := dk_42 (dk_at dksX0_pagesIn_0 7 rfl rfl)
theorem dX0_pagesIn_8 : decode cX0_pagesIn 8 = .ok (.getfield 26, 3) := dk_180 0 26 (dk_at dksX0_pagesIn_0 8 rfl rfl)
theorem dX0_pagesIn_11 : decode cX0_pagesIn 11 = .ok (.getfield 460, 3) := dk_180 1 204 (dk_at dksX0_pagesIn_0 11 rfl rfl)
theorem dX0_pagesIn_14 : decode cX0_pagesIn 14 = .ok (.invokevirtual 36, 3) := dk_182 0 36 (dk_at dksX0_pagesIn_0 14 rfl rfl)
theorem dX0_pagesIn_17 : decode cX0_pagesIn 17 = .ok (.if_icmp .ge 63, 3) := dk_162 0 63 (dk_at dksX0_pagesIn_0 17 rfl rfl)
theorem dX0_pagesIn_20 : decode cX0_pagesIn 20 = .ok (.iload_n 3, 1) := dk_29 (dk_at dksX0_pagesIn_0 20 rfl rfl)
theorem dX0_pagesIn_21 : decode cX0_pagesIn 21 = .ok (.aload_n 0, 1) := dk_42 (dk_at dksX0_pagesIn_0 21 rfl rfl)
theorem dX0_pagesIn_22 : decode cX0_pagesIn 22 = .ok (.getfield 26, 3) := dk_180 0 26 (dk_at dksX0_pagesIn_1 0 rfl rfl)
theorem dX0_pagesIn_25 : decode cX0_pagesIn 25 = .ok (.getfield 460, 3) := dk_180 1 204 (dk_at dksX0_pagesIn_1 3 rfl rfl)
theorem dX0_pagesIn_28 : decode cX0_pagesIn 28 = .ok (.iload 4, 2) := dk_21 4 (dk_at dksX0_pagesIn_1 6 rfl rfl)
theorem dX0_pagesIn_30 : decode cX0_pagesIn 30 = .ok (.invokevirtual 42, 3) := dk_182 0 42 (dk_at dksX0_pagesIn_1 8 rfl rfl)
theorem dX0_pagesIn_33 : decode cX0_pagesIn 33 = .ok (.checkcast 455, 3) := dk_192 1 199 (dk_at dksX0_pagesIn_1 11 rfl rfl)
theorem dX0_pagesIn_36 : decode cX0_pagesIn 36 = .ok (.getfield 463, 3) := dk_180 1 207 (dk_at dksX0_pagesIn_1 14 rfl rfl)
theorem dX0_pagesIn_39 : decode cX0_pagesIn 39 = .ok (.i2l, 1) := dk_133 (dk_at dksX0_pagesIn_1 17 rfl rfl)
theorem dX0_pagesIn_40 : decode cX0_pagesIn 40 = .ok (.iload_n 1, 1) := dk_27 (dk_at dksX0_pagesIn_1 18 rfl rfl)
theorem dX0_pagesIn_41 : decode cX0_pagesIn 41 = .ok (.i2l, 1) := dk_133 (dk_at dksX0_pagesIn_1 19 rfl rfl)
theorem dX0_pagesIn_42 : decode cX0_pagesIn 42 = .ok (.iload_n 2, 1) := dk_28 (dk_at dksX0_pagesIn_1 20 rfl rfl)
theorem dX0_pagesIn_43 : decode cX0_pagesIn 43 = .ok (.i2l, 1) := dk_133 (dk_at dksX0_pagesIn_1 21 rfl rfl)
theorem dX0_pagesIn_44 : decode cX0_pagesIn 44 = .ok (.invokestatic 111, 3) := dk_184 0 111 (dk_at dksX0_pagesIn_2 0 rfl rfl)
theorem dX0_pagesIn_47 : decode cX0_pagesIn 47 = .ok (.ifCond .eq 24, 3) := dk_153 0 24 (dk_at dksX0_pagesIn_2 3 rfl rfl)
theorem dX0_pagesIn_50 : decode cX0_pagesIn 50 = .ok (.aload_n 0, 1) := dk_42 (dk_at dksX0_pagesIn_2 6 rfl rfl)
theorem dX0_pagesIn_51 : decode cX0_pagesIn 51 = .ok (.getfield 26, 3) := dk_180 0 26 (dk_at dksX0_pagesIn_2 7 rfl rfl)
theorem dX0_pagesIn_54 : decode cX0_pagesIn 54 = .ok (.getfield 460, 3) := dk_180 1 204 (dk_at dksX0_pagesIn_2 10 rfl rfl)
theorem dX0_pagesIn_57 : decode cX0_pagesIn 57 = .ok (.iload 4, 2) := dk_21 4 (dk_at dksX0_pagesIn_2 13 rfl rfl)
theorem dX0_pagesIn_59 : decode cX0_pagesIn 59 = .ok (.invokevirtual 42, 3) := dk_182 0 42 (dk_at dksX0_pagesIn_2 15 rfl rfl)
theorem dX0_pagesIn_62 : decode cX0_pagesIn 62 = .ok (.checkcast 455, 3) := dk_192 1 199 (dk_at dksX0_pagesIn_2 18 rfl rfl)
theorem dX0_pagesIn_65 : decode cX0_pagesIn 65 = .ok (.getfield 466, 3) := dk_180 1 210 (dk_at dksX0_pagesIn_2 21 rfl rfl)
theorem dX0_pagesIn_68 : decode cX0_pagesIn 68 = .ok (.goto 4, 3) := dk_167 0 4 (dk_at dksX0_pagesIn_3 0 rfl rfl)
theorem dX0_pagesIn_71 : decode cX0_pagesIn 71 = .ok (.iconst 0, 1) := dk_3 (dk_at dksX0_pagesIn_3 3 rfl rfl)
theorem dX0_pagesIn_72 : decode cX0_pagesIn 72 = .ok (.iadd, 1) := dk_96 (dk_at dksX0_pagesIn_3 4 rfl rfl)
theorem dX0_pagesIn_73 : decode cX0_pagesIn 73 = .ok (.istore_n 3, 1) := dk_62 (dk_at dksX0_pagesIn_3 5 rfl rfl)
theorem dX0_pagesIn_74 : decode cX0_pagesIn 74 = .ok (.iinc 4 1, 3) := dk_132 4 1 (dk_at dksX0_pagesIn_3 6 rfl rfl)
theorem dX0_pagesIn_77 : decode cX0_pagesIn 77 = .ok (.goto (-72), 3) := dk_167 255 184 (dk_at dksX0_pagesIn_3 9 rfl rfl)
theorem dX0_pagesIn_80 : decode cX0_pagesIn 80 = .ok (.iload_n 3, 1) := dk_29 (dk_at dksX0_pagesIn_3 12 rfl rfl)
theorem dX0_pagesIn_81 : decode cX0_pagesIn 81 = .ok (.ireturn, 1) := dk_172 (dk_at dksX0_pagesIn_3 13 rfl rfl)
abbrev cX0_free : ByteArray := prog_1_method_71_code
def yX0_free : MethodName := ⟨RX0, "free", "(II)I"⟩
def dkwX0_free_3 : List UInt8 := [42, 180, 0, 26, 180, 1, 216, 182, 0, 36, 172]
abbrev dktX0_free_3 : List UInt8 := dkwX0_free_3 ++ []
def dkwX0_free_2 : List UInt8 := [182, 0, 119, 172, 42, 180, 0, 26, 180, 1, 216, 187, 1, 199, 89, 27, 28, 183, 1, 201, 182, 0, 150, 87]
abbrev dktX0_free_2 : List UInt8 := dkwX0_free_2 ++ dktX0_free_3
def dkwX0_free_1 : List UInt8 := [182, 0, 119, 172, 42, 180, 0, 26, 180, 1, 216, 182, 0, 36, 16, 8, 160, 0, 10, 42, 16, 252]
abbrev dktX0_free_1 : List UInt8 := dkwX0_free_1 ++ dktX0_free_2
def dkwX0_free_0 : List UInt8 := [27, 184, 0, 130, 153, 0, 16, 28, 133, 27, 133, 20, 0, 115, 184, 0, 111, 154, 0, 10, 42, 16, 253]
abbrev dktX0_free_0 : List UInt8 := dkwX0_free_0 ++ dktX0_free_1
theorem dksX0_free_0 : cX0_free.data.toList.drop 0 = dktX0_free_0 := by decide +kernel
theorem dksX0_free_1 : cX0_free.data.toList.drop 23 = dktX0_free_1 := dk_seg dksX0_free_0 23 rfl rfl
theorem dksX0_free_2 : cX0_free.data.toList.drop 45 = dktX0_free_2 := dk_seg dksX0_free_1 22 rfl rfl
theorem dksX0_free_3 : cX0_free.data.toList.drop 69 = dktX0_free_3 := dk_seg dksX0_free_2 24 rfl rfl
theorem dX0_free_0 : decode cX0_free 0 = .ok (.iload_n 1, 1) := dk_27 (dk_at dksX0_free_0 0 rfl rfl)
theorem dX0_free_1 : decode cX0_free 1 = .ok (.invokestatic 130, 3) := dk_184 0 130 (dk_at dksX0_free_0 1 rfl rfl)
theorem dX0_free_4 : decode cX0_free 4 = .ok (.ifCond .eq 16, 3) := dk_153 0 16 (dk_at dksX0_free_0 4 rfl rfl)
theorem dX0_free_7 : decode cX0_free 7 = .ok (.iload_n 2, 1) := dk_28 (dk_at dksX0_free_0 7 rfl rfl)
theorem dX0_free_8 : decode cX0_free 8 = .ok (.i2l, 1) := dk_133 (dk_at dksX0_free_0 8 rfl rfl)
theorem dX0_free_9 : decode cX0_free 9 = .ok (.iload_n 1, 1) := dk_27 (dk_at dksX0_free_0 9 rfl rfl)
theorem dX0_free_10 : decode cX0_free 10 = .ok (.i2l, 1) := dk_133 (dk_at dksX0_free_0 10 rfl rfl)
theorem dX0_free_11 : decode cX0_free 11 = .ok (.ldc2_w 115, 3) := dk_20 0 115 (dk_at dksX0_free_0 11 rfl rfl)
theorem dX0_free_14 : decode cX0_free 14 = .ok (.invokestatic 111, 3) := dk_184 0 111 (dk_at dksX0_free_0 14 rfl rfl)
theorem dX0_free_17 : decode cX0_free 17 = .ok (.ifCond .ne 10, 3) := dk_154 0 10 (dk_at dksX0_free_0 17 rfl rfl)
theorem dX0_free_20 : decode cX0_free 20 = .ok (.aload_n 0, 1) := dk_42 (dk_at dksX0_free_0 20 rfl rfl)
theorem dX0_free_21 : decode cX0_free 21 = .ok (.bipush (-3), 2) := dk_16 253 (dk_at dksX0_free_0 21 rfl rfl)
theorem dX0_free_23 : decode cX0_free 23 = .ok (.invokevirtual 119, 3) := dk_182 0 119 (dk_at dksX0_free_1 0 rfl rfl)
theorem dX0_free_26 : decode cX0_free 26 = .ok (.ireturn, 1) := dk_172 (dk_at dksX0_free_1 3 rfl rfl)
theorem dX0_free_27 : decode cX0_free 27 = .ok (.aload_n 0, 1) := dk_42 (dk_at dksX0_free_1 4 rfl rfl)
theorem dX0_free_28 : decode cX0_free 28 = .ok (.getfield 26, 3) := dk_180 0 26 (dk_at dksX0_free_1 5 rfl rfl)
theorem dX0_free_31 : decode cX0_free 31 = .ok (.getfield 472, 3) := dk_180 1 216 (dk_at dksX0_free_1 8 rfl rfl)
theorem dX0_free_34 : decode cX0_free 34 = .ok (.invokevirtual 36, 3) := dk_182 0 36 (dk_at dksX0_free_1 11 rfl rfl)
theorem dX0_free_37 : decode cX0_free 37 = .ok (.bipush 8, 2) := dk_16 8 (dk_at dksX0_free_1 14 rfl rfl)
theorem dX0_free_39 : decode cX0_free 39 = .ok (.if_icmp .ne 10, 3) := dk_160 0 10 (dk_at dksX0_free_1 16 rfl rfl)
theorem dX0_free_42 : decode cX0_free 42 = .ok (.aload_n 0, 1) := dk_42 (dk_at dksX0_free_1 19 rfl rfl)
theorem dX0_free_43 : decode cX0_free 43 = .ok (.bipush (-4), 2) := dk_16 252 (dk_at dksX0_free_1 20 rfl rfl)
theorem dX0_free_45 : decode cX0_free 45 = .ok (.invokevirtual 119, 3) := dk_182 0 119 (dk_at dksX0_free_2 0 rfl rfl)
theorem dX0_free_48 : decode cX0_free 48 = .ok (.ireturn, 1) := dk_172 (dk_at dksX0_free_2 3 rfl rfl)
theorem dX0_free_49 : decode cX0_free 49 = .ok (.aload_n 0, 1) := dk_42 (dk_at dksX0_free_2 4 rfl rfl)
theorem dX0_free_50 : decode cX0_free 50 = .ok (.getfield 26, 3) := dk_180 0 26 (dk_at dksX0_free_2 5 rfl rfl)
theorem dX0_free_53 : decode cX0_free 53 = .ok (.getfield 472, 3) := dk_180 1 216 (dk_at dksX0_free_2 8 rfl rfl)
theorem dX0_free_56 : decode cX0_free 56 = .ok (.new 455, 3) := dk_187 1 199 (dk_at dksX0_free_2 11 rfl rfl)
theorem dX0_free_59 : decode cX0_free 59 = .ok (.dup, 1) := dk_89 (dk_at dksX0_free_2 14 rfl rfl)
theorem dX0_free_60 : decode cX0_free 60 = .ok (.iload_n 1, 1) := dk_27 (dk_at dksX0_free_2 15 rfl rfl)
theorem dX0_free_61 : decode cX0_free 61 = .ok (.iload_n 2, 1) := dk_28 (dk_at dksX0_free_2 16 rfl rfl)
theorem dX0_free_62 : decode cX0_free 62 = .ok (.invokespecial 457, 3) := dk_183 1 201 (dk_at dksX0_free_2 17 rfl rfl)
theorem dX0_free_65 : decode cX0_free 65 = .ok (.invokevirtual 150, 3) := dk_182 0 150 (dk_at dksX0_free_2 20 rfl rfl)
theorem dX0_free_68 : decode cX0_free 68 = .ok (.pop, 1) := dk_87 (dk_at dksX0_free_2 23 rfl rfl)
theorem dX0_free_69 : decode cX0_free 69 = .ok (.aload_n 0, 1) := dk_42 (dk_at dksX0_free_3 0 rfl rfl)
theorem dX0_free_70 : decode cX0_free 70 = .ok (.getfield 26, 3) := dk_180 0 26 (dk_at dksX0_free_3 1 rfl rfl)
theorem dX0_free_73 : decode cX0_free 73 = .ok (.getfield 472, 3) := dk_180 1 216 (dk_at dksX0_free_3 4 rfl rfl)
theorem dX0_free_76 : decode cX0_free 76 = .ok (.invokevirtual 36, 3) := dk_182 0 36 (dk_at dksX0_free_3 7 rfl rfl)
theorem dX0_free_79 : decode cX0_free 79 = .ok (.ireturn, 1) := dk_172 (dk_at dksX0_free_3 10 rfl rfl)
abbrev cX0_rate : ByteArray := prog_1_method_73_code
def yX0_rate : MethodName := ⟨RX0, "rate", "()I"⟩
def dkwX0_rate_4 : List UInt8 := [27, 16, 99, 164, 0, 7, 2, 167, 0, 4, 27, 172]
abbrev dktX0_rate_4 : List UInt8 := dkwX0_rate_4 ++ []
def dkwX0_rate_3 : List UInt8 := [154, 0, 5, 2, 172, 27, 21, 4, 28, 96, 4, 100, 28, 108, 184, 0, 20, 60, 132, 3, 1, 167, 255, 191]
abbrev dktX0_rate_3 : List UInt8 := dkwX0_rate_3 ++ dktX0_rate_4
def dkwX0_rate_2 : List UInt8 := [61, 42, 29, 29, 182, 1, 213, 154, 0, 6, 167, 0, 30, 42, 3, 29, 182, 1, 213, 54, 4, 28]
abbrev dktX0_rate_2 : List UInt8 := dkwX0_rate_2 ++ dktX0_rate_3
def dkwX0_rate_1 : List UInt8 := [3, 62, 29, 17, 39, 16, 162, 0, 64, 28, 42, 29, 182, 1, 219, 153, 0, 7, 4, 167, 0, 4, 3, 96]
abbrev dktX0_rate_1 : List UInt8 := dkwX0_rate_1 ++ dktX0_rate_2
def dkwX0_rate_0 : List UInt8 := [42, 180, 0, 26, 180, 1, 204, 182, 1, 31, 153, 0, 10, 42, 16, 251, 182, 0, 119, 172, 4, 60, 3, 61]
abbrev dktX0_rate_0 : List UInt8 := dkwX0_rate_0 ++ dktX0_rate_1
theorem dksX0_rate_0 : cX0_rate.data.toList.drop 0 = dktX0_rate_0 := by decide +kernel
theorem dksX0_rate_1 : cX0_rate.data.toList.drop 24 = dktX0_rate_1 := dk_seg dksX0_rate_0 24 rfl rfl
theorem dksX0_rate_2 : cX0_rate.data.toList.drop 48 = dktX0_rate_2 := dk_seg dksX0_rate_1 24 rfl rfl
theorem dksX0_rate_3 : cX0_rate.data.toList.drop 70 = dktX0_rate_3 := dk_seg dksX0_rate_2 22 rfl rfl
theorem dksX0_rate_4 : cX0_rate.data.toList.drop 94 = dktX0_rate_4 := dk_seg dksX0_rate_3 24 rfl rfl
theorem dX0_rate_0 : decode cX0_rate 0 = .ok (.aload_n 0, 1) := dk_42 (dk_at dksX0_rate_0 0 rfl rfl)
theorem dX0_rate_1 : decode cX0_rate 1 = .ok (.getfield 26, 3) := dk_180 0 26 (dk_at dksX0_rate_0 1 rfl rfl)
theorem dX0_rate_4 : decode cX0_rate 4 = .ok (.getfield 460, 3) := dk_180 1 204 (dk_at dksX0_rate_0 4 rfl rfl)
theorem dX0_rate_7 : decode cX0_rate 7 = .ok (.invokevirtual 287, 3) := dk_182 1 31 (dk_at dksX0_rate_0 7 rfl rfl)
theorem dX0_rate_10 : decode cX0_rate 10 = .ok (.ifCond .eq 10, 3) := dk_153 0 10 (dk_at dksX0_rate_0 10 rfl rfl)
theorem dX0_rate_13 : decode cX0_rate 13 = .ok (.aload_n 0, 1) := dk_42 (dk_at dksX0_rate_0 13 rfl rfl)
theorem dX0_rate_14 : decode cX0_rate 14 = .ok (.bipush (-5), 2) := dk_16 251 (dk_at dksX0_rate_0 14 rfl rfl)
theorem dX0_rate_16 : decode cX0_rate 16 = .ok (.invokevirtual 119, 3) := dk_182 0 119 (dk_at dksX0_rate_0 16 rfl rfl)
theorem dX0_rate_19 : decode cX0_rate 19 = .ok (.ireturn, 1) := dk_172 (dk_at dksX0_rate_0 19 rfl rfl)
theorem dX0_rate_20 : decode cX0_rate 20 = .ok (.iconst 1, 1) := dk_4 (dk_at dksX0_rate_0 20 rfl rfl)
theorem dX0_rate_21 : decode cX0_rate 21 = .ok (.istore_n 1, 1) := dk_60 (dk_at dksX0_rate_0 21 rfl rfl)
theorem dX0_rate_22 : decode cX0_rate 22 = .ok (.iconst 0, 1) := dk_3 (dk_at dksX0_rate_0 22 rfl rfl)
theorem dX0_rate_23 : decode cX0_rate 23 = .ok (.istore_n 2, 1) := dk_61 (dk_at dksX0_rate_0 23 rfl rfl)
theorem dX0_rate_24 : decode cX0_rate 24 = .ok (.iconst 0, 1) := dk_3 (dk_at dksX0_rate_1 0 rfl rfl)
theorem dX0_rate_25 : decode cX0_rate 25 = .ok (.istore_n 3, 1) := dk_62 (dk_at dksX0_rate_1 1 rfl rfl)
theorem dX0_rate_26 : decode cX0_rate 26 = .ok (.iload_n 3, 1) := dk_29 (dk_at dksX0_rate_1 2 rfl rfl)
theorem dX0_rate_27 : decode cX0_rate 27 = .ok (.sipush 10000, 3) := dk_17 39 16 (dk_at dksX0_rate_1 3 rfl rfl)
theorem dX0_rate_30 : decode cX0_rate 30 = .ok (.if_icmp .ge 64, 3) := dk_162 0 64 (dk_at dksX0_rate_1 6 rfl rfl)
theorem dX0_rate_33 : decode cX0_rate 33 = .ok (.iload_n 2, 1) := dk_28 (dk_at dksX0_rate_1 9 rfl rfl)
theorem dX0_rate_34 : decode cX0_rate 34 = .ok (.aload_n 0, 1) := dk_42 (dk_at dksX0_rate_1 10 rfl rfl)
theorem dX0_rate_35 : decode cX0_rate 35 = .ok (.iload_n 3, 1) := dk_29 (dk_at dksX0_rate_1 11 rfl rfl)
theorem dX0_rate_36 : decode cX0_rate 36 = .ok (.invokevirtual 475, 3) := dk_182 1 219 (dk_at dksX0_rate_1 12 rfl rfl)
theorem dX0_rate_39 : decode cX0_rate 39 = .ok (.ifCond .eq 7, 3) := dk_153 0 7 (dk_at dksX0_rate_1 15 rfl rfl)
theorem dX0_rate_42 : decode cX0_rate 42 = .ok (.iconst 1, 1) := dk_4 (dk_at dksX0_rate_1 18 rfl rfl)
theorem dX0_rate_43 : decode cX0_rate 43 = .ok (.goto 4, 3) := dk_167 0 4 (dk_at dksX0_rate_1 19 rfl rfl)
theorem dX0_rate_46 : decode cX0_rate 46 = .ok (.iconst 0, 1) := dk_3 (dk_at dksX0_rate_1 22 rfl rfl)
theorem dX0_rate_47 : decode cX0_rate 47 = .ok (.iadd, 1) := dk_96 (dk_at dksX0_rate_1 23 rfl rfl)
theorem dX0_rate_48 : decode cX0_rate 48 = .ok (.istore_n 2, 1) := dk_61 (dk_at dksX0_rate_2 0 rfl rfl)
theorem dX0_rate_49 : decode cX0_rate 49 = .ok (.aload_n 0, 1) := dk_42 (dk_at dksX0_rate_2 1 rfl rfl)
theorem dX0_rate_50 : decode cX0_rate 50 = .ok (.iload_n 3, 1) := dk_29 (dk_at dksX0_rate_2 2 rfl rfl)
theorem dX0_rate_51 : decode cX0_rate 51 = .ok (.iload_n 3, 1) := dk_29 (dk_at dksX0_rate_2 3 rfl rfl)
theorem dX0_rate_52 : decode cX0_rate 52 = .ok (.invokevirtual 469, 3) := dk_182 1 213 (dk_at dksX0_rate_2 4 rfl rfl)
theorem dX0_rate_55 : decode cX0_rate 55 = .ok (.ifCond .ne 6, 3) := dk_154 0 6 (dk_at dksX0_rate_2 7 rfl rfl)
theorem dX0_rate_58 : decode cX0_rate 58 = .ok (.goto 30, 3) := dk_167 0 30 (dk_at dksX0_rate_2 10 rfl rfl)
theorem dX0_rate_61 : decode cX0_rate 61 = .ok (.aload_n 0, 1) := dk_42 (dk_at dksX0_rate_2 13 rfl rfl)
theorem dX0_rate_62 : decode cX0_rate 62 = .ok (.iconst 0, 1) := dk_3 (dk_at dksX0_rate_2 14 rfl rfl)
theorem dX0_rate_63 : decode cX0_rate 63 = .ok (.iload_n 3, 1) := dk_29 (dk_at dksX0_rate_2 15 rfl rfl)
theorem dX0_rate_64 : decode cX0_rate 64 = .ok (.invokevirtual 469, 3) := dk_182 1 213 (dk_at dksX0_rate_2 16 rfl rfl)
theorem dX0_rate_67 : decode cX0_rate 67 = .ok (.istore 4, 2) := dk_54 4 (dk_at dksX0_rate_2 19 rfl rfl)
theorem dX0_rate_69 : decode cX0_rate 69 = .ok (.iload_n 2, 1) := dk_28 (dk_at dksX0_rate_2 21 rfl rfl)
theorem dX0_rate_70 : decode cX0_rate 70 = .ok (.ifCond .ne 5, 3) := dk_154 0 5 (dk_at dksX0_rate_3 0 rfl rfl)
theorem dX0_rate_73 : decode cX0_rate 73 = .ok (.iconst (-1), 1) := dk_2 (dk_at dksX0_rate_3 3 rfl rfl)
theorem dX0_rate_74 : decode cX0_rate 74 = .ok (.ireturn, 1) := dk_172 (dk_at dksX0_rate_3 4 rfl rfl)
theorem dX0_rate_75 : decode cX0_rate 75 = .ok (.iload_n 1, 1) := dk_27 (dk_at dksX0_rate_3 5 rfl rfl)
theorem dX0_rate_76 : decode cX0_rate 76 = .ok (.iload 4, 2) := dk_21 4 (dk_at dksX0_rate_3 6 rfl rfl)
theorem dX0_rate_78 : decode cX0_rate 78 = .ok (.iload_n 2, 1) := dk_28 (dk_at dksX0_rate_3 8 rfl rfl)
theorem dX0_rate_79 : decode cX0_rate 79 = .ok (.iadd, 1) := dk_96 (dk_at dksX0_rate_3 9 rfl rfl)
theorem dX0_rate_80 : decode cX0_rate 80 = .ok (.iconst 1, 1) := dk_4 (dk_at dksX0_rate_3 10 rfl rfl)
theorem dX0_rate_81 : decode cX0_rate 81 = .ok (.isub, 1) := dk_100 (dk_at dksX0_rate_3 11 rfl rfl)
theorem dX0_rate_82 : decode cX0_rate 82 = .ok (.iload_n 2, 1) := dk_28 (dk_at dksX0_rate_3 12 rfl rfl)
theorem dX0_rate_83 : decode cX0_rate 83 = .ok (.idiv, 1) := dk_108 (dk_at dksX0_rate_3 13 rfl rfl)
theorem dX0_rate_84 : decode cX0_rate 84 = .ok (.invokestatic 20, 3) := dk_184 0 20 (dk_at dksX0_rate_3 14 rfl rfl)
theorem dX0_rate_87 : decode cX0_rate 87 = .ok (.istore_n 1, 1) := dk_60 (dk_at dksX0_rate_3 17 rfl rfl)
theorem dX0_rate_88 : decode cX0_rate 88 = .ok (.iinc 3 1, 3) := dk_132 3 1 (dk_at dksX0_rate_3 18 rfl rfl)
theorem dX0_rate_91 : decode cX0_rate 91 = .ok (.goto (-65), 3) := dk_167 255 191 (dk_at dksX0_rate_3 21 rfl rfl)
theorem dX0_rate_94 : decode cX0_rate 94 = .ok (.iload_n 1, 1) := dk_27 (dk_at dksX0_rate_4 0 rfl rfl)
theorem dX0_rate_95 : decode cX0_rate 95 = .ok (.bipush 99, 2) := dk_16 99 (dk_at dksX0_rate_4 1 rfl rfl)
theorem dX0_rate_97 : decode cX0_rate 97 = .ok (.if_icmp .le 7, 3) := dk_164 0 7 (dk_at dksX0_rate_4 3 rfl rfl)
theorem dX0_rate_100 : decode cX0_rate 100 = .ok (.iconst (-1), 1) := dk_2 (dk_at dksX0_rate_4 6 rfl rfl)
theorem dX0_rate_101 : decode cX0_rate 101 = .ok (.goto 4, 3) := dk_167 0 4 (dk_at dksX0_rate_4 7 rfl rfl)
theorem dX0_rate_104 : decode cX0_rate 104 = .ok (.iload_n 1, 1) := dk_27 (dk_at dksX0_rate_4 10 rfl rfl)
theorem dX0_rate_105 : decode cX0_rate 105 = .ok (.ireturn, 1) := dk_172 (dk_at dksX0_rate_4 11 rfl rfl)
abbrev cX0_isFree : ByteArray := prog_1_method_72_code
def yX0_isFree : MethodName := ⟨RX0, "isFree", "(I)Z"⟩
def dkwX0_isFree_3 : List UInt8 := [3, 172]
abbrev dktX0_isFree_3 : List UInt8 := dkwX0_isFree_3 ++ []
def dkwX0_isFree_2 : List UInt8 := [182, 0, 42, 192, 1, 199, 180, 1, 210, 133, 184, 0, 111, 153, 0, 5, 4, 172, 132, 2, 1, 167, 255, 193]
abbrev dktX0_isFree_2 : List UInt8 := dkwX0_isFree_2 ++ dktX0_isFree_3
def dkwX0_isFree_1 : List UInt8 := [180, 1, 216, 28, 182, 0, 42, 192, 1, 199, 180, 1, 207, 133, 42, 180, 0, 26, 180, 1, 216, 28]
abbrev dktX0_isFree_1 : List UInt8 := dkwX0_isFree_1 ++ dktX0_isFree_2
def dkwX0_isFree_0 : List UInt8 := [3, 61, 28, 42, 180, 0, 26, 180, 1, 216, 182, 0, 36, 162, 0, 55, 27, 133, 42, 180, 0, 26]
abbrev dktX0_isFree_0 : List UInt8 := dkwX0_isFree_0 ++ dktX0_isFree_1
theorem dksX0_isFree_0 : cX0_isFree.data.toList.drop 0 = dktX0_isFree_0 := by decide +kernel
theorem dksX0_isFree_1 : cX0_isFree.data.toList.drop 22 = dktX0_isFree_1 := dk_seg dksX0_isFree_0 22 rfl rfl
theorem dksX0_isFree_2 : cX0_isFree.data.toList.drop 44 = dktX0_isFree_2 := dk_seg dksX0_isFree_1 22 rfl rfl
theorem dksX0_isFree_3 : cX0_isFree.data.toList.drop 68 = dktX0_isFree_3 := dk_seg dksX0_isFree_2 24 rfl rfl
theorem dX0_isFree_0 : decode cX0_isFree 0 = .ok (.iconst 0, 1) := dk_3 (dk_at dksX0_isFree_0 0 rfl rfl)
theorem dX0_isFree_1 : decode cX0_isFree 1 = .ok (.istore_n 2, 1) := dk_61 (dk_at dksX0_isFree_0 1 rfl rfl)
theorem dX0_isFree_2 : decode cX0_isFree 2 = .ok (.iload_n 2, 1) := dk_28 (dk_at dksX0_isFree_0 2 rfl rfl)
theorem dX0_isFree_3 : decode cX0_isFree 3 = .ok (.aload_n 0, 1) := dk_42 (dk_at dksX0_isFree_0 3 rfl rfl)
theorem dX0_isFree_4 : decode cX0_isFree 4 = .ok (.getfield 26, 3) := dk_180 0 26 (dk_at dksX0_isFree_0 4 rfl rfl)
theorem dX0_isFree_7 : decode cX0_isFree 7 = .ok (.getfield 472, 3) := dk_180 1 216 (dk_at dksX0_isFree_0 7 rfl rfl)
theorem dX0_isFree_10 : decode cX0_isFree 10 = .ok (.invokevirtual 36, 3) := dk_182 0 36 (dk_at dksX0_isFree_0 10 rfl rfl)
theorem dX0_isFree_13 : decode cX0_isFree 13 = .ok (.if_icmp .ge 55, 3) := dk_162 0 55 (dk_at dksX0_isFree_0 13 rfl rfl)
theorem dX0_isFree_16 : decode cX0_isFree 16 = .ok (.iload_n 1, 1) := dk_27 (dk_at dksX0_isFree_0 16 rfl rfl)
theorem dX0_isFree_17 : decode cX0_isFree 17 = .ok (.i2l, 1) := dk_133 (dk_at dksX0_isFree_0 17 rfl rfl)
theorem dX0_isFree_18 : decode cX0_isFree 18 = .ok (.aload_n 0, 1) := dk_42 (dk_at dksX0_isFree_0 18 rfl rfl)
theorem dX0_isFree_19 : decode cX0_isFree 19 = .ok (.getfield 26, 3) := dk_180 0 26 (dk_at dksX0_isFree_0 19 rfl rfl)
theorem dX0_isFree_22 : decode cX0_isFree 22 = .ok (.getfield 472, 3) := dk_180 1 216 (dk_at dksX0_isFree_1 0 rfl rfl)
theorem dX0_isFree_25 : decode cX0_isFree 25 = .ok (.iload_n 2, 1) := dk_28 (dk_at dksX0_isFree_1 3 rfl rfl)
theorem dX0_isFree_26 : decode cX0_isFree 26 = .ok (.invokevirtual 42, 3) := dk_182 0 42 (dk_at dksX0_isFree_1 4 rfl rfl)
theorem dX0_isFree_29 : decode cX0_isFree 29 = .ok (.checkcast 455, 3) := dk_192 1 199 (dk_at dksX0_isFree_1 7 rfl rfl)
theorem dX0_isFree_32 : decode cX0_isFree 32 = .ok (.getfield 463, 3) := dk_180 1 207 (dk_at dksX0_isFree_1 10 rfl rfl)
theorem dX0_isFree_35 : decode cX0_isFree 35 = .ok (.i2l, 1) := dk_133 (dk_at dksX0_isFree_1 13 rfl rfl)
theorem dX0_isFree_36 : decode cX0_isFree 36 = .ok (.aload_n 0, 1) := dk_42 (dk_at dksX0_isFree_1 14 rfl rfl)
theorem dX0_isFree_37 : decode cX0_isFree 37 = .ok (.getfield 26, 3) := dk_180 0 26 (dk_at dksX0_isFree_1 15 rfl rfl)
theorem dX0_isFree_40 : decode cX0_isFree 40 = .ok (.getfield 472, 3) := dk_180 1 216 (dk_at dksX0_isFree_1 18 rfl rfl)
theorem dX0_isFree_43 : decode cX0_isFree 43 = .ok (.iload_n 2, 1) := dk_28 (dk_at dksX0_isFree_1 21 rfl rfl)
theorem dX0_isFree_44 : decode cX0_isFree 44 = .ok (.invokevirtual 42, 3) := dk_182 0 42 (dk_at dksX0_isFree_2 0 rfl rfl)
theorem dX0_isFree_47 : decode cX0_isFree 47 = .ok (.checkcast 455, 3) := dk_192 1 199 (dk_at dksX0_isFree_2 3 rfl rfl)
theorem dX0_isFree_50 : decode cX0_isFree 50 = .ok (.getfield 466, 3) := dk_180 1 210 (dk_at dksX0_isFree_2 6 rfl rfl)
theorem dX0_isFree_53 : decode cX0_isFree 53 = .ok (.i2l, 1) := dk_133 (dk_at dksX0_isFree_2 9 rfl rfl)
theorem dX0_isFree_54 : decode cX0_isFree 54 = .ok (.invokestatic 111, 3) := dk_184 0 111 (dk_at dksX0_isFree_2 10 rfl rfl)
theorem dX0_isFree_57 : decode cX0_isFree 57 = .ok (.ifCond .eq 5, 3) := dk_153 0 5 (dk_at dksX0_isFree_2 13 rfl rfl)
theorem dX0_isFree_60 : decode cX0_isFree 60 = .ok (.iconst 1, 1) := dk_4 (dk_at dksX0_isFree_2 16 rfl rfl)
theorem dX0_isFree_61 : decode cX0_isFree 61 = .ok (.ireturn, 1) := dk_172 (dk_at dksX0_isFree_2 17 rfl rfl)
theorem dX0_isFree_62 : decode cX0_isFree 62 = .ok (.iinc 2 1, 3) := dk_132 2 1 (dk_at dksX0_isFree_2 18 rfl rfl)
theorem dX0_isFree_65 : decode cX0_isFree 65 = .ok (.goto (-63), 3) := dk_167 255 193 (dk_at dksX0_isFree_2 21 rfl rfl)
theorem dX0_isFree_68 : decode cX0_isFree 68 = .ok (.iconst 0, 1) := dk_3 (dk_at dksX0_isFree_3 0 rfl rfl)
theorem dX0_isFree_69 : decode cX0_isFree 69 = .ok (.ireturn, 1) := dk_172 (dk_at dksX0_isFree_3 1 rfl rfl)
abbrev cX0_world : ByteArray := prog_1_method_74_code
def yX0_world : MethodName := ⟨RX0, "world", "(I)I"⟩
def dkwX0_world_4 : List UInt8 := [89, 180, 1, 222, 4, 96, 181, 1, 222, 42, 180, 0, 26, 180, 1, 222, 4, 100, 172]
abbrev dktX0_world_4 : List UInt8 := dkwX0_world_4 ++ []
def dkwX0_world_3 : List UInt8 := [16, 16, 42, 180, 0, 26, 180, 1, 222, 104, 28, 96, 3, 79, 132, 2, 1, 167, 255, 226, 42, 180, 0, 26]
abbrev dktX0_world_3 : List UInt8 := dkwX0_world_3 ++ dktX0_world_4
def dkwX0_world_2 : List UInt8 := [180, 0, 26, 180, 1, 222, 27, 79, 3, 61, 28, 16, 16, 162, 0, 30, 42, 180, 0, 26, 180, 1, 228]
abbrev dktX0_world_2 : List UInt8 := dkwX0_world_2 ++ dktX0_world_3
def dkwX0_world_1 : List UInt8 := [180, 1, 222, 16, 8, 160, 0, 10, 42, 16, 252, 182, 0, 119, 172, 42, 180, 0, 26, 180, 1, 225, 42]
abbrev dktX0_world_1 : List UInt8 := dkwX0_world_1 ++ dktX0_world_2
def dkwX0_world_0 : List UInt8 := [27, 133, 10, 20, 1, 202, 184, 0, 111, 154, 0, 10, 42, 16, 253, 182, 0, 119, 172, 42, 180, 0, 26]
abbrev dktX0_world_0 : List UInt8 := dkwX0_world_0 ++ dktX0_world_1
theorem dksX0_world_0 : cX0_world.data.toList.drop 0 = dktX0_world_0 := by decide +kernel
theorem dksX0_world_1 : cX0_world.data.toList.drop 23 = dktX0_world_1 := dk_seg dksX0_world_0 23 rfl rfl
theorem dksX0_world_2 : cX0_world.data.toList.drop 46 = dktX0_world_2 := dk_seg dksX0_world_1 23 rfl rfl
theorem dksX0_world_3 : cX0_world.data.toList.drop 69 = dktX0_world_3 := dk_seg dksX0_world_2 23 rfl rfl
theorem dksX0_world_4 : cX0_world.data.toList.drop 93 = dktX0_world_4 := dk_seg dksX0_world_3 24 rfl rfl
theorem dX0_world_0 : decode cX0_world 0 = .ok (.iload_n 1, 1) := dk_27 (dk_at dksX0_world_0 0 rfl rfl)
theorem dX0_world_1 : decode cX0_world 1 = .ok (.i2l, 1) := dk_133 (dk_at dksX0_world_0 1 rfl rfl)
theorem dX0_world_2 : decode cX0_world 2 = .ok (.lconst 1, 1) := dk_10 (dk_at dksX0_world_0 2 rfl rfl)
theorem dX0_world_3 : decode cX0_world 3 = .ok (.ldc2_w 458, 3) := dk_20 1 202 (dk_at dksX0_world_0 3 rfl rfl)
theorem dX0_world_6 : decode cX0_world 6 = .ok (.invokestatic 111, 3) := dk_184 0 111 (dk_at dksX0_world_0 6 rfl rfl)
theorem dX0_world_9 : decode cX0_world 9 = .ok (.ifCond .ne 10, 3) := dk_154 0 10 (dk_at dksX0_world_0 9 rfl rfl)
theorem dX0_world_12 : decode cX0_world 12 = .ok (.aload_n 0, 1) := dk_42 (dk_at dksX0_world_0 12 rfl rfl)
theorem dX0_world_13 : decode cX0_world 13 = .ok (.bipush (-3), 2) := dk_16 253 (dk_at dksX0_world_0 13 rfl rfl)
theorem dX0_world_15 : decode cX0_world 15 = .ok (.invokevirtual 119, 3) := dk_182 0 119 (dk_at dksX0_world_0 15 rfl rfl)
theorem dX0_world_18 : decode cX0_world 18 = .ok (.ireturn, 1) := dk_172 (dk_at dksX0_world_0 18 rfl rfl)
theorem dX0_world_19 : decode cX0_world 19 = .ok (.aload_n 0, 1) := dk_42 (dk_at dksX0_world_0 19 rfl rfl)
theorem dX0_world_20 : decode cX0_world 20 = .ok (.getfield 26, 3) := dk_180 0 26 (dk_at dksX0_world_0 20 rfl rfl)
theorem dX0_world_23 : decode cX0_world 23 = .ok (.getfield 478, 3) := dk_180 1 222 (dk_at dksX0_world_1 0 rfl rfl)
theorem dX0_world_26 : decode cX0_world 26 = .ok (.bipush 8, 2) := dk_16 8 (dk_at dksX0_world_1 3 rfl rfl)
theorem dX0_world_28 : decode cX0_world 28 = .ok (.if_icmp .ne 10, 3) := dk_160 0 10 (dk_at dksX0_world_1 5 rfl rfl)
theorem dX0_world_31 : decode cX0_world 31 = .ok (.aload_n 0, 1) := dk_42 (dk_at dksX0_world_1 8 rfl rfl)
theorem dX0_world_32 : decode cX0_world 32 = .ok (.bipush (-4), 2) := dk_16 252 (dk_at dksX0_world_1 9 rfl rfl)
theorem dX0_world_34 : decode cX0_world 34 = .ok (.invokevirtual 119, 3) := dk_182 0 119 (dk_at dksX0_world_1 11 rfl rfl)
theorem dX0_world_37 : decode cX0_world 37 = .ok (.ireturn, 1) := dk_172 (dk_at dksX0_world_1 14 rfl rfl)
theorem dX0_world_38 : decode cX0_world 38 = .ok (.aload_n 0, 1) := dk_42 (dk_at dksX0_world_1 15 rfl rfl)
theorem dX0_world_39 : decode cX0_world 39 = .ok (.getfield 26, 3) := dk_180 0 26 (dk_at dksX0_world_1 16 rfl rfl)
theorem dX0_world_42 : decode cX0_world 42 = .ok (.getfield 481, 3) := dk_180 1 225 (dk_at dksX0_world_1 19 rfl rfl)
theorem dX0_world_45 : decode cX0_world 45 = .ok (.aload_n 0, 1) := dk_42 (dk_at dksX0_world_1 22 rfl rfl)
theorem dX0_world_46 : decode cX0_world 46 = .ok (.getfield 26, 3) := dk_180 0 26 (dk_at dksX0_world_2 0 rfl rfl)
theorem dX0_world_49 : decode cX0_world 49 = .ok (.getfield 478, 3) := dk_180 1 222 (dk_at dksX0_world_2 3 rfl rfl)
theorem dX0_world_52 : decode cX0_world 52 = .ok (.iload_n 1, 1) := dk_27 (dk_at dksX0_world_2 6 rfl rfl)
theorem dX0_world_53 : decode cX0_world 53 = .ok (.iastore, 1) := dk_79 (dk_at dksX0_world_2 7 rfl rfl)
theorem dX0_world_54 : decode cX0_world 54 = .ok (.iconst 0, 1) := dk_3 (dk_at dksX0_world_2 8 rfl rfl)
theorem dX0_world_55 : decode cX0_world 55 = .ok (.istore_n 2, 1) := dk_61 (dk_at dksX0_world_2 9 rfl rfl)
theorem dX0_world_56 : decode cX0_world 56 = .ok (.iload_n 2, 1) := dk_28 (dk_at dksX0_world_2 10 rfl rfl)
theorem dX0_world_57 : decode cX0_world 57 = .ok (.bipush 16, 2) := dk_16 16 (dk_at dksX0_world_2 11 rfl rfl)
theorem dX0_world_59 : decode cX0_world 59 = .ok (.if_icmp .ge 30, 3) := dk_162 0 30 (dk_at dksX0_world_2 13 rfl rfl)
theorem dX0_world_62 : decode cX0_world 62 = .ok (.aload_n 0, 1) := dk_42 (dk_at dksX0_world_2 16 rfl rfl)
theorem dX0_world_63 : decode cX0_world 63 = .ok (.getfield 26, 3) := dk_180 0 26 (dk_at dksX0_world_2 17 rfl rfl)
theorem dX0_world_66 : decode cX0_world 66 = .ok (.getfield 484, 3) := dk_180 1 228 (dk_at dksX0_world_2 20 rfl rfl)
theorem dX0_world_69 : decode cX0_world 69 = .ok (.bipush 16, 2) := dk_16 16 (dk_at dksX0_world_3 0 rfl rfl)
theorem dX0_world_71 : decode cX0_world 71 = .ok (.aload_n 0, 1) := dk_42 (dk_at dksX0_world_3 2 rfl rfl)
theorem dX0_world_72 : decode cX0_world 72 = .ok (.getfield 26, 3) := dk_180 0 26 (dk_at dksX0_world_3 3 rfl rfl)
theorem dX0_world_75 : decode cX0_world 75 = .ok (.getfield 478, 3) := dk_180 1 222 (dk_at dksX0_world_3 6 rfl rfl)
theorem dX0_world_78 : decode cX0_world 78 = .ok (.imul, 1) := dk_104 (dk_at dksX0_world_3 9 rfl rfl)
theorem dX0_world_79 : decode cX0_world 79 = .ok (.iload_n 2, 1) := dk_28 (dk_at dksX0_world_3 10 rfl rfl)
theorem dX0_world_80 : decode cX0_world 80 = .ok (.iadd, 1) := dk_96 (dk_at dksX0_world_3 11 rfl rfl)
theorem dX0_world_81 : decode cX0_world 81 = .ok (.iconst 0, 1) := dk_3 (dk_at dksX0_world_3 12 rfl rfl)
theorem dX0_world_82 : decode cX0_world 82 = .ok (.iastore, 1) := dk_79 (dk_at dksX0_world_3 13 rfl rfl)
theorem dX0_world_83 : decode cX0_world 83 = .ok (.iinc 2 1, 3) := dk_132 2 1 (dk_at dksX0_world_3 14 rfl rfl)
theorem dX0_world_86 : decode cX0_world 86 = .ok (.goto (-30), 3) := dk_167 255 226 (dk_at dksX0_world_3 17 rfl rfl)
theorem dX0_world_89 : decode cX0_world 89 = .ok (.aload_n 0, 1) := dk_42 (dk_at dksX0_world_3 20 rfl rfl)
theorem dX0_world_90 : decode cX0_world 90 = .ok (.getfield 26, 3) := dk_180 0 26 (dk_at dksX0_world_3 21 rfl rfl)
theorem dX0_world_93 : decode cX0_world 93 = .ok (.dup, 1) := dk_89 (dk_at dksX0_world_4 0 rfl rfl)
theorem dX0_world_94 : decode cX0_world 94 = .ok (.getfield 478, 3) := dk_180 1 222 (dk_at dksX0_world_4 1 rfl rfl)
theorem dX0_world_97 : decode cX0_world 97 = .ok (.iconst 1, 1) := dk_4 (dk_at dksX0_world_4 4 rfl rfl)
theorem dX0_world_98 : decode cX0_world 98 = .ok (.iadd, 1) := dk_96 (dk_at dksX0_world_4 5 rfl rfl)
theorem dX0_world_99 : decode cX0_world 99 = .ok (.putfield 478, 3) := dk_181 1 222 (dk_at dksX0_world_4 6 rfl rfl)
theorem dX0_world_102 : decode cX0_world 102 = .ok (.aload_n 0, 1) := dk_42 (dk_at dksX0_world_4 9 rfl rfl)
theorem dX0_world_103 : decode cX0_world 103 = .ok (.getfield 26, 3) := dk_180 0 26 (dk_at dksX0_world_4 10 rfl rfl)
theorem dX0_world_106 : decode cX0_world 106 = .ok (.getfield 478, 3) := dk_180 1 222 (dk_at dksX0_world_4 13 rfl rfl)
theorem dX0_world_109 : decode cX0_world 109 = .ok (.iconst 1, 1) := dk_4 (dk_at dksX0_world_4 16 rfl rfl)
theorem dX0_world_110 : decode cX0_world 110 = .ok (.isub, 1) := dk_100 (dk_at dksX0_world_4 17 rfl rfl)
theorem dX0_world_111 : decode cX0_world 111 = .ok (.ireturn, 1) := dk_172 (dk_at dksX0_world_4 18 rfl rfl)
abbrev cX0_says : ByteArray := prog_1_method_75_code
def yX0_says : MethodName := ⟨RX0, "says", "(III)I"⟩
def dkwX0_says_3 : List UInt8 := [180, 0, 26, 180, 1, 228, 16, 16, 27, 104, 28, 96, 29, 79, 21, 4, 172]
abbrev dktX0_says_3 : List UInt8 := dkwX0_says_3 ++ []
def dkwX0_says_2 : List UInt8 := [16, 253, 182, 0, 119, 172, 42, 180, 0, 26, 180, 1, 228, 16, 16, 27, 104, 28, 96, 46, 54, 4, 42]
abbrev dktX0_says_2 : List UInt8 := dkwX0_says_2 ++ dktX0_says_3
def dkwX0_says_1 : List UInt8 := [154, 0, 10, 42, 16, 254, 182, 0, 119, 172, 29, 133, 9, 20, 1, 189, 184, 0, 111, 154, 0, 10, 42]
abbrev dktX0_says_1 : List UInt8 := dkwX0_says_1 ++ dktX0_says_2
def dkwX0_says_0 : List UInt8 := [27, 133, 9, 42, 180, 0, 26, 180, 1, 222, 4, 100, 133, 184, 0, 111, 153, 0, 10, 28, 184, 0, 127]
abbrev dktX0_says_0 : List UInt8 := dkwX0_says_0 ++ dktX0_says_1
theorem dksX0_says_0 : cX0_says.data.toList.drop 0 = dktX0_says_0 := by decide +kernel
theorem dksX0_says_1 : cX0_says.data.toList.drop 23 = dktX0_says_1 := dk_seg dksX0_says_0 23 rfl rfl
theorem dksX0_says_2 : cX0_says.data.toList.drop 46 = dktX0_says_2 := dk_seg dksX0_says_1 23 rfl rfl
theorem dksX0_says_3 : cX0_says.data.toList.drop 69 = dktX0_says_3 := dk_seg dksX0_says_2 23 rfl rfl
theorem dX0_says_0 : decode cX0_says 0 = .ok (.iload_n 1, 1) := dk_27 (dk_at dksX0_says_0 0 rfl rfl)
theorem dX0_says_1 : decode cX0_says 1 = .ok (.i2l, 1) := dk_133 (dk_at dksX0_says_0 1 rfl rfl)
theorem dX0_says_2 : decode cX0_says 2 = .ok (.lconst 0, 1) := dk_9 (dk_at dksX0_says_0 2 rfl rfl)
theorem dX0_says_3 : decode cX0_says 3 = .ok (.aload_n 0, 1) := dk_42 (dk_at dksX0_says_0 3 rfl rfl)
theorem dX0_says_4 : decode cX0_says 4 = .ok (.getfield 26, 3) := dk_180 0 26 (dk_at dksX0_says_0 4 rfl rfl)
theorem dX0_says_7 : decode cX0_says 7 = .ok (.getfield 478, 3) := dk_180 1 222 (dk_at dksX0_says_0 7 rfl rfl)
theorem dX0_says_10 : decode cX0_says 10 = .ok (.iconst 1, 1) := dk_4 (dk_at dksX0_says_0 10 rfl rfl)
theorem dX0_says_11 : decode cX0_says 11 = .ok (.isub, 1) := dk_100 (dk_at dksX0_says_0 11 rfl rfl)
theorem dX0_says_12 : decode cX0_says 12 = .ok (.i2l, 1) := dk_133 (dk_at dksX0_says_0 12 rfl rfl)
theorem dX0_says_13 : decode cX0_says 13 = .ok (.invokestatic 111, 3) := dk_184 0 111 (dk_at dksX0_says_0 13 rfl rfl)
theorem dX0_says_16 : decode cX0_says 16 = .ok (.ifCond .eq 10, 3) := dk_153 0 10 (dk_at dksX0_says_0 16 rfl rfl)
theorem dX0_says_19 : decode cX0_says 19 = .ok (.iload_n 2, 1) := dk_28 (dk_at dksX0_says_0 19 rfl rfl)
theorem dX0_says_20 : decode cX0_says 20 = .ok (.invokestatic 127, 3) := dk_184 0 127 (dk_at dksX0_says_0 20 rfl rfl)
theorem dX0_says_23 : decode cX0_says 23 = .ok (.ifCond .ne 10, 3) := dk_154 0 10 (dk_at dksX0_says_1 0 rfl rfl)
theorem dX0_says_26 : decode cX0_says 26 = .ok (.aload_n 0, 1) := dk_42 (dk_at dksX0_says_1 3 rfl rfl)
theorem dX0_says_27 : decode cX0_says 27 = .ok (.bipush (-2), 2) := dk_16 254 (dk_at dksX0_says_1 4 rfl rfl)
theorem dX0_says_29 : decode cX0_says 29 = .ok (.invokevirtual 119, 3) := dk_182 0 119 (dk_at dksX0_says_1 6 rfl rfl)
theorem dX0_says_32 : decode cX0_says 32 = .ok (.ireturn, 1) := dk_172 (dk_at dksX0_says_1 9 rfl rfl)
theorem dX0_says_33 : decode cX0_says 33 = .ok (.iload_n 3, 1) := dk_29 (dk_at dksX0_says_1 10 rfl rfl)
theorem dX0_says_34 : decode cX0_says 34 = .ok (.i2l, 1) := dk_133 (dk_at dksX0_says_1 11 rfl rfl)
theorem dX0_says_35 : decode cX0_says 35 = .ok (.lconst 0, 1) := dk_9 (dk_at dksX0_says_1 12 rfl rfl)
theorem dX0_says_36 : decode cX0_says 36 = .ok (.ldc2_w 445, 3) := dk_20 1 189 (dk_at dksX0_says_1 13 rfl rfl)
theorem dX0_says_39 : decode cX0_says 39 = .ok (.invokestatic 111, 3) := dk_184 0 111 (dk_at dksX0_says_1 16 rfl rfl)
theorem dX0_says_42 : decode cX0_says 42 = .ok (.ifCond .ne 10, 3) := dk_154 0 10 (dk_at dksX0_says_1 19 rfl rfl)
theorem dX0_says_45 : decode cX0_says 45 = .ok (.aload_n 0, 1) := dk_42 (dk_at dksX0_says_1 22 rfl rfl)
theorem dX0_says_46 : decode cX0_says 46 = .ok (.bipush (-3), 2) := dk_16 253 (dk_at dksX0_says_2 0 rfl rfl)
theorem dX0_says_48 : decode cX0_says 48 = .ok (.invokevirtual 119, 3) := dk_182 0 119 (dk_at dksX0_says_2 2 rfl rfl)
theorem dX0_says_51 : decode cX0_says 51 = .ok (.ireturn, 1) := dk_172 (dk_at dksX0_says_2 5 rfl rfl)
theorem dX0_says_52 : decode cX0_says 52 = .ok (.aload_n 0, 1) := dk_42 (dk_at dksX0_says_2 6 rfl rfl)
theorem dX0_says_53 : decode cX0_says 53 = .ok (.getfield 26, 3) := dk_180 0 26 (dk_at dksX0_says_2 7 rfl rfl)
theorem dX0_says_56 : decode cX0_says 56 = .ok (.getfield 484, 3) := dk_180 1 228 (dk_at dksX0_says_2 10 rfl rfl)
theorem dX0_says_59 : decode cX0_says 59 = .ok (.bipush 16, 2) := dk_16 16 (dk_at dksX0_says_2 13 rfl rfl)
theorem dX0_says_61 : decode cX0_says 61 = .ok (.iload_n 1, 1) := dk_27 (dk_at dksX0_says_2 15 rfl rfl)
theorem dX0_says_62 : decode cX0_says 62 = .ok (.imul, 1) := dk_104 (dk_at dksX0_says_2 16 rfl rfl)
theorem dX0_says_63 : decode cX0_says 63 = .ok (.iload_n 2, 1) := dk_28 (dk_at dksX0_says_2 17 rfl rfl)
theorem dX0_says_64 : decode cX0_says 64 = .ok (.iadd, 1) := dk_96 (dk_at dksX0_says_2 18 rfl rfl)
theorem dX0_says_65 : decode cX0_says 65 = .ok (.iaload, 1) := dk_46 (dk_at dksX0_says_2 19 rfl rfl)
theorem dX0_says_66 : decode cX0_says 66 = .ok (.istore 4, 2) := dk_54 4 (dk_at dksX0_says_2 20 rfl rfl)
theorem dX0_says_68 : decode cX0_says 68 = .ok (.aload_n 0, 1) := dk_42 (dk_at dksX0_says_2 22 rfl rfl)
theorem dX0_says_69 : decode cX0_says 69 = .ok (.getfield 26, 3) := dk_180 0 26 (dk_at dksX0_says_3 0 rfl rfl)
theorem dX0_says_72 : decode cX0_says 72 = .ok (.getfield 484, 3) := dk_180 1 228 (dk_at dksX0_says_3 3 rfl rfl)
theorem dX0_says_75 : decode cX0_says 75 = .ok (.bipush 16, 2) := dk_16 16 (dk_at dksX0_says_3 6 rfl rfl)
theorem dX0_says_77 : decode cX0_says 77 = .ok (.iload_n 1, 1) := dk_27 (dk_at dksX0_says_3 8 rfl rfl)
theorem dX0_says_78 : decode cX0_says 78 = .ok (.imul, 1) := dk_104 (dk_at dksX0_says_3 9 rfl rfl)
theorem dX0_says_79 : decode cX0_says 79 = .ok (.iload_n 2, 1) := dk_28 (dk_at dksX0_says_3 10 rfl rfl)
theorem dX0_says_80 : decode cX0_says 80 = .ok (.iadd, 1) := dk_96 (dk_at dksX0_says_3 11 rfl rfl)
theorem dX0_says_81 : decode cX0_says 81 = .ok (.iload_n 3, 1) := dk_29 (dk_at dksX0_says_3 12 rfl rfl)
theorem dX0_says_82 : decode cX0_says 82 = .ok (.iastore, 1) := dk_79 (dk_at dksX0_says_3 13 rfl rfl)
theorem dX0_says_83 : decode cX0_says 83 = .ok (.iload 4, 2) := dk_21 4 (dk_at dksX0_says_3 14 rfl rfl)
theorem dX0_says_85 : decode cX0_says 85 = .ok (.ireturn, 1) := dk_172 (dk_at dksX0_says_3 16 rfl rfl)
abbrev cX0_ask : ByteArray := prog_1_method_78_code
def yX0_ask : MethodName := ⟨RX0, "ask", "(II)I"⟩
def dkwX0_ask_3 : List UInt8 := [46, 167, 0, 9, 42, 180, 0, 99, 27, 46, 172]
abbrev dktX0_ask_3 : List UInt8 := dkwX0_ask_3 ++ []
def dkwX0_ask_2 : List UInt8 := [126, 154, 0, 8, 42, 29, 182, 1, 235, 132, 3, 1, 167, 255, 235, 28, 154, 0, 12, 42, 180, 0, 96, 27]
abbrev dktX0_ask_2 : List UInt8 := dkwX0_ask_2 ++ dktX0_ask_3
def dkwX0_ask_1 : List UInt8 := [184, 0, 111, 154, 0, 10, 42, 16, 254, 182, 0, 119, 172, 3, 62, 29, 27, 163, 0, 22, 29, 27, 2, 130]
abbrev dktX0_ask_1 : List UInt8 := dkwX0_ask_1 ++ dktX0_ask_2
def dkwX0_ask_0 : List UInt8 := [28, 184, 1, 120, 153, 0, 24, 27, 133, 9, 4, 42, 180, 0, 26, 180, 1, 222, 120, 4, 100, 133]
abbrev dktX0_ask_0 : List UInt8 := dkwX0_ask_0 ++ dktX0_ask_1
theorem dksX0_ask_0 : cX0_ask.data.toList.drop 0 = dktX0_ask_0 := by decide +kernel
theorem dksX0_ask_1 : cX0_ask.data.toList.drop 22 = dktX0_ask_1 := dk_seg dksX0_ask_0 22 rfl rfl
theorem dksX0_ask_2 : cX0_ask.data.toList.drop 46 = dktX0_ask_2 := dk_seg dksX0_ask_1 24 rfl rfl
theorem dksX0_ask_3 : cX0_ask.data.toList.drop 70 = dktX0_ask_3 := dk_seg dksX0_ask_2 24 rfl rfl
theorem dX0_ask_0 : decode cX0_ask 0 = .ok (.iload_n 2, 1) := dk_28 (dk_at dksX0_ask_0 0 rfl rfl)
theorem dX0_ask_1 : decode cX0_ask 1 = .ok (.invokestatic 376, 3) := dk_184 1 120 (dk_at dksX0_ask_0 1 rfl rfl)
theorem dX0_ask_4 : decode cX0_ask 4 = .ok (.ifCond .eq 24, 3) := dk_153 0 24 (dk_at dksX0_ask_0 4 rfl rfl)
theorem dX0_ask_7 : decode cX0_ask 7 = .ok (.iload_n 1, 1) := dk_27 (dk_at dksX0_ask_0 7 rfl rfl)
theorem dX0_ask_8 : decode cX0_ask 8 = .ok (.i2l, 1) := dk_133 (dk_at dksX0_ask_0 8 rfl rfl)
theorem dX0_ask_9 : decode cX0_ask 9 = .ok (.lconst 0, 1) := dk_9 (dk_at dksX0_ask_0 9 rfl rfl)
theorem dX0_ask_10 : decode cX0_ask 10 = .ok (.iconst 1, 1) := dk_4 (dk_at dksX0_ask_0 10 rfl rfl)
theorem dX0_ask_11 : decode cX0_ask 11 = .ok (.aload_n 0, 1) := dk_42 (dk_at dksX0_ask_0 11 rfl rfl)
theorem dX0_ask_12 : decode cX0_ask 12 = .ok (.getfield 26, 3) := dk_180 0 26 (dk_at dksX0_ask_0 12 rfl rfl)
theorem dX0_ask_15 : decode cX0_ask 15 = .ok (.getfield 478, 3) := dk_180 1 222 (dk_at dksX0_ask_0 15 rfl rfl)
theorem dX0_ask_18 : decode cX0_ask 18 = .ok (.ishl, 1) := dk_120 (dk_at dksX0_ask_0 18 rfl rfl)
theorem dX0_ask_19 : decode cX0_ask 19 = .ok (.iconst 1, 1) := dk_4 (dk_at dksX0_ask_0 19 rfl rfl)
theorem dX0_ask_20 : decode cX0_ask 20 = .ok (.isub, 1) := dk_100 (dk_at dksX0_ask_0 20 rfl rfl)
theorem dX0_ask_21 : decode cX0_ask 21 = .ok (.i2l, 1) := dk_133 (dk_at dksX0_ask_0 21 rfl rfl)
theorem dX0_ask_22 : decode cX0_ask 22 = .ok (.invokestatic 111, 3) := dk_184 0 111 (dk_at dksX0_ask_1 0 rfl rfl)
theorem dX0_ask_25 : decode cX0_ask 25 = .ok (.ifCond .ne 10, 3) := dk_154 0 10 (dk_at dksX0_ask_1 3 rfl rfl)
theorem dX0_ask_28 : decode cX0_ask 28 = .ok (.aload_n 0, 1) := dk_42 (dk_at dksX0_ask_1 6 rfl rfl)
theorem dX0_ask_29 : decode cX0_ask 29 = .ok (.bipush (-2), 2) := dk_16 254 (dk_at dksX0_ask_1 7 rfl rfl)
theorem dX0_ask_31 : decode cX0_ask 31 = .ok (.invokevirtual 119, 3) := dk_182 0 119 (dk_at dksX0_ask_1 9 rfl rfl)
theorem dX0_ask_34 : decode cX0_ask 34 = .ok (.ireturn, 1) := dk_172 (dk_at dksX0_ask_1 12 rfl rfl)
theorem dX0_ask_35 : decode cX0_ask 35 = .ok (.iconst 0, 1) := dk_3 (dk_at dksX0_ask_1 13 rfl rfl)
theorem dX0_ask_36 : decode cX0_ask 36 = .ok (.istore_n 3, 1) := dk_62 (dk_at dksX0_ask_1 14 rfl rfl)
theorem dX0_ask_37 : decode cX0_ask 37 = .ok (.iload_n 3, 1) := dk_29 (dk_at dksX0_ask_1 15 rfl rfl)
theorem dX0_ask_38 : decode cX0_ask 38 = .ok (.iload_n 1, 1) := dk_27 (dk_at dksX0_ask_1 16 rfl rfl)
theorem dX0_ask_39 : decode cX0_ask 39 = .ok (.if_icmp .gt 22, 3) := dk_163 0 22 (dk_at dksX0_ask_1 17 rfl rfl)
theorem dX0_ask_42 : decode cX0_ask 42 = .ok (.iload_n 3, 1) := dk_29 (dk_at dksX0_ask_1 20 rfl rfl)
theorem dX0_ask_43 : decode cX0_ask 43 = .ok (.iload_n 1, 1) := dk_27 (dk_at dksX0_ask_1 21 rfl rfl)
theorem dX0_ask_44 : decode cX0_ask 44 = .ok (.iconst (-1), 1) := dk_2 (dk_at dksX0_ask_1 22 rfl rfl)
theorem dX0_ask_45 : decode cX0_ask 45 = .ok (.ixor, 1) := dk_130 (dk_at dksX0_ask_1 23 rfl rfl)
theorem dX0_ask_46 : decode cX0_ask 46 = .ok (.iand, 1) := dk_126 (dk_at dksX0_ask_2 0 rfl rfl)
theorem dX0_ask_47 : decode cX0_ask 47 = .ok (.ifCond .ne 8, 3) := dk_154 0 8 (dk_at dksX0_ask_2 1 rfl rfl)
theorem dX0_ask_50 : decode cX0_ask 50 = .ok (.aload_n 0, 1) := dk_42 (dk_at dksX0_ask_2 4 rfl rfl)
theorem dX0_ask_51 : decode cX0_ask 51 = .ok (.iload_n 3, 1) := dk_29 (dk_at dksX0_ask_2 5 rfl rfl)
theorem dX0_ask_52 : decode cX0_ask 52 = .ok (.invokevirtual 491, 3) := dk_182 1 235 (dk_at dksX0_ask_2 6 rfl rfl)
theorem dX0_ask_55 : decode cX0_ask 55 = .ok (.iinc 3 1, 3) := dk_132 3 1 (dk_at dksX0_ask_2 9 rfl rfl)
theorem dX0_ask_58 : decode cX0_ask 58 = .ok (.goto (-21), 3) := dk_167 255 235 (dk_at dksX0_ask_2 12 rfl rfl)
theorem dX0_ask_61 : decode cX0_ask 61 = .ok (.iload_n 2, 1) := dk_28 (dk_at dksX0_ask_2 15 rfl rfl)
theorem dX0_ask_62 : decode cX0_ask 62 = .ok (.ifCond .ne 12, 3) := dk_154 0 12 (dk_at dksX0_ask_2 16 rfl rfl)
theorem dX0_ask_65 : decode cX0_ask 65 = .ok (.aload_n 0, 1) := dk_42 (dk_at dksX0_ask_2 19 rfl rfl)
theorem dX0_ask_66 : decode cX0_ask 66 = .ok (.getfield 96, 3) := dk_180 0 96 (dk_at dksX0_ask_2 20 rfl rfl)
theorem dX0_ask_69 : decode cX0_ask 69 = .ok (.iload_n 1, 1) := dk_27 (dk_at dksX0_ask_2 23 rfl rfl)
theorem dX0_ask_70 : decode cX0_ask 70 = .ok (.iaload, 1) := dk_46 (dk_at dksX0_ask_3 0 rfl rfl)
theorem dX0_ask_71 : decode cX0_ask 71 = .ok (.goto 9, 3) := dk_167 0 9 (dk_at dksX0_ask_3 1 rfl rfl)
theorem dX0_ask_74 : decode cX0_ask 74 = .ok (.aload_n 0, 1) := dk_42 (dk_at dksX0_ask_3 4 rfl rfl)
theorem dX0_ask_75 : decode cX0_ask 75 = .ok (.getfield 99, 3) := dk_180 0 99 (dk_at dksX0_ask_3 5 rfl rfl)
theorem dX0_ask_78 : decode cX0_ask 78 = .ok (.iload_n 1, 1) := dk_27 (dk_at dksX0_ask_3 8 rfl rfl)
theorem dX0_ask_79 : decode cX0_ask 79 = .ok (.iaload, 1) := dk_46 (dk_at dksX0_ask_3 9 rfl rfl)
theorem dX0_ask_80 : decode cX0_ask 80 = .ok (.ireturn, 1) := dk_172 (dk_at dksX0_ask_3 10 rfl rfl)
abbrev cX0_layCost : ByteArray := prog_1_method_77_code
def yX0_layCost : MethodName := ⟨RX0, "layCost", "(I)V"⟩
def dkwX0_layCost_8 : List UInt8 := [167, 255, 133, 177]
abbrev dktX0_layCost_8 : List UInt8 := dkwX0_layCost_8 ++ []
def dkwX0_layCost_7 : List UInt8 := [161, 0, 6, 167, 0, 18, 42, 180, 0, 96, 27, 21, 4, 79, 42, 180, 0, 99, 27, 29, 79, 132, 3, 1]
abbrev dktX0_layCost_7 : List UInt8 := dkwX0_layCost_7 ++ dktX0_layCost_8
def dkwX0_layCost_6 : List UInt8 := [21, 5, 153, 0, 42, 42, 180, 0, 99, 27, 46, 2, 159, 0, 17, 21, 4, 42, 180, 0, 96, 27, 46]
abbrev dktX0_layCost_6 : List UInt8 := dkwX0_layCost_6 ++ dktX0_layCost_7
def dkwX0_layCost_5 : List UInt8 := [153, 0, 13, 42, 180, 0, 96, 21, 7, 46, 167, 0, 4, 3, 96, 54, 4, 132, 6, 1, 167, 255, 198]
abbrev dktX0_layCost_5 : List UInt8 := dkwX0_layCost_5 ++ dktX0_layCost_6
def dkwX0_layCost_4 : List UInt8 := [21, 5, 153, 0, 13, 21, 7, 27, 159, 0, 7, 4, 167, 0, 4, 3, 54, 5, 21, 4, 21, 5]
abbrev dktX0_layCost_4 : List UInt8 := dkwX0_layCost_4 ++ dktX0_layCost_5
def dkwX0_layCost_3 : List UInt8 := [54, 4, 4, 54, 5, 3, 54, 6, 21, 6, 7, 162, 0, 58, 42, 27, 29, 21, 6, 182, 1, 231, 54, 7]
abbrev dktX0_layCost_3 : List UInt8 := dkwX0_layCost_3 ++ dktX0_layCost_4
def dkwX0_layCost_2 : List UInt8 := [42, 180, 0, 96, 27, 3, 79, 42, 180, 0, 99, 27, 2, 79, 3, 62, 29, 16, 16, 162, 0, 123, 28]
abbrev dktX0_layCost_2 : List UInt8 := dkwX0_layCost_2 ++ dktX0_layCost_3
def dkwX0_layCost_1 : List UInt8 := [160, 0, 15, 42, 180, 0, 26, 180, 1, 225, 29, 46, 167, 0, 4, 3, 96, 61, 132, 3, 1, 167, 255, 217]
abbrev dktX0_layCost_1 : List UInt8 := dkwX0_layCost_1 ++ dktX0_layCost_2
def dkwX0_layCost_0 : List UInt8 := [3, 61, 3, 62, 29, 42, 180, 0, 26, 180, 1, 222, 162, 0, 34, 28, 27, 29, 122, 4, 126, 4]
abbrev dktX0_layCost_0 : List UInt8 := dkwX0_layCost_0 ++ dktX0_layCost_1
theorem dksX0_layCost_0 : cX0_layCost.data.toList.drop 0 = dktX0_layCost_0 := by decide +kernel
theorem dksX0_layCost_1 : cX0_layCost.data.toList.drop 22 = dktX0_layCost_1 := dk_seg dksX0_layCost_0 22 rfl rfl
theorem dksX0_layCost_2 : cX0_layCost.data.toList.drop 46 = dktX0_layCost_2 := dk_seg dksX0_layCost_1 24 rfl rfl
theorem dksX0_layCost_3 : cX0_layCost.data.toList.drop 69 = dktX0_layCost_3 := dk_seg dksX0_layCost_2 23 rfl rfl
theorem dksX0_layCost_4 : cX0_layCost.data.toList.drop 93 = dktX0_layCost_4 := dk_seg dksX0_layCost_3 24 rfl rfl
theorem dksX0_layCost_5 : cX0_layCost.data.toList.drop 115 = dktX0_layCost_5 := dk_seg dksX0_layCost_4 22 rfl rfl
theorem dksX0_layCost_6 : cX0_layCost.data.toList.drop 138 = dktX0_layCost_6 := dk_seg dksX0_layCost_5 23 rfl rfl
theorem dksX0_layCost_7 : cX0_layCost.data.toList.drop 161 = dktX0_layCost_7 := dk_seg dksX0_layCost_6 23 rfl rfl
theorem dksX0_layCost_8 : cX0_layCost.data.toList.drop 185 = dktX0_layCost_8 := dk_seg dksX0_layCost_7 24 rfl rfl
theorem dX0_layCost_0 : decode cX0_layCost 0 = .ok (.iconst 0, 1) := dk_3 (dk_at dksX0_layCost_0 0 rfl rfl)
theorem dX0_layCost_1 : decode cX0_layCost 1 = .ok (.istore_n 2, 1) := dk_61 (dk_at dksX0_layCost_0 1 rfl rfl)
theorem dX0_layCost_2 : decode cX0_layCost 2 = .ok (.iconst 0, 1) := dk_3 (dk_at dksX0_layCost_0 2 rfl rfl)
theorem dX0_layCost_3 : decode cX0_layCost 3 = .ok (.istore_n 3, 1) := dk_62 (dk_at dksX0_layCost_0 3 rfl rfl)
theorem dX0_layCost_4 : decode cX0_layCost 4 = .ok (.iload_n 3, 1) := dk_29 (dk_at dksX0_layCost_0 4 rfl rfl)
theorem dX0_layCost_5 : decode cX0_layCost 5 = .ok (.aload_n 0, 1) := dk_42 (dk_at dksX0_layCost_0 5 rfl rfl)
theorem dX0_layCost_6 : decode cX0_layCost 6 = .ok (.getfield 26, 3) := dk_180 0 26 (dk_at dksX0_layCost_0 6 rfl rfl)
theorem dX0_layCost_9 : decode cX0_layCost 9 = .ok (.getfield 478, 3) := dk_180 1 222 (dk_at dksX0_layCost_0 9 rfl rfl)
theorem dX0_layCost_12 : decode cX0_layCost 12 = .ok (.if_icmp .ge 34, 3) := dk_162 0 34 (dk_at dksX0_layCost_0 12 rfl rfl)
theorem dX0_layCost_15 : decode cX0_layCost 15 = .ok (.iload_n 2, 1) := dk_28 (dk_at dksX0_layCost_0 15 rfl rfl)
theorem dX0_layCost_16 : decode cX0_layCost 16 = .ok (.iload_n 1, 1) := dk_27 (dk_at dksX0_layCost_0 16 rfl rfl)
theorem dX0_layCost_17 : decode cX0_layCost 17 = .ok (.iload_n 3, 1) := dk_29 (dk_at dksX0_layCost_0 17 rfl rfl)
theorem dX0_layCost_18 : decode cX0_layCost 18 = .ok (.ishr, 1) := dk_122 (dk_at dksX0_layCost_0 18 rfl rfl)
theorem dX0_layCost_19 : decode cX0_layCost 19 = .ok (.iconst 1, 1) := dk_4 (dk_at dksX0_layCost_0 19 rfl rfl)
theorem dX0_layCost_20 : decode cX0_layCost 20 = .ok (.iand, 1) := dk_126 (dk_at dksX0_layCost_0 20 rfl rfl)
theorem dX0_layCost_21 : decode cX0_layCost 21 = .ok (.iconst 1, 1) := dk_4 (dk_at dksX0_layCost_0 21 rfl rfl)
theorem dX0_layCost_22 : decode cX0_layCost 22 = .ok (.if_icmp .ne 15, 3) := dk_160 0 15 (dk_at dksX0_layCost_1 0 rfl rfl)
theorem dX0_layCost_25 : decode cX0_layCost 25 = .ok (.aload_n 0, 1) := dk_42 (dk_at dksX0_layCost_1 3 rfl rfl)
theorem dX0_layCost_26 : decode cX0_layCost 26 = .ok (.getfield 26, 3) := dk_180 0 26 (dk_at dksX0_layCost_1 4 rfl rfl)
theorem dX0_layCost_29 : decode cX0_layCost 29 = .ok (.getfield 481, 3) := dk_180 1 225 (dk_at dksX0_layCost_1 7 rfl rfl)
theorem dX0_layCost_32 : decode cX0_layCost 32 = .ok (.iload_n 3, 1) := dk_29 (dk_at dksX0_layCost_1 10 rfl rfl)
theorem dX0_layCost_33 : decode cX0_layCost 33 = .ok (.iaload, 1) := dk_46 (dk_at dksX0_layCost_1 11 rfl rfl)
theorem dX0_layCost_34 : decode cX0_layCost 34 = .ok (.goto 4, 3) := dk_167 0 4 (dk_at dksX0_layCost_1 12 rfl rfl)
theorem dX0_layCost_37 : decode cX0_layCost 37 = .ok (.iconst 0, 1) := dk_3 (dk_at dksX0_layCost_1 15 rfl rfl)
theorem dX0_layCost_38 : decode cX0_layCost 38 = .ok (.iadd, 1) := dk_96 (dk_at dksX0_layCost_1 16 rfl rfl)
theorem dX0_layCost_39 : decode cX0_layCost 39 = .ok (.istore_n 2, 1) := dk_61 (dk_at dksX0_layCost_1 17 rfl rfl)
theorem dX0_layCost_40 : decode cX0_layCost 40 = .ok (.iinc 3 1, 3) := dk_132 3 1 (dk_at dksX0_layCost_1 18 rfl rfl)
theorem dX0_layCost_43 : decode cX0_layCost 43 = .ok (.goto (-39), 3) := dk_167 255 217 (dk_at dksX0_layCost_1 21 rfl rfl)
theorem dX0_layCost_46 : decode cX0_layCost 46 = .ok (.aload_n 0, 1) := dk_42 (dk_at dksX0_layCost_2 0 rfl rfl)
theorem dX0_layCost_47 : decode cX0_layCost 47 = .ok (.getfield 96, 3) := dk_180 0 96 (dk_at dksX0_layCost_2 1 rfl rfl)
theorem dX0_layCost_50 : decode cX0_layCost 50 = .ok (.iload_n 1, 1) := dk_27 (dk_at dksX0_layCost_2 4 rfl rfl)
theorem dX0_layCost_51 : decode cX0_layCost 51 = .ok (.iconst 0, 1) := dk_3 (dk_at dksX0_layCost_2 5 rfl rfl)
theorem dX0_layCost_52 : decode cX0_layCost 52 = .ok (.iastore, 1) := dk_79 (dk_at dksX0_layCost_2 6 rfl rfl)
theorem dX0_layCost_53 : decode cX0_layCost 53 = .ok (.aload_n 0, 1) := dk_42 (dk_at dksX0_layCost_2 7 rfl rfl)
theorem dX0_layCost_54 : decode cX0_layCost 54 = .ok (.getfield 99, 3) := dk_180 0 99 (dk_at dksX0_layCost_2 8 rfl rfl)
theorem dX0_layCost_57 : decode cX0_layCost 57 = .ok (.iload_n 1, 1) := dk_27 (dk_at dksX0_layCost_2 11 rfl rfl)
theorem dX0_layCost_58 : decode cX0_layCost 58 = .ok (.iconst (-1), 1) := dk_2 (dk_at dksX0_layCost_2 12 rfl rfl)
theorem dX0_layCost_59 : decode cX0_layCost 59 = .ok (.iastore, 1) := dk_79 (dk_at dksX0_layCost_2 13 rfl rfl)
theorem dX0_layCost_60 : decode cX0_layCost 60 = .ok (.iconst 0, 1) := dk_3 (dk_at dksX0_layCost_2 14 rfl rfl)
theorem dX0_layCost_61 : decode cX0_layCost 61 = .ok (.istore_n 3, 1) := dk_62 (dk_at dksX0_layCost_2 15 rfl rfl)
theorem dX0_layCost_62 : decode cX0_layCost 62 = .ok (.iload_n 3, 1) := dk_29 (dk_at dksX0_layCost_2 16 rfl rfl)
theorem dX0_layCost_63 : decode cX0_layCost 63 = .ok (.bipush 16, 2) := dk_16 16 (dk_at dksX0_layCost_2 17 rfl rfl)
theorem dX0_layCost_65 : decode cX0_layCost 65 = .ok (.if_icmp .ge 123, 3) := dk_162 0 123 (dk_at dksX0_layCost_2 19 rfl rfl)
theorem dX0_layCost_68 : decode cX0_layCost 68 = .ok (.iload_n 2, 1) := dk_28 (dk_at dksX0_layCost_2 22 rfl rfl)
theorem dX0_layCost_69 : decode cX0_layCost 69 = .ok (.istore 4, 2) := dk_54 4 (dk_at dksX0_layCost_3 0 rfl rfl)
theorem dX0_layCost_71 : decode cX0_layCost 71 = .ok (.iconst 1, 1) := dk_4 (dk_at dksX0_layCost_3 2 rfl rfl)
theorem dX0_layCost_72 : decode cX0_layCost 72 = .ok (.istore 5, 2) := dk_54 5 (dk_at dksX0_layCost_3 3 rfl rfl)
theorem dX0_layCost_74 : decode cX0_layCost 74 = .ok (.iconst 0, 1) := dk_3 (dk_at dksX0_layCost_3 5 rfl rfl)
theorem dX0_layCost_75 : decode cX0_layCost 75 = .ok (.istore 6, 2) := dk_54 6 (dk_at dksX0_layCost_3 6 rfl rfl)
theorem dX0_layCost_77 : decode cX0_layCost 77 = .ok (.iload 6, 2) := dk_21 6 (dk_at dksX0_layCost_3 8 rfl rfl)
theorem dX0_layCost_79 : decode cX0_layCost 79 = .ok (.iconst 4, 1) := dk_7 (dk_at dksX0_layCost_3 10 rfl rfl)
theorem dX0_layCost_80 : decode cX0_layCost 80 = .ok (.if_icmp .ge 58, 3) := dk_162 0 58 (dk_at dksX0_layCost_3 11 rfl rfl)
theorem dX0_layCost_83 : decode cX0_layCost 83 = .ok (.aload_n 0, 1) := dk_42 (dk_at dksX0_layCost_3 14 rfl rfl)
theorem dX0_layCost_84 : decode cX0_layCost 84 = .ok (.iload_n 1, 1) := dk_27 (dk_at dksX0_layCost_3 15 rfl rfl)
theorem dX0_layCost_85 : decode cX0_layCost 85 = .ok (.iload_n 3, 1) := dk_29 (dk_at dksX0_layCost_3 16 rfl rfl)
theorem dX0_layCost_86 : decode cX0_layCost 86 = .ok (.iload 6, 2) := dk_21 6 (dk_at dksX0_layCost_3 17 rfl rfl)
theorem dX0_layCost_88 : decode cX0_layCost 88 = .ok (.invokevirtual 487, 3) := dk_182 1 231 (dk_at dksX0_layCost_3 19 rfl rfl)
theorem dX0_layCost_91 : decode cX0_layCost 91 = .ok (.istore 7, 2) := dk_54 7 (dk_at dksX0_layCost_3 22 rfl rfl)
theorem dX0_layCost_93 : decode cX0_layCost 93 = .ok (.iload 5, 2) := dk_21 5 (dk_at dksX0_layCost_4 0 rfl rfl)
theorem dX0_layCost_95 : decode cX0_layCost 95 = .ok (.ifCond .eq 13, 3) := dk_153 0 13 (dk_at dksX0_layCost_4 2 rfl rfl)
theorem dX0_layCost_98 : decode cX0_layCost 98 = .ok (.iload 7, 2) := dk_21 7 (dk_at dksX0_layCost_4 5 rfl rfl)
theorem dX0_layCost_100 : decode cX0_layCost 100 = .ok (.iload_n 1, 1) := dk_27 (dk_at dksX0_layCost_4 7 rfl rfl)
theorem dX0_layCost_101 : decode cX0_layCost 101 = .ok (.if_icmp .eq 7, 3) := dk_159 0 7 (dk_at dksX0_layCost_4 8 rfl rfl)
theorem dX0_layCost_104 : decode cX0_layCost 104 = .ok (.iconst 1, 1) := dk_4 (dk_at dksX0_layCost_4 11 rfl rfl)
theorem dX0_layCost_105 : decode cX0_layCost 105 = .ok (.goto 4, 3) := dk_167 0 4 (dk_at dksX0_layCost_4 12 rfl rfl)
theorem dX0_layCost_108 : decode cX0_layCost 108 = .ok (.iconst 0, 1) := dk_3 (dk_at dksX0_layCost_4 15 rfl rfl)
theorem dX0_layCost_109 : decode cX0_layCost 109 = .ok (.istore 5, 2) := dk_54 5 (dk_at dksX0_layCost_4 16 rfl rfl)
theorem dX0_layCost_111 : decode cX0_layCost 111 = .ok (.iload 4, 2) := dk_21 4 (dk_at dksX0_layCost_4 18 rfl rfl)
theorem dX0_layCost_113 : decode cX0_layCost 113 = .ok (.iload 5, 2) := dk_21 5 (dk_at dksX0_layCost_4 20 rfl rfl)
theorem dX0_layCost_115 : decode cX0_layCost 115 = .ok (.ifCond .eq 13, 3) := dk_153 0 13 (dk_at dksX0_layCost_5 0 rfl rfl)
theorem dX0_layCost_118 : decode cX0_layCost 118 = .ok (.aload_n 0, 1) := dk_42 (dk_at dksX0_layCost_5 3 rfl rfl)
theorem dX0_layCost_119 : decode cX0_layCost 119 = .ok (.getfield 96, 3) := dk_180 0 96 (dk_at dksX0_layCost_5 4 rfl rfl)
theorem dX0_layCost_122 : decode cX0_layCost 122 = .ok (.iload 7, 2) := dk_21 7 (dk_at dksX0_layCost_5 7 rfl rfl)
theorem dX0_layCost_124 : decode cX0_layCost 124 = .ok (.iaload, 1) := dk_46 (dk_at dksX0_layCost_5 9 rfl rfl)
theorem dX0_layCost_125 : decode cX0_layCost 125 = .ok (.goto 4, 3) := dk_167 0 4 (dk_at dksX0_layCost_5 10 rfl rfl)
theorem dX0_layCost_128 : decode cX0_layCost 128 = .ok (.iconst 0, 1) := dk_3 (dk_at dksX0_layCost_5 13 rfl rfl)
theorem dX0_layCost_129 : decode cX0_layCost 129 = .ok (.iadd, 1) := dk_96 (dk_at dksX0_layCost_5 14 rfl rfl)
theorem dX0_layCost_130 : decode cX0_layCost 130 = .ok (.istore 4, 2) := dk_54 4 (dk_at dksX0_layCost_5 15 rfl rfl)
theorem dX0_layCost_132 : decode cX0_layCost 132 = .ok (.iinc 6 1, 3) := dk_132 6 1 (dk_at dksX0_layCost_5 17 rfl rfl)
theorem dX0_layCost_135 : decode cX0_layCost 135 = .ok (.goto (-58), 3) := dk_167 255 198 (dk_at dksX0_layCost_5 20 rfl rfl)
theorem dX0_layCost_138 : decode cX0_layCost 138 = .ok (.iload 5, 2) := dk_21 5 (dk_at dksX0_layCost_6 0 rfl rfl)
theorem dX0_layCost_140 : decode cX0_layCost 140 = .ok (.ifCond .eq 42, 3) := dk_153 0 42 (dk_at dksX0_layCost_6 2 rfl rfl)
theorem dX0_layCost_143 : decode cX0_layCost 143 = .ok (.aload_n 0, 1) := dk_42 (dk_at dksX0_layCost_6 5 rfl rfl)
theorem dX0_layCost_144 : decode cX0_layCost 144 = .ok (.getfield 99, 3) := dk_180 0 99 (dk_at dksX0_layCost_6 6 rfl rfl)
theorem dX0_layCost_147 : decode cX0_layCost 147 = .ok (.iload_n 1, 1) := dk_27 (dk_at dksX0_layCost_6 9 rfl rfl)
theorem dX0_layCost_148 : decode cX0_layCost 148 = .ok (.iaload, 1) := dk_46 (dk_at dksX0_layCost_6 10 rfl rfl)
theorem dX0_layCost_149 : decode cX0_layCost 149 = .ok (.iconst (-1), 1) := dk_2 (dk_at dksX0_layCost_6 11 rfl rfl)
theorem dX0_layCost_150 : decode cX0_layCost 150 = .ok (.if_icmp .eq 17, 3) := dk_159 0 17 (dk_at dksX0_layCost_6 12 rfl rfl)
theorem dX0_layCost_153 : decode cX0_layCost 153 = .ok (.iload 4, 2) := dk_21 4 (dk_at dksX0_layCost_6 15 rfl rfl)
theorem dX0_layCost_155 : decode cX0_layCost 155 = .ok (.aload_n 0, 1) := dk_42 (dk_at dksX0_layCost_6 17 rfl rfl)
theorem dX0_layCost_156 : decode cX0_layCost 156 = .ok (.getfield 96, 3) := dk_180 0 96 (dk_at dksX0_layCost_6 18 rfl rfl)
theorem dX0_layCost_159 : decode cX0_layCost 159 = .ok (.iload_n 1, 1) := dk_27 (dk_at dksX0_layCost_6 21 rfl rfl)
theorem dX0_layCost_160 : decode cX0_layCost 160 = .ok (.iaload, 1) := dk_46 (dk_at dksX0_layCost_6 22 rfl rfl)
theorem dX0_layCost_161 : decode cX0_layCost 161 = .ok (.if_icmp .lt 6, 3) := dk_161 0 6 (dk_at dksX0_layCost_7 0 rfl rfl)
theorem dX0_layCost_164 : decode cX0_layCost 164 = .ok (.goto 18, 3) := dk_167 0 18 (dk_at dksX0_layCost_7 3 rfl rfl)
theorem dX0_layCost_167 : decode cX0_layCost 167 = .ok (.aload_n 0, 1) := dk_42 (dk_at dksX0_layCost_7 6 rfl rfl)
theorem dX0_layCost_168 : decode cX0_layCost 168 = .ok (.getfield 96, 3) := dk_180 0 96 (dk_at dksX0_layCost_7 7 rfl rfl)
theorem dX0_layCost_171 : decode cX0_layCost 171 = .ok (.iload_n 1, 1) := dk_27 (dk_at dksX0_layCost_7 10 rfl rfl)
theorem dX0_layCost_172 : decode cX0_layCost 172 = .ok (.iload 4, 2) := dk_21 4 (dk_at dksX0_layCost_7 11 rfl rfl)
theorem dX0_layCost_174 : decode cX0_layCost 174 = .ok (.iastore, 1) := dk_79 (dk_at dksX0_layCost_7 13 rfl rfl)
theorem dX0_layCost_175 : decode cX0_layCost 175 = .ok (.aload_n 0, 1) := dk_42 (dk_at dksX0_layCost_7 14 rfl rfl)
theorem dX0_layCost_176 : decode cX0_layCost 176 = .ok (.getfield 99, 3) := dk_180 0 99 (dk_at dksX0_layCost_7 15 rfl rfl)
theorem dX0_layCost_179 : decode cX0_layCost 179 = .ok (.iload_n 1, 1) := dk_27 (dk_at dksX0_layCost_7 18 rfl rfl)
theorem dX0_layCost_180 : decode cX0_layCost 180 = .ok (.iload_n 3, 1) := dk_29 (dk_at dksX0_layCost_7 19 rfl rfl)
theorem dX0_layCost_181 : decode cX0_layCost 181 = .ok (.iastore, 1) := dk_79 (dk_at dksX0_layCost_7 20 rfl rfl)
theorem dX0_layCost_182 : decode cX0_layCost 182 = .ok (.iinc 3 1, 3) := dk_132 3 1 (dk_at dksX0_layCost_7 21 rfl rfl)
theorem dX0_layCost_185 : decode cX0_layCost 185 = .ok (.goto (-123), 3) := dk_167 255 133 (dk_at dksX0_layCost_8 0 rfl rfl)
theorem dX0_layCost_188 : decode cX0_layCost 188 = .ok (.return_, 1) := dk_177 (dk_at dksX0_layCost_8 3 rfl rfl)
abbrev cX0_saying : ByteArray := prog_1_method_76_code
def yX0_saying : MethodName := ⟨RX0, "saying", "(III)I"⟩
def dkwX0_saying_2 : List UInt8 := [21, 4, 4, 21, 5, 120, 128, 54, 4, 132, 5, 1, 167, 255, 203, 21, 4, 172]
abbrev dktX0_saying_2 : List UInt8 := dkwX0_saying_2 ++ []
def dkwX0_saying_1 : List UInt8 := [4, 160, 0, 31, 42, 180, 0, 26, 180, 1, 228, 16, 16, 21, 5, 104, 28, 96, 46, 29, 160, 0, 12]
abbrev dktX0_saying_1 : List UInt8 := dkwX0_saying_1 ++ dktX0_saying_2
def dkwX0_saying_0 : List UInt8 := [3, 54, 4, 3, 54, 5, 21, 5, 42, 180, 0, 26, 180, 1, 222, 162, 0, 47, 27, 21, 5, 122, 4, 126]
abbrev dktX0_saying_0 : List UInt8 := dkwX0_saying_0 ++ dktX0_saying_1
theorem dksX0_saying_0 : cX0_saying.data.toList.drop 0 = dktX0_saying_0 := by decide +kernel
theorem dksX0_saying_1 : cX0_saying.data.toList.drop 24 = dktX0_saying_1 := dk_seg dksX0_saying_0 24 rfl rfl
theorem dksX0_saying_2 : cX0_saying.data.toList.drop 47 = dktX0_saying_2 := dk_seg dksX0_saying_1 23 rfl rfl
theorem dX0_saying_0 : decode cX0_saying 0 = .ok (.iconst 0, 1) := dk_3 (dk_at dksX0_saying_0 0 rfl rfl)
theorem dX0_saying_1 : decode cX0_saying 1 = .ok (.istore 4, 2) := dk_54 4 (dk_at dksX0_saying_0 1 rfl rfl)
theorem dX0_saying_3 : decode cX0_saying 3 = .ok (.iconst 0, 1) := dk_3 (dk_at dksX0_saying_0 3 rfl rfl)
theorem dX0_saying_4 : decode cX0_saying 4 = .ok (.istore 5, 2) := dk_54 5 (dk_at dksX0_saying_0 4 rfl rfl)
theorem dX0_saying_6 : decode cX0_saying 6 = .ok (.iload 5, 2) := dk_21 5 (dk_at dksX0_saying_0 6 rfl rfl)
theorem dX0_saying_8 : decode cX0_saying 8 = .ok (.aload_n 0, 1) := dk_42 (dk_at dksX0_saying_0 8 rfl rfl)
theorem dX0_saying_9 : decode cX0_saying 9 = .ok (.getfield 26, 3) := dk_180 0 26 (dk_at dksX0_saying_0 9 rfl rfl)
theorem dX0_saying_12 : decode cX0_saying 12 = .ok (.getfield 478, 3) := dk_180 1 222 (dk_at dksX0_saying_0 12 rfl rfl)
theorem dX0_saying_15 : decode cX0_saying 15 = .ok (.if_icmp .ge 47, 3) := dk_162 0 47 (dk_at dksX0_saying_0 15 rfl rfl)
theorem dX0_saying_18 : decode cX0_saying 18 = .ok (.iload_n 1, 1) := dk_27 (dk_at dksX0_saying_0 18 rfl rfl)
theorem dX0_saying_19 : decode cX0_saying 19 = .ok (.iload 5, 2) := dk_21 5 (dk_at dksX0_saying_0 19 rfl rfl)
theorem dX0_saying_21 : decode cX0_saying 21 = .ok (.ishr, 1) := dk_122 (dk_at dksX0_saying_0 21 rfl rfl)
theorem dX0_saying_22 : decode cX0_saying 22 = .ok (.iconst 1, 1) := dk_4 (dk_at dksX0_saying_0 22 rfl rfl)
theorem dX0_saying_23 : decode cX0_saying 23 = .ok (.iand, 1) := dk_126 (dk_at dksX0_saying_0 23 rfl rfl)
theorem dX0_saying_24 : decode cX0_saying 24 = .ok (.iconst 1, 1) := dk_4 (dk_at dksX0_saying_1 0 rfl rfl)
theorem dX0_saying_25 : decode cX0_saying 25 = .ok (.if_icmp .ne 31, 3) := dk_160 0 31 (dk_at dksX0_saying_1 1 rfl rfl)
theorem dX0_saying_28 : decode cX0_saying 28 = .ok (.aload_n 0, 1) := dk_42 (dk_at dksX0_saying_1 4 rfl rfl)
theorem dX0_saying_29 : decode cX0_saying 29 = .ok (.getfield 26, 3) := dk_180 0 26 (dk_at dksX0_saying_1 5 rfl rfl)
theorem dX0_saying_32 : decode cX0_saying 32 = .ok (.getfield 484, 3) := dk_180 1 228 (dk_at dksX0_saying_1 8 rfl rfl)
theorem dX0_saying_35 : decode cX0_saying 35 = .ok (.bipush 16, 2) := dk_16 16 (dk_at dksX0_saying_1 11 rfl rfl)
theorem dX0_saying_37 : decode cX0_saying 37 = .ok (.iload 5, 2) := dk_21 5 (dk_at dksX0_saying_1 13 rfl rfl)
theorem dX0_saying_39 : decode cX0_saying 39 = .ok (.imul, 1) := dk_104 (dk_at dksX0_saying_1 15 rfl rfl)
theorem dX0_saying_40 : decode cX0_saying 40 = .ok (.iload_n 2, 1) := dk_28 (dk_at dksX0_saying_1 16 rfl rfl)
theorem dX0_saying_41 : decode cX0_saying 41 = .ok (.iadd, 1) := dk_96 (dk_at dksX0_saying_1 17 rfl rfl)
theorem dX0_saying_42 : decode cX0_saying 42 = .ok (.iaload, 1) := dk_46 (dk_at dksX0_saying_1 18 rfl rfl)
theorem dX0_saying_43 : decode cX0_saying 43 = .ok (.iload_n 3, 1) := dk_29 (dk_at dksX0_saying_1 19 rfl rfl)
theorem dX0_saying_44 : decode cX0_saying 44 = .ok (.if_icmp .ne 12, 3) := dk_160 0 12 (dk_at dksX0_saying_1 20 rfl rfl)
theorem dX0_saying_47 : decode cX0_saying 47 = .ok (.iload 4, 2) := dk_21 4 (dk_at dksX0_saying_2 0 rfl rfl)
theorem dX0_saying_49 : decode cX0_saying 49 = .ok (.iconst 1, 1) := dk_4 (dk_at dksX0_saying_2 2 rfl rfl)
theorem dX0_saying_50 : decode cX0_saying 50 = .ok (.iload 5, 2) := dk_21 5 (dk_at dksX0_saying_2 3 rfl rfl)
theorem dX0_saying_52 : decode cX0_saying 52 = .ok (.ishl, 1) := dk_120 (dk_at dksX0_saying_2 5 rfl rfl)
theorem dX0_saying_53 : decode cX0_saying 53 = .ok (.ior, 1) := dk_128 (dk_at dksX0_saying_2 6 rfl rfl)
theorem dX0_saying_54 : decode cX0_saying 54 = .ok (.istore 4, 2) := dk_54 4 (dk_at dksX0_saying_2 7 rfl rfl)
theorem dX0_saying_56 : decode cX0_saying 56 = .ok (.iinc 5 1, 3) := dk_132 5 1 (dk_at dksX0_saying_2 9 rfl rfl)
theorem dX0_saying_59 : decode cX0_saying 59 = .ok (.goto (-53), 3) := dk_167 255 203 (dk_at dksX0_saying_2 12 rfl rfl)
theorem dX0_saying_62 : decode cX0_saying 62 = .ok (.iload 4, 2) := dk_21 4 (dk_at dksX0_saying_2 15 rfl rfl)
theorem dX0_saying_64 : decode cX0_saying 64 = .ok (.ireturn, 1) := dk_172 (dk_at dksX0_saying_2 17 rfl rfl)
abbrev cX0_row : ByteArray := prog_1_method_80_code
def yX0_row : MethodName := ⟨RX0, "row", "(III)I"⟩
def dkwX0_row_2 : List UInt8 := [29, 182, 1, 241, 153, 0, 7, 3, 167, 0, 9, 42, 16, 253, 182, 0, 119, 172]
abbrev dktX0_row_2 : List UInt8 := dkwX0_row_2 ++ []
def dkwX0_row_1 : List UInt8 := [182, 0, 119, 172, 29, 16, 60, 164, 0, 10, 42, 16, 253, 182, 0, 119, 172, 42, 180, 0, 105, 27, 50, 28]
abbrev dktX0_row_1 : List UInt8 := dkwX0_row_1 ++ dktX0_row_2
def dkwX0_row_0 : List UInt8 := [27, 184, 1, 238, 153, 0, 15, 28, 133, 9, 20, 1, 189, 184, 0, 111, 154, 0, 10, 42, 16, 254]
abbrev dktX0_row_0 : List UInt8 := dkwX0_row_0 ++ dktX0_row_1
theorem dksX0_row_0 : cX0_row.data.toList.drop 0 = dktX0_row_0 := by decide +kernel
theorem dksX0_row_1 : cX0_row.data.toList.drop 22 = dktX0_row_1 := dk_seg dksX0_row_0 22 rfl rfl
theorem dksX0_row_2 : cX0_row.data.toList.drop 46 = dktX0_row_2 := dk_seg dksX0_row_1 24 rfl rfl
theorem dX0_row_0 : decode cX0_row 0 = .ok (.iload_n 1, 1) := dk_27 (dk_at dksX0_row_0 0 rfl rfl)
theorem dX0_row_1 : decode cX0_row 1 = .ok (.invokestatic 494, 3) := dk_184 1 238 (dk_at dksX0_row_0 1 rfl rfl)
theorem dX0_row_4 : decode cX0_row 4 = .ok (.ifCond .eq 15, 3) := dk_153 0 15 (dk_at dksX0_row_0 4 rfl rfl)
theorem dX0_row_7 : decode cX0_row 7 = .ok (.iload_n 2, 1) := dk_28 (dk_at dksX0_row_0 7 rfl rfl)
theorem dX0_row_8 : decode cX0_row 8 = .ok (.i2l, 1) := dk_133 (dk_at dksX0_row_0 8 rfl rfl)
theorem dX0_row_9 : decode cX0_row 9 = .ok (.lconst 0, 1) := dk_9 (dk_at dksX0_row_0 9 rfl rfl)
theorem dX0_row_10 : decode cX0_row 10 = .ok (.ldc2_w 445, 3) := dk_20 1 189 (dk_at dksX0_row_0 10 rfl rfl)
theorem dX0_row_13 : decode cX0_row 13 = .ok (.invokestatic 111, 3) := dk_184 0 111 (dk_at dksX0_row_0 13 rfl rfl)
theorem dX0_row_16 : decode cX0_row 16 = .ok (.ifCond .ne 10, 3) := dk_154 0 10 (dk_at dksX0_row_0 16 rfl rfl)
theorem dX0_row_19 : decode cX0_row 19 = .ok (.aload_n 0, 1) := dk_42 (dk_at dksX0_row_0 19 rfl rfl)
theorem dX0_row_20 : decode cX0_row 20 = .ok (.bipush (-2), 2) := dk_16 254 (dk_at dksX0_row_0 20 rfl rfl)
theorem dX0_row_22 : decode cX0_row 22 = .ok (.invokevirtual 119, 3) := dk_182 0 119 (dk_at dksX0_row_1 0 rfl rfl)
theorem dX0_row_25 : decode cX0_row 25 = .ok (.ireturn, 1) := dk_172 (dk_at dksX0_row_1 3 rfl rfl)
theorem dX0_row_26 : decode cX0_row 26 = .ok (.iload_n 3, 1) := dk_29 (dk_at dksX0_row_1 4 rfl rfl)
theorem dX0_row_27 : decode cX0_row 27 = .ok (.bipush 60, 2) := dk_16 60 (dk_at dksX0_row_1 5 rfl rfl)
theorem dX0_row_29 : decode cX0_row 29 = .ok (.if_icmp .le 10, 3) := dk_164 0 10 (dk_at dksX0_row_1 7 rfl rfl)
theorem dX0_row_32 : decode cX0_row 32 = .ok (.aload_n 0, 1) := dk_42 (dk_at dksX0_row_1 10 rfl rfl)
theorem dX0_row_33 : decode cX0_row 33 = .ok (.bipush (-3), 2) := dk_16 253 (dk_at dksX0_row_1 11 rfl rfl)
theorem dX0_row_35 : decode cX0_row 35 = .ok (.invokevirtual 119, 3) := dk_182 0 119 (dk_at dksX0_row_1 13 rfl rfl)
theorem dX0_row_38 : decode cX0_row 38 = .ok (.ireturn, 1) := dk_172 (dk_at dksX0_row_1 16 rfl rfl)
theorem dX0_row_39 : decode cX0_row 39 = .ok (.aload_n 0, 1) := dk_42 (dk_at dksX0_row_1 17 rfl rfl)
theorem dX0_row_40 : decode cX0_row 40 = .ok (.getfield 105, 3) := dk_180 0 105 (dk_at dksX0_row_1 18 rfl rfl)
theorem dX0_row_43 : decode cX0_row 43 = .ok (.iload_n 1, 1) := dk_27 (dk_at dksX0_row_1 21 rfl rfl)
theorem dX0_row_44 : decode cX0_row 44 = .ok (.aaload, 1) := dk_50 (dk_at dksX0_row_1 22 rfl rfl)
theorem dX0_row_45 : decode cX0_row 45 = .ok (.iload_n 2, 1) := dk_28 (dk_at dksX0_row_1 23 rfl rfl)
theorem dX0_row_46 : decode cX0_row 46 = .ok (.iload_n 3, 1) := dk_29 (dk_at dksX0_row_2 0 rfl rfl)
theorem dX0_row_47 : decode cX0_row 47 = .ok (.invokevirtual 497, 3) := dk_182 1 241 (dk_at dksX0_row_2 1 rfl rfl)
theorem dX0_row_50 : decode cX0_row 50 = .ok (.ifCond .eq 7, 3) := dk_153 0 7 (dk_at dksX0_row_2 4 rfl rfl)
theorem dX0_row_53 : decode cX0_row 53 = .ok (.iconst 0, 1) := dk_3 (dk_at dksX0_row_2 7 rfl rfl)
theorem dX0_row_54 : decode cX0_row 54 = .ok (.goto 9, 3) := dk_167 0 9 (dk_at dksX0_row_2 8 rfl rfl)
theorem dX0_row_57 : decode cX0_row 57 = .ok (.aload_n 0, 1) := dk_42 (dk_at dksX0_row_2 11 rfl rfl)
theorem dX0_row_58 : decode cX0_row 58 = .ok (.bipush (-3), 2) := dk_16 253 (dk_at dksX0_row_2 12 rfl rfl)
theorem dX0_row_60 : decode cX0_row 60 = .ok (.invokevirtual 119, 3) := dk_182 0 119 (dk_at dksX0_row_2 14 rfl rfl)
theorem dX0_row_63 : decode cX0_row 63 = .ok (.ireturn, 1) := dk_172 (dk_at dksX0_row_2 17 rfl rfl)
abbrev cX0_isRow : ByteArray := prog_1_method_79_code
def yX0_isRow : MethodName := ⟨RX0, "isRow", "(I)Z"⟩
def dkwX0_isRow_0 : List UInt8 := [26, 133, 9, 20, 1, 189, 184, 0, 111, 172]
abbrev dktX0_isRow_0 : List UInt8 := dkwX0_isRow_0 ++ []
theorem dksX0_isRow_0 : cX0_isRow.data.toList.drop 0 = dktX0_isRow_0 := by decide +kernel
theorem dX0_isRow_0 : decode cX0_isRow 0 = .ok (.iload_n 0, 1) := dk_26 (dk_at dksX0_isRow_0 0 rfl rfl)
theorem dX0_isRow_1 : decode cX0_isRow 1 = .ok (.i2l, 1) := dk_133 (dk_at dksX0_isRow_0 1 rfl rfl)
theorem dX0_isRow_2 : decode cX0_isRow 2 = .ok (.lconst 0, 1) := dk_9 (dk_at dksX0_isRow_0 2 rfl rfl)
theorem dX0_isRow_3 : decode cX0_isRow 3 = .ok (.ldc2_w 445, 3) := dk_20 1 189 (dk_at dksX0_isRow_0 3 rfl rfl)
theorem dX0_isRow_6 : decode cX0_isRow 6 = .ok (.invokestatic 111, 3) := dk_184 0 111 (dk_at dksX0_isRow_0 6 rfl rfl)
theorem dX0_isRow_9 : decode cX0_isRow 9 = .ok (.ireturn, 1) := dk_172 (dk_at dksX0_isRow_0 9 rfl rfl)
abbrev cX0_write : ByteArray := prog_1_method_81_code
def yX0_write : MethodName := ⟨RX0, "write", "(IIJ)J"⟩
def dkwX0_write_2 : List UInt8 := [58, 5, 42, 16, 249, 182, 0, 119, 133, 173]
abbrev dktX0_write_2 : List UInt8 := dkwX0_write_2 ++ []
def dkwX0_write_1 : List UInt8 := [182, 1, 245, 42, 180, 0, 105, 27, 50, 28, 182, 1, 249, 173, 58, 5, 42, 16, 250, 182, 0, 119, 133, 173]
abbrev dktX0_write_1 : List UInt8 := dkwX0_write_1 ++ dktX0_write_2
def dkwX0_write_0 : List UInt8 := [27, 184, 1, 238, 154, 0, 11, 42, 16, 254, 182, 0, 119, 133, 173, 42, 180, 0, 105, 27, 50, 28, 33]
abbrev dktX0_write_0 : List UInt8 := dkwX0_write_0 ++ dktX0_write_1
theorem dksX0_write_0 : cX0_write.data.toList.drop 0 = dktX0_write_0 := by decide +kernel
theorem dksX0_write_1 : cX0_write.data.toList.drop 23 = dktX0_write_1 := dk_seg dksX0_write_0 23 rfl rfl
theorem dksX0_write_2 : cX0_write.data.toList.drop 47 = dktX0_write_2 := dk_seg dksX0_write_1 24 rfl rfl
theorem dX0_write_0 : decode cX0_write 0 = .ok (.iload_n 1, 1) := dk_27 (dk_at dksX0_write_0 0 rfl rfl)
theorem dX0_write_1 : decode cX0_write 1 = .ok (.invokestatic 494, 3) := dk_184 1 238 (dk_at dksX0_write_0 1 rfl rfl)
theorem dX0_write_4 : decode cX0_write 4 = .ok (.ifCond .ne 11, 3) := dk_154 0 11 (dk_at dksX0_write_0 4 rfl rfl)
theorem dX0_write_7 : decode cX0_write 7 = .ok (.aload_n 0, 1) := dk_42 (dk_at dksX0_write_0 7 rfl rfl)
theorem dX0_write_8 : decode cX0_write 8 = .ok (.bipush (-2), 2) := dk_16 254 (dk_at dksX0_write_0 8 rfl rfl)
theorem dX0_write_10 : decode cX0_write 10 = .ok (.invokevirtual 119, 3) := dk_182 0 119 (dk_at dksX0_write_0 10 rfl rfl)
theorem dX0_write_13 : decode cX0_write 13 = .ok (.i2l, 1) := dk_133 (dk_at dksX0_write_0 13 rfl rfl)
theorem dX0_write_14 : decode cX0_write 14 = .ok (.lreturn, 1) := dk_173 (dk_at dksX0_write_0 14 rfl rfl)
theorem dX0_write_15 : decode cX0_write 15 = .ok (.aload_n 0, 1) := dk_42 (dk_at dksX0_write_0 15 rfl rfl)
theorem dX0_write_16 : decode cX0_write 16 = .ok (.getfield 105, 3) := dk_180 0 105 (dk_at dksX0_write_0 16 rfl rfl)
theorem dX0_write_19 : decode cX0_write 19 = .ok (.iload_n 1, 1) := dk_27 (dk_at dksX0_write_0 19 rfl rfl)
theorem dX0_write_20 : decode cX0_write 20 = .ok (.aaload, 1) := dk_50 (dk_at dksX0_write_0 20 rfl rfl)
theorem dX0_write_21 : decode cX0_write 21 = .ok (.iload_n 2, 1) := dk_28 (dk_at dksX0_write_0 21 rfl rfl)
theorem dX0_write_22 : decode cX0_write 22 = .ok (.lload_n 3, 1) := dk_33 (dk_at dksX0_write_0 22 rfl rfl)
theorem dX0_write_23 : decode cX0_write 23 = .ok (.invokevirtual 501, 3) := dk_182 1 245 (dk_at dksX0_write_1 0 rfl rfl)
theorem dX0_write_26 : decode cX0_write 26 = .ok (.aload_n 0, 1) := dk_42 (dk_at dksX0_write_1 3 rfl rfl)
theorem dX0_write_27 : decode cX0_write 27 = .ok (.getfield 105, 3) := dk_180 0 105 (dk_at dksX0_write_1 4 rfl rfl)
theorem dX0_write_30 : decode cX0_write 30 = .ok (.iload_n 1, 1) := dk_27 (dk_at dksX0_write_1 7 rfl rfl)
theorem dX0_write_31 : decode cX0_write 31 = .ok (.aaload, 1) := dk_50 (dk_at dksX0_write_1 8 rfl rfl)
theorem dX0_write_32 : decode cX0_write 32 = .ok (.iload_n 2, 1) := dk_28 (dk_at dksX0_write_1 9 rfl rfl)
theorem dX0_write_33 : decode cX0_write 33 = .ok (.invokevirtual 505, 3) := dk_182 1 249 (dk_at dksX0_write_1 10 rfl rfl)
theorem dX0_write_36 : decode cX0_write 36 = .ok (.lreturn, 1) := dk_173 (dk_at dksX0_write_1 13 rfl rfl)
theorem dX0_write_37 : decode cX0_write 37 = .ok (.astore 5, 2) := dk_58 5 (dk_at dksX0_write_1 14 rfl rfl)
theorem dX0_write_39 : decode cX0_write 39 = .ok (.aload_n 0, 1) := dk_42 (dk_at dksX0_write_1 16 rfl rfl)
theorem dX0_write_40 : decode cX0_write 40 = .ok (.bipush (-6), 2) := dk_16 250 (dk_at dksX0_write_1 17 rfl rfl)
theorem dX0_write_42 : decode cX0_write 42 = .ok (.invokevirtual 119, 3) := dk_182 0 119 (dk_at dksX0_write_1 19 rfl rfl)
theorem dX0_write_45 : decode cX0_write 45 = .ok (.i2l, 1) := dk_133 (dk_at dksX0_write_1 22 rfl rfl)
theorem dX0_write_46 : decode cX0_write 46 = .ok (.lreturn, 1) := dk_173 (dk_at dksX0_write_1 23 rfl rfl)
theorem dX0_write_47 : decode cX0_write 47 = .ok (.astore 5, 2) := dk_58 5 (dk_at dksX0_write_2 0 rfl rfl)
theorem dX0_write_49 : decode cX0_write 49 = .ok (.aload_n 0, 1) := dk_42 (dk_at dksX0_write_2 2 rfl rfl)
theorem dX0_write_50 : decode cX0_write 50 = .ok (.bipush (-7), 2) := dk_16 249 (dk_at dksX0_write_2 3 rfl rfl)
theorem dX0_write_52 : decode cX0_write 52 = .ok (.invokevirtual 119, 3) := dk_182 0 119 (dk_at dksX0_write_2 5 rfl rfl)
theorem dX0_write_55 : decode cX0_write 55 = .ok (.i2l, 1) := dk_133 (dk_at dksX0_write_2 8 rfl rfl)
theorem dX0_write_56 : decode cX0_write 56 = .ok (.lreturn, 1) := dk_173 (dk_at dksX0_write_2 9 rfl rfl)
abbrev cX0_minister : ByteArray := prog_1_method_82_code
def yX0_minister : MethodName := ⟨RX0, "minister", "(I)I"⟩
def dkwX0_minister_10 : List UInt8 := [182, 1, 249, 136, 1, 183, 1, 162, 182, 0, 150, 87, 132, 4, 1, 167, 255, 175, 29, 172]
abbrev dktX0_minister_10 : List UInt8 := dkwX0_minister_10 ++ []
def dkwX0_minister_9 : List UInt8 := [182, 1, 249, 136, 44, 8, 21, 4, 104, 6, 96, 182, 1, 249, 136, 44, 8, 21, 4, 104, 7, 96]
abbrev dktX0_minister_9 : List UInt8 := dkwX0_minister_9 ++ dktX0_minister_10
def dkwX0_minister_8 : List UInt8 := [182, 1, 249, 136, 44, 8, 21, 4, 104, 4, 96, 182, 1, 249, 136, 44, 8, 21, 4, 104, 5, 96]
abbrev dktX0_minister_8 : List UInt8 := dkwX0_minister_8 ++ dktX0_minister_9
def dkwX0_minister_7 : List UInt8 := [21, 4, 29, 162, 0, 81, 42, 180, 0, 26, 180, 1, 157, 187, 1, 160, 89, 44, 8, 21, 4, 104]
abbrev dktX0_minister_7 : List UInt8 := dkwX0_minister_7 ++ dktX0_minister_8
def dkwX0_minister_6 : List UInt8 := [180, 1, 157, 182, 0, 36, 29, 96, 16, 60, 164, 0, 10, 42, 16, 252, 182, 0, 119, 172, 3, 54, 4]
abbrev dktX0_minister_6 : List UInt8 := dkwX0_minister_6 ++ dktX0_minister_7
def dkwX0_minister_5 : List UInt8 := [184, 1, 153, 154, 0, 10, 42, 16, 253, 182, 0, 119, 172, 132, 4, 1, 167, 255, 186, 42, 180, 0, 26]
abbrev dktX0_minister_5 : List UInt8 := dkwX0_minister_5 ++ dktX0_minister_6
def dkwX0_minister_4 : List UInt8 := [182, 1, 249, 44, 8, 21, 4, 104, 6, 96, 182, 1, 249, 44, 8, 21, 4, 104, 7, 96, 182, 1, 249]
abbrev dktX0_minister_4 : List UInt8 := dkwX0_minister_4 ++ dktX0_minister_5
def dkwX0_minister_3 : List UInt8 := [21, 4, 104, 182, 1, 249, 44, 8, 21, 4, 104, 4, 96, 182, 1, 249, 44, 8, 21, 4, 104, 5, 96]
abbrev dktX0_minister_3 : List UInt8 := dkwX0_minister_3 ++ dktX0_minister_4
def dkwX0_minister_2 : List UInt8 := [8, 112, 153, 0, 10, 42, 16, 249, 182, 0, 119, 172, 3, 54, 4, 21, 4, 29, 162, 0, 70, 44, 8]
abbrev dktX0_minister_2 : List UInt8 := dkwX0_minister_2 ++ dktX0_minister_3
def dkwX0_minister_1 : List UInt8 := [180, 2, 1, 199, 0, 10, 42, 16, 250, 182, 0, 119, 172, 44, 182, 2, 5, 8, 108, 62, 44, 182, 2, 5]
abbrev dktX0_minister_1 : List UInt8 := dkwX0_minister_1 ++ dktX0_minister_2
def dkwX0_minister_0 : List UInt8 := [27, 184, 1, 238, 154, 0, 10, 42, 16, 254, 182, 0, 119, 172, 42, 180, 0, 105, 27, 50, 77, 44]
abbrev dktX0_minister_0 : List UInt8 := dkwX0_minister_0 ++ dktX0_minister_1
theorem dksX0_minister_0 : cX0_minister.data.toList.drop 0 = dktX0_minister_0 := by decide +kernel
theorem dksX0_minister_1 : cX0_minister.data.toList.drop 22 = dktX0_minister_1 := dk_seg dksX0_minister_0 22 rfl rfl
theorem dksX0_minister_2 : cX0_minister.data.toList.drop 46 = dktX0_minister_2 := dk_seg dksX0_minister_1 24 rfl rfl
theorem dksX0_minister_3 : cX0_minister.data.toList.drop 69 = dktX0_minister_3 := dk_seg dksX0_minister_2 23 rfl rfl
theorem dksX0_minister_4 : cX0_minister.data.toList.drop 92 = dktX0_minister_4 := dk_seg dksX0_minister_3 23 rfl rfl
theorem dksX0_minister_5 : cX0_minister.data.toList.drop 115 = dktX0_minister_5 := dk_seg dksX0_minister_4 23 rfl rfl
theorem dksX0_minister_6 : cX0_minister.data.toList.drop 138 = dktX0_minister_6 := dk_seg dksX0_minister_5 23 rfl rfl
theorem dksX0_minister_7 : cX0_minister.data.toList.drop 161 = dktX0_minister_7 := dk_seg dksX0_minister_6 23 rfl rfl
theorem dksX0_minister_8 : cX0_minister.data.toList.drop 183 = dktX0_minister_8 := dk_seg dksX0_minister_7 22 rfl rfl
theorem dksX0_minister_9 : cX0_minister.data.toList.drop 205 = dktX0_minister_9 := dk_seg dksX0_minister_8 22 rfl rfl
theorem dksX0_minister_10 : cX0_minister.data.toList.drop 227 = dktX0_minister_10 := dk_seg dksX0_minister_9 22 rfl rfl
theorem dX0_minister_0 : decode cX0_minister 0 = .ok (.iload_n 1, 1) := dk_27 (dk_at dksX0_minister_0 0 rfl rfl)
theorem dX0_minister_1 : decode cX0_minister 1 = .ok (.invokestatic 494, 3) := dk_184 1 238 (dk_at dksX0_minister_0 1 rfl rfl)
theorem dX0_minister_4 : decode cX0_minister 4 = .ok (.ifCond .ne 10, 3) := dk_154 0 10 (dk_at dksX0_minister_0 4 rfl rfl)
theorem dX0_minister_7 : decode cX0_minister 7 = .ok (.aload_n 0, 1) := dk_42 (dk_at dksX0_minister_0 7 rfl rfl)
theorem dX0_minister_8 : decode cX0_minister 8 = .ok (.bipush (-2), 2) := dk_16 254 (dk_at dksX0_minister_0 8 rfl rfl)
theorem dX0_minister_10 : decode cX0_minister 10 = .ok (.invokevirtual 119, 3) := dk_182 0 119 (dk_at dksX0_minister_0 10 rfl rfl)
theorem dX0_minister_13 : decode cX0_minister 13 = .ok (.ireturn, 1) := dk_172 (dk_at dksX0_minister_0 13 rfl rfl)
theorem dX0_minister_14 : decode cX0_minister 14 = .ok (.aload_n 0, 1) := dk_42 (dk_at dksX0_minister_0 14 rfl rfl)
theorem dX0_minister_15 : decode cX0_minister 15 = .ok (.getfield 105, 3) := dk_180 0 105 (dk_at dksX0_minister_0 15 rfl rfl)
theorem dX0_minister_18 : decode cX0_minister 18 = .ok (.iload_n 1, 1) := dk_27 (dk_at dksX0_minister_0 18 rfl rfl)
theorem dX0_minister_19 : decode cX0_minister 19 = .ok (.aaload, 1) := dk_50 (dk_at dksX0_minister_0 19 rfl rfl)
theorem dX0_minister_20 : decode cX0_minister 20 = .ok (.astore_n 2, 1) := dk_77 (dk_at dksX0_minister_0 20 rfl rfl)
theorem dX0_minister_21 : decode cX0_minister 21 = .ok (.aload_n 2, 1) := dk_44 (dk_at dksX0_minister_0 21 rfl rfl)
theorem dX0_minister_22 : decode cX0_minister 22 = .ok (.getfield 513, 3) := dk_180 2 1 (dk_at dksX0_minister_1 0 rfl rfl)
theorem dX0_minister_25 : decode cX0_minister 25 = .ok (.ifnonnull 10, 3) := dk_199 0 10 (dk_at dksX0_minister_1 3 rfl rfl)
theorem dX0_minister_28 : decode cX0_minister 28 = .ok (.aload_n 0, 1) := dk_42 (dk_at dksX0_minister_1 6 rfl rfl)
theorem dX0_minister_29 : decode cX0_minister 29 = .ok (.bipush (-6), 2) := dk_16 250 (dk_at dksX0_minister_1 7 rfl rfl)
theorem dX0_minister_31 : decode cX0_minister 31 = .ok (.invokevirtual 119, 3) := dk_182 0 119 (dk_at dksX0_minister_1 9 rfl rfl)
theorem dX0_minister_34 : decode cX0_minister 34 = .ok (.ireturn, 1) := dk_172 (dk_at dksX0_minister_1 12 rfl rfl)
theorem dX0_minister_35 : decode cX0_minister 35 = .ok (.aload_n 2, 1) := dk_44 (dk_at dksX0_minister_1 13 rfl rfl)
theorem dX0_minister_36 : decode cX0_minister 36 = .ok (.invokevirtual 517, 3) := dk_182 2 5 (dk_at dksX0_minister_1 14 rfl rfl)
theorem dX0_minister_39 : decode cX0_minister 39 = .ok (.iconst 5, 1) := dk_8 (dk_at dksX0_minister_1 17 rfl rfl)
theorem dX0_minister_40 : decode cX0_minister 40 = .ok (.idiv, 1) := dk_108 (dk_at dksX0_minister_1 18 rfl rfl)
theorem dX0_minister_41 : decode cX0_minister 41 = .ok (.istore_n 3, 1) := dk_62 (dk_at dksX0_minister_1 19 rfl rfl)
theorem dX0_minister_42 : decode cX0_minister 42 = .ok (.aload_n 2, 1) := dk_44 (dk_at dksX0_minister_1 20 rfl rfl)
theorem dX0_minister_43 : decode cX0_minister 43 = .ok (.invokevirtual 517, 3) := dk_182 2 5 (dk_at dksX0_minister_1 21 rfl rfl)
theorem dX0_minister_46 : decode cX0_minister 46 = .ok (.iconst 5, 1) := dk_8 (dk_at dksX0_minister_2 0 rfl rfl)
theorem dX0_minister_47 : decode cX0_minister 47 = .ok (.irem, 1) := dk_112 (dk_at dksX0_minister_2 1 rfl rfl)
theorem dX0_minister_48 : decode cX0_minister 48 = .ok (.ifCond .eq 10, 3) := dk_153 0 10 (dk_at dksX0_minister_2 2 rfl rfl)
theorem dX0_minister_51 : decode cX0_minister 51 = .ok (.aload_n 0, 1) := dk_42 (dk_at dksX0_minister_2 5 rfl rfl)
theorem dX0_minister_52 : decode cX0_minister 52 = .ok (.bipush (-7), 2) := dk_16 249 (dk_at dksX0_minister_2 6 rfl rfl)
theorem dX0_minister_54 : decode cX0_minister 54 = .ok (.invokevirtual 119, 3) := dk_182 0 119 (dk_at dksX0_minister_2 8 rfl rfl)
theorem dX0_minister_57 : decode cX0_minister 57 = .ok (.ireturn, 1) := dk_172 (dk_at dksX0_minister_2 11 rfl rfl)
theorem dX0_minister_58 : decode cX0_minister 58 = .ok (.iconst 0, 1) := dk_3 (dk_at dksX0_minister_2 12 rfl rfl)
theorem dX0_minister_59 : decode cX0_minister 59 = .ok (.istore 4, 2) := dk_54 4 (dk_at dksX0_minister_2 13 rfl rfl)
theorem dX0_minister_61 : decode cX0_minister 61 = .ok (.iload 4, 2) := dk_21 4 (dk_at dksX0_minister_2 15 rfl rfl)
theorem dX0_minister_63 : decode cX0_minister 63 = .ok (.iload_n 3, 1) := dk_29 (dk_at dksX0_minister_2 17 rfl rfl)
theorem dX0_minister_64 : decode cX0_minister 64 = .ok (.if_icmp .ge 70, 3) := dk_162 0 70 (dk_at dksX0_minister_2 18 rfl rfl)
theorem dX0_minister_67 : decode cX0_minister 67 = .ok (.aload_n 2, 1) := dk_44 (dk_at dksX0_minister_2 21 rfl rfl)
theorem dX0_minister_68 : decode cX0_minister 68 = .ok (.iconst 5, 1) := dk_8 (dk_at dksX0_minister_2 22 rfl rfl)
theorem dX0_minister_69 : decode cX0_minister 69 = .ok (.iload 4, 2) := dk_21 4 (dk_at dksX0_minister_3 0 rfl rfl)
theorem dX0_minister_71 : decode cX0_minister 71 = .ok (.imul, 1) := dk_104 (dk_at dksX0_minister_3 2 rfl rfl)
theorem dX0_minister_72 : decode cX0_minister 72 = .ok (.invokevirtual 505, 3) := dk_182 1 249 (dk_at dksX0_minister_3 3 rfl rfl)
theorem dX0_minister_75 : decode cX0_minister 75 = .ok (.aload_n 2, 1) := dk_44 (dk_at dksX0_minister_3 6 rfl rfl)
theorem dX0_minister_76 : decode cX0_minister 76 = .ok (.iconst 5, 1) := dk_8 (dk_at dksX0_minister_3 7 rfl rfl)
theorem dX0_minister_77 : decode cX0_minister 77 = .ok (.iload 4, 2) := dk_21 4 (dk_at dksX0_minister_3 8 rfl rfl)
theorem dX0_minister_79 : decode cX0_minister 79 = .ok (.imul, 1) := dk_104 (dk_at dksX0_minister_3 10 rfl rfl)
theorem dX0_minister_80 : decode cX0_minister 80 = .ok (.iconst 1, 1) := dk_4 (dk_at dksX0_minister_3 11 rfl rfl)
theorem dX0_minister_81 : decode cX0_minister 81 = .ok (.iadd, 1) := dk_96 (dk_at dksX0_minister_3 12 rfl rfl)
theorem dX0_minister_82 : decode cX0_minister 82 = .ok (.invokevirtual 505, 3) := dk_182 1 249 (dk_at dksX0_minister_3 13 rfl rfl)
theorem dX0_minister_85 : decode cX0_minister 85 = .ok (.aload_n 2, 1) := dk_44 (dk_at dksX0_minister_3 16 rfl rfl)
theorem dX0_minister_86 : decode cX0_minister 86 = .ok (.iconst 5, 1) := dk_8 (dk_at dksX0_minister_3 17 rfl rfl)
theorem dX0_minister_87 : decode cX0_minister 87 = .ok (.iload 4, 2) := dk_21 4 (dk_at dksX0_minister_3 18 rfl rfl)
theorem dX0_minister_89 : decode cX0_minister 89 = .ok (.imul, 1) := dk_104 (dk_at dksX0_minister_3 20 rfl rfl)
theorem dX0_minister_90 : decode cX0_minister 90 = .ok (.iconst 2, 1) := dk_5 (dk_at dksX0_minister_3 21 rfl rfl)
theorem dX0_minister_91 : decode cX0_minister 91 = .ok (.iadd, 1) := dk_96 (dk_at dksX0_minister_3 22 rfl rfl)
theorem dX0_minister_92 : decode cX0_minister 92 = .ok (.invokevirtual 505, 3) := dk_182 1 249 (dk_at dksX0_minister_4 0 rfl rfl)
theorem dX0_minister_95 : decode cX0_minister 95 = .ok (.aload_n 2, 1) := dk_44 (dk_at dksX0_minister_4 3 rfl rfl)
theorem dX0_minister_96 : decode cX0_minister 96 = .ok (.iconst 5, 1) := dk_8 (dk_at dksX0_minister_4 4 rfl rfl)
theorem dX0_minister_97 : decode cX0_minister 97 = .ok (.iload 4, 2) := dk_21 4 (dk_at dksX0_minister_4 5 rfl rfl)
theorem dX0_minister_99 : decode cX0_minister 99 = .ok (.imul, 1) := dk_104 (dk_at dksX0_minister_4 7 rfl rfl)
theorem dX0_minister_100 : decode cX0_minister 100 = .ok (.iconst 3, 1) := dk_6 (dk_at dksX0_minister_4 8 rfl rfl)
theorem dX0_minister_101 : decode cX0_minister 101 = .ok (.iadd, 1) := dk_96 (dk_at dksX0_minister_4 9 rfl rfl)
theorem dX0_minister_102 : decode cX0_minister 102 = .ok (.invokevirtual 505, 3) := dk_182 1 249 (dk_at dksX0_minister_4 10 rfl rfl)
theorem dX0_minister_105 : decode cX0_minister 105 = .ok (.aload_n 2, 1) := dk_44 (dk_at dksX0_minister_4 13 rfl rfl)
theorem dX0_minister_106 : decode cX0_minister 106 = .ok (.iconst 5, 1) := dk_8 (dk_at dksX0_minister_4 14 rfl rfl)
theorem dX0_minister_107 : decode cX0_minister 107 = .ok (.iload 4, 2) := dk_21 4 (dk_at dksX0_minister_4 15 rfl rfl)
theorem dX0_minister_109 : decode cX0_minister 109 = .ok (.imul, 1) := dk_104 (dk_at dksX0_minister_4 17 rfl rfl)
theorem dX0_minister_110 : decode cX0_minister 110 = .ok (.iconst 4, 1) := dk_7 (dk_at dksX0_minister_4 18 rfl rfl)
theorem dX0_minister_111 : decode cX0_minister 111 = .ok (.iadd, 1) := dk_96 (dk_at dksX0_minister_4 19 rfl rfl)
theorem dX0_minister_112 : decode cX0_minister 112 = .ok (.invokevirtual 505, 3) := dk_182 1 249 (dk_at dksX0_minister_4 20 rfl rfl)
theorem dX0_minister_115 : decode cX0_minister 115 = .ok (.invokestatic 409, 3) := dk_184 1 153 (dk_at dksX0_minister_5 0 rfl rfl)
theorem dX0_minister_118 : decode cX0_minister 118 = .ok (.ifCond .ne 10, 3) := dk_154 0 10 (dk_at dksX0_minister_5 3 rfl rfl)
theorem dX0_minister_121 : decode cX0_minister 121 = .ok (.aload_n 0, 1) := dk_42 (dk_at dksX0_minister_5 6 rfl rfl)
theorem dX0_minister_122 : decode cX0_minister 122 = .ok (.bipush (-3), 2) := dk_16 253 (dk_at dksX0_minister_5 7 rfl rfl)
theorem dX0_minister_124 : decode cX0_minister 124 = .ok (.invokevirtual 119, 3) := dk_182 0 119 (dk_at dksX0_minister_5 9 rfl rfl)
theorem dX0_minister_127 : decode cX0_minister 127 = .ok (.ireturn, 1) := dk_172 (dk_at dksX0_minister_5 12 rfl rfl)
theorem dX0_minister_128 : decode cX0_minister 128 = .ok (.iinc 4 1, 3) := dk_132 4 1 (dk_at dksX0_minister_5 13 rfl rfl)
theorem dX0_minister_131 : decode cX0_minister 131 = .ok (.goto (-70), 3) := dk_167 255 186 (dk_at dksX0_minister_5 16 rfl rfl)
theorem dX0_minister_134 : decode cX0_minister 134 = .ok (.aload_n 0, 1) := dk_42 (dk_at dksX0_minister_5 19 rfl rfl)
theorem dX0_minister_135 : decode cX0_minister 135 = .ok (.getfield 26, 3) := dk_180 0 26 (dk_at dksX0_minister_5 20 rfl rfl)
theorem dX0_minister_138 : decode cX0_minister 138 = .ok (.getfield 413, 3) := dk_180 1 157 (dk_at dksX0_minister_6 0 rfl rfl)
theorem dX0_minister_141 : decode cX0_minister 141 = .ok (.invokevirtual 36, 3) := dk_182 0 36 (dk_at dksX0_minister_6 3 rfl rfl)
theorem dX0_minister_144 : decode cX0_minister 144 = .ok (.iload_n 3, 1) := dk_29 (dk_at dksX0_minister_6 6 rfl rfl)
theorem dX0_minister_145 : decode cX0_minister 145 = .ok (.iadd, 1) := dk_96 (dk_at dksX0_minister_6 7 rfl rfl)
theorem dX0_minister_146 : decode cX0_minister 146 = .ok (.bipush 60, 2) := dk_16 60 (dk_at dksX0_minister_6 8 rfl rfl)
theorem dX0_minister_148 : decode cX0_minister 148 = .ok (.if_icmp .le 10, 3) := dk_164 0 10 (dk_at dksX0_minister_6 10 rfl rfl)
theorem dX0_minister_151 : decode cX0_minister 151 = .ok (.aload_n 0, 1) := dk_42 (dk_at dksX0_minister_6 13 rfl rfl)
theorem dX0_minister_152 : decode cX0_minister 152 = .ok (.bipush (-4), 2) := dk_16 252 (dk_at dksX0_minister_6 14 rfl rfl)
theorem dX0_minister_154 : decode cX0_minister 154 = .ok (.invokevirtual 119, 3) := dk_182 0 119 (dk_at dksX0_minister_6 16 rfl rfl)
theorem dX0_minister_157 : decode cX0_minister 157 = .ok (.ireturn, 1) := dk_172 (dk_at dksX0_minister_6 19 rfl rfl)
theorem dX0_minister_158 : decode cX0_minister 158 = .ok (.iconst 0, 1) := dk_3 (dk_at dksX0_minister_6 20 rfl rfl)
theorem dX0_minister_159 : decode cX0_minister 159 = .ok (.istore 4, 2) := dk_54 4 (dk_at dksX0_minister_6 21 rfl rfl)
theorem dX0_minister_161 : decode cX0_minister 161 = .ok (.iload 4, 2) := dk_21 4 (dk_at dksX0_minister_7 0 rfl rfl)
theorem dX0_minister_163 : decode cX0_minister 163 = .ok (.iload_n 3, 1) := dk_29 (dk_at dksX0_minister_7 2 rfl rfl)
theorem dX0_minister_164 : decode cX0_minister 164 = .ok (.if_icmp .ge 81, 3) := dk_162 0 81 (dk_at dksX0_minister_7 3 rfl rfl)
theorem dX0_minister_167 : decode cX0_minister 167 = .ok (.aload_n 0, 1) := dk_42 (dk_at dksX0_minister_7 6 rfl rfl)
theorem dX0_minister_168 : decode cX0_minister 168 = .ok (.getfield 26, 3) := dk_180 0 26 (dk_at dksX0_minister_7 7 rfl rfl)
theorem dX0_minister_171 : decode cX0_minister 171 = .ok (.getfield 413, 3) := dk_180 1 157 (dk_at dksX0_minister_7 10 rfl rfl)
theorem dX0_minister_174 : decode cX0_minister 174 = .ok (.new 416, 3) := dk_187 1 160 (dk_at dksX0_minister_7 13 rfl rfl)
theorem dX0_minister_177 : decode cX0_minister 177 = .ok (.dup, 1) := dk_89 (dk_at dksX0_minister_7 16 rfl rfl)
theorem dX0_minister_178 : decode cX0_minister 178 = .ok (.aload_n 2, 1) := dk_44 (dk_at dksX0_minister_7 17 rfl rfl)
theorem dX0_minister_179 : decode cX0_minister 179 = .ok (.iconst 5, 1) := dk_8 (dk_at dksX0_minister_7 18 rfl rfl)
theorem dX0_minister_180 : decode cX0_minister 180 = .ok (.iload 4, 2) := dk_21 4 (dk_at dksX0_minister_7 19 rfl rfl)
theorem dX0_minister_182 : decode cX0_minister 182 = .ok (.imul, 1) := dk_104 (dk_at dksX0_minister_7 21 rfl rfl)
theorem dX0_minister_183 : decode cX0_minister 183 = .ok (.invokevirtual 505, 3) := dk_182 1 249 (dk_at dksX0_minister_8 0 rfl rfl)
theorem dX0_minister_186 : decode cX0_minister 186 = .ok (.l2i, 1) := dk_136 (dk_at dksX0_minister_8 3 rfl rfl)
theorem dX0_minister_187 : decode cX0_minister 187 = .ok (.aload_n 2, 1) := dk_44 (dk_at dksX0_minister_8 4 rfl rfl)
theorem dX0_minister_188 : decode cX0_minister 188 = .ok (.iconst 5, 1) := dk_8 (dk_at dksX0_minister_8 5 rfl rfl)
theorem dX0_minister_189 : decode cX0_minister 189 = .ok (.iload 4, 2) := dk_21 4 (dk_at dksX0_minister_8 6 rfl rfl)
theorem dX0_minister_191 : decode cX0_minister 191 = .ok (.imul, 1) := dk_104 (dk_at dksX0_minister_8 8 rfl rfl)
theorem dX0_minister_192 : decode cX0_minister 192 = .ok (.iconst 1, 1) := dk_4 (dk_at dksX0_minister_8 9 rfl rfl)
theorem dX0_minister_193 : decode cX0_minister 193 = .ok (.iadd, 1) := dk_96 (dk_at dksX0_minister_8 10 rfl rfl)
theorem dX0_minister_194 : decode cX0_minister 194 = .ok (.invokevirtual 505, 3) := dk_182 1 249 (dk_at dksX0_minister_8 11 rfl rfl)
theorem dX0_minister_197 : decode cX0_minister 197 = .ok (.l2i, 1) := dk_136 (dk_at dksX0_minister_8 14 rfl rfl)
theorem dX0_minister_198 : decode cX0_minister 198 = .ok (.aload_n 2, 1) := dk_44 (dk_at dksX0_minister_8 15 rfl rfl)
theorem dX0_minister_199 : decode cX0_minister 199 = .ok (.iconst 5, 1) := dk_8 (dk_at dksX0_minister_8 16 rfl rfl)
theorem dX0_minister_200 : decode cX0_minister 200 = .ok (.iload 4, 2) := dk_21 4 (dk_at dksX0_minister_8 17 rfl rfl)
theorem dX0_minister_202 : decode cX0_minister 202 = .ok (.imul, 1) := dk_104 (dk_at dksX0_minister_8 19 rfl rfl)
theorem dX0_minister_203 : decode cX0_minister 203 = .ok (.iconst 2, 1) := dk_5 (dk_at dksX0_minister_8 20 rfl rfl)
theorem dX0_minister_204 : decode cX0_minister 204 = .ok (.iadd, 1) := dk_96 (dk_at dksX0_minister_8 21 rfl rfl)
theorem dX0_minister_205 : decode cX0_minister 205 = .ok (.invokevirtual 505, 3) := dk_182 1 249 (dk_at dksX0_minister_9 0 rfl rfl)
theorem dX0_minister_208 : decode cX0_minister 208 = .ok (.l2i, 1) := dk_136 (dk_at dksX0_minister_9 3 rfl rfl)
theorem dX0_minister_209 : decode cX0_minister 209 = .ok (.aload_n 2, 1) := dk_44 (dk_at dksX0_minister_9 4 rfl rfl)
theorem dX0_minister_210 : decode cX0_minister 210 = .ok (.iconst 5, 1) := dk_8 (dk_at dksX0_minister_9 5 rfl rfl)
theorem dX0_minister_211 : decode cX0_minister 211 = .ok (.iload 4, 2) := dk_21 4 (dk_at dksX0_minister_9 6 rfl rfl)
theorem dX0_minister_213 : decode cX0_minister 213 = .ok (.imul, 1) := dk_104 (dk_at dksX0_minister_9 8 rfl rfl)
theorem dX0_minister_214 : decode cX0_minister 214 = .ok (.iconst 3, 1) := dk_6 (dk_at dksX0_minister_9 9 rfl rfl)
theorem dX0_minister_215 : decode cX0_minister 215 = .ok (.iadd, 1) := dk_96 (dk_at dksX0_minister_9 10 rfl rfl)
theorem dX0_minister_216 : decode cX0_minister 216 = .ok (.invokevirtual 505, 3) := dk_182 1 249 (dk_at dksX0_minister_9 11 rfl rfl)
theorem dX0_minister_219 : decode cX0_minister 219 = .ok (.l2i, 1) := dk_136 (dk_at dksX0_minister_9 14 rfl rfl)
theorem dX0_minister_220 : decode cX0_minister 220 = .ok (.aload_n 2, 1) := dk_44 (dk_at dksX0_minister_9 15 rfl rfl)
theorem dX0_minister_221 : decode cX0_minister 221 = .ok (.iconst 5, 1) := dk_8 (dk_at dksX0_minister_9 16 rfl rfl)
theorem dX0_minister_222 : decode cX0_minister 222 = .ok (.iload 4, 2) := dk_21 4 (dk_at dksX0_minister_9 17 rfl rfl)
theorem dX0_minister_224 : decode cX0_minister 224 = .ok (.imul, 1) := dk_104 (dk_at dksX0_minister_9 19 rfl rfl)
theorem dX0_minister_225 : decode cX0_minister 225 = .ok (.iconst 4, 1) := dk_7 (dk_at dksX0_minister_9 20 rfl rfl)
theorem dX0_minister_226 : decode cX0_minister 226 = .ok (.iadd, 1) := dk_96 (dk_at dksX0_minister_9 21 rfl rfl)
theorem dX0_minister_227 : decode cX0_minister 227 = .ok (.invokevirtual 505, 3) := dk_182 1 249 (dk_at dksX0_minister_10 0 rfl rfl)
theorem dX0_minister_230 : decode cX0_minister 230 = .ok (.l2i, 1) := dk_136 (dk_at dksX0_minister_10 3 rfl rfl)
theorem dX0_minister_231 : decode cX0_minister 231 = .ok (.aconst_null, 1) := dk_1 (dk_at dksX0_minister_10 4 rfl rfl)
theorem dX0_minister_232 : decode cX0_minister 232 = .ok (.invokespecial 418, 3) := dk_183 1 162 (dk_at dksX0_minister_10 5 rfl rfl)
theorem dX0_minister_235 : decode cX0_minister 235 = .ok (.invokevirtual 150, 3) := dk_182 0 150 (dk_at dksX0_minister_10 8 rfl rfl)
theorem dX0_minister_238 : decode cX0_minister 238 = .ok (.pop, 1) := dk_87 (dk_at dksX0_minister_10 11 rfl rfl)
theorem dX0_minister_239 : decode cX0_minister 239 = .ok (.iinc 4 1, 3) := dk_132 4 1 (dk_at dksX0_minister_10 12 rfl rfl)
theorem dX0_minister_242 : decode cX0_minister 242 = .ok (.goto (-81), 3) := dk_167 255 175 (dk_at dksX0_minister_10 15 rfl rfl)
theorem dX0_minister_245 : decode cX0_minister 245 = .ok (.iload_n 3, 1) := dk_29 (dk_at dksX0_minister_10 18 rfl rfl)
theorem dX0_minister_246 : decode cX0_minister 246 = .ok (.ireturn, 1) := dk_172 (dk_at dksX0_minister_10 19 rfl rfl)
abbrev cX0_say : ByteArray := prog_1_method_84_code
def yX0_say : MethodName := ⟨RX0, "say", "(I)I"⟩
def dkwX0_say_6 : List UInt8 := [192, 0, 173, 180, 0, 195, 182, 2, 8, 153, 0, 7, 8, 167, 0, 9, 45, 185, 2, 11, 1, 0, 172]
abbrev dktX0_say_6 : List UInt8 := dkwX0_say_6 ++ []
def dkwX0_say_5 : List UInt8 := [182, 1, 90, 78, 45, 193, 0, 80, 153, 0, 31, 42, 42, 180, 0, 26, 180, 0, 154, 27, 182, 0, 42]
abbrev dktX0_say_5 : List UInt8 := dkwX0_say_5 ++ dktX0_say_6
def dkwX0_say_4 : List UInt8 := [154, 0, 5, 3, 172, 42, 182, 1, 87, 42, 42, 180, 0, 26, 180, 0, 154, 27, 182, 0, 42, 192, 0, 173]
abbrev dktX0_say_4 : List UInt8 := dkwX0_say_4 ++ dktX0_say_5
def dkwX0_say_3 : List UInt8 := [192, 0, 145, 182, 1, 47, 153, 0, 7, 4, 167, 0, 4, 3, 61, 132, 3, 1, 167, 255, 208, 28]
abbrev dktX0_say_3 : List UInt8 := dkwX0_say_3 ++ dktX0_say_4
def dkwX0_say_2 : List UInt8 := [182, 0, 36, 162, 0, 40, 28, 154, 0, 24, 42, 42, 180, 0, 26, 180, 0, 135, 29, 182, 0, 42]
abbrev dktX0_say_2 : List UInt8 := dkwX0_say_2 ++ dktX0_say_3
def dkwX0_say_1 : List UInt8 := [182, 1, 31, 154, 0, 7, 4, 167, 0, 4, 3, 61, 3, 62, 29, 42, 180, 0, 26, 180, 0, 135]
abbrev dktX0_say_1 : List UInt8 := dkwX0_say_1 ++ dktX0_say_2
def dkwX0_say_0 : List UInt8 := [42, 27, 182, 0, 192, 154, 0, 10, 42, 16, 254, 182, 0, 119, 172, 42, 180, 0, 26, 180, 0, 138]
abbrev dktX0_say_0 : List UInt8 := dkwX0_say_0 ++ dktX0_say_1
theorem dksX0_say_0 : cX0_say.data.toList.drop 0 = dktX0_say_0 := by decide +kernel
theorem dksX0_say_1 : cX0_say.data.toList.drop 22 = dktX0_say_1 := dk_seg dksX0_say_0 22 rfl rfl
theorem dksX0_say_2 : cX0_say.data.toList.drop 44 = dktX0_say_2 := dk_seg dksX0_say_1 22 rfl rfl
theorem dksX0_say_3 : cX0_say.data.toList.drop 66 = dktX0_say_3 := dk_seg dksX0_say_2 22 rfl rfl
theorem dksX0_say_4 : cX0_say.data.toList.drop 88 = dktX0_say_4 := dk_seg dksX0_say_3 22 rfl rfl
theorem dksX0_say_5 : cX0_say.data.toList.drop 112 = dktX0_say_5 := dk_seg dksX0_say_4 24 rfl rfl
theorem dksX0_say_6 : cX0_say.data.toList.drop 135 = dktX0_say_6 := dk_seg dksX0_say_5 23 rfl rfl
theorem dX0_say_0 : decode cX0_say 0 = .ok (.aload_n 0, 1) := dk_42 (dk_at dksX0_say_0 0 rfl rfl)
theorem dX0_say_1 : decode cX0_say 1 = .ok (.iload_n 1, 1) := dk_27 (dk_at dksX0_say_0 1 rfl rfl)
theorem dX0_say_2 : decode cX0_say 2 = .ok (.invokevirtual 192, 3) := dk_182 0 192 (dk_at dksX0_say_0 2 rfl rfl)
theorem dX0_say_5 : decode cX0_say 5 = .ok (.ifCond .ne 10, 3) := dk_154 0 10 (dk_at dksX0_say_0 5 rfl rfl)
theorem dX0_say_8 : decode cX0_say 8 = .ok (.aload_n 0, 1) := dk_42 (dk_at dksX0_say_0 8 rfl rfl)
theorem dX0_say_9 : decode cX0_say 9 = .ok (.bipush (-2), 2) := dk_16 254 (dk_at dksX0_say_0 9 rfl rfl)
theorem dX0_say_11 : decode cX0_say 11 = .ok (.invokevirtual 119, 3) := dk_182 0 119 (dk_at dksX0_say_0 11 rfl rfl)
theorem dX0_say_14 : decode cX0_say 14 = .ok (.ireturn, 1) := dk_172 (dk_at dksX0_say_0 14 rfl rfl)
theorem dX0_say_15 : decode cX0_say 15 = .ok (.aload_n 0, 1) := dk_42 (dk_at dksX0_say_0 15 rfl rfl)
theorem dX0_say_16 : decode cX0_say 16 = .ok (.getfield 26, 3) := dk_180 0 26 (dk_at dksX0_say_0 16 rfl rfl)
theorem dX0_say_19 : decode cX0_say 19 = .ok (.getfield 138, 3) := dk_180 0 138 (dk_at dksX0_say_0 19 rfl rfl)
theorem dX0_say_22 : decode cX0_say 22 = .ok (.invokevirtual 287, 3) := dk_182 1 31 (dk_at dksX0_say_1 0 rfl rfl)
theorem dX0_say_25 : decode cX0_say 25 = .ok (.ifCond .ne 7, 3) := dk_154 0 7 (dk_at dksX0_say_1 3 rfl rfl)
theorem dX0_say_28 : decode cX0_say 28 = .ok (.iconst 1, 1) := dk_4 (dk_at dksX0_say_1 6 rfl rfl)
theorem dX0_say_29 : decode cX0_say 29 = .ok (.goto 4, 3) := dk_167 0 4 (dk_at dksX0_say_1 7 rfl rfl)
theorem dX0_say_32 : decode cX0_say 32 = .ok (.iconst 0, 1) := dk_3 (dk_at dksX0_say_1 10 rfl rfl)
theorem dX0_say_33 : decode cX0_say 33 = .ok (.istore_n 2, 1) := dk_61 (dk_at dksX0_say_1 11 rfl rfl)
theorem dX0_say_34 : decode cX0_say 34 = .ok (.iconst 0, 1) := dk_3 (dk_at dksX0_say_1 12 rfl rfl)
theorem dX0_say_35 : decode cX0_say 35 = .ok (.istore_n 3, 1) := dk_62 (dk_at dksX0_say_1 13 rfl rfl)
theorem dX0_say_36 : decode cX0_say 36 = .ok (.iload_n 3, 1) := dk_29 (dk_at dksX0_say_1 14 rfl rfl)
theorem dX0_say_37 : decode cX0_say 37 = .ok (.aload_n 0, 1) := dk_42 (dk_at dksX0_say_1 15 rfl rfl)
theorem dX0_say_38 : decode cX0_say 38 = .ok (.getfield 26, 3) := dk_180 0 26 (dk_at dksX0_say_1 16 rfl rfl)
theorem dX0_say_41 : decode cX0_say 41 = .ok (.getfield 135, 3) := dk_180 0 135 (dk_at dksX0_say_1 19 rfl rfl)
theorem dX0_say_44 : decode cX0_say 44 = .ok (.invokevirtual 36, 3) := dk_182 0 36 (dk_at dksX0_say_2 0 rfl rfl)
theorem dX0_say_47 : decode cX0_say 47 = .ok (.if_icmp .ge 40, 3) := dk_162 0 40 (dk_at dksX0_say_2 3 rfl rfl)
theorem dX0_say_50 : decode cX0_say 50 = .ok (.iload_n 2, 1) := dk_28 (dk_at dksX0_say_2 6 rfl rfl)
theorem dX0_say_51 : decode cX0_say 51 = .ok (.ifCond .ne 24, 3) := dk_154 0 24 (dk_at dksX0_say_2 7 rfl rfl)
theorem dX0_say_54 : decode cX0_say 54 = .ok (.aload_n 0, 1) := dk_42 (dk_at dksX0_say_2 10 rfl rfl)
theorem dX0_say_55 : decode cX0_say 55 = .ok (.aload_n 0, 1) := dk_42 (dk_at dksX0_say_2 11 rfl rfl)
theorem dX0_say_56 : decode cX0_say 56 = .ok (.getfield 26, 3) := dk_180 0 26 (dk_at dksX0_say_2 12 rfl rfl)
theorem dX0_say_59 : decode cX0_say 59 = .ok (.getfield 135, 3) := dk_180 0 135 (dk_at dksX0_say_2 15 rfl rfl)
theorem dX0_say_62 : decode cX0_say 62 = .ok (.iload_n 3, 1) := dk_29 (dk_at dksX0_say_2 18 rfl rfl)
theorem dX0_say_63 : decode cX0_say 63 = .ok (.invokevirtual 42, 3) := dk_182 0 42 (dk_at dksX0_say_2 19 rfl rfl)
theorem dX0_say_66 : decode cX0_say 66 = .ok (.checkcast 145, 3) := dk_192 0 145 (dk_at dksX0_say_3 0 rfl rfl)
theorem dX0_say_69 : decode cX0_say 69 = .ok (.invokevirtual 303, 3) := dk_182 1 47 (dk_at dksX0_say_3 3 rfl rfl)
theorem dX0_say_72 : decode cX0_say 72 = .ok (.ifCond .eq 7, 3) := dk_153 0 7 (dk_at dksX0_say_3 6 rfl rfl)
theorem dX0_say_75 : decode cX0_say 75 = .ok (.iconst 1, 1) := dk_4 (dk_at dksX0_say_3 9 rfl rfl)
theorem dX0_say_76 : decode cX0_say 76 = .ok (.goto 4, 3) := dk_167 0 4 (dk_at dksX0_say_3 10 rfl rfl)
theorem dX0_say_79 : decode cX0_say 79 = .ok (.iconst 0, 1) := dk_3 (dk_at dksX0_say_3 13 rfl rfl)
theorem dX0_say_80 : decode cX0_say 80 = .ok (.istore_n 2, 1) := dk_61 (dk_at dksX0_say_3 14 rfl rfl)
theorem dX0_say_81 : decode cX0_say 81 = .ok (.iinc 3 1, 3) := dk_132 3 1 (dk_at dksX0_say_3 15 rfl rfl)
theorem dX0_say_84 : decode cX0_say 84 = .ok (.goto (-48), 3) := dk_167 255 208 (dk_at dksX0_say_3 18 rfl rfl)
theorem dX0_say_87 : decode cX0_say 87 = .ok (.iload_n 2, 1) := dk_28 (dk_at dksX0_say_3 21 rfl rfl)
theorem dX0_say_88 : decode cX0_say 88 = .ok (.ifCond .ne 5, 3) := dk_154 0 5 (dk_at dksX0_say_4 0 rfl rfl)
theorem dX0_say_91 : decode cX0_say 91 = .ok (.iconst 0, 1) := dk_3 (dk_at dksX0_say_4 3 rfl rfl)
theorem dX0_say_92 : decode cX0_say 92 = .ok (.ireturn, 1) := dk_172 (dk_at dksX0_say_4 4 rfl rfl)
theorem dX0_say_93 : decode cX0_say 93 = .ok (.aload_n 0, 1) := dk_42 (dk_at dksX0_say_4 5 rfl rfl)
theorem dX0_say_94 : decode cX0_say 94 = .ok (.invokevirtual 343, 3) := dk_182 1 87 (dk_at dksX0_say_4 6 rfl rfl)
theorem dX0_say_97 : decode cX0_say 97 = .ok (.aload_n 0, 1) := dk_42 (dk_at dksX0_say_4 9 rfl rfl)
theorem dX0_say_98 : decode cX0_say 98 = .ok (.aload_n 0, 1) := dk_42 (dk_at dksX0_say_4 10 rfl rfl)
theorem dX0_say_99 : decode cX0_say 99 = .ok (.getfield 26, 3) := dk_180 0 26 (dk_at dksX0_say_4 11 rfl rfl)
theorem dX0_say_102 : decode cX0_say 102 = .ok (.getfield 154, 3) := dk_180 0 154 (dk_at dksX0_say_4 14 rfl rfl)
theorem dX0_say_105 : decode cX0_say 105 = .ok (.iload_n 1, 1) := dk_27 (dk_at dksX0_say_4 17 rfl rfl)
theorem dX0_say_106 : decode cX0_say 106 = .ok (.invokevirtual 42, 3) := dk_182 0 42 (dk_at dksX0_say_4 18 rfl rfl)
theorem dX0_say_109 : decode cX0_say 109 = .ok (.checkcast 173, 3) := dk_192 0 173 (dk_at dksX0_say_4 21 rfl rfl)
theorem dX0_say_112 : decode cX0_say 112 = .ok (.invokevirtual 346, 3) := dk_182 1 90 (dk_at dksX0_say_5 0 rfl rfl)
theorem dX0_say_115 : decode cX0_say 115 = .ok (.astore_n 3, 1) := dk_78 (dk_at dksX0_say_5 3 rfl rfl)
theorem dX0_say_116 : decode cX0_say 116 = .ok (.aload_n 3, 1) := dk_45 (dk_at dksX0_say_5 4 rfl rfl)
theorem dX0_say_117 : decode cX0_say 117 = .ok (.instanceof 80, 3) := dk_193 0 80 (dk_at dksX0_say_5 5 rfl rfl)
theorem dX0_say_120 : decode cX0_say 120 = .ok (.ifCond .eq 31, 3) := dk_153 0 31 (dk_at dksX0_say_5 8 rfl rfl)
theorem dX0_say_123 : decode cX0_say 123 = .ok (.aload_n 0, 1) := dk_42 (dk_at dksX0_say_5 11 rfl rfl)
theorem dX0_say_124 : decode cX0_say 124 = .ok (.aload_n 0, 1) := dk_42 (dk_at dksX0_say_5 12 rfl rfl)
theorem dX0_say_125 : decode cX0_say 125 = .ok (.getfield 26, 3) := dk_180 0 26 (dk_at dksX0_say_5 13 rfl rfl)
theorem dX0_say_128 : decode cX0_say 128 = .ok (.getfield 154, 3) := dk_180 0 154 (dk_at dksX0_say_5 16 rfl rfl)
theorem dX0_say_131 : decode cX0_say 131 = .ok (.iload_n 1, 1) := dk_27 (dk_at dksX0_say_5 19 rfl rfl)
theorem dX0_say_132 : decode cX0_say 132 = .ok (.invokevirtual 42, 3) := dk_182 0 42 (dk_at dksX0_say_5 20 rfl rfl)
theorem dX0_say_135 : decode cX0_say 135 = .ok (.checkcast 173, 3) := dk_192 0 173 (dk_at dksX0_say_6 0 rfl rfl)
theorem dX0_say_138 : decode cX0_say 138 = .ok (.getfield 195, 3) := dk_180 0 195 (dk_at dksX0_say_6 3 rfl rfl)
theorem dX0_say_141 : decode cX0_say 141 = .ok (.invokevirtual 520, 3) := dk_182 2 8 (dk_at dksX0_say_6 6 rfl rfl)
theorem dX0_say_144 : decode cX0_say 144 = .ok (.ifCond .eq 7, 3) := dk_153 0 7 (dk_at dksX0_say_6 9 rfl rfl)
theorem dX0_say_147 : decode cX0_say 147 = .ok (.iconst 5, 1) := dk_8 (dk_at dksX0_say_6 12 rfl rfl)
theorem dX0_say_148 : decode cX0_say 148 = .ok (.goto 9, 3) := dk_167 0 9 (dk_at dksX0_say_6 13 rfl rfl)
theorem dX0_say_151 : decode cX0_say 151 = .ok (.aload_n 3, 1) := dk_45 (dk_at dksX0_say_6 16 rfl rfl)
theorem dX0_say_152 : decode cX0_say 152 = .ok (.invokeinterface 523 1, 5) := by decide +kernel
theorem dX0_say_157 : decode cX0_say 157 = .ok (.ireturn, 1) := dk_172 (dk_at dksX0_say_6 22 rfl rfl)
abbrev cX0_isInLate : ByteArray := prog_1_method_83_code
def yX0_isInLate : MethodName := ⟨RX0, "isInLate", "(LNobodysBard$Phrase;)Z"⟩
def dkwX0_isInLate_4 : List UInt8 := [172]
abbrev dktX0_isInLate_4 : List UInt8 := dkwX0_isInLate_4 ++ []
def dkwX0_isInLate_3 : List UInt8 := [180, 0, 26, 180, 0, 186, 161, 0, 5, 4, 172, 132, 4, 1, 167, 255, 204, 132, 2, 1, 167, 255, 166, 3]
abbrev dktX0_isInLate_3 : List UInt8 := dkwX0_isInLate_3 ++ dktX0_isInLate_4
def dkwX0_isInLate_2 : List UInt8 := [182, 0, 36, 162, 0, 38, 42, 43, 45, 180, 0, 178, 21, 4, 182, 0, 42, 192, 0, 2, 182, 0, 218, 42]
abbrev dktX0_isInLate_2 : List UInt8 := dkwX0_isInLate_2 ++ dktX0_isInLate_3
def dkwX0_isInLate_1 : List UInt8 := [182, 0, 42, 192, 0, 145, 78, 3, 54, 4, 42, 45, 182, 1, 47, 154, 0, 50, 21, 4, 45, 180, 0, 178]
abbrev dktX0_isInLate_1 : List UInt8 := dkwX0_isInLate_1 ++ dktX0_isInLate_2
def dkwX0_isInLate_0 : List UInt8 := [3, 61, 28, 42, 180, 0, 26, 180, 0, 135, 182, 0, 36, 162, 0, 82, 42, 180, 0, 26, 180, 0, 135, 28]
abbrev dktX0_isInLate_0 : List UInt8 := dkwX0_isInLate_0 ++ dktX0_isInLate_1
theorem dksX0_isInLate_0 : cX0_isInLate.data.toList.drop 0 = dktX0_isInLate_0 := by decide +kernel
theorem dksX0_isInLate_1 : cX0_isInLate.data.toList.drop 24 = dktX0_isInLate_1 := dk_seg dksX0_isInLate_0 24 rfl rfl
theorem dksX0_isInLate_2 : cX0_isInLate.data.toList.drop 48 = dktX0_isInLate_2 := dk_seg dksX0_isInLate_1 24 rfl rfl
theorem dksX0_isInLate_3 : cX0_isInLate.data.toList.drop 72 = dktX0_isInLate_3 := dk_seg dksX0_isInLate_2 24 rfl rfl
theorem dksX0_isInLate_4 : cX0_isInLate.data.toList.drop 96 = dktX0_isInLate_4 := dk_seg dksX0_isInLate_3 24 rfl rfl
theorem dX0_isInLate_0 : decode cX0_isInLate 0 = .ok (.iconst 0, 1) := dk_3 (dk_at dksX0_isInLate_0 0 rfl rfl)
theorem dX0_isInLate_1 : decode cX0_isInLate 1 = .ok (.istore_n 2, 1) := dk_61 (dk_at dksX0_isInLate_0 1 rfl rfl)
theorem dX0_isInLate_2 : decode cX0_isInLate 2 = .ok (.iload_n 2, 1) := dk_28 (dk_at dksX0_isInLate_0 2 rfl rfl)
theorem dX0_isInLate_3 : decode cX0_isInLate 3 = .ok (.aload_n 0, 1) := dk_42 (dk_at dksX0_isInLate_0 3 rfl rfl)
theorem dX0_isInLate_4 : decode cX0_isInLate 4 = .ok (.getfield 26, 3) := dk_180 0 26 (dk_at dksX0_isInLate_0 4 rfl rfl)
theorem dX0_isInLate_7 : decode cX0_isInLate 7 = .ok (.getfield 135, 3) := dk_180 0 135 (dk_at dksX0_isInLate_0 7 rfl rfl)
theorem dX0_isInLate_10 : decode cX0_isInLate 10 = .ok (.invokevirtual 36, 3) := dk_182 0 36 (dk_at dksX0_isInLate_0 10 rfl rfl)
theorem dX0_isInLate_13 : decode cX0_isInLate 13 = .ok (.if_icmp .ge 82, 3) := dk_162 0 82 (dk_at dksX0_isInLate_0 13 rfl rfl)
theorem dX0_isInLate_16 : decode cX0_isInLate 16 = .ok (.aload_n 0, 1) := dk_42 (dk_at dksX0_isInLate_0 16 rfl rfl)
theorem dX0_isInLate_17 : decode cX0_isInLate 17 = .ok (.getfield 26, 3) := dk_180 0 26 (dk_at dksX0_isInLate_0 17 rfl rfl)
theorem dX0_isInLate_20 : decode cX0_isInLate 20 = .ok (.getfield 135, 3) := dk_180 0 135 (dk_at dksX0_isInLate_0 20 rfl rfl)
theorem dX0_isInLate_23 : decode cX0_isInLate 23 = .ok (.iload_n 2, 1) := dk_28 (dk_at dksX0_isInLate_0 23 rfl rfl)
theorem dX0_isInLate_24 : decode cX0_isInLate 24 = .ok (.invokevirtual 42, 3) := dk_182 0 42 (dk_at dksX0_isInLate_1 0 rfl rfl)
theorem dX0_isInLate_27 : decode cX0_isInLate 27 = .ok (.checkcast 145, 3) := dk_192 0 145 (dk_at dksX0_isInLate_1 3 rfl rfl)
theorem dX0_isInLate_30 : decode cX0_isInLate 30 = .ok (.astore_n 3, 1) := dk_78 (dk_at dksX0_isInLate_1 6 rfl rfl)
theorem dX0_isInLate_31 : decode cX0_isInLate 31 = .ok (.iconst 0, 1) := dk_3 (dk_at dksX0_isInLate_1 7 rfl rfl)
theorem dX0_isInLate_32 : decode cX0_isInLate 32 = .ok (.istore 4, 2) := dk_54 4 (dk_at dksX0_isInLate_1 8 rfl rfl)
theorem dX0_isInLate_34 : decode cX0_isInLate 34 = .ok (.aload_n 0, 1) := dk_42 (dk_at dksX0_isInLate_1 10 rfl rfl)
theorem dX0_isInLate_35 : decode cX0_isInLate 35 = .ok (.aload_n 3, 1) := dk_45 (dk_at dksX0_isInLate_1 11 rfl rfl)
theorem dX0_isInLate_36 : decode cX0_isInLate 36 = .ok (.invokevirtual 303, 3) := dk_182 1 47 (dk_at dksX0_isInLate_1 12 rfl rfl)
theorem dX0_isInLate_39 : decode cX0_isInLate 39 = .ok (.ifCond .ne 50, 3) := dk_154 0 50 (dk_at dksX0_isInLate_1 15 rfl rfl)
theorem dX0_isInLate_42 : decode cX0_isInLate 42 = .ok (.iload 4, 2) := dk_21 4 (dk_at dksX0_isInLate_1 18 rfl rfl)
theorem dX0_isInLate_44 : decode cX0_isInLate 44 = .ok (.aload_n 3, 1) := dk_45 (dk_at dksX0_isInLate_1 20 rfl rfl)
theorem dX0_isInLate_45 : decode cX0_isInLate 45 = .ok (.getfield 178, 3) := dk_180 0 178 (dk_at dksX0_isInLate_1 21 rfl rfl)
theorem dX0_isInLate_48 : decode cX0_isInLate 48 = .ok (.invokevirtual 36, 3) := dk_182 0 36 (dk_at dksX0_isInLate_2 0 rfl rfl)
theorem dX0_isInLate_51 : decode cX0_isInLate 51 = .ok (.if_icmp .ge 38, 3) := dk_162 0 38 (dk_at dksX0_isInLate_2 3 rfl rfl)
theorem dX0_isInLate_54 : decode cX0_isInLate 54 = .ok (.aload_n 0, 1) := dk_42 (dk_at dksX0_isInLate_2 6 rfl rfl)
theorem dX0_isInLate_55 : decode cX0_isInLate 55 = .ok (.aload_n 1, 1) := dk_43 (dk_at dksX0_isInLate_2 7 rfl rfl)
theorem dX0_isInLate_56 : decode cX0_isInLate 56 = .ok (.aload_n 3, 1) := dk_45 (dk_at dksX0_isInLate_2 8 rfl rfl)
theorem dX0_isInLate_57 : decode cX0_isInLate 57 = .ok (.getfield 178, 3) := dk_180 0 178 (dk_at dksX0_isInLate_2 9 rfl rfl)
theorem dX0_isInLate_60 : decode cX0_isInLate 60 = .ok (.iload 4, 2) := dk_21 4 (dk_at dksX0_isInLate_2 12 rfl rfl)
theorem dX0_isInLate_62 : decode cX0_isInLate 62 = .ok (.invokevirtual 42, 3) := dk_182 0 42 (dk_at dksX0_isInLate_2 14 rfl rfl)
theorem dX0_isInLate_65 : decode cX0_isInLate 65 = .ok (.checkcast 2, 3) := dk_192 0 2 (dk_at dksX0_isInLate_2 17 rfl rfl)
theorem dX0_isInLate_68 : decode cX0_isInLate 68 = .ok (.invokevirtual 218, 3) := dk_182 0 218 (dk_at dksX0_isInLate_2 20 rfl rfl)
theorem dX0_isInLate_71 : decode cX0_isInLate 71 = .ok (.aload_n 0, 1) := dk_42 (dk_at dksX0_isInLate_2 23 rfl rfl)
theorem dX0_isInLate_72 : decode cX0_isInLate 72 = .ok (.getfield 26, 3) := dk_180 0 26 (dk_at dksX0_isInLate_3 0 rfl rfl)
theorem dX0_isInLate_75 : decode cX0_isInLate 75 = .ok (.getfield 186, 3) := dk_180 0 186 (dk_at dksX0_isInLate_3 3 rfl rfl)
theorem dX0_isInLate_78 : decode cX0_isInLate 78 = .ok (.if_icmp .lt 5, 3) := dk_161 0 5 (dk_at dksX0_isInLate_3 6 rfl rfl)
theorem dX0_isInLate_81 : decode cX0_isInLate 81 = .ok (.iconst 1, 1) := dk_4 (dk_at dksX0_isInLate_3 9 rfl rfl)
theorem dX0_isInLate_82 : decode cX0_isInLate 82 = .ok (.ireturn, 1) := dk_172 (dk_at dksX0_isInLate_3 10 rfl rfl)
theorem dX0_isInLate_83 : decode cX0_isInLate 83 = .ok (.iinc 4 1, 3) := dk_132 4 1 (dk_at dksX0_isInLate_3 11 rfl rfl)
theorem dX0_isInLate_86 : decode cX0_isInLate 86 = .ok (.goto (-52), 3) := dk_167 255 204 (dk_at dksX0_isInLate_3 14 rfl rfl)
theorem dX0_isInLate_89 : decode cX0_isInLate 89 = .ok (.iinc 2 1, 3) := dk_132 2 1 (dk_at dksX0_isInLate_3 17 rfl rfl)
theorem dX0_isInLate_92 : decode cX0_isInLate 92 = .ok (.goto (-90), 3) := dk_167 255 166 (dk_at dksX0_isInLate_3 20 rfl rfl)
theorem dX0_isInLate_95 : decode cX0_isInLate 95 = .ok (.iconst 0, 1) := dk_3 (dk_at dksX0_isInLate_3 23 rfl rfl)
theorem dX0_isInLate_96 : decode cX0_isInLate 96 = .ok (.ireturn, 1) := dk_172 (dk_at dksX0_isInLate_4 0 rfl rfl)
abbrev cX0_image : ByteArray := prog_1_method_85_code
def yX0_image : MethodName := ⟨RX0, "image", "(I)I"⟩
def dkwX0_image_1 : List UInt8 := [180, 0, 26, 182, 2, 13, 83, 3, 172]
abbrev dktX0_image_1 : List UInt8 := dkwX0_image_1 ++ []
def dkwX0_image_0 : List UInt8 := [27, 133, 9, 10, 184, 0, 111, 154, 0, 10, 42, 16, 254, 182, 0, 119, 172, 42, 180, 0, 59, 27, 42]
abbrev dktX0_image_0 : List UInt8 := dkwX0_image_0 ++ dktX0_image_1
theorem dksX0_image_0 : cX0_image.data.toList.drop 0 = dktX0_image_0 := by decide +kernel
theorem dksX0_image_1 : cX0_image.data.toList.drop 23 = dktX0_image_1 := dk_seg dksX0_image_0 23 rfl rfl
theorem dX0_image_0 : decode cX0_image 0 = .ok (.iload_n 1, 1) := dk_27 (dk_at dksX0_image_0 0 rfl rfl)
theorem dX0_image_1 : decode cX0_image 1 = .ok (.i2l, 1) := dk_133 (dk_at dksX0_image_0 1 rfl rfl)
theorem dX0_image_2 : decode cX0_image 2 = .ok (.lconst 0, 1) := dk_9 (dk_at dksX0_image_0 2 rfl rfl)
theorem dX0_image_3 : decode cX0_image 3 = .ok (.lconst 1, 1) := dk_10 (dk_at dksX0_image_0 3 rfl rfl)
theorem dX0_image_4 : decode cX0_image 4 = .ok (.invokestatic 111, 3) := dk_184 0 111 (dk_at dksX0_image_0 4 rfl rfl)
theorem dX0_image_7 : decode cX0_image 7 = .ok (.ifCond .ne 10, 3) := dk_154 0 10 (dk_at dksX0_image_0 7 rfl rfl)
theorem dX0_image_10 : decode cX0_image 10 = .ok (.aload_n 0, 1) := dk_42 (dk_at dksX0_image_0 10 rfl rfl)
theorem dX0_image_11 : decode cX0_image 11 = .ok (.bipush (-2), 2) := dk_16 254 (dk_at dksX0_image_0 11 rfl rfl)
theorem dX0_image_13 : decode cX0_image 13 = .ok (.invokevirtual 119, 3) := dk_182 0 119 (dk_at dksX0_image_0 13 rfl rfl)
theorem dX0_image_16 : decode cX0_image 16 = .ok (.ireturn, 1) := dk_172 (dk_at dksX0_image_0 16 rfl rfl)
theorem dX0_image_17 : decode cX0_image 17 = .ok (.aload_n 0, 1) := dk_42 (dk_at dksX0_image_0 17 rfl rfl)
theorem dX0_image_18 : decode cX0_image 18 = .ok (.getfield 59, 3) := dk_180 0 59 (dk_at dksX0_image_0 18 rfl rfl)
theorem dX0_image_21 : decode cX0_image 21 = .ok (.iload_n 1, 1) := dk_27 (dk_at dksX0_image_0 21 rfl rfl)
theorem dX0_image_22 : decode cX0_image 22 = .ok (.aload_n 0, 1) := dk_42 (dk_at dksX0_image_0 22 rfl rfl)
theorem dX0_image_23 : decode cX0_image 23 = .ok (.getfield 26, 3) := dk_180 0 26 (dk_at dksX0_image_1 0 rfl rfl)
theorem dX0_image_26 : decode cX0_image 26 = .ok (.invokevirtual 525, 3) := dk_182 2 13 (dk_at dksX0_image_1 3 rfl rfl)
theorem dX0_image_29 : decode cX0_image 29 = .ok (.aastore, 1) := dk_83 (dk_at dksX0_image_1 6 rfl rfl)
theorem dX0_image_30 : decode cX0_image 30 = .ok (.iconst 0, 1) := dk_3 (dk_at dksX0_image_1 7 rfl rfl)
theorem dX0_image_31 : decode cX0_image 31 = .ok (.ireturn, 1) := dk_172 (dk_at dksX0_image_1 8 rfl rfl)
abbrev cX0_restore : ByteArray := prog_1_method_86_code
def yX0_restore : MethodName := ⟨RX0, "restore", "(I)I"⟩
def dkwX0_restore_2 : List UInt8 := [3, 181, 0, 141, 3, 172]
abbrev dktX0_restore_2 : List UInt8 := dkwX0_restore_2 ++ []
def dkwX0_restore_1 : List UInt8 := [199, 0, 10, 42, 16, 251, 182, 0, 119, 172, 42, 42, 180, 0, 59, 27, 50, 182, 2, 13, 181, 0, 26, 42]
abbrev dktX0_restore_1 : List UInt8 := dkwX0_restore_1 ++ dktX0_restore_2
def dkwX0_restore_0 : List UInt8 := [27, 133, 9, 10, 184, 0, 111, 154, 0, 10, 42, 16, 254, 182, 0, 119, 172, 42, 180, 0, 59, 27, 50]
abbrev dktX0_restore_0 : List UInt8 := dkwX0_restore_0 ++ dktX0_restore_1
theorem dksX0_restore_0 : cX0_restore.data.toList.drop 0 = dktX0_restore_0 := by decide +kernel
theorem dksX0_restore_1 : cX0_restore.data.toList.drop 23 = dktX0_restore_1 := dk_seg dksX0_restore_0 23 rfl rfl
theorem dksX0_restore_2 : cX0_restore.data.toList.drop 47 = dktX0_restore_2 := dk_seg dksX0_restore_1 24 rfl rfl
theorem dX0_restore_0 : decode cX0_restore 0 = .ok (.iload_n 1, 1) := dk_27 (dk_at dksX0_restore_0 0 rfl rfl)
theorem dX0_restore_1 : decode cX0_restore 1 = .ok (.i2l, 1) := dk_133 (dk_at dksX0_restore_0 1 rfl rfl)
theorem dX0_restore_2 : decode cX0_restore 2 = .ok (.lconst 0, 1) := dk_9 (dk_at dksX0_restore_0 2 rfl rfl)
theorem dX0_restore_3 : decode cX0_restore 3 = .ok (.lconst 1, 1) := dk_10 (dk_at dksX0_restore_0 3 rfl rfl)
theorem dX0_restore_4 : decode cX0_restore 4 = .ok (.invokestatic 111, 3) := dk_184 0 111 (dk_at dksX0_restore_0 4 rfl rfl)
theorem dX0_restore_7 : decode cX0_restore 7 = .ok (.ifCond .ne 10, 3) := dk_154 0 10 (dk_at dksX0_restore_0 7 rfl rfl)
theorem dX0_restore_10 : decode cX0_restore 10 = .ok (.aload_n 0, 1) := dk_42 (dk_at dksX0_restore_0 10 rfl rfl)
theorem dX0_restore_11 : decode cX0_restore 11 = .ok (.bipush (-2), 2) := dk_16 254 (dk_at dksX0_restore_0 11 rfl rfl)
theorem dX0_restore_13 : decode cX0_restore 13 = .ok (.invokevirtual 119, 3) := dk_182 0 119 (dk_at dksX0_restore_0 13 rfl rfl)
theorem dX0_restore_16 : decode cX0_restore 16 = .ok (.ireturn, 1) := dk_172 (dk_at dksX0_restore_0 16 rfl rfl)
theorem dX0_restore_17 : decode cX0_restore 17 = .ok (.aload_n 0, 1) := dk_42 (dk_at dksX0_restore_0 17 rfl rfl)
theorem dX0_restore_18 : decode cX0_restore 18 = .ok (.getfield 59, 3) := dk_180 0 59 (dk_at dksX0_restore_0 18 rfl rfl)
theorem dX0_restore_21 : decode cX0_restore 21 = .ok (.iload_n 1, 1) := dk_27 (dk_at dksX0_restore_0 21 rfl rfl)
theorem dX0_restore_22 : decode cX0_restore 22 = .ok (.aaload, 1) := dk_50 (dk_at dksX0_restore_0 22 rfl rfl)
theorem dX0_restore_23 : decode cX0_restore 23 = .ok (.ifnonnull 10, 3) := dk_199 0 10 (dk_at dksX0_restore_1 0 rfl rfl)
theorem dX0_restore_26 : decode cX0_restore 26 = .ok (.aload_n 0, 1) := dk_42 (dk_at dksX0_restore_1 3 rfl rfl)
theorem dX0_restore_27 : decode cX0_restore 27 = .ok (.bipush (-5), 2) := dk_16 251 (dk_at dksX0_restore_1 4 rfl rfl)
theorem dX0_restore_29 : decode cX0_restore 29 = .ok (.invokevirtual 119, 3) := dk_182 0 119 (dk_at dksX0_restore_1 6 rfl rfl)
theorem dX0_restore_32 : decode cX0_restore 32 = .ok (.ireturn, 1) := dk_172 (dk_at dksX0_restore_1 9 rfl rfl)
theorem dX0_restore_33 : decode cX0_restore 33 = .ok (.aload_n 0, 1) := dk_42 (dk_at dksX0_restore_1 10 rfl rfl)
theorem dX0_restore_34 : decode cX0_restore 34 = .ok (.aload_n 0, 1) := dk_42 (dk_at dksX0_restore_1 11 rfl rfl)
theorem dX0_restore_35 : decode cX0_restore 35 = .ok (.getfield 59, 3) := dk_180 0 59 (dk_at dksX0_restore_1 12 rfl rfl)
theorem dX0_restore_38 : decode cX0_restore 38 = .ok (.iload_n 1, 1) := dk_27 (dk_at dksX0_restore_1 15 rfl rfl)
theorem dX0_restore_39 : decode cX0_restore 39 = .ok (.aaload, 1) := dk_50 (dk_at dksX0_restore_1 16 rfl rfl)
theorem dX0_restore_40 : decode cX0_restore 40 = .ok (.invokevirtual 525, 3) := dk_182 2 13 (dk_at dksX0_restore_1 17 rfl rfl)
theorem dX0_restore_43 : decode cX0_restore 43 = .ok (.putfield 26, 3) := dk_181 0 26 (dk_at dksX0_restore_1 20 rfl rfl)
theorem dX0_restore_46 : decode cX0_restore 46 = .ok (.aload_n 0, 1) := dk_42 (dk_at dksX0_restore_1 23 rfl rfl)
theorem dX0_restore_47 : decode cX0_restore 47 = .ok (.iconst 0, 1) := dk_3 (dk_at dksX0_restore_2 0 rfl rfl)
theorem dX0_restore_48 : decode cX0_restore 48 = .ok (.putfield 141, 3) := dk_181 0 141 (dk_at dksX0_restore_2 1 rfl rfl)
theorem dX0_restore_51 : decode cX0_restore 51 = .ok (.iconst 0, 1) := dk_3 (dk_at dksX0_restore_2 4 rfl rfl)
theorem dX0_restore_52 : decode cX0_restore 52 = .ok (.ireturn, 1) := dk_172 (dk_at dksX0_restore_2 5 rfl rfl)
abbrev cX0_status : ByteArray := prog_1_method_87_code
def yX0_status : MethodName := ⟨RX0, "status", "(I)I"⟩
def dkwX0_status_0 : List UInt8 := [27, 133, 10, 20, 2, 17, 184, 0, 111, 153, 0, 12, 42, 180, 0, 63, 27, 46, 167, 0, 4, 2, 172]
abbrev dktX0_status_0 : List UInt8 := dkwX0_status_0 ++ []
theorem dksX0_status_0 : cX0_status.data.toList.drop 0 = dktX0_status_0 := by decide +kernel
theorem dX0_status_0 : decode cX0_status 0 = .ok (.iload_n 1, 1) := dk_27 (dk_at dksX0_status_0 0 rfl rfl)
theorem dX0_status_1 : decode cX0_status 1 = .ok (.i2l, 1) := dk_133 (dk_at dksX0_status_0 1 rfl rfl)
theorem dX0_status_2 : decode cX0_status 2 = .ok (.lconst 1, 1) := dk_10 (dk_at dksX0_status_0 2 rfl rfl)
theorem dX0_status_3 : decode cX0_status 3 = .ok (.ldc2_w 529, 3) := dk_20 2 17 (dk_at dksX0_status_0 3 rfl rfl)
theorem dX0_status_6 : decode cX0_status 6 = .ok (.invokestatic 111, 3) := dk_184 0 111 (dk_at dksX0_status_0 6 rfl rfl)
theorem dX0_status_9 : decode cX0_status 9 = .ok (.ifCond .eq 12, 3) := dk_153 0 12 (dk_at dksX0_status_0 9 rfl rfl)
theorem dX0_status_12 : decode cX0_status 12 = .ok (.aload_n 0, 1) := dk_42 (dk_at dksX0_status_0 12 rfl rfl)
theorem dX0_status_13 : decode cX0_status 13 = .ok (.getfield 63, 3) := dk_180 0 63 (dk_at dksX0_status_0 13 rfl rfl)
theorem dX0_status_16 : decode cX0_status 16 = .ok (.iload_n 1, 1) := dk_27 (dk_at dksX0_status_0 16 rfl rfl)
theorem dX0_status_17 : decode cX0_status 17 = .ok (.iaload, 1) := dk_46 (dk_at dksX0_status_0 17 rfl rfl)
theorem dX0_status_18 : decode cX0_status 18 = .ok (.goto 4, 3) := dk_167 0 4 (dk_at dksX0_status_0 18 rfl rfl)
theorem dX0_status_21 : decode cX0_status 21 = .ok (.iconst (-1), 1) := dk_2 (dk_at dksX0_status_0 21 rfl rfl)
theorem dX0_status_22 : decode cX0_status 22 = .ok (.ireturn, 1) := dk_172 (dk_at dksX0_status_0 22 rfl rfl)
abbrev cX0_count : ByteArray := prog_1_method_88_code
def yX0_count : MethodName := ⟨RX0, "count", "(I)I"⟩
def dkwX0_count_11 : List UInt8 := [167, 0, 4, 2, 172]
abbrev dktX0_count_11 : List UInt8 := dkwX0_count_11 ++ []
def dkwX0_count_10 : List UInt8 := [180, 0, 26, 180, 0, 138, 27, 17, 0, 200, 100, 182, 0, 42, 192, 0, 145, 180, 0, 178, 182, 0, 36]
abbrev dktX0_count_10 : List UInt8 := dkwX0_count_10 ++ dktX0_count_11
def dkwX0_count_9 : List UInt8 := [180, 0, 178, 182, 0, 36, 167, 0, 43, 42, 27, 17, 0, 200, 100, 182, 0, 162, 153, 0, 30, 42]
abbrev dktX0_count_9 : List UInt8 := dkwX0_count_9 ++ dktX0_count_10
def dkwX0_count_8 : List UInt8 := [100, 182, 0, 159, 153, 0, 29, 42, 180, 0, 26, 180, 0, 135, 27, 16, 100, 100, 182, 0, 42, 192, 0, 145]
abbrev dktX0_count_8 : List UInt8 := dkwX0_count_8 ++ dktX0_count_9
def dkwX0_count_7 : List UInt8 := [180, 0, 253, 180, 0, 254, 172, 42, 180, 0, 222, 172, 42, 180, 0, 26, 180, 0, 181, 172, 42, 27, 16, 100]
abbrev dktX0_count_7 : List UInt8 := dkwX0_count_7 ++ dktX0_count_8
def dkwX0_count_6 : List UInt8 := [180, 0, 26, 180, 1, 222, 172, 42, 180, 0, 26, 180, 0, 30, 182, 0, 36, 172, 42, 180, 0, 26]
abbrev dktX0_count_6 : List UInt8 := dkwX0_count_6 ++ dktX0_count_7
def dkwX0_count_5 : List UInt8 := [180, 0, 26, 180, 1, 204, 182, 0, 36, 172, 42, 180, 0, 26, 180, 1, 216, 182, 0, 36, 172, 42]
abbrev dktX0_count_5 : List UInt8 := dkwX0_count_5 ++ dktX0_count_6
def dkwX0_count_4 : List UInt8 := [180, 0, 26, 180, 0, 199, 182, 0, 36, 172, 42, 180, 0, 26, 180, 1, 196, 182, 0, 36, 172, 42]
abbrev dktX0_count_4 : List UInt8 := dkwX0_count_4 ++ dktX0_count_5
def dkwX0_count_3 : List UInt8 := [180, 0, 26, 180, 0, 154, 182, 0, 36, 172, 42, 180, 0, 26, 180, 1, 157, 182, 0, 36, 172, 42]
abbrev dktX0_count_3 : List UInt8 := dkwX0_count_3 ++ dktX0_count_4
def dkwX0_count_2 : List UInt8 := [42, 180, 0, 26, 180, 0, 135, 182, 0, 36, 172, 42, 180, 0, 26, 180, 0, 138, 182, 0, 36, 172, 42]
abbrev dktX0_count_2 : List UInt8 := dkwX0_count_2 ++ dktX0_count_3
def dkwX0_count_1 : List UInt8 := [170, 0, 0, 0, 0, 0, 198, 0, 0, 0, 0, 0, 0, 0, 12, 0, 0, 0, 67, 0, 0, 0, 78, 0, 0, 0, 89, 0, 0, 0, 100, 0, 0, 0, 111, 0, 0, 0, 122, 0, 0, 0, 133, 0, 0, 0, 144, 0, 0, 0, 155, 0, 0, 0, 163, 0, 0, 0, 174, 0, 0, 0, 185, 0, 0, 0, 190]
abbrev dktX0_count_1 : List UInt8 := dkwX0_count_1 ++ dktX0_count_2
def dkwX0_count_0 : List UInt8 := [27]
abbrev dktX0_count_0 : List UInt8 := dkwX0_count_0 ++ dktX0_count_1
theorem dksX0_count_0 : cX0_count.data.toList.drop 0 = dktX0_count_0 := by decide +kernel
theorem dksX0_count_1 : cX0_count.data.toList.drop 1 = dktX0_count_1 := dk_seg dksX0_count_0 1 rfl rfl
theorem dksX0_count_2 : cX0_count.data.toList.drop 68 = dktX0_count_2 := dk_seg dksX0_count_1 67 rfl rfl
theorem dksX0_count_3 : cX0_count.data.toList.drop 91 = dktX0_count_3 := dk_seg dksX0_count_2 23 rfl rfl
theorem dksX0_count_4 : cX0_count.data.toList.drop 113 = dktX0_count_4 := dk_seg dksX0_count_3 22 rfl rfl
theorem dksX0_count_5 : cX0_count.data.toList.drop 135 = dktX0_count_5 := dk_seg dksX0_count_4 22 rfl rfl
theorem dksX0_count_6 : cX0_count.data.toList.drop 157 = dktX0_count_6 := dk_seg dksX0_count_5 22 rfl rfl
theorem dksX0_count_7 : cX0_count.data.toList.drop 179 = dktX0_count_7 := dk_seg dksX0_count_6 22 rfl rfl
theorem dksX0_count_8 : cX0_count.data.toList.drop 203 = dktX0_count_8 := dk_seg dksX0_count_7 24 rfl rfl
theorem dksX0_count_9 : cX0_count.data.toList.drop 227 = dktX0_count_9 := dk_seg dksX0_count_8 24 rfl rfl
theorem dksX0_count_10 : cX0_count.data.toList.drop 249 = dktX0_count_10 := dk_seg dksX0_count_9 22 rfl rfl
theorem dksX0_count_11 : cX0_count.data.toList.drop 272 = dktX0_count_11 := dk_seg dksX0_count_10 23 rfl rfl
theorem dX0_count_0 : decode cX0_count 0 = .ok (.iload_n 1, 1) := dk_27 (dk_at dksX0_count_0 0 rfl rfl)
theorem dX0_count_1 : decode cX0_count 1 = .ok (.tableswitch 198 0 12 #[67, 78, 89, 100, 111, 122, 133, 144, 155, 163, 174, 185, 190], 67) := by decide +kernel
theorem dX0_count_68 : decode cX0_count 68 = .ok (.aload_n 0, 1) := dk_42 (dk_at dksX0_count_2 0 rfl rfl)
theorem dX0_count_69 : decode cX0_count 69 = .ok (.getfield 26, 3) := dk_180 0 26 (dk_at dksX0_count_2 1 rfl rfl)
theorem dX0_count_72 : decode cX0_count 72 = .ok (.getfield 135, 3) := dk_180 0 135 (dk_at dksX0_count_2 4 rfl rfl)
theorem dX0_count_75 : decode cX0_count 75 = .ok (.invokevirtual 36, 3) := dk_182 0 36 (dk_at dksX0_count_2 7 rfl rfl)
theorem dX0_count_78 : decode cX0_count 78 = .ok (.ireturn, 1) := dk_172 (dk_at dksX0_count_2 10 rfl rfl)
theorem dX0_count_79 : decode cX0_count 79 = .ok (.aload_n 0, 1) := dk_42 (dk_at dksX0_count_2 11 rfl rfl)
theorem dX0_count_80 : decode cX0_count 80 = .ok (.getfield 26, 3) := dk_180 0 26 (dk_at dksX0_count_2 12 rfl rfl)
theorem dX0_count_83 : decode cX0_count 83 = .ok (.getfield 138, 3) := dk_180 0 138 (dk_at dksX0_count_2 15 rfl rfl)
theorem dX0_count_86 : decode cX0_count 86 = .ok (.invokevirtual 36, 3) := dk_182 0 36 (dk_at dksX0_count_2 18 rfl rfl)
theorem dX0_count_89 : decode cX0_count 89 = .ok (.ireturn, 1) := dk_172 (dk_at dksX0_count_2 21 rfl rfl)
theorem dX0_count_90 : decode cX0_count 90 = .ok (.aload_n 0, 1) := dk_42 (dk_at dksX0_count_2 22 rfl rfl)
theorem dX0_count_91 : decode cX0_count 91 = .ok (.getfield 26, 3) := dk_180 0 26 (dk_at dksX0_count_3 0 rfl rfl)
theorem dX0_count_94 : decode cX0_count 94 = .ok (.getfield 154, 3) := dk_180 0 154 (dk_at dksX0_count_3 3 rfl rfl)
theorem dX0_count_97 : decode cX0_count 97 = .ok (.invokevirtual 36, 3) := dk_182 0 36 (dk_at dksX0_count_3 6 rfl rfl)
theorem dX0_count_100 : decode cX0_count 100 = .ok (.ireturn, 1) := dk_172 (dk_at dksX0_count_3 9 rfl rfl)
theorem dX0_count_101 : decode cX0_count 101 = .ok (.aload_n 0, 1) := dk_42 (dk_at dksX0_count_3 10 rfl rfl)
theorem dX0_count_102 : decode cX0_count 102 = .ok (.getfield 26, 3) := dk_180 0 26 (dk_at dksX0_count_3 11 rfl rfl)
theorem dX0_count_105 : decode cX0_count 105 = .ok (.getfield 413, 3) := dk_180 1 157 (dk_at dksX0_count_3 14 rfl rfl)
theorem dX0_count_108 : decode cX0_count 108 = .ok (.invokevirtual 36, 3) := dk_182 0 36 (dk_at dksX0_count_3 17 rfl rfl)
theorem dX0_count_111 : decode cX0_count 111 = .ok (.ireturn, 1) := dk_172 (dk_at dksX0_count_3 20 rfl rfl)
theorem dX0_count_112 : decode cX0_count 112 = .ok (.aload_n 0, 1) := dk_42 (dk_at dksX0_count_3 21 rfl rfl)
theorem dX0_count_113 : decode cX0_count 113 = .ok (.getfield 26, 3) := dk_180 0 26 (dk_at dksX0_count_4 0 rfl rfl)
theorem dX0_count_116 : decode cX0_count 116 = .ok (.getfield 199, 3) := dk_180 0 199 (dk_at dksX0_count_4 3 rfl rfl)
theorem dX0_count_119 : decode cX0_count 119 = .ok (.invokevirtual 36, 3) := dk_182 0 36 (dk_at dksX0_count_4 6 rfl rfl)
theorem dX0_count_122 : decode cX0_count 122 = .ok (.ireturn, 1) := dk_172 (dk_at dksX0_count_4 9 rfl rfl)
theorem dX0_count_123 : decode cX0_count 123 = .ok (.aload_n 0, 1) := dk_42 (dk_at dksX0_count_4 10 rfl rfl)
theorem dX0_count_124 : decode cX0_count 124 = .ok (.getfield 26, 3) := dk_180 0 26 (dk_at dksX0_count_4 11 rfl rfl)
theorem dX0_count_127 : decode cX0_count 127 = .ok (.getfield 452, 3) := dk_180 1 196 (dk_at dksX0_count_4 14 rfl rfl)
theorem dX0_count_130 : decode cX0_count 130 = .ok (.invokevirtual 36, 3) := dk_182 0 36 (dk_at dksX0_count_4 17 rfl rfl)
theorem dX0_count_133 : decode cX0_count 133 = .ok (.ireturn, 1) := dk_172 (dk_at dksX0_count_4 20 rfl rfl)
theorem dX0_count_134 : decode cX0_count 134 = .ok (.aload_n 0, 1) := dk_42 (dk_at dksX0_count_4 21 rfl rfl)
theorem dX0_count_135 : decode cX0_count 135 = .ok (.getfield 26, 3) := dk_180 0 26 (dk_at dksX0_count_5 0 rfl rfl)
theorem dX0_count_138 : decode cX0_count 138 = .ok (.getfield 460, 3) := dk_180 1 204 (dk_at dksX0_count_5 3 rfl rfl)
theorem dX0_count_141 : decode cX0_count 141 = .ok (.invokevirtual 36, 3) := dk_182 0 36 (dk_at dksX0_count_5 6 rfl rfl)
theorem dX0_count_144 : decode cX0_count 144 = .ok (.ireturn, 1) := dk_172 (dk_at dksX0_count_5 9 rfl rfl)
theorem dX0_count_145 : decode cX0_count 145 = .ok (.aload_n 0, 1) := dk_42 (dk_at dksX0_count_5 10 rfl rfl)
theorem dX0_count_146 : decode cX0_count 146 = .ok (.getfield 26, 3) := dk_180 0 26 (dk_at dksX0_count_5 11 rfl rfl)
theorem dX0_count_149 : decode cX0_count 149 = .ok (.getfield 472, 3) := dk_180 1 216 (dk_at dksX0_count_5 14 rfl rfl)
theorem dX0_count_152 : decode cX0_count 152 = .ok (.invokevirtual 36, 3) := dk_182 0 36 (dk_at dksX0_count_5 17 rfl rfl)
theorem dX0_count_155 : decode cX0_count 155 = .ok (.ireturn, 1) := dk_172 (dk_at dksX0_count_5 20 rfl rfl)
theorem dX0_count_156 : decode cX0_count 156 = .ok (.aload_n 0, 1) := dk_42 (dk_at dksX0_count_5 21 rfl rfl)
theorem dX0_count_157 : decode cX0_count 157 = .ok (.getfield 26, 3) := dk_180 0 26 (dk_at dksX0_count_6 0 rfl rfl)
theorem dX0_count_160 : decode cX0_count 160 = .ok (.getfield 478, 3) := dk_180 1 222 (dk_at dksX0_count_6 3 rfl rfl)
theorem dX0_count_163 : decode cX0_count 163 = .ok (.ireturn, 1) := dk_172 (dk_at dksX0_count_6 6 rfl rfl)
theorem dX0_count_164 : decode cX0_count 164 = .ok (.aload_n 0, 1) := dk_42 (dk_at dksX0_count_6 7 rfl rfl)
theorem dX0_count_165 : decode cX0_count 165 = .ok (.getfield 26, 3) := dk_180 0 26 (dk_at dksX0_count_6 8 rfl rfl)
theorem dX0_count_168 : decode cX0_count 168 = .ok (.getfield 30, 3) := dk_180 0 30 (dk_at dksX0_count_6 11 rfl rfl)
theorem dX0_count_171 : decode cX0_count 171 = .ok (.invokevirtual 36, 3) := dk_182 0 36 (dk_at dksX0_count_6 14 rfl rfl)
theorem dX0_count_174 : decode cX0_count 174 = .ok (.ireturn, 1) := dk_172 (dk_at dksX0_count_6 17 rfl rfl)
theorem dX0_count_175 : decode cX0_count 175 = .ok (.aload_n 0, 1) := dk_42 (dk_at dksX0_count_6 18 rfl rfl)
theorem dX0_count_176 : decode cX0_count 176 = .ok (.getfield 26, 3) := dk_180 0 26 (dk_at dksX0_count_6 19 rfl rfl)
theorem dX0_count_179 : decode cX0_count 179 = .ok (.getfield 253, 3) := dk_180 0 253 (dk_at dksX0_count_7 0 rfl rfl)
theorem dX0_count_182 : decode cX0_count 182 = .ok (.getfield 254, 3) := dk_180 0 254 (dk_at dksX0_count_7 3 rfl rfl)
theorem dX0_count_185 : decode cX0_count 185 = .ok (.ireturn, 1) := dk_172 (dk_at dksX0_count_7 6 rfl rfl)
theorem dX0_count_186 : decode cX0_count 186 = .ok (.aload_n 0, 1) := dk_42 (dk_at dksX0_count_7 7 rfl rfl)
theorem dX0_count_187 : decode cX0_count 187 = .ok (.getfield 222, 3) := dk_180 0 222 (dk_at dksX0_count_7 8 rfl rfl)
theorem dX0_count_190 : decode cX0_count 190 = .ok (.ireturn, 1) := dk_172 (dk_at dksX0_count_7 11 rfl rfl)
theorem dX0_count_191 : decode cX0_count 191 = .ok (.aload_n 0, 1) := dk_42 (dk_at dksX0_count_7 12 rfl rfl)
theorem dX0_count_192 : decode cX0_count 192 = .ok (.getfield 26, 3) := dk_180 0 26 (dk_at dksX0_count_7 13 rfl rfl)
theorem dX0_count_195 : decode cX0_count 195 = .ok (.getfield 181, 3) := dk_180 0 181 (dk_at dksX0_count_7 16 rfl rfl)
theorem dX0_count_198 : decode cX0_count 198 = .ok (.ireturn, 1) := dk_172 (dk_at dksX0_count_7 19 rfl rfl)
theorem dX0_count_199 : decode cX0_count 199 = .ok (.aload_n 0, 1) := dk_42 (dk_at dksX0_count_7 20 rfl rfl)
theorem dX0_count_200 : decode cX0_count 200 = .ok (.iload_n 1, 1) := dk_27 (dk_at dksX0_count_7 21 rfl rfl)
theorem dX0_count_201 : decode cX0_count 201 = .ok (.bipush 100, 2) := dk_16 100 (dk_at dksX0_count_7 22 rfl rfl)
theorem dX0_count_203 : decode cX0_count 203 = .ok (.isub, 1) := dk_100 (dk_at dksX0_count_8 0 rfl rfl)
theorem dX0_count_204 : decode cX0_count 204 = .ok (.invokevirtual 159, 3) := dk_182 0 159 (dk_at dksX0_count_8 1 rfl rfl)
theorem dX0_count_207 : decode cX0_count 207 = .ok (.ifCond .eq 29, 3) := dk_153 0 29 (dk_at dksX0_count_8 4 rfl rfl)
theorem dX0_count_210 : decode cX0_count 210 = .ok (.aload_n 0, 1) := dk_42 (dk_at dksX0_count_8 7 rfl rfl)
theorem dX0_count_211 : decode cX0_count 211 = .ok (.getfield 26, 3) := dk_180 0 26 (dk_at dksX0_count_8 8 rfl rfl)
theorem dX0_count_214 : decode cX0_count 214 = .ok (.getfield 135, 3) := dk_180 0 135 (dk_at dksX0_count_8 11 rfl rfl)
theorem dX0_count_217 : decode cX0_count 217 = .ok (.iload_n 1, 1) := dk_27 (dk_at dksX0_count_8 14 rfl rfl)
theorem dX0_count_218 : decode cX0_count 218 = .ok (.bipush 100, 2) := dk_16 100 (dk_at dksX0_count_8 15 rfl rfl)
theorem dX0_count_220 : decode cX0_count 220 = .ok (.isub, 1) := dk_100 (dk_at dksX0_count_8 17 rfl rfl)
theorem dX0_count_221 : decode cX0_count 221 = .ok (.invokevirtual 42, 3) := dk_182 0 42 (dk_at dksX0_count_8 18 rfl rfl)
theorem dX0_count_224 : decode cX0_count 224 = .ok (.checkcast 145, 3) := dk_192 0 145 (dk_at dksX0_count_8 21 rfl rfl)
theorem dX0_count_227 : decode cX0_count 227 = .ok (.getfield 178, 3) := dk_180 0 178 (dk_at dksX0_count_9 0 rfl rfl)
theorem dX0_count_230 : decode cX0_count 230 = .ok (.invokevirtual 36, 3) := dk_182 0 36 (dk_at dksX0_count_9 3 rfl rfl)
theorem dX0_count_233 : decode cX0_count 233 = .ok (.goto 43, 3) := dk_167 0 43 (dk_at dksX0_count_9 6 rfl rfl)
theorem dX0_count_236 : decode cX0_count 236 = .ok (.aload_n 0, 1) := dk_42 (dk_at dksX0_count_9 9 rfl rfl)
theorem dX0_count_237 : decode cX0_count 237 = .ok (.iload_n 1, 1) := dk_27 (dk_at dksX0_count_9 10 rfl rfl)
theorem dX0_count_238 : decode cX0_count 238 = .ok (.sipush 200, 3) := dk_17 0 200 (dk_at dksX0_count_9 11 rfl rfl)
theorem dX0_count_241 : decode cX0_count 241 = .ok (.isub, 1) := dk_100 (dk_at dksX0_count_9 14 rfl rfl)
theorem dX0_count_242 : decode cX0_count 242 = .ok (.invokevirtual 162, 3) := dk_182 0 162 (dk_at dksX0_count_9 15 rfl rfl)
theorem dX0_count_245 : decode cX0_count 245 = .ok (.ifCond .eq 30, 3) := dk_153 0 30 (dk_at dksX0_count_9 18 rfl rfl)
theorem dX0_count_248 : decode cX0_count 248 = .ok (.aload_n 0, 1) := dk_42 (dk_at dksX0_count_9 21 rfl rfl)
theorem dX0_count_249 : decode cX0_count 249 = .ok (.getfield 26, 3) := dk_180 0 26 (dk_at dksX0_count_10 0 rfl rfl)
theorem dX0_count_252 : decode cX0_count 252 = .ok (.getfield 138, 3) := dk_180 0 138 (dk_at dksX0_count_10 3 rfl rfl)
theorem dX0_count_255 : decode cX0_count 255 = .ok (.iload_n 1, 1) := dk_27 (dk_at dksX0_count_10 6 rfl rfl)
theorem dX0_count_256 : decode cX0_count 256 = .ok (.sipush 200, 3) := dk_17 0 200 (dk_at dksX0_count_10 7 rfl rfl)
theorem dX0_count_259 : decode cX0_count 259 = .ok (.isub, 1) := dk_100 (dk_at dksX0_count_10 10 rfl rfl)
theorem dX0_count_260 : decode cX0_count 260 = .ok (.invokevirtual 42, 3) := dk_182 0 42 (dk_at dksX0_count_10 11 rfl rfl)
theorem dX0_count_263 : decode cX0_count 263 = .ok (.checkcast 145, 3) := dk_192 0 145 (dk_at dksX0_count_10 14 rfl rfl)
theorem dX0_count_266 : decode cX0_count 266 = .ok (.getfield 178, 3) := dk_180 0 178 (dk_at dksX0_count_10 17 rfl rfl)
theorem dX0_count_269 : decode cX0_count 269 = .ok (.invokevirtual 36, 3) := dk_182 0 36 (dk_at dksX0_count_10 20 rfl rfl)
theorem dX0_count_272 : decode cX0_count 272 = .ok (.goto 4, 3) := dk_167 0 4 (dk_at dksX0_count_11 0 rfl rfl)
theorem dX0_count_275 : decode cX0_count 275 = .ok (.iconst (-1), 1) := dk_2 (dk_at dksX0_count_11 3 rfl rfl)
theorem dX0_count_276 : decode cX0_count 276 = .ok (.ireturn, 1) := dk_172 (dk_at dksX0_count_11 4 rfl rfl)

