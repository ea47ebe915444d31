set_option maxRecDepth 100000
abbrev cX0_late : ByteArray := prog_1_method_38_code
def yX0_late : MethodName := ⟨RX0, "late", "(II)I"⟩
def dkwX0_late_5 : List UInt8 := [167, 0, 23, 42, 45, 182, 1, 105, 42, 180, 0, 26, 180, 0, 186, 161, 0, 7, 5, 167, 0, 4, 3, 172]
abbrev dktX0_late_5 : List UInt8 := dkwX0_late_5 ++ []
def dkwX0_late_4 : List UInt8 := [182, 0, 42, 192, 0, 2, 78, 42, 45, 182, 1, 102, 42, 180, 0, 26, 180, 0, 186, 161, 0, 7, 4]
abbrev dktX0_late_4 : List UInt8 := dkwX0_late_4 ++ dktX0_late_5
def dkwX0_late_3 : List UInt8 := [16, 251, 182, 0, 119, 172, 42, 180, 0, 26, 180, 0, 135, 27, 182, 0, 42, 192, 0, 145, 180, 0, 178, 28]
abbrev dktX0_late_3 : List UInt8 := dkwX0_late_3 ++ dktX0_late_4
def dkwX0_late_2 : List UInt8 := [172, 42, 42, 180, 0, 26, 180, 0, 135, 27, 182, 0, 42, 192, 0, 145, 182, 1, 47, 153, 0, 10, 42]
abbrev dktX0_late_2 : List UInt8 := dkwX0_late_2 ++ dktX0_late_3
def dkwX0_late_1 : List UInt8 := [192, 0, 145, 180, 0, 178, 182, 0, 36, 4, 100, 133, 184, 0, 111, 154, 0, 10, 42, 16, 254, 182, 0, 119]
abbrev dktX0_late_1 : List UInt8 := dkwX0_late_1 ++ dktX0_late_2
def dkwX0_late_0 : List UInt8 := [42, 27, 182, 0, 159, 153, 0, 35, 28, 133, 9, 42, 180, 0, 26, 180, 0, 135, 27, 182, 0, 42]
abbrev dktX0_late_0 : List UInt8 := dkwX0_late_0 ++ dktX0_late_1
theorem dksX0_late_0 : cX0_late.data.toList.drop 0 = dktX0_late_0 := by decide +kernel
theorem dksX0_late_1 : cX0_late.data.toList.drop 22 = dktX0_late_1 := dk_seg dksX0_late_0 22 rfl rfl
theorem dksX0_late_2 : cX0_late.data.toList.drop 46 = dktX0_late_2 := dk_seg dksX0_late_1 24 rfl rfl
theorem dksX0_late_3 : cX0_late.data.toList.drop 69 = dktX0_late_3 := dk_seg dksX0_late_2 23 rfl rfl
theorem dksX0_late_4 : cX0_late.data.toList.drop 93 = dktX0_late_4 := dk_seg dksX0_late_3 24 rfl rfl
theorem dksX0_late_5 : cX0_late.data.toList.drop 116 = dktX0_late_5 := dk_seg dksX0_late_4 23 rfl rfl
theorem dX0_late_0 : decode cX0_late 0 = .ok (.aload_n 0, 1) := dk_42 (dk_at dksX0_late_0 0 rfl rfl)
theorem dX0_late_1 : decode cX0_late 1 = .ok (.iload_n 1, 1) := dk_27 (dk_at dksX0_late_0 1 rfl rfl)
theorem dX0_late_2 : decode cX0_late 2 = .ok (.invokevirtual 159, 3) := dk_182 0 159 (dk_at dksX0_late_0 2 rfl rfl)
theorem dX0_late_5 : decode cX0_late 5 = .ok (.ifCond .eq 35, 3) := dk_153 0 35 (dk_at dksX0_late_0 5 rfl rfl)
theorem dX0_late_8 : decode cX0_late 8 = .ok (.iload_n 2, 1) := dk_28 (dk_at dksX0_late_0 8 rfl rfl)
theorem dX0_late_9 : decode cX0_late 9 = .ok (.i2l, 1) := dk_133 (dk_at dksX0_late_0 9 rfl rfl)
theorem dX0_late_10 : decode cX0_late 10 = .ok (.lconst 0, 1) := dk_9 (dk_at dksX0_late_0 10 rfl rfl)
theorem dX0_late_11 : decode cX0_late 11 = .ok (.aload_n 0, 1) := dk_42 (dk_at dksX0_late_0 11 rfl rfl)
theorem dX0_late_12 : decode cX0_late 12 = .ok (.getfield 26, 3) := dk_180 0 26 (dk_at dksX0_late_0 12 rfl rfl)
theorem dX0_late_15 : decode cX0_late 15 = .ok (.getfield 135, 3) := dk_180 0 135 (dk_at dksX0_late_0 15 rfl rfl)
theorem dX0_late_18 : decode cX0_late 18 = .ok (.iload_n 1, 1) := dk_27 (dk_at dksX0_late_0 18 rfl rfl)
theorem dX0_late_19 : decode cX0_late 19 = .ok (.invokevirtual 42, 3) := dk_182 0 42 (dk_at dksX0_late_0 19 rfl rfl)
theorem dX0_late_22 : decode cX0_late 22 = .ok (.checkcast 145, 3) := dk_192 0 145 (dk_at dksX0_late_1 0 rfl rfl)
theorem dX0_late_25 : decode cX0_late 25 = .ok (.getfield 178, 3) := dk_180 0 178 (dk_at dksX0_late_1 3 rfl rfl)
theorem dX0_late_28 : decode cX0_late 28 = .ok (.invokevirtual 36, 3) := dk_182 0 36 (dk_at dksX0_late_1 6 rfl rfl)
theorem dX0_late_31 : decode cX0_late 31 = .ok (.iconst 1, 1) := dk_4 (dk_at dksX0_late_1 9 rfl rfl)
theorem dX0_late_32 : decode cX0_late 32 = .ok (.isub, 1) := dk_100 (dk_at dksX0_late_1 10 rfl rfl)
theorem dX0_late_33 : decode cX0_late 33 = .ok (.i2l, 1) := dk_133 (dk_at dksX0_late_1 11 rfl rfl)
theorem dX0_late_34 : decode cX0_late 34 = .ok (.invokestatic 111, 3) := dk_184 0 111 (dk_at dksX0_late_1 12 rfl rfl)
theorem dX0_late_37 : decode cX0_late 37 = .ok (.ifCond .ne 10, 3) := dk_154 0 10 (dk_at dksX0_late_1 15 rfl rfl)
theorem dX0_late_40 : decode cX0_late 40 = .ok (.aload_n 0, 1) := dk_42 (dk_at dksX0_late_1 18 rfl rfl)
theorem dX0_late_41 : decode cX0_late 41 = .ok (.bipush (-2), 2) := dk_16 254 (dk_at dksX0_late_1 19 rfl rfl)
theorem dX0_late_43 : decode cX0_late 43 = .ok (.invokevirtual 119, 3) := dk_182 0 119 (dk_at dksX0_late_1 21 rfl rfl)
theorem dX0_late_46 : decode cX0_late 46 = .ok (.ireturn, 1) := dk_172 (dk_at dksX0_late_2 0 rfl rfl)
theorem dX0_late_47 : decode cX0_late 47 = .ok (.aload_n 0, 1) := dk_42 (dk_at dksX0_late_2 1 rfl rfl)
theorem dX0_late_48 : decode cX0_late 48 = .ok (.aload_n 0, 1) := dk_42 (dk_at dksX0_late_2 2 rfl rfl)
theorem dX0_late_49 : decode cX0_late 49 = .ok (.getfield 26, 3) := dk_180 0 26 (dk_at dksX0_late_2 3 rfl rfl)
theorem dX0_late_52 : decode cX0_late 52 = .ok (.getfield 135, 3) := dk_180 0 135 (dk_at dksX0_late_2 6 rfl rfl)
theorem dX0_late_55 : decode cX0_late 55 = .ok (.iload_n 1, 1) := dk_27 (dk_at dksX0_late_2 9 rfl rfl)
theorem dX0_late_56 : decode cX0_late 56 = .ok (.invokevirtual 42, 3) := dk_182 0 42 (dk_at dksX0_late_2 10 rfl rfl)
theorem dX0_late_59 : decode cX0_late 59 = .ok (.checkcast 145, 3) := dk_192 0 145 (dk_at dksX0_late_2 13 rfl rfl)
theorem dX0_late_62 : decode cX0_late 62 = .ok (.invokevirtual 303, 3) := dk_182 1 47 (dk_at dksX0_late_2 16 rfl rfl)
theorem dX0_late_65 : decode cX0_late 65 = .ok (.ifCond .eq 10, 3) := dk_153 0 10 (dk_at dksX0_late_2 19 rfl rfl)
theorem dX0_late_68 : decode cX0_late 68 = .ok (.aload_n 0, 1) := dk_42 (dk_at dksX0_late_2 22 rfl rfl)
theorem dX0_late_69 : decode cX0_late 69 = .ok (.bipush (-5), 2) := dk_16 251 (dk_at dksX0_late_3 0 rfl rfl)
theorem dX0_late_71 : decode cX0_late 71 = .ok (.invokevirtual 119, 3) := dk_182 0 119 (dk_at dksX0_late_3 2 rfl rfl)
theorem dX0_late_74 : decode cX0_late 74 = .ok (.ireturn, 1) := dk_172 (dk_at dksX0_late_3 5 rfl rfl)
theorem dX0_late_75 : decode cX0_late 75 = .ok (.aload_n 0, 1) := dk_42 (dk_at dksX0_late_3 6 rfl rfl)
theorem dX0_late_76 : decode cX0_late 76 = .ok (.getfield 26, 3) := dk_180 0 26 (dk_at dksX0_late_3 7 rfl rfl)
theorem dX0_late_79 : decode cX0_late 79 = .ok (.getfield 135, 3) := dk_180 0 135 (dk_at dksX0_late_3 10 rfl rfl)
theorem dX0_late_82 : decode cX0_late 82 = .ok (.iload_n 1, 1) := dk_27 (dk_at dksX0_late_3 13 rfl rfl)
theorem dX0_late_83 : decode cX0_late 83 = .ok (.invokevirtual 42, 3) := dk_182 0 42 (dk_at dksX0_late_3 14 rfl rfl)
theorem dX0_late_86 : decode cX0_late 86 = .ok (.checkcast 145, 3) := dk_192 0 145 (dk_at dksX0_late_3 17 rfl rfl)
theorem dX0_late_89 : decode cX0_late 89 = .ok (.getfield 178, 3) := dk_180 0 178 (dk_at dksX0_late_3 20 rfl rfl)
theorem dX0_late_92 : decode cX0_late 92 = .ok (.iload_n 2, 1) := dk_28 (dk_at dksX0_late_3 23 rfl rfl)
theorem dX0_late_93 : decode cX0_late 93 = .ok (.invokevirtual 42, 3) := dk_182 0 42 (dk_at dksX0_late_4 0 rfl rfl)
theorem dX0_late_96 : decode cX0_late 96 = .ok (.checkcast 2, 3) := dk_192 0 2 (dk_at dksX0_late_4 3 rfl rfl)
theorem dX0_late_99 : decode cX0_late 99 = .ok (.astore_n 3, 1) := dk_78 (dk_at dksX0_late_4 6 rfl rfl)
theorem dX0_late_100 : decode cX0_late 100 = .ok (.aload_n 0, 1) := dk_42 (dk_at dksX0_late_4 7 rfl rfl)
theorem dX0_late_101 : decode cX0_late 101 = .ok (.aload_n 3, 1) := dk_45 (dk_at dksX0_late_4 8 rfl rfl)
theorem dX0_late_102 : decode cX0_late 102 = .ok (.invokevirtual 358, 3) := dk_182 1 102 (dk_at dksX0_late_4 9 rfl rfl)
theorem dX0_late_105 : decode cX0_late 105 = .ok (.aload_n 0, 1) := dk_42 (dk_at dksX0_late_4 12 rfl rfl)
theorem dX0_late_106 : decode cX0_late 106 = .ok (.getfield 26, 3) := dk_180 0 26 (dk_at dksX0_late_4 13 rfl rfl)
theorem dX0_late_109 : decode cX0_late 109 = .ok (.getfield 186, 3) := dk_180 0 186 (dk_at dksX0_late_4 16 rfl rfl)
theorem dX0_late_112 : decode cX0_late 112 = .ok (.if_icmp .lt 7, 3) := dk_161 0 7 (dk_at dksX0_late_4 19 rfl rfl)
theorem dX0_late_115 : decode cX0_late 115 = .ok (.iconst 1, 1) := dk_4 (dk_at dksX0_late_4 22 rfl rfl)
theorem dX0_late_116 : decode cX0_late 116 = .ok (.goto 23, 3) := dk_167 0 23 (dk_at dksX0_late_5 0 rfl rfl)
theorem dX0_late_119 : decode cX0_late 119 = .ok (.aload_n 0, 1) := dk_42 (dk_at dksX0_late_5 3 rfl rfl)
theorem dX0_late_120 : decode cX0_late 120 = .ok (.aload_n 3, 1) := dk_45 (dk_at dksX0_late_5 4 rfl rfl)
theorem dX0_late_121 : decode cX0_late 121 = .ok (.invokevirtual 361, 3) := dk_182 1 105 (dk_at dksX0_late_5 5 rfl rfl)
theorem dX0_late_124 : decode cX0_late 124 = .ok (.aload_n 0, 1) := dk_42 (dk_at dksX0_late_5 8 rfl rfl)
theorem dX0_late_125 : decode cX0_late 125 = .ok (.getfield 26, 3) := dk_180 0 26 (dk_at dksX0_late_5 9 rfl rfl)
theorem dX0_late_128 : decode cX0_late 128 = .ok (.getfield 186, 3) := dk_180 0 186 (dk_at dksX0_late_5 12 rfl rfl)
theorem dX0_late_131 : decode cX0_late 131 = .ok (.if_icmp .lt 7, 3) := dk_161 0 7 (dk_at dksX0_late_5 15 rfl rfl)
theorem dX0_late_134 : decode cX0_late 134 = .ok (.iconst 2, 1) := dk_5 (dk_at dksX0_late_5 18 rfl rfl)
theorem dX0_late_135 : decode cX0_late 135 = .ok (.goto 4, 3) := dk_167 0 4 (dk_at dksX0_late_5 19 rfl rfl)
theorem dX0_late_138 : decode cX0_late 138 = .ok (.iconst 0, 1) := dk_3 (dk_at dksX0_late_5 22 rfl rfl)
theorem dX0_late_139 : decode cX0_late 139 = .ok (.ireturn, 1) := dk_172 (dk_at dksX0_late_5 23 rfl rfl)
abbrev cX0_toSongs : ByteArray := prog_1_method_36_code
def yX0_toSongs : MethodName := ⟨RX0, "toSongs", "(LNobodysBard$Phrase;)I"⟩
def dkwX0_toSongs_0 : List UInt8 := [3, 42, 43, 2, 3, 182, 1, 65, 42, 43, 2, 4, 182, 1, 65, 184, 0, 20, 184, 0, 20, 172]
abbrev dktX0_toSongs_0 : List UInt8 := dkwX0_toSongs_0 ++ []
theorem dksX0_toSongs_0 : cX0_toSongs.data.toList.drop 0 = dktX0_toSongs_0 := by decide +kernel
theorem dX0_toSongs_0 : decode cX0_toSongs 0 = .ok (.iconst 0, 1) := dk_3 (dk_at dksX0_toSongs_0 0 rfl rfl)
theorem dX0_toSongs_1 : decode cX0_toSongs 1 = .ok (.aload_n 0, 1) := dk_42 (dk_at dksX0_toSongs_0 1 rfl rfl)
theorem dX0_toSongs_2 : decode cX0_toSongs 2 = .ok (.aload_n 1, 1) := dk_43 (dk_at dksX0_toSongs_0 2 rfl rfl)
theorem dX0_toSongs_3 : decode cX0_toSongs 3 = .ok (.iconst (-1), 1) := dk_2 (dk_at dksX0_toSongs_0 3 rfl rfl)
theorem dX0_toSongs_4 : decode cX0_toSongs 4 = .ok (.iconst 0, 1) := dk_3 (dk_at dksX0_toSongs_0 4 rfl rfl)
theorem dX0_toSongs_5 : decode cX0_toSongs 5 = .ok (.invokevirtual 321, 3) := dk_182 1 65 (dk_at dksX0_toSongs_0 5 rfl rfl)
theorem dX0_toSongs_8 : decode cX0_toSongs 8 = .ok (.aload_n 0, 1) := dk_42 (dk_at dksX0_toSongs_0 8 rfl rfl)
theorem dX0_toSongs_9 : decode cX0_toSongs 9 = .ok (.aload_n 1, 1) := dk_43 (dk_at dksX0_toSongs_0 9 rfl rfl)
theorem dX0_toSongs_10 : decode cX0_toSongs 10 = .ok (.iconst (-1), 1) := dk_2 (dk_at dksX0_toSongs_0 10 rfl rfl)
theorem dX0_toSongs_11 : decode cX0_toSongs 11 = .ok (.iconst 1, 1) := dk_4 (dk_at dksX0_toSongs_0 11 rfl rfl)
theorem dX0_toSongs_12 : decode cX0_toSongs 12 = .ok (.invokevirtual 321, 3) := dk_182 1 65 (dk_at dksX0_toSongs_0 12 rfl rfl)
theorem dX0_toSongs_15 : decode cX0_toSongs 15 = .ok (.invokestatic 20, 3) := dk_184 0 20 (dk_at dksX0_toSongs_0 15 rfl rfl)
theorem dX0_toSongs_18 : decode cX0_toSongs 18 = .ok (.invokestatic 20, 3) := dk_184 0 20 (dk_at dksX0_toSongs_0 18 rfl rfl)
theorem dX0_toSongs_21 : decode cX0_toSongs 21 = .ok (.ireturn, 1) := dk_172 (dk_at dksX0_toSongs_0 21 rfl rfl)
abbrev cX0_toPrint : ByteArray := prog_1_method_37_code
def yX0_toPrint : MethodName := ⟨RX0, "toPrint", "(LNobodysBard$Phrase;)I"⟩
def dkwX0_toPrint_2 : List UInt8 := [132, 3, 1, 167, 255, 212, 28, 172]
abbrev dktX0_toPrint_2 : List UInt8 := dkwX0_toPrint_2 ++ []
def dkwX0_toPrint_1 : List UInt8 := [180, 0, 26, 180, 0, 154, 29, 182, 0, 42, 192, 0, 173, 180, 0, 195, 182, 0, 218, 184, 0, 20, 61]
abbrev dktX0_toPrint_1 : List UInt8 := dkwX0_toPrint_1 ++ dktX0_toPrint_2
def dkwX0_toPrint_0 : List UInt8 := [3, 61, 3, 62, 29, 42, 180, 0, 26, 180, 0, 154, 182, 0, 36, 162, 0, 36, 28, 42, 43, 42]
abbrev dktX0_toPrint_0 : List UInt8 := dkwX0_toPrint_0 ++ dktX0_toPrint_1
theorem dksX0_toPrint_0 : cX0_toPrint.data.toList.drop 0 = dktX0_toPrint_0 := by decide +kernel
theorem dksX0_toPrint_1 : cX0_toPrint.data.toList.drop 22 = dktX0_toPrint_1 := dk_seg dksX0_toPrint_0 22 rfl rfl
theorem dksX0_toPrint_2 : cX0_toPrint.data.toList.drop 45 = dktX0_toPrint_2 := dk_seg dksX0_toPrint_1 23 rfl rfl
theorem dX0_toPrint_0 : decode cX0_toPrint 0 = .ok (.iconst 0, 1) := dk_3 (dk_at dksX0_toPrint_0 0 rfl rfl)
theorem dX0_toPrint_1 : decode cX0_toPrint 1 = .ok (.istore_n 2, 1) := dk_61 (dk_at dksX0_toPrint_0 1 rfl rfl)
theorem dX0_toPrint_2 : decode cX0_toPrint 2 = .ok (.iconst 0, 1) := dk_3 (dk_at dksX0_toPrint_0 2 rfl rfl)
theorem dX0_toPrint_3 : decode cX0_toPrint 3 = .ok (.istore_n 3, 1) := dk_62 (dk_at dksX0_toPrint_0 3 rfl rfl)
theorem dX0_toPrint_4 : decode cX0_toPrint 4 = .ok (.iload_n 3, 1) := dk_29 (dk_at dksX0_toPrint_0 4 rfl rfl)
theorem dX0_toPrint_5 : decode cX0_toPrint 5 = .ok (.aload_n 0, 1) := dk_42 (dk_at dksX0_toPrint_0 5 rfl rfl)
theorem dX0_toPrint_6 : decode cX0_toPrint 6 = .ok (.getfield 26, 3) := dk_180 0 26 (dk_at dksX0_toPrint_0 6 rfl rfl)
theorem dX0_toPrint_9 : decode cX0_toPrint 9 = .ok (.getfield 154, 3) := dk_180 0 154 (dk_at dksX0_toPrint_0 9 rfl rfl)
theorem dX0_toPrint_12 : decode cX0_toPrint 12 = .ok (.invokevirtual 36, 3) := dk_182 0 36 (dk_at dksX0_toPrint_0 12 rfl rfl)
theorem dX0_toPrint_15 : decode cX0_toPrint 15 = .ok (.if_icmp .ge 36, 3) := dk_162 0 36 (dk_at dksX0_toPrint_0 15 rfl rfl)
theorem dX0_toPrint_18 : decode cX0_toPrint 18 = .ok (.iload_n 2, 1) := dk_28 (dk_at dksX0_toPrint_0 18 rfl rfl)
theorem dX0_toPrint_19 : decode cX0_toPrint 19 = .ok (.aload_n 0, 1) := dk_42 (dk_at dksX0_toPrint_0 19 rfl rfl)
theorem dX0_toPrint_20 : decode cX0_toPrint 20 = .ok (.aload_n 1, 1) := dk_43 (dk_at dksX0_toPrint_0 20 rfl rfl)
theorem dX0_toPrint_21 : decode cX0_toPrint 21 = .ok (.aload_n 0, 1) := dk_42 (dk_at dksX0_toPrint_0 21 rfl rfl)
theorem dX0_toPrint_22 : decode cX0_toPrint 22 = .ok (.getfield 26, 3) := dk_180 0 26 (dk_at dksX0_toPrint_1 0 rfl rfl)
theorem dX0_toPrint_25 : decode cX0_toPrint 25 = .ok (.getfield 154, 3) := dk_180 0 154 (dk_at dksX0_toPrint_1 3 rfl rfl)
theorem dX0_toPrint_28 : decode cX0_toPrint 28 = .ok (.iload_n 3, 1) := dk_29 (dk_at dksX0_toPrint_1 6 rfl rfl)
theorem dX0_toPrint_29 : decode cX0_toPrint 29 = .ok (.invokevirtual 42, 3) := dk_182 0 42 (dk_at dksX0_toPrint_1 7 rfl rfl)
theorem dX0_toPrint_32 : decode cX0_toPrint 32 = .ok (.checkcast 173, 3) := dk_192 0 173 (dk_at dksX0_toPrint_1 10 rfl rfl)
theorem dX0_toPrint_35 : decode cX0_toPrint 35 = .ok (.getfield 195, 3) := dk_180 0 195 (dk_at dksX0_toPrint_1 13 rfl rfl)
theorem dX0_toPrint_38 : decode cX0_toPrint 38 = .ok (.invokevirtual 218, 3) := dk_182 0 218 (dk_at dksX0_toPrint_1 16 rfl rfl)
theorem dX0_toPrint_41 : decode cX0_toPrint 41 = .ok (.invokestatic 20, 3) := dk_184 0 20 (dk_at dksX0_toPrint_1 19 rfl rfl)
theorem dX0_toPrint_44 : decode cX0_toPrint 44 = .ok (.istore_n 2, 1) := dk_61 (dk_at dksX0_toPrint_1 22 rfl rfl)
theorem dX0_toPrint_45 : decode cX0_toPrint 45 = .ok (.iinc 3 1, 3) := dk_132 3 1 (dk_at dksX0_toPrint_2 0 rfl rfl)
theorem dX0_toPrint_48 : decode cX0_toPrint 48 = .ok (.goto (-44), 3) := dk_167 255 212 (dk_at dksX0_toPrint_2 3 rfl rfl)
theorem dX0_toPrint_51 : decode cX0_toPrint 51 = .ok (.iload_n 2, 1) := dk_28 (dk_at dksX0_toPrint_2 6 rfl rfl)
theorem dX0_toPrint_52 : decode cX0_toPrint 52 = .ok (.ireturn, 1) := dk_172 (dk_at dksX0_toPrint_2 7 rfl rfl)
abbrev cX0_share : ByteArray := prog_1_method_40_code
def yX0_share : MethodName := ⟨RX0, "share", "(II)I"⟩
def dkwX0_share_3 : List UInt8 := [42, 180, 0, 93, 27, 46, 104, 42, 180, 0, 26, 180, 0, 154, 182, 0, 36, 108, 172]
abbrev dktX0_share_3 : List UInt8 := dkwX0_share_3 ++ []
def dkwX0_share_2 : List UInt8 := [182, 0, 119, 172, 42, 182, 1, 108, 28, 154, 0, 12, 42, 180, 0, 93, 27, 46, 167, 0, 24, 17, 3, 232]
abbrev dktX0_share_2 : List UInt8 := dkwX0_share_2 ++ dktX0_share_3
def dkwX0_share_1 : List UInt8 := [16, 254, 182, 0, 119, 172, 42, 180, 0, 26, 180, 0, 154, 182, 1, 31, 153, 0, 10, 42, 16, 251]
abbrev dktX0_share_1 : List UInt8 := dkwX0_share_1 ++ dktX0_share_2
def dkwX0_share_0 : List UInt8 := [27, 133, 9, 20, 0, 133, 184, 0, 111, 153, 0, 13, 28, 133, 9, 10, 184, 0, 111, 154, 0, 10, 42]
abbrev dktX0_share_0 : List UInt8 := dkwX0_share_0 ++ dktX0_share_1
theorem dksX0_share_0 : cX0_share.data.toList.drop 0 = dktX0_share_0 := by decide +kernel
theorem dksX0_share_1 : cX0_share.data.toList.drop 23 = dktX0_share_1 := dk_seg dksX0_share_0 23 rfl rfl
theorem dksX0_share_2 : cX0_share.data.toList.drop 45 = dktX0_share_2 := dk_seg dksX0_share_1 22 rfl rfl
theorem dksX0_share_3 : cX0_share.data.toList.drop 69 = dktX0_share_3 := dk_seg dksX0_share_2 24 rfl rfl
theorem dX0_share_0 : decode cX0_share 0 = .ok (.iload_n 1, 1) := dk_27 (dk_at dksX0_share_0 0 rfl rfl)
theorem dX0_share_1 : decode cX0_share 1 = .ok (.i2l, 1) := dk_133 (dk_at dksX0_share_0 1 rfl rfl)
theorem dX0_share_2 : decode cX0_share 2 = .ok (.lconst 0, 1) := dk_9 (dk_at dksX0_share_0 2 rfl rfl)
theorem dX0_share_3 : decode cX0_share 3 = .ok (.ldc2_w 133, 3) := dk_20 0 133 (dk_at dksX0_share_0 3 rfl rfl)
theorem dX0_share_6 : decode cX0_share 6 = .ok (.invokestatic 111, 3) := dk_184 0 111 (dk_at dksX0_share_0 6 rfl rfl)
theorem dX0_share_9 : decode cX0_share 9 = .ok (.ifCond .eq 13, 3) := dk_153 0 13 (dk_at dksX0_share_0 9 rfl rfl)
theorem dX0_share_12 : decode cX0_share 12 = .ok (.iload_n 2, 1) := dk_28 (dk_at dksX0_share_0 12 rfl rfl)
theorem dX0_share_13 : decode cX0_share 13 = .ok (.i2l, 1) := dk_133 (dk_at dksX0_share_0 13 rfl rfl)
theorem dX0_share_14 : decode cX0_share 14 = .ok (.lconst 0, 1) := dk_9 (dk_at dksX0_share_0 14 rfl rfl)
theorem dX0_share_15 : decode cX0_share 15 = .ok (.lconst 1, 1) := dk_10 (dk_at dksX0_share_0 15 rfl rfl)
theorem dX0_share_16 : decode cX0_share 16 = .ok (.invokestatic 111, 3) := dk_184 0 111 (dk_at dksX0_share_0 16 rfl rfl)
theorem dX0_share_19 : decode cX0_share 19 = .ok (.ifCond .ne 10, 3) := dk_154 0 10 (dk_at dksX0_share_0 19 rfl rfl)
theorem dX0_share_22 : decode cX0_share 22 = .ok (.aload_n 0, 1) := dk_42 (dk_at dksX0_share_0 22 rfl rfl)
theorem dX0_share_23 : decode cX0_share 23 = .ok (.bipush (-2), 2) := dk_16 254 (dk_at dksX0_share_1 0 rfl rfl)
theorem dX0_share_25 : decode cX0_share 25 = .ok (.invokevirtual 119, 3) := dk_182 0 119 (dk_at dksX0_share_1 2 rfl rfl)
theorem dX0_share_28 : decode cX0_share 28 = .ok (.ireturn, 1) := dk_172 (dk_at dksX0_share_1 5 rfl rfl)
theorem dX0_share_29 : decode cX0_share 29 = .ok (.aload_n 0, 1) := dk_42 (dk_at dksX0_share_1 6 rfl rfl)
theorem dX0_share_30 : decode cX0_share 30 = .ok (.getfield 26, 3) := dk_180 0 26 (dk_at dksX0_share_1 7 rfl rfl)
theorem dX0_share_33 : decode cX0_share 33 = .ok (.getfield 154, 3) := dk_180 0 154 (dk_at dksX0_share_1 10 rfl rfl)
theorem dX0_share_36 : decode cX0_share 36 = .ok (.invokevirtual 287, 3) := dk_182 1 31 (dk_at dksX0_share_1 13 rfl rfl)
theorem dX0_share_39 : decode cX0_share 39 = .ok (.ifCond .eq 10, 3) := dk_153 0 10 (dk_at dksX0_share_1 16 rfl rfl)
theorem dX0_share_42 : decode cX0_share 42 = .ok (.aload_n 0, 1) := dk_42 (dk_at dksX0_share_1 19 rfl rfl)
theorem dX0_share_43 : decode cX0_share 43 = .ok (.bipush (-5), 2) := dk_16 251 (dk_at dksX0_share_1 20 rfl rfl)
theorem dX0_share_45 : decode cX0_share 45 = .ok (.invokevirtual 119, 3) := dk_182 0 119 (dk_at dksX0_share_2 0 rfl rfl)
theorem dX0_share_48 : decode cX0_share 48 = .ok (.ireturn, 1) := dk_172 (dk_at dksX0_share_2 3 rfl rfl)
theorem dX0_share_49 : decode cX0_share 49 = .ok (.aload_n 0, 1) := dk_42 (dk_at dksX0_share_2 4 rfl rfl)
theorem dX0_share_50 : decode cX0_share 50 = .ok (.invokevirtual 364, 3) := dk_182 1 108 (dk_at dksX0_share_2 5 rfl rfl)
theorem dX0_share_53 : decode cX0_share 53 = .ok (.iload_n 2, 1) := dk_28 (dk_at dksX0_share_2 8 rfl rfl)
theorem dX0_share_54 : decode cX0_share 54 = .ok (.ifCond .ne 12, 3) := dk_154 0 12 (dk_at dksX0_share_2 9 rfl rfl)
theorem dX0_share_57 : decode cX0_share 57 = .ok (.aload_n 0, 1) := dk_42 (dk_at dksX0_share_2 12 rfl rfl)
theorem dX0_share_58 : decode cX0_share 58 = .ok (.getfield 93, 3) := dk_180 0 93 (dk_at dksX0_share_2 13 rfl rfl)
theorem dX0_share_61 : decode cX0_share 61 = .ok (.iload_n 1, 1) := dk_27 (dk_at dksX0_share_2 16 rfl rfl)
theorem dX0_share_62 : decode cX0_share 62 = .ok (.iaload, 1) := dk_46 (dk_at dksX0_share_2 17 rfl rfl)
theorem dX0_share_63 : decode cX0_share 63 = .ok (.goto 24, 3) := dk_167 0 24 (dk_at dksX0_share_2 18 rfl rfl)
theorem dX0_share_66 : decode cX0_share 66 = .ok (.sipush 1000, 3) := dk_17 3 232 (dk_at dksX0_share_2 21 rfl rfl)
theorem dX0_share_69 : decode cX0_share 69 = .ok (.aload_n 0, 1) := dk_42 (dk_at dksX0_share_3 0 rfl rfl)
theorem dX0_share_70 : decode cX0_share 70 = .ok (.getfield 93, 3) := dk_180 0 93 (dk_at dksX0_share_3 1 rfl rfl)
theorem dX0_share_73 : decode cX0_share 73 = .ok (.iload_n 1, 1) := dk_27 (dk_at dksX0_share_3 4 rfl rfl)
theorem dX0_share_74 : decode cX0_share 74 = .ok (.iaload, 1) := dk_46 (dk_at dksX0_share_3 5 rfl rfl)
theorem dX0_share_75 : decode cX0_share 75 = .ok (.imul, 1) := dk_104 (dk_at dksX0_share_3 6 rfl rfl)
theorem dX0_share_76 : decode cX0_share 76 = .ok (.aload_n 0, 1) := dk_42 (dk_at dksX0_share_3 7 rfl rfl)
theorem dX0_share_77 : decode cX0_share 77 = .ok (.getfield 26, 3) := dk_180 0 26 (dk_at dksX0_share_3 8 rfl rfl)
theorem dX0_share_80 : decode cX0_share 80 = .ok (.getfield 154, 3) := dk_180 0 154 (dk_at dksX0_share_3 11 rfl rfl)
theorem dX0_share_83 : decode cX0_share 83 = .ok (.invokevirtual 36, 3) := dk_182 0 36 (dk_at dksX0_share_3 14 rfl rfl)
theorem dX0_share_86 : decode cX0_share 86 = .ok (.idiv, 1) := dk_108 (dk_at dksX0_share_3 17 rfl rfl)
theorem dX0_share_87 : decode cX0_share 87 = .ok (.ireturn, 1) := dk_172 (dk_at dksX0_share_3 18 rfl rfl)
abbrev cX0_layKinds : ByteArray := prog_1_method_39_code
def yX0_layKinds : MethodName := ⟨RX0, "layKinds", "()V"⟩
def dkwX0_layKinds_3 : List UInt8 := [4, 96, 79, 132, 1, 1, 167, 255, 207, 177]
abbrev dktX0_layKinds_3 : List UInt8 := dkwX0_layKinds_3 ++ []
def dkwX0_layKinds_2 : List UInt8 := [42, 180, 0, 26, 180, 0, 154, 27, 182, 0, 42, 192, 0, 173, 182, 1, 90, 185, 1, 94, 1, 0, 92, 46]
abbrev dktX0_layKinds_2 : List UInt8 := dkwX0_layKinds_2 ++ dktX0_layKinds_3
def dkwX0_layKinds_1 : List UInt8 := [167, 255, 240, 3, 60, 27, 42, 180, 0, 26, 180, 0, 154, 182, 0, 36, 162, 0, 41, 42, 180, 0, 93, 42]
abbrev dktX0_layKinds_1 : List UInt8 := dkwX0_layKinds_1 ++ dktX0_layKinds_2
def dkwX0_layKinds_0 : List UInt8 := [42, 182, 1, 87, 3, 60, 27, 16, 6, 162, 0, 16, 42, 180, 0, 93, 27, 3, 79, 132, 1, 1]
abbrev dktX0_layKinds_0 : List UInt8 := dkwX0_layKinds_0 ++ dktX0_layKinds_1
theorem dksX0_layKinds_0 : cX0_layKinds.data.toList.drop 0 = dktX0_layKinds_0 := by decide +kernel
theorem dksX0_layKinds_1 : cX0_layKinds.data.toList.drop 22 = dktX0_layKinds_1 := dk_seg dksX0_layKinds_0 22 rfl rfl
theorem dksX0_layKinds_2 : cX0_layKinds.data.toList.drop 46 = dktX0_layKinds_2 := dk_seg dksX0_layKinds_1 24 rfl rfl
theorem dksX0_layKinds_3 : cX0_layKinds.data.toList.drop 70 = dktX0_layKinds_3 := dk_seg dksX0_layKinds_2 24 rfl rfl
theorem dX0_layKinds_0 : decode cX0_layKinds 0 = .ok (.aload_n 0, 1) := dk_42 (dk_at dksX0_layKinds_0 0 rfl rfl)
theorem dX0_layKinds_1 : decode cX0_layKinds 1 = .ok (.invokevirtual 343, 3) := dk_182 1 87 (dk_at dksX0_layKinds_0 1 rfl rfl)
theorem dX0_layKinds_4 : decode cX0_layKinds 4 = .ok (.iconst 0, 1) := dk_3 (dk_at dksX0_layKinds_0 4 rfl rfl)
theorem dX0_layKinds_5 : decode cX0_layKinds 5 = .ok (.istore_n 1, 1) := dk_60 (dk_at dksX0_layKinds_0 5 rfl rfl)
theorem dX0_layKinds_6 : decode cX0_layKinds 6 = .ok (.iload_n 1, 1) := dk_27 (dk_at dksX0_layKinds_0 6 rfl rfl)
theorem dX0_layKinds_7 : decode cX0_layKinds 7 = .ok (.bipush 6, 2) := dk_16 6 (dk_at dksX0_layKinds_0 7 rfl rfl)
theorem dX0_layKinds_9 : decode cX0_layKinds 9 = .ok (.if_icmp .ge 16, 3) := dk_162 0 16 (dk_at dksX0_layKinds_0 9 rfl rfl)
theorem dX0_layKinds_12 : decode cX0_layKinds 12 = .ok (.aload_n 0, 1) := dk_42 (dk_at dksX0_layKinds_0 12 rfl rfl)
theorem dX0_layKinds_13 : decode cX0_layKinds 13 = .ok (.getfield 93, 3) := dk_180 0 93 (dk_at dksX0_layKinds_0 13 rfl rfl)
theorem dX0_layKinds_16 : decode cX0_layKinds 16 = .ok (.iload_n 1, 1) := dk_27 (dk_at dksX0_layKinds_0 16 rfl rfl)
theorem dX0_layKinds_17 : decode cX0_layKinds 17 = .ok (.iconst 0, 1) := dk_3 (dk_at dksX0_layKinds_0 17 rfl rfl)
theorem dX0_layKinds_18 : decode cX0_layKinds 18 = .ok (.iastore, 1) := dk_79 (dk_at dksX0_layKinds_0 18 rfl rfl)
theorem dX0_layKinds_19 : decode cX0_layKinds 19 = .ok (.iinc 1 1, 3) := dk_132 1 1 (dk_at dksX0_layKinds_0 19 rfl rfl)
theorem dX0_layKinds_22 : decode cX0_layKinds 22 = .ok (.goto (-16), 3) := dk_167 255 240 (dk_at dksX0_layKinds_1 0 rfl rfl)
theorem dX0_layKinds_25 : decode cX0_layKinds 25 = .ok (.iconst 0, 1) := dk_3 (dk_at dksX0_layKinds_1 3 rfl rfl)
theorem dX0_layKinds_26 : decode cX0_layKinds 26 = .ok (.istore_n 1, 1) := dk_60 (dk_at dksX0_layKinds_1 4 rfl rfl)
theorem dX0_layKinds_27 : decode cX0_layKinds 27 = .ok (.iload_n 1, 1) := dk_27 (dk_at dksX0_layKinds_1 5 rfl rfl)
theorem dX0_layKinds_28 : decode cX0_layKinds 28 = .ok (.aload_n 0, 1) := dk_42 (dk_at dksX0_layKinds_1 6 rfl rfl)
theorem dX0_layKinds_29 : decode cX0_layKinds 29 = .ok (.getfield 26, 3) := dk_180 0 26 (dk_at dksX0_layKinds_1 7 rfl rfl)
theorem dX0_layKinds_32 : decode cX0_layKinds 32 = .ok (.getfield 154, 3) := dk_180 0 154 (dk_at dksX0_layKinds_1 10 rfl rfl)
theorem dX0_layKinds_35 : decode cX0_layKinds 35 = .ok (.invokevirtual 36, 3) := dk_182 0 36 (dk_at dksX0_layKinds_1 13 rfl rfl)
theorem dX0_layKinds_38 : decode cX0_layKinds 38 = .ok (.if_icmp .ge 41, 3) := dk_162 0 41 (dk_at dksX0_layKinds_1 16 rfl rfl)
theorem dX0_layKinds_41 : decode cX0_layKinds 41 = .ok (.aload_n 0, 1) := dk_42 (dk_at dksX0_layKinds_1 19 rfl rfl)
theorem dX0_layKinds_42 : decode cX0_layKinds 42 = .ok (.getfield 93, 3) := dk_180 0 93 (dk_at dksX0_layKinds_1 20 rfl rfl)
theorem dX0_layKinds_45 : decode cX0_layKinds 45 = .ok (.aload_n 0, 1) := dk_42 (dk_at dksX0_layKinds_1 23 rfl rfl)
theorem dX0_layKinds_46 : decode cX0_layKinds 46 = .ok (.aload_n 0, 1) := dk_42 (dk_at dksX0_layKinds_2 0 rfl rfl)
theorem dX0_layKinds_47 : decode cX0_layKinds 47 = .ok (.getfield 26, 3) := dk_180 0 26 (dk_at dksX0_layKinds_2 1 rfl rfl)
theorem dX0_layKinds_50 : decode cX0_layKinds 50 = .ok (.getfield 154, 3) := dk_180 0 154 (dk_at dksX0_layKinds_2 4 rfl rfl)
theorem dX0_layKinds_53 : decode cX0_layKinds 53 = .ok (.iload_n 1, 1) := dk_27 (dk_at dksX0_layKinds_2 7 rfl rfl)
theorem dX0_layKinds_54 : decode cX0_layKinds 54 = .ok (.invokevirtual 42, 3) := dk_182 0 42 (dk_at dksX0_layKinds_2 8 rfl rfl)
theorem dX0_layKinds_57 : decode cX0_layKinds 57 = .ok (.checkcast 173, 3) := dk_192 0 173 (dk_at dksX0_layKinds_2 11 rfl rfl)
theorem dX0_layKinds_60 : decode cX0_layKinds 60 = .ok (.invokevirtual 346, 3) := dk_182 1 90 (dk_at dksX0_layKinds_2 14 rfl rfl)
theorem dX0_layKinds_63 : decode cX0_layKinds 63 = .ok (.invokeinterface 350 1, 5) := by decide +kernel
theorem dX0_layKinds_68 : decode cX0_layKinds 68 = .ok (.dup2, 1) := dk_92 (dk_at dksX0_layKinds_2 22 rfl rfl)
theorem dX0_layKinds_69 : decode cX0_layKinds 69 = .ok (.iaload, 1) := dk_46 (dk_at dksX0_layKinds_2 23 rfl rfl)
theorem dX0_layKinds_70 : decode cX0_layKinds 70 = .ok (.iconst 1, 1) := dk_4 (dk_at dksX0_layKinds_3 0 rfl rfl)
theorem dX0_layKinds_71 : decode cX0_layKinds 71 = .ok (.iadd, 1) := dk_96 (dk_at dksX0_layKinds_3 1 rfl rfl)
theorem dX0_layKinds_72 : decode cX0_layKinds 72 = .ok (.iastore, 1) := dk_79 (dk_at dksX0_layKinds_3 2 rfl rfl)
theorem dX0_layKinds_73 : decode cX0_layKinds 73 = .ok (.iinc 1 1, 3) := dk_132 1 1 (dk_at dksX0_layKinds_3 3 rfl rfl)
theorem dX0_layKinds_76 : decode cX0_layKinds 76 = .ok (.goto (-49), 3) := dk_167 255 207 (dk_at dksX0_layKinds_3 6 rfl rfl)
theorem dX0_layKinds_79 : decode cX0_layKinds 79 = .ok (.return_, 1) := dk_177 (dk_at dksX0_layKinds_3 9 rfl rfl)
abbrev cX0_span : ByteArray := prog_1_method_41_code
def yX0_span : MethodName := ⟨RX0, "span", "(I)I"⟩
def dkwX0_span_3 : List UInt8 := [180, 0, 93, 7, 46, 96, 61, 17, 3, 232, 28, 104, 42, 180, 0, 26, 180, 0, 154, 182, 0, 36, 108, 172]
abbrev dktX0_span_3 : List UInt8 := dkwX0_span_3 ++ []
def dkwX0_span_2 : List UInt8 := [180, 0, 93, 4, 46, 96, 42, 180, 0, 93, 5, 46, 96, 27, 154, 0, 7, 3, 167, 0, 9, 42]
abbrev dktX0_span_2 : List UInt8 := dkwX0_span_2 ++ dktX0_span_3
def dkwX0_span_1 : List UInt8 := [182, 1, 31, 153, 0, 10, 42, 16, 251, 182, 0, 119, 172, 42, 182, 1, 108, 42, 180, 0, 93, 3, 46, 42]
abbrev dktX0_span_1 : List UInt8 := dkwX0_span_1 ++ dktX0_span_2
def dkwX0_span_0 : List UInt8 := [27, 133, 9, 10, 184, 0, 111, 154, 0, 10, 42, 16, 254, 182, 0, 119, 172, 42, 180, 0, 26, 180, 0, 154]
abbrev dktX0_span_0 : List UInt8 := dkwX0_span_0 ++ dktX0_span_1
theorem dksX0_span_0 : cX0_span.data.toList.drop 0 = dktX0_span_0 := by decide +kernel
theorem dksX0_span_1 : cX0_span.data.toList.drop 24 = dktX0_span_1 := dk_seg dksX0_span_0 24 rfl rfl
theorem dksX0_span_2 : cX0_span.data.toList.drop 48 = dktX0_span_2 := dk_seg dksX0_span_1 24 rfl rfl
theorem dksX0_span_3 : cX0_span.data.toList.drop 70 = dktX0_span_3 := dk_seg dksX0_span_2 22 rfl rfl
theorem dX0_span_0 : decode cX0_span 0 = .ok (.iload_n 1, 1) := dk_27 (dk_at dksX0_span_0 0 rfl rfl)
theorem dX0_span_1 : decode cX0_span 1 = .ok (.i2l, 1) := dk_133 (dk_at dksX0_span_0 1 rfl rfl)
theorem dX0_span_2 : decode cX0_span 2 = .ok (.lconst 0, 1) := dk_9 (dk_at dksX0_span_0 2 rfl rfl)
theorem dX0_span_3 : decode cX0_span 3 = .ok (.lconst 1, 1) := dk_10 (dk_at dksX0_span_0 3 rfl rfl)
theorem dX0_span_4 : decode cX0_span 4 = .ok (.invokestatic 111, 3) := dk_184 0 111 (dk_at dksX0_span_0 4 rfl rfl)
theorem dX0_span_7 : decode cX0_span 7 = .ok (.ifCond .ne 10, 3) := dk_154 0 10 (dk_at dksX0_span_0 7 rfl rfl)
theorem dX0_span_10 : decode cX0_span 10 = .ok (.aload_n 0, 1) := dk_42 (dk_at dksX0_span_0 10 rfl rfl)
theorem dX0_span_11 : decode cX0_span 11 = .ok (.bipush (-2), 2) := dk_16 254 (dk_at dksX0_span_0 11 rfl rfl)
theorem dX0_span_13 : decode cX0_span 13 = .ok (.invokevirtual 119, 3) := dk_182 0 119 (dk_at dksX0_span_0 13 rfl rfl)
theorem dX0_span_16 : decode cX0_span 16 = .ok (.ireturn, 1) := dk_172 (dk_at dksX0_span_0 16 rfl rfl)
theorem dX0_span_17 : decode cX0_span 17 = .ok (.aload_n 0, 1) := dk_42 (dk_at dksX0_span_0 17 rfl rfl)
theorem dX0_span_18 : decode cX0_span 18 = .ok (.getfield 26, 3) := dk_180 0 26 (dk_at dksX0_span_0 18 rfl rfl)
theorem dX0_span_21 : decode cX0_span 21 = .ok (.getfield 154, 3) := dk_180 0 154 (dk_at dksX0_span_0 21 rfl rfl)
theorem dX0_span_24 : decode cX0_span 24 = .ok (.invokevirtual 287, 3) := dk_182 1 31 (dk_at dksX0_span_1 0 rfl rfl)
theorem dX0_span_27 : decode cX0_span 27 = .ok (.ifCond .eq 10, 3) := dk_153 0 10 (dk_at dksX0_span_1 3 rfl rfl)
theorem dX0_span_30 : decode cX0_span 30 = .ok (.aload_n 0, 1) := dk_42 (dk_at dksX0_span_1 6 rfl rfl)
theorem dX0_span_31 : decode cX0_span 31 = .ok (.bipush (-5), 2) := dk_16 251 (dk_at dksX0_span_1 7 rfl rfl)
theorem dX0_span_33 : decode cX0_span 33 = .ok (.invokevirtual 119, 3) := dk_182 0 119 (dk_at dksX0_span_1 9 rfl rfl)
theorem dX0_span_36 : decode cX0_span 36 = .ok (.ireturn, 1) := dk_172 (dk_at dksX0_span_1 12 rfl rfl)
theorem dX0_span_37 : decode cX0_span 37 = .ok (.aload_n 0, 1) := dk_42 (dk_at dksX0_span_1 13 rfl rfl)
theorem dX0_span_38 : decode cX0_span 38 = .ok (.invokevirtual 364, 3) := dk_182 1 108 (dk_at dksX0_span_1 14 rfl rfl)
theorem dX0_span_41 : decode cX0_span 41 = .ok (.aload_n 0, 1) := dk_42 (dk_at dksX0_span_1 17 rfl rfl)
theorem dX0_span_42 : decode cX0_span 42 = .ok (.getfield 93, 3) := dk_180 0 93 (dk_at dksX0_span_1 18 rfl rfl)
theorem dX0_span_45 : decode cX0_span 45 = .ok (.iconst 0, 1) := dk_3 (dk_at dksX0_span_1 21 rfl rfl)
theorem dX0_span_46 : decode cX0_span 46 = .ok (.iaload, 1) := dk_46 (dk_at dksX0_span_1 22 rfl rfl)
theorem dX0_span_47 : decode cX0_span 47 = .ok (.aload_n 0, 1) := dk_42 (dk_at dksX0_span_1 23 rfl rfl)
theorem dX0_span_48 : decode cX0_span 48 = .ok (.getfield 93, 3) := dk_180 0 93 (dk_at dksX0_span_2 0 rfl rfl)
theorem dX0_span_51 : decode cX0_span 51 = .ok (.iconst 1, 1) := dk_4 (dk_at dksX0_span_2 3 rfl rfl)
theorem dX0_span_52 : decode cX0_span 52 = .ok (.iaload, 1) := dk_46 (dk_at dksX0_span_2 4 rfl rfl)
theorem dX0_span_53 : decode cX0_span 53 = .ok (.iadd, 1) := dk_96 (dk_at dksX0_span_2 5 rfl rfl)
theorem dX0_span_54 : decode cX0_span 54 = .ok (.aload_n 0, 1) := dk_42 (dk_at dksX0_span_2 6 rfl rfl)
theorem dX0_span_55 : decode cX0_span 55 = .ok (.getfield 93, 3) := dk_180 0 93 (dk_at dksX0_span_2 7 rfl rfl)
theorem dX0_span_58 : decode cX0_span 58 = .ok (.iconst 2, 1) := dk_5 (dk_at dksX0_span_2 10 rfl rfl)
theorem dX0_span_59 : decode cX0_span 59 = .ok (.iaload, 1) := dk_46 (dk_at dksX0_span_2 11 rfl rfl)
theorem dX0_span_60 : decode cX0_span 60 = .ok (.iadd, 1) := dk_96 (dk_at dksX0_span_2 12 rfl rfl)
theorem dX0_span_61 : decode cX0_span 61 = .ok (.iload_n 1, 1) := dk_27 (dk_at dksX0_span_2 13 rfl rfl)
theorem dX0_span_62 : decode cX0_span 62 = .ok (.ifCond .ne 7, 3) := dk_154 0 7 (dk_at dksX0_span_2 14 rfl rfl)
theorem dX0_span_65 : decode cX0_span 65 = .ok (.iconst 0, 1) := dk_3 (dk_at dksX0_span_2 17 rfl rfl)
theorem dX0_span_66 : decode cX0_span 66 = .ok (.goto 9, 3) := dk_167 0 9 (dk_at dksX0_span_2 18 rfl rfl)
theorem dX0_span_69 : decode cX0_span 69 = .ok (.aload_n 0, 1) := dk_42 (dk_at dksX0_span_2 21 rfl rfl)
theorem dX0_span_70 : decode cX0_span 70 = .ok (.getfield 93, 3) := dk_180 0 93 (dk_at dksX0_span_3 0 rfl rfl)
theorem dX0_span_73 : decode cX0_span 73 = .ok (.iconst 4, 1) := dk_7 (dk_at dksX0_span_3 3 rfl rfl)
theorem dX0_span_74 : decode cX0_span 74 = .ok (.iaload, 1) := dk_46 (dk_at dksX0_span_3 4 rfl rfl)
theorem dX0_span_75 : decode cX0_span 75 = .ok (.iadd, 1) := dk_96 (dk_at dksX0_span_3 5 rfl rfl)
theorem dX0_span_76 : decode cX0_span 76 = .ok (.istore_n 2, 1) := dk_61 (dk_at dksX0_span_3 6 rfl rfl)
theorem dX0_span_77 : decode cX0_span 77 = .ok (.sipush 1000, 3) := dk_17 3 232 (dk_at dksX0_span_3 7 rfl rfl)
theorem dX0_span_80 : decode cX0_span 80 = .ok (.iload_n 2, 1) := dk_28 (dk_at dksX0_span_3 10 rfl rfl)
theorem dX0_span_81 : decode cX0_span 81 = .ok (.imul, 1) := dk_104 (dk_at dksX0_span_3 11 rfl rfl)
theorem dX0_span_82 : decode cX0_span 82 = .ok (.aload_n 0, 1) := dk_42 (dk_at dksX0_span_3 12 rfl rfl)
theorem dX0_span_83 : decode cX0_span 83 = .ok (.getfield 26, 3) := dk_180 0 26 (dk_at dksX0_span_3 13 rfl rfl)
theorem dX0_span_86 : decode cX0_span 86 = .ok (.getfield 154, 3) := dk_180 0 154 (dk_at dksX0_span_3 16 rfl rfl)
theorem dX0_span_89 : decode cX0_span 89 = .ok (.invokevirtual 36, 3) := dk_182 0 36 (dk_at dksX0_span_3 19 rfl rfl)
theorem dX0_span_92 : decode cX0_span 92 = .ok (.idiv, 1) := dk_108 (dk_at dksX0_span_3 22 rfl rfl)
theorem dX0_span_93 : decode cX0_span 93 = .ok (.ireturn, 1) := dk_172 (dk_at dksX0_span_3 23 rfl rfl)
abbrev cX0_chance : ByteArray := prog_1_method_46_code
def yX0_chance : MethodName := ⟨RX0, "chance", "(II)I"⟩
def dkwX0_chance_2 : List UInt8 := [180, 1, 111, 133, 28, 184, 1, 129, 136, 172]
abbrev dktX0_chance_2 : List UInt8 := dkwX0_chance_2 ++ []
def dkwX0_chance_1 : List UInt8 := [182, 0, 119, 172, 42, 42, 180, 0, 26, 180, 0, 138, 3, 27, 182, 1, 126, 42, 180, 1, 114, 133, 42]
abbrev dktX0_chance_1 : List UInt8 := dkwX0_chance_1 ++ dktX0_chance_2
def dkwX0_chance_0 : List UInt8 := [28, 184, 1, 120, 154, 0, 10, 42, 16, 254, 182, 0, 119, 172, 27, 184, 1, 123, 154, 0, 10, 42, 16, 253]
abbrev dktX0_chance_0 : List UInt8 := dkwX0_chance_0 ++ dktX0_chance_1
theorem dksX0_chance_0 : cX0_chance.data.toList.drop 0 = dktX0_chance_0 := by decide +kernel
theorem dksX0_chance_1 : cX0_chance.data.toList.drop 24 = dktX0_chance_1 := dk_seg dksX0_chance_0 24 rfl rfl
theorem dksX0_chance_2 : cX0_chance.data.toList.drop 47 = dktX0_chance_2 := dk_seg dksX0_chance_1 23 rfl rfl
theorem dX0_chance_0 : decode cX0_chance 0 = .ok (.iload_n 2, 1) := dk_28 (dk_at dksX0_chance_0 0 rfl rfl)
theorem dX0_chance_1 : decode cX0_chance 1 = .ok (.invokestatic 376, 3) := dk_184 1 120 (dk_at dksX0_chance_0 1 rfl rfl)
theorem dX0_chance_4 : decode cX0_chance 4 = .ok (.ifCond .ne 10, 3) := dk_154 0 10 (dk_at dksX0_chance_0 4 rfl rfl)
theorem dX0_chance_7 : decode cX0_chance 7 = .ok (.aload_n 0, 1) := dk_42 (dk_at dksX0_chance_0 7 rfl rfl)
theorem dX0_chance_8 : decode cX0_chance 8 = .ok (.bipush (-2), 2) := dk_16 254 (dk_at dksX0_chance_0 8 rfl rfl)
theorem dX0_chance_10 : decode cX0_chance 10 = .ok (.invokevirtual 119, 3) := dk_182 0 119 (dk_at dksX0_chance_0 10 rfl rfl)
theorem dX0_chance_13 : decode cX0_chance 13 = .ok (.ireturn, 1) := dk_172 (dk_at dksX0_chance_0 13 rfl rfl)
theorem dX0_chance_14 : decode cX0_chance 14 = .ok (.iload_n 1, 1) := dk_27 (dk_at dksX0_chance_0 14 rfl rfl)
theorem dX0_chance_15 : decode cX0_chance 15 = .ok (.invokestatic 379, 3) := dk_184 1 123 (dk_at dksX0_chance_0 15 rfl rfl)
theorem dX0_chance_18 : decode cX0_chance 18 = .ok (.ifCond .ne 10, 3) := dk_154 0 10 (dk_at dksX0_chance_0 18 rfl rfl)
theorem dX0_chance_21 : decode cX0_chance 21 = .ok (.aload_n 0, 1) := dk_42 (dk_at dksX0_chance_0 21 rfl rfl)
theorem dX0_chance_22 : decode cX0_chance 22 = .ok (.bipush (-3), 2) := dk_16 253 (dk_at dksX0_chance_0 22 rfl rfl)
theorem dX0_chance_24 : decode cX0_chance 24 = .ok (.invokevirtual 119, 3) := dk_182 0 119 (dk_at dksX0_chance_1 0 rfl rfl)
theorem dX0_chance_27 : decode cX0_chance 27 = .ok (.ireturn, 1) := dk_172 (dk_at dksX0_chance_1 3 rfl rfl)
theorem dX0_chance_28 : decode cX0_chance 28 = .ok (.aload_n 0, 1) := dk_42 (dk_at dksX0_chance_1 4 rfl rfl)
theorem dX0_chance_29 : decode cX0_chance 29 = .ok (.aload_n 0, 1) := dk_42 (dk_at dksX0_chance_1 5 rfl rfl)
theorem dX0_chance_30 : decode cX0_chance 30 = .ok (.getfield 26, 3) := dk_180 0 26 (dk_at dksX0_chance_1 6 rfl rfl)
theorem dX0_chance_33 : decode cX0_chance 33 = .ok (.getfield 138, 3) := dk_180 0 138 (dk_at dksX0_chance_1 9 rfl rfl)
theorem dX0_chance_36 : decode cX0_chance 36 = .ok (.iconst 0, 1) := dk_3 (dk_at dksX0_chance_1 12 rfl rfl)
theorem dX0_chance_37 : decode cX0_chance 37 = .ok (.iload_n 1, 1) := dk_27 (dk_at dksX0_chance_1 13 rfl rfl)
theorem dX0_chance_38 : decode cX0_chance 38 = .ok (.invokevirtual 382, 3) := dk_182 1 126 (dk_at dksX0_chance_1 14 rfl rfl)
theorem dX0_chance_41 : decode cX0_chance 41 = .ok (.aload_n 0, 1) := dk_42 (dk_at dksX0_chance_1 17 rfl rfl)
theorem dX0_chance_42 : decode cX0_chance 42 = .ok (.getfield 370, 3) := dk_180 1 114 (dk_at dksX0_chance_1 18 rfl rfl)
theorem dX0_chance_45 : decode cX0_chance 45 = .ok (.i2l, 1) := dk_133 (dk_at dksX0_chance_1 21 rfl rfl)
theorem dX0_chance_46 : decode cX0_chance 46 = .ok (.aload_n 0, 1) := dk_42 (dk_at dksX0_chance_1 22 rfl rfl)
theorem dX0_chance_47 : decode cX0_chance 47 = .ok (.getfield 367, 3) := dk_180 1 111 (dk_at dksX0_chance_2 0 rfl rfl)
theorem dX0_chance_50 : decode cX0_chance 50 = .ok (.i2l, 1) := dk_133 (dk_at dksX0_chance_2 3 rfl rfl)
theorem dX0_chance_51 : decode cX0_chance 51 = .ok (.iload_n 2, 1) := dk_28 (dk_at dksX0_chance_2 4 rfl rfl)
theorem dX0_chance_52 : decode cX0_chance 52 = .ok (.invokestatic 385, 3) := dk_184 1 129 (dk_at dksX0_chance_2 5 rfl rfl)
theorem dX0_chance_55 : decode cX0_chance 55 = .ok (.l2i, 1) := dk_136 (dk_at dksX0_chance_2 8 rfl rfl)
theorem dX0_chance_56 : decode cX0_chance 56 = .ok (.ireturn, 1) := dk_172 (dk_at dksX0_chance_2 9 rfl rfl)
abbrev cX0_isPart : ByteArray := prog_1_method_43_code
def yX0_isPart : MethodName := ⟨RX0, "isPart", "(I)Z"⟩
def dkwX0_isPart_0 : List UInt8 := [26, 133, 9, 10, 184, 0, 111, 172]
abbrev dktX0_isPart_0 : List UInt8 := dkwX0_isPart_0 ++ []
theorem dksX0_isPart_0 : cX0_isPart.data.toList.drop 0 = dktX0_isPart_0 := by decide +kernel
theorem dX0_isPart_0 : decode cX0_isPart 0 = .ok (.iload_n 0, 1) := dk_26 (dk_at dksX0_isPart_0 0 rfl rfl)
theorem dX0_isPart_1 : decode cX0_isPart 1 = .ok (.i2l, 1) := dk_133 (dk_at dksX0_isPart_0 1 rfl rfl)
theorem dX0_isPart_2 : decode cX0_isPart 2 = .ok (.lconst 0, 1) := dk_9 (dk_at dksX0_isPart_0 2 rfl rfl)
theorem dX0_isPart_3 : decode cX0_isPart 3 = .ok (.lconst 1, 1) := dk_10 (dk_at dksX0_isPart_0 3 rfl rfl)
theorem dX0_isPart_4 : decode cX0_isPart 4 = .ok (.invokestatic 111, 3) := dk_184 0 111 (dk_at dksX0_isPart_0 4 rfl rfl)
theorem dX0_isPart_7 : decode cX0_isPart 7 = .ok (.ireturn, 1) := dk_172 (dk_at dksX0_isPart_0 7 rfl rfl)
abbrev cX0_isBound : ByteArray := prog_1_method_45_code
def yX0_isBound : MethodName := ⟨RX0, "isBound", "(I)Z"⟩
def dkwX0_isBound_0 : List UInt8 := [26, 133, 10, 20, 0, 184, 184, 0, 111, 172]
abbrev dktX0_isBound_0 : List UInt8 := dkwX0_isBound_0 ++ []
theorem dksX0_isBound_0 : cX0_isBound.data.toList.drop 0 = dktX0_isBound_0 := by decide +kernel
theorem dX0_isBound_0 : decode cX0_isBound 0 = .ok (.iload_n 0, 1) := dk_26 (dk_at dksX0_isBound_0 0 rfl rfl)
theorem dX0_isBound_1 : decode cX0_isBound 1 = .ok (.i2l, 1) := dk_133 (dk_at dksX0_isBound_0 1 rfl rfl)
theorem dX0_isBound_2 : decode cX0_isBound 2 = .ok (.lconst 1, 1) := dk_10 (dk_at dksX0_isBound_0 2 rfl rfl)
theorem dX0_isBound_3 : decode cX0_isBound 3 = .ok (.ldc2_w 184, 3) := dk_20 0 184 (dk_at dksX0_isBound_0 3 rfl rfl)
theorem dX0_isBound_6 : decode cX0_isBound 6 = .ok (.invokestatic 111, 3) := dk_184 0 111 (dk_at dksX0_isBound_0 6 rfl rfl)
theorem dX0_isBound_9 : decode cX0_isBound 9 = .ok (.ireturn, 1) := dk_172 (dk_at dksX0_isBound_0 9 rfl rfl)
abbrev cX0_pairs : ByteArray := prog_1_method_44_code
def yX0_pairs : MethodName := ⟨RX0, "pairs", "(Ljava/util/ArrayList;ZI)V"⟩
def dkwX0_pairs_7 : List UInt8 := [132, 6, 1, 167, 255, 153, 132, 4, 1, 167, 255, 97, 177]
abbrev dktX0_pairs_7 : List UInt8 := dkwX0_pairs_7 ++ []
def dkwX0_pairs_6 : List UInt8 := [182, 0, 218, 29, 161, 0, 7, 4, 167, 0, 4, 3, 96, 181, 1, 114, 132, 7, 1, 167, 255, 175]
abbrev dktX0_pairs_6 : List UInt8 := dkwX0_pairs_6 ++ dktX0_pairs_7
def dkwX0_pairs_5 : List UInt8 := [21, 7, 182, 0, 42, 192, 0, 173, 180, 0, 195, 25, 5, 180, 0, 178, 21, 6, 182, 0, 42, 192, 0, 2]
abbrev dktX0_pairs_5 : List UInt8 := dkwX0_pairs_5 ++ dktX0_pairs_6
def dkwX0_pairs_4 : List UInt8 := [42, 89, 180, 1, 111, 4, 96, 181, 1, 111, 42, 89, 180, 1, 114, 42, 42, 180, 0, 26, 180, 0, 154]
abbrev dktX0_pairs_4 : List UInt8 := dkwX0_pairs_4 ++ dktX0_pairs_5
def dkwX0_pairs_3 : List UInt8 := [182, 0, 36, 162, 0, 96, 3, 54, 7, 21, 7, 42, 180, 0, 26, 180, 0, 154, 182, 0, 36, 162, 0, 72]
abbrev dktX0_pairs_3 : List UInt8 := dkwX0_pairs_3 ++ dktX0_pairs_4
def dkwX0_pairs_2 : List UInt8 := [167, 0, 123, 25, 5, 180, 1, 117, 154, 0, 6, 167, 0, 112, 3, 54, 6, 21, 6, 25, 5, 180, 0, 178]
abbrev dktX0_pairs_2 : List UInt8 := dkwX0_pairs_2 ++ dktX0_pairs_3
def dkwX0_pairs_1 : List UInt8 := [21, 4, 182, 0, 42, 192, 0, 145, 58, 5, 28, 153, 0, 15, 42, 25, 5, 182, 1, 47, 154, 0, 17]
abbrev dktX0_pairs_1 : List UInt8 := dkwX0_pairs_1 ++ dktX0_pairs_2
def dkwX0_pairs_0 : List UInt8 := [42, 3, 181, 1, 111, 42, 3, 181, 1, 114, 3, 54, 4, 21, 4, 43, 182, 0, 36, 162, 0, 156, 43]
abbrev dktX0_pairs_0 : List UInt8 := dkwX0_pairs_0 ++ dktX0_pairs_1
theorem dksX0_pairs_0 : cX0_pairs.data.toList.drop 0 = dktX0_pairs_0 := by decide +kernel
theorem dksX0_pairs_1 : cX0_pairs.data.toList.drop 23 = dktX0_pairs_1 := dk_seg dksX0_pairs_0 23 rfl rfl
theorem dksX0_pairs_2 : cX0_pairs.data.toList.drop 46 = dktX0_pairs_2 := dk_seg dksX0_pairs_1 23 rfl rfl
theorem dksX0_pairs_3 : cX0_pairs.data.toList.drop 70 = dktX0_pairs_3 := dk_seg dksX0_pairs_2 24 rfl rfl
theorem dksX0_pairs_4 : cX0_pairs.data.toList.drop 94 = dktX0_pairs_4 := dk_seg dksX0_pairs_3 24 rfl rfl
theorem dksX0_pairs_5 : cX0_pairs.data.toList.drop 117 = dktX0_pairs_5 := dk_seg dksX0_pairs_4 23 rfl rfl
theorem dksX0_pairs_6 : cX0_pairs.data.toList.drop 141 = dktX0_pairs_6 := dk_seg dksX0_pairs_5 24 rfl rfl
theorem dksX0_pairs_7 : cX0_pairs.data.toList.drop 163 = dktX0_pairs_7 := dk_seg dksX0_pairs_6 22 rfl rfl
theorem dX0_pairs_0 : decode cX0_pairs 0 = .ok (.aload_n 0, 1) := dk_42 (dk_at dksX0_pairs_0 0 rfl rfl)
theorem dX0_pairs_1 : decode cX0_pairs 1 = .ok (.iconst 0, 1) := dk_3 (dk_at dksX0_pairs_0 1 rfl rfl)
theorem dX0_pairs_2 : decode cX0_pairs 2 = .ok (.putfield 367, 3) := dk_181 1 111 (dk_at dksX0_pairs_0 2 rfl rfl)
theorem dX0_pairs_5 : decode cX0_pairs 5 = .ok (.aload_n 0, 1) := dk_42 (dk_at dksX0_pairs_0 5 rfl rfl)
theorem dX0_pairs_6 : decode cX0_pairs 6 = .ok (.iconst 0, 1) := dk_3 (dk_at dksX0_pairs_0 6 rfl rfl)
theorem dX0_pairs_7 : decode cX0_pairs 7 = .ok (.putfield 370, 3) := dk_181 1 114 (dk_at dksX0_pairs_0 7 rfl rfl)
theorem dX0_pairs_10 : decode cX0_pairs 10 = .ok (.iconst 0, 1) := dk_3 (dk_at dksX0_pairs_0 10 rfl rfl)
theorem dX0_pairs_11 : decode cX0_pairs 11 = .ok (.istore 4, 2) := dk_54 4 (dk_at dksX0_pairs_0 11 rfl rfl)
theorem dX0_pairs_13 : decode cX0_pairs 13 = .ok (.iload 4, 2) := dk_21 4 (dk_at dksX0_pairs_0 13 rfl rfl)
theorem dX0_pairs_15 : decode cX0_pairs 15 = .ok (.aload_n 1, 1) := dk_43 (dk_at dksX0_pairs_0 15 rfl rfl)
theorem dX0_pairs_16 : decode cX0_pairs 16 = .ok (.invokevirtual 36, 3) := dk_182 0 36 (dk_at dksX0_pairs_0 16 rfl rfl)
theorem dX0_pairs_19 : decode cX0_pairs 19 = .ok (.if_icmp .ge 156, 3) := dk_162 0 156 (dk_at dksX0_pairs_0 19 rfl rfl)
theorem dX0_pairs_22 : decode cX0_pairs 22 = .ok (.aload_n 1, 1) := dk_43 (dk_at dksX0_pairs_0 22 rfl rfl)
theorem dX0_pairs_23 : decode cX0_pairs 23 = .ok (.iload 4, 2) := dk_21 4 (dk_at dksX0_pairs_1 0 rfl rfl)
theorem dX0_pairs_25 : decode cX0_pairs 25 = .ok (.invokevirtual 42, 3) := dk_182 0 42 (dk_at dksX0_pairs_1 2 rfl rfl)
theorem dX0_pairs_28 : decode cX0_pairs 28 = .ok (.checkcast 145, 3) := dk_192 0 145 (dk_at dksX0_pairs_1 5 rfl rfl)
theorem dX0_pairs_31 : decode cX0_pairs 31 = .ok (.astore 5, 2) := dk_58 5 (dk_at dksX0_pairs_1 8 rfl rfl)
theorem dX0_pairs_33 : decode cX0_pairs 33 = .ok (.iload_n 2, 1) := dk_28 (dk_at dksX0_pairs_1 10 rfl rfl)
theorem dX0_pairs_34 : decode cX0_pairs 34 = .ok (.ifCond .eq 15, 3) := dk_153 0 15 (dk_at dksX0_pairs_1 11 rfl rfl)
theorem dX0_pairs_37 : decode cX0_pairs 37 = .ok (.aload_n 0, 1) := dk_42 (dk_at dksX0_pairs_1 14 rfl rfl)
theorem dX0_pairs_38 : decode cX0_pairs 38 = .ok (.aload 5, 2) := dk_25 5 (dk_at dksX0_pairs_1 15 rfl rfl)
theorem dX0_pairs_40 : decode cX0_pairs 40 = .ok (.invokevirtual 303, 3) := dk_182 1 47 (dk_at dksX0_pairs_1 17 rfl rfl)
theorem dX0_pairs_43 : decode cX0_pairs 43 = .ok (.ifCond .ne 17, 3) := dk_154 0 17 (dk_at dksX0_pairs_1 20 rfl rfl)
theorem dX0_pairs_46 : decode cX0_pairs 46 = .ok (.goto 123, 3) := dk_167 0 123 (dk_at dksX0_pairs_2 0 rfl rfl)
theorem dX0_pairs_49 : decode cX0_pairs 49 = .ok (.aload 5, 2) := dk_25 5 (dk_at dksX0_pairs_2 3 rfl rfl)
theorem dX0_pairs_51 : decode cX0_pairs 51 = .ok (.getfield 373, 3) := dk_180 1 117 (dk_at dksX0_pairs_2 5 rfl rfl)
theorem dX0_pairs_54 : decode cX0_pairs 54 = .ok (.ifCond .ne 6, 3) := dk_154 0 6 (dk_at dksX0_pairs_2 8 rfl rfl)
theorem dX0_pairs_57 : decode cX0_pairs 57 = .ok (.goto 112, 3) := dk_167 0 112 (dk_at dksX0_pairs_2 11 rfl rfl)
theorem dX0_pairs_60 : decode cX0_pairs 60 = .ok (.iconst 0, 1) := dk_3 (dk_at dksX0_pairs_2 14 rfl rfl)
theorem dX0_pairs_61 : decode cX0_pairs 61 = .ok (.istore 6, 2) := dk_54 6 (dk_at dksX0_pairs_2 15 rfl rfl)
theorem dX0_pairs_63 : decode cX0_pairs 63 = .ok (.iload 6, 2) := dk_21 6 (dk_at dksX0_pairs_2 17 rfl rfl)
theorem dX0_pairs_65 : decode cX0_pairs 65 = .ok (.aload 5, 2) := dk_25 5 (dk_at dksX0_pairs_2 19 rfl rfl)
theorem dX0_pairs_67 : decode cX0_pairs 67 = .ok (.getfield 178, 3) := dk_180 0 178 (dk_at dksX0_pairs_2 21 rfl rfl)
theorem dX0_pairs_70 : decode cX0_pairs 70 = .ok (.invokevirtual 36, 3) := dk_182 0 36 (dk_at dksX0_pairs_3 0 rfl rfl)
theorem dX0_pairs_73 : decode cX0_pairs 73 = .ok (.if_icmp .ge 96, 3) := dk_162 0 96 (dk_at dksX0_pairs_3 3 rfl rfl)
theorem dX0_pairs_76 : decode cX0_pairs 76 = .ok (.iconst 0, 1) := dk_3 (dk_at dksX0_pairs_3 6 rfl rfl)
theorem dX0_pairs_77 : decode cX0_pairs 77 = .ok (.istore 7, 2) := dk_54 7 (dk_at dksX0_pairs_3 7 rfl rfl)
theorem dX0_pairs_79 : decode cX0_pairs 79 = .ok (.iload 7, 2) := dk_21 7 (dk_at dksX0_pairs_3 9 rfl rfl)
theorem dX0_pairs_81 : decode cX0_pairs 81 = .ok (.aload_n 0, 1) := dk_42 (dk_at dksX0_pairs_3 11 rfl rfl)
theorem dX0_pairs_82 : decode cX0_pairs 82 = .ok (.getfield 26, 3) := dk_180 0 26 (dk_at dksX0_pairs_3 12 rfl rfl)
theorem dX0_pairs_85 : decode cX0_pairs 85 = .ok (.getfield 154, 3) := dk_180 0 154 (dk_at dksX0_pairs_3 15 rfl rfl)
theorem dX0_pairs_88 : decode cX0_pairs 88 = .ok (.invokevirtual 36, 3) := dk_182 0 36 (dk_at dksX0_pairs_3 18 rfl rfl)
theorem dX0_pairs_91 : decode cX0_pairs 91 = .ok (.if_icmp .ge 72, 3) := dk_162 0 72 (dk_at dksX0_pairs_3 21 rfl rfl)
theorem dX0_pairs_94 : decode cX0_pairs 94 = .ok (.aload_n 0, 1) := dk_42 (dk_at dksX0_pairs_4 0 rfl rfl)
theorem dX0_pairs_95 : decode cX0_pairs 95 = .ok (.dup, 1) := dk_89 (dk_at dksX0_pairs_4 1 rfl rfl)
theorem dX0_pairs_96 : decode cX0_pairs 96 = .ok (.getfield 367, 3) := dk_180 1 111 (dk_at dksX0_pairs_4 2 rfl rfl)
theorem dX0_pairs_99 : decode cX0_pairs 99 = .ok (.iconst 1, 1) := dk_4 (dk_at dksX0_pairs_4 5 rfl rfl)
theorem dX0_pairs_100 : decode cX0_pairs 100 = .ok (.iadd, 1) := dk_96 (dk_at dksX0_pairs_4 6 rfl rfl)
theorem dX0_pairs_101 : decode cX0_pairs 101 = .ok (.putfield 367, 3) := dk_181 1 111 (dk_at dksX0_pairs_4 7 rfl rfl)
theorem dX0_pairs_104 : decode cX0_pairs 104 = .ok (.aload_n 0, 1) := dk_42 (dk_at dksX0_pairs_4 10 rfl rfl)
theorem dX0_pairs_105 : decode cX0_pairs 105 = .ok (.dup, 1) := dk_89 (dk_at dksX0_pairs_4 11 rfl rfl)
theorem dX0_pairs_106 : decode cX0_pairs 106 = .ok (.getfield 370, 3) := dk_180 1 114 (dk_at dksX0_pairs_4 12 rfl rfl)
theorem dX0_pairs_109 : decode cX0_pairs 109 = .ok (.aload_n 0, 1) := dk_42 (dk_at dksX0_pairs_4 15 rfl rfl)
theorem dX0_pairs_110 : decode cX0_pairs 110 = .ok (.aload_n 0, 1) := dk_42 (dk_at dksX0_pairs_4 16 rfl rfl)
theorem dX0_pairs_111 : decode cX0_pairs 111 = .ok (.getfield 26, 3) := dk_180 0 26 (dk_at dksX0_pairs_4 17 rfl rfl)
theorem dX0_pairs_114 : decode cX0_pairs 114 = .ok (.getfield 154, 3) := dk_180 0 154 (dk_at dksX0_pairs_4 20 rfl rfl)
theorem dX0_pairs_117 : decode cX0_pairs 117 = .ok (.iload 7, 2) := dk_21 7 (dk_at dksX0_pairs_5 0 rfl rfl)
theorem dX0_pairs_119 : decode cX0_pairs 119 = .ok (.invokevirtual 42, 3) := dk_182 0 42 (dk_at dksX0_pairs_5 2 rfl rfl)
theorem dX0_pairs_122 : decode cX0_pairs 122 = .ok (.checkcast 173, 3) := dk_192 0 173 (dk_at dksX0_pairs_5 5 rfl rfl)
theorem dX0_pairs_125 : decode cX0_pairs 125 = .ok (.getfield 195, 3) := dk_180 0 195 (dk_at dksX0_pairs_5 8 rfl rfl)
theorem dX0_pairs_128 : decode cX0_pairs 128 = .ok (.aload 5, 2) := dk_25 5 (dk_at dksX0_pairs_5 11 rfl rfl)
theorem dX0_pairs_130 : decode cX0_pairs 130 = .ok (.getfield 178, 3) := dk_180 0 178 (dk_at dksX0_pairs_5 13 rfl rfl)
theorem dX0_pairs_133 : decode cX0_pairs 133 = .ok (.iload 6, 2) := dk_21 6 (dk_at dksX0_pairs_5 16 rfl rfl)
theorem dX0_pairs_135 : decode cX0_pairs 135 = .ok (.invokevirtual 42, 3) := dk_182 0 42 (dk_at dksX0_pairs_5 18 rfl rfl)
theorem dX0_pairs_138 : decode cX0_pairs 138 = .ok (.checkcast 2, 3) := dk_192 0 2 (dk_at dksX0_pairs_5 21 rfl rfl)
theorem dX0_pairs_141 : decode cX0_pairs 141 = .ok (.invokevirtual 218, 3) := dk_182 0 218 (dk_at dksX0_pairs_6 0 rfl rfl)
theorem dX0_pairs_144 : decode cX0_pairs 144 = .ok (.iload_n 3, 1) := dk_29 (dk_at dksX0_pairs_6 3 rfl rfl)
theorem dX0_pairs_145 : decode cX0_pairs 145 = .ok (.if_icmp .lt 7, 3) := dk_161 0 7 (dk_at dksX0_pairs_6 4 rfl rfl)
theorem dX0_pairs_148 : decode cX0_pairs 148 = .ok (.iconst 1, 1) := dk_4 (dk_at dksX0_pairs_6 7 rfl rfl)
theorem dX0_pairs_149 : decode cX0_pairs 149 = .ok (.goto 4, 3) := dk_167 0 4 (dk_at dksX0_pairs_6 8 rfl rfl)
theorem dX0_pairs_152 : decode cX0_pairs 152 = .ok (.iconst 0, 1) := dk_3 (dk_at dksX0_pairs_6 11 rfl rfl)
theorem dX0_pairs_153 : decode cX0_pairs 153 = .ok (.iadd, 1) := dk_96 (dk_at dksX0_pairs_6 12 rfl rfl)
theorem dX0_pairs_154 : decode cX0_pairs 154 = .ok (.putfield 370, 3) := dk_181 1 114 (dk_at dksX0_pairs_6 13 rfl rfl)
theorem dX0_pairs_157 : decode cX0_pairs 157 = .ok (.iinc 7 1, 3) := dk_132 7 1 (dk_at dksX0_pairs_6 16 rfl rfl)
theorem dX0_pairs_160 : decode cX0_pairs 160 = .ok (.goto (-81), 3) := dk_167 255 175 (dk_at dksX0_pairs_6 19 rfl rfl)
theorem dX0_pairs_163 : decode cX0_pairs 163 = .ok (.iinc 6 1, 3) := dk_132 6 1 (dk_at dksX0_pairs_7 0 rfl rfl)
theorem dX0_pairs_166 : decode cX0_pairs 166 = .ok (.goto (-103), 3) := dk_167 255 153 (dk_at dksX0_pairs_7 3 rfl rfl)
theorem dX0_pairs_169 : decode cX0_pairs 169 = .ok (.iinc 4 1, 3) := dk_132 4 1 (dk_at dksX0_pairs_7 6 rfl rfl)
theorem dX0_pairs_172 : decode cX0_pairs 172 = .ok (.goto (-159), 3) := dk_167 255 97 (dk_at dksX0_pairs_7 9 rfl rfl)
theorem dX0_pairs_175 : decode cX0_pairs 175 = .ok (.return_, 1) := dk_177 (dk_at dksX0_pairs_7 12 rfl rfl)
abbrev cX0_part : ByteArray := prog_1_method_42_code
def yX0_part : MethodName := ⟨RX0, "part", "(JJI)J"⟩
def dkwX0_part_2 : List UInt8 := [22, 5, 109, 167, 0, 7, 32, 22, 5, 109, 173]
abbrev dktX0_part_2 : List UInt8 := dkwX0_part_2 ++ []
def dkwX0_part_1 : List UInt8 := [22, 9, 55, 7, 167, 255, 234, 22, 5, 9, 148, 154, 0, 7, 9, 167, 0, 19, 21, 4, 154, 0, 10, 30]
abbrev dktX0_part_1 : List UInt8 := dkwX0_part_1 ++ dktX0_part_2
def dkwX0_part_0 : List UInt8 := [30, 55, 5, 32, 55, 7, 22, 7, 9, 148, 153, 0, 21, 22, 5, 22, 7, 113, 55, 9, 22, 7, 55, 5]
abbrev dktX0_part_0 : List UInt8 := dkwX0_part_0 ++ dktX0_part_1
theorem dksX0_part_0 : cX0_part.data.toList.drop 0 = dktX0_part_0 := by decide +kernel
theorem dksX0_part_1 : cX0_part.data.toList.drop 24 = dktX0_part_1 := dk_seg dksX0_part_0 24 rfl rfl
theorem dksX0_part_2 : cX0_part.data.toList.drop 48 = dktX0_part_2 := dk_seg dksX0_part_1 24 rfl rfl
theorem dX0_part_0 : decode cX0_part 0 = .ok (.lload_n 0, 1) := dk_30 (dk_at dksX0_part_0 0 rfl rfl)
theorem dX0_part_1 : decode cX0_part 1 = .ok (.lstore 5, 2) := dk_55 5 (dk_at dksX0_part_0 1 rfl rfl)
theorem dX0_part_3 : decode cX0_part 3 = .ok (.lload_n 2, 1) := dk_32 (dk_at dksX0_part_0 3 rfl rfl)
theorem dX0_part_4 : decode cX0_part 4 = .ok (.lstore 7, 2) := dk_55 7 (dk_at dksX0_part_0 4 rfl rfl)
theorem dX0_part_6 : decode cX0_part 6 = .ok (.lload 7, 2) := dk_22 7 (dk_at dksX0_part_0 6 rfl rfl)
theorem dX0_part_8 : decode cX0_part 8 = .ok (.lconst 0, 1) := dk_9 (dk_at dksX0_part_0 8 rfl rfl)
theorem dX0_part_9 : decode cX0_part 9 = .ok (.lcmp, 1) := dk_148 (dk_at dksX0_part_0 9 rfl rfl)
theorem dX0_part_10 : decode cX0_part 10 = .ok (.ifCond .eq 21, 3) := dk_153 0 21 (dk_at dksX0_part_0 10 rfl rfl)
theorem dX0_part_13 : decode cX0_part 13 = .ok (.lload 5, 2) := dk_22 5 (dk_at dksX0_part_0 13 rfl rfl)
theorem dX0_part_15 : decode cX0_part 15 = .ok (.lload 7, 2) := dk_22 7 (dk_at dksX0_part_0 15 rfl rfl)
theorem dX0_part_17 : decode cX0_part 17 = .ok (.lrem, 1) := dk_113 (dk_at dksX0_part_0 17 rfl rfl)
theorem dX0_part_18 : decode cX0_part 18 = .ok (.lstore 9, 2) := dk_55 9 (dk_at dksX0_part_0 18 rfl rfl)
theorem dX0_part_20 : decode cX0_part 20 = .ok (.lload 7, 2) := dk_22 7 (dk_at dksX0_part_0 20 rfl rfl)
theorem dX0_part_22 : decode cX0_part 22 = .ok (.lstore 5, 2) := dk_55 5 (dk_at dksX0_part_0 22 rfl rfl)
theorem dX0_part_24 : decode cX0_part 24 = .ok (.lload 9, 2) := dk_22 9 (dk_at dksX0_part_1 0 rfl rfl)
theorem dX0_part_26 : decode cX0_part 26 = .ok (.lstore 7, 2) := dk_55 7 (dk_at dksX0_part_1 2 rfl rfl)
theorem dX0_part_28 : decode cX0_part 28 = .ok (.goto (-22), 3) := dk_167 255 234 (dk_at dksX0_part_1 4 rfl rfl)
theorem dX0_part_31 : decode cX0_part 31 = .ok (.lload 5, 2) := dk_22 5 (dk_at dksX0_part_1 7 rfl rfl)
theorem dX0_part_33 : decode cX0_part 33 = .ok (.lconst 0, 1) := dk_9 (dk_at dksX0_part_1 9 rfl rfl)
theorem dX0_part_34 : decode cX0_part 34 = .ok (.lcmp, 1) := dk_148 (dk_at dksX0_part_1 10 rfl rfl)
theorem dX0_part_35 : decode cX0_part 35 = .ok (.ifCond .ne 7, 3) := dk_154 0 7 (dk_at dksX0_part_1 11 rfl rfl)
theorem dX0_part_38 : decode cX0_part 38 = .ok (.lconst 0, 1) := dk_9 (dk_at dksX0_part_1 14 rfl rfl)
theorem dX0_part_39 : decode cX0_part 39 = .ok (.goto 19, 3) := dk_167 0 19 (dk_at dksX0_part_1 15 rfl rfl)
theorem dX0_part_42 : decode cX0_part 42 = .ok (.iload 4, 2) := dk_21 4 (dk_at dksX0_part_1 18 rfl rfl)
theorem dX0_part_44 : decode cX0_part 44 = .ok (.ifCond .ne 10, 3) := dk_154 0 10 (dk_at dksX0_part_1 20 rfl rfl)
theorem dX0_part_47 : decode cX0_part 47 = .ok (.lload_n 0, 1) := dk_30 (dk_at dksX0_part_1 23 rfl rfl)
theorem dX0_part_48 : decode cX0_part 48 = .ok (.lload 5, 2) := dk_22 5 (dk_at dksX0_part_2 0 rfl rfl)
theorem dX0_part_50 : decode cX0_part 50 = .ok (.ldiv, 1) := dk_109 (dk_at dksX0_part_2 2 rfl rfl)
theorem dX0_part_51 : decode cX0_part 51 = .ok (.goto 7, 3) := dk_167 0 7 (dk_at dksX0_part_2 3 rfl rfl)
theorem dX0_part_54 : decode cX0_part 54 = .ok (.lload_n 2, 1) := dk_32 (dk_at dksX0_part_2 6 rfl rfl)
theorem dX0_part_55 : decode cX0_part 55 = .ok (.lload 5, 2) := dk_22 5 (dk_at dksX0_part_2 7 rfl rfl)
theorem dX0_part_57 : decode cX0_part 57 = .ok (.ldiv, 1) := dk_109 (dk_at dksX0_part_2 9 rfl rfl)
theorem dX0_part_58 : decode cX0_part 58 = .ok (.lreturn, 1) := dk_173 (dk_at dksX0_part_2 10 rfl rfl)
abbrev cX0_odds : ByteArray := prog_1_method_47_code
def yX0_odds : MethodName := ⟨RX0, "odds", "(II)J"⟩
def dkwX0_odds_3 : List UInt8 := [180, 1, 111, 133, 105, 22, 5, 42, 180, 1, 114, 133, 105, 28, 184, 1, 129, 173]
abbrev dktX0_odds_3 : List UInt8 := dkwX0_odds_3 ++ []
def dkwX0_odds_2 : List UInt8 := [133, 66, 42, 180, 1, 111, 133, 55, 5, 42, 42, 180, 0, 26, 180, 0, 138, 3, 27, 182, 1, 126, 33, 42]
abbrev dktX0_odds_2 : List UInt8 := dkwX0_odds_2 ++ dktX0_odds_3
def dkwX0_odds_1 : List UInt8 := [16, 253, 182, 0, 119, 133, 173, 42, 42, 180, 0, 26, 180, 0, 135, 4, 27, 182, 1, 126, 42, 180, 1, 114]
abbrev dktX0_odds_1 : List UInt8 := dkwX0_odds_1 ++ dktX0_odds_2
def dkwX0_odds_0 : List UInt8 := [28, 184, 1, 120, 154, 0, 11, 42, 16, 254, 182, 0, 119, 133, 173, 27, 184, 1, 123, 154, 0, 11, 42]
abbrev dktX0_odds_0 : List UInt8 := dkwX0_odds_0 ++ dktX0_odds_1
theorem dksX0_odds_0 : cX0_odds.data.toList.drop 0 = dktX0_odds_0 := by decide +kernel
theorem dksX0_odds_1 : cX0_odds.data.toList.drop 23 = dktX0_odds_1 := dk_seg dksX0_odds_0 23 rfl rfl
theorem dksX0_odds_2 : cX0_odds.data.toList.drop 47 = dktX0_odds_2 := dk_seg dksX0_odds_1 24 rfl rfl
theorem dksX0_odds_3 : cX0_odds.data.toList.drop 71 = dktX0_odds_3 := dk_seg dksX0_odds_2 24 rfl rfl
theorem dX0_odds_0 : decode cX0_odds 0 = .ok (.iload_n 2, 1) := dk_28 (dk_at dksX0_odds_0 0 rfl rfl)
theorem dX0_odds_1 : decode cX0_odds 1 = .ok (.invokestatic 376, 3) := dk_184 1 120 (dk_at dksX0_odds_0 1 rfl rfl)
theorem dX0_odds_4 : decode cX0_odds 4 = .ok (.ifCond .ne 11, 3) := dk_154 0 11 (dk_at dksX0_odds_0 4 rfl rfl)
theorem dX0_odds_7 : decode cX0_odds 7 = .ok (.aload_n 0, 1) := dk_42 (dk_at dksX0_odds_0 7 rfl rfl)
theorem dX0_odds_8 : decode cX0_odds 8 = .ok (.bipush (-2), 2) := dk_16 254 (dk_at dksX0_odds_0 8 rfl rfl)
theorem dX0_odds_10 : decode cX0_odds 10 = .ok (.invokevirtual 119, 3) := dk_182 0 119 (dk_at dksX0_odds_0 10 rfl rfl)
theorem dX0_odds_13 : decode cX0_odds 13 = .ok (.i2l, 1) := dk_133 (dk_at dksX0_odds_0 13 rfl rfl)
theorem dX0_odds_14 : decode cX0_odds 14 = .ok (.lreturn, 1) := dk_173 (dk_at dksX0_odds_0 14 rfl rfl)
theorem dX0_odds_15 : decode cX0_odds 15 = .ok (.iload_n 1, 1) := dk_27 (dk_at dksX0_odds_0 15 rfl rfl)
theorem dX0_odds_16 : decode cX0_odds 16 = .ok (.invokestatic 379, 3) := dk_184 1 123 (dk_at dksX0_odds_0 16 rfl rfl)
theorem dX0_odds_19 : decode cX0_odds 19 = .ok (.ifCond .ne 11, 3) := dk_154 0 11 (dk_at dksX0_odds_0 19 rfl rfl)
theorem dX0_odds_22 : decode cX0_odds 22 = .ok (.aload_n 0, 1) := dk_42 (dk_at dksX0_odds_0 22 rfl rfl)
theorem dX0_odds_23 : decode cX0_odds 23 = .ok (.bipush (-3), 2) := dk_16 253 (dk_at dksX0_odds_1 0 rfl rfl)
theorem dX0_odds_25 : decode cX0_odds 25 = .ok (.invokevirtual 119, 3) := dk_182 0 119 (dk_at dksX0_odds_1 2 rfl rfl)
theorem dX0_odds_28 : decode cX0_odds 28 = .ok (.i2l, 1) := dk_133 (dk_at dksX0_odds_1 5 rfl rfl)
theorem dX0_odds_29 : decode cX0_odds 29 = .ok (.lreturn, 1) := dk_173 (dk_at dksX0_odds_1 6 rfl rfl)
theorem dX0_odds_30 : decode cX0_odds 30 = .ok (.aload_n 0, 1) := dk_42 (dk_at dksX0_odds_1 7 rfl rfl)
theorem dX0_odds_31 : decode cX0_odds 31 = .ok (.aload_n 0, 1) := dk_42 (dk_at dksX0_odds_1 8 rfl rfl)
theorem dX0_odds_32 : decode cX0_odds 32 = .ok (.getfield 26, 3) := dk_180 0 26 (dk_at dksX0_odds_1 9 rfl rfl)
theorem dX0_odds_35 : decode cX0_odds 35 = .ok (.getfield 135, 3) := dk_180 0 135 (dk_at dksX0_odds_1 12 rfl rfl)
theorem dX0_odds_38 : decode cX0_odds 38 = .ok (.iconst 1, 1) := dk_4 (dk_at dksX0_odds_1 15 rfl rfl)
theorem dX0_odds_39 : decode cX0_odds 39 = .ok (.iload_n 1, 1) := dk_27 (dk_at dksX0_odds_1 16 rfl rfl)
theorem dX0_odds_40 : decode cX0_odds 40 = .ok (.invokevirtual 382, 3) := dk_182 1 126 (dk_at dksX0_odds_1 17 rfl rfl)
theorem dX0_odds_43 : decode cX0_odds 43 = .ok (.aload_n 0, 1) := dk_42 (dk_at dksX0_odds_1 20 rfl rfl)
theorem dX0_odds_44 : decode cX0_odds 44 = .ok (.getfield 370, 3) := dk_180 1 114 (dk_at dksX0_odds_1 21 rfl rfl)
theorem dX0_odds_47 : decode cX0_odds 47 = .ok (.i2l, 1) := dk_133 (dk_at dksX0_odds_2 0 rfl rfl)
theorem dX0_odds_48 : decode cX0_odds 48 = .ok (.lstore_n 3, 1) := dk_66 (dk_at dksX0_odds_2 1 rfl rfl)
theorem dX0_odds_49 : decode cX0_odds 49 = .ok (.aload_n 0, 1) := dk_42 (dk_at dksX0_odds_2 2 rfl rfl)
theorem dX0_odds_50 : decode cX0_odds 50 = .ok (.getfield 367, 3) := dk_180 1 111 (dk_at dksX0_odds_2 3 rfl rfl)
theorem dX0_odds_53 : decode cX0_odds 53 = .ok (.i2l, 1) := dk_133 (dk_at dksX0_odds_2 6 rfl rfl)
theorem dX0_odds_54 : decode cX0_odds 54 = .ok (.lstore 5, 2) := dk_55 5 (dk_at dksX0_odds_2 7 rfl rfl)
theorem dX0_odds_56 : decode cX0_odds 56 = .ok (.aload_n 0, 1) := dk_42 (dk_at dksX0_odds_2 9 rfl rfl)
theorem dX0_odds_57 : decode cX0_odds 57 = .ok (.aload_n 0, 1) := dk_42 (dk_at dksX0_odds_2 10 rfl rfl)
theorem dX0_odds_58 : decode cX0_odds 58 = .ok (.getfield 26, 3) := dk_180 0 26 (dk_at dksX0_odds_2 11 rfl rfl)
theorem dX0_odds_61 : decode cX0_odds 61 = .ok (.getfield 138, 3) := dk_180 0 138 (dk_at dksX0_odds_2 14 rfl rfl)
theorem dX0_odds_64 : decode cX0_odds 64 = .ok (.iconst 0, 1) := dk_3 (dk_at dksX0_odds_2 17 rfl rfl)
theorem dX0_odds_65 : decode cX0_odds 65 = .ok (.iload_n 1, 1) := dk_27 (dk_at dksX0_odds_2 18 rfl rfl)
theorem dX0_odds_66 : decode cX0_odds 66 = .ok (.invokevirtual 382, 3) := dk_182 1 126 (dk_at dksX0_odds_2 19 rfl rfl)
theorem dX0_odds_69 : decode cX0_odds 69 = .ok (.lload_n 3, 1) := dk_33 (dk_at dksX0_odds_2 22 rfl rfl)
theorem dX0_odds_70 : decode cX0_odds 70 = .ok (.aload_n 0, 1) := dk_42 (dk_at dksX0_odds_2 23 rfl rfl)
theorem dX0_odds_71 : decode cX0_odds 71 = .ok (.getfield 367, 3) := dk_180 1 111 (dk_at dksX0_odds_3 0 rfl rfl)
theorem dX0_odds_74 : decode cX0_odds 74 = .ok (.i2l, 1) := dk_133 (dk_at dksX0_odds_3 3 rfl rfl)
theorem dX0_odds_75 : decode cX0_odds 75 = .ok (.lmul, 1) := dk_105 (dk_at dksX0_odds_3 4 rfl rfl)
theorem dX0_odds_76 : decode cX0_odds 76 = .ok (.lload 5, 2) := dk_22 5 (dk_at dksX0_odds_3 5 rfl rfl)
theorem dX0_odds_78 : decode cX0_odds 78 = .ok (.aload_n 0, 1) := dk_42 (dk_at dksX0_odds_3 7 rfl rfl)
theorem dX0_odds_79 : decode cX0_odds 79 = .ok (.getfield 370, 3) := dk_180 1 114 (dk_at dksX0_odds_3 8 rfl rfl)
theorem dX0_odds_82 : decode cX0_odds 82 = .ok (.i2l, 1) := dk_133 (dk_at dksX0_odds_3 11 rfl rfl)
theorem dX0_odds_83 : decode cX0_odds 83 = .ok (.lmul, 1) := dk_105 (dk_at dksX0_odds_3 12 rfl rfl)
theorem dX0_odds_84 : decode cX0_odds 84 = .ok (.iload_n 2, 1) := dk_28 (dk_at dksX0_odds_3 13 rfl rfl)
theorem dX0_odds_85 : decode cX0_odds 85 = .ok (.invokestatic 385, 3) := dk_184 1 129 (dk_at dksX0_odds_3 14 rfl rfl)
theorem dX0_odds_88 : decode cX0_odds 88 = .ok (.lreturn, 1) := dk_173 (dk_at dksX0_odds_3 17 rfl rfl)
abbrev cX0_matches : ByteArray := prog_1_method_49_code
def yX0_matches : MethodName := ⟨RX0, "matches", "(II)I"⟩
def dkwX0_matches_1 : List UInt8 := [28, 182, 1, 133, 167, 0, 9, 42, 16, 253, 182, 0, 119, 172]
abbrev dktX0_matches_1 : List UInt8 := dkwX0_matches_1 ++ []
def dkwX0_matches_0 : List UInt8 := [42, 27, 182, 0, 162, 154, 0, 10, 42, 16, 254, 182, 0, 119, 172, 28, 184, 1, 123, 153, 0, 12, 42, 27]
abbrev dktX0_matches_0 : List UInt8 := dkwX0_matches_0 ++ dktX0_matches_1
theorem dksX0_matches_0 : cX0_matches.data.toList.drop 0 = dktX0_matches_0 := by decide +kernel
theorem dksX0_matches_1 : cX0_matches.data.toList.drop 24 = dktX0_matches_1 := dk_seg dksX0_matches_0 24 rfl rfl
theorem dX0_matches_0 : decode cX0_matches 0 = .ok (.aload_n 0, 1) := dk_42 (dk_at dksX0_matches_0 0 rfl rfl)
theorem dX0_matches_1 : decode cX0_matches 1 = .ok (.iload_n 1, 1) := dk_27 (dk_at dksX0_matches_0 1 rfl rfl)
theorem dX0_matches_2 : decode cX0_matches 2 = .ok (.invokevirtual 162, 3) := dk_182 0 162 (dk_at dksX0_matches_0 2 rfl rfl)
theorem dX0_matches_5 : decode cX0_matches 5 = .ok (.ifCond .ne 10, 3) := dk_154 0 10 (dk_at dksX0_matches_0 5 rfl rfl)
theorem dX0_matches_8 : decode cX0_matches 8 = .ok (.aload_n 0, 1) := dk_42 (dk_at dksX0_matches_0 8 rfl rfl)
theorem dX0_matches_9 : decode cX0_matches 9 = .ok (.bipush (-2), 2) := dk_16 254 (dk_at dksX0_matches_0 9 rfl rfl)
theorem dX0_matches_11 : decode cX0_matches 11 = .ok (.invokevirtual 119, 3) := dk_182 0 119 (dk_at dksX0_matches_0 11 rfl rfl)
theorem dX0_matches_14 : decode cX0_matches 14 = .ok (.ireturn, 1) := dk_172 (dk_at dksX0_matches_0 14 rfl rfl)
theorem dX0_matches_15 : decode cX0_matches 15 = .ok (.iload_n 2, 1) := dk_28 (dk_at dksX0_matches_0 15 rfl rfl)
theorem dX0_matches_16 : decode cX0_matches 16 = .ok (.invokestatic 379, 3) := dk_184 1 123 (dk_at dksX0_matches_0 16 rfl rfl)
theorem dX0_matches_19 : decode cX0_matches 19 = .ok (.ifCond .eq 12, 3) := dk_153 0 12 (dk_at dksX0_matches_0 19 rfl rfl)
theorem dX0_matches_22 : decode cX0_matches 22 = .ok (.aload_n 0, 1) := dk_42 (dk_at dksX0_matches_0 22 rfl rfl)
theorem dX0_matches_23 : decode cX0_matches 23 = .ok (.iload_n 1, 1) := dk_27 (dk_at dksX0_matches_0 23 rfl rfl)
theorem dX0_matches_24 : decode cX0_matches 24 = .ok (.iload_n 2, 1) := dk_28 (dk_at dksX0_matches_1 0 rfl rfl)
theorem dX0_matches_25 : decode cX0_matches 25 = .ok (.invokevirtual 389, 3) := dk_182 1 133 (dk_at dksX0_matches_1 1 rfl rfl)
theorem dX0_matches_28 : decode cX0_matches 28 = .ok (.goto 9, 3) := dk_167 0 9 (dk_at dksX0_matches_1 4 rfl rfl)
theorem dX0_matches_31 : decode cX0_matches 31 = .ok (.aload_n 0, 1) := dk_42 (dk_at dksX0_matches_1 7 rfl rfl)
theorem dX0_matches_32 : decode cX0_matches 32 = .ok (.bipush (-3), 2) := dk_16 253 (dk_at dksX0_matches_1 8 rfl rfl)
theorem dX0_matches_34 : decode cX0_matches 34 = .ok (.invokevirtual 119, 3) := dk_182 0 119 (dk_at dksX0_matches_1 10 rfl rfl)
theorem dX0_matches_37 : decode cX0_matches 37 = .ok (.ireturn, 1) := dk_172 (dk_at dksX0_matches_1 13 rfl rfl)
abbrev cX0_matchesOf : ByteArray := prog_1_method_48_code
def yX0_matchesOf : MethodName := ⟨RX0, "matchesOf", "(II)I"⟩
def dkwX0_matchesOf_5 : List UInt8 := [167, 0, 4, 3, 96, 62, 132, 5, 1, 167, 255, 155, 29, 172]
abbrev dktX0_matchesOf_5 : List UInt8 := dkwX0_matchesOf_5 ++ []
def dkwX0_matchesOf_4 : List UInt8 := [161, 0, 7, 4, 167, 0, 4, 3, 54, 6, 132, 7, 1, 167, 255, 195, 29, 21, 6, 153, 0, 7, 4]
abbrev dktX0_matchesOf_4 : List UInt8 := dkwX0_matchesOf_4 ++ dktX0_matchesOf_5
def dkwX0_matchesOf_3 : List UInt8 := [182, 0, 42, 192, 0, 173, 180, 0, 195, 25, 4, 21, 7, 182, 0, 42, 192, 0, 2, 182, 0, 218, 28]
abbrev dktX0_matchesOf_3 : List UInt8 := dkwX0_matchesOf_3 ++ dktX0_matchesOf_4
def dkwX0_matchesOf_2 : List UInt8 := [25, 4, 182, 0, 36, 162, 0, 57, 21, 6, 154, 0, 52, 42, 42, 180, 0, 26, 180, 0, 154, 21, 5]
abbrev dktX0_matchesOf_2 : List UInt8 := dkwX0_matchesOf_2 ++ dktX0_matchesOf_3
def dkwX0_matchesOf_1 : List UInt8 := [21, 5, 42, 180, 0, 26, 180, 0, 154, 182, 0, 36, 162, 0, 92, 3, 54, 6, 3, 54, 7, 21, 7]
abbrev dktX0_matchesOf_1 : List UInt8 := dkwX0_matchesOf_1 ++ dktX0_matchesOf_2
def dkwX0_matchesOf_0 : List UInt8 := [3, 62, 42, 180, 0, 26, 180, 0, 138, 27, 182, 0, 42, 192, 0, 145, 180, 0, 178, 58, 4, 3, 54, 5]
abbrev dktX0_matchesOf_0 : List UInt8 := dkwX0_matchesOf_0 ++ dktX0_matchesOf_1
theorem dksX0_matchesOf_0 : cX0_matchesOf.data.toList.drop 0 = dktX0_matchesOf_0 := by decide +kernel
theorem dksX0_matchesOf_1 : cX0_matchesOf.data.toList.drop 24 = dktX0_matchesOf_1 := dk_seg dksX0_matchesOf_0 24 rfl rfl
theorem dksX0_matchesOf_2 : cX0_matchesOf.data.toList.drop 47 = dktX0_matchesOf_2 := dk_seg dksX0_matchesOf_1 23 rfl rfl
theorem dksX0_matchesOf_3 : cX0_matchesOf.data.toList.drop 70 = dktX0_matchesOf_3 := dk_seg dksX0_matchesOf_2 23 rfl rfl
theorem dksX0_matchesOf_4 : cX0_matchesOf.data.toList.drop 93 = dktX0_matchesOf_4 := dk_seg dksX0_matchesOf_3 23 rfl rfl
theorem dksX0_matchesOf_5 : cX0_matchesOf.data.toList.drop 116 = dktX0_matchesOf_5 := dk_seg dksX0_matchesOf_4 23 rfl rfl
theorem dX0_matchesOf_0 : decode cX0_matchesOf 0 = .ok (.iconst 0, 1) := dk_3 (dk_at dksX0_matchesOf_0 0 rfl rfl)
theorem dX0_matchesOf_1 : decode cX0_matchesOf 1 = .ok (.istore_n 3, 1) := dk_62 (dk_at dksX0_matchesOf_0 1 rfl rfl)
theorem dX0_matchesOf_2 : decode cX0_matchesOf 2 = .ok (.aload_n 0, 1) := dk_42 (dk_at dksX0_matchesOf_0 2 rfl rfl)
theorem dX0_matchesOf_3 : decode cX0_matchesOf 3 = .ok (.getfield 26, 3) := dk_180 0 26 (dk_at dksX0_matchesOf_0 3 rfl rfl)
theorem dX0_matchesOf_6 : decode cX0_matchesOf 6 = .ok (.getfield 138, 3) := dk_180 0 138 (dk_at dksX0_matchesOf_0 6 rfl rfl)
theorem dX0_matchesOf_9 : decode cX0_matchesOf 9 = .ok (.iload_n 1, 1) := dk_27 (dk_at dksX0_matchesOf_0 9 rfl rfl)
theorem dX0_matchesOf_10 : decode cX0_matchesOf 10 = .ok (.invokevirtual 42, 3) := dk_182 0 42 (dk_at dksX0_matchesOf_0 10 rfl rfl)
theorem dX0_matchesOf_13 : decode cX0_matchesOf 13 = .ok (.checkcast 145, 3) := dk_192 0 145 (dk_at dksX0_matchesOf_0 13 rfl rfl)
theorem dX0_matchesOf_16 : decode cX0_matchesOf 16 = .ok (.getfield 178, 3) := dk_180 0 178 (dk_at dksX0_matchesOf_0 16 rfl rfl)
theorem dX0_matchesOf_19 : decode cX0_matchesOf 19 = .ok (.astore 4, 2) := dk_58 4 (dk_at dksX0_matchesOf_0 19 rfl rfl)
theorem dX0_matchesOf_21 : decode cX0_matchesOf 21 = .ok (.iconst 0, 1) := dk_3 (dk_at dksX0_matchesOf_0 21 rfl rfl)
theorem dX0_matchesOf_22 : decode cX0_matchesOf 22 = .ok (.istore 5, 2) := dk_54 5 (dk_at dksX0_matchesOf_0 22 rfl rfl)
theorem dX0_matchesOf_24 : decode cX0_matchesOf 24 = .ok (.iload 5, 2) := dk_21 5 (dk_at dksX0_matchesOf_1 0 rfl rfl)
theorem dX0_matchesOf_26 : decode cX0_matchesOf 26 = .ok (.aload_n 0, 1) := dk_42 (dk_at dksX0_matchesOf_1 2 rfl rfl)
theorem dX0_matchesOf_27 : decode cX0_matchesOf 27 = .ok (.getfield 26, 3) := dk_180 0 26 (dk_at dksX0_matchesOf_1 3 rfl rfl)
theorem dX0_matchesOf_30 : decode cX0_matchesOf 30 = .ok (.getfield 154, 3) := dk_180 0 154 (dk_at dksX0_matchesOf_1 6 rfl rfl)
theorem dX0_matchesOf_33 : decode cX0_matchesOf 33 = .ok (.invokevirtual 36, 3) := dk_182 0 36 (dk_at dksX0_matchesOf_1 9 rfl rfl)
theorem dX0_matchesOf_36 : decode cX0_matchesOf 36 = .ok (.if_icmp .ge 92, 3) := dk_162 0 92 (dk_at dksX0_matchesOf_1 12 rfl rfl)
theorem dX0_matchesOf_39 : decode cX0_matchesOf 39 = .ok (.iconst 0, 1) := dk_3 (dk_at dksX0_matchesOf_1 15 rfl rfl)
theorem dX0_matchesOf_40 : decode cX0_matchesOf 40 = .ok (.istore 6, 2) := dk_54 6 (dk_at dksX0_matchesOf_1 16 rfl rfl)
theorem dX0_matchesOf_42 : decode cX0_matchesOf 42 = .ok (.iconst 0, 1) := dk_3 (dk_at dksX0_matchesOf_1 18 rfl rfl)
theorem dX0_matchesOf_43 : decode cX0_matchesOf 43 = .ok (.istore 7, 2) := dk_54 7 (dk_at dksX0_matchesOf_1 19 rfl rfl)
theorem dX0_matchesOf_45 : decode cX0_matchesOf 45 = .ok (.iload 7, 2) := dk_21 7 (dk_at dksX0_matchesOf_1 21 rfl rfl)
theorem dX0_matchesOf_47 : decode cX0_matchesOf 47 = .ok (.aload 4, 2) := dk_25 4 (dk_at dksX0_matchesOf_2 0 rfl rfl)
theorem dX0_matchesOf_49 : decode cX0_matchesOf 49 = .ok (.invokevirtual 36, 3) := dk_182 0 36 (dk_at dksX0_matchesOf_2 2 rfl rfl)
theorem dX0_matchesOf_52 : decode cX0_matchesOf 52 = .ok (.if_icmp .ge 57, 3) := dk_162 0 57 (dk_at dksX0_matchesOf_2 5 rfl rfl)
theorem dX0_matchesOf_55 : decode cX0_matchesOf 55 = .ok (.iload 6, 2) := dk_21 6 (dk_at dksX0_matchesOf_2 8 rfl rfl)
theorem dX0_matchesOf_57 : decode cX0_matchesOf 57 = .ok (.ifCond .ne 52, 3) := dk_154 0 52 (dk_at dksX0_matchesOf_2 10 rfl rfl)
theorem dX0_matchesOf_60 : decode cX0_matchesOf 60 = .ok (.aload_n 0, 1) := dk_42 (dk_at dksX0_matchesOf_2 13 rfl rfl)
theorem dX0_matchesOf_61 : decode cX0_matchesOf 61 = .ok (.aload_n 0, 1) := dk_42 (dk_at dksX0_matchesOf_2 14 rfl rfl)
theorem dX0_matchesOf_62 : decode cX0_matchesOf 62 = .ok (.getfield 26, 3) := dk_180 0 26 (dk_at dksX0_matchesOf_2 15 rfl rfl)
theorem dX0_matchesOf_65 : decode cX0_matchesOf 65 = .ok (.getfield 154, 3) := dk_180 0 154 (dk_at dksX0_matchesOf_2 18 rfl rfl)
theorem dX0_matchesOf_68 : decode cX0_matchesOf 68 = .ok (.iload 5, 2) := dk_21 5 (dk_at dksX0_matchesOf_2 21 rfl rfl)
theorem dX0_matchesOf_70 : decode cX0_matchesOf 70 = .ok (.invokevirtual 42, 3) := dk_182 0 42 (dk_at dksX0_matchesOf_3 0 rfl rfl)
theorem dX0_matchesOf_73 : decode cX0_matchesOf 73 = .ok (.checkcast 173, 3) := dk_192 0 173 (dk_at dksX0_matchesOf_3 3 rfl rfl)
theorem dX0_matchesOf_76 : decode cX0_matchesOf 76 = .ok (.getfield 195, 3) := dk_180 0 195 (dk_at dksX0_matchesOf_3 6 rfl rfl)
theorem dX0_matchesOf_79 : decode cX0_matchesOf 79 = .ok (.aload 4, 2) := dk_25 4 (dk_at dksX0_matchesOf_3 9 rfl rfl)
theorem dX0_matchesOf_81 : decode cX0_matchesOf 81 = .ok (.iload 7, 2) := dk_21 7 (dk_at dksX0_matchesOf_3 11 rfl rfl)
theorem dX0_matchesOf_83 : decode cX0_matchesOf 83 = .ok (.invokevirtual 42, 3) := dk_182 0 42 (dk_at dksX0_matchesOf_3 13 rfl rfl)
theorem dX0_matchesOf_86 : decode cX0_matchesOf 86 = .ok (.checkcast 2, 3) := dk_192 0 2 (dk_at dksX0_matchesOf_3 16 rfl rfl)
theorem dX0_matchesOf_89 : decode cX0_matchesOf 89 = .ok (.invokevirtual 218, 3) := dk_182 0 218 (dk_at dksX0_matchesOf_3 19 rfl rfl)
theorem dX0_matchesOf_92 : decode cX0_matchesOf 92 = .ok (.iload_n 2, 1) := dk_28 (dk_at dksX0_matchesOf_3 22 rfl rfl)
theorem dX0_matchesOf_93 : decode cX0_matchesOf 93 = .ok (.if_icmp .lt 7, 3) := dk_161 0 7 (dk_at dksX0_matchesOf_4 0 rfl rfl)
theorem dX0_matchesOf_96 : decode cX0_matchesOf 96 = .ok (.iconst 1, 1) := dk_4 (dk_at dksX0_matchesOf_4 3 rfl rfl)
theorem dX0_matchesOf_97 : decode cX0_matchesOf 97 = .ok (.goto 4, 3) := dk_167 0 4 (dk_at dksX0_matchesOf_4 4 rfl rfl)
theorem dX0_matchesOf_100 : decode cX0_matchesOf 100 = .ok (.iconst 0, 1) := dk_3 (dk_at dksX0_matchesOf_4 7 rfl rfl)
theorem dX0_matchesOf_101 : decode cX0_matchesOf 101 = .ok (.istore 6, 2) := dk_54 6 (dk_at dksX0_matchesOf_4 8 rfl rfl)
theorem dX0_matchesOf_103 : decode cX0_matchesOf 103 = .ok (.iinc 7 1, 3) := dk_132 7 1 (dk_at dksX0_matchesOf_4 10 rfl rfl)
theorem dX0_matchesOf_106 : decode cX0_matchesOf 106 = .ok (.goto (-61), 3) := dk_167 255 195 (dk_at dksX0_matchesOf_4 13 rfl rfl)
theorem dX0_matchesOf_109 : decode cX0_matchesOf 109 = .ok (.iload_n 3, 1) := dk_29 (dk_at dksX0_matchesOf_4 16 rfl rfl)
theorem dX0_matchesOf_110 : decode cX0_matchesOf 110 = .ok (.iload 6, 2) := dk_21 6 (dk_at dksX0_matchesOf_4 17 rfl rfl)
theorem dX0_matchesOf_112 : decode cX0_matchesOf 112 = .ok (.ifCond .eq 7, 3) := dk_153 0 7 (dk_at dksX0_matchesOf_4 19 rfl rfl)
theorem dX0_matchesOf_115 : decode cX0_matchesOf 115 = .ok (.iconst 1, 1) := dk_4 (dk_at dksX0_matchesOf_4 22 rfl rfl)
theorem dX0_matchesOf_116 : decode cX0_matchesOf 116 = .ok (.goto 4, 3) := dk_167 0 4 (dk_at dksX0_matchesOf_5 0 rfl rfl)
theorem dX0_matchesOf_119 : decode cX0_matchesOf 119 = .ok (.iconst 0, 1) := dk_3 (dk_at dksX0_matchesOf_5 3 rfl rfl)
theorem dX0_matchesOf_120 : decode cX0_matchesOf 120 = .ok (.iadd, 1) := dk_96 (dk_at dksX0_matchesOf_5 4 rfl rfl)
theorem dX0_matchesOf_121 : decode cX0_matchesOf 121 = .ok (.istore_n 3, 1) := dk_62 (dk_at dksX0_matchesOf_5 5 rfl rfl)
theorem dX0_matchesOf_122 : decode cX0_matchesOf 122 = .ok (.iinc 5 1, 3) := dk_132 5 1 (dk_at dksX0_matchesOf_5 6 rfl rfl)
theorem dX0_matchesOf_125 : decode cX0_matchesOf 125 = .ok (.goto (-101), 3) := dk_167 255 155 (dk_at dksX0_matchesOf_5 9 rfl rfl)
theorem dX0_matchesOf_128 : decode cX0_matchesOf 128 = .ok (.iload_n 3, 1) := dk_29 (dk_at dksX0_matchesOf_5 12 rfl rfl)
theorem dX0_matchesOf_129 : decode cX0_matchesOf 129 = .ok (.ireturn, 1) := dk_172 (dk_at dksX0_matchesOf_5 13 rfl rfl)
abbrev cX0_most : ByteArray := prog_1_method_50_code
def yX0_most : MethodName := ⟨RX0, "most", "(II)I"⟩
def dkwX0_most_6 : List UInt8 := [182, 0, 36, 133, 105, 21, 5, 133, 28, 184, 1, 129, 136, 172]
abbrev dktX0_most_6 : List UInt8 := dkwX0_most_6 ++ []
def dkwX0_most_5 : List UInt8 := [167, 255, 205, 28, 5, 160, 0, 7, 29, 167, 0, 26, 21, 4, 133, 42, 180, 0, 26, 180, 0, 138]
abbrev dktX0_most_5 : List UInt8 := dkwX0_most_5 ++ dktX0_most_6
def dkwX0_most_4 : List UInt8 := [54, 5, 21, 7, 21, 4, 163, 0, 6, 167, 0, 10, 21, 7, 54, 4, 21, 6, 62, 132, 6, 1]
abbrev dktX0_most_4 : List UInt8 := dkwX0_most_4 ++ dktX0_most_5
def dkwX0_most_3 : List UInt8 := [180, 0, 138, 182, 0, 36, 162, 0, 42, 42, 21, 6, 27, 182, 1, 133, 54, 7, 21, 5, 21, 7, 96]
abbrev dktX0_most_3 : List UInt8 := dkwX0_most_3 ++ dktX0_most_4
def dkwX0_most_2 : List UInt8 := [16, 251, 182, 0, 119, 172, 3, 62, 2, 54, 4, 3, 54, 5, 3, 54, 6, 21, 6, 42, 180, 0, 26]
abbrev dktX0_most_2 : List UInt8 := dkwX0_most_2 ++ dktX0_most_3
def dkwX0_most_1 : List UInt8 := [154, 0, 10, 42, 16, 253, 182, 0, 119, 172, 42, 180, 0, 26, 180, 0, 138, 182, 1, 31, 153, 0, 10, 42]
abbrev dktX0_most_1 : List UInt8 := dkwX0_most_1 ++ dktX0_most_2
def dkwX0_most_0 : List UInt8 := [28, 133, 9, 20, 0, 157, 184, 0, 111, 154, 0, 10, 42, 16, 254, 182, 0, 119, 172, 27, 184, 1, 123]
abbrev dktX0_most_0 : List UInt8 := dkwX0_most_0 ++ dktX0_most_1
theorem dksX0_most_0 : cX0_most.data.toList.drop 0 = dktX0_most_0 := by decide +kernel
theorem dksX0_most_1 : cX0_most.data.toList.drop 23 = dktX0_most_1 := dk_seg dksX0_most_0 23 rfl rfl
theorem dksX0_most_2 : cX0_most.data.toList.drop 47 = dktX0_most_2 := dk_seg dksX0_most_1 24 rfl rfl
theorem dksX0_most_3 : cX0_most.data.toList.drop 70 = dktX0_most_3 := dk_seg dksX0_most_2 23 rfl rfl
theorem dksX0_most_4 : cX0_most.data.toList.drop 93 = dktX0_most_4 := dk_seg dksX0_most_3 23 rfl rfl
theorem dksX0_most_5 : cX0_most.data.toList.drop 115 = dktX0_most_5 := dk_seg dksX0_most_4 22 rfl rfl
theorem dksX0_most_6 : cX0_most.data.toList.drop 137 = dktX0_most_6 := dk_seg dksX0_most_5 22 rfl rfl
theorem dX0_most_0 : decode cX0_most 0 = .ok (.iload_n 2, 1) := dk_28 (dk_at dksX0_most_0 0 rfl rfl)
theorem dX0_most_1 : decode cX0_most 1 = .ok (.i2l, 1) := dk_133 (dk_at dksX0_most_0 1 rfl rfl)
theorem dX0_most_2 : decode cX0_most 2 = .ok (.lconst 0, 1) := dk_9 (dk_at dksX0_most_0 2 rfl rfl)
theorem dX0_most_3 : decode cX0_most 3 = .ok (.ldc2_w 157, 3) := dk_20 0 157 (dk_at dksX0_most_0 3 rfl rfl)
theorem dX0_most_6 : decode cX0_most 6 = .ok (.invokestatic 111, 3) := dk_184 0 111 (dk_at dksX0_most_0 6 rfl rfl)
theorem dX0_most_9 : decode cX0_most 9 = .ok (.ifCond .ne 10, 3) := dk_154 0 10 (dk_at dksX0_most_0 9 rfl rfl)
theorem dX0_most_12 : decode cX0_most 12 = .ok (.aload_n 0, 1) := dk_42 (dk_at dksX0_most_0 12 rfl rfl)
theorem dX0_most_13 : decode cX0_most 13 = .ok (.bipush (-2), 2) := dk_16 254 (dk_at dksX0_most_0 13 rfl rfl)
theorem dX0_most_15 : decode cX0_most 15 = .ok (.invokevirtual 119, 3) := dk_182 0 119 (dk_at dksX0_most_0 15 rfl rfl)
theorem dX0_most_18 : decode cX0_most 18 = .ok (.ireturn, 1) := dk_172 (dk_at dksX0_most_0 18 rfl rfl)
theorem dX0_most_19 : decode cX0_most 19 = .ok (.iload_n 1, 1) := dk_27 (dk_at dksX0_most_0 19 rfl rfl)
theorem dX0_most_20 : decode cX0_most 20 = .ok (.invokestatic 379, 3) := dk_184 1 123 (dk_at dksX0_most_0 20 rfl rfl)
theorem dX0_most_23 : decode cX0_most 23 = .ok (.ifCond .ne 10, 3) := dk_154 0 10 (dk_at dksX0_most_1 0 rfl rfl)
theorem dX0_most_26 : decode cX0_most 26 = .ok (.aload_n 0, 1) := dk_42 (dk_at dksX0_most_1 3 rfl rfl)
theorem dX0_most_27 : decode cX0_most 27 = .ok (.bipush (-3), 2) := dk_16 253 (dk_at dksX0_most_1 4 rfl rfl)
theorem dX0_most_29 : decode cX0_most 29 = .ok (.invokevirtual 119, 3) := dk_182 0 119 (dk_at dksX0_most_1 6 rfl rfl)
theorem dX0_most_32 : decode cX0_most 32 = .ok (.ireturn, 1) := dk_172 (dk_at dksX0_most_1 9 rfl rfl)
theorem dX0_most_33 : decode cX0_most 33 = .ok (.aload_n 0, 1) := dk_42 (dk_at dksX0_most_1 10 rfl rfl)
theorem dX0_most_34 : decode cX0_most 34 = .ok (.getfield 26, 3) := dk_180 0 26 (dk_at dksX0_most_1 11 rfl rfl)
theorem dX0_most_37 : decode cX0_most 37 = .ok (.getfield 138, 3) := dk_180 0 138 (dk_at dksX0_most_1 14 rfl rfl)
theorem dX0_most_40 : decode cX0_most 40 = .ok (.invokevirtual 287, 3) := dk_182 1 31 (dk_at dksX0_most_1 17 rfl rfl)
theorem dX0_most_43 : decode cX0_most 43 = .ok (.ifCond .eq 10, 3) := dk_153 0 10 (dk_at dksX0_most_1 20 rfl rfl)
theorem dX0_most_46 : decode cX0_most 46 = .ok (.aload_n 0, 1) := dk_42 (dk_at dksX0_most_1 23 rfl rfl)
theorem dX0_most_47 : decode cX0_most 47 = .ok (.bipush (-5), 2) := dk_16 251 (dk_at dksX0_most_2 0 rfl rfl)
theorem dX0_most_49 : decode cX0_most 49 = .ok (.invokevirtual 119, 3) := dk_182 0 119 (dk_at dksX0_most_2 2 rfl rfl)
theorem dX0_most_52 : decode cX0_most 52 = .ok (.ireturn, 1) := dk_172 (dk_at dksX0_most_2 5 rfl rfl)
theorem dX0_most_53 : decode cX0_most 53 = .ok (.iconst 0, 1) := dk_3 (dk_at dksX0_most_2 6 rfl rfl)
theorem dX0_most_54 : decode cX0_most 54 = .ok (.istore_n 3, 1) := dk_62 (dk_at dksX0_most_2 7 rfl rfl)
theorem dX0_most_55 : decode cX0_most 55 = .ok (.iconst (-1), 1) := dk_2 (dk_at dksX0_most_2 8 rfl rfl)
theorem dX0_most_56 : decode cX0_most 56 = .ok (.istore 4, 2) := dk_54 4 (dk_at dksX0_most_2 9 rfl rfl)
theorem dX0_most_58 : decode cX0_most 58 = .ok (.iconst 0, 1) := dk_3 (dk_at dksX0_most_2 11 rfl rfl)
theorem dX0_most_59 : decode cX0_most 59 = .ok (.istore 5, 2) := dk_54 5 (dk_at dksX0_most_2 12 rfl rfl)
theorem dX0_most_61 : decode cX0_most 61 = .ok (.iconst 0, 1) := dk_3 (dk_at dksX0_most_2 14 rfl rfl)
theorem dX0_most_62 : decode cX0_most 62 = .ok (.istore 6, 2) := dk_54 6 (dk_at dksX0_most_2 15 rfl rfl)
theorem dX0_most_64 : decode cX0_most 64 = .ok (.iload 6, 2) := dk_21 6 (dk_at dksX0_most_2 17 rfl rfl)
theorem dX0_most_66 : decode cX0_most 66 = .ok (.aload_n 0, 1) := dk_42 (dk_at dksX0_most_2 19 rfl rfl)
theorem dX0_most_67 : decode cX0_most 67 = .ok (.getfield 26, 3) := dk_180 0 26 (dk_at dksX0_most_2 20 rfl rfl)
theorem dX0_most_70 : decode cX0_most 70 = .ok (.getfield 138, 3) := dk_180 0 138 (dk_at dksX0_most_3 0 rfl rfl)
theorem dX0_most_73 : decode cX0_most 73 = .ok (.invokevirtual 36, 3) := dk_182 0 36 (dk_at dksX0_most_3 3 rfl rfl)
theorem dX0_most_76 : decode cX0_most 76 = .ok (.if_icmp .ge 42, 3) := dk_162 0 42 (dk_at dksX0_most_3 6 rfl rfl)
theorem dX0_most_79 : decode cX0_most 79 = .ok (.aload_n 0, 1) := dk_42 (dk_at dksX0_most_3 9 rfl rfl)
theorem dX0_most_80 : decode cX0_most 80 = .ok (.iload 6, 2) := dk_21 6 (dk_at dksX0_most_3 10 rfl rfl)
theorem dX0_most_82 : decode cX0_most 82 = .ok (.iload_n 1, 1) := dk_27 (dk_at dksX0_most_3 12 rfl rfl)
theorem dX0_most_83 : decode cX0_most 83 = .ok (.invokevirtual 389, 3) := dk_182 1 133 (dk_at dksX0_most_3 13 rfl rfl)
theorem dX0_most_86 : decode cX0_most 86 = .ok (.istore 7, 2) := dk_54 7 (dk_at dksX0_most_3 16 rfl rfl)
theorem dX0_most_88 : decode cX0_most 88 = .ok (.iload 5, 2) := dk_21 5 (dk_at dksX0_most_3 18 rfl rfl)
theorem dX0_most_90 : decode cX0_most 90 = .ok (.iload 7, 2) := dk_21 7 (dk_at dksX0_most_3 20 rfl rfl)
theorem dX0_most_92 : decode cX0_most 92 = .ok (.iadd, 1) := dk_96 (dk_at dksX0_most_3 22 rfl rfl)
theorem dX0_most_93 : decode cX0_most 93 = .ok (.istore 5, 2) := dk_54 5 (dk_at dksX0_most_4 0 rfl rfl)
theorem dX0_most_95 : decode cX0_most 95 = .ok (.iload 7, 2) := dk_21 7 (dk_at dksX0_most_4 2 rfl rfl)
theorem dX0_most_97 : decode cX0_most 97 = .ok (.iload 4, 2) := dk_21 4 (dk_at dksX0_most_4 4 rfl rfl)
theorem dX0_most_99 : decode cX0_most 99 = .ok (.if_icmp .gt 6, 3) := dk_163 0 6 (dk_at dksX0_most_4 6 rfl rfl)
theorem dX0_most_102 : decode cX0_most 102 = .ok (.goto 10, 3) := dk_167 0 10 (dk_at dksX0_most_4 9 rfl rfl)
theorem dX0_most_105 : decode cX0_most 105 = .ok (.iload 7, 2) := dk_21 7 (dk_at dksX0_most_4 12 rfl rfl)
theorem dX0_most_107 : decode cX0_most 107 = .ok (.istore 4, 2) := dk_54 4 (dk_at dksX0_most_4 14 rfl rfl)
theorem dX0_most_109 : decode cX0_most 109 = .ok (.iload 6, 2) := dk_21 6 (dk_at dksX0_most_4 16 rfl rfl)
theorem dX0_most_111 : decode cX0_most 111 = .ok (.istore_n 3, 1) := dk_62 (dk_at dksX0_most_4 18 rfl rfl)
theorem dX0_most_112 : decode cX0_most 112 = .ok (.iinc 6 1, 3) := dk_132 6 1 (dk_at dksX0_most_4 19 rfl rfl)
theorem dX0_most_115 : decode cX0_most 115 = .ok (.goto (-51), 3) := dk_167 255 205 (dk_at dksX0_most_5 0 rfl rfl)
theorem dX0_most_118 : decode cX0_most 118 = .ok (.iload_n 2, 1) := dk_28 (dk_at dksX0_most_5 3 rfl rfl)
theorem dX0_most_119 : decode cX0_most 119 = .ok (.iconst 2, 1) := dk_5 (dk_at dksX0_most_5 4 rfl rfl)
theorem dX0_most_120 : decode cX0_most 120 = .ok (.if_icmp .ne 7, 3) := dk_160 0 7 (dk_at dksX0_most_5 5 rfl rfl)
theorem dX0_most_123 : decode cX0_most 123 = .ok (.iload_n 3, 1) := dk_29 (dk_at dksX0_most_5 8 rfl rfl)
theorem dX0_most_124 : decode cX0_most 124 = .ok (.goto 26, 3) := dk_167 0 26 (dk_at dksX0_most_5 9 rfl rfl)
theorem dX0_most_127 : decode cX0_most 127 = .ok (.iload 4, 2) := dk_21 4 (dk_at dksX0_most_5 12 rfl rfl)
theorem dX0_most_129 : decode cX0_most 129 = .ok (.i2l, 1) := dk_133 (dk_at dksX0_most_5 14 rfl rfl)
theorem dX0_most_130 : decode cX0_most 130 = .ok (.aload_n 0, 1) := dk_42 (dk_at dksX0_most_5 15 rfl rfl)
theorem dX0_most_131 : decode cX0_most 131 = .ok (.getfield 26, 3) := dk_180 0 26 (dk_at dksX0_most_5 16 rfl rfl)
theorem dX0_most_134 : decode cX0_most 134 = .ok (.getfield 138, 3) := dk_180 0 138 (dk_at dksX0_most_5 19 rfl rfl)
theorem dX0_most_137 : decode cX0_most 137 = .ok (.invokevirtual 36, 3) := dk_182 0 36 (dk_at dksX0_most_6 0 rfl rfl)
theorem dX0_most_140 : decode cX0_most 140 = .ok (.i2l, 1) := dk_133 (dk_at dksX0_most_6 3 rfl rfl)
theorem dX0_most_141 : decode cX0_most 141 = .ok (.lmul, 1) := dk_105 (dk_at dksX0_most_6 4 rfl rfl)
theorem dX0_most_142 : decode cX0_most 142 = .ok (.iload 5, 2) := dk_21 5 (dk_at dksX0_most_6 5 rfl rfl)
theorem dX0_most_144 : decode cX0_most 144 = .ok (.i2l, 1) := dk_133 (dk_at dksX0_most_6 7 rfl rfl)
theorem dX0_most_145 : decode cX0_most 145 = .ok (.iload_n 2, 1) := dk_28 (dk_at dksX0_most_6 8 rfl rfl)
theorem dX0_most_146 : decode cX0_most 146 = .ok (.invokestatic 385, 3) := dk_184 1 129 (dk_at dksX0_most_6 9 rfl rfl)
theorem dX0_most_149 : decode cX0_most 149 = .ok (.l2i, 1) := dk_136 (dk_at dksX0_most_6 12 rfl rfl)
theorem dX0_most_150 : decode cX0_most 150 = .ok (.ireturn, 1) := dk_172 (dk_at dksX0_most_6 13 rfl rfl)
abbrev cX0_adds : ByteArray := prog_1_method_52_code
def yX0_adds : MethodName := ⟨RX0, "adds", "(II)I"⟩
def dkwX0_adds_2 : List UInt8 := [182, 0, 119, 172]
abbrev dktX0_adds_2 : List UInt8 := dkwX0_adds_2 ++ []
def dkwX0_adds_1 : List UInt8 := [180, 0, 26, 180, 0, 138, 27, 182, 0, 42, 192, 0, 145, 28, 2, 182, 1, 136, 167, 0, 9, 42, 16, 253]
abbrev dktX0_adds_1 : List UInt8 := dkwX0_adds_1 ++ dktX0_adds_2
def dkwX0_adds_0 : List UInt8 := [42, 27, 182, 0, 162, 154, 0, 10, 42, 16, 254, 182, 0, 119, 172, 28, 184, 0, 123, 153, 0, 26, 42, 42]
abbrev dktX0_adds_0 : List UInt8 := dkwX0_adds_0 ++ dktX0_adds_1
theorem dksX0_adds_0 : cX0_adds.data.toList.drop 0 = dktX0_adds_0 := by decide +kernel
theorem dksX0_adds_1 : cX0_adds.data.toList.drop 24 = dktX0_adds_1 := dk_seg dksX0_adds_0 24 rfl rfl
theorem dksX0_adds_2 : cX0_adds.data.toList.drop 48 = dktX0_adds_2 := dk_seg dksX0_adds_1 24 rfl rfl
theorem dX0_adds_0 : decode cX0_adds 0 = .ok (.aload_n 0, 1) := dk_42 (dk_at dksX0_adds_0 0 rfl rfl)
theorem dX0_adds_1 : decode cX0_adds 1 = .ok (.iload_n 1, 1) := dk_27 (dk_at dksX0_adds_0 1 rfl rfl)
theorem dX0_adds_2 : decode cX0_adds 2 = .ok (.invokevirtual 162, 3) := dk_182 0 162 (dk_at dksX0_adds_0 2 rfl rfl)
theorem dX0_adds_5 : decode cX0_adds 5 = .ok (.ifCond .ne 10, 3) := dk_154 0 10 (dk_at dksX0_adds_0 5 rfl rfl)
theorem dX0_adds_8 : decode cX0_adds 8 = .ok (.aload_n 0, 1) := dk_42 (dk_at dksX0_adds_0 8 rfl rfl)
theorem dX0_adds_9 : decode cX0_adds 9 = .ok (.bipush (-2), 2) := dk_16 254 (dk_at dksX0_adds_0 9 rfl rfl)
theorem dX0_adds_11 : decode cX0_adds 11 = .ok (.invokevirtual 119, 3) := dk_182 0 119 (dk_at dksX0_adds_0 11 rfl rfl)
theorem dX0_adds_14 : decode cX0_adds 14 = .ok (.ireturn, 1) := dk_172 (dk_at dksX0_adds_0 14 rfl rfl)
theorem dX0_adds_15 : decode cX0_adds 15 = .ok (.iload_n 2, 1) := dk_28 (dk_at dksX0_adds_0 15 rfl rfl)
theorem dX0_adds_16 : decode cX0_adds 16 = .ok (.invokestatic 123, 3) := dk_184 0 123 (dk_at dksX0_adds_0 16 rfl rfl)
theorem dX0_adds_19 : decode cX0_adds 19 = .ok (.ifCond .eq 26, 3) := dk_153 0 26 (dk_at dksX0_adds_0 19 rfl rfl)
theorem dX0_adds_22 : decode cX0_adds 22 = .ok (.aload_n 0, 1) := dk_42 (dk_at dksX0_adds_0 22 rfl rfl)
theorem dX0_adds_23 : decode cX0_adds 23 = .ok (.aload_n 0, 1) := dk_42 (dk_at dksX0_adds_0 23 rfl rfl)
theorem dX0_adds_24 : decode cX0_adds 24 = .ok (.getfield 26, 3) := dk_180 0 26 (dk_at dksX0_adds_1 0 rfl rfl)
theorem dX0_adds_27 : decode cX0_adds 27 = .ok (.getfield 138, 3) := dk_180 0 138 (dk_at dksX0_adds_1 3 rfl rfl)
theorem dX0_adds_30 : decode cX0_adds 30 = .ok (.iload_n 1, 1) := dk_27 (dk_at dksX0_adds_1 6 rfl rfl)
theorem dX0_adds_31 : decode cX0_adds 31 = .ok (.invokevirtual 42, 3) := dk_182 0 42 (dk_at dksX0_adds_1 7 rfl rfl)
theorem dX0_adds_34 : decode cX0_adds 34 = .ok (.checkcast 145, 3) := dk_192 0 145 (dk_at dksX0_adds_1 10 rfl rfl)
theorem dX0_adds_37 : decode cX0_adds 37 = .ok (.iload_n 2, 1) := dk_28 (dk_at dksX0_adds_1 13 rfl rfl)
theorem dX0_adds_38 : decode cX0_adds 38 = .ok (.iconst (-1), 1) := dk_2 (dk_at dksX0_adds_1 14 rfl rfl)
theorem dX0_adds_39 : decode cX0_adds 39 = .ok (.invokevirtual 392, 3) := dk_182 1 136 (dk_at dksX0_adds_1 15 rfl rfl)
theorem dX0_adds_42 : decode cX0_adds 42 = .ok (.goto 9, 3) := dk_167 0 9 (dk_at dksX0_adds_1 18 rfl rfl)
theorem dX0_adds_45 : decode cX0_adds 45 = .ok (.aload_n 0, 1) := dk_42 (dk_at dksX0_adds_1 21 rfl rfl)
theorem dX0_adds_46 : decode cX0_adds 46 = .ok (.bipush (-3), 2) := dk_16 253 (dk_at dksX0_adds_1 22 rfl rfl)
theorem dX0_adds_48 : decode cX0_adds 48 = .ok (.invokevirtual 119, 3) := dk_182 0 119 (dk_at dksX0_adds_2 0 rfl rfl)
theorem dX0_adds_51 : decode cX0_adds 51 = .ok (.ireturn, 1) := dk_172 (dk_at dksX0_adds_2 3 rfl rfl)
abbrev cX0_addedBy : ByteArray := prog_1_method_51_code
def yX0_addedBy : MethodName := ⟨RX0, "addedBy", "(LNobodysBard$Owner;II)I"⟩
def dkwX0_addedBy_10 : List UInt8 := [167, 0, 4, 2, 172]
abbrev dktX0_addedBy_10 : List UInt8 := dkwX0_addedBy_10 ++ []
def dkwX0_addedBy_9 : List UInt8 := [160, 0, 6, 21, 5, 172, 132, 4, 1, 132, 5, 1, 167, 255, 90, 29, 2, 160, 0, 8, 21, 4]
abbrev dktX0_addedBy_9 : List UInt8 := dkwX0_addedBy_9 ++ dktX0_addedBy_10
def dkwX0_addedBy_8 : List UInt8 := [167, 0, 4, 3, 54, 7, 132, 8, 1, 167, 255, 172, 21, 7, 154, 0, 6, 167, 0, 15, 21, 4, 29]
abbrev dktX0_addedBy_8 : List UInt8 := dkwX0_addedBy_8 ++ dktX0_addedBy_9
def dkwX0_addedBy_7 : List UInt8 := [180, 0, 195, 42, 180, 0, 90, 21, 8, 50, 182, 0, 218, 42, 180, 0, 26, 180, 0, 186, 161, 0, 7, 4]
abbrev dktX0_addedBy_7 : List UInt8 := dkwX0_addedBy_7 ++ dktX0_addedBy_8
def dkwX0_addedBy_6 : List UInt8 := [182, 0, 42, 192, 0, 2, 182, 0, 218, 42, 180, 0, 26, 180, 0, 186, 162, 0, 29, 42, 25, 6]
abbrev dktX0_addedBy_6 : List UInt8 := dkwX0_addedBy_6 ++ dktX0_addedBy_7
def dkwX0_addedBy_5 : List UInt8 := [182, 0, 36, 162, 0, 78, 21, 7, 154, 0, 73, 42, 25, 6, 180, 0, 195, 43, 180, 0, 178, 21, 8]
abbrev dktX0_addedBy_5 : List UInt8 := dkwX0_addedBy_5 ++ dktX0_addedBy_6
def dkwX0_addedBy_4 : List UInt8 := [185, 1, 94, 1, 0, 6, 162, 0, 6, 167, 0, 116, 3, 54, 7, 3, 54, 8, 21, 8, 43, 180, 0, 178]
abbrev dktX0_addedBy_4 : List UInt8 := dkwX0_addedBy_4 ++ dktX0_addedBy_5
def dkwX0_addedBy_3 : List UInt8 := [42, 180, 0, 26, 180, 0, 154, 21, 5, 182, 0, 42, 192, 0, 173, 58, 6, 42, 25, 6, 182, 1, 90]
abbrev dktX0_addedBy_3 : List UInt8 := dkwX0_addedBy_3 ++ dktX0_addedBy_4
def dkwX0_addedBy_2 : List UInt8 := [167, 255, 217, 3, 54, 4, 3, 54, 5, 21, 5, 42, 180, 0, 26, 180, 0, 154, 182, 0, 36, 162, 0, 157]
abbrev dktX0_addedBy_2 : List UInt8 := dkwX0_addedBy_2 ++ dktX0_addedBy_3
def dkwX0_addedBy_1 : List UInt8 := [21, 4, 42, 43, 180, 0, 178, 21, 4, 182, 0, 42, 192, 0, 2, 28, 182, 1, 3, 83, 132, 4, 1]
abbrev dktX0_addedBy_1 : List UInt8 := dkwX0_addedBy_1 ++ dktX0_addedBy_2
def dkwX0_addedBy_0 : List UInt8 := [42, 182, 1, 87, 3, 54, 4, 21, 4, 43, 180, 0, 178, 182, 0, 36, 162, 0, 33, 42, 180, 0, 90]
abbrev dktX0_addedBy_0 : List UInt8 := dkwX0_addedBy_0 ++ dktX0_addedBy_1
theorem dksX0_addedBy_0 : cX0_addedBy.data.toList.drop 0 = dktX0_addedBy_0 := by decide +kernel
theorem dksX0_addedBy_1 : cX0_addedBy.data.toList.drop 23 = dktX0_addedBy_1 := dk_seg dksX0_addedBy_0 23 rfl rfl
theorem dksX0_addedBy_2 : cX0_addedBy.data.toList.drop 46 = dktX0_addedBy_2 := dk_seg dksX0_addedBy_1 23 rfl rfl
theorem dksX0_addedBy_3 : cX0_addedBy.data.toList.drop 70 = dktX0_addedBy_3 := dk_seg dksX0_addedBy_2 24 rfl rfl
theorem dksX0_addedBy_4 : cX0_addedBy.data.toList.drop 93 = dktX0_addedBy_4 := dk_seg dksX0_addedBy_3 23 rfl rfl
theorem dksX0_addedBy_5 : cX0_addedBy.data.toList.drop 117 = dktX0_addedBy_5 := dk_seg dksX0_addedBy_4 24 rfl rfl
theorem dksX0_addedBy_6 : cX0_addedBy.data.toList.drop 140 = dktX0_addedBy_6 := dk_seg dksX0_addedBy_5 23 rfl rfl
theorem dksX0_addedBy_7 : cX0_addedBy.data.toList.drop 162 = dktX0_addedBy_7 := dk_seg dksX0_addedBy_6 22 rfl rfl
theorem dksX0_addedBy_8 : cX0_addedBy.data.toList.drop 186 = dktX0_addedBy_8 := dk_seg dksX0_addedBy_7 24 rfl rfl
theorem dksX0_addedBy_9 : cX0_addedBy.data.toList.drop 209 = dktX0_addedBy_9 := dk_seg dksX0_addedBy_8 23 rfl rfl
theorem dksX0_addedBy_10 : cX0_addedBy.data.toList.drop 231 = dktX0_addedBy_10 := dk_seg dksX0_addedBy_9 22 rfl rfl
theorem dX0_addedBy_0 : decode cX0_addedBy 0 = .ok (.aload_n 0, 1) := dk_42 (dk_at dksX0_addedBy_0 0 rfl rfl)
theorem dX0_addedBy_1 : decode cX0_addedBy 1 = .ok (.invokevirtual 343, 3) := dk_182 1 87 (dk_at dksX0_addedBy_0 1 rfl rfl)
theorem dX0_addedBy_4 : decode cX0_addedBy 4 = .ok (.iconst 0, 1) := dk_3 (dk_at dksX0_addedBy_0 4 rfl rfl)
theorem dX0_addedBy_5 : decode cX0_addedBy 5 = .ok (.istore 4, 2) := dk_54 4 (dk_at dksX0_addedBy_0 5 rfl rfl)
theorem dX0_addedBy_7 : decode cX0_addedBy 7 = .ok (.iload 4, 2) := dk_21 4 (dk_at dksX0_addedBy_0 7 rfl rfl)
theorem dX0_addedBy_9 : decode cX0_addedBy 9 = .ok (.aload_n 1, 1) := dk_43 (dk_at dksX0_addedBy_0 9 rfl rfl)
theorem dX0_addedBy_10 : decode cX0_addedBy 10 = .ok (.getfield 178, 3) := dk_180 0 178 (dk_at dksX0_addedBy_0 10 rfl rfl)
theorem dX0_addedBy_13 : decode cX0_addedBy 13 = .ok (.invokevirtual 36, 3) := dk_182 0 36 (dk_at dksX0_addedBy_0 13 rfl rfl)
theorem dX0_addedBy_16 : decode cX0_addedBy 16 = .ok (.if_icmp .ge 33, 3) := dk_162 0 33 (dk_at dksX0_addedBy_0 16 rfl rfl)
theorem dX0_addedBy_19 : decode cX0_addedBy 19 = .ok (.aload_n 0, 1) := dk_42 (dk_at dksX0_addedBy_0 19 rfl rfl)
theorem dX0_addedBy_20 : decode cX0_addedBy 20 = .ok (.getfield 90, 3) := dk_180 0 90 (dk_at dksX0_addedBy_0 20 rfl rfl)
theorem dX0_addedBy_23 : decode cX0_addedBy 23 = .ok (.iload 4, 2) := dk_21 4 (dk_at dksX0_addedBy_1 0 rfl rfl)
theorem dX0_addedBy_25 : decode cX0_addedBy 25 = .ok (.aload_n 0, 1) := dk_42 (dk_at dksX0_addedBy_1 2 rfl rfl)
theorem dX0_addedBy_26 : decode cX0_addedBy 26 = .ok (.aload_n 1, 1) := dk_43 (dk_at dksX0_addedBy_1 3 rfl rfl)
theorem dX0_addedBy_27 : decode cX0_addedBy 27 = .ok (.getfield 178, 3) := dk_180 0 178 (dk_at dksX0_addedBy_1 4 rfl rfl)
theorem dX0_addedBy_30 : decode cX0_addedBy 30 = .ok (.iload 4, 2) := dk_21 4 (dk_at dksX0_addedBy_1 7 rfl rfl)
theorem dX0_addedBy_32 : decode cX0_addedBy 32 = .ok (.invokevirtual 42, 3) := dk_182 0 42 (dk_at dksX0_addedBy_1 9 rfl rfl)
theorem dX0_addedBy_35 : decode cX0_addedBy 35 = .ok (.checkcast 2, 3) := dk_192 0 2 (dk_at dksX0_addedBy_1 12 rfl rfl)
theorem dX0_addedBy_38 : decode cX0_addedBy 38 = .ok (.iload_n 2, 1) := dk_28 (dk_at dksX0_addedBy_1 15 rfl rfl)
theorem dX0_addedBy_39 : decode cX0_addedBy 39 = .ok (.invokevirtual 259, 3) := dk_182 1 3 (dk_at dksX0_addedBy_1 16 rfl rfl)
theorem dX0_addedBy_42 : decode cX0_addedBy 42 = .ok (.aastore, 1) := dk_83 (dk_at dksX0_addedBy_1 19 rfl rfl)
theorem dX0_addedBy_43 : decode cX0_addedBy 43 = .ok (.iinc 4 1, 3) := dk_132 4 1 (dk_at dksX0_addedBy_1 20 rfl rfl)
theorem dX0_addedBy_46 : decode cX0_addedBy 46 = .ok (.goto (-39), 3) := dk_167 255 217 (dk_at dksX0_addedBy_2 0 rfl rfl)
theorem dX0_addedBy_49 : decode cX0_addedBy 49 = .ok (.iconst 0, 1) := dk_3 (dk_at dksX0_addedBy_2 3 rfl rfl)
theorem dX0_addedBy_50 : decode cX0_addedBy 50 = .ok (.istore 4, 2) := dk_54 4 (dk_at dksX0_addedBy_2 4 rfl rfl)
theorem dX0_addedBy_52 : decode cX0_addedBy 52 = .ok (.iconst 0, 1) := dk_3 (dk_at dksX0_addedBy_2 6 rfl rfl)
theorem dX0_addedBy_53 : decode cX0_addedBy 53 = .ok (.istore 5, 2) := dk_54 5 (dk_at dksX0_addedBy_2 7 rfl rfl)
theorem dX0_addedBy_55 : decode cX0_addedBy 55 = .ok (.iload 5, 2) := dk_21 5 (dk_at dksX0_addedBy_2 9 rfl rfl)
theorem dX0_addedBy_57 : decode cX0_addedBy 57 = .ok (.aload_n 0, 1) := dk_42 (dk_at dksX0_addedBy_2 11 rfl rfl)
theorem dX0_addedBy_58 : decode cX0_addedBy 58 = .ok (.getfield 26, 3) := dk_180 0 26 (dk_at dksX0_addedBy_2 12 rfl rfl)
theorem dX0_addedBy_61 : decode cX0_addedBy 61 = .ok (.getfield 154, 3) := dk_180 0 154 (dk_at dksX0_addedBy_2 15 rfl rfl)
theorem dX0_addedBy_64 : decode cX0_addedBy 64 = .ok (.invokevirtual 36, 3) := dk_182 0 36 (dk_at dksX0_addedBy_2 18 rfl rfl)
theorem dX0_addedBy_67 : decode cX0_addedBy 67 = .ok (.if_icmp .ge 157, 3) := dk_162 0 157 (dk_at dksX0_addedBy_2 21 rfl rfl)
theorem dX0_addedBy_70 : decode cX0_addedBy 70 = .ok (.aload_n 0, 1) := dk_42 (dk_at dksX0_addedBy_3 0 rfl rfl)
theorem dX0_addedBy_71 : decode cX0_addedBy 71 = .ok (.getfield 26, 3) := dk_180 0 26 (dk_at dksX0_addedBy_3 1 rfl rfl)
theorem dX0_addedBy_74 : decode cX0_addedBy 74 = .ok (.getfield 154, 3) := dk_180 0 154 (dk_at dksX0_addedBy_3 4 rfl rfl)
theorem dX0_addedBy_77 : decode cX0_addedBy 77 = .ok (.iload 5, 2) := dk_21 5 (dk_at dksX0_addedBy_3 7 rfl rfl)
theorem dX0_addedBy_79 : decode cX0_addedBy 79 = .ok (.invokevirtual 42, 3) := dk_182 0 42 (dk_at dksX0_addedBy_3 9 rfl rfl)
theorem dX0_addedBy_82 : decode cX0_addedBy 82 = .ok (.checkcast 173, 3) := dk_192 0 173 (dk_at dksX0_addedBy_3 12 rfl rfl)
theorem dX0_addedBy_85 : decode cX0_addedBy 85 = .ok (.astore 6, 2) := dk_58 6 (dk_at dksX0_addedBy_3 15 rfl rfl)
theorem dX0_addedBy_87 : decode cX0_addedBy 87 = .ok (.aload_n 0, 1) := dk_42 (dk_at dksX0_addedBy_3 17 rfl rfl)
theorem dX0_addedBy_88 : decode cX0_addedBy 88 = .ok (.aload 6, 2) := dk_25 6 (dk_at dksX0_addedBy_3 18 rfl rfl)
theorem dX0_addedBy_90 : decode cX0_addedBy 90 = .ok (.invokevirtual 346, 3) := dk_182 1 90 (dk_at dksX0_addedBy_3 20 rfl rfl)
theorem dX0_addedBy_93 : decode cX0_addedBy 93 = .ok (.invokeinterface 350 1, 5) := by decide +kernel
theorem dX0_addedBy_98 : decode cX0_addedBy 98 = .ok (.iconst 3, 1) := dk_6 (dk_at dksX0_addedBy_4 5 rfl rfl)
theorem dX0_addedBy_99 : decode cX0_addedBy 99 = .ok (.if_icmp .ge 6, 3) := dk_162 0 6 (dk_at dksX0_addedBy_4 6 rfl rfl)
theorem dX0_addedBy_102 : decode cX0_addedBy 102 = .ok (.goto 116, 3) := dk_167 0 116 (dk_at dksX0_addedBy_4 9 rfl rfl)
theorem dX0_addedBy_105 : decode cX0_addedBy 105 = .ok (.iconst 0, 1) := dk_3 (dk_at dksX0_addedBy_4 12 rfl rfl)
theorem dX0_addedBy_106 : decode cX0_addedBy 106 = .ok (.istore 7, 2) := dk_54 7 (dk_at dksX0_addedBy_4 13 rfl rfl)
theorem dX0_addedBy_108 : decode cX0_addedBy 108 = .ok (.iconst 0, 1) := dk_3 (dk_at dksX0_addedBy_4 15 rfl rfl)
theorem dX0_addedBy_109 : decode cX0_addedBy 109 = .ok (.istore 8, 2) := dk_54 8 (dk_at dksX0_addedBy_4 16 rfl rfl)
theorem dX0_addedBy_111 : decode cX0_addedBy 111 = .ok (.iload 8, 2) := dk_21 8 (dk_at dksX0_addedBy_4 18 rfl rfl)
theorem dX0_addedBy_113 : decode cX0_addedBy 113 = .ok (.aload_n 1, 1) := dk_43 (dk_at dksX0_addedBy_4 20 rfl rfl)
theorem dX0_addedBy_114 : decode cX0_addedBy 114 = .ok (.getfield 178, 3) := dk_180 0 178 (dk_at dksX0_addedBy_4 21 rfl rfl)
theorem dX0_addedBy_117 : decode cX0_addedBy 117 = .ok (.invokevirtual 36, 3) := dk_182 0 36 (dk_at dksX0_addedBy_5 0 rfl rfl)
theorem dX0_addedBy_120 : decode cX0_addedBy 120 = .ok (.if_icmp .ge 78, 3) := dk_162 0 78 (dk_at dksX0_addedBy_5 3 rfl rfl)
theorem dX0_addedBy_123 : decode cX0_addedBy 123 = .ok (.iload 7, 2) := dk_21 7 (dk_at dksX0_addedBy_5 6 rfl rfl)
theorem dX0_addedBy_125 : decode cX0_addedBy 125 = .ok (.ifCond .ne 73, 3) := dk_154 0 73 (dk_at dksX0_addedBy_5 8 rfl rfl)
theorem dX0_addedBy_128 : decode cX0_addedBy 128 = .ok (.aload_n 0, 1) := dk_42 (dk_at dksX0_addedBy_5 11 rfl rfl)
theorem dX0_addedBy_129 : decode cX0_addedBy 129 = .ok (.aload 6, 2) := dk_25 6 (dk_at dksX0_addedBy_5 12 rfl rfl)
theorem dX0_addedBy_131 : decode cX0_addedBy 131 = .ok (.getfield 195, 3) := dk_180 0 195 (dk_at dksX0_addedBy_5 14 rfl rfl)
theorem dX0_addedBy_134 : decode cX0_addedBy 134 = .ok (.aload_n 1, 1) := dk_43 (dk_at dksX0_addedBy_5 17 rfl rfl)
theorem dX0_addedBy_135 : decode cX0_addedBy 135 = .ok (.getfield 178, 3) := dk_180 0 178 (dk_at dksX0_addedBy_5 18 rfl rfl)
theorem dX0_addedBy_138 : decode cX0_addedBy 138 = .ok (.iload 8, 2) := dk_21 8 (dk_at dksX0_addedBy_5 21 rfl rfl)
theorem dX0_addedBy_140 : decode cX0_addedBy 140 = .ok (.invokevirtual 42, 3) := dk_182 0 42 (dk_at dksX0_addedBy_6 0 rfl rfl)
theorem dX0_addedBy_143 : decode cX0_addedBy 143 = .ok (.checkcast 2, 3) := dk_192 0 2 (dk_at dksX0_addedBy_6 3 rfl rfl)
theorem dX0_addedBy_146 : decode cX0_addedBy 146 = .ok (.invokevirtual 218, 3) := dk_182 0 218 (dk_at dksX0_addedBy_6 6 rfl rfl)
theorem dX0_addedBy_149 : decode cX0_addedBy 149 = .ok (.aload_n 0, 1) := dk_42 (dk_at dksX0_addedBy_6 9 rfl rfl)
theorem dX0_addedBy_150 : decode cX0_addedBy 150 = .ok (.getfield 26, 3) := dk_180 0 26 (dk_at dksX0_addedBy_6 10 rfl rfl)
theorem dX0_addedBy_153 : decode cX0_addedBy 153 = .ok (.getfield 186, 3) := dk_180 0 186 (dk_at dksX0_addedBy_6 13 rfl rfl)
theorem dX0_addedBy_156 : decode cX0_addedBy 156 = .ok (.if_icmp .ge 29, 3) := dk_162 0 29 (dk_at dksX0_addedBy_6 16 rfl rfl)
theorem dX0_addedBy_159 : decode cX0_addedBy 159 = .ok (.aload_n 0, 1) := dk_42 (dk_at dksX0_addedBy_6 19 rfl rfl)
theorem dX0_addedBy_160 : decode cX0_addedBy 160 = .ok (.aload 6, 2) := dk_25 6 (dk_at dksX0_addedBy_6 20 rfl rfl)
theorem dX0_addedBy_162 : decode cX0_addedBy 162 = .ok (.getfield 195, 3) := dk_180 0 195 (dk_at dksX0_addedBy_7 0 rfl rfl)
theorem dX0_addedBy_165 : decode cX0_addedBy 165 = .ok (.aload_n 0, 1) := dk_42 (dk_at dksX0_addedBy_7 3 rfl rfl)
theorem dX0_addedBy_166 : decode cX0_addedBy 166 = .ok (.getfield 90, 3) := dk_180 0 90 (dk_at dksX0_addedBy_7 4 rfl rfl)
theorem dX0_addedBy_169 : decode cX0_addedBy 169 = .ok (.iload 8, 2) := dk_21 8 (dk_at dksX0_addedBy_7 7 rfl rfl)
theorem dX0_addedBy_171 : decode cX0_addedBy 171 = .ok (.aaload, 1) := dk_50 (dk_at dksX0_addedBy_7 9 rfl rfl)
theorem dX0_addedBy_172 : decode cX0_addedBy 172 = .ok (.invokevirtual 218, 3) := dk_182 0 218 (dk_at dksX0_addedBy_7 10 rfl rfl)
theorem dX0_addedBy_175 : decode cX0_addedBy 175 = .ok (.aload_n 0, 1) := dk_42 (dk_at dksX0_addedBy_7 13 rfl rfl)
theorem dX0_addedBy_176 : decode cX0_addedBy 176 = .ok (.getfield 26, 3) := dk_180 0 26 (dk_at dksX0_addedBy_7 14 rfl rfl)
theorem dX0_addedBy_179 : decode cX0_addedBy 179 = .ok (.getfield 186, 3) := dk_180 0 186 (dk_at dksX0_addedBy_7 17 rfl rfl)
theorem dX0_addedBy_182 : decode cX0_addedBy 182 = .ok (.if_icmp .lt 7, 3) := dk_161 0 7 (dk_at dksX0_addedBy_7 20 rfl rfl)
theorem dX0_addedBy_185 : decode cX0_addedBy 185 = .ok (.iconst 1, 1) := dk_4 (dk_at dksX0_addedBy_7 23 rfl rfl)
theorem dX0_addedBy_186 : decode cX0_addedBy 186 = .ok (.goto 4, 3) := dk_167 0 4 (dk_at dksX0_addedBy_8 0 rfl rfl)
theorem dX0_addedBy_189 : decode cX0_addedBy 189 = .ok (.iconst 0, 1) := dk_3 (dk_at dksX0_addedBy_8 3 rfl rfl)
theorem dX0_addedBy_190 : decode cX0_addedBy 190 = .ok (.istore 7, 2) := dk_54 7 (dk_at dksX0_addedBy_8 4 rfl rfl)
theorem dX0_addedBy_192 : decode cX0_addedBy 192 = .ok (.iinc 8 1, 3) := dk_132 8 1 (dk_at dksX0_addedBy_8 6 rfl rfl)
theorem dX0_addedBy_195 : decode cX0_addedBy 195 = .ok (.goto (-84), 3) := dk_167 255 172 (dk_at dksX0_addedBy_8 9 rfl rfl)
theorem dX0_addedBy_198 : decode cX0_addedBy 198 = .ok (.iload 7, 2) := dk_21 7 (dk_at dksX0_addedBy_8 12 rfl rfl)
theorem dX0_addedBy_200 : decode cX0_addedBy 200 = .ok (.ifCond .ne 6, 3) := dk_154 0 6 (dk_at dksX0_addedBy_8 14 rfl rfl)
theorem dX0_addedBy_203 : decode cX0_addedBy 203 = .ok (.goto 15, 3) := dk_167 0 15 (dk_at dksX0_addedBy_8 17 rfl rfl)
theorem dX0_addedBy_206 : decode cX0_addedBy 206 = .ok (.iload 4, 2) := dk_21 4 (dk_at dksX0_addedBy_8 20 rfl rfl)
theorem dX0_addedBy_208 : decode cX0_addedBy 208 = .ok (.iload_n 3, 1) := dk_29 (dk_at dksX0_addedBy_8 22 rfl rfl)
theorem dX0_addedBy_209 : decode cX0_addedBy 209 = .ok (.if_icmp .ne 6, 3) := dk_160 0 6 (dk_at dksX0_addedBy_9 0 rfl rfl)
theorem dX0_addedBy_212 : decode cX0_addedBy 212 = .ok (.iload 5, 2) := dk_21 5 (dk_at dksX0_addedBy_9 3 rfl rfl)
theorem dX0_addedBy_214 : decode cX0_addedBy 214 = .ok (.ireturn, 1) := dk_172 (dk_at dksX0_addedBy_9 5 rfl rfl)
theorem dX0_addedBy_215 : decode cX0_addedBy 215 = .ok (.iinc 4 1, 3) := dk_132 4 1 (dk_at dksX0_addedBy_9 6 rfl rfl)
theorem dX0_addedBy_218 : decode cX0_addedBy 218 = .ok (.iinc 5 1, 3) := dk_132 5 1 (dk_at dksX0_addedBy_9 9 rfl rfl)
theorem dX0_addedBy_221 : decode cX0_addedBy 221 = .ok (.goto (-166), 3) := dk_167 255 90 (dk_at dksX0_addedBy_9 12 rfl rfl)
theorem dX0_addedBy_224 : decode cX0_addedBy 224 = .ok (.iload_n 3, 1) := dk_29 (dk_at dksX0_addedBy_9 15 rfl rfl)
theorem dX0_addedBy_225 : decode cX0_addedBy 225 = .ok (.iconst (-1), 1) := dk_2 (dk_at dksX0_addedBy_9 16 rfl rfl)
theorem dX0_addedBy_226 : decode cX0_addedBy 226 = .ok (.if_icmp .ne 8, 3) := dk_160 0 8 (dk_at dksX0_addedBy_9 17 rfl rfl)
theorem dX0_addedBy_229 : decode cX0_addedBy 229 = .ok (.iload 4, 2) := dk_21 4 (dk_at dksX0_addedBy_9 20 rfl rfl)
theorem dX0_addedBy_231 : decode cX0_addedBy 231 = .ok (.goto 4, 3) := dk_167 0 4 (dk_at dksX0_addedBy_10 0 rfl rfl)
theorem dX0_addedBy_234 : decode cX0_addedBy 234 = .ok (.iconst (-1), 1) := dk_2 (dk_at dksX0_addedBy_10 3 rfl rfl)
theorem dX0_addedBy_235 : decode cX0_addedBy 235 = .ok (.ireturn, 1) := dk_172 (dk_at dksX0_addedBy_10 4 rfl rfl)
abbrev cX0_added : ByteArray := prog_1_method_53_code
def yX0_added : MethodName := ⟨RX0, "added", "(III)I"⟩
def dkwX0_added_2 : List UInt8 := [182, 0, 42, 192, 0, 145, 28, 29, 182, 1, 136, 172]
abbrev dktX0_added_2 : List UInt8 := dkwX0_added_2 ++ []
def dkwX0_added_1 : List UInt8 := [16, 253, 182, 0, 119, 172, 29, 156, 0, 7, 2, 167, 0, 23, 42, 42, 180, 0, 26, 180, 0, 138, 27]
abbrev dktX0_added_1 : List UInt8 := dkwX0_added_1 ++ dktX0_added_2
def dkwX0_added_0 : List UInt8 := [42, 27, 182, 0, 162, 154, 0, 10, 42, 16, 254, 182, 0, 119, 172, 28, 184, 0, 123, 154, 0, 10, 42]
abbrev dktX0_added_0 : List UInt8 := dkwX0_added_0 ++ dktX0_added_1
theorem dksX0_added_0 : cX0_added.data.toList.drop 0 = dktX0_added_0 := by decide +kernel
theorem dksX0_added_1 : cX0_added.data.toList.drop 23 = dktX0_added_1 := dk_seg dksX0_added_0 23 rfl rfl
theorem dksX0_added_2 : cX0_added.data.toList.drop 46 = dktX0_added_2 := dk_seg dksX0_added_1 23 rfl rfl
theorem dX0_added_0 : decode cX0_added 0 = .ok (.aload_n 0, 1) := dk_42 (dk_at dksX0_added_0 0 rfl rfl)
theorem dX0_added_1 : decode cX0_added 1 = .ok (.iload_n 1, 1) := dk_27 (dk_at dksX0_added_0 1 rfl rfl)
theorem dX0_added_2 : decode cX0_added 2 = .ok (.invokevirtual 162, 3) := dk_182 0 162 (dk_at dksX0_added_0 2 rfl rfl)
theorem dX0_added_5 : decode cX0_added 5 = .ok (.ifCond .ne 10, 3) := dk_154 0 10 (dk_at dksX0_added_0 5 rfl rfl)
theorem dX0_added_8 : decode cX0_added 8 = .ok (.aload_n 0, 1) := dk_42 (dk_at dksX0_added_0 8 rfl rfl)
theorem dX0_added_9 : decode cX0_added 9 = .ok (.bipush (-2), 2) := dk_16 254 (dk_at dksX0_added_0 9 rfl rfl)
theorem dX0_added_11 : decode cX0_added 11 = .ok (.invokevirtual 119, 3) := dk_182 0 119 (dk_at dksX0_added_0 11 rfl rfl)
theorem dX0_added_14 : decode cX0_added 14 = .ok (.ireturn, 1) := dk_172 (dk_at dksX0_added_0 14 rfl rfl)
theorem dX0_added_15 : decode cX0_added 15 = .ok (.iload_n 2, 1) := dk_28 (dk_at dksX0_added_0 15 rfl rfl)
theorem dX0_added_16 : decode cX0_added 16 = .ok (.invokestatic 123, 3) := dk_184 0 123 (dk_at dksX0_added_0 16 rfl rfl)
theorem dX0_added_19 : decode cX0_added 19 = .ok (.ifCond .ne 10, 3) := dk_154 0 10 (dk_at dksX0_added_0 19 rfl rfl)
theorem dX0_added_22 : decode cX0_added 22 = .ok (.aload_n 0, 1) := dk_42 (dk_at dksX0_added_0 22 rfl rfl)
theorem dX0_added_23 : decode cX0_added 23 = .ok (.bipush (-3), 2) := dk_16 253 (dk_at dksX0_added_1 0 rfl rfl)
theorem dX0_added_25 : decode cX0_added 25 = .ok (.invokevirtual 119, 3) := dk_182 0 119 (dk_at dksX0_added_1 2 rfl rfl)
theorem dX0_added_28 : decode cX0_added 28 = .ok (.ireturn, 1) := dk_172 (dk_at dksX0_added_1 5 rfl rfl)
theorem dX0_added_29 : decode cX0_added 29 = .ok (.iload_n 3, 1) := dk_29 (dk_at dksX0_added_1 6 rfl rfl)
theorem dX0_added_30 : decode cX0_added 30 = .ok (.ifCond .ge 7, 3) := dk_156 0 7 (dk_at dksX0_added_1 7 rfl rfl)
theorem dX0_added_33 : decode cX0_added 33 = .ok (.iconst (-1), 1) := dk_2 (dk_at dksX0_added_1 10 rfl rfl)
theorem dX0_added_34 : decode cX0_added 34 = .ok (.goto 23, 3) := dk_167 0 23 (dk_at dksX0_added_1 11 rfl rfl)
theorem dX0_added_37 : decode cX0_added 37 = .ok (.aload_n 0, 1) := dk_42 (dk_at dksX0_added_1 14 rfl rfl)
theorem dX0_added_38 : decode cX0_added 38 = .ok (.aload_n 0, 1) := dk_42 (dk_at dksX0_added_1 15 rfl rfl)
theorem dX0_added_39 : decode cX0_added 39 = .ok (.getfield 26, 3) := dk_180 0 26 (dk_at dksX0_added_1 16 rfl rfl)
theorem dX0_added_42 : decode cX0_added 42 = .ok (.getfield 138, 3) := dk_180 0 138 (dk_at dksX0_added_1 19 rfl rfl)
theorem dX0_added_45 : decode cX0_added 45 = .ok (.iload_n 1, 1) := dk_27 (dk_at dksX0_added_1 22 rfl rfl)
theorem dX0_added_46 : decode cX0_added 46 = .ok (.invokevirtual 42, 3) := dk_182 0 42 (dk_at dksX0_added_2 0 rfl rfl)
theorem dX0_added_49 : decode cX0_added 49 = .ok (.checkcast 145, 3) := dk_192 0 145 (dk_at dksX0_added_2 3 rfl rfl)
theorem dX0_added_52 : decode cX0_added 52 = .ok (.iload_n 2, 1) := dk_28 (dk_at dksX0_added_2 6 rfl rfl)
theorem dX0_added_53 : decode cX0_added 53 = .ok (.iload_n 3, 1) := dk_29 (dk_at dksX0_added_2 7 rfl rfl)
theorem dX0_added_54 : decode cX0_added 54 = .ok (.invokevirtual 392, 3) := dk_182 1 136 (dk_at dksX0_added_2 8 rfl rfl)
theorem dX0_added_57 : decode cX0_added 57 = .ok (.ireturn, 1) := dk_172 (dk_at dksX0_added_2 11 rfl rfl)
abbrev cX0_year : ByteArray := prog_1_method_54_code
def yX0_year : MethodName := ⟨RX0, "year", "(II)I"⟩
def dkwX0_year_2 : List UInt8 := [180, 1, 142, 27, 28, 79, 29, 172]
abbrev dktX0_year_2 : List UInt8 := dkwX0_year_2 ++ []
def dkwX0_year_1 : List UInt8 := [154, 0, 10, 42, 16, 253, 182, 0, 119, 172, 42, 180, 0, 26, 180, 1, 142, 27, 46, 62, 42, 180, 0, 26]
abbrev dktX0_year_1 : List UInt8 := dkwX0_year_1 ++ dktX0_year_2
def dkwX0_year_0 : List UInt8 := [27, 133, 10, 20, 1, 140, 184, 0, 111, 154, 0, 10, 42, 16, 254, 182, 0, 119, 172, 28, 184, 0, 130]
abbrev dktX0_year_0 : List UInt8 := dkwX0_year_0 ++ dktX0_year_1
theorem dksX0_year_0 : cX0_year.data.toList.drop 0 = dktX0_year_0 := by decide +kernel
theorem dksX0_year_1 : cX0_year.data.toList.drop 23 = dktX0_year_1 := dk_seg dksX0_year_0 23 rfl rfl
theorem dksX0_year_2 : cX0_year.data.toList.drop 47 = dktX0_year_2 := dk_seg dksX0_year_1 24 rfl rfl
theorem dX0_year_0 : decode cX0_year 0 = .ok (.iload_n 1, 1) := dk_27 (dk_at dksX0_year_0 0 rfl rfl)
theorem dX0_year_1 : decode cX0_year 1 = .ok (.i2l, 1) := dk_133 (dk_at dksX0_year_0 1 rfl rfl)
theorem dX0_year_2 : decode cX0_year 2 = .ok (.lconst 1, 1) := dk_10 (dk_at dksX0_year_0 2 rfl rfl)
theorem dX0_year_3 : decode cX0_year 3 = .ok (.ldc2_w 396, 3) := dk_20 1 140 (dk_at dksX0_year_0 3 rfl rfl)
theorem dX0_year_6 : decode cX0_year 6 = .ok (.invokestatic 111, 3) := dk_184 0 111 (dk_at dksX0_year_0 6 rfl rfl)
theorem dX0_year_9 : decode cX0_year 9 = .ok (.ifCond .ne 10, 3) := dk_154 0 10 (dk_at dksX0_year_0 9 rfl rfl)
theorem dX0_year_12 : decode cX0_year 12 = .ok (.aload_n 0, 1) := dk_42 (dk_at dksX0_year_0 12 rfl rfl)
theorem dX0_year_13 : decode cX0_year 13 = .ok (.bipush (-2), 2) := dk_16 254 (dk_at dksX0_year_0 13 rfl rfl)
theorem dX0_year_15 : decode cX0_year 15 = .ok (.invokevirtual 119, 3) := dk_182 0 119 (dk_at dksX0_year_0 15 rfl rfl)
theorem dX0_year_18 : decode cX0_year 18 = .ok (.ireturn, 1) := dk_172 (dk_at dksX0_year_0 18 rfl rfl)
theorem dX0_year_19 : decode cX0_year 19 = .ok (.iload_n 2, 1) := dk_28 (dk_at dksX0_year_0 19 rfl rfl)
theorem dX0_year_20 : decode cX0_year 20 = .ok (.invokestatic 130, 3) := dk_184 0 130 (dk_at dksX0_year_0 20 rfl rfl)
theorem dX0_year_23 : decode cX0_year 23 = .ok (.ifCond .ne 10, 3) := dk_154 0 10 (dk_at dksX0_year_1 0 rfl rfl)
theorem dX0_year_26 : decode cX0_year 26 = .ok (.aload_n 0, 1) := dk_42 (dk_at dksX0_year_1 3 rfl rfl)
theorem dX0_year_27 : decode cX0_year 27 = .ok (.bipush (-3), 2) := dk_16 253 (dk_at dksX0_year_1 4 rfl rfl)
theorem dX0_year_29 : decode cX0_year 29 = .ok (.invokevirtual 119, 3) := dk_182 0 119 (dk_at dksX0_year_1 6 rfl rfl)
theorem dX0_year_32 : decode cX0_year 32 = .ok (.ireturn, 1) := dk_172 (dk_at dksX0_year_1 9 rfl rfl)
theorem dX0_year_33 : decode cX0_year 33 = .ok (.aload_n 0, 1) := dk_42 (dk_at dksX0_year_1 10 rfl rfl)
theorem dX0_year_34 : decode cX0_year 34 = .ok (.getfield 26, 3) := dk_180 0 26 (dk_at dksX0_year_1 11 rfl rfl)
theorem dX0_year_37 : decode cX0_year 37 = .ok (.getfield 398, 3) := dk_180 1 142 (dk_at dksX0_year_1 14 rfl rfl)
theorem dX0_year_40 : decode cX0_year 40 = .ok (.iload_n 1, 1) := dk_27 (dk_at dksX0_year_1 17 rfl rfl)
theorem dX0_year_41 : decode cX0_year 41 = .ok (.iaload, 1) := dk_46 (dk_at dksX0_year_1 18 rfl rfl)
theorem dX0_year_42 : decode cX0_year 42 = .ok (.istore_n 3, 1) := dk_62 (dk_at dksX0_year_1 19 rfl rfl)
theorem dX0_year_43 : decode cX0_year 43 = .ok (.aload_n 0, 1) := dk_42 (dk_at dksX0_year_1 20 rfl rfl)
theorem dX0_year_44 : decode cX0_year 44 = .ok (.getfield 26, 3) := dk_180 0 26 (dk_at dksX0_year_1 21 rfl rfl)
theorem dX0_year_47 : decode cX0_year 47 = .ok (.getfield 398, 3) := dk_180 1 142 (dk_at dksX0_year_2 0 rfl rfl)
theorem dX0_year_50 : decode cX0_year 50 = .ok (.iload_n 1, 1) := dk_27 (dk_at dksX0_year_2 3 rfl rfl)
theorem dX0_year_51 : decode cX0_year 51 = .ok (.iload_n 2, 1) := dk_28 (dk_at dksX0_year_2 4 rfl rfl)
theorem dX0_year_52 : decode cX0_year 52 = .ok (.iastore, 1) := dk_79 (dk_at dksX0_year_2 5 rfl rfl)
theorem dX0_year_53 : decode cX0_year 53 = .ok (.iload_n 3, 1) := dk_29 (dk_at dksX0_year_2 6 rfl rfl)
theorem dX0_year_54 : decode cX0_year 54 = .ok (.ireturn, 1) := dk_172 (dk_at dksX0_year_2 7 rfl rfl)
abbrev cX0_version : ByteArray := prog_1_method_55_code
def yX0_version : MethodName := ⟨RX0, "version", "(JJII)I"⟩
def dkwX0_version_4 : List UInt8 := [180, 0, 199, 182, 0, 36, 4, 100, 172]
abbrev dktX0_version_4 : List UInt8 := dkwX0_version_4 ++ []
def dkwX0_version_3 : List UInt8 := [184, 0, 169, 33, 184, 0, 169, 21, 5, 21, 6, 183, 1, 145, 182, 0, 150, 87, 42, 180, 0, 26]
abbrev dktX0_version_3 : List UInt8 := dkwX0_version_3 ++ dktX0_version_4
def dkwX0_version_2 : List UInt8 := [16, 20, 160, 0, 10, 42, 16, 252, 182, 0, 119, 172, 42, 180, 0, 26, 180, 0, 199, 187, 0, 202, 89, 31]
abbrev dktX0_version_2 : List UInt8 := dkwX0_version_2 ++ dktX0_version_3
def dkwX0_version_1 : List UInt8 := [184, 0, 165, 154, 0, 10, 42, 16, 253, 182, 0, 119, 172, 42, 180, 0, 26, 180, 0, 199, 182, 0, 36]
abbrev dktX0_version_1 : List UInt8 := dkwX0_version_1 ++ dktX0_version_2
def dkwX0_version_0 : List UInt8 := [21, 5, 184, 0, 130, 153, 0, 25, 21, 6, 184, 0, 123, 153, 0, 17, 31, 184, 0, 165, 153, 0, 10, 33]
abbrev dktX0_version_0 : List UInt8 := dkwX0_version_0 ++ dktX0_version_1
theorem dksX0_version_0 : cX0_version.data.toList.drop 0 = dktX0_version_0 := by decide +kernel
theorem dksX0_version_1 : cX0_version.data.toList.drop 24 = dktX0_version_1 := dk_seg dksX0_version_0 24 rfl rfl
theorem dksX0_version_2 : cX0_version.data.toList.drop 47 = dktX0_version_2 := dk_seg dksX0_version_1 23 rfl rfl
theorem dksX0_version_3 : cX0_version.data.toList.drop 71 = dktX0_version_3 := dk_seg dksX0_version_2 24 rfl rfl
theorem dksX0_version_4 : cX0_version.data.toList.drop 93 = dktX0_version_4 := dk_seg dksX0_version_3 22 rfl rfl
theorem dX0_version_0 : decode cX0_version 0 = .ok (.iload 5, 2) := dk_21 5 (dk_at dksX0_version_0 0 rfl rfl)
theorem dX0_version_2 : decode cX0_version 2 = .ok (.invokestatic 130, 3) := dk_184 0 130 (dk_at dksX0_version_0 2 rfl rfl)
theorem dX0_version_5 : decode cX0_version 5 = .ok (.ifCond .eq 25, 3) := dk_153 0 25 (dk_at dksX0_version_0 5 rfl rfl)
theorem dX0_version_8 : decode cX0_version 8 = .ok (.iload 6, 2) := dk_21 6 (dk_at dksX0_version_0 8 rfl rfl)
theorem dX0_version_10 : decode cX0_version 10 = .ok (.invokestatic 123, 3) := dk_184 0 123 (dk_at dksX0_version_0 10 rfl rfl)
theorem dX0_version_13 : decode cX0_version 13 = .ok (.ifCond .eq 17, 3) := dk_153 0 17 (dk_at dksX0_version_0 13 rfl rfl)
theorem dX0_version_16 : decode cX0_version 16 = .ok (.lload_n 1, 1) := dk_31 (dk_at dksX0_version_0 16 rfl rfl)
theorem dX0_version_17 : decode cX0_version 17 = .ok (.invokestatic 165, 3) := dk_184 0 165 (dk_at dksX0_version_0 17 rfl rfl)
theorem dX0_version_20 : decode cX0_version 20 = .ok (.ifCond .eq 10, 3) := dk_153 0 10 (dk_at dksX0_version_0 20 rfl rfl)
theorem dX0_version_23 : decode cX0_version 23 = .ok (.lload_n 3, 1) := dk_33 (dk_at dksX0_version_0 23 rfl rfl)
theorem dX0_version_24 : decode cX0_version 24 = .ok (.invokestatic 165, 3) := dk_184 0 165 (dk_at dksX0_version_1 0 rfl rfl)
theorem dX0_version_27 : decode cX0_version 27 = .ok (.ifCond .ne 10, 3) := dk_154 0 10 (dk_at dksX0_version_1 3 rfl rfl)
theorem dX0_version_30 : decode cX0_version 30 = .ok (.aload_n 0, 1) := dk_42 (dk_at dksX0_version_1 6 rfl rfl)
theorem dX0_version_31 : decode cX0_version 31 = .ok (.bipush (-3), 2) := dk_16 253 (dk_at dksX0_version_1 7 rfl rfl)
theorem dX0_version_33 : decode cX0_version 33 = .ok (.invokevirtual 119, 3) := dk_182 0 119 (dk_at dksX0_version_1 9 rfl rfl)
theorem dX0_version_36 : decode cX0_version 36 = .ok (.ireturn, 1) := dk_172 (dk_at dksX0_version_1 12 rfl rfl)
theorem dX0_version_37 : decode cX0_version 37 = .ok (.aload_n 0, 1) := dk_42 (dk_at dksX0_version_1 13 rfl rfl)
theorem dX0_version_38 : decode cX0_version 38 = .ok (.getfield 26, 3) := dk_180 0 26 (dk_at dksX0_version_1 14 rfl rfl)
theorem dX0_version_41 : decode cX0_version 41 = .ok (.getfield 199, 3) := dk_180 0 199 (dk_at dksX0_version_1 17 rfl rfl)
theorem dX0_version_44 : decode cX0_version 44 = .ok (.invokevirtual 36, 3) := dk_182 0 36 (dk_at dksX0_version_1 20 rfl rfl)
theorem dX0_version_47 : decode cX0_version 47 = .ok (.bipush 20, 2) := dk_16 20 (dk_at dksX0_version_2 0 rfl rfl)
theorem dX0_version_49 : decode cX0_version 49 = .ok (.if_icmp .ne 10, 3) := dk_160 0 10 (dk_at dksX0_version_2 2 rfl rfl)
theorem dX0_version_52 : decode cX0_version 52 = .ok (.aload_n 0, 1) := dk_42 (dk_at dksX0_version_2 5 rfl rfl)
theorem dX0_version_53 : decode cX0_version 53 = .ok (.bipush (-4), 2) := dk_16 252 (dk_at dksX0_version_2 6 rfl rfl)
theorem dX0_version_55 : decode cX0_version 55 = .ok (.invokevirtual 119, 3) := dk_182 0 119 (dk_at dksX0_version_2 8 rfl rfl)
theorem dX0_version_58 : decode cX0_version 58 = .ok (.ireturn, 1) := dk_172 (dk_at dksX0_version_2 11 rfl rfl)
theorem dX0_version_59 : decode cX0_version 59 = .ok (.aload_n 0, 1) := dk_42 (dk_at dksX0_version_2 12 rfl rfl)
theorem dX0_version_60 : decode cX0_version 60 = .ok (.getfield 26, 3) := dk_180 0 26 (dk_at dksX0_version_2 13 rfl rfl)
theorem dX0_version_63 : decode cX0_version 63 = .ok (.getfield 199, 3) := dk_180 0 199 (dk_at dksX0_version_2 16 rfl rfl)
theorem dX0_version_66 : decode cX0_version 66 = .ok (.new 202, 3) := dk_187 0 202 (dk_at dksX0_version_2 19 rfl rfl)
theorem dX0_version_69 : decode cX0_version 69 = .ok (.dup, 1) := dk_89 (dk_at dksX0_version_2 22 rfl rfl)
theorem dX0_version_70 : decode cX0_version 70 = .ok (.lload_n 1, 1) := dk_31 (dk_at dksX0_version_2 23 rfl rfl)
theorem dX0_version_71 : decode cX0_version 71 = .ok (.invokestatic 169, 3) := dk_184 0 169 (dk_at dksX0_version_3 0 rfl rfl)
theorem dX0_version_74 : decode cX0_version 74 = .ok (.lload_n 3, 1) := dk_33 (dk_at dksX0_version_3 3 rfl rfl)
theorem dX0_version_75 : decode cX0_version 75 = .ok (.invokestatic 169, 3) := dk_184 0 169 (dk_at dksX0_version_3 4 rfl rfl)
theorem dX0_version_78 : decode cX0_version 78 = .ok (.iload 5, 2) := dk_21 5 (dk_at dksX0_version_3 7 rfl rfl)
theorem dX0_version_80 : decode cX0_version 80 = .ok (.iload 6, 2) := dk_21 6 (dk_at dksX0_version_3 9 rfl rfl)
theorem dX0_version_82 : decode cX0_version 82 = .ok (.invokespecial 401, 3) := dk_183 1 145 (dk_at dksX0_version_3 11 rfl rfl)
theorem dX0_version_85 : decode cX0_version 85 = .ok (.invokevirtual 150, 3) := dk_182 0 150 (dk_at dksX0_version_3 14 rfl rfl)
theorem dX0_version_88 : decode cX0_version 88 = .ok (.pop, 1) := dk_87 (dk_at dksX0_version_3 17 rfl rfl)
theorem dX0_version_89 : decode cX0_version 89 = .ok (.aload_n 0, 1) := dk_42 (dk_at dksX0_version_3 18 rfl rfl)
theorem dX0_version_90 : decode cX0_version 90 = .ok (.getfield 26, 3) := dk_180 0 26 (dk_at dksX0_version_3 19 rfl rfl)
theorem dX0_version_93 : decode cX0_version 93 = .ok (.getfield 199, 3) := dk_180 0 199 (dk_at dksX0_version_4 0 rfl rfl)
theorem dX0_version_96 : decode cX0_version 96 = .ok (.invokevirtual 36, 3) := dk_182 0 36 (dk_at dksX0_version_4 3 rfl rfl)
theorem dX0_version_99 : decode cX0_version 99 = .ok (.iconst 1, 1) := dk_4 (dk_at dksX0_version_4 6 rfl rfl)
theorem dX0_version_100 : decode cX0_version 100 = .ok (.isub, 1) := dk_100 (dk_at dksX0_version_4 7 rfl rfl)
theorem dX0_version_101 : decode cX0_version 101 = .ok (.ireturn, 1) := dk_172 (dk_at dksX0_version_4 8 rfl rfl)
abbrev cX0_which : ByteArray := prog_1_method_56_code
def yX0_which : MethodName := ⟨RX0, "which", "(I)I"⟩
def dkwX0_which_6 : List UInt8 := [5, 172]
abbrev dktX0_which_6 : List UInt8 := dkwX0_which_6 ++ []
def dkwX0_which_5 : List UInt8 := [180, 0, 207, 44, 180, 1, 148, 182, 1, 3, 44, 180, 0, 204, 182, 1, 149, 153, 0, 7, 4, 167, 0, 4]
abbrev dktX0_which_5 : List UInt8 := dkwX0_which_5 ++ dktX0_which_6
def dkwX0_which_4 : List UInt8 := [180, 1, 148, 182, 1, 3, 44, 180, 0, 207, 182, 1, 149, 153, 0, 7, 3, 167, 0, 30, 42, 44]
abbrev dktX0_which_4 : List UInt8 := dkwX0_which_4 ++ dktX0_which_5
def dkwX0_which_3 : List UInt8 := [29, 46, 46, 44, 180, 1, 147, 164, 0, 5, 4, 172, 132, 3, 1, 167, 255, 216, 42, 44, 180, 0, 204, 44]
abbrev dktX0_which_3 : List UInt8 := dkwX0_which_3 ++ dktX0_which_4
def dkwX0_which_2 : List UInt8 := [44, 180, 0, 204, 180, 0, 1, 162, 0, 35, 42, 180, 0, 26, 180, 1, 142, 44, 180, 0, 204, 180, 0, 7]
abbrev dktX0_which_2 : List UInt8 := dkwX0_which_2 ++ dktX0_which_3
def dkwX0_which_1 : List UInt8 := [16, 254, 182, 0, 119, 172, 42, 180, 0, 26, 180, 0, 199, 27, 182, 0, 42, 192, 0, 202, 77, 3, 62, 29]
abbrev dktX0_which_1 : List UInt8 := dkwX0_which_1 ++ dktX0_which_2
def dkwX0_which_0 : List UInt8 := [27, 133, 9, 42, 180, 0, 26, 180, 0, 199, 182, 0, 36, 4, 100, 133, 184, 0, 111, 154, 0, 10, 42]
abbrev dktX0_which_0 : List UInt8 := dkwX0_which_0 ++ dktX0_which_1
theorem dksX0_which_0 : cX0_which.data.toList.drop 0 = dktX0_which_0 := by decide +kernel
theorem dksX0_which_1 : cX0_which.data.toList.drop 23 = dktX0_which_1 := dk_seg dksX0_which_0 23 rfl rfl
theorem dksX0_which_2 : cX0_which.data.toList.drop 47 = dktX0_which_2 := dk_seg dksX0_which_1 24 rfl rfl
theorem dksX0_which_3 : cX0_which.data.toList.drop 71 = dktX0_which_3 := dk_seg dksX0_which_2 24 rfl rfl
theorem dksX0_which_4 : cX0_which.data.toList.drop 95 = dktX0_which_4 := dk_seg dksX0_which_3 24 rfl rfl
theorem dksX0_which_5 : cX0_which.data.toList.drop 117 = dktX0_which_5 := dk_seg dksX0_which_4 22 rfl rfl
theorem dksX0_which_6 : cX0_which.data.toList.drop 141 = dktX0_which_6 := dk_seg dksX0_which_5 24 rfl rfl
theorem dX0_which_0 : decode cX0_which 0 = .ok (.iload_n 1, 1) := dk_27 (dk_at dksX0_which_0 0 rfl rfl)
theorem dX0_which_1 : decode cX0_which 1 = .ok (.i2l, 1) := dk_133 (dk_at dksX0_which_0 1 rfl rfl)
theorem dX0_which_2 : decode cX0_which 2 = .ok (.lconst 0, 1) := dk_9 (dk_at dksX0_which_0 2 rfl rfl)
theorem dX0_which_3 : decode cX0_which 3 = .ok (.aload_n 0, 1) := dk_42 (dk_at dksX0_which_0 3 rfl rfl)
theorem dX0_which_4 : decode cX0_which 4 = .ok (.getfield 26, 3) := dk_180 0 26 (dk_at dksX0_which_0 4 rfl rfl)
theorem dX0_which_7 : decode cX0_which 7 = .ok (.getfield 199, 3) := dk_180 0 199 (dk_at dksX0_which_0 7 rfl rfl)
theorem dX0_which_10 : decode cX0_which 10 = .ok (.invokevirtual 36, 3) := dk_182 0 36 (dk_at dksX0_which_0 10 rfl rfl)
theorem dX0_which_13 : decode cX0_which 13 = .ok (.iconst 1, 1) := dk_4 (dk_at dksX0_which_0 13 rfl rfl)
theorem dX0_which_14 : decode cX0_which 14 = .ok (.isub, 1) := dk_100 (dk_at dksX0_which_0 14 rfl rfl)
theorem dX0_which_15 : decode cX0_which 15 = .ok (.i2l, 1) := dk_133 (dk_at dksX0_which_0 15 rfl rfl)
theorem dX0_which_16 : decode cX0_which 16 = .ok (.invokestatic 111, 3) := dk_184 0 111 (dk_at dksX0_which_0 16 rfl rfl)
theorem dX0_which_19 : decode cX0_which 19 = .ok (.ifCond .ne 10, 3) := dk_154 0 10 (dk_at dksX0_which_0 19 rfl rfl)
theorem dX0_which_22 : decode cX0_which 22 = .ok (.aload_n 0, 1) := dk_42 (dk_at dksX0_which_0 22 rfl rfl)
theorem dX0_which_23 : decode cX0_which 23 = .ok (.bipush (-2), 2) := dk_16 254 (dk_at dksX0_which_1 0 rfl rfl)
theorem dX0_which_25 : decode cX0_which 25 = .ok (.invokevirtual 119, 3) := dk_182 0 119 (dk_at dksX0_which_1 2 rfl rfl)
theorem dX0_which_28 : decode cX0_which 28 = .ok (.ireturn, 1) := dk_172 (dk_at dksX0_which_1 5 rfl rfl)
theorem dX0_which_29 : decode cX0_which 29 = .ok (.aload_n 0, 1) := dk_42 (dk_at dksX0_which_1 6 rfl rfl)
theorem dX0_which_30 : decode cX0_which 30 = .ok (.getfield 26, 3) := dk_180 0 26 (dk_at dksX0_which_1 7 rfl rfl)
theorem dX0_which_33 : decode cX0_which 33 = .ok (.getfield 199, 3) := dk_180 0 199 (dk_at dksX0_which_1 10 rfl rfl)
theorem dX0_which_36 : decode cX0_which 36 = .ok (.iload_n 1, 1) := dk_27 (dk_at dksX0_which_1 13 rfl rfl)
theorem dX0_which_37 : decode cX0_which 37 = .ok (.invokevirtual 42, 3) := dk_182 0 42 (dk_at dksX0_which_1 14 rfl rfl)
theorem dX0_which_40 : decode cX0_which 40 = .ok (.checkcast 202, 3) := dk_192 0 202 (dk_at dksX0_which_1 17 rfl rfl)
theorem dX0_which_43 : decode cX0_which 43 = .ok (.astore_n 2, 1) := dk_77 (dk_at dksX0_which_1 20 rfl rfl)
theorem dX0_which_44 : decode cX0_which 44 = .ok (.iconst 0, 1) := dk_3 (dk_at dksX0_which_1 21 rfl rfl)
theorem dX0_which_45 : decode cX0_which 45 = .ok (.istore_n 3, 1) := dk_62 (dk_at dksX0_which_1 22 rfl rfl)
theorem dX0_which_46 : decode cX0_which 46 = .ok (.iload_n 3, 1) := dk_29 (dk_at dksX0_which_1 23 rfl rfl)
theorem dX0_which_47 : decode cX0_which 47 = .ok (.aload_n 2, 1) := dk_44 (dk_at dksX0_which_2 0 rfl rfl)
theorem dX0_which_48 : decode cX0_which 48 = .ok (.getfield 204, 3) := dk_180 0 204 (dk_at dksX0_which_2 1 rfl rfl)
theorem dX0_which_51 : decode cX0_which 51 = .ok (.getfield 1, 3) := dk_180 0 1 (dk_at dksX0_which_2 4 rfl rfl)
theorem dX0_which_54 : decode cX0_which 54 = .ok (.if_icmp .ge 35, 3) := dk_162 0 35 (dk_at dksX0_which_2 7 rfl rfl)
theorem dX0_which_57 : decode cX0_which 57 = .ok (.aload_n 0, 1) := dk_42 (dk_at dksX0_which_2 10 rfl rfl)
theorem dX0_which_58 : decode cX0_which 58 = .ok (.getfield 26, 3) := dk_180 0 26 (dk_at dksX0_which_2 11 rfl rfl)
theorem dX0_which_61 : decode cX0_which 61 = .ok (.getfield 398, 3) := dk_180 1 142 (dk_at dksX0_which_2 14 rfl rfl)
theorem dX0_which_64 : decode cX0_which 64 = .ok (.aload_n 2, 1) := dk_44 (dk_at dksX0_which_2 17 rfl rfl)
theorem dX0_which_65 : decode cX0_which 65 = .ok (.getfield 204, 3) := dk_180 0 204 (dk_at dksX0_which_2 18 rfl rfl)
theorem dX0_which_68 : decode cX0_which 68 = .ok (.getfield 7, 3) := dk_180 0 7 (dk_at dksX0_which_2 21 rfl rfl)
theorem dX0_which_71 : decode cX0_which 71 = .ok (.iload_n 3, 1) := dk_29 (dk_at dksX0_which_3 0 rfl rfl)
theorem dX0_which_72 : decode cX0_which 72 = .ok (.iaload, 1) := dk_46 (dk_at dksX0_which_3 1 rfl rfl)
theorem dX0_which_73 : decode cX0_which 73 = .ok (.iaload, 1) := dk_46 (dk_at dksX0_which_3 2 rfl rfl)
theorem dX0_which_74 : decode cX0_which 74 = .ok (.aload_n 2, 1) := dk_44 (dk_at dksX0_which_3 3 rfl rfl)
theorem dX0_which_75 : decode cX0_which 75 = .ok (.getfield 403, 3) := dk_180 1 147 (dk_at dksX0_which_3 4 rfl rfl)
theorem dX0_which_78 : decode cX0_which 78 = .ok (.if_icmp .le 5, 3) := dk_164 0 5 (dk_at dksX0_which_3 7 rfl rfl)
theorem dX0_which_81 : decode cX0_which 81 = .ok (.iconst 1, 1) := dk_4 (dk_at dksX0_which_3 10 rfl rfl)
theorem dX0_which_82 : decode cX0_which 82 = .ok (.ireturn, 1) := dk_172 (dk_at dksX0_which_3 11 rfl rfl)
theorem dX0_which_83 : decode cX0_which 83 = .ok (.iinc 3 1, 3) := dk_132 3 1 (dk_at dksX0_which_3 12 rfl rfl)
theorem dX0_which_86 : decode cX0_which 86 = .ok (.goto (-40), 3) := dk_167 255 216 (dk_at dksX0_which_3 15 rfl rfl)
theorem dX0_which_89 : decode cX0_which 89 = .ok (.aload_n 0, 1) := dk_42 (dk_at dksX0_which_3 18 rfl rfl)
theorem dX0_which_90 : decode cX0_which 90 = .ok (.aload_n 2, 1) := dk_44 (dk_at dksX0_which_3 19 rfl rfl)
theorem dX0_which_91 : decode cX0_which 91 = .ok (.getfield 204, 3) := dk_180 0 204 (dk_at dksX0_which_3 20 rfl rfl)
theorem dX0_which_94 : decode cX0_which 94 = .ok (.aload_n 2, 1) := dk_44 (dk_at dksX0_which_3 23 rfl rfl)
theorem dX0_which_95 : decode cX0_which 95 = .ok (.getfield 404, 3) := dk_180 1 148 (dk_at dksX0_which_4 0 rfl rfl)
theorem dX0_which_98 : decode cX0_which 98 = .ok (.invokevirtual 259, 3) := dk_182 1 3 (dk_at dksX0_which_4 3 rfl rfl)
theorem dX0_which_101 : decode cX0_which 101 = .ok (.aload_n 2, 1) := dk_44 (dk_at dksX0_which_4 6 rfl rfl)
theorem dX0_which_102 : decode cX0_which 102 = .ok (.getfield 207, 3) := dk_180 0 207 (dk_at dksX0_which_4 7 rfl rfl)
theorem dX0_which_105 : decode cX0_which 105 = .ok (.invokevirtual 405, 3) := dk_182 1 149 (dk_at dksX0_which_4 10 rfl rfl)
theorem dX0_which_108 : decode cX0_which 108 = .ok (.ifCond .eq 7, 3) := dk_153 0 7 (dk_at dksX0_which_4 13 rfl rfl)
theorem dX0_which_111 : decode cX0_which 111 = .ok (.iconst 0, 1) := dk_3 (dk_at dksX0_which_4 16 rfl rfl)
theorem dX0_which_112 : decode cX0_which 112 = .ok (.goto 30, 3) := dk_167 0 30 (dk_at dksX0_which_4 17 rfl rfl)
theorem dX0_which_115 : decode cX0_which 115 = .ok (.aload_n 0, 1) := dk_42 (dk_at dksX0_which_4 20 rfl rfl)
theorem dX0_which_116 : decode cX0_which 116 = .ok (.aload_n 2, 1) := dk_44 (dk_at dksX0_which_4 21 rfl rfl)
theorem dX0_which_117 : decode cX0_which 117 = .ok (.getfield 207, 3) := dk_180 0 207 (dk_at dksX0_which_5 0 rfl rfl)
theorem dX0_which_120 : decode cX0_which 120 = .ok (.aload_n 2, 1) := dk_44 (dk_at dksX0_which_5 3 rfl rfl)
theorem dX0_which_121 : decode cX0_which 121 = .ok (.getfield 404, 3) := dk_180 1 148 (dk_at dksX0_which_5 4 rfl rfl)
theorem dX0_which_124 : decode cX0_which 124 = .ok (.invokevirtual 259, 3) := dk_182 1 3 (dk_at dksX0_which_5 7 rfl rfl)
theorem dX0_which_127 : decode cX0_which 127 = .ok (.aload_n 2, 1) := dk_44 (dk_at dksX0_which_5 10 rfl rfl)
theorem dX0_which_128 : decode cX0_which 128 = .ok (.getfield 204, 3) := dk_180 0 204 (dk_at dksX0_which_5 11 rfl rfl)
theorem dX0_which_131 : decode cX0_which 131 = .ok (.invokevirtual 405, 3) := dk_182 1 149 (dk_at dksX0_which_5 14 rfl rfl)
theorem dX0_which_134 : decode cX0_which 134 = .ok (.ifCond .eq 7, 3) := dk_153 0 7 (dk_at dksX0_which_5 17 rfl rfl)
theorem dX0_which_137 : decode cX0_which 137 = .ok (.iconst 1, 1) := dk_4 (dk_at dksX0_which_5 20 rfl rfl)
theorem dX0_which_138 : decode cX0_which 138 = .ok (.goto 4, 3) := dk_167 0 4 (dk_at dksX0_which_5 21 rfl rfl)
theorem dX0_which_141 : decode cX0_which 141 = .ok (.iconst 2, 1) := dk_5 (dk_at dksX0_which_6 0 rfl rfl)
theorem dX0_which_142 : decode cX0_which 142 = .ok (.ireturn, 1) := dk_172 (dk_at dksX0_which_6 1 rfl rfl)
abbrev cX0_answer : ByteArray := prog_1_method_58_code
def yX0_answer : MethodName := ⟨RX0, "answer", "(IIIIIJ)I"⟩
def dkwX0_answer_5 : List UInt8 := [182, 0, 36, 4, 100, 172]
abbrev dktX0_answer_5 : List UInt8 := dkwX0_answer_5 ++ []
def dkwX0_answer_4 : List UInt8 := [167, 0, 8, 22, 6, 184, 0, 169, 183, 1, 162, 182, 0, 150, 87, 42, 180, 0, 26, 180, 1, 157]
abbrev dktX0_answer_4 : List UInt8 := dkwX0_answer_4 ++ dktX0_answer_5
def dkwX0_answer_3 : List UInt8 := [180, 1, 157, 187, 1, 160, 89, 27, 28, 29, 21, 4, 21, 5, 22, 6, 9, 148, 154, 0, 7, 1]
abbrev dktX0_answer_3 : List UInt8 := dkwX0_answer_3 ++ dktX0_answer_4
def dkwX0_answer_2 : List UInt8 := [180, 1, 157, 182, 0, 36, 16, 60, 160, 0, 10, 42, 16, 252, 182, 0, 119, 172, 42, 180, 0, 26]
abbrev dktX0_answer_2 : List UInt8 := dkwX0_answer_2 ++ dktX0_answer_3
def dkwX0_answer_1 : List UInt8 := [153, 0, 18, 22, 6, 184, 0, 165, 154, 0, 10, 42, 16, 253, 182, 0, 119, 172, 42, 180, 0, 26]
abbrev dktX0_answer_1 : List UInt8 := dkwX0_answer_1 ++ dktX0_answer_2
def dkwX0_answer_0 : List UInt8 := [27, 133, 28, 133, 29, 133, 21, 4, 133, 21, 5, 133, 184, 1, 153, 153, 0, 18, 22, 6, 9, 148]
abbrev dktX0_answer_0 : List UInt8 := dkwX0_answer_0 ++ dktX0_answer_1
theorem dksX0_answer_0 : cX0_answer.data.toList.drop 0 = dktX0_answer_0 := by decide +kernel
theorem dksX0_answer_1 : cX0_answer.data.toList.drop 22 = dktX0_answer_1 := dk_seg dksX0_answer_0 22 rfl rfl
theorem dksX0_answer_2 : cX0_answer.data.toList.drop 44 = dktX0_answer_2 := dk_seg dksX0_answer_1 22 rfl rfl
theorem dksX0_answer_3 : cX0_answer.data.toList.drop 66 = dktX0_answer_3 := dk_seg dksX0_answer_2 22 rfl rfl
theorem dksX0_answer_4 : cX0_answer.data.toList.drop 88 = dktX0_answer_4 := dk_seg dksX0_answer_3 22 rfl rfl
theorem dksX0_answer_5 : cX0_answer.data.toList.drop 110 = dktX0_answer_5 := dk_seg dksX0_answer_4 22 rfl rfl
theorem dX0_answer_0 : decode cX0_answer 0 = .ok (.iload_n 1, 1) := dk_27 (dk_at dksX0_answer_0 0 rfl rfl)
theorem dX0_answer_1 : decode cX0_answer 1 = .ok (.i2l, 1) := dk_133 (dk_at dksX0_answer_0 1 rfl rfl)
theorem dX0_answer_2 : decode cX0_answer 2 = .ok (.iload_n 2, 1) := dk_28 (dk_at dksX0_answer_0 2 rfl rfl)
theorem dX0_answer_3 : decode cX0_answer 3 = .ok (.i2l, 1) := dk_133 (dk_at dksX0_answer_0 3 rfl rfl)
theorem dX0_answer_4 : decode cX0_answer 4 = .ok (.iload_n 3, 1) := dk_29 (dk_at dksX0_answer_0 4 rfl rfl)
theorem dX0_answer_5 : decode cX0_answer 5 = .ok (.i2l, 1) := dk_133 (dk_at dksX0_answer_0 5 rfl rfl)
theorem dX0_answer_6 : decode cX0_answer 6 = .ok (.iload 4, 2) := dk_21 4 (dk_at dksX0_answer_0 6 rfl rfl)
theorem dX0_answer_8 : decode cX0_answer 8 = .ok (.i2l, 1) := dk_133 (dk_at dksX0_answer_0 8 rfl rfl)
theorem dX0_answer_9 : decode cX0_answer 9 = .ok (.iload 5, 2) := dk_21 5 (dk_at dksX0_answer_0 9 rfl rfl)
theorem dX0_answer_11 : decode cX0_answer 11 = .ok (.i2l, 1) := dk_133 (dk_at dksX0_answer_0 11 rfl rfl)
theorem dX0_answer_12 : decode cX0_answer 12 = .ok (.invokestatic 409, 3) := dk_184 1 153 (dk_at dksX0_answer_0 12 rfl rfl)
theorem dX0_answer_15 : decode cX0_answer 15 = .ok (.ifCond .eq 18, 3) := dk_153 0 18 (dk_at dksX0_answer_0 15 rfl rfl)
theorem dX0_answer_18 : decode cX0_answer 18 = .ok (.lload 6, 2) := dk_22 6 (dk_at dksX0_answer_0 18 rfl rfl)
theorem dX0_answer_20 : decode cX0_answer 20 = .ok (.lconst 0, 1) := dk_9 (dk_at dksX0_answer_0 20 rfl rfl)
theorem dX0_answer_21 : decode cX0_answer 21 = .ok (.lcmp, 1) := dk_148 (dk_at dksX0_answer_0 21 rfl rfl)
theorem dX0_answer_22 : decode cX0_answer 22 = .ok (.ifCond .eq 18, 3) := dk_153 0 18 (dk_at dksX0_answer_1 0 rfl rfl)
theorem dX0_answer_25 : decode cX0_answer 25 = .ok (.lload 6, 2) := dk_22 6 (dk_at dksX0_answer_1 3 rfl rfl)
theorem dX0_answer_27 : decode cX0_answer 27 = .ok (.invokestatic 165, 3) := dk_184 0 165 (dk_at dksX0_answer_1 5 rfl rfl)
theorem dX0_answer_30 : decode cX0_answer 30 = .ok (.ifCond .ne 10, 3) := dk_154 0 10 (dk_at dksX0_answer_1 8 rfl rfl)
theorem dX0_answer_33 : decode cX0_answer 33 = .ok (.aload_n 0, 1) := dk_42 (dk_at dksX0_answer_1 11 rfl rfl)
theorem dX0_answer_34 : decode cX0_answer 34 = .ok (.bipush (-3), 2) := dk_16 253 (dk_at dksX0_answer_1 12 rfl rfl)
theorem dX0_answer_36 : decode cX0_answer 36 = .ok (.invokevirtual 119, 3) := dk_182 0 119 (dk_at dksX0_answer_1 14 rfl rfl)
theorem dX0_answer_39 : decode cX0_answer 39 = .ok (.ireturn, 1) := dk_172 (dk_at dksX0_answer_1 17 rfl rfl)
theorem dX0_answer_40 : decode cX0_answer 40 = .ok (.aload_n 0, 1) := dk_42 (dk_at dksX0_answer_1 18 rfl rfl)
theorem dX0_answer_41 : decode cX0_answer 41 = .ok (.getfield 26, 3) := dk_180 0 26 (dk_at dksX0_answer_1 19 rfl rfl)
theorem dX0_answer_44 : decode cX0_answer 44 = .ok (.getfield 413, 3) := dk_180 1 157 (dk_at dksX0_answer_2 0 rfl rfl)
theorem dX0_answer_47 : decode cX0_answer 47 = .ok (.invokevirtual 36, 3) := dk_182 0 36 (dk_at dksX0_answer_2 3 rfl rfl)
theorem dX0_answer_50 : decode cX0_answer 50 = .ok (.bipush 60, 2) := dk_16 60 (dk_at dksX0_answer_2 6 rfl rfl)
theorem dX0_answer_52 : decode cX0_answer 52 = .ok (.if_icmp .ne 10, 3) := dk_160 0 10 (dk_at dksX0_answer_2 8 rfl rfl)
theorem dX0_answer_55 : decode cX0_answer 55 = .ok (.aload_n 0, 1) := dk_42 (dk_at dksX0_answer_2 11 rfl rfl)
theorem dX0_answer_56 : decode cX0_answer 56 = .ok (.bipush (-4), 2) := dk_16 252 (dk_at dksX0_answer_2 12 rfl rfl)
theorem dX0_answer_58 : decode cX0_answer 58 = .ok (.invokevirtual 119, 3) := dk_182 0 119 (dk_at dksX0_answer_2 14 rfl rfl)
theorem dX0_answer_61 : decode cX0_answer 61 = .ok (.ireturn, 1) := dk_172 (dk_at dksX0_answer_2 17 rfl rfl)
theorem dX0_answer_62 : decode cX0_answer 62 = .ok (.aload_n 0, 1) := dk_42 (dk_at dksX0_answer_2 18 rfl rfl)
theorem dX0_answer_63 : decode cX0_answer 63 = .ok (.getfield 26, 3) := dk_180 0 26 (dk_at dksX0_answer_2 19 rfl rfl)
theorem dX0_answer_66 : decode cX0_answer 66 = .ok (.getfield 413, 3) := dk_180 1 157 (dk_at dksX0_answer_3 0 rfl rfl)
theorem dX0_answer_69 : decode cX0_answer 69 = .ok (.new 416, 3) := dk_187 1 160 (dk_at dksX0_answer_3 3 rfl rfl)
theorem dX0_answer_72 : decode cX0_answer 72 = .ok (.dup, 1) := dk_89 (dk_at dksX0_answer_3 6 rfl rfl)
theorem dX0_answer_73 : decode cX0_answer 73 = .ok (.iload_n 1, 1) := dk_27 (dk_at dksX0_answer_3 7 rfl rfl)
theorem dX0_answer_74 : decode cX0_answer 74 = .ok (.iload_n 2, 1) := dk_28 (dk_at dksX0_answer_3 8 rfl rfl)
theorem dX0_answer_75 : decode cX0_answer 75 = .ok (.iload_n 3, 1) := dk_29 (dk_at dksX0_answer_3 9 rfl rfl)
theorem dX0_answer_76 : decode cX0_answer 76 = .ok (.iload 4, 2) := dk_21 4 (dk_at dksX0_answer_3 10 rfl rfl)
theorem dX0_answer_78 : decode cX0_answer 78 = .ok (.iload 5, 2) := dk_21 5 (dk_at dksX0_answer_3 12 rfl rfl)
theorem dX0_answer_80 : decode cX0_answer 80 = .ok (.lload 6, 2) := dk_22 6 (dk_at dksX0_answer_3 14 rfl rfl)
theorem dX0_answer_82 : decode cX0_answer 82 = .ok (.lconst 0, 1) := dk_9 (dk_at dksX0_answer_3 16 rfl rfl)
theorem dX0_answer_83 : decode cX0_answer 83 = .ok (.lcmp, 1) := dk_148 (dk_at dksX0_answer_3 17 rfl rfl)
theorem dX0_answer_84 : decode cX0_answer 84 = .ok (.ifCond .ne 7, 3) := dk_154 0 7 (dk_at dksX0_answer_3 18 rfl rfl)
theorem dX0_answer_87 : decode cX0_answer 87 = .ok (.aconst_null, 1) := dk_1 (dk_at dksX0_answer_3 21 rfl rfl)
theorem dX0_answer_88 : decode cX0_answer 88 = .ok (.goto 8, 3) := dk_167 0 8 (dk_at dksX0_answer_4 0 rfl rfl)
theorem dX0_answer_91 : decode cX0_answer 91 = .ok (.lload 6, 2) := dk_22 6 (dk_at dksX0_answer_4 3 rfl rfl)
theorem dX0_answer_93 : decode cX0_answer 93 = .ok (.invokestatic 169, 3) := dk_184 0 169 (dk_at dksX0_answer_4 5 rfl rfl)
theorem dX0_answer_96 : decode cX0_answer 96 = .ok (.invokespecial 418, 3) := dk_183 1 162 (dk_at dksX0_answer_4 8 rfl rfl)
theorem dX0_answer_99 : decode cX0_answer 99 = .ok (.invokevirtual 150, 3) := dk_182 0 150 (dk_at dksX0_answer_4 11 rfl rfl)
theorem dX0_answer_102 : decode cX0_answer 102 = .ok (.pop, 1) := dk_87 (dk_at dksX0_answer_4 14 rfl rfl)
theorem dX0_answer_103 : decode cX0_answer 103 = .ok (.aload_n 0, 1) := dk_42 (dk_at dksX0_answer_4 15 rfl rfl)
theorem dX0_answer_104 : decode cX0_answer 104 = .ok (.getfield 26, 3) := dk_180 0 26 (dk_at dksX0_answer_4 16 rfl rfl)
theorem dX0_answer_107 : decode cX0_answer 107 = .ok (.getfield 413, 3) := dk_180 1 157 (dk_at dksX0_answer_4 19 rfl rfl)
theorem dX0_answer_110 : decode cX0_answer 110 = .ok (.invokevirtual 36, 3) := dk_182 0 36 (dk_at dksX0_answer_5 0 rfl rfl)
theorem dX0_answer_113 : decode cX0_answer 113 = .ok (.iconst 1, 1) := dk_4 (dk_at dksX0_answer_5 3 rfl rfl)
theorem dX0_answer_114 : decode cX0_answer 114 = .ok (.isub, 1) := dk_100 (dk_at dksX0_answer_5 4 rfl rfl)
theorem dX0_answer_115 : decode cX0_answer 115 = .ok (.ireturn, 1) := dk_172 (dk_at dksX0_answer_5 5 rfl rfl)
abbrev cX0_isAnswer : ByteArray := prog_1_method_57_code
def yX0_isAnswer : MethodName := ⟨RX0, "isAnswer", "(JJJJJ)Z"⟩
def dkwX0_isAnswer_2 : List UInt8 := [9, 20, 0, 157, 184, 0, 111, 153, 0, 7, 4, 167, 0, 4, 3, 172]
abbrev dktX0_isAnswer_2 : List UInt8 := dkwX0_isAnswer_2 ++ []
def dkwX0_isAnswer_1 : List UInt8 := [9, 20, 0, 109, 184, 0, 111, 153, 0, 31, 22, 6, 9, 20, 0, 157, 184, 0, 111, 153, 0, 19, 22, 8]
abbrev dktX0_isAnswer_1 : List UInt8 := dkwX0_isAnswer_1 ++ dktX0_isAnswer_2
def dkwX0_isAnswer_0 : List UInt8 := [30, 9, 20, 0, 117, 184, 0, 111, 153, 0, 54, 32, 9, 20, 0, 115, 184, 0, 111, 153, 0, 43, 22, 4]
abbrev dktX0_isAnswer_0 : List UInt8 := dkwX0_isAnswer_0 ++ dktX0_isAnswer_1
theorem dksX0_isAnswer_0 : cX0_isAnswer.data.toList.drop 0 = dktX0_isAnswer_0 := by decide +kernel
theorem dksX0_isAnswer_1 : cX0_isAnswer.data.toList.drop 24 = dktX0_isAnswer_1 := dk_seg dksX0_isAnswer_0 24 rfl rfl
theorem dksX0_isAnswer_2 : cX0_isAnswer.data.toList.drop 48 = dktX0_isAnswer_2 := dk_seg dksX0_isAnswer_1 24 rfl rfl
theorem dX0_isAnswer_0 : decode cX0_isAnswer 0 = .ok (.lload_n 0, 1) := dk_30 (dk_at dksX0_isAnswer_0 0 rfl rfl)
theorem dX0_isAnswer_1 : decode cX0_isAnswer 1 = .ok (.lconst 0, 1) := dk_9 (dk_at dksX0_isAnswer_0 1 rfl rfl)
theorem dX0_isAnswer_2 : decode cX0_isAnswer 2 = .ok (.ldc2_w 117, 3) := dk_20 0 117 (dk_at dksX0_isAnswer_0 2 rfl rfl)
theorem dX0_isAnswer_5 : decode cX0_isAnswer 5 = .ok (.invokestatic 111, 3) := dk_184 0 111 (dk_at dksX0_isAnswer_0 5 rfl rfl)
theorem dX0_isAnswer_8 : decode cX0_isAnswer 8 = .ok (.ifCond .eq 54, 3) := dk_153 0 54 (dk_at dksX0_isAnswer_0 8 rfl rfl)
theorem dX0_isAnswer_11 : decode cX0_isAnswer 11 = .ok (.lload_n 2, 1) := dk_32 (dk_at dksX0_isAnswer_0 11 rfl rfl)
theorem dX0_isAnswer_12 : decode cX0_isAnswer 12 = .ok (.lconst 0, 1) := dk_9 (dk_at dksX0_isAnswer_0 12 rfl rfl)
theorem dX0_isAnswer_13 : decode cX0_isAnswer 13 = .ok (.ldc2_w 115, 3) := dk_20 0 115 (dk_at dksX0_isAnswer_0 13 rfl rfl)
theorem dX0_isAnswer_16 : decode cX0_isAnswer 16 = .ok (.invokestatic 111, 3) := dk_184 0 111 (dk_at dksX0_isAnswer_0 16 rfl rfl)
theorem dX0_isAnswer_19 : decode cX0_isAnswer 19 = .ok (.ifCond .eq 43, 3) := dk_153 0 43 (dk_at dksX0_isAnswer_0 19 rfl rfl)
theorem dX0_isAnswer_22 : decode cX0_isAnswer 22 = .ok (.lload 4, 2) := dk_22 4 (dk_at dksX0_isAnswer_0 22 rfl rfl)
theorem dX0_isAnswer_24 : decode cX0_isAnswer 24 = .ok (.lconst 0, 1) := dk_9 (dk_at dksX0_isAnswer_1 0 rfl rfl)
theorem dX0_isAnswer_25 : decode cX0_isAnswer 25 = .ok (.ldc2_w 109, 3) := dk_20 0 109 (dk_at dksX0_isAnswer_1 1 rfl rfl)
theorem dX0_isAnswer_28 : decode cX0_isAnswer 28 = .ok (.invokestatic 111, 3) := dk_184 0 111 (dk_at dksX0_isAnswer_1 4 rfl rfl)
theorem dX0_isAnswer_31 : decode cX0_isAnswer 31 = .ok (.ifCond .eq 31, 3) := dk_153 0 31 (dk_at dksX0_isAnswer_1 7 rfl rfl)
theorem dX0_isAnswer_34 : decode cX0_isAnswer 34 = .ok (.lload 6, 2) := dk_22 6 (dk_at dksX0_isAnswer_1 10 rfl rfl)
theorem dX0_isAnswer_36 : decode cX0_isAnswer 36 = .ok (.lconst 0, 1) := dk_9 (dk_at dksX0_isAnswer_1 12 rfl rfl)
theorem dX0_isAnswer_37 : decode cX0_isAnswer 37 = .ok (.ldc2_w 157, 3) := dk_20 0 157 (dk_at dksX0_isAnswer_1 13 rfl rfl)
theorem dX0_isAnswer_40 : decode cX0_isAnswer 40 = .ok (.invokestatic 111, 3) := dk_184 0 111 (dk_at dksX0_isAnswer_1 16 rfl rfl)
theorem dX0_isAnswer_43 : decode cX0_isAnswer 43 = .ok (.ifCond .eq 19, 3) := dk_153 0 19 (dk_at dksX0_isAnswer_1 19 rfl rfl)
theorem dX0_isAnswer_46 : decode cX0_isAnswer 46 = .ok (.lload 8, 2) := dk_22 8 (dk_at dksX0_isAnswer_1 22 rfl rfl)
theorem dX0_isAnswer_48 : decode cX0_isAnswer 48 = .ok (.lconst 0, 1) := dk_9 (dk_at dksX0_isAnswer_2 0 rfl rfl)
theorem dX0_isAnswer_49 : decode cX0_isAnswer 49 = .ok (.ldc2_w 157, 3) := dk_20 0 157 (dk_at dksX0_isAnswer_2 1 rfl rfl)
theorem dX0_isAnswer_52 : decode cX0_isAnswer 52 = .ok (.invokestatic 111, 3) := dk_184 0 111 (dk_at dksX0_isAnswer_2 4 rfl rfl)
theorem dX0_isAnswer_55 : decode cX0_isAnswer 55 = .ok (.ifCond .eq 7, 3) := dk_153 0 7 (dk_at dksX0_isAnswer_2 7 rfl rfl)
theorem dX0_isAnswer_58 : decode cX0_isAnswer 58 = .ok (.iconst 1, 1) := dk_4 (dk_at dksX0_isAnswer_2 10 rfl rfl)
theorem dX0_isAnswer_59 : decode cX0_isAnswer 59 = .ok (.goto 4, 3) := dk_167 0 4 (dk_at dksX0_isAnswer_2 11 rfl rfl)
theorem dX0_isAnswer_62 : decode cX0_isAnswer 62 = .ok (.iconst 0, 1) := dk_3 (dk_at dksX0_isAnswer_2 14 rfl rfl)
theorem dX0_isAnswer_63 : decode cX0_isAnswer 63 = .ok (.ireturn, 1) := dk_172 (dk_at dksX0_isAnswer_2 15 rfl rfl)
abbrev cX0_back : ByteArray := prog_1_method_61_code
def yX0_back : MethodName := ⟨RX0, "back", "(I)I"⟩
def dkwX0_back_1 : List UInt8 := [182, 0, 42, 192, 1, 160, 182, 1, 170, 153, 0, 7, 4, 167, 0, 4, 3, 172]
abbrev dktX0_back_1 : List UInt8 := dkwX0_back_1 ++ []
def dkwX0_back_0 : List UInt8 := [42, 27, 182, 1, 167, 154, 0, 10, 42, 16, 254, 182, 0, 119, 172, 42, 42, 180, 0, 26, 180, 1, 157, 27]
abbrev dktX0_back_0 : List UInt8 := dkwX0_back_0 ++ dktX0_back_1
theorem dksX0_back_0 : cX0_back.data.toList.drop 0 = dktX0_back_0 := by decide +kernel
theorem dksX0_back_1 : cX0_back.data.toList.drop 24 = dktX0_back_1 := dk_seg dksX0_back_0 24 rfl rfl
theorem dX0_back_0 : decode cX0_back 0 = .ok (.aload_n 0, 1) := dk_42 (dk_at dksX0_back_0 0 rfl rfl)
theorem dX0_back_1 : decode cX0_back 1 = .ok (.iload_n 1, 1) := dk_27 (dk_at dksX0_back_0 1 rfl rfl)
theorem dX0_back_2 : decode cX0_back 2 = .ok (.invokevirtual 423, 3) := dk_182 1 167 (dk_at dksX0_back_0 2 rfl rfl)
theorem dX0_back_5 : decode cX0_back 5 = .ok (.ifCond .ne 10, 3) := dk_154 0 10 (dk_at dksX0_back_0 5 rfl rfl)
theorem dX0_back_8 : decode cX0_back 8 = .ok (.aload_n 0, 1) := dk_42 (dk_at dksX0_back_0 8 rfl rfl)
theorem dX0_back_9 : decode cX0_back 9 = .ok (.bipush (-2), 2) := dk_16 254 (dk_at dksX0_back_0 9 rfl rfl)
theorem dX0_back_11 : decode cX0_back 11 = .ok (.invokevirtual 119, 3) := dk_182 0 119 (dk_at dksX0_back_0 11 rfl rfl)
theorem dX0_back_14 : decode cX0_back 14 = .ok (.ireturn, 1) := dk_172 (dk_at dksX0_back_0 14 rfl rfl)
theorem dX0_back_15 : decode cX0_back 15 = .ok (.aload_n 0, 1) := dk_42 (dk_at dksX0_back_0 15 rfl rfl)
theorem dX0_back_16 : decode cX0_back 16 = .ok (.aload_n 0, 1) := dk_42 (dk_at dksX0_back_0 16 rfl rfl)
theorem dX0_back_17 : decode cX0_back 17 = .ok (.getfield 26, 3) := dk_180 0 26 (dk_at dksX0_back_0 17 rfl rfl)
theorem dX0_back_20 : decode cX0_back 20 = .ok (.getfield 413, 3) := dk_180 1 157 (dk_at dksX0_back_0 20 rfl rfl)
theorem dX0_back_23 : decode cX0_back 23 = .ok (.iload_n 1, 1) := dk_27 (dk_at dksX0_back_0 23 rfl rfl)
theorem dX0_back_24 : decode cX0_back 24 = .ok (.invokevirtual 42, 3) := dk_182 0 42 (dk_at dksX0_back_1 0 rfl rfl)
theorem dX0_back_27 : decode cX0_back 27 = .ok (.checkcast 416, 3) := dk_192 1 160 (dk_at dksX0_back_1 3 rfl rfl)
theorem dX0_back_30 : decode cX0_back 30 = .ok (.invokevirtual 426, 3) := dk_182 1 170 (dk_at dksX0_back_1 6 rfl rfl)
theorem dX0_back_33 : decode cX0_back 33 = .ok (.ifCond .eq 7, 3) := dk_153 0 7 (dk_at dksX0_back_1 9 rfl rfl)
theorem dX0_back_36 : decode cX0_back 36 = .ok (.iconst 1, 1) := dk_4 (dk_at dksX0_back_1 12 rfl rfl)
theorem dX0_back_37 : decode cX0_back 37 = .ok (.goto 4, 3) := dk_167 0 4 (dk_at dksX0_back_1 13 rfl rfl)
theorem dX0_back_40 : decode cX0_back 40 = .ok (.iconst 0, 1) := dk_3 (dk_at dksX0_back_1 16 rfl rfl)
theorem dX0_back_41 : decode cX0_back 41 = .ok (.ireturn, 1) := dk_172 (dk_at dksX0_back_1 17 rfl rfl)
abbrev cX0_isAnswerAt : ByteArray := prog_1_method_60_code
def yX0_isAnswerAt : MethodName := ⟨RX0, "isAnswerAt", "(I)Z"⟩
def dkwX0_isAnswerAt_0 : List UInt8 := [27, 133, 9, 42, 180, 0, 26, 180, 1, 157, 182, 0, 36, 4, 100, 133, 184, 0, 111, 172]
abbrev dktX0_isAnswerAt_0 : List UInt8 := dkwX0_isAnswerAt_0 ++ []
theorem dksX0_isAnswerAt_0 : cX0_isAnswerAt.data.toList.drop 0 = dktX0_isAnswerAt_0 := by decide +kernel
theorem dX0_isAnswerAt_0 : decode cX0_isAnswerAt 0 = .ok (.iload_n 1, 1) := dk_27 (dk_at dksX0_isAnswerAt_0 0 rfl rfl)
theorem dX0_isAnswerAt_1 : decode cX0_isAnswerAt 1 = .ok (.i2l, 1) := dk_133 (dk_at dksX0_isAnswerAt_0 1 rfl rfl)
theorem dX0_isAnswerAt_2 : decode cX0_isAnswerAt 2 = .ok (.lconst 0, 1) := dk_9 (dk_at dksX0_isAnswerAt_0 2 rfl rfl)
theorem dX0_isAnswerAt_3 : decode cX0_isAnswerAt 3 = .ok (.aload_n 0, 1) := dk_42 (dk_at dksX0_isAnswerAt_0 3 rfl rfl)
theorem dX0_isAnswerAt_4 : decode cX0_isAnswerAt 4 = .ok (.getfield 26, 3) := dk_180 0 26 (dk_at dksX0_isAnswerAt_0 4 rfl rfl)
theorem dX0_isAnswerAt_7 : decode cX0_isAnswerAt 7 = .ok (.getfield 413, 3) := dk_180 1 157 (dk_at dksX0_isAnswerAt_0 7 rfl rfl)
theorem dX0_isAnswerAt_10 : decode cX0_isAnswerAt 10 = .ok (.invokevirtual 36, 3) := dk_182 0 36 (dk_at dksX0_isAnswerAt_0 10 rfl rfl)
theorem dX0_isAnswerAt_13 : decode cX0_isAnswerAt 13 = .ok (.iconst 1, 1) := dk_4 (dk_at dksX0_isAnswerAt_0 13 rfl rfl)
theorem dX0_isAnswerAt_14 : decode cX0_isAnswerAt 14 = .ok (.isub, 1) := dk_100 (dk_at dksX0_isAnswerAt_0 14 rfl rfl)
theorem dX0_isAnswerAt_15 : decode cX0_isAnswerAt 15 = .ok (.i2l, 1) := dk_133 (dk_at dksX0_isAnswerAt_0 15 rfl rfl)
theorem dX0_isAnswerAt_16 : decode cX0_isAnswerAt 16 = .ok (.invokestatic 111, 3) := dk_184 0 111 (dk_at dksX0_isAnswerAt_0 16 rfl rfl)
theorem dX0_isAnswerAt_19 : decode cX0_isAnswerAt 19 = .ok (.ireturn, 1) := dk_172 (dk_at dksX0_isAnswerAt_0 19 rfl rfl)
abbrev cX0_isBack : ByteArray := prog_1_method_59_code
def yX0_isBack : MethodName := ⟨RX0, "isBack", "(LNobodysBard$Answer;)Z"⟩
def dkwX0_isBack_2 : List UInt8 := [42, 180, 0, 26, 180, 0, 186, 162, 0, 7, 4, 167, 0, 4, 3, 172]
abbrev dktX0_isBack_2 : List UInt8 := dkwX0_isBack_2 ++ []
def dkwX0_isBack_1 : List UInt8 := [180, 1, 165, 182, 1, 105, 42, 180, 0, 26, 180, 0, 186, 161, 0, 25, 42, 43, 180, 1, 165, 182, 1, 102]
abbrev dktX0_isBack_1 : List UInt8 := dkwX0_isBack_1 ++ dktX0_isBack_2
def dkwX0_isBack_0 : List UInt8 := [43, 180, 1, 165, 198, 0, 57, 43, 180, 1, 166, 42, 180, 0, 26, 180, 0, 181, 164, 0, 43, 42, 43]
abbrev dktX0_isBack_0 : List UInt8 := dkwX0_isBack_0 ++ dktX0_isBack_1
theorem dksX0_isBack_0 : cX0_isBack.data.toList.drop 0 = dktX0_isBack_0 := by decide +kernel
theorem dksX0_isBack_1 : cX0_isBack.data.toList.drop 23 = dktX0_isBack_1 := dk_seg dksX0_isBack_0 23 rfl rfl
theorem dksX0_isBack_2 : cX0_isBack.data.toList.drop 47 = dktX0_isBack_2 := dk_seg dksX0_isBack_1 24 rfl rfl
theorem dX0_isBack_0 : decode cX0_isBack 0 = .ok (.aload_n 1, 1) := dk_43 (dk_at dksX0_isBack_0 0 rfl rfl)
theorem dX0_isBack_1 : decode cX0_isBack 1 = .ok (.getfield 421, 3) := dk_180 1 165 (dk_at dksX0_isBack_0 1 rfl rfl)
theorem dX0_isBack_4 : decode cX0_isBack 4 = .ok (.ifnull 57, 3) := dk_198 0 57 (dk_at dksX0_isBack_0 4 rfl rfl)
theorem dX0_isBack_7 : decode cX0_isBack 7 = .ok (.aload_n 1, 1) := dk_43 (dk_at dksX0_isBack_0 7 rfl rfl)
theorem dX0_isBack_8 : decode cX0_isBack 8 = .ok (.getfield 422, 3) := dk_180 1 166 (dk_at dksX0_isBack_0 8 rfl rfl)
theorem dX0_isBack_11 : decode cX0_isBack 11 = .ok (.aload_n 0, 1) := dk_42 (dk_at dksX0_isBack_0 11 rfl rfl)
theorem dX0_isBack_12 : decode cX0_isBack 12 = .ok (.getfield 26, 3) := dk_180 0 26 (dk_at dksX0_isBack_0 12 rfl rfl)
theorem dX0_isBack_15 : decode cX0_isBack 15 = .ok (.getfield 181, 3) := dk_180 0 181 (dk_at dksX0_isBack_0 15 rfl rfl)
theorem dX0_isBack_18 : decode cX0_isBack 18 = .ok (.if_icmp .le 43, 3) := dk_164 0 43 (dk_at dksX0_isBack_0 18 rfl rfl)
theorem dX0_isBack_21 : decode cX0_isBack 21 = .ok (.aload_n 0, 1) := dk_42 (dk_at dksX0_isBack_0 21 rfl rfl)
theorem dX0_isBack_22 : decode cX0_isBack 22 = .ok (.aload_n 1, 1) := dk_43 (dk_at dksX0_isBack_0 22 rfl rfl)
theorem dX0_isBack_23 : decode cX0_isBack 23 = .ok (.getfield 421, 3) := dk_180 1 165 (dk_at dksX0_isBack_1 0 rfl rfl)
theorem dX0_isBack_26 : decode cX0_isBack 26 = .ok (.invokevirtual 361, 3) := dk_182 1 105 (dk_at dksX0_isBack_1 3 rfl rfl)
theorem dX0_isBack_29 : decode cX0_isBack 29 = .ok (.aload_n 0, 1) := dk_42 (dk_at dksX0_isBack_1 6 rfl rfl)
theorem dX0_isBack_30 : decode cX0_isBack 30 = .ok (.getfield 26, 3) := dk_180 0 26 (dk_at dksX0_isBack_1 7 rfl rfl)
theorem dX0_isBack_33 : decode cX0_isBack 33 = .ok (.getfield 186, 3) := dk_180 0 186 (dk_at dksX0_isBack_1 10 rfl rfl)
theorem dX0_isBack_36 : decode cX0_isBack 36 = .ok (.if_icmp .lt 25, 3) := dk_161 0 25 (dk_at dksX0_isBack_1 13 rfl rfl)
theorem dX0_isBack_39 : decode cX0_isBack 39 = .ok (.aload_n 0, 1) := dk_42 (dk_at dksX0_isBack_1 16 rfl rfl)
theorem dX0_isBack_40 : decode cX0_isBack 40 = .ok (.aload_n 1, 1) := dk_43 (dk_at dksX0_isBack_1 17 rfl rfl)
theorem dX0_isBack_41 : decode cX0_isBack 41 = .ok (.getfield 421, 3) := dk_180 1 165 (dk_at dksX0_isBack_1 18 rfl rfl)
theorem dX0_isBack_44 : decode cX0_isBack 44 = .ok (.invokevirtual 358, 3) := dk_182 1 102 (dk_at dksX0_isBack_1 21 rfl rfl)
theorem dX0_isBack_47 : decode cX0_isBack 47 = .ok (.aload_n 0, 1) := dk_42 (dk_at dksX0_isBack_2 0 rfl rfl)
theorem dX0_isBack_48 : decode cX0_isBack 48 = .ok (.getfield 26, 3) := dk_180 0 26 (dk_at dksX0_isBack_2 1 rfl rfl)
theorem dX0_isBack_51 : decode cX0_isBack 51 = .ok (.getfield 186, 3) := dk_180 0 186 (dk_at dksX0_isBack_2 4 rfl rfl)
theorem dX0_isBack_54 : decode cX0_isBack 54 = .ok (.if_icmp .ge 7, 3) := dk_162 0 7 (dk_at dksX0_isBack_2 7 rfl rfl)
theorem dX0_isBack_57 : decode cX0_isBack 57 = .ok (.iconst 1, 1) := dk_4 (dk_at dksX0_isBack_2 10 rfl rfl)
theorem dX0_isBack_58 : decode cX0_isBack 58 = .ok (.goto 4, 3) := dk_167 0 4 (dk_at dksX0_isBack_2 11 rfl rfl)
theorem dX0_isBack_61 : decode cX0_isBack 61 = .ok (.iconst 0, 1) := dk_3 (dk_at dksX0_isBack_2 14 rfl rfl)
theorem dX0_isBack_62 : decode cX0_isBack 62 = .ok (.ireturn, 1) := dk_172 (dk_at dksX0_isBack_2 15 rfl rfl)
abbrev cX0_backOdds : ByteArray := prog_1_method_62_code
def yX0_backOdds : MethodName := ⟨RX0, "backOdds", "(II)I"⟩
def dkwX0_backOdds_4 : List UInt8 := [184, 1, 129, 136, 172]
abbrev dktX0_backOdds_4 : List UInt8 := dkwX0_backOdds_4 ++ []
def dkwX0_backOdds_3 : List UInt8 := [45, 180, 1, 174, 4, 96, 133, 105, 20, 1, 177, 42, 45, 180, 1, 165, 182, 1, 102, 133, 105, 28]
abbrev dktX0_backOdds_3 : List UInt8 := dkwX0_backOdds_3 ++ dktX0_backOdds_4
def dkwX0_backOdds_2 : List UInt8 := [180, 1, 166, 42, 180, 0, 26, 180, 0, 181, 163, 0, 5, 28, 172, 42, 45, 180, 1, 165, 182, 1, 105, 133]
abbrev dktX0_backOdds_2 : List UInt8 := dkwX0_backOdds_2 ++ dktX0_backOdds_3
def dkwX0_backOdds_1 : List UInt8 := [180, 0, 26, 180, 1, 157, 27, 182, 0, 42, 192, 1, 160, 78, 45, 180, 1, 165, 198, 0, 17, 45]
abbrev dktX0_backOdds_1 : List UInt8 := dkwX0_backOdds_1 ++ dktX0_backOdds_2
def dkwX0_backOdds_0 : List UInt8 := [42, 27, 182, 1, 167, 153, 0, 10, 28, 184, 1, 120, 154, 0, 10, 42, 16, 254, 182, 0, 119, 172, 42]
abbrev dktX0_backOdds_0 : List UInt8 := dkwX0_backOdds_0 ++ dktX0_backOdds_1
theorem dksX0_backOdds_0 : cX0_backOdds.data.toList.drop 0 = dktX0_backOdds_0 := by decide +kernel
theorem dksX0_backOdds_1 : cX0_backOdds.data.toList.drop 23 = dktX0_backOdds_1 := dk_seg dksX0_backOdds_0 23 rfl rfl
theorem dksX0_backOdds_2 : cX0_backOdds.data.toList.drop 45 = dktX0_backOdds_2 := dk_seg dksX0_backOdds_1 22 rfl rfl
theorem dksX0_backOdds_3 : cX0_backOdds.data.toList.drop 69 = dktX0_backOdds_3 := dk_seg dksX0_backOdds_2 24 rfl rfl
theorem dksX0_backOdds_4 : cX0_backOdds.data.toList.drop 91 = dktX0_backOdds_4 := dk_seg dksX0_backOdds_3 22 rfl rfl
theorem dX0_backOdds_0 : decode cX0_backOdds 0 = .ok (.aload_n 0, 1) := dk_42 (dk_at dksX0_backOdds_0 0 rfl rfl)
theorem dX0_backOdds_1 : decode cX0_backOdds 1 = .ok (.iload_n 1, 1) := dk_27 (dk_at dksX0_backOdds_0 1 rfl rfl)
theorem dX0_backOdds_2 : decode cX0_backOdds 2 = .ok (.invokevirtual 423, 3) := dk_182 1 167 (dk_at dksX0_backOdds_0 2 rfl rfl)
theorem dX0_backOdds_5 : decode cX0_backOdds 5 = .ok (.ifCond .eq 10, 3) := dk_153 0 10 (dk_at dksX0_backOdds_0 5 rfl rfl)
theorem dX0_backOdds_8 : decode cX0_backOdds 8 = .ok (.iload_n 2, 1) := dk_28 (dk_at dksX0_backOdds_0 8 rfl rfl)
theorem dX0_backOdds_9 : decode cX0_backOdds 9 = .ok (.invokestatic 376, 3) := dk_184 1 120 (dk_at dksX0_backOdds_0 9 rfl rfl)
theorem dX0_backOdds_12 : decode cX0_backOdds 12 = .ok (.ifCond .ne 10, 3) := dk_154 0 10 (dk_at dksX0_backOdds_0 12 rfl rfl)
theorem dX0_backOdds_15 : decode cX0_backOdds 15 = .ok (.aload_n 0, 1) := dk_42 (dk_at dksX0_backOdds_0 15 rfl rfl)
theorem dX0_backOdds_16 : decode cX0_backOdds 16 = .ok (.bipush (-2), 2) := dk_16 254 (dk_at dksX0_backOdds_0 16 rfl rfl)
theorem dX0_backOdds_18 : decode cX0_backOdds 18 = .ok (.invokevirtual 119, 3) := dk_182 0 119 (dk_at dksX0_backOdds_0 18 rfl rfl)
theorem dX0_backOdds_21 : decode cX0_backOdds 21 = .ok (.ireturn, 1) := dk_172 (dk_at dksX0_backOdds_0 21 rfl rfl)
theorem dX0_backOdds_22 : decode cX0_backOdds 22 = .ok (.aload_n 0, 1) := dk_42 (dk_at dksX0_backOdds_0 22 rfl rfl)
theorem dX0_backOdds_23 : decode cX0_backOdds 23 = .ok (.getfield 26, 3) := dk_180 0 26 (dk_at dksX0_backOdds_1 0 rfl rfl)
theorem dX0_backOdds_26 : decode cX0_backOdds 26 = .ok (.getfield 413, 3) := dk_180 1 157 (dk_at dksX0_backOdds_1 3 rfl rfl)
theorem dX0_backOdds_29 : decode cX0_backOdds 29 = .ok (.iload_n 1, 1) := dk_27 (dk_at dksX0_backOdds_1 6 rfl rfl)
theorem dX0_backOdds_30 : decode cX0_backOdds 30 = .ok (.invokevirtual 42, 3) := dk_182 0 42 (dk_at dksX0_backOdds_1 7 rfl rfl)
theorem dX0_backOdds_33 : decode cX0_backOdds 33 = .ok (.checkcast 416, 3) := dk_192 1 160 (dk_at dksX0_backOdds_1 10 rfl rfl)
theorem dX0_backOdds_36 : decode cX0_backOdds 36 = .ok (.astore_n 3, 1) := dk_78 (dk_at dksX0_backOdds_1 13 rfl rfl)
theorem dX0_backOdds_37 : decode cX0_backOdds 37 = .ok (.aload_n 3, 1) := dk_45 (dk_at dksX0_backOdds_1 14 rfl rfl)
theorem dX0_backOdds_38 : decode cX0_backOdds 38 = .ok (.getfield 421, 3) := dk_180 1 165 (dk_at dksX0_backOdds_1 15 rfl rfl)
theorem dX0_backOdds_41 : decode cX0_backOdds 41 = .ok (.ifnull 17, 3) := dk_198 0 17 (dk_at dksX0_backOdds_1 18 rfl rfl)
theorem dX0_backOdds_44 : decode cX0_backOdds 44 = .ok (.aload_n 3, 1) := dk_45 (dk_at dksX0_backOdds_1 21 rfl rfl)
theorem dX0_backOdds_45 : decode cX0_backOdds 45 = .ok (.getfield 422, 3) := dk_180 1 166 (dk_at dksX0_backOdds_2 0 rfl rfl)
theorem dX0_backOdds_48 : decode cX0_backOdds 48 = .ok (.aload_n 0, 1) := dk_42 (dk_at dksX0_backOdds_2 3 rfl rfl)
theorem dX0_backOdds_49 : decode cX0_backOdds 49 = .ok (.getfield 26, 3) := dk_180 0 26 (dk_at dksX0_backOdds_2 4 rfl rfl)
theorem dX0_backOdds_52 : decode cX0_backOdds 52 = .ok (.getfield 181, 3) := dk_180 0 181 (dk_at dksX0_backOdds_2 7 rfl rfl)
theorem dX0_backOdds_55 : decode cX0_backOdds 55 = .ok (.if_icmp .gt 5, 3) := dk_163 0 5 (dk_at dksX0_backOdds_2 10 rfl rfl)
theorem dX0_backOdds_58 : decode cX0_backOdds 58 = .ok (.iload_n 2, 1) := dk_28 (dk_at dksX0_backOdds_2 13 rfl rfl)
theorem dX0_backOdds_59 : decode cX0_backOdds 59 = .ok (.ireturn, 1) := dk_172 (dk_at dksX0_backOdds_2 14 rfl rfl)
theorem dX0_backOdds_60 : decode cX0_backOdds 60 = .ok (.aload_n 0, 1) := dk_42 (dk_at dksX0_backOdds_2 15 rfl rfl)
theorem dX0_backOdds_61 : decode cX0_backOdds 61 = .ok (.aload_n 3, 1) := dk_45 (dk_at dksX0_backOdds_2 16 rfl rfl)
theorem dX0_backOdds_62 : decode cX0_backOdds 62 = .ok (.getfield 421, 3) := dk_180 1 165 (dk_at dksX0_backOdds_2 17 rfl rfl)
theorem dX0_backOdds_65 : decode cX0_backOdds 65 = .ok (.invokevirtual 361, 3) := dk_182 1 105 (dk_at dksX0_backOdds_2 20 rfl rfl)
theorem dX0_backOdds_68 : decode cX0_backOdds 68 = .ok (.i2l, 1) := dk_133 (dk_at dksX0_backOdds_2 23 rfl rfl)
theorem dX0_backOdds_69 : decode cX0_backOdds 69 = .ok (.aload_n 3, 1) := dk_45 (dk_at dksX0_backOdds_3 0 rfl rfl)
theorem dX0_backOdds_70 : decode cX0_backOdds 70 = .ok (.getfield 430, 3) := dk_180 1 174 (dk_at dksX0_backOdds_3 1 rfl rfl)
theorem dX0_backOdds_73 : decode cX0_backOdds 73 = .ok (.iconst 1, 1) := dk_4 (dk_at dksX0_backOdds_3 4 rfl rfl)
theorem dX0_backOdds_74 : decode cX0_backOdds 74 = .ok (.iadd, 1) := dk_96 (dk_at dksX0_backOdds_3 5 rfl rfl)
theorem dX0_backOdds_75 : decode cX0_backOdds 75 = .ok (.i2l, 1) := dk_133 (dk_at dksX0_backOdds_3 6 rfl rfl)
theorem dX0_backOdds_76 : decode cX0_backOdds 76 = .ok (.lmul, 1) := dk_105 (dk_at dksX0_backOdds_3 7 rfl rfl)
theorem dX0_backOdds_77 : decode cX0_backOdds 77 = .ok (.ldc2_w 433, 3) := dk_20 1 177 (dk_at dksX0_backOdds_3 8 rfl rfl)
theorem dX0_backOdds_80 : decode cX0_backOdds 80 = .ok (.aload_n 0, 1) := dk_42 (dk_at dksX0_backOdds_3 11 rfl rfl)
theorem dX0_backOdds_81 : decode cX0_backOdds 81 = .ok (.aload_n 3, 1) := dk_45 (dk_at dksX0_backOdds_3 12 rfl rfl)
theorem dX0_backOdds_82 : decode cX0_backOdds 82 = .ok (.getfield 421, 3) := dk_180 1 165 (dk_at dksX0_backOdds_3 13 rfl rfl)
theorem dX0_backOdds_85 : decode cX0_backOdds 85 = .ok (.invokevirtual 358, 3) := dk_182 1 102 (dk_at dksX0_backOdds_3 16 rfl rfl)
theorem dX0_backOdds_88 : decode cX0_backOdds 88 = .ok (.i2l, 1) := dk_133 (dk_at dksX0_backOdds_3 19 rfl rfl)
theorem dX0_backOdds_89 : decode cX0_backOdds 89 = .ok (.lmul, 1) := dk_105 (dk_at dksX0_backOdds_3 20 rfl rfl)
theorem dX0_backOdds_90 : decode cX0_backOdds 90 = .ok (.iload_n 2, 1) := dk_28 (dk_at dksX0_backOdds_3 21 rfl rfl)
theorem dX0_backOdds_91 : decode cX0_backOdds 91 = .ok (.invokestatic 385, 3) := dk_184 1 129 (dk_at dksX0_backOdds_4 0 rfl rfl)
theorem dX0_backOdds_94 : decode cX0_backOdds 94 = .ok (.l2i, 1) := dk_136 (dk_at dksX0_backOdds_4 3 rfl rfl)
theorem dX0_backOdds_95 : decode cX0_backOdds 95 = .ok (.ireturn, 1) := dk_172 (dk_at dksX0_backOdds_4 4 rfl rfl)
abbrev cX0_parted : ByteArray := prog_1_method_64_code
def yX0_parted : MethodName := ⟨RX0, "parted", "(IZ)I"⟩
def dkwX0_parted_4 : List UInt8 := [132, 4, 1, 167, 255, 183, 29, 172]
abbrev dktX0_parted_4 : List UInt8 := dkwX0_parted_4 ++ []
def dkwX0_parted_3 : List UInt8 := [160, 0, 23, 42, 25, 5, 182, 1, 170, 154, 0, 14, 29, 16, 10, 25, 5, 180, 1, 174, 100, 96, 62]
abbrev dktX0_parted_3 : List UInt8 := dkwX0_parted_3 ++ dktX0_parted_4
def dkwX0_parted_2 : List UInt8 := [182, 0, 42, 192, 1, 160, 58, 5, 25, 5, 27, 184, 1, 185, 28, 153, 0, 7, 4, 167, 0, 4, 3]
abbrev dktX0_parted_2 : List UInt8 := dkwX0_parted_2 ++ dktX0_parted_3
def dkwX0_parted_1 : List UInt8 := [42, 180, 0, 26, 180, 1, 157, 182, 0, 36, 162, 0, 64, 42, 180, 0, 26, 180, 1, 157, 21, 4]
abbrev dktX0_parted_1 : List UInt8 := dkwX0_parted_1 ++ dktX0_parted_2
def dkwX0_parted_0 : List UInt8 := [27, 133, 9, 10, 184, 0, 111, 154, 0, 10, 42, 16, 254, 182, 0, 119, 172, 3, 62, 3, 54, 4, 21, 4]
abbrev dktX0_parted_0 : List UInt8 := dkwX0_parted_0 ++ dktX0_parted_1
theorem dksX0_parted_0 : cX0_parted.data.toList.drop 0 = dktX0_parted_0 := by decide +kernel
theorem dksX0_parted_1 : cX0_parted.data.toList.drop 24 = dktX0_parted_1 := dk_seg dksX0_parted_0 24 rfl rfl
theorem dksX0_parted_2 : cX0_parted.data.toList.drop 46 = dktX0_parted_2 := dk_seg dksX0_parted_1 22 rfl rfl
theorem dksX0_parted_3 : cX0_parted.data.toList.drop 69 = dktX0_parted_3 := dk_seg dksX0_parted_2 23 rfl rfl
theorem dksX0_parted_4 : cX0_parted.data.toList.drop 92 = dktX0_parted_4 := dk_seg dksX0_parted_3 23 rfl rfl
theorem dX0_parted_0 : decode cX0_parted 0 = .ok (.iload_n 1, 1) := dk_27 (dk_at dksX0_parted_0 0 rfl rfl)
theorem dX0_parted_1 : decode cX0_parted 1 = .ok (.i2l, 1) := dk_133 (dk_at dksX0_parted_0 1 rfl rfl)
theorem dX0_parted_2 : decode cX0_parted 2 = .ok (.lconst 0, 1) := dk_9 (dk_at dksX0_parted_0 2 rfl rfl)
theorem dX0_parted_3 : decode cX0_parted 3 = .ok (.lconst 1, 1) := dk_10 (dk_at dksX0_parted_0 3 rfl rfl)
theorem dX0_parted_4 : decode cX0_parted 4 = .ok (.invokestatic 111, 3) := dk_184 0 111 (dk_at dksX0_parted_0 4 rfl rfl)
theorem dX0_parted_7 : decode cX0_parted 7 = .ok (.ifCond .ne 10, 3) := dk_154 0 10 (dk_at dksX0_parted_0 7 rfl rfl)
theorem dX0_parted_10 : decode cX0_parted 10 = .ok (.aload_n 0, 1) := dk_42 (dk_at dksX0_parted_0 10 rfl rfl)
theorem dX0_parted_11 : decode cX0_parted 11 = .ok (.bipush (-2), 2) := dk_16 254 (dk_at dksX0_parted_0 11 rfl rfl)
theorem dX0_parted_13 : decode cX0_parted 13 = .ok (.invokevirtual 119, 3) := dk_182 0 119 (dk_at dksX0_parted_0 13 rfl rfl)
theorem dX0_parted_16 : decode cX0_parted 16 = .ok (.ireturn, 1) := dk_172 (dk_at dksX0_parted_0 16 rfl rfl)
theorem dX0_parted_17 : decode cX0_parted 17 = .ok (.iconst 0, 1) := dk_3 (dk_at dksX0_parted_0 17 rfl rfl)
theorem dX0_parted_18 : decode cX0_parted 18 = .ok (.istore_n 3, 1) := dk_62 (dk_at dksX0_parted_0 18 rfl rfl)
theorem dX0_parted_19 : decode cX0_parted 19 = .ok (.iconst 0, 1) := dk_3 (dk_at dksX0_parted_0 19 rfl rfl)
theorem dX0_parted_20 : decode cX0_parted 20 = .ok (.istore 4, 2) := dk_54 4 (dk_at dksX0_parted_0 20 rfl rfl)
theorem dX0_parted_22 : decode cX0_parted 22 = .ok (.iload 4, 2) := dk_21 4 (dk_at dksX0_parted_0 22 rfl rfl)
theorem dX0_parted_24 : decode cX0_parted 24 = .ok (.aload_n 0, 1) := dk_42 (dk_at dksX0_parted_1 0 rfl rfl)
theorem dX0_parted_25 : decode cX0_parted 25 = .ok (.getfield 26, 3) := dk_180 0 26 (dk_at dksX0_parted_1 1 rfl rfl)
theorem dX0_parted_28 : decode cX0_parted 28 = .ok (.getfield 413, 3) := dk_180 1 157 (dk_at dksX0_parted_1 4 rfl rfl)
theorem dX0_parted_31 : decode cX0_parted 31 = .ok (.invokevirtual 36, 3) := dk_182 0 36 (dk_at dksX0_parted_1 7 rfl rfl)
theorem dX0_parted_34 : decode cX0_parted 34 = .ok (.if_icmp .ge 64, 3) := dk_162 0 64 (dk_at dksX0_parted_1 10 rfl rfl)
theorem dX0_parted_37 : decode cX0_parted 37 = .ok (.aload_n 0, 1) := dk_42 (dk_at dksX0_parted_1 13 rfl rfl)
theorem dX0_parted_38 : decode cX0_parted 38 = .ok (.getfield 26, 3) := dk_180 0 26 (dk_at dksX0_parted_1 14 rfl rfl)
theorem dX0_parted_41 : decode cX0_parted 41 = .ok (.getfield 413, 3) := dk_180 1 157 (dk_at dksX0_parted_1 17 rfl rfl)
theorem dX0_parted_44 : decode cX0_parted 44 = .ok (.iload 4, 2) := dk_21 4 (dk_at dksX0_parted_1 20 rfl rfl)
theorem dX0_parted_46 : decode cX0_parted 46 = .ok (.invokevirtual 42, 3) := dk_182 0 42 (dk_at dksX0_parted_2 0 rfl rfl)
theorem dX0_parted_49 : decode cX0_parted 49 = .ok (.checkcast 416, 3) := dk_192 1 160 (dk_at dksX0_parted_2 3 rfl rfl)
theorem dX0_parted_52 : decode cX0_parted 52 = .ok (.astore 5, 2) := dk_58 5 (dk_at dksX0_parted_2 6 rfl rfl)
theorem dX0_parted_54 : decode cX0_parted 54 = .ok (.aload 5, 2) := dk_25 5 (dk_at dksX0_parted_2 8 rfl rfl)
theorem dX0_parted_56 : decode cX0_parted 56 = .ok (.iload_n 1, 1) := dk_27 (dk_at dksX0_parted_2 10 rfl rfl)
theorem dX0_parted_57 : decode cX0_parted 57 = .ok (.invokestatic 441, 3) := dk_184 1 185 (dk_at dksX0_parted_2 11 rfl rfl)
theorem dX0_parted_60 : decode cX0_parted 60 = .ok (.iload_n 2, 1) := dk_28 (dk_at dksX0_parted_2 14 rfl rfl)
theorem dX0_parted_61 : decode cX0_parted 61 = .ok (.ifCond .eq 7, 3) := dk_153 0 7 (dk_at dksX0_parted_2 15 rfl rfl)
theorem dX0_parted_64 : decode cX0_parted 64 = .ok (.iconst 1, 1) := dk_4 (dk_at dksX0_parted_2 18 rfl rfl)
theorem dX0_parted_65 : decode cX0_parted 65 = .ok (.goto 4, 3) := dk_167 0 4 (dk_at dksX0_parted_2 19 rfl rfl)
theorem dX0_parted_68 : decode cX0_parted 68 = .ok (.iconst 0, 1) := dk_3 (dk_at dksX0_parted_2 22 rfl rfl)
theorem dX0_parted_69 : decode cX0_parted 69 = .ok (.if_icmp .ne 23, 3) := dk_160 0 23 (dk_at dksX0_parted_3 0 rfl rfl)
theorem dX0_parted_72 : decode cX0_parted 72 = .ok (.aload_n 0, 1) := dk_42 (dk_at dksX0_parted_3 3 rfl rfl)
theorem dX0_parted_73 : decode cX0_parted 73 = .ok (.aload 5, 2) := dk_25 5 (dk_at dksX0_parted_3 4 rfl rfl)
theorem dX0_parted_75 : decode cX0_parted 75 = .ok (.invokevirtual 426, 3) := dk_182 1 170 (dk_at dksX0_parted_3 6 rfl rfl)
theorem dX0_parted_78 : decode cX0_parted 78 = .ok (.ifCond .ne 14, 3) := dk_154 0 14 (dk_at dksX0_parted_3 9 rfl rfl)
theorem dX0_parted_81 : decode cX0_parted 81 = .ok (.iload_n 3, 1) := dk_29 (dk_at dksX0_parted_3 12 rfl rfl)
theorem dX0_parted_82 : decode cX0_parted 82 = .ok (.bipush 10, 2) := dk_16 10 (dk_at dksX0_parted_3 13 rfl rfl)
theorem dX0_parted_84 : decode cX0_parted 84 = .ok (.aload 5, 2) := dk_25 5 (dk_at dksX0_parted_3 15 rfl rfl)
theorem dX0_parted_86 : decode cX0_parted 86 = .ok (.getfield 430, 3) := dk_180 1 174 (dk_at dksX0_parted_3 17 rfl rfl)
theorem dX0_parted_89 : decode cX0_parted 89 = .ok (.isub, 1) := dk_100 (dk_at dksX0_parted_3 20 rfl rfl)
theorem dX0_parted_90 : decode cX0_parted 90 = .ok (.iadd, 1) := dk_96 (dk_at dksX0_parted_3 21 rfl rfl)
theorem dX0_parted_91 : decode cX0_parted 91 = .ok (.istore_n 3, 1) := dk_62 (dk_at dksX0_parted_3 22 rfl rfl)
theorem dX0_parted_92 : decode cX0_parted 92 = .ok (.iinc 4 1, 3) := dk_132 4 1 (dk_at dksX0_parted_4 0 rfl rfl)
theorem dX0_parted_95 : decode cX0_parted 95 = .ok (.goto (-73), 3) := dk_167 255 183 (dk_at dksX0_parted_4 3 rfl rfl)
theorem dX0_parted_98 : decode cX0_parted 98 = .ok (.iload_n 3, 1) := dk_29 (dk_at dksX0_parted_4 6 rfl rfl)
theorem dX0_parted_99 : decode cX0_parted 99 = .ok (.ireturn, 1) := dk_172 (dk_at dksX0_parted_4 7 rfl rfl)
abbrev cX0_saidTo : ByteArray := prog_1_method_63_code
def yX0_saidTo : MethodName := ⟨RX0, "saidTo", "(LNobodysBard$Answer;I)I"⟩
def dkwX0_saidTo_0 : List UInt8 := [27, 154, 0, 10, 42, 180, 1, 179, 167, 0, 7, 42, 180, 1, 182, 172]
abbrev dktX0_saidTo_0 : List UInt8 := dkwX0_saidTo_0 ++ []
theorem dksX0_saidTo_0 : cX0_saidTo.data.toList.drop 0 = dktX0_saidTo_0 := by decide +kernel
theorem dX0_saidTo_0 : decode cX0_saidTo 0 = .ok (.iload_n 1, 1) := dk_27 (dk_at dksX0_saidTo_0 0 rfl rfl)
theorem dX0_saidTo_1 : decode cX0_saidTo 1 = .ok (.ifCond .ne 10, 3) := dk_154 0 10 (dk_at dksX0_saidTo_0 1 rfl rfl)
theorem dX0_saidTo_4 : decode cX0_saidTo 4 = .ok (.aload_n 0, 1) := dk_42 (dk_at dksX0_saidTo_0 4 rfl rfl)
theorem dX0_saidTo_5 : decode cX0_saidTo 5 = .ok (.getfield 435, 3) := dk_180 1 179 (dk_at dksX0_saidTo_0 5 rfl rfl)
theorem dX0_saidTo_8 : decode cX0_saidTo 8 = .ok (.goto 7, 3) := dk_167 0 7 (dk_at dksX0_saidTo_0 8 rfl rfl)
theorem dX0_saidTo_11 : decode cX0_saidTo 11 = .ok (.aload_n 0, 1) := dk_42 (dk_at dksX0_saidTo_0 11 rfl rfl)
theorem dX0_saidTo_12 : decode cX0_saidTo 12 = .ok (.getfield 438, 3) := dk_180 1 182 (dk_at dksX0_saidTo_0 12 rfl rfl)
theorem dX0_saidTo_15 : decode cX0_saidTo 15 = .ok (.ireturn, 1) := dk_172 (dk_at dksX0_saidTo_0 15 rfl rfl)
abbrev cX0_muddled : ByteArray := prog_1_method_65_code
def yX0_muddled : MethodName := ⟨RX0, "muddled", "(I)I"⟩
def dkwX0_muddled_5 : List UInt8 := [28, 167, 0, 4, 2, 172]
abbrev dktX0_muddled_5 : List UInt8 := dkwX0_muddled_5 ++ []
def dkwX0_muddled_4 : List UInt8 := [167, 0, 13, 28, 27, 160, 0, 5, 29, 172, 132, 2, 1, 132, 3, 1, 167, 255, 155, 27, 2, 160, 0, 7]
abbrev dktX0_muddled_4 : List UInt8 := dkwX0_muddled_4 ++ dktX0_muddled_5
def dkwX0_muddled_3 : List UInt8 := [161, 0, 35, 42, 25, 4, 180, 1, 165, 182, 1, 105, 42, 180, 0, 26, 180, 0, 186, 161, 0, 6]
abbrev dktX0_muddled_3 : List UInt8 := dkwX0_muddled_3 ++ dktX0_muddled_4
def dkwX0_muddled_2 : List UInt8 := [180, 1, 165, 198, 0, 54, 42, 25, 4, 180, 1, 165, 182, 1, 102, 42, 180, 0, 26, 180, 0, 186]
abbrev dktX0_muddled_2 : List UInt8 := dkwX0_muddled_2 ++ dktX0_muddled_3
def dkwX0_muddled_1 : List UInt8 := [180, 1, 157, 29, 182, 0, 42, 192, 1, 160, 58, 4, 25, 4, 180, 1, 182, 4, 160, 0, 62, 25, 4]
abbrev dktX0_muddled_1 : List UInt8 := dkwX0_muddled_1 ++ dktX0_muddled_2
def dkwX0_muddled_0 : List UInt8 := [3, 61, 3, 62, 29, 42, 180, 0, 26, 180, 1, 157, 182, 0, 36, 162, 0, 93, 42, 180, 0, 26]
abbrev dktX0_muddled_0 : List UInt8 := dkwX0_muddled_0 ++ dktX0_muddled_1
theorem dksX0_muddled_0 : cX0_muddled.data.toList.drop 0 = dktX0_muddled_0 := by decide +kernel
theorem dksX0_muddled_1 : cX0_muddled.data.toList.drop 22 = dktX0_muddled_1 := dk_seg dksX0_muddled_0 22 rfl rfl
theorem dksX0_muddled_2 : cX0_muddled.data.toList.drop 45 = dktX0_muddled_2 := dk_seg dksX0_muddled_1 23 rfl rfl
theorem dksX0_muddled_3 : cX0_muddled.data.toList.drop 67 = dktX0_muddled_3 := dk_seg dksX0_muddled_2 22 rfl rfl
theorem dksX0_muddled_4 : cX0_muddled.data.toList.drop 89 = dktX0_muddled_4 := dk_seg dksX0_muddled_3 22 rfl rfl
theorem dksX0_muddled_5 : cX0_muddled.data.toList.drop 113 = dktX0_muddled_5 := dk_seg dksX0_muddled_4 24 rfl rfl
theorem dX0_muddled_0 : decode cX0_muddled 0 = .ok (.iconst 0, 1) := dk_3 (dk_at dksX0_muddled_0 0 rfl rfl)
theorem dX0_muddled_1 : decode cX0_muddled 1 = .ok (.istore_n 2, 1) := dk_61 (dk_at dksX0_muddled_0 1 rfl rfl)
theorem dX0_muddled_2 : decode cX0_muddled 2 = .ok (.iconst 0, 1) := dk_3 (dk_at dksX0_muddled_0 2 rfl rfl)
theorem dX0_muddled_3 : decode cX0_muddled 3 = .ok (.istore_n 3, 1) := dk_62 (dk_at dksX0_muddled_0 3 rfl rfl)
theorem dX0_muddled_4 : decode cX0_muddled 4 = .ok (.iload_n 3, 1) := dk_29 (dk_at dksX0_muddled_0 4 rfl rfl)
theorem dX0_muddled_5 : decode cX0_muddled 5 = .ok (.aload_n 0, 1) := dk_42 (dk_at dksX0_muddled_0 5 rfl rfl)
theorem dX0_muddled_6 : decode cX0_muddled 6 = .ok (.getfield 26, 3) := dk_180 0 26 (dk_at dksX0_muddled_0 6 rfl rfl)
theorem dX0_muddled_9 : decode cX0_muddled 9 = .ok (.getfield 413, 3) := dk_180 1 157 (dk_at dksX0_muddled_0 9 rfl rfl)
theorem dX0_muddled_12 : decode cX0_muddled 12 = .ok (.invokevirtual 36, 3) := dk_182 0 36 (dk_at dksX0_muddled_0 12 rfl rfl)
theorem dX0_muddled_15 : decode cX0_muddled 15 = .ok (.if_icmp .ge 93, 3) := dk_162 0 93 (dk_at dksX0_muddled_0 15 rfl rfl)
theorem dX0_muddled_18 : decode cX0_muddled 18 = .ok (.aload_n 0, 1) := dk_42 (dk_at dksX0_muddled_0 18 rfl rfl)
theorem dX0_muddled_19 : decode cX0_muddled 19 = .ok (.getfield 26, 3) := dk_180 0 26 (dk_at dksX0_muddled_0 19 rfl rfl)
theorem dX0_muddled_22 : decode cX0_muddled 22 = .ok (.getfield 413, 3) := dk_180 1 157 (dk_at dksX0_muddled_1 0 rfl rfl)
theorem dX0_muddled_25 : decode cX0_muddled 25 = .ok (.iload_n 3, 1) := dk_29 (dk_at dksX0_muddled_1 3 rfl rfl)
theorem dX0_muddled_26 : decode cX0_muddled 26 = .ok (.invokevirtual 42, 3) := dk_182 0 42 (dk_at dksX0_muddled_1 4 rfl rfl)
theorem dX0_muddled_29 : decode cX0_muddled 29 = .ok (.checkcast 416, 3) := dk_192 1 160 (dk_at dksX0_muddled_1 7 rfl rfl)
theorem dX0_muddled_32 : decode cX0_muddled 32 = .ok (.astore 4, 2) := dk_58 4 (dk_at dksX0_muddled_1 10 rfl rfl)
theorem dX0_muddled_34 : decode cX0_muddled 34 = .ok (.aload 4, 2) := dk_25 4 (dk_at dksX0_muddled_1 12 rfl rfl)
theorem dX0_muddled_36 : decode cX0_muddled 36 = .ok (.getfield 438, 3) := dk_180 1 182 (dk_at dksX0_muddled_1 14 rfl rfl)
theorem dX0_muddled_39 : decode cX0_muddled 39 = .ok (.iconst 1, 1) := dk_4 (dk_at dksX0_muddled_1 17 rfl rfl)
theorem dX0_muddled_40 : decode cX0_muddled 40 = .ok (.if_icmp .ne 62, 3) := dk_160 0 62 (dk_at dksX0_muddled_1 18 rfl rfl)
theorem dX0_muddled_43 : decode cX0_muddled 43 = .ok (.aload 4, 2) := dk_25 4 (dk_at dksX0_muddled_1 21 rfl rfl)
theorem dX0_muddled_45 : decode cX0_muddled 45 = .ok (.getfield 421, 3) := dk_180 1 165 (dk_at dksX0_muddled_2 0 rfl rfl)
theorem dX0_muddled_48 : decode cX0_muddled 48 = .ok (.ifnull 54, 3) := dk_198 0 54 (dk_at dksX0_muddled_2 3 rfl rfl)
theorem dX0_muddled_51 : decode cX0_muddled 51 = .ok (.aload_n 0, 1) := dk_42 (dk_at dksX0_muddled_2 6 rfl rfl)
theorem dX0_muddled_52 : decode cX0_muddled 52 = .ok (.aload 4, 2) := dk_25 4 (dk_at dksX0_muddled_2 7 rfl rfl)
theorem dX0_muddled_54 : decode cX0_muddled 54 = .ok (.getfield 421, 3) := dk_180 1 165 (dk_at dksX0_muddled_2 9 rfl rfl)
theorem dX0_muddled_57 : decode cX0_muddled 57 = .ok (.invokevirtual 358, 3) := dk_182 1 102 (dk_at dksX0_muddled_2 12 rfl rfl)
theorem dX0_muddled_60 : decode cX0_muddled 60 = .ok (.aload_n 0, 1) := dk_42 (dk_at dksX0_muddled_2 15 rfl rfl)
theorem dX0_muddled_61 : decode cX0_muddled 61 = .ok (.getfield 26, 3) := dk_180 0 26 (dk_at dksX0_muddled_2 16 rfl rfl)
theorem dX0_muddled_64 : decode cX0_muddled 64 = .ok (.getfield 186, 3) := dk_180 0 186 (dk_at dksX0_muddled_2 19 rfl rfl)
theorem dX0_muddled_67 : decode cX0_muddled 67 = .ok (.if_icmp .lt 35, 3) := dk_161 0 35 (dk_at dksX0_muddled_3 0 rfl rfl)
theorem dX0_muddled_70 : decode cX0_muddled 70 = .ok (.aload_n 0, 1) := dk_42 (dk_at dksX0_muddled_3 3 rfl rfl)
theorem dX0_muddled_71 : decode cX0_muddled 71 = .ok (.aload 4, 2) := dk_25 4 (dk_at dksX0_muddled_3 4 rfl rfl)
theorem dX0_muddled_73 : decode cX0_muddled 73 = .ok (.getfield 421, 3) := dk_180 1 165 (dk_at dksX0_muddled_3 6 rfl rfl)
theorem dX0_muddled_76 : decode cX0_muddled 76 = .ok (.invokevirtual 361, 3) := dk_182 1 105 (dk_at dksX0_muddled_3 9 rfl rfl)
theorem dX0_muddled_79 : decode cX0_muddled 79 = .ok (.aload_n 0, 1) := dk_42 (dk_at dksX0_muddled_3 12 rfl rfl)
theorem dX0_muddled_80 : decode cX0_muddled 80 = .ok (.getfield 26, 3) := dk_180 0 26 (dk_at dksX0_muddled_3 13 rfl rfl)
theorem dX0_muddled_83 : decode cX0_muddled 83 = .ok (.getfield 186, 3) := dk_180 0 186 (dk_at dksX0_muddled_3 16 rfl rfl)
theorem dX0_muddled_86 : decode cX0_muddled 86 = .ok (.if_icmp .lt 6, 3) := dk_161 0 6 (dk_at dksX0_muddled_3 19 rfl rfl)
theorem dX0_muddled_89 : decode cX0_muddled 89 = .ok (.goto 13, 3) := dk_167 0 13 (dk_at dksX0_muddled_4 0 rfl rfl)
theorem dX0_muddled_92 : decode cX0_muddled 92 = .ok (.iload_n 2, 1) := dk_28 (dk_at dksX0_muddled_4 3 rfl rfl)
theorem dX0_muddled_93 : decode cX0_muddled 93 = .ok (.iload_n 1, 1) := dk_27 (dk_at dksX0_muddled_4 4 rfl rfl)
theorem dX0_muddled_94 : decode cX0_muddled 94 = .ok (.if_icmp .ne 5, 3) := dk_160 0 5 (dk_at dksX0_muddled_4 5 rfl rfl)
theorem dX0_muddled_97 : decode cX0_muddled 97 = .ok (.iload_n 3, 1) := dk_29 (dk_at dksX0_muddled_4 8 rfl rfl)
theorem dX0_muddled_98 : decode cX0_muddled 98 = .ok (.ireturn, 1) := dk_172 (dk_at dksX0_muddled_4 9 rfl rfl)
theorem dX0_muddled_99 : decode cX0_muddled 99 = .ok (.iinc 2 1, 3) := dk_132 2 1 (dk_at dksX0_muddled_4 10 rfl rfl)
theorem dX0_muddled_102 : decode cX0_muddled 102 = .ok (.iinc 3 1, 3) := dk_132 3 1 (dk_at dksX0_muddled_4 13 rfl rfl)
theorem dX0_muddled_105 : decode cX0_muddled 105 = .ok (.goto (-101), 3) := dk_167 255 155 (dk_at dksX0_muddled_4 16 rfl rfl)
theorem dX0_muddled_108 : decode cX0_muddled 108 = .ok (.iload_n 1, 1) := dk_27 (dk_at dksX0_muddled_4 19 rfl rfl)
theorem dX0_muddled_109 : decode cX0_muddled 109 = .ok (.iconst (-1), 1) := dk_2 (dk_at dksX0_muddled_4 20 rfl rfl)
theorem dX0_muddled_110 : decode cX0_muddled 110 = .ok (.if_icmp .ne 7, 3) := dk_160 0 7 (dk_at dksX0_muddled_4 21 rfl rfl)
theorem dX0_muddled_113 : decode cX0_muddled 113 = .ok (.iload_n 2, 1) := dk_28 (dk_at dksX0_muddled_5 0 rfl rfl)
theorem dX0_muddled_114 : decode cX0_muddled 114 = .ok (.goto 4, 3) := dk_167 0 4 (dk_at dksX0_muddled_5 1 rfl rfl)
theorem dX0_muddled_117 : decode cX0_muddled 117 = .ok (.iconst (-1), 1) := dk_2 (dk_at dksX0_muddled_5 4 rfl rfl)
theorem dX0_muddled_118 : decode cX0_muddled 118 = .ok (.ireturn, 1) := dk_172 (dk_at dksX0_muddled_5 5 rfl rfl)
abbrev cX0_glen : ByteArray := prog_1_method_66_code
def yX0_glen : MethodName := ⟨RX0, "glen", "(II)I"⟩
def dkwX0_glen_5 : List UInt8 := [132, 4, 1, 167, 255, 167, 29, 172]
abbrev dktX0_glen_5 : List UInt8 := dkwX0_glen_5 ++ []
def dkwX0_glen_4 : List UInt8 := [20, 0, 157, 184, 0, 111, 153, 0, 18, 25, 5, 28, 4, 100, 184, 1, 185, 4, 160, 0, 6, 132, 3, 1]
abbrev dktX0_glen_4 : List UInt8 := dkwX0_glen_4 ++ dktX0_glen_5
def dkwX0_glen_3 : List UInt8 := [160, 0, 48, 28, 153, 0, 41, 28, 6, 160, 0, 12, 42, 25, 5, 182, 1, 170, 154, 0, 27, 28, 133, 10]
abbrev dktX0_glen_3 : List UInt8 := dkwX0_glen_3 ++ dktX0_glen_4
def dkwX0_glen_2 : List UInt8 := [42, 180, 0, 26, 180, 1, 157, 21, 4, 182, 0, 42, 192, 1, 160, 58, 5, 25, 5, 180, 1, 191, 27]
abbrev dktX0_glen_2 : List UInt8 := dkwX0_glen_2 ++ dktX0_glen_3
def dkwX0_glen_1 : List UInt8 := [182, 0, 119, 172, 3, 62, 3, 54, 4, 21, 4, 42, 180, 0, 26, 180, 1, 157, 182, 0, 36, 162, 0, 80]
abbrev dktX0_glen_1 : List UInt8 := dkwX0_glen_1 ++ dktX0_glen_2
def dkwX0_glen_0 : List UInt8 := [27, 184, 0, 127, 153, 0, 15, 28, 133, 9, 20, 1, 189, 184, 0, 111, 154, 0, 10, 42, 16, 254]
abbrev dktX0_glen_0 : List UInt8 := dkwX0_glen_0 ++ dktX0_glen_1
theorem dksX0_glen_0 : cX0_glen.data.toList.drop 0 = dktX0_glen_0 := by decide +kernel
theorem dksX0_glen_1 : cX0_glen.data.toList.drop 22 = dktX0_glen_1 := dk_seg dksX0_glen_0 22 rfl rfl
theorem dksX0_glen_2 : cX0_glen.data.toList.drop 46 = dktX0_glen_2 := dk_seg dksX0_glen_1 24 rfl rfl
theorem dksX0_glen_3 : cX0_glen.data.toList.drop 69 = dktX0_glen_3 := dk_seg dksX0_glen_2 23 rfl rfl
theorem dksX0_glen_4 : cX0_glen.data.toList.drop 93 = dktX0_glen_4 := dk_seg dksX0_glen_3 24 rfl rfl
theorem dksX0_glen_5 : cX0_glen.data.toList.drop 117 = dktX0_glen_5 := dk_seg dksX0_glen_4 24 rfl rfl
theorem dX0_glen_0 : decode cX0_glen 0 = .ok (.iload_n 1, 1) := dk_27 (dk_at dksX0_glen_0 0 rfl rfl)
theorem dX0_glen_1 : decode cX0_glen 1 = .ok (.invokestatic 127, 3) := dk_184 0 127 (dk_at dksX0_glen_0 1 rfl rfl)
theorem dX0_glen_4 : decode cX0_glen 4 = .ok (.ifCond .eq 15, 3) := dk_153 0 15 (dk_at dksX0_glen_0 4 rfl rfl)
theorem dX0_glen_7 : decode cX0_glen 7 = .ok (.iload_n 2, 1) := dk_28 (dk_at dksX0_glen_0 7 rfl rfl)
theorem dX0_glen_8 : decode cX0_glen 8 = .ok (.i2l, 1) := dk_133 (dk_at dksX0_glen_0 8 rfl rfl)
theorem dX0_glen_9 : decode cX0_glen 9 = .ok (.lconst 0, 1) := dk_9 (dk_at dksX0_glen_0 9 rfl rfl)
theorem dX0_glen_10 : decode cX0_glen 10 = .ok (.ldc2_w 445, 3) := dk_20 1 189 (dk_at dksX0_glen_0 10 rfl rfl)
theorem dX0_glen_13 : decode cX0_glen 13 = .ok (.invokestatic 111, 3) := dk_184 0 111 (dk_at dksX0_glen_0 13 rfl rfl)
theorem dX0_glen_16 : decode cX0_glen 16 = .ok (.ifCond .ne 10, 3) := dk_154 0 10 (dk_at dksX0_glen_0 16 rfl rfl)
theorem dX0_glen_19 : decode cX0_glen 19 = .ok (.aload_n 0, 1) := dk_42 (dk_at dksX0_glen_0 19 rfl rfl)
theorem dX0_glen_20 : decode cX0_glen 20 = .ok (.bipush (-2), 2) := dk_16 254 (dk_at dksX0_glen_0 20 rfl rfl)
theorem dX0_glen_22 : decode cX0_glen 22 = .ok (.invokevirtual 119, 3) := dk_182 0 119 (dk_at dksX0_glen_1 0 rfl rfl)
theorem dX0_glen_25 : decode cX0_glen 25 = .ok (.ireturn, 1) := dk_172 (dk_at dksX0_glen_1 3 rfl rfl)
theorem dX0_glen_26 : decode cX0_glen 26 = .ok (.iconst 0, 1) := dk_3 (dk_at dksX0_glen_1 4 rfl rfl)
theorem dX0_glen_27 : decode cX0_glen 27 = .ok (.istore_n 3, 1) := dk_62 (dk_at dksX0_glen_1 5 rfl rfl)
theorem dX0_glen_28 : decode cX0_glen 28 = .ok (.iconst 0, 1) := dk_3 (dk_at dksX0_glen_1 6 rfl rfl)
theorem dX0_glen_29 : decode cX0_glen 29 = .ok (.istore 4, 2) := dk_54 4 (dk_at dksX0_glen_1 7 rfl rfl)
theorem dX0_glen_31 : decode cX0_glen 31 = .ok (.iload 4, 2) := dk_21 4 (dk_at dksX0_glen_1 9 rfl rfl)
theorem dX0_glen_33 : decode cX0_glen 33 = .ok (.aload_n 0, 1) := dk_42 (dk_at dksX0_glen_1 11 rfl rfl)
theorem dX0_glen_34 : decode cX0_glen 34 = .ok (.getfield 26, 3) := dk_180 0 26 (dk_at dksX0_glen_1 12 rfl rfl)
theorem dX0_glen_37 : decode cX0_glen 37 = .ok (.getfield 413, 3) := dk_180 1 157 (dk_at dksX0_glen_1 15 rfl rfl)
theorem dX0_glen_40 : decode cX0_glen 40 = .ok (.invokevirtual 36, 3) := dk_182 0 36 (dk_at dksX0_glen_1 18 rfl rfl)
theorem dX0_glen_43 : decode cX0_glen 43 = .ok (.if_icmp .ge 80, 3) := dk_162 0 80 (dk_at dksX0_glen_1 21 rfl rfl)
theorem dX0_glen_46 : decode cX0_glen 46 = .ok (.aload_n 0, 1) := dk_42 (dk_at dksX0_glen_2 0 rfl rfl)
theorem dX0_glen_47 : decode cX0_glen 47 = .ok (.getfield 26, 3) := dk_180 0 26 (dk_at dksX0_glen_2 1 rfl rfl)
theorem dX0_glen_50 : decode cX0_glen 50 = .ok (.getfield 413, 3) := dk_180 1 157 (dk_at dksX0_glen_2 4 rfl rfl)
theorem dX0_glen_53 : decode cX0_glen 53 = .ok (.iload 4, 2) := dk_21 4 (dk_at dksX0_glen_2 7 rfl rfl)
theorem dX0_glen_55 : decode cX0_glen 55 = .ok (.invokevirtual 42, 3) := dk_182 0 42 (dk_at dksX0_glen_2 9 rfl rfl)
theorem dX0_glen_58 : decode cX0_glen 58 = .ok (.checkcast 416, 3) := dk_192 1 160 (dk_at dksX0_glen_2 12 rfl rfl)
theorem dX0_glen_61 : decode cX0_glen 61 = .ok (.astore 5, 2) := dk_58 5 (dk_at dksX0_glen_2 15 rfl rfl)
theorem dX0_glen_63 : decode cX0_glen 63 = .ok (.aload 5, 2) := dk_25 5 (dk_at dksX0_glen_2 17 rfl rfl)
theorem dX0_glen_65 : decode cX0_glen 65 = .ok (.getfield 447, 3) := dk_180 1 191 (dk_at dksX0_glen_2 19 rfl rfl)
theorem dX0_glen_68 : decode cX0_glen 68 = .ok (.iload_n 1, 1) := dk_27 (dk_at dksX0_glen_2 22 rfl rfl)
theorem dX0_glen_69 : decode cX0_glen 69 = .ok (.if_icmp .ne 48, 3) := dk_160 0 48 (dk_at dksX0_glen_3 0 rfl rfl)
theorem dX0_glen_72 : decode cX0_glen 72 = .ok (.iload_n 2, 1) := dk_28 (dk_at dksX0_glen_3 3 rfl rfl)
theorem dX0_glen_73 : decode cX0_glen 73 = .ok (.ifCond .eq 41, 3) := dk_153 0 41 (dk_at dksX0_glen_3 4 rfl rfl)
theorem dX0_glen_76 : decode cX0_glen 76 = .ok (.iload_n 2, 1) := dk_28 (dk_at dksX0_glen_3 7 rfl rfl)
theorem dX0_glen_77 : decode cX0_glen 77 = .ok (.iconst 3, 1) := dk_6 (dk_at dksX0_glen_3 8 rfl rfl)
theorem dX0_glen_78 : decode cX0_glen 78 = .ok (.if_icmp .ne 12, 3) := dk_160 0 12 (dk_at dksX0_glen_3 9 rfl rfl)
theorem dX0_glen_81 : decode cX0_glen 81 = .ok (.aload_n 0, 1) := dk_42 (dk_at dksX0_glen_3 12 rfl rfl)
theorem dX0_glen_82 : decode cX0_glen 82 = .ok (.aload 5, 2) := dk_25 5 (dk_at dksX0_glen_3 13 rfl rfl)
theorem dX0_glen_84 : decode cX0_glen 84 = .ok (.invokevirtual 426, 3) := dk_182 1 170 (dk_at dksX0_glen_3 15 rfl rfl)
theorem dX0_glen_87 : decode cX0_glen 87 = .ok (.ifCond .ne 27, 3) := dk_154 0 27 (dk_at dksX0_glen_3 18 rfl rfl)
theorem dX0_glen_90 : decode cX0_glen 90 = .ok (.iload_n 2, 1) := dk_28 (dk_at dksX0_glen_3 21 rfl rfl)
theorem dX0_glen_91 : decode cX0_glen 91 = .ok (.i2l, 1) := dk_133 (dk_at dksX0_glen_3 22 rfl rfl)
theorem dX0_glen_92 : decode cX0_glen 92 = .ok (.lconst 1, 1) := dk_10 (dk_at dksX0_glen_3 23 rfl rfl)
theorem dX0_glen_93 : decode cX0_glen 93 = .ok (.ldc2_w 157, 3) := dk_20 0 157 (dk_at dksX0_glen_4 0 rfl rfl)
theorem dX0_glen_96 : decode cX0_glen 96 = .ok (.invokestatic 111, 3) := dk_184 0 111 (dk_at dksX0_glen_4 3 rfl rfl)
theorem dX0_glen_99 : decode cX0_glen 99 = .ok (.ifCond .eq 18, 3) := dk_153 0 18 (dk_at dksX0_glen_4 6 rfl rfl)
theorem dX0_glen_102 : decode cX0_glen 102 = .ok (.aload 5, 2) := dk_25 5 (dk_at dksX0_glen_4 9 rfl rfl)
theorem dX0_glen_104 : decode cX0_glen 104 = .ok (.iload_n 2, 1) := dk_28 (dk_at dksX0_glen_4 11 rfl rfl)
theorem dX0_glen_105 : decode cX0_glen 105 = .ok (.iconst 1, 1) := dk_4 (dk_at dksX0_glen_4 12 rfl rfl)
theorem dX0_glen_106 : decode cX0_glen 106 = .ok (.isub, 1) := dk_100 (dk_at dksX0_glen_4 13 rfl rfl)
theorem dX0_glen_107 : decode cX0_glen 107 = .ok (.invokestatic 441, 3) := dk_184 1 185 (dk_at dksX0_glen_4 14 rfl rfl)
theorem dX0_glen_110 : decode cX0_glen 110 = .ok (.iconst 1, 1) := dk_4 (dk_at dksX0_glen_4 17 rfl rfl)
theorem dX0_glen_111 : decode cX0_glen 111 = .ok (.if_icmp .ne 6, 3) := dk_160 0 6 (dk_at dksX0_glen_4 18 rfl rfl)
theorem dX0_glen_114 : decode cX0_glen 114 = .ok (.iinc 3 1, 3) := dk_132 3 1 (dk_at dksX0_glen_4 21 rfl rfl)
theorem dX0_glen_117 : decode cX0_glen 117 = .ok (.iinc 4 1, 3) := dk_132 4 1 (dk_at dksX0_glen_5 0 rfl rfl)
theorem dX0_glen_120 : decode cX0_glen 120 = .ok (.goto (-89), 3) := dk_167 255 167 (dk_at dksX0_glen_5 3 rfl rfl)
theorem dX0_glen_123 : decode cX0_glen 123 = .ok (.iload_n 3, 1) := dk_29 (dk_at dksX0_glen_5 6 rfl rfl)
theorem dX0_glen_124 : decode cX0_glen 124 = .ok (.ireturn, 1) := dk_172 (dk_at dksX0_glen_5 7 rfl rfl)
abbrev cX0_paid : ByteArray := prog_1_method_67_code
def yX0_paid : MethodName := ⟨RX0, "paid", "(II)I"⟩
def dkwX0_paid_3 : List UInt8 := [42, 180, 0, 26, 180, 1, 196, 182, 0, 36, 172]
abbrev dktX0_paid_3 : List UInt8 := dkwX0_paid_3 ++ []
def dkwX0_paid_2 : List UInt8 := [182, 0, 119, 172, 42, 180, 0, 26, 180, 1, 196, 187, 1, 199, 89, 27, 28, 183, 1, 201, 182, 0, 150, 87]
abbrev dktX0_paid_2 : List UInt8 := dkwX0_paid_2 ++ dktX0_paid_3
def dkwX0_paid_1 : List UInt8 := [182, 0, 119, 172, 42, 180, 0, 26, 180, 1, 196, 182, 0, 36, 16, 20, 160, 0, 10, 42, 16, 252]
abbrev dktX0_paid_1 : List UInt8 := dkwX0_paid_1 ++ dktX0_paid_2
def dkwX0_paid_0 : List UInt8 := [27, 184, 0, 130, 153, 0, 15, 28, 133, 10, 20, 1, 194, 184, 0, 111, 154, 0, 10, 42, 16, 253]
abbrev dktX0_paid_0 : List UInt8 := dkwX0_paid_0 ++ dktX0_paid_1
theorem dksX0_paid_0 : cX0_paid.data.toList.drop 0 = dktX0_paid_0 := by decide +kernel
theorem dksX0_paid_1 : cX0_paid.data.toList.drop 22 = dktX0_paid_1 := dk_seg dksX0_paid_0 22 rfl rfl
theorem dksX0_paid_2 : cX0_paid.data.toList.drop 44 = dktX0_paid_2 := dk_seg dksX0_paid_1 22 rfl rfl
theorem dksX0_paid_3 : cX0_paid.data.toList.drop 68 = dktX0_paid_3 := dk_seg dksX0_paid_2 24 rfl rfl
theorem dX0_paid_0 : decode cX0_paid 0 = .ok (.iload_n 1, 1) := dk_27 (dk_at dksX0_paid_0 0 rfl rfl)
theorem dX0_paid_1 : decode cX0_paid 1 = .ok (.invokestatic 130, 3) := dk_184 0 130 (dk_at dksX0_paid_0 1 rfl rfl)
theorem dX0_paid_4 : decode cX0_paid 4 = .ok (.ifCond .eq 15, 3) := dk_153 0 15 (dk_at dksX0_paid_0 4 rfl rfl)
theorem dX0_paid_7 : decode cX0_paid 7 = .ok (.iload_n 2, 1) := dk_28 (dk_at dksX0_paid_0 7 rfl rfl)
theorem dX0_paid_8 : decode cX0_paid 8 = .ok (.i2l, 1) := dk_133 (dk_at dksX0_paid_0 8 rfl rfl)
theorem dX0_paid_9 : decode cX0_paid 9 = .ok (.lconst 1, 1) := dk_10 (dk_at dksX0_paid_0 9 rfl rfl)
theorem dX0_paid_10 : decode cX0_paid 10 = .ok (.ldc2_w 450, 3) := dk_20 1 194 (dk_at dksX0_paid_0 10 rfl rfl)
theorem dX0_paid_13 : decode cX0_paid 13 = .ok (.invokestatic 111, 3) := dk_184 0 111 (dk_at dksX0_paid_0 13 rfl rfl)
theorem dX0_paid_16 : decode cX0_paid 16 = .ok (.ifCond .ne 10, 3) := dk_154 0 10 (dk_at dksX0_paid_0 16 rfl rfl)
theorem dX0_paid_19 : decode cX0_paid 19 = .ok (.aload_n 0, 1) := dk_42 (dk_at dksX0_paid_0 19 rfl rfl)
theorem dX0_paid_20 : decode cX0_paid 20 = .ok (.bipush (-3), 2) := dk_16 253 (dk_at dksX0_paid_0 20 rfl rfl)
theorem dX0_paid_22 : decode cX0_paid 22 = .ok (.invokevirtual 119, 3) := dk_182 0 119 (dk_at dksX0_paid_1 0 rfl rfl)
theorem dX0_paid_25 : decode cX0_paid 25 = .ok (.ireturn, 1) := dk_172 (dk_at dksX0_paid_1 3 rfl rfl)
theorem dX0_paid_26 : decode cX0_paid 26 = .ok (.aload_n 0, 1) := dk_42 (dk_at dksX0_paid_1 4 rfl rfl)
theorem dX0_paid_27 : decode cX0_paid 27 = .ok (.getfield 26, 3) := dk_180 0 26 (dk_at dksX0_paid_1 5 rfl rfl)
theorem dX0_paid_30 : decode cX0_paid 30 = .ok (.getfield 452, 3) := dk_180 1 196 (dk_at dksX0_paid_1 8 rfl rfl)
theorem dX0_paid_33 : decode cX0_paid 33 = .ok (.invokevirtual 36, 3) := dk_182 0 36 (dk_at dksX0_paid_1 11 rfl rfl)
theorem dX0_paid_36 : decode cX0_paid 36 = .ok (.bipush 20, 2) := dk_16 20 (dk_at dksX0_paid_1 14 rfl rfl)
theorem dX0_paid_38 : decode cX0_paid 38 = .ok (.if_icmp .ne 10, 3) := dk_160 0 10 (dk_at dksX0_paid_1 16 rfl rfl)
theorem dX0_paid_41 : decode cX0_paid 41 = .ok (.aload_n 0, 1) := dk_42 (dk_at dksX0_paid_1 19 rfl rfl)
theorem dX0_paid_42 : decode cX0_paid 42 = .ok (.bipush (-4), 2) := dk_16 252 (dk_at dksX0_paid_1 20 rfl rfl)
theorem dX0_paid_44 : decode cX0_paid 44 = .ok (.invokevirtual 119, 3) := dk_182 0 119 (dk_at dksX0_paid_2 0 rfl rfl)
theorem dX0_paid_47 : decode cX0_paid 47 = .ok (.ireturn, 1) := dk_172 (dk_at dksX0_paid_2 3 rfl rfl)
theorem dX0_paid_48 : decode cX0_paid 48 = .ok (.aload_n 0, 1) := dk_42 (dk_at dksX0_paid_2 4 rfl rfl)
theorem dX0_paid_49 : decode cX0_paid 49 = .ok (.getfield 26, 3) := dk_180 0 26 (dk_at dksX0_paid_2 5 rfl rfl)
theorem dX0_paid_52 : decode cX0_paid 52 = .ok (.getfield 452, 3) := dk_180 1 196 (dk_at dksX0_paid_2 8 rfl rfl)
theorem dX0_paid_55 : decode cX0_paid 55 = .ok (.new 455, 3) := dk_187 1 199 (dk_at dksX0_paid_2 11 rfl rfl)
theorem dX0_paid_58 : decode cX0_paid 58 = .ok (.dup, 1) := dk_89 (dk_at dksX0_paid_2 14 rfl rfl)
theorem dX0_paid_59 : decode cX0_paid 59 = .ok (.iload_n 1, 1) := dk_27 (dk_at dksX0_paid_2 15 rfl rfl)
theorem dX0_paid_60 : decode cX0_paid 60 = .ok (.iload_n 2, 1) := dk_28 (dk_at dksX0_paid_2 16 rfl rfl)
theorem dX0_paid_61 : decode cX0_paid 61 = .ok (.invokespecial 457, 3) := dk_183 1 201 (dk_at dksX0_paid_2 17 rfl rfl)
theorem dX0_paid_64 : decode cX0_paid 64 = .ok (.invokevirtual 150, 3) := dk_182 0 150 (dk_at dksX0_paid_2 20 rfl rfl)
theorem dX0_paid_67 : decode cX0_paid 67 = .ok (.pop, 1) := dk_87 (dk_at dksX0_paid_2 23 rfl rfl)
theorem dX0_paid_68 : decode cX0_paid 68 = .ok (.aload_n 0, 1) := dk_42 (dk_at dksX0_paid_3 0 rfl rfl)
theorem dX0_paid_69 : decode cX0_paid 69 = .ok (.getfield 26, 3) := dk_180 0 26 (dk_at dksX0_paid_3 1 rfl rfl)
theorem dX0_paid_72 : decode cX0_paid 72 = .ok (.getfield 452, 3) := dk_180 1 196 (dk_at dksX0_paid_3 4 rfl rfl)
theorem dX0_paid_75 : decode cX0_paid 75 = .ok (.invokevirtual 36, 3) := dk_182 0 36 (dk_at dksX0_paid_3 7 rfl rfl)
theorem dX0_paid_78 : decode cX0_paid 78 = .ok (.ireturn, 1) := dk_172 (dk_at dksX0_paid_3 10 rfl rfl)
abbrev cX0_pages : ByteArray := prog_1_method_68_code
def yX0_pages : MethodName := ⟨RX0, "pages", "(II)I"⟩
def dkwX0_pages_3 : List UInt8 := [42, 180, 0, 26, 180, 1, 204, 182, 0, 36, 172]
abbrev dktX0_pages_3 : List UInt8 := dkwX0_pages_3 ++ []
def dkwX0_pages_2 : List UInt8 := [182, 0, 119, 172, 42, 180, 0, 26, 180, 1, 204, 187, 1, 199, 89, 27, 28, 183, 1, 201, 182, 0, 150, 87]
abbrev dktX0_pages_2 : List UInt8 := dkwX0_pages_2 ++ dktX0_pages_3
def dkwX0_pages_1 : List UInt8 := [182, 0, 119, 172, 42, 180, 0, 26, 180, 1, 204, 182, 0, 36, 16, 40, 160, 0, 10, 42, 16, 252]
abbrev dktX0_pages_1 : List UInt8 := dkwX0_pages_1 ++ dktX0_pages_2
def dkwX0_pages_0 : List UInt8 := [27, 184, 0, 130, 153, 0, 15, 28, 133, 10, 20, 1, 202, 184, 0, 111, 154, 0, 10, 42, 16, 253]
abbrev dktX0_pages_0 : List UInt8 := dkwX0_pages_0 ++ dktX0_pages_1
theorem dksX0_pages_0 : cX0_pages.data.toList.drop 0 = dktX0_pages_0 := by decide +kernel
theorem dksX0_pages_1 : cX0_pages.data.toList.drop 22 = dktX0_pages_1 := dk_seg dksX0_pages_0 22 rfl rfl
theorem dksX0_pages_2 : cX0_pages.data.toList.drop 44 = dktX0_pages_2 := dk_seg dksX0_pages_1 22 rfl rfl
theorem dksX0_pages_3 : cX0_pages.data.toList.drop 68 = dktX0_pages_3 := dk_seg dksX0_pages_2 24 rfl rfl
theorem dX0_pages_0 : decode cX0_pages 0 = .ok (.iload_n 1, 1) := dk_27 (dk_at dksX0_pages_0 0 rfl rfl)
theorem dX0_pages_1 : decode cX0_pages 1 = .ok (.invokestatic 130, 3) := dk_184 0 130 (dk_at dksX0_pages_0 1 rfl rfl)
theorem dX0_pages_4 : decode cX0_pages 4 = .ok (.ifCond .eq 15, 3) := dk_153 0 15 (dk_at dksX0_pages_0 4 rfl rfl)
theorem dX0_pages_7 : decode cX0_pages 7 = .ok (.iload_n 2, 1) := dk_28 (dk_at dksX0_pages_0 7 rfl rfl)
theorem dX0_pages_8 : decode cX0_pages 8 = .ok (.i2l, 1) := dk_133 (dk_at dksX0_pages_0 8 rfl rfl)
theorem dX0_pages_9 : decode cX0_pages 9 = .ok (.lconst 1, 1) := dk_10 (dk_at dksX0_pages_0 9 rfl rfl)
theorem dX0_pages_10 : decode cX0_pages 10 = .ok (.ldc2_w 458, 3) := dk_20 1 202 (dk_at dksX0_pages_0 10 rfl rfl)
theorem dX0_pages_13 : decode cX0_pages 13 = .ok (.invokestatic 111, 3) := dk_184 0 111 (dk_at dksX0_pages_0 13 rfl rfl)
theorem dX0_pages_16 : decode cX0_pages 16 = .ok (.ifCond .ne 10, 3) := dk_154 0 10 (dk_at dksX0_pages_0 16 rfl rfl)
theorem dX0_pages_19 : decode cX0_pages 19 = .ok (.aload_n 0, 1) := dk_42 (dk_at dksX0_pages_0 19 rfl rfl)
theorem dX0_pages_20 : decode cX0_pages 20 = .ok (.bipush (-3), 2) := dk_16 253 (dk_at dksX0_pages_0 20 rfl rfl)
theorem dX0_pages_22 : decode cX0_pages 22 = .ok (.invokevirtual 119, 3) := dk_182 0 119 (dk_at dksX0_pages_1 0 rfl rfl)
theorem dX0_pages_25 : decode cX0_pages 25 = .ok (.ireturn, 1) := dk_172 (dk_at dksX0_pages_1 3 rfl rfl)
theorem dX0_pages_26 : decode cX0_pages 26 = .ok (.aload_n 0, 1) := dk_42 (dk_at dksX0_pages_1 4 rfl rfl)
theorem dX0_pages_27 : decode cX0_pages 27 = .ok (.getfield 26, 3) := dk_180 0 26 (dk_at dksX0_pages_1 5 rfl rfl)
theorem dX0_pages_30 : decode cX0_pages 30 = .ok (.getfield 460, 3) := dk_180 1 204 (dk_at dksX0_pages_1 8 rfl rfl)
theorem dX0_pages_33 : decode cX0_pages 33 = .ok (.invokevirtual 36, 3) := dk_182 0 36 (dk_at dksX0_pages_1 11 rfl rfl)
theorem dX0_pages_36 : decode cX0_pages 36 = .ok (.bipush 40, 2) := dk_16 40 (dk_at dksX0_pages_1 14 rfl rfl)
theorem dX0_pages_38 : decode cX0_pages 38 = .ok (.if_icmp .ne 10, 3) := dk_160 0 10 (dk_at dksX0_pages_1 16 rfl rfl)
theorem dX0_pages_41 : decode cX0_pages 41 = .ok (.aload_n 0, 1) := dk_42 (dk_at dksX0_pages_1 19 rfl rfl)
theorem dX0_pages_42 : decode cX0_pages 42 = .ok (.bipush (-4), 2) := dk_16 252 (dk_at dksX0_pages_1 20 rfl rfl)
theorem dX0_pages_44 : decode cX0_pages 44 = .ok (.invokevirtual 119, 3) := dk_182 0 119 (dk_at dksX0_pages_2 0 rfl rfl)
theorem dX0_pages_47 : decode cX0_pages 47 = .ok (.ireturn, 1) := dk_172 (dk_at dksX0_pages_2 3 rfl rfl)
theorem dX0_pages_48 : decode cX0_pages 48 = .ok (.aload_n 0, 1) := dk_42 (dk_at dksX0_pages_2 4 rfl rfl)
theorem dX0_pages_49 : decode cX0_pages 49 = .ok (.getfield 26, 3) := dk_180 0 26 (dk_at dksX0_pages_2 5 rfl rfl)
theorem dX0_pages_52 : decode cX0_pages 52 = .ok (.getfield 460, 3) := dk_180 1 204 (dk_at dksX0_pages_2 8 rfl rfl)
theorem dX0_pages_55 : decode cX0_pages 55 = .ok (.new 455, 3) := dk_187 1 199 (dk_at dksX0_pages_2 11 rfl rfl)
theorem dX0_pages_58 : decode cX0_pages 58 = .ok (.dup, 1) := dk_89 (dk_at dksX0_pages_2 14 rfl rfl)
theorem dX0_pages_59 : decode cX0_pages 59 = .ok (.iload_n 1, 1) := dk_27 (dk_at dksX0_pages_2 15 rfl rfl)
theorem dX0_pages_60 : decode cX0_pages 60 = .ok (.iload_n 2, 1) := dk_28 (dk_at dksX0_pages_2 16 rfl rfl)
theorem dX0_pages_61 : decode cX0_pages 61 = .ok (.invokespecial 457, 3) := dk_183 1 201 (dk_at dksX0_pages_2 17 rfl rfl)
theorem dX0_pages_64 : decode cX0_pages 64 = .ok (.invokevirtual 150, 3) := dk_182 0 150 (dk_at dksX0_pages_2 20 rfl rfl)
theorem dX0_pages_67 : decode cX0_pages 67 = .ok (.pop, 1) := dk_87 (dk_at dksX0_pages_2 23 rfl rfl)
theorem dX0_pages_68 : decode cX0_pages 68 = .ok (.aload_n 0, 1) := dk_42 (dk_at dksX0_pages_3 0 rfl rfl)
theorem dX0_pages_69 : decode cX0_pages 69 = .ok (.getfield 26, 3) := dk_180 0 26 (dk_at dksX0_pages_3 1 rfl rfl)
theorem dX0_pages_72 : decode cX0_pages 72 = .ok (.getfield 460, 3) := dk_180 1 204 (dk_at dksX0_pages_3 4 rfl rfl)
theorem dX0_pages_75 : decode cX0_pages 75 = .ok (.invokevirtual 36, 3) := dk_182 0 36 (dk_at dksX0_pages_3 7 rfl rfl)
theorem dX0_pages_78 : decode cX0_pages 78 = .ok (.ireturn, 1) := dk_172 (dk_at dksX0_pages_3 10 rfl rfl)
abbrev cX0_more : ByteArray := prog_1_method_70_code
def yX0_more : MethodName := ⟨RX0, "more", "(II)I"⟩
def dkwX0_more_5 : List UInt8 := [25, 5, 180, 1, 207, 4, 100, 182, 1, 213, 100, 96, 62, 132, 4, 1, 167, 255, 168, 29, 172]
abbrev dktX0_more_5 : List UInt8 := dkwX0_more_5 ++ []
def dkwX0_more_4 : List UInt8 := [180, 1, 207, 4, 96, 25, 5, 180, 1, 207, 28, 96, 182, 1, 213, 42, 25, 5, 180, 1, 207, 28, 100]
abbrev dktX0_more_4 : List UInt8 := dkwX0_more_4 ++ dktX0_more_5
def dkwX0_more_3 : List UInt8 := [192, 1, 199, 58, 5, 29, 27, 4, 160, 0, 11, 25, 5, 180, 1, 210, 167, 0, 40, 42, 25, 5]
abbrev dktX0_more_3 : List UInt8 := dkwX0_more_3 ++ dktX0_more_4
def dkwX0_more_2 : List UInt8 := [180, 0, 26, 180, 1, 196, 182, 0, 36, 162, 0, 79, 42, 180, 0, 26, 180, 1, 196, 21, 4, 182, 0, 42]
abbrev dktX0_more_2 : List UInt8 := dkwX0_more_2 ++ dktX0_more_3
def dkwX0_more_1 : List UInt8 := [20, 1, 194, 184, 0, 111, 154, 0, 10, 42, 16, 253, 182, 0, 119, 172, 3, 62, 3, 54, 4, 21, 4, 42]
abbrev dktX0_more_1 : List UInt8 := dkwX0_more_1 ++ dktX0_more_2
def dkwX0_more_0 : List UInt8 := [27, 133, 9, 10, 184, 0, 111, 154, 0, 10, 42, 16, 254, 182, 0, 119, 172, 27, 154, 0, 22, 28, 133, 10]
abbrev dktX0_more_0 : List UInt8 := dkwX0_more_0 ++ dktX0_more_1
theorem dksX0_more_0 : cX0_more.data.toList.drop 0 = dktX0_more_0 := by decide +kernel
theorem dksX0_more_1 : cX0_more.data.toList.drop 24 = dktX0_more_1 := dk_seg dksX0_more_0 24 rfl rfl
theorem dksX0_more_2 : cX0_more.data.toList.drop 48 = dktX0_more_2 := dk_seg dksX0_more_1 24 rfl rfl
theorem dksX0_more_3 : cX0_more.data.toList.drop 72 = dktX0_more_3 := dk_seg dksX0_more_2 24 rfl rfl
theorem dksX0_more_4 : cX0_more.data.toList.drop 94 = dktX0_more_4 := dk_seg dksX0_more_3 22 rfl rfl
theorem dksX0_more_5 : cX0_more.data.toList.drop 117 = dktX0_more_5 := dk_seg dksX0_more_4 23 rfl rfl
theorem dX0_more_0 : decode cX0_more 0 = .ok (.iload_n 1, 1) := dk_27 (dk_at dksX0_more_0 0 rfl rfl)
theorem dX0_more_1 : decode cX0_more 1 = .ok (.i2l, 1) := dk_133 (dk_at dksX0_more_0 1 rfl rfl)
theorem dX0_more_2 : decode cX0_more 2 = .ok (.lconst 0, 1) := dk_9 (dk_at dksX0_more_0 2 rfl rfl)
theorem dX0_more_3 : decode cX0_more 3 = .ok (.lconst 1, 1) := dk_10 (dk_at dksX0_more_0 3 rfl rfl)
theorem dX0_more_4 : decode cX0_more 4 = .ok (.invokestatic 111, 3) := dk_184 0 111 (dk_at dksX0_more_0 4 rfl rfl)
theorem dX0_more_7 : decode cX0_more 7 = .ok (.ifCond .ne 10, 3) := dk_154 0 10 (dk_at dksX0_more_0 7 rfl rfl)
theorem dX0_more_10 : decode cX0_more 10 = .ok (.aload_n 0, 1) := dk_42 (dk_at dksX0_more_0 10 rfl rfl)
theorem dX0_more_11 : decode cX0_more 11 = .ok (.bipush (-2), 2) := dk_16 254 (dk_at dksX0_more_0 11 rfl rfl)
theorem dX0_more_13 : decode cX0_more 13 = .ok (.invokevirtual 119, 3) := dk_182 0 119 (dk_at dksX0_more_0 13 rfl rfl)
theorem dX0_more_16 : decode cX0_more 16 = .ok (.ireturn, 1) := dk_172 (dk_at dksX0_more_0 16 rfl rfl)
theorem dX0_more_17 : decode cX0_more 17 = .ok (.iload_n 1, 1) := dk_27 (dk_at dksX0_more_0 17 rfl rfl)
theorem dX0_more_18 : decode cX0_more 18 = .ok (.ifCond .ne 22, 3) := dk_154 0 22 (dk_at dksX0_more_0 18 rfl rfl)
theorem dX0_more_21 : decode cX0_more 21 = .ok (.iload_n 2, 1) := dk_28 (dk_at dksX0_more_0 21 rfl rfl)
theorem dX0_more_22 : decode cX0_more 22 = .ok (.i2l, 1) := dk_133 (dk_at dksX0_more_0 22 rfl rfl)
theorem dX0_more_23 : decode cX0_more 23 = .ok (.lconst 1, 1) := dk_10 (dk_at dksX0_more_0 23 rfl rfl)
theorem dX0_more_24 : decode cX0_more 24 = .ok (.ldc2_w 450, 3) := dk_20 1 194 (dk_at dksX0_more_1 0 rfl rfl)
theorem dX0_more_27 : decode cX0_more 27 = .ok (.invokestatic 111, 3) := dk_184 0 111 (dk_at dksX0_more_1 3 rfl rfl)
theorem dX0_more_30 : decode cX0_more 30 = .ok (.ifCond .ne 10, 3) := dk_154 0 10 (dk_at dksX0_more_1 6 rfl rfl)
theorem dX0_more_33 : decode cX0_more 33 = .ok (.aload_n 0, 1) := dk_42 (dk_at dksX0_more_1 9 rfl rfl)
theorem dX0_more_34 : decode cX0_more 34 = .ok (.bipush (-3), 2) := dk_16 253 (dk_at dksX0_more_1 10 rfl rfl)
theorem dX0_more_36 : decode cX0_more 36 = .ok (.invokevirtual 119, 3) := dk_182 0 119 (dk_at dksX0_more_1 12 rfl rfl)
theorem dX0_more_39 : decode cX0_more 39 = .ok (.ireturn, 1) := dk_172 (dk_at dksX0_more_1 15 rfl rfl)
theorem dX0_more_40 : decode cX0_more 40 = .ok (.iconst 0, 1) := dk_3 (dk_at dksX0_more_1 16 rfl rfl)
theorem dX0_more_41 : decode cX0_more 41 = .ok (.istore_n 3, 1) := dk_62 (dk_at dksX0_more_1 17 rfl rfl)
theorem dX0_more_42 : decode cX0_more 42 = .ok (.iconst 0, 1) := dk_3 (dk_at dksX0_more_1 18 rfl rfl)
theorem dX0_more_43 : decode cX0_more 43 = .ok (.istore 4, 2) := dk_54 4 (dk_at dksX0_more_1 19 rfl rfl)
theorem dX0_more_45 : decode cX0_more 45 = .ok (.iload 4, 2) := dk_21 4 (dk_at dksX0_more_1 21 rfl rfl)
theorem dX0_more_47 : decode cX0_more 47 = .ok (.aload_n 0, 1) := dk_42 (dk_at dksX0_more_1 23 rfl rfl)
theorem dX0_more_48 : decode cX0_more 48 = .ok (.getfield 26, 3) := dk_180 0 26 (dk_at dksX0_more_2 0 rfl rfl)
theorem dX0_more_51 : decode cX0_more 51 = .ok (.getfield 452, 3) := dk_180 1 196 (dk_at dksX0_more_2 3 rfl rfl)
theorem dX0_more_54 : decode cX0_more 54 = .ok (.invokevirtual 36, 3) := dk_182 0 36 (dk_at dksX0_more_2 6 rfl rfl)
theorem dX0_more_57 : decode cX0_more 57 = .ok (.if_icmp .ge 79, 3) := dk_162 0 79 (dk_at dksX0_more_2 9 rfl rfl)
theorem dX0_more_60 : decode cX0_more 60 = .ok (.aload_n 0, 1) := dk_42 (dk_at dksX0_more_2 12 rfl rfl)
theorem dX0_more_61 : decode cX0_more 61 = .ok (.getfield 26, 3) := dk_180 0 26 (dk_at dksX0_more_2 13 rfl rfl)
theorem dX0_more_64 : decode cX0_more 64 = .ok (.getfield 452, 3) := dk_180 1 196 (dk_at dksX0_more_2 16 rfl rfl)
theorem dX0_more_67 : decode cX0_more 67 = .ok (.iload 4, 2) := dk_21 4 (dk_at dksX0_more_2 19 rfl rfl)
theorem dX0_more_69 : decode cX0_more 69 = .ok (.invokevirtual 42, 3) := dk_182 0 42 (dk_at dksX0_more_2 21 rfl rfl)
theorem dX0_more_72 : decode cX0_more 72 = .ok (.checkcast 455, 3) := dk_192 1 199 (dk_at dksX0_more_3 0 rfl rfl)
theorem dX0_more_75 : decode cX0_more 75 = .ok (.astore 5, 2) := dk_58 5 (dk_at dksX0_more_3 3 rfl rfl)
theorem dX0_more_77 : decode cX0_more 77 = .ok (.iload_n 3, 1) := dk_29 (dk_at dksX0_more_3 5 rfl rfl)
theorem dX0_more_78 : decode cX0_more 78 = .ok (.iload_n 1, 1) := dk_27 (dk_at dksX0_more_3 6 rfl rfl)
theorem dX0_more_79 : decode cX0_more 79 = .ok (.iconst 1, 1) := dk_4 (dk_at dksX0_more_3 7 rfl rfl)
theorem dX0_more_80 : decode cX0_more 80 = .ok (.if_icmp .ne 11, 3) := dk_160 0 11 (dk_at dksX0_more_3 8 rfl rfl)
theorem dX0_more_83 : decode cX0_more 83 = .ok (.aload 5, 2) := dk_25 5 (dk_at dksX0_more_3 11 rfl rfl)
theorem dX0_more_85 : decode cX0_more 85 = .ok (.getfield 466, 3) := dk_180 1 210 (dk_at dksX0_more_3 13 rfl rfl)
theorem dX0_more_88 : decode cX0_more 88 = .ok (.goto 40, 3) := dk_167 0 40 (dk_at dksX0_more_3 16 rfl rfl)
theorem dX0_more_91 : decode cX0_more 91 = .ok (.aload_n 0, 1) := dk_42 (dk_at dksX0_more_3 19 rfl rfl)
theorem dX0_more_92 : decode cX0_more 92 = .ok (.aload 5, 2) := dk_25 5 (dk_at dksX0_more_3 20 rfl rfl)
theorem dX0_more_94 : decode cX0_more 94 = .ok (.getfield 463, 3) := dk_180 1 207 (dk_at dksX0_more_4 0 rfl rfl)
theorem dX0_more_97 : decode cX0_more 97 = .ok (.iconst 1, 1) := dk_4 (dk_at dksX0_more_4 3 rfl rfl)
theorem dX0_more_98 : decode cX0_more 98 = .ok (.iadd, 1) := dk_96 (dk_at dksX0_more_4 4 rfl rfl)
theorem dX0_more_99 : decode cX0_more 99 = .ok (.aload 5, 2) := dk_25 5 (dk_at dksX0_more_4 5 rfl rfl)
theorem dX0_more_101 : decode cX0_more 101 = .ok (.getfield 463, 3) := dk_180 1 207 (dk_at dksX0_more_4 7 rfl rfl)
theorem dX0_more_104 : decode cX0_more 104 = .ok (.iload_n 2, 1) := dk_28 (dk_at dksX0_more_4 10 rfl rfl)
theorem dX0_more_105 : decode cX0_more 105 = .ok (.iadd, 1) := dk_96 (dk_at dksX0_more_4 11 rfl rfl)
theorem dX0_more_106 : decode cX0_more 106 = .ok (.invokevirtual 469, 3) := dk_182 1 213 (dk_at dksX0_more_4 12 rfl rfl)
theorem dX0_more_109 : decode cX0_more 109 = .ok (.aload_n 0, 1) := dk_42 (dk_at dksX0_more_4 15 rfl rfl)
theorem dX0_more_110 : decode cX0_more 110 = .ok (.aload 5, 2) := dk_25 5 (dk_at dksX0_more_4 16 rfl rfl)
theorem dX0_more_112 : decode cX0_more 112 = .ok (.getfield 463, 3) := dk_180 1 207 (dk_at dksX0_more_4 18 rfl rfl)
theorem dX0_more_115 : decode cX0_more 115 = .ok (.iload_n 2, 1) := dk_28 (dk_at dksX0_more_4 21 rfl rfl)
theorem dX0_more_116 : decode cX0_more 116 = .ok (.isub, 1) := dk_100 (dk_at dksX0_more_4 22 rfl rfl)
theorem dX0_more_117 : decode cX0_more 117 = .ok (.aload 5, 2) := dk_25 5 (dk_at dksX0_more_5 0 rfl rfl)
theorem dX0_more_119 : decode cX0_more 119 = .ok (.getfield 463, 3) := dk_180 1 207 (dk_at dksX0_more_5 2 rfl rfl)
theorem dX0_more_122 : decode cX0_more 122 = .ok (.iconst 1, 1) := dk_4 (dk_at dksX0_more_5 5 rfl rfl)
theorem dX0_more_123 : decode cX0_more 123 = .ok (.isub, 1) := dk_100 (dk_at dksX0_more_5 6 rfl rfl)
theorem dX0_more_124 : decode cX0_more 124 = .ok (.invokevirtual 469, 3) := dk_182 1 213 (dk_at dksX0_more_5 7 rfl rfl)
theorem dX0_more_127 : decode cX0_more 127 = .ok (.isub, 1) := dk_100 (dk_at dksX0_more_5 10 rfl rfl)
theorem dX0_more_128 : decode cX0_more 128 = .ok (.iadd, 1) := dk_96 (dk_at dksX0_more_5 11 rfl rfl)
theorem dX0_more_129 : decode cX0_more 129 = .ok (.istore_n 3, 1) := dk_62 (dk_at dksX0_more_5 12 rfl rfl)
theorem dX0_more_130 : decode cX0_more 130 = .ok (.iinc 4 1, 3) := dk_132 4 1 (dk_at dksX0_more_5 13 rfl rfl)
theorem dX0_more_133 : decode cX0_more 133 = .ok (.goto (-88), 3) := dk_167 255 168 (dk_at dksX0_more_5 16 rfl rfl)
theorem dX0_more_136 : decode cX0_more 136 = .ok (.iload_n 3, 1) := dk_29 (dk_at dksX0_more_5 19 rfl rfl)
theorem dX0_more_137 : decode cX0_more 137 = .ok (.ireturn, 1) := dk_172 (dk_at dksX0_more_5 20 rfl rfl)
