set_option maxRecDepth 100000
abbrev cX6_glen : ByteArray := prog_28_method_83_code
def yX6_glen : MethodName := ⟨RX6, "glen", "(II)I"⟩
def dkwX6_glen_6 : List UInt8 := [167, 0, 4, 3, 96, 62, 132, 4, 1, 167, 255, 147, 29, 172]
abbrev dktX6_glen_6 : List UInt8 := dkwX6_glen_6 ++ []
def dkwX6_glen_5 : List UInt8 := [54, 5, 29, 42, 180, 0, 17, 17, 2, 36, 21, 4, 96, 46, 27, 160, 0, 12, 21, 5, 153, 0, 7, 4]
abbrev dktX6_glen_5 : List UInt8 := dkwX6_glen_5 ++ dktX6_glen_6
def dkwX6_glen_4 : List UInt8 := [4, 159, 0, 17, 28, 6, 160, 0, 16, 42, 21, 4, 182, 1, 71, 153, 0, 7, 4, 167, 0, 4, 3]
abbrev dktX6_glen_4 : List UInt8 := dkwX6_glen_4 ++ dktX6_glen_5
def dkwX6_glen_3 : List UInt8 := [21, 4, 96, 46, 4, 159, 0, 37, 28, 5, 160, 0, 18, 42, 180, 0, 17, 17, 3, 20, 21, 4, 96, 46]
abbrev dktX6_glen_3 : List UInt8 := dkwX6_glen_3 ++ dktX6_glen_4
def dkwX6_glen_2 : List UInt8 := [17, 2, 35, 46, 162, 0, 102, 28, 153, 0, 57, 28, 4, 160, 0, 18, 42, 180, 0, 17, 17, 2, 216]
abbrev dktX6_glen_2 : List UInt8 := dkwX6_glen_2 ++ dktX6_glen_3
def dkwX6_glen_1 : List UInt8 := [184, 0, 81, 154, 0, 10, 42, 16, 254, 182, 0, 85, 172, 3, 62, 3, 54, 4, 21, 4, 42, 180, 0, 17]
abbrev dktX6_glen_1 : List UInt8 := dkwX6_glen_1 ++ dktX6_glen_2
def dkwX6_glen_0 : List UInt8 := [42, 3, 181, 0, 1, 27, 133, 9, 20, 0, 91, 184, 0, 81, 153, 0, 15, 28, 133, 9, 20, 1, 79]
abbrev dktX6_glen_0 : List UInt8 := dkwX6_glen_0 ++ dktX6_glen_1
theorem dksX6_glen_0 : cX6_glen.data.toList.drop 0 = dktX6_glen_0 := by decide +kernel
theorem dksX6_glen_1 : cX6_glen.data.toList.drop 23 = dktX6_glen_1 := dk_seg dksX6_glen_0 23 rfl rfl
theorem dksX6_glen_2 : cX6_glen.data.toList.drop 47 = dktX6_glen_2 := dk_seg dksX6_glen_1 24 rfl rfl
theorem dksX6_glen_3 : cX6_glen.data.toList.drop 70 = dktX6_glen_3 := dk_seg dksX6_glen_2 23 rfl rfl
theorem dksX6_glen_4 : cX6_glen.data.toList.drop 94 = dktX6_glen_4 := dk_seg dksX6_glen_3 24 rfl rfl
theorem dksX6_glen_5 : cX6_glen.data.toList.drop 117 = dktX6_glen_5 := dk_seg dksX6_glen_4 23 rfl rfl
theorem dksX6_glen_6 : cX6_glen.data.toList.drop 141 = dktX6_glen_6 := dk_seg dksX6_glen_5 24 rfl rfl
theorem dX6_glen_0 : decode cX6_glen 0 = .ok (.aload_n 0, 1) := dk_42 (dk_at dksX6_glen_0 0 rfl rfl)
theorem dX6_glen_1 : decode cX6_glen 1 = .ok (.iconst 0, 1) := dk_3 (dk_at dksX6_glen_0 1 rfl rfl)
theorem dX6_glen_2 : decode cX6_glen 2 = .ok (.putfield 1, 3) := dk_181 0 1 (dk_at dksX6_glen_0 2 rfl rfl)
theorem dX6_glen_5 : decode cX6_glen 5 = .ok (.iload_n 1, 1) := dk_27 (dk_at dksX6_glen_0 5 rfl rfl)
theorem dX6_glen_6 : decode cX6_glen 6 = .ok (.i2l, 1) := dk_133 (dk_at dksX6_glen_0 6 rfl rfl)
theorem dX6_glen_7 : decode cX6_glen 7 = .ok (.lconst 0, 1) := dk_9 (dk_at dksX6_glen_0 7 rfl rfl)
theorem dX6_glen_8 : decode cX6_glen 8 = .ok (.ldc2_w 91, 3) := dk_20 0 91 (dk_at dksX6_glen_0 8 rfl rfl)
theorem dX6_glen_11 : decode cX6_glen 11 = .ok (.invokestatic 81, 3) := dk_184 0 81 (dk_at dksX6_glen_0 11 rfl rfl)
theorem dX6_glen_14 : decode cX6_glen 14 = .ok (.ifCond .eq 15, 3) := dk_153 0 15 (dk_at dksX6_glen_0 14 rfl rfl)
theorem dX6_glen_17 : decode cX6_glen 17 = .ok (.iload_n 2, 1) := dk_28 (dk_at dksX6_glen_0 17 rfl rfl)
theorem dX6_glen_18 : decode cX6_glen 18 = .ok (.i2l, 1) := dk_133 (dk_at dksX6_glen_0 18 rfl rfl)
theorem dX6_glen_19 : decode cX6_glen 19 = .ok (.lconst 0, 1) := dk_9 (dk_at dksX6_glen_0 19 rfl rfl)
theorem dX6_glen_20 : decode cX6_glen 20 = .ok (.ldc2_w 335, 3) := dk_20 1 79 (dk_at dksX6_glen_0 20 rfl rfl)
theorem dX6_glen_23 : decode cX6_glen 23 = .ok (.invokestatic 81, 3) := dk_184 0 81 (dk_at dksX6_glen_1 0 rfl rfl)
theorem dX6_glen_26 : decode cX6_glen 26 = .ok (.ifCond .ne 10, 3) := dk_154 0 10 (dk_at dksX6_glen_1 3 rfl rfl)
theorem dX6_glen_29 : decode cX6_glen 29 = .ok (.aload_n 0, 1) := dk_42 (dk_at dksX6_glen_1 6 rfl rfl)
theorem dX6_glen_30 : decode cX6_glen 30 = .ok (.bipush (-2), 2) := dk_16 254 (dk_at dksX6_glen_1 7 rfl rfl)
theorem dX6_glen_32 : decode cX6_glen 32 = .ok (.invokevirtual 85, 3) := dk_182 0 85 (dk_at dksX6_glen_1 9 rfl rfl)
theorem dX6_glen_35 : decode cX6_glen 35 = .ok (.ireturn, 1) := dk_172 (dk_at dksX6_glen_1 12 rfl rfl)
theorem dX6_glen_36 : decode cX6_glen 36 = .ok (.iconst 0, 1) := dk_3 (dk_at dksX6_glen_1 13 rfl rfl)
theorem dX6_glen_37 : decode cX6_glen 37 = .ok (.istore_n 3, 1) := dk_62 (dk_at dksX6_glen_1 14 rfl rfl)
theorem dX6_glen_38 : decode cX6_glen 38 = .ok (.iconst 0, 1) := dk_3 (dk_at dksX6_glen_1 15 rfl rfl)
theorem dX6_glen_39 : decode cX6_glen 39 = .ok (.istore 4, 2) := dk_54 4 (dk_at dksX6_glen_1 16 rfl rfl)
theorem dX6_glen_41 : decode cX6_glen 41 = .ok (.iload 4, 2) := dk_21 4 (dk_at dksX6_glen_1 18 rfl rfl)
theorem dX6_glen_43 : decode cX6_glen 43 = .ok (.aload_n 0, 1) := dk_42 (dk_at dksX6_glen_1 20 rfl rfl)
theorem dX6_glen_44 : decode cX6_glen 44 = .ok (.getfield 17, 3) := dk_180 0 17 (dk_at dksX6_glen_1 21 rfl rfl)
theorem dX6_glen_47 : decode cX6_glen 47 = .ok (.sipush 547, 3) := dk_17 2 35 (dk_at dksX6_glen_2 0 rfl rfl)
theorem dX6_glen_50 : decode cX6_glen 50 = .ok (.iaload, 1) := dk_46 (dk_at dksX6_glen_2 3 rfl rfl)
theorem dX6_glen_51 : decode cX6_glen 51 = .ok (.if_icmp .ge 102, 3) := dk_162 0 102 (dk_at dksX6_glen_2 4 rfl rfl)
theorem dX6_glen_54 : decode cX6_glen 54 = .ok (.iload_n 2, 1) := dk_28 (dk_at dksX6_glen_2 7 rfl rfl)
theorem dX6_glen_55 : decode cX6_glen 55 = .ok (.ifCond .eq 57, 3) := dk_153 0 57 (dk_at dksX6_glen_2 8 rfl rfl)
theorem dX6_glen_58 : decode cX6_glen 58 = .ok (.iload_n 2, 1) := dk_28 (dk_at dksX6_glen_2 11 rfl rfl)
theorem dX6_glen_59 : decode cX6_glen 59 = .ok (.iconst 1, 1) := dk_4 (dk_at dksX6_glen_2 12 rfl rfl)
theorem dX6_glen_60 : decode cX6_glen 60 = .ok (.if_icmp .ne 18, 3) := dk_160 0 18 (dk_at dksX6_glen_2 13 rfl rfl)
theorem dX6_glen_63 : decode cX6_glen 63 = .ok (.aload_n 0, 1) := dk_42 (dk_at dksX6_glen_2 16 rfl rfl)
theorem dX6_glen_64 : decode cX6_glen 64 = .ok (.getfield 17, 3) := dk_180 0 17 (dk_at dksX6_glen_2 17 rfl rfl)
theorem dX6_glen_67 : decode cX6_glen 67 = .ok (.sipush 728, 3) := dk_17 2 216 (dk_at dksX6_glen_2 20 rfl rfl)
theorem dX6_glen_70 : decode cX6_glen 70 = .ok (.iload 4, 2) := dk_21 4 (dk_at dksX6_glen_3 0 rfl rfl)
theorem dX6_glen_72 : decode cX6_glen 72 = .ok (.iadd, 1) := dk_96 (dk_at dksX6_glen_3 2 rfl rfl)
theorem dX6_glen_73 : decode cX6_glen 73 = .ok (.iaload, 1) := dk_46 (dk_at dksX6_glen_3 3 rfl rfl)
theorem dX6_glen_74 : decode cX6_glen 74 = .ok (.iconst 1, 1) := dk_4 (dk_at dksX6_glen_3 4 rfl rfl)
theorem dX6_glen_75 : decode cX6_glen 75 = .ok (.if_icmp .eq 37, 3) := dk_159 0 37 (dk_at dksX6_glen_3 5 rfl rfl)
theorem dX6_glen_78 : decode cX6_glen 78 = .ok (.iload_n 2, 1) := dk_28 (dk_at dksX6_glen_3 8 rfl rfl)
theorem dX6_glen_79 : decode cX6_glen 79 = .ok (.iconst 2, 1) := dk_5 (dk_at dksX6_glen_3 9 rfl rfl)
theorem dX6_glen_80 : decode cX6_glen 80 = .ok (.if_icmp .ne 18, 3) := dk_160 0 18 (dk_at dksX6_glen_3 10 rfl rfl)
theorem dX6_glen_83 : decode cX6_glen 83 = .ok (.aload_n 0, 1) := dk_42 (dk_at dksX6_glen_3 13 rfl rfl)
theorem dX6_glen_84 : decode cX6_glen 84 = .ok (.getfield 17, 3) := dk_180 0 17 (dk_at dksX6_glen_3 14 rfl rfl)
theorem dX6_glen_87 : decode cX6_glen 87 = .ok (.sipush 788, 3) := dk_17 3 20 (dk_at dksX6_glen_3 17 rfl rfl)
theorem dX6_glen_90 : decode cX6_glen 90 = .ok (.iload 4, 2) := dk_21 4 (dk_at dksX6_glen_3 20 rfl rfl)
theorem dX6_glen_92 : decode cX6_glen 92 = .ok (.iadd, 1) := dk_96 (dk_at dksX6_glen_3 22 rfl rfl)
theorem dX6_glen_93 : decode cX6_glen 93 = .ok (.iaload, 1) := dk_46 (dk_at dksX6_glen_3 23 rfl rfl)
theorem dX6_glen_94 : decode cX6_glen 94 = .ok (.iconst 1, 1) := dk_4 (dk_at dksX6_glen_4 0 rfl rfl)
theorem dX6_glen_95 : decode cX6_glen 95 = .ok (.if_icmp .eq 17, 3) := dk_159 0 17 (dk_at dksX6_glen_4 1 rfl rfl)
theorem dX6_glen_98 : decode cX6_glen 98 = .ok (.iload_n 2, 1) := dk_28 (dk_at dksX6_glen_4 4 rfl rfl)
theorem dX6_glen_99 : decode cX6_glen 99 = .ok (.iconst 3, 1) := dk_6 (dk_at dksX6_glen_4 5 rfl rfl)
theorem dX6_glen_100 : decode cX6_glen 100 = .ok (.if_icmp .ne 16, 3) := dk_160 0 16 (dk_at dksX6_glen_4 6 rfl rfl)
theorem dX6_glen_103 : decode cX6_glen 103 = .ok (.aload_n 0, 1) := dk_42 (dk_at dksX6_glen_4 9 rfl rfl)
theorem dX6_glen_104 : decode cX6_glen 104 = .ok (.iload 4, 2) := dk_21 4 (dk_at dksX6_glen_4 10 rfl rfl)
theorem dX6_glen_106 : decode cX6_glen 106 = .ok (.invokevirtual 327, 3) := dk_182 1 71 (dk_at dksX6_glen_4 12 rfl rfl)
theorem dX6_glen_109 : decode cX6_glen 109 = .ok (.ifCond .eq 7, 3) := dk_153 0 7 (dk_at dksX6_glen_4 15 rfl rfl)
theorem dX6_glen_112 : decode cX6_glen 112 = .ok (.iconst 1, 1) := dk_4 (dk_at dksX6_glen_4 18 rfl rfl)
theorem dX6_glen_113 : decode cX6_glen 113 = .ok (.goto 4, 3) := dk_167 0 4 (dk_at dksX6_glen_4 19 rfl rfl)
theorem dX6_glen_116 : decode cX6_glen 116 = .ok (.iconst 0, 1) := dk_3 (dk_at dksX6_glen_4 22 rfl rfl)
theorem dX6_glen_117 : decode cX6_glen 117 = .ok (.istore 5, 2) := dk_54 5 (dk_at dksX6_glen_5 0 rfl rfl)
theorem dX6_glen_119 : decode cX6_glen 119 = .ok (.iload_n 3, 1) := dk_29 (dk_at dksX6_glen_5 2 rfl rfl)
theorem dX6_glen_120 : decode cX6_glen 120 = .ok (.aload_n 0, 1) := dk_42 (dk_at dksX6_glen_5 3 rfl rfl)
theorem dX6_glen_121 : decode cX6_glen 121 = .ok (.getfield 17, 3) := dk_180 0 17 (dk_at dksX6_glen_5 4 rfl rfl)
theorem dX6_glen_124 : decode cX6_glen 124 = .ok (.sipush 548, 3) := dk_17 2 36 (dk_at dksX6_glen_5 7 rfl rfl)
theorem dX6_glen_127 : decode cX6_glen 127 = .ok (.iload 4, 2) := dk_21 4 (dk_at dksX6_glen_5 10 rfl rfl)
theorem dX6_glen_129 : decode cX6_glen 129 = .ok (.iadd, 1) := dk_96 (dk_at dksX6_glen_5 12 rfl rfl)
theorem dX6_glen_130 : decode cX6_glen 130 = .ok (.iaload, 1) := dk_46 (dk_at dksX6_glen_5 13 rfl rfl)
theorem dX6_glen_131 : decode cX6_glen 131 = .ok (.iload_n 1, 1) := dk_27 (dk_at dksX6_glen_5 14 rfl rfl)
theorem dX6_glen_132 : decode cX6_glen 132 = .ok (.if_icmp .ne 12, 3) := dk_160 0 12 (dk_at dksX6_glen_5 15 rfl rfl)
theorem dX6_glen_135 : decode cX6_glen 135 = .ok (.iload 5, 2) := dk_21 5 (dk_at dksX6_glen_5 18 rfl rfl)
theorem dX6_glen_137 : decode cX6_glen 137 = .ok (.ifCond .eq 7, 3) := dk_153 0 7 (dk_at dksX6_glen_5 20 rfl rfl)
theorem dX6_glen_140 : decode cX6_glen 140 = .ok (.iconst 1, 1) := dk_4 (dk_at dksX6_glen_5 23 rfl rfl)
theorem dX6_glen_141 : decode cX6_glen 141 = .ok (.goto 4, 3) := dk_167 0 4 (dk_at dksX6_glen_6 0 rfl rfl)
theorem dX6_glen_144 : decode cX6_glen 144 = .ok (.iconst 0, 1) := dk_3 (dk_at dksX6_glen_6 3 rfl rfl)
theorem dX6_glen_145 : decode cX6_glen 145 = .ok (.iadd, 1) := dk_96 (dk_at dksX6_glen_6 4 rfl rfl)
theorem dX6_glen_146 : decode cX6_glen 146 = .ok (.istore_n 3, 1) := dk_62 (dk_at dksX6_glen_6 5 rfl rfl)
theorem dX6_glen_147 : decode cX6_glen 147 = .ok (.iinc 4 1, 3) := dk_132 4 1 (dk_at dksX6_glen_6 6 rfl rfl)
theorem dX6_glen_150 : decode cX6_glen 150 = .ok (.goto (-109), 3) := dk_167 255 147 (dk_at dksX6_glen_6 9 rfl rfl)
theorem dX6_glen_153 : decode cX6_glen 153 = .ok (.iload_n 3, 1) := dk_29 (dk_at dksX6_glen_6 12 rfl rfl)
theorem dX6_glen_154 : decode cX6_glen 154 = .ok (.ireturn, 1) := dk_172 (dk_at dksX6_glen_6 13 rfl rfl)
abbrev cX6_paid : ByteArray := prog_28_method_84_code
def yX6_paid : MethodName := ⟨RX6, "paid", "(II)I"⟩
def dkwX6_paid_4 : List UInt8 := [180, 0, 17, 17, 3, 80, 92, 46, 4, 96, 79, 42, 180, 0, 17, 17, 3, 80, 46, 172]
abbrev dktX6_paid_4 : List UInt8 := dkwX6_paid_4 ++ []
def dkwX6_paid_3 : List UInt8 := [46, 96, 27, 79, 42, 180, 0, 17, 17, 3, 101, 42, 180, 0, 17, 17, 3, 80, 46, 96, 28, 79, 42]
abbrev dktX6_paid_3 : List UInt8 := dkwX6_paid_3 ++ dktX6_paid_4
def dkwX6_paid_2 : List UInt8 := [160, 0, 10, 42, 16, 252, 182, 0, 85, 172, 42, 180, 0, 17, 17, 3, 81, 42, 180, 0, 17, 17, 3, 80]
abbrev dktX6_paid_2 : List UInt8 := dkwX6_paid_2 ++ dktX6_paid_3
def dkwX6_paid_1 : List UInt8 := [184, 0, 81, 154, 0, 10, 42, 16, 253, 182, 0, 85, 172, 42, 180, 0, 17, 17, 3, 80, 46, 16, 20]
abbrev dktX6_paid_1 : List UInt8 := dkwX6_paid_1 ++ dktX6_paid_2
def dkwX6_paid_0 : List UInt8 := [42, 3, 181, 0, 1, 27, 133, 9, 20, 0, 93, 184, 0, 81, 153, 0, 15, 28, 133, 10, 20, 1, 81]
abbrev dktX6_paid_0 : List UInt8 := dkwX6_paid_0 ++ dktX6_paid_1
theorem dksX6_paid_0 : cX6_paid.data.toList.drop 0 = dktX6_paid_0 := by decide +kernel
theorem dksX6_paid_1 : cX6_paid.data.toList.drop 23 = dktX6_paid_1 := dk_seg dksX6_paid_0 23 rfl rfl
theorem dksX6_paid_2 : cX6_paid.data.toList.drop 46 = dktX6_paid_2 := dk_seg dksX6_paid_1 23 rfl rfl
theorem dksX6_paid_3 : cX6_paid.data.toList.drop 70 = dktX6_paid_3 := dk_seg dksX6_paid_2 24 rfl rfl
theorem dksX6_paid_4 : cX6_paid.data.toList.drop 93 = dktX6_paid_4 := dk_seg dksX6_paid_3 23 rfl rfl
theorem dX6_paid_0 : decode cX6_paid 0 = .ok (.aload_n 0, 1) := dk_42 (dk_at dksX6_paid_0 0 rfl rfl)
theorem dX6_paid_1 : decode cX6_paid 1 = .ok (.iconst 0, 1) := dk_3 (dk_at dksX6_paid_0 1 rfl rfl)
theorem dX6_paid_2 : decode cX6_paid 2 = .ok (.putfield 1, 3) := dk_181 0 1 (dk_at dksX6_paid_0 2 rfl rfl)
theorem dX6_paid_5 : decode cX6_paid 5 = .ok (.iload_n 1, 1) := dk_27 (dk_at dksX6_paid_0 5 rfl rfl)
theorem dX6_paid_6 : decode cX6_paid 6 = .ok (.i2l, 1) := dk_133 (dk_at dksX6_paid_0 6 rfl rfl)
theorem dX6_paid_7 : decode cX6_paid 7 = .ok (.lconst 0, 1) := dk_9 (dk_at dksX6_paid_0 7 rfl rfl)
theorem dX6_paid_8 : decode cX6_paid 8 = .ok (.ldc2_w 93, 3) := dk_20 0 93 (dk_at dksX6_paid_0 8 rfl rfl)
theorem dX6_paid_11 : decode cX6_paid 11 = .ok (.invokestatic 81, 3) := dk_184 0 81 (dk_at dksX6_paid_0 11 rfl rfl)
theorem dX6_paid_14 : decode cX6_paid 14 = .ok (.ifCond .eq 15, 3) := dk_153 0 15 (dk_at dksX6_paid_0 14 rfl rfl)
theorem dX6_paid_17 : decode cX6_paid 17 = .ok (.iload_n 2, 1) := dk_28 (dk_at dksX6_paid_0 17 rfl rfl)
theorem dX6_paid_18 : decode cX6_paid 18 = .ok (.i2l, 1) := dk_133 (dk_at dksX6_paid_0 18 rfl rfl)
theorem dX6_paid_19 : decode cX6_paid 19 = .ok (.lconst 1, 1) := dk_10 (dk_at dksX6_paid_0 19 rfl rfl)
theorem dX6_paid_20 : decode cX6_paid 20 = .ok (.ldc2_w 337, 3) := dk_20 1 81 (dk_at dksX6_paid_0 20 rfl rfl)
theorem dX6_paid_23 : decode cX6_paid 23 = .ok (.invokestatic 81, 3) := dk_184 0 81 (dk_at dksX6_paid_1 0 rfl rfl)
theorem dX6_paid_26 : decode cX6_paid 26 = .ok (.ifCond .ne 10, 3) := dk_154 0 10 (dk_at dksX6_paid_1 3 rfl rfl)
theorem dX6_paid_29 : decode cX6_paid 29 = .ok (.aload_n 0, 1) := dk_42 (dk_at dksX6_paid_1 6 rfl rfl)
theorem dX6_paid_30 : decode cX6_paid 30 = .ok (.bipush (-3), 2) := dk_16 253 (dk_at dksX6_paid_1 7 rfl rfl)
theorem dX6_paid_32 : decode cX6_paid 32 = .ok (.invokevirtual 85, 3) := dk_182 0 85 (dk_at dksX6_paid_1 9 rfl rfl)
theorem dX6_paid_35 : decode cX6_paid 35 = .ok (.ireturn, 1) := dk_172 (dk_at dksX6_paid_1 12 rfl rfl)
theorem dX6_paid_36 : decode cX6_paid 36 = .ok (.aload_n 0, 1) := dk_42 (dk_at dksX6_paid_1 13 rfl rfl)
theorem dX6_paid_37 : decode cX6_paid 37 = .ok (.getfield 17, 3) := dk_180 0 17 (dk_at dksX6_paid_1 14 rfl rfl)
theorem dX6_paid_40 : decode cX6_paid 40 = .ok (.sipush 848, 3) := dk_17 3 80 (dk_at dksX6_paid_1 17 rfl rfl)
theorem dX6_paid_43 : decode cX6_paid 43 = .ok (.iaload, 1) := dk_46 (dk_at dksX6_paid_1 20 rfl rfl)
theorem dX6_paid_44 : decode cX6_paid 44 = .ok (.bipush 20, 2) := dk_16 20 (dk_at dksX6_paid_1 21 rfl rfl)
theorem dX6_paid_46 : decode cX6_paid 46 = .ok (.if_icmp .ne 10, 3) := dk_160 0 10 (dk_at dksX6_paid_2 0 rfl rfl)
theorem dX6_paid_49 : decode cX6_paid 49 = .ok (.aload_n 0, 1) := dk_42 (dk_at dksX6_paid_2 3 rfl rfl)
theorem dX6_paid_50 : decode cX6_paid 50 = .ok (.bipush (-4), 2) := dk_16 252 (dk_at dksX6_paid_2 4 rfl rfl)
theorem dX6_paid_52 : decode cX6_paid 52 = .ok (.invokevirtual 85, 3) := dk_182 0 85 (dk_at dksX6_paid_2 6 rfl rfl)
theorem dX6_paid_55 : decode cX6_paid 55 = .ok (.ireturn, 1) := dk_172 (dk_at dksX6_paid_2 9 rfl rfl)
theorem dX6_paid_56 : decode cX6_paid 56 = .ok (.aload_n 0, 1) := dk_42 (dk_at dksX6_paid_2 10 rfl rfl)
theorem dX6_paid_57 : decode cX6_paid 57 = .ok (.getfield 17, 3) := dk_180 0 17 (dk_at dksX6_paid_2 11 rfl rfl)
theorem dX6_paid_60 : decode cX6_paid 60 = .ok (.sipush 849, 3) := dk_17 3 81 (dk_at dksX6_paid_2 14 rfl rfl)
theorem dX6_paid_63 : decode cX6_paid 63 = .ok (.aload_n 0, 1) := dk_42 (dk_at dksX6_paid_2 17 rfl rfl)
theorem dX6_paid_64 : decode cX6_paid 64 = .ok (.getfield 17, 3) := dk_180 0 17 (dk_at dksX6_paid_2 18 rfl rfl)
theorem dX6_paid_67 : decode cX6_paid 67 = .ok (.sipush 848, 3) := dk_17 3 80 (dk_at dksX6_paid_2 21 rfl rfl)
theorem dX6_paid_70 : decode cX6_paid 70 = .ok (.iaload, 1) := dk_46 (dk_at dksX6_paid_3 0 rfl rfl)
theorem dX6_paid_71 : decode cX6_paid 71 = .ok (.iadd, 1) := dk_96 (dk_at dksX6_paid_3 1 rfl rfl)
theorem dX6_paid_72 : decode cX6_paid 72 = .ok (.iload_n 1, 1) := dk_27 (dk_at dksX6_paid_3 2 rfl rfl)
theorem dX6_paid_73 : decode cX6_paid 73 = .ok (.iastore, 1) := dk_79 (dk_at dksX6_paid_3 3 rfl rfl)
theorem dX6_paid_74 : decode cX6_paid 74 = .ok (.aload_n 0, 1) := dk_42 (dk_at dksX6_paid_3 4 rfl rfl)
theorem dX6_paid_75 : decode cX6_paid 75 = .ok (.getfield 17, 3) := dk_180 0 17 (dk_at dksX6_paid_3 5 rfl rfl)
theorem dX6_paid_78 : decode cX6_paid 78 = .ok (.sipush 869, 3) := dk_17 3 101 (dk_at dksX6_paid_3 8 rfl rfl)
theorem dX6_paid_81 : decode cX6_paid 81 = .ok (.aload_n 0, 1) := dk_42 (dk_at dksX6_paid_3 11 rfl rfl)
theorem dX6_paid_82 : decode cX6_paid 82 = .ok (.getfield 17, 3) := dk_180 0 17 (dk_at dksX6_paid_3 12 rfl rfl)
theorem dX6_paid_85 : decode cX6_paid 85 = .ok (.sipush 848, 3) := dk_17 3 80 (dk_at dksX6_paid_3 15 rfl rfl)
theorem dX6_paid_88 : decode cX6_paid 88 = .ok (.iaload, 1) := dk_46 (dk_at dksX6_paid_3 18 rfl rfl)
theorem dX6_paid_89 : decode cX6_paid 89 = .ok (.iadd, 1) := dk_96 (dk_at dksX6_paid_3 19 rfl rfl)
theorem dX6_paid_90 : decode cX6_paid 90 = .ok (.iload_n 2, 1) := dk_28 (dk_at dksX6_paid_3 20 rfl rfl)
theorem dX6_paid_91 : decode cX6_paid 91 = .ok (.iastore, 1) := dk_79 (dk_at dksX6_paid_3 21 rfl rfl)
theorem dX6_paid_92 : decode cX6_paid 92 = .ok (.aload_n 0, 1) := dk_42 (dk_at dksX6_paid_3 22 rfl rfl)
theorem dX6_paid_93 : decode cX6_paid 93 = .ok (.getfield 17, 3) := dk_180 0 17 (dk_at dksX6_paid_4 0 rfl rfl)
theorem dX6_paid_96 : decode cX6_paid 96 = .ok (.sipush 848, 3) := dk_17 3 80 (dk_at dksX6_paid_4 3 rfl rfl)
theorem dX6_paid_99 : decode cX6_paid 99 = .ok (.dup2, 1) := dk_92 (dk_at dksX6_paid_4 6 rfl rfl)
theorem dX6_paid_100 : decode cX6_paid 100 = .ok (.iaload, 1) := dk_46 (dk_at dksX6_paid_4 7 rfl rfl)
theorem dX6_paid_101 : decode cX6_paid 101 = .ok (.iconst 1, 1) := dk_4 (dk_at dksX6_paid_4 8 rfl rfl)
theorem dX6_paid_102 : decode cX6_paid 102 = .ok (.iadd, 1) := dk_96 (dk_at dksX6_paid_4 9 rfl rfl)
theorem dX6_paid_103 : decode cX6_paid 103 = .ok (.iastore, 1) := dk_79 (dk_at dksX6_paid_4 10 rfl rfl)
theorem dX6_paid_104 : decode cX6_paid 104 = .ok (.aload_n 0, 1) := dk_42 (dk_at dksX6_paid_4 11 rfl rfl)
theorem dX6_paid_105 : decode cX6_paid 105 = .ok (.getfield 17, 3) := dk_180 0 17 (dk_at dksX6_paid_4 12 rfl rfl)
theorem dX6_paid_108 : decode cX6_paid 108 = .ok (.sipush 848, 3) := dk_17 3 80 (dk_at dksX6_paid_4 15 rfl rfl)
theorem dX6_paid_111 : decode cX6_paid 111 = .ok (.iaload, 1) := dk_46 (dk_at dksX6_paid_4 18 rfl rfl)
theorem dX6_paid_112 : decode cX6_paid 112 = .ok (.ireturn, 1) := dk_172 (dk_at dksX6_paid_4 19 rfl rfl)
abbrev cX6_pages : ByteArray := prog_28_method_85_code
def yX6_pages : MethodName := ⟨RX6, "pages", "(II)I"⟩
def dkwX6_pages_4 : List UInt8 := [180, 0, 17, 17, 3, 121, 92, 46, 4, 96, 79, 42, 180, 0, 17, 17, 3, 121, 46, 172]
abbrev dktX6_pages_4 : List UInt8 := dkwX6_pages_4 ++ []
def dkwX6_pages_3 : List UInt8 := [46, 96, 27, 79, 42, 180, 0, 17, 17, 3, 162, 42, 180, 0, 17, 17, 3, 121, 46, 96, 28, 79, 42]
abbrev dktX6_pages_3 : List UInt8 := dkwX6_pages_3 ++ dktX6_pages_4
def dkwX6_pages_2 : List UInt8 := [160, 0, 10, 42, 16, 252, 182, 0, 85, 172, 42, 180, 0, 17, 17, 3, 122, 42, 180, 0, 17, 17, 3, 121]
abbrev dktX6_pages_2 : List UInt8 := dkwX6_pages_2 ++ dktX6_pages_3
def dkwX6_pages_1 : List UInt8 := [184, 0, 81, 154, 0, 10, 42, 16, 253, 182, 0, 85, 172, 42, 180, 0, 17, 17, 3, 121, 46, 16, 40]
abbrev dktX6_pages_1 : List UInt8 := dkwX6_pages_1 ++ dktX6_pages_2
def dkwX6_pages_0 : List UInt8 := [42, 3, 181, 0, 1, 27, 133, 9, 20, 0, 93, 184, 0, 81, 153, 0, 15, 28, 133, 10, 20, 1, 83]
abbrev dktX6_pages_0 : List UInt8 := dkwX6_pages_0 ++ dktX6_pages_1
theorem dksX6_pages_0 : cX6_pages.data.toList.drop 0 = dktX6_pages_0 := by decide +kernel
theorem dksX6_pages_1 : cX6_pages.data.toList.drop 23 = dktX6_pages_1 := dk_seg dksX6_pages_0 23 rfl rfl
theorem dksX6_pages_2 : cX6_pages.data.toList.drop 46 = dktX6_pages_2 := dk_seg dksX6_pages_1 23 rfl rfl
theorem dksX6_pages_3 : cX6_pages.data.toList.drop 70 = dktX6_pages_3 := dk_seg dksX6_pages_2 24 rfl rfl
theorem dksX6_pages_4 : cX6_pages.data.toList.drop 93 = dktX6_pages_4 := dk_seg dksX6_pages_3 23 rfl rfl
theorem dX6_pages_0 : decode cX6_pages 0 = .ok (.aload_n 0, 1) := dk_42 (dk_at dksX6_pages_0 0 rfl rfl)
theorem dX6_pages_1 : decode cX6_pages 1 = .ok (.iconst 0, 1) := dk_3 (dk_at dksX6_pages_0 1 rfl rfl)
theorem dX6_pages_2 : decode cX6_pages 2 = .ok (.putfield 1, 3) := dk_181 0 1 (dk_at dksX6_pages_0 2 rfl rfl)
theorem dX6_pages_5 : decode cX6_pages 5 = .ok (.iload_n 1, 1) := dk_27 (dk_at dksX6_pages_0 5 rfl rfl)
theorem dX6_pages_6 : decode cX6_pages 6 = .ok (.i2l, 1) := dk_133 (dk_at dksX6_pages_0 6 rfl rfl)
theorem dX6_pages_7 : decode cX6_pages 7 = .ok (.lconst 0, 1) := dk_9 (dk_at dksX6_pages_0 7 rfl rfl)
theorem dX6_pages_8 : decode cX6_pages 8 = .ok (.ldc2_w 93, 3) := dk_20 0 93 (dk_at dksX6_pages_0 8 rfl rfl)
theorem dX6_pages_11 : decode cX6_pages 11 = .ok (.invokestatic 81, 3) := dk_184 0 81 (dk_at dksX6_pages_0 11 rfl rfl)
theorem dX6_pages_14 : decode cX6_pages 14 = .ok (.ifCond .eq 15, 3) := dk_153 0 15 (dk_at dksX6_pages_0 14 rfl rfl)
theorem dX6_pages_17 : decode cX6_pages 17 = .ok (.iload_n 2, 1) := dk_28 (dk_at dksX6_pages_0 17 rfl rfl)
theorem dX6_pages_18 : decode cX6_pages 18 = .ok (.i2l, 1) := dk_133 (dk_at dksX6_pages_0 18 rfl rfl)
theorem dX6_pages_19 : decode cX6_pages 19 = .ok (.lconst 1, 1) := dk_10 (dk_at dksX6_pages_0 19 rfl rfl)
theorem dX6_pages_20 : decode cX6_pages 20 = .ok (.ldc2_w 339, 3) := dk_20 1 83 (dk_at dksX6_pages_0 20 rfl rfl)
theorem dX6_pages_23 : decode cX6_pages 23 = .ok (.invokestatic 81, 3) := dk_184 0 81 (dk_at dksX6_pages_1 0 rfl rfl)
theorem dX6_pages_26 : decode cX6_pages 26 = .ok (.ifCond .ne 10, 3) := dk_154 0 10 (dk_at dksX6_pages_1 3 rfl rfl)
theorem dX6_pages_29 : decode cX6_pages 29 = .ok (.aload_n 0, 1) := dk_42 (dk_at dksX6_pages_1 6 rfl rfl)
theorem dX6_pages_30 : decode cX6_pages 30 = .ok (.bipush (-3), 2) := dk_16 253 (dk_at dksX6_pages_1 7 rfl rfl)
theorem dX6_pages_32 : decode cX6_pages 32 = .ok (.invokevirtual 85, 3) := dk_182 0 85 (dk_at dksX6_pages_1 9 rfl rfl)
theorem dX6_pages_35 : decode cX6_pages 35 = .ok (.ireturn, 1) := dk_172 (dk_at dksX6_pages_1 12 rfl rfl)
theorem dX6_pages_36 : decode cX6_pages 36 = .ok (.aload_n 0, 1) := dk_42 (dk_at dksX6_pages_1 13 rfl rfl)
theorem dX6_pages_37 : decode cX6_pages 37 = .ok (.getfield 17, 3) := dk_180 0 17 (dk_at dksX6_pages_1 14 rfl rfl)
theorem dX6_pages_40 : decode cX6_pages 40 = .ok (.sipush 889, 3) := dk_17 3 121 (dk_at dksX6_pages_1 17 rfl rfl)
theorem dX6_pages_43 : decode cX6_pages 43 = .ok (.iaload, 1) := dk_46 (dk_at dksX6_pages_1 20 rfl rfl)
theorem dX6_pages_44 : decode cX6_pages 44 = .ok (.bipush 40, 2) := dk_16 40 (dk_at dksX6_pages_1 21 rfl rfl)
theorem dX6_pages_46 : decode cX6_pages 46 = .ok (.if_icmp .ne 10, 3) := dk_160 0 10 (dk_at dksX6_pages_2 0 rfl rfl)
theorem dX6_pages_49 : decode cX6_pages 49 = .ok (.aload_n 0, 1) := dk_42 (dk_at dksX6_pages_2 3 rfl rfl)
theorem dX6_pages_50 : decode cX6_pages 50 = .ok (.bipush (-4), 2) := dk_16 252 (dk_at dksX6_pages_2 4 rfl rfl)
theorem dX6_pages_52 : decode cX6_pages 52 = .ok (.invokevirtual 85, 3) := dk_182 0 85 (dk_at dksX6_pages_2 6 rfl rfl)
theorem dX6_pages_55 : decode cX6_pages 55 = .ok (.ireturn, 1) := dk_172 (dk_at dksX6_pages_2 9 rfl rfl)
theorem dX6_pages_56 : decode cX6_pages 56 = .ok (.aload_n 0, 1) := dk_42 (dk_at dksX6_pages_2 10 rfl rfl)
theorem dX6_pages_57 : decode cX6_pages 57 = .ok (.getfield 17, 3) := dk_180 0 17 (dk_at dksX6_pages_2 11 rfl rfl)
theorem dX6_pages_60 : decode cX6_pages 60 = .ok (.sipush 890, 3) := dk_17 3 122 (dk_at dksX6_pages_2 14 rfl rfl)
theorem dX6_pages_63 : decode cX6_pages 63 = .ok (.aload_n 0, 1) := dk_42 (dk_at dksX6_pages_2 17 rfl rfl)
theorem dX6_pages_64 : decode cX6_pages 64 = .ok (.getfield 17, 3) := dk_180 0 17 (dk_at dksX6_pages_2 18 rfl rfl)
theorem dX6_pages_67 : decode cX6_pages 67 = .ok (.sipush 889, 3) := dk_17 3 121 (dk_at dksX6_pages_2 21 rfl rfl)
theorem dX6_pages_70 : decode cX6_pages 70 = .ok (.iaload, 1) := dk_46 (dk_at dksX6_pages_3 0 rfl rfl)
theorem dX6_pages_71 : decode cX6_pages 71 = .ok (.iadd, 1) := dk_96 (dk_at dksX6_pages_3 1 rfl rfl)
theorem dX6_pages_72 : decode cX6_pages 72 = .ok (.iload_n 1, 1) := dk_27 (dk_at dksX6_pages_3 2 rfl rfl)
theorem dX6_pages_73 : decode cX6_pages 73 = .ok (.iastore, 1) := dk_79 (dk_at dksX6_pages_3 3 rfl rfl)
theorem dX6_pages_74 : decode cX6_pages 74 = .ok (.aload_n 0, 1) := dk_42 (dk_at dksX6_pages_3 4 rfl rfl)
theorem dX6_pages_75 : decode cX6_pages 75 = .ok (.getfield 17, 3) := dk_180 0 17 (dk_at dksX6_pages_3 5 rfl rfl)
theorem dX6_pages_78 : decode cX6_pages 78 = .ok (.sipush 930, 3) := dk_17 3 162 (dk_at dksX6_pages_3 8 rfl rfl)
theorem dX6_pages_81 : decode cX6_pages 81 = .ok (.aload_n 0, 1) := dk_42 (dk_at dksX6_pages_3 11 rfl rfl)
theorem dX6_pages_82 : decode cX6_pages 82 = .ok (.getfield 17, 3) := dk_180 0 17 (dk_at dksX6_pages_3 12 rfl rfl)
theorem dX6_pages_85 : decode cX6_pages 85 = .ok (.sipush 889, 3) := dk_17 3 121 (dk_at dksX6_pages_3 15 rfl rfl)
theorem dX6_pages_88 : decode cX6_pages 88 = .ok (.iaload, 1) := dk_46 (dk_at dksX6_pages_3 18 rfl rfl)
theorem dX6_pages_89 : decode cX6_pages 89 = .ok (.iadd, 1) := dk_96 (dk_at dksX6_pages_3 19 rfl rfl)
theorem dX6_pages_90 : decode cX6_pages 90 = .ok (.iload_n 2, 1) := dk_28 (dk_at dksX6_pages_3 20 rfl rfl)
theorem dX6_pages_91 : decode cX6_pages 91 = .ok (.iastore, 1) := dk_79 (dk_at dksX6_pages_3 21 rfl rfl)
theorem dX6_pages_92 : decode cX6_pages 92 = .ok (.aload_n 0, 1) := dk_42 (dk_at dksX6_pages_3 22 rfl rfl)
theorem dX6_pages_93 : decode cX6_pages 93 = .ok (.getfield 17, 3) := dk_180 0 17 (dk_at dksX6_pages_4 0 rfl rfl)
theorem dX6_pages_96 : decode cX6_pages 96 = .ok (.sipush 889, 3) := dk_17 3 121 (dk_at dksX6_pages_4 3 rfl rfl)
theorem dX6_pages_99 : decode cX6_pages 99 = .ok (.dup2, 1) := dk_92 (dk_at dksX6_pages_4 6 rfl rfl)
theorem dX6_pages_100 : decode cX6_pages 100 = .ok (.iaload, 1) := dk_46 (dk_at dksX6_pages_4 7 rfl rfl)
theorem dX6_pages_101 : decode cX6_pages 101 = .ok (.iconst 1, 1) := dk_4 (dk_at dksX6_pages_4 8 rfl rfl)
theorem dX6_pages_102 : decode cX6_pages 102 = .ok (.iadd, 1) := dk_96 (dk_at dksX6_pages_4 9 rfl rfl)
theorem dX6_pages_103 : decode cX6_pages 103 = .ok (.iastore, 1) := dk_79 (dk_at dksX6_pages_4 10 rfl rfl)
theorem dX6_pages_104 : decode cX6_pages 104 = .ok (.aload_n 0, 1) := dk_42 (dk_at dksX6_pages_4 11 rfl rfl)
theorem dX6_pages_105 : decode cX6_pages 105 = .ok (.getfield 17, 3) := dk_180 0 17 (dk_at dksX6_pages_4 12 rfl rfl)
theorem dX6_pages_108 : decode cX6_pages 108 = .ok (.sipush 889, 3) := dk_17 3 121 (dk_at dksX6_pages_4 15 rfl rfl)
theorem dX6_pages_111 : decode cX6_pages 111 = .ok (.iaload, 1) := dk_46 (dk_at dksX6_pages_4 18 rfl rfl)
theorem dX6_pages_112 : decode cX6_pages 112 = .ok (.ireturn, 1) := dk_172 (dk_at dksX6_pages_4 19 rfl rfl)
abbrev cX6_more : ByteArray := prog_28_method_87_code
def yX6_more : MethodName := ⟨RX6, "more", "(II)I"⟩
def dkwX6_more_5 : List UInt8 := [182, 1, 85, 100, 96, 62, 132, 4, 1, 167, 255, 180, 29, 172]
abbrev dktX6_more_5 : List UInt8 := dkwX6_more_5 ++ []
def dkwX6_more_4 : List UInt8 := [167, 0, 28, 42, 21, 5, 4, 96, 21, 5, 28, 96, 182, 1, 85, 42, 21, 5, 28, 100, 21, 5, 4, 100]
abbrev dktX6_more_4 : List UInt8 := dkwX6_more_4 ++ dktX6_more_5
def dkwX6_more_3 : List UInt8 := [21, 4, 96, 46, 54, 5, 29, 27, 4, 160, 0, 17, 42, 180, 0, 17, 17, 3, 101, 21, 4, 96, 46]
abbrev dktX6_more_3 : List UInt8 := dkwX6_more_3 ++ dktX6_more_4
def dkwX6_more_2 : List UInt8 := [3, 54, 4, 21, 4, 42, 180, 0, 17, 17, 3, 80, 46, 162, 0, 69, 42, 180, 0, 17, 17, 3, 81]
abbrev dktX6_more_2 : List UInt8 := dkwX6_more_2 ++ dktX6_more_3
def dkwX6_more_1 : List UInt8 := [154, 0, 22, 28, 133, 10, 20, 1, 81, 184, 0, 81, 154, 0, 10, 42, 16, 253, 182, 0, 85, 172, 3, 62]
abbrev dktX6_more_1 : List UInt8 := dkwX6_more_1 ++ dktX6_more_2
def dkwX6_more_0 : List UInt8 := [42, 3, 181, 0, 1, 27, 133, 9, 10, 184, 0, 81, 154, 0, 10, 42, 16, 254, 182, 0, 85, 172, 27]
abbrev dktX6_more_0 : List UInt8 := dkwX6_more_0 ++ dktX6_more_1
theorem dksX6_more_0 : cX6_more.data.toList.drop 0 = dktX6_more_0 := by decide +kernel
theorem dksX6_more_1 : cX6_more.data.toList.drop 23 = dktX6_more_1 := dk_seg dksX6_more_0 23 rfl rfl
theorem dksX6_more_2 : cX6_more.data.toList.drop 47 = dktX6_more_2 := dk_seg dksX6_more_1 24 rfl rfl
theorem dksX6_more_3 : cX6_more.data.toList.drop 70 = dktX6_more_3 := dk_seg dksX6_more_2 23 rfl rfl
theorem dksX6_more_4 : cX6_more.data.toList.drop 93 = dktX6_more_4 := dk_seg dksX6_more_3 23 rfl rfl
theorem dksX6_more_5 : cX6_more.data.toList.drop 117 = dktX6_more_5 := dk_seg dksX6_more_4 24 rfl rfl
theorem dX6_more_0 : decode cX6_more 0 = .ok (.aload_n 0, 1) := dk_42 (dk_at dksX6_more_0 0 rfl rfl)
theorem dX6_more_1 : decode cX6_more 1 = .ok (.iconst 0, 1) := dk_3 (dk_at dksX6_more_0 1 rfl rfl)
theorem dX6_more_2 : decode cX6_more 2 = .ok (.putfield 1, 3) := dk_181 0 1 (dk_at dksX6_more_0 2 rfl rfl)
theorem dX6_more_5 : decode cX6_more 5 = .ok (.iload_n 1, 1) := dk_27 (dk_at dksX6_more_0 5 rfl rfl)
theorem dX6_more_6 : decode cX6_more 6 = .ok (.i2l, 1) := dk_133 (dk_at dksX6_more_0 6 rfl rfl)
theorem dX6_more_7 : decode cX6_more 7 = .ok (.lconst 0, 1) := dk_9 (dk_at dksX6_more_0 7 rfl rfl)
theorem dX6_more_8 : decode cX6_more 8 = .ok (.lconst 1, 1) := dk_10 (dk_at dksX6_more_0 8 rfl rfl)
theorem dX6_more_9 : decode cX6_more 9 = .ok (.invokestatic 81, 3) := dk_184 0 81 (dk_at dksX6_more_0 9 rfl rfl)
theorem dX6_more_12 : decode cX6_more 12 = .ok (.ifCond .ne 10, 3) := dk_154 0 10 (dk_at dksX6_more_0 12 rfl rfl)
theorem dX6_more_15 : decode cX6_more 15 = .ok (.aload_n 0, 1) := dk_42 (dk_at dksX6_more_0 15 rfl rfl)
theorem dX6_more_16 : decode cX6_more 16 = .ok (.bipush (-2), 2) := dk_16 254 (dk_at dksX6_more_0 16 rfl rfl)
theorem dX6_more_18 : decode cX6_more 18 = .ok (.invokevirtual 85, 3) := dk_182 0 85 (dk_at dksX6_more_0 18 rfl rfl)
theorem dX6_more_21 : decode cX6_more 21 = .ok (.ireturn, 1) := dk_172 (dk_at dksX6_more_0 21 rfl rfl)
theorem dX6_more_22 : decode cX6_more 22 = .ok (.iload_n 1, 1) := dk_27 (dk_at dksX6_more_0 22 rfl rfl)
theorem dX6_more_23 : decode cX6_more 23 = .ok (.ifCond .ne 22, 3) := dk_154 0 22 (dk_at dksX6_more_1 0 rfl rfl)
theorem dX6_more_26 : decode cX6_more 26 = .ok (.iload_n 2, 1) := dk_28 (dk_at dksX6_more_1 3 rfl rfl)
theorem dX6_more_27 : decode cX6_more 27 = .ok (.i2l, 1) := dk_133 (dk_at dksX6_more_1 4 rfl rfl)
theorem dX6_more_28 : decode cX6_more 28 = .ok (.lconst 1, 1) := dk_10 (dk_at dksX6_more_1 5 rfl rfl)
theorem dX6_more_29 : decode cX6_more 29 = .ok (.ldc2_w 337, 3) := dk_20 1 81 (dk_at dksX6_more_1 6 rfl rfl)
theorem dX6_more_32 : decode cX6_more 32 = .ok (.invokestatic 81, 3) := dk_184 0 81 (dk_at dksX6_more_1 9 rfl rfl)
theorem dX6_more_35 : decode cX6_more 35 = .ok (.ifCond .ne 10, 3) := dk_154 0 10 (dk_at dksX6_more_1 12 rfl rfl)
theorem dX6_more_38 : decode cX6_more 38 = .ok (.aload_n 0, 1) := dk_42 (dk_at dksX6_more_1 15 rfl rfl)
theorem dX6_more_39 : decode cX6_more 39 = .ok (.bipush (-3), 2) := dk_16 253 (dk_at dksX6_more_1 16 rfl rfl)
theorem dX6_more_41 : decode cX6_more 41 = .ok (.invokevirtual 85, 3) := dk_182 0 85 (dk_at dksX6_more_1 18 rfl rfl)
theorem dX6_more_44 : decode cX6_more 44 = .ok (.ireturn, 1) := dk_172 (dk_at dksX6_more_1 21 rfl rfl)
theorem dX6_more_45 : decode cX6_more 45 = .ok (.iconst 0, 1) := dk_3 (dk_at dksX6_more_1 22 rfl rfl)
theorem dX6_more_46 : decode cX6_more 46 = .ok (.istore_n 3, 1) := dk_62 (dk_at dksX6_more_1 23 rfl rfl)
theorem dX6_more_47 : decode cX6_more 47 = .ok (.iconst 0, 1) := dk_3 (dk_at dksX6_more_2 0 rfl rfl)
theorem dX6_more_48 : decode cX6_more 48 = .ok (.istore 4, 2) := dk_54 4 (dk_at dksX6_more_2 1 rfl rfl)
theorem dX6_more_50 : decode cX6_more 50 = .ok (.iload 4, 2) := dk_21 4 (dk_at dksX6_more_2 3 rfl rfl)
theorem dX6_more_52 : decode cX6_more 52 = .ok (.aload_n 0, 1) := dk_42 (dk_at dksX6_more_2 5 rfl rfl)
theorem dX6_more_53 : decode cX6_more 53 = .ok (.getfield 17, 3) := dk_180 0 17 (dk_at dksX6_more_2 6 rfl rfl)
theorem dX6_more_56 : decode cX6_more 56 = .ok (.sipush 848, 3) := dk_17 3 80 (dk_at dksX6_more_2 9 rfl rfl)
theorem dX6_more_59 : decode cX6_more 59 = .ok (.iaload, 1) := dk_46 (dk_at dksX6_more_2 12 rfl rfl)
theorem dX6_more_60 : decode cX6_more 60 = .ok (.if_icmp .ge 69, 3) := dk_162 0 69 (dk_at dksX6_more_2 13 rfl rfl)
theorem dX6_more_63 : decode cX6_more 63 = .ok (.aload_n 0, 1) := dk_42 (dk_at dksX6_more_2 16 rfl rfl)
theorem dX6_more_64 : decode cX6_more 64 = .ok (.getfield 17, 3) := dk_180 0 17 (dk_at dksX6_more_2 17 rfl rfl)
theorem dX6_more_67 : decode cX6_more 67 = .ok (.sipush 849, 3) := dk_17 3 81 (dk_at dksX6_more_2 20 rfl rfl)
theorem dX6_more_70 : decode cX6_more 70 = .ok (.iload 4, 2) := dk_21 4 (dk_at dksX6_more_3 0 rfl rfl)
theorem dX6_more_72 : decode cX6_more 72 = .ok (.iadd, 1) := dk_96 (dk_at dksX6_more_3 2 rfl rfl)
theorem dX6_more_73 : decode cX6_more 73 = .ok (.iaload, 1) := dk_46 (dk_at dksX6_more_3 3 rfl rfl)
theorem dX6_more_74 : decode cX6_more 74 = .ok (.istore 5, 2) := dk_54 5 (dk_at dksX6_more_3 4 rfl rfl)
theorem dX6_more_76 : decode cX6_more 76 = .ok (.iload_n 3, 1) := dk_29 (dk_at dksX6_more_3 6 rfl rfl)
theorem dX6_more_77 : decode cX6_more 77 = .ok (.iload_n 1, 1) := dk_27 (dk_at dksX6_more_3 7 rfl rfl)
theorem dX6_more_78 : decode cX6_more 78 = .ok (.iconst 1, 1) := dk_4 (dk_at dksX6_more_3 8 rfl rfl)
theorem dX6_more_79 : decode cX6_more 79 = .ok (.if_icmp .ne 17, 3) := dk_160 0 17 (dk_at dksX6_more_3 9 rfl rfl)
theorem dX6_more_82 : decode cX6_more 82 = .ok (.aload_n 0, 1) := dk_42 (dk_at dksX6_more_3 12 rfl rfl)
theorem dX6_more_83 : decode cX6_more 83 = .ok (.getfield 17, 3) := dk_180 0 17 (dk_at dksX6_more_3 13 rfl rfl)
theorem dX6_more_86 : decode cX6_more 86 = .ok (.sipush 869, 3) := dk_17 3 101 (dk_at dksX6_more_3 16 rfl rfl)
theorem dX6_more_89 : decode cX6_more 89 = .ok (.iload 4, 2) := dk_21 4 (dk_at dksX6_more_3 19 rfl rfl)
theorem dX6_more_91 : decode cX6_more 91 = .ok (.iadd, 1) := dk_96 (dk_at dksX6_more_3 21 rfl rfl)
theorem dX6_more_92 : decode cX6_more 92 = .ok (.iaload, 1) := dk_46 (dk_at dksX6_more_3 22 rfl rfl)
theorem dX6_more_93 : decode cX6_more 93 = .ok (.goto 28, 3) := dk_167 0 28 (dk_at dksX6_more_4 0 rfl rfl)
theorem dX6_more_96 : decode cX6_more 96 = .ok (.aload_n 0, 1) := dk_42 (dk_at dksX6_more_4 3 rfl rfl)
theorem dX6_more_97 : decode cX6_more 97 = .ok (.iload 5, 2) := dk_21 5 (dk_at dksX6_more_4 4 rfl rfl)
theorem dX6_more_99 : decode cX6_more 99 = .ok (.iconst 1, 1) := dk_4 (dk_at dksX6_more_4 6 rfl rfl)
theorem dX6_more_100 : decode cX6_more 100 = .ok (.iadd, 1) := dk_96 (dk_at dksX6_more_4 7 rfl rfl)
theorem dX6_more_101 : decode cX6_more 101 = .ok (.iload 5, 2) := dk_21 5 (dk_at dksX6_more_4 8 rfl rfl)
theorem dX6_more_103 : decode cX6_more 103 = .ok (.iload_n 2, 1) := dk_28 (dk_at dksX6_more_4 10 rfl rfl)
theorem dX6_more_104 : decode cX6_more 104 = .ok (.iadd, 1) := dk_96 (dk_at dksX6_more_4 11 rfl rfl)
theorem dX6_more_105 : decode cX6_more 105 = .ok (.invokevirtual 341, 3) := dk_182 1 85 (dk_at dksX6_more_4 12 rfl rfl)
theorem dX6_more_108 : decode cX6_more 108 = .ok (.aload_n 0, 1) := dk_42 (dk_at dksX6_more_4 15 rfl rfl)
theorem dX6_more_109 : decode cX6_more 109 = .ok (.iload 5, 2) := dk_21 5 (dk_at dksX6_more_4 16 rfl rfl)
theorem dX6_more_111 : decode cX6_more 111 = .ok (.iload_n 2, 1) := dk_28 (dk_at dksX6_more_4 18 rfl rfl)
theorem dX6_more_112 : decode cX6_more 112 = .ok (.isub, 1) := dk_100 (dk_at dksX6_more_4 19 rfl rfl)
theorem dX6_more_113 : decode cX6_more 113 = .ok (.iload 5, 2) := dk_21 5 (dk_at dksX6_more_4 20 rfl rfl)
theorem dX6_more_115 : decode cX6_more 115 = .ok (.iconst 1, 1) := dk_4 (dk_at dksX6_more_4 22 rfl rfl)
theorem dX6_more_116 : decode cX6_more 116 = .ok (.isub, 1) := dk_100 (dk_at dksX6_more_4 23 rfl rfl)
theorem dX6_more_117 : decode cX6_more 117 = .ok (.invokevirtual 341, 3) := dk_182 1 85 (dk_at dksX6_more_5 0 rfl rfl)
theorem dX6_more_120 : decode cX6_more 120 = .ok (.isub, 1) := dk_100 (dk_at dksX6_more_5 3 rfl rfl)
theorem dX6_more_121 : decode cX6_more 121 = .ok (.iadd, 1) := dk_96 (dk_at dksX6_more_5 4 rfl rfl)
theorem dX6_more_122 : decode cX6_more 122 = .ok (.istore_n 3, 1) := dk_62 (dk_at dksX6_more_5 5 rfl rfl)
theorem dX6_more_123 : decode cX6_more 123 = .ok (.iinc 4 1, 3) := dk_132 4 1 (dk_at dksX6_more_5 6 rfl rfl)
theorem dX6_more_126 : decode cX6_more 126 = .ok (.goto (-76), 3) := dk_167 255 180 (dk_at dksX6_more_5 9 rfl rfl)
theorem dX6_more_129 : decode cX6_more 129 = .ok (.iload_n 3, 1) := dk_29 (dk_at dksX6_more_5 12 rfl rfl)
theorem dX6_more_130 : decode cX6_more 130 = .ok (.ireturn, 1) := dk_172 (dk_at dksX6_more_5 13 rfl rfl)
abbrev cX6_pagesIn : ByteArray := prog_28_method_86_code
def yX6_pagesIn : MethodName := ⟨RX6, "pagesIn", "(II)I"⟩
def dkwX6_pagesIn_2 : List UInt8 := [17, 3, 162, 21, 4, 96, 46, 167, 0, 4, 3, 96, 62, 132, 4, 1, 167, 255, 200, 29, 172]
abbrev dktX6_pagesIn_2 : List UInt8 := dkwX6_pagesIn_2 ++ []
def dkwX6_pagesIn_1 : List UInt8 := [17, 3, 122, 21, 4, 96, 46, 133, 27, 133, 28, 133, 184, 0, 81, 153, 0, 17, 42, 180, 0, 17]
abbrev dktX6_pagesIn_1 : List UInt8 := dkwX6_pagesIn_1 ++ dktX6_pagesIn_2
def dkwX6_pagesIn_0 : List UInt8 := [3, 62, 3, 54, 4, 21, 4, 42, 180, 0, 17, 17, 3, 121, 46, 162, 0, 49, 29, 42, 180, 0, 17]
abbrev dktX6_pagesIn_0 : List UInt8 := dkwX6_pagesIn_0 ++ dktX6_pagesIn_1
theorem dksX6_pagesIn_0 : cX6_pagesIn.data.toList.drop 0 = dktX6_pagesIn_0 := by decide +kernel
theorem dksX6_pagesIn_1 : cX6_pagesIn.data.toList.drop 23 = dktX6_pagesIn_1 := dk_seg dksX6_pagesIn_0 23 rfl rfl
theorem dksX6_pagesIn_2 : cX6_pagesIn.data.toList.drop 45 = dktX6_pagesIn_2 := dk_seg dksX6_pagesIn_1 22 rfl rfl
theorem dX6_pagesIn_0 : decode cX6_pagesIn 0 = .ok (.iconst 0, 1) := dk_3 (dk_at dksX6_pagesIn_0 0 rfl rfl)
theorem dX6_pagesIn_1 : decode cX6_pagesIn 1 = .ok (.istore_n 3, 1) := dk_62 (dk_at dksX6_pagesIn_0 1 rfl rfl)
theorem dX6_pagesIn_2 : decode cX6_pagesIn 2 = .ok (.iconst 0, 1) := dk_3 (dk_at dksX6_pagesIn_0 2 rfl rfl)
theorem dX6_pagesIn_3 : decode cX6_pagesIn 3 = .ok (.istore 4, 2) := dk_54 4 (dk_at dksX6_pagesIn_0 3 rfl rfl)
theorem dX6_pagesIn_5 : decode cX6_pagesIn 5 = .ok (.iload 4, 2) := dk_21 4 (dk_at dksX6_pagesIn_0 5 rfl rfl)
theorem dX6_pagesIn_7 : decode cX6_pagesIn 7 = .ok (.aload_n 0, 1) := dk_42 (dk_at dksX6_pagesIn_0 7 rfl rfl)
theorem dX6_pagesIn_8 : decode cX6_pagesIn 8 = .ok (.getfield 17, 3) := dk_180 0 17 (dk_at dksX6_pagesIn_0 8 rfl rfl)
theorem dX6_pagesIn_11 : decode cX6_pagesIn 11 = .ok (.sipush 889, 3) := dk_17 3 121 (dk_at dksX6_pagesIn_0 11 rfl rfl)
theorem dX6_pagesIn_14 : decode cX6_pagesIn 14 = .ok (.iaload, 1) := dk_46 (dk_at dksX6_pagesIn_0 14 rfl rfl)
theorem dX6_pagesIn_15 : decode cX6_pagesIn 15 = .ok (.if_icmp .ge 49, 3) := dk_162 0 49 (dk_at dksX6_pagesIn_0 15 rfl rfl)
theorem dX6_pagesIn_18 : decode cX6_pagesIn 18 = .ok (.iload_n 3, 1) := dk_29 (dk_at dksX6_pagesIn_0 18 rfl rfl)
theorem dX6_pagesIn_19 : decode cX6_pagesIn 19 = .ok (.aload_n 0, 1) := dk_42 (dk_at dksX6_pagesIn_0 19 rfl rfl)
theorem dX6_pagesIn_20 : decode cX6_pagesIn 20 = .ok (.getfield 17, 3) := dk_180 0 17 (dk_at dksX6_pagesIn_0 20 rfl rfl)
theorem dX6_pagesIn_23 : decode cX6_pagesIn 23 = .ok (.sipush 890, 3) := dk_17 3 122 (dk_at dksX6_pagesIn_1 0 rfl rfl)
theorem dX6_pagesIn_26 : decode cX6_pagesIn 26 = .ok (.iload 4, 2) := dk_21 4 (dk_at dksX6_pagesIn_1 3 rfl rfl)
theorem dX6_pagesIn_28 : decode cX6_pagesIn 28 = .ok (.iadd, 1) := dk_96 (dk_at dksX6_pagesIn_1 5 rfl rfl)
theorem dX6_pagesIn_29 : decode cX6_pagesIn 29 = .ok (.iaload, 1) := dk_46 (dk_at dksX6_pagesIn_1 6 rfl rfl)
theorem dX6_pagesIn_30 : decode cX6_pagesIn 30 = .ok (.i2l, 1) := dk_133 (dk_at dksX6_pagesIn_1 7 rfl rfl)
theorem dX6_pagesIn_31 : decode cX6_pagesIn 31 = .ok (.iload_n 1, 1) := dk_27 (dk_at dksX6_pagesIn_1 8 rfl rfl)
theorem dX6_pagesIn_32 : decode cX6_pagesIn 32 = .ok (.i2l, 1) := dk_133 (dk_at dksX6_pagesIn_1 9 rfl rfl)
theorem dX6_pagesIn_33 : decode cX6_pagesIn 33 = .ok (.iload_n 2, 1) := dk_28 (dk_at dksX6_pagesIn_1 10 rfl rfl)
theorem dX6_pagesIn_34 : decode cX6_pagesIn 34 = .ok (.i2l, 1) := dk_133 (dk_at dksX6_pagesIn_1 11 rfl rfl)
theorem dX6_pagesIn_35 : decode cX6_pagesIn 35 = .ok (.invokestatic 81, 3) := dk_184 0 81 (dk_at dksX6_pagesIn_1 12 rfl rfl)
theorem dX6_pagesIn_38 : decode cX6_pagesIn 38 = .ok (.ifCond .eq 17, 3) := dk_153 0 17 (dk_at dksX6_pagesIn_1 15 rfl rfl)
theorem dX6_pagesIn_41 : decode cX6_pagesIn 41 = .ok (.aload_n 0, 1) := dk_42 (dk_at dksX6_pagesIn_1 18 rfl rfl)
theorem dX6_pagesIn_42 : decode cX6_pagesIn 42 = .ok (.getfield 17, 3) := dk_180 0 17 (dk_at dksX6_pagesIn_1 19 rfl rfl)
theorem dX6_pagesIn_45 : decode cX6_pagesIn 45 = .ok (.sipush 930, 3) := dk_17 3 162 (dk_at dksX6_pagesIn_2 0 rfl rfl)
theorem dX6_pagesIn_48 : decode cX6_pagesIn 48 = .ok (.iload 4, 2) := dk_21 4 (dk_at dksX6_pagesIn_2 3 rfl rfl)
theorem dX6_pagesIn_50 : decode cX6_pagesIn 50 = .ok (.iadd, 1) := dk_96 (dk_at dksX6_pagesIn_2 5 rfl rfl)
theorem dX6_pagesIn_51 : decode cX6_pagesIn 51 = .ok (.iaload, 1) := dk_46 (dk_at dksX6_pagesIn_2 6 rfl rfl)
theorem dX6_pagesIn_52 : decode cX6_pagesIn 52 = .ok (.goto 4, 3) := dk_167 0 4 (dk_at dksX6_pagesIn_2 7 rfl rfl)
theorem dX6_pagesIn_55 : decode cX6_pagesIn 55 = .ok (.iconst 0, 1) := dk_3 (dk_at dksX6_pagesIn_2 10 rfl rfl)
theorem dX6_pagesIn_56 : decode cX6_pagesIn 56 = .ok (.iadd, 1) := dk_96 (dk_at dksX6_pagesIn_2 11 rfl rfl)
theorem dX6_pagesIn_57 : decode cX6_pagesIn 57 = .ok (.istore_n 3, 1) := dk_62 (dk_at dksX6_pagesIn_2 12 rfl rfl)
theorem dX6_pagesIn_58 : decode cX6_pagesIn 58 = .ok (.iinc 4 1, 3) := dk_132 4 1 (dk_at dksX6_pagesIn_2 13 rfl rfl)
theorem dX6_pagesIn_61 : decode cX6_pagesIn 61 = .ok (.goto (-56), 3) := dk_167 255 200 (dk_at dksX6_pagesIn_2 16 rfl rfl)
theorem dX6_pagesIn_64 : decode cX6_pagesIn 64 = .ok (.iload_n 3, 1) := dk_29 (dk_at dksX6_pagesIn_2 19 rfl rfl)
theorem dX6_pagesIn_65 : decode cX6_pagesIn 65 = .ok (.ireturn, 1) := dk_172 (dk_at dksX6_pagesIn_2 20 rfl rfl)
abbrev cX6_free : ByteArray := prog_28_method_88_code
def yX6_free : MethodName := ⟨RX6, "free", "(II)I"⟩
def dkwX6_free_4 : List UInt8 := [180, 0, 17, 17, 3, 202, 92, 46, 4, 96, 79, 42, 180, 0, 17, 17, 3, 202, 46, 172]
abbrev dktX6_free_4 : List UInt8 := dkwX6_free_4 ++ []
def dkwX6_free_3 : List UInt8 := [46, 96, 27, 79, 42, 180, 0, 17, 17, 3, 211, 42, 180, 0, 17, 17, 3, 202, 46, 96, 28, 79, 42]
abbrev dktX6_free_3 : List UInt8 := dkwX6_free_3 ++ dktX6_free_4
def dkwX6_free_2 : List UInt8 := [160, 0, 10, 42, 16, 252, 182, 0, 85, 172, 42, 180, 0, 17, 17, 3, 203, 42, 180, 0, 17, 17, 3, 202]
abbrev dktX6_free_2 : List UInt8 := dkwX6_free_2 ++ dktX6_free_3
def dkwX6_free_1 : List UInt8 := [184, 0, 81, 154, 0, 10, 42, 16, 253, 182, 0, 85, 172, 42, 180, 0, 17, 17, 3, 202, 46, 16, 8]
abbrev dktX6_free_1 : List UInt8 := dkwX6_free_1 ++ dktX6_free_2
def dkwX6_free_0 : List UInt8 := [42, 3, 181, 0, 1, 27, 133, 9, 20, 0, 93, 184, 0, 81, 153, 0, 16, 28, 133, 27, 133, 20, 0, 93]
abbrev dktX6_free_0 : List UInt8 := dkwX6_free_0 ++ dktX6_free_1
theorem dksX6_free_0 : cX6_free.data.toList.drop 0 = dktX6_free_0 := by decide +kernel
theorem dksX6_free_1 : cX6_free.data.toList.drop 24 = dktX6_free_1 := dk_seg dksX6_free_0 24 rfl rfl
theorem dksX6_free_2 : cX6_free.data.toList.drop 47 = dktX6_free_2 := dk_seg dksX6_free_1 23 rfl rfl
theorem dksX6_free_3 : cX6_free.data.toList.drop 71 = dktX6_free_3 := dk_seg dksX6_free_2 24 rfl rfl
theorem dksX6_free_4 : cX6_free.data.toList.drop 94 = dktX6_free_4 := dk_seg dksX6_free_3 23 rfl rfl
theorem dX6_free_0 : decode cX6_free 0 = .ok (.aload_n 0, 1) := dk_42 (dk_at dksX6_free_0 0 rfl rfl)
theorem dX6_free_1 : decode cX6_free 1 = .ok (.iconst 0, 1) := dk_3 (dk_at dksX6_free_0 1 rfl rfl)
theorem dX6_free_2 : decode cX6_free 2 = .ok (.putfield 1, 3) := dk_181 0 1 (dk_at dksX6_free_0 2 rfl rfl)
theorem dX6_free_5 : decode cX6_free 5 = .ok (.iload_n 1, 1) := dk_27 (dk_at dksX6_free_0 5 rfl rfl)
theorem dX6_free_6 : decode cX6_free 6 = .ok (.i2l, 1) := dk_133 (dk_at dksX6_free_0 6 rfl rfl)
theorem dX6_free_7 : decode cX6_free 7 = .ok (.lconst 0, 1) := dk_9 (dk_at dksX6_free_0 7 rfl rfl)
theorem dX6_free_8 : decode cX6_free 8 = .ok (.ldc2_w 93, 3) := dk_20 0 93 (dk_at dksX6_free_0 8 rfl rfl)
theorem dX6_free_11 : decode cX6_free 11 = .ok (.invokestatic 81, 3) := dk_184 0 81 (dk_at dksX6_free_0 11 rfl rfl)
theorem dX6_free_14 : decode cX6_free 14 = .ok (.ifCond .eq 16, 3) := dk_153 0 16 (dk_at dksX6_free_0 14 rfl rfl)
theorem dX6_free_17 : decode cX6_free 17 = .ok (.iload_n 2, 1) := dk_28 (dk_at dksX6_free_0 17 rfl rfl)
theorem dX6_free_18 : decode cX6_free 18 = .ok (.i2l, 1) := dk_133 (dk_at dksX6_free_0 18 rfl rfl)
theorem dX6_free_19 : decode cX6_free 19 = .ok (.iload_n 1, 1) := dk_27 (dk_at dksX6_free_0 19 rfl rfl)
theorem dX6_free_20 : decode cX6_free 20 = .ok (.i2l, 1) := dk_133 (dk_at dksX6_free_0 20 rfl rfl)
theorem dX6_free_21 : decode cX6_free 21 = .ok (.ldc2_w 93, 3) := dk_20 0 93 (dk_at dksX6_free_0 21 rfl rfl)
theorem dX6_free_24 : decode cX6_free 24 = .ok (.invokestatic 81, 3) := dk_184 0 81 (dk_at dksX6_free_1 0 rfl rfl)
theorem dX6_free_27 : decode cX6_free 27 = .ok (.ifCond .ne 10, 3) := dk_154 0 10 (dk_at dksX6_free_1 3 rfl rfl)
theorem dX6_free_30 : decode cX6_free 30 = .ok (.aload_n 0, 1) := dk_42 (dk_at dksX6_free_1 6 rfl rfl)
theorem dX6_free_31 : decode cX6_free 31 = .ok (.bipush (-3), 2) := dk_16 253 (dk_at dksX6_free_1 7 rfl rfl)
theorem dX6_free_33 : decode cX6_free 33 = .ok (.invokevirtual 85, 3) := dk_182 0 85 (dk_at dksX6_free_1 9 rfl rfl)
theorem dX6_free_36 : decode cX6_free 36 = .ok (.ireturn, 1) := dk_172 (dk_at dksX6_free_1 12 rfl rfl)
theorem dX6_free_37 : decode cX6_free 37 = .ok (.aload_n 0, 1) := dk_42 (dk_at dksX6_free_1 13 rfl rfl)
theorem dX6_free_38 : decode cX6_free 38 = .ok (.getfield 17, 3) := dk_180 0 17 (dk_at dksX6_free_1 14 rfl rfl)
theorem dX6_free_41 : decode cX6_free 41 = .ok (.sipush 970, 3) := dk_17 3 202 (dk_at dksX6_free_1 17 rfl rfl)
theorem dX6_free_44 : decode cX6_free 44 = .ok (.iaload, 1) := dk_46 (dk_at dksX6_free_1 20 rfl rfl)
theorem dX6_free_45 : decode cX6_free 45 = .ok (.bipush 8, 2) := dk_16 8 (dk_at dksX6_free_1 21 rfl rfl)
theorem dX6_free_47 : decode cX6_free 47 = .ok (.if_icmp .ne 10, 3) := dk_160 0 10 (dk_at dksX6_free_2 0 rfl rfl)
theorem dX6_free_50 : decode cX6_free 50 = .ok (.aload_n 0, 1) := dk_42 (dk_at dksX6_free_2 3 rfl rfl)
theorem dX6_free_51 : decode cX6_free 51 = .ok (.bipush (-4), 2) := dk_16 252 (dk_at dksX6_free_2 4 rfl rfl)
theorem dX6_free_53 : decode cX6_free 53 = .ok (.invokevirtual 85, 3) := dk_182 0 85 (dk_at dksX6_free_2 6 rfl rfl)
theorem dX6_free_56 : decode cX6_free 56 = .ok (.ireturn, 1) := dk_172 (dk_at dksX6_free_2 9 rfl rfl)
theorem dX6_free_57 : decode cX6_free 57 = .ok (.aload_n 0, 1) := dk_42 (dk_at dksX6_free_2 10 rfl rfl)
theorem dX6_free_58 : decode cX6_free 58 = .ok (.getfield 17, 3) := dk_180 0 17 (dk_at dksX6_free_2 11 rfl rfl)
theorem dX6_free_61 : decode cX6_free 61 = .ok (.sipush 971, 3) := dk_17 3 203 (dk_at dksX6_free_2 14 rfl rfl)
theorem dX6_free_64 : decode cX6_free 64 = .ok (.aload_n 0, 1) := dk_42 (dk_at dksX6_free_2 17 rfl rfl)
theorem dX6_free_65 : decode cX6_free 65 = .ok (.getfield 17, 3) := dk_180 0 17 (dk_at dksX6_free_2 18 rfl rfl)
theorem dX6_free_68 : decode cX6_free 68 = .ok (.sipush 970, 3) := dk_17 3 202 (dk_at dksX6_free_2 21 rfl rfl)
theorem dX6_free_71 : decode cX6_free 71 = .ok (.iaload, 1) := dk_46 (dk_at dksX6_free_3 0 rfl rfl)
theorem dX6_free_72 : decode cX6_free 72 = .ok (.iadd, 1) := dk_96 (dk_at dksX6_free_3 1 rfl rfl)
theorem dX6_free_73 : decode cX6_free 73 = .ok (.iload_n 1, 1) := dk_27 (dk_at dksX6_free_3 2 rfl rfl)
theorem dX6_free_74 : decode cX6_free 74 = .ok (.iastore, 1) := dk_79 (dk_at dksX6_free_3 3 rfl rfl)
theorem dX6_free_75 : decode cX6_free 75 = .ok (.aload_n 0, 1) := dk_42 (dk_at dksX6_free_3 4 rfl rfl)
theorem dX6_free_76 : decode cX6_free 76 = .ok (.getfield 17, 3) := dk_180 0 17 (dk_at dksX6_free_3 5 rfl rfl)
theorem dX6_free_79 : decode cX6_free 79 = .ok (.sipush 979, 3) := dk_17 3 211 (dk_at dksX6_free_3 8 rfl rfl)
theorem dX6_free_82 : decode cX6_free 82 = .ok (.aload_n 0, 1) := dk_42 (dk_at dksX6_free_3 11 rfl rfl)
theorem dX6_free_83 : decode cX6_free 83 = .ok (.getfield 17, 3) := dk_180 0 17 (dk_at dksX6_free_3 12 rfl rfl)
theorem dX6_free_86 : decode cX6_free 86 = .ok (.sipush 970, 3) := dk_17 3 202 (dk_at dksX6_free_3 15 rfl rfl)
theorem dX6_free_89 : decode cX6_free 89 = .ok (.iaload, 1) := dk_46 (dk_at dksX6_free_3 18 rfl rfl)
theorem dX6_free_90 : decode cX6_free 90 = .ok (.iadd, 1) := dk_96 (dk_at dksX6_free_3 19 rfl rfl)
theorem dX6_free_91 : decode cX6_free 91 = .ok (.iload_n 2, 1) := dk_28 (dk_at dksX6_free_3 20 rfl rfl)
theorem dX6_free_92 : decode cX6_free 92 = .ok (.iastore, 1) := dk_79 (dk_at dksX6_free_3 21 rfl rfl)
theorem dX6_free_93 : decode cX6_free 93 = .ok (.aload_n 0, 1) := dk_42 (dk_at dksX6_free_3 22 rfl rfl)
theorem dX6_free_94 : decode cX6_free 94 = .ok (.getfield 17, 3) := dk_180 0 17 (dk_at dksX6_free_4 0 rfl rfl)
theorem dX6_free_97 : decode cX6_free 97 = .ok (.sipush 970, 3) := dk_17 3 202 (dk_at dksX6_free_4 3 rfl rfl)
theorem dX6_free_100 : decode cX6_free 100 = .ok (.dup2, 1) := dk_92 (dk_at dksX6_free_4 6 rfl rfl)
theorem dX6_free_101 : decode cX6_free 101 = .ok (.iaload, 1) := dk_46 (dk_at dksX6_free_4 7 rfl rfl)
theorem dX6_free_102 : decode cX6_free 102 = .ok (.iconst 1, 1) := dk_4 (dk_at dksX6_free_4 8 rfl rfl)
theorem dX6_free_103 : decode cX6_free 103 = .ok (.iadd, 1) := dk_96 (dk_at dksX6_free_4 9 rfl rfl)
theorem dX6_free_104 : decode cX6_free 104 = .ok (.iastore, 1) := dk_79 (dk_at dksX6_free_4 10 rfl rfl)
theorem dX6_free_105 : decode cX6_free 105 = .ok (.aload_n 0, 1) := dk_42 (dk_at dksX6_free_4 11 rfl rfl)
theorem dX6_free_106 : decode cX6_free 106 = .ok (.getfield 17, 3) := dk_180 0 17 (dk_at dksX6_free_4 12 rfl rfl)
theorem dX6_free_109 : decode cX6_free 109 = .ok (.sipush 970, 3) := dk_17 3 202 (dk_at dksX6_free_4 15 rfl rfl)
theorem dX6_free_112 : decode cX6_free 112 = .ok (.iaload, 1) := dk_46 (dk_at dksX6_free_4 18 rfl rfl)
theorem dX6_free_113 : decode cX6_free 113 = .ok (.ireturn, 1) := dk_172 (dk_at dksX6_free_4 19 rfl rfl)
abbrev cX6_rate : ByteArray := prog_28_method_91_code
def yX6_rate : MethodName := ⟨RX6, "rate", "()I"⟩
def dkwX6_rate_4 : List UInt8 := [167, 0, 4, 27, 60, 132, 2, 1, 167, 255, 180, 27, 16, 99, 164, 0, 7, 2, 167, 0, 4, 27, 172]
abbrev dktX6_rate_4 : List UInt8 := dkwX6_rate_4 ++ []
def dkwX6_rate_3 : List UInt8 := [154, 0, 5, 2, 172, 21, 4, 29, 96, 4, 100, 29, 108, 54, 5, 21, 5, 27, 164, 0, 8, 21, 5]
abbrev dktX6_rate_3 : List UInt8 := dkwX6_rate_3 ++ dktX6_rate_4
def dkwX6_rate_2 : List UInt8 := [96, 46, 182, 1, 91, 62, 42, 3, 42, 180, 0, 17, 17, 3, 122, 28, 96, 46, 182, 1, 85, 54, 4, 29]
abbrev dktX6_rate_2 : List UInt8 := dkwX6_rate_2 ++ dktX6_rate_3
def dkwX6_rate_1 : List UInt8 := [60, 3, 61, 28, 42, 180, 0, 17, 17, 3, 121, 46, 162, 0, 70, 42, 42, 180, 0, 17, 17, 3, 122, 28]
abbrev dktX6_rate_1 : List UInt8 := dkwX6_rate_1 ++ dktX6_rate_2
def dkwX6_rate_0 : List UInt8 := [42, 3, 181, 0, 1, 42, 180, 0, 17, 17, 3, 121, 46, 154, 0, 10, 42, 16, 251, 182, 0, 85, 172, 4]
abbrev dktX6_rate_0 : List UInt8 := dkwX6_rate_0 ++ dktX6_rate_1
theorem dksX6_rate_0 : cX6_rate.data.toList.drop 0 = dktX6_rate_0 := by decide +kernel
theorem dksX6_rate_1 : cX6_rate.data.toList.drop 24 = dktX6_rate_1 := dk_seg dksX6_rate_0 24 rfl rfl
theorem dksX6_rate_2 : cX6_rate.data.toList.drop 48 = dktX6_rate_2 := dk_seg dksX6_rate_1 24 rfl rfl
theorem dksX6_rate_3 : cX6_rate.data.toList.drop 72 = dktX6_rate_3 := dk_seg dksX6_rate_2 24 rfl rfl
theorem dksX6_rate_4 : cX6_rate.data.toList.drop 95 = dktX6_rate_4 := dk_seg dksX6_rate_3 23 rfl rfl
theorem dX6_rate_0 : decode cX6_rate 0 = .ok (.aload_n 0, 1) := dk_42 (dk_at dksX6_rate_0 0 rfl rfl)
theorem dX6_rate_1 : decode cX6_rate 1 = .ok (.iconst 0, 1) := dk_3 (dk_at dksX6_rate_0 1 rfl rfl)
theorem dX6_rate_2 : decode cX6_rate 2 = .ok (.putfield 1, 3) := dk_181 0 1 (dk_at dksX6_rate_0 2 rfl rfl)
theorem dX6_rate_5 : decode cX6_rate 5 = .ok (.aload_n 0, 1) := dk_42 (dk_at dksX6_rate_0 5 rfl rfl)
theorem dX6_rate_6 : decode cX6_rate 6 = .ok (.getfield 17, 3) := dk_180 0 17 (dk_at dksX6_rate_0 6 rfl rfl)
theorem dX6_rate_9 : decode cX6_rate 9 = .ok (.sipush 889, 3) := dk_17 3 121 (dk_at dksX6_rate_0 9 rfl rfl)
theorem dX6_rate_12 : decode cX6_rate 12 = .ok (.iaload, 1) := dk_46 (dk_at dksX6_rate_0 12 rfl rfl)
theorem dX6_rate_13 : decode cX6_rate 13 = .ok (.ifCond .ne 10, 3) := dk_154 0 10 (dk_at dksX6_rate_0 13 rfl rfl)
theorem dX6_rate_16 : decode cX6_rate 16 = .ok (.aload_n 0, 1) := dk_42 (dk_at dksX6_rate_0 16 rfl rfl)
theorem dX6_rate_17 : decode cX6_rate 17 = .ok (.bipush (-5), 2) := dk_16 251 (dk_at dksX6_rate_0 17 rfl rfl)
theorem dX6_rate_19 : decode cX6_rate 19 = .ok (.invokevirtual 85, 3) := dk_182 0 85 (dk_at dksX6_rate_0 19 rfl rfl)
theorem dX6_rate_22 : decode cX6_rate 22 = .ok (.ireturn, 1) := dk_172 (dk_at dksX6_rate_0 22 rfl rfl)
theorem dX6_rate_23 : decode cX6_rate 23 = .ok (.iconst 1, 1) := dk_4 (dk_at dksX6_rate_0 23 rfl rfl)
theorem dX6_rate_24 : decode cX6_rate 24 = .ok (.istore_n 1, 1) := dk_60 (dk_at dksX6_rate_1 0 rfl rfl)
theorem dX6_rate_25 : decode cX6_rate 25 = .ok (.iconst 0, 1) := dk_3 (dk_at dksX6_rate_1 1 rfl rfl)
theorem dX6_rate_26 : decode cX6_rate 26 = .ok (.istore_n 2, 1) := dk_61 (dk_at dksX6_rate_1 2 rfl rfl)
theorem dX6_rate_27 : decode cX6_rate 27 = .ok (.iload_n 2, 1) := dk_28 (dk_at dksX6_rate_1 3 rfl rfl)
theorem dX6_rate_28 : decode cX6_rate 28 = .ok (.aload_n 0, 1) := dk_42 (dk_at dksX6_rate_1 4 rfl rfl)
theorem dX6_rate_29 : decode cX6_rate 29 = .ok (.getfield 17, 3) := dk_180 0 17 (dk_at dksX6_rate_1 5 rfl rfl)
theorem dX6_rate_32 : decode cX6_rate 32 = .ok (.sipush 889, 3) := dk_17 3 121 (dk_at dksX6_rate_1 8 rfl rfl)
theorem dX6_rate_35 : decode cX6_rate 35 = .ok (.iaload, 1) := dk_46 (dk_at dksX6_rate_1 11 rfl rfl)
theorem dX6_rate_36 : decode cX6_rate 36 = .ok (.if_icmp .ge 70, 3) := dk_162 0 70 (dk_at dksX6_rate_1 12 rfl rfl)
theorem dX6_rate_39 : decode cX6_rate 39 = .ok (.aload_n 0, 1) := dk_42 (dk_at dksX6_rate_1 15 rfl rfl)
theorem dX6_rate_40 : decode cX6_rate 40 = .ok (.aload_n 0, 1) := dk_42 (dk_at dksX6_rate_1 16 rfl rfl)
theorem dX6_rate_41 : decode cX6_rate 41 = .ok (.getfield 17, 3) := dk_180 0 17 (dk_at dksX6_rate_1 17 rfl rfl)
theorem dX6_rate_44 : decode cX6_rate 44 = .ok (.sipush 890, 3) := dk_17 3 122 (dk_at dksX6_rate_1 20 rfl rfl)
theorem dX6_rate_47 : decode cX6_rate 47 = .ok (.iload_n 2, 1) := dk_28 (dk_at dksX6_rate_1 23 rfl rfl)
theorem dX6_rate_48 : decode cX6_rate 48 = .ok (.iadd, 1) := dk_96 (dk_at dksX6_rate_2 0 rfl rfl)
theorem dX6_rate_49 : decode cX6_rate 49 = .ok (.iaload, 1) := dk_46 (dk_at dksX6_rate_2 1 rfl rfl)
theorem dX6_rate_50 : decode cX6_rate 50 = .ok (.invokevirtual 347, 3) := dk_182 1 91 (dk_at dksX6_rate_2 2 rfl rfl)
theorem dX6_rate_53 : decode cX6_rate 53 = .ok (.istore_n 3, 1) := dk_62 (dk_at dksX6_rate_2 5 rfl rfl)
theorem dX6_rate_54 : decode cX6_rate 54 = .ok (.aload_n 0, 1) := dk_42 (dk_at dksX6_rate_2 6 rfl rfl)
theorem dX6_rate_55 : decode cX6_rate 55 = .ok (.iconst 0, 1) := dk_3 (dk_at dksX6_rate_2 7 rfl rfl)
theorem dX6_rate_56 : decode cX6_rate 56 = .ok (.aload_n 0, 1) := dk_42 (dk_at dksX6_rate_2 8 rfl rfl)
theorem dX6_rate_57 : decode cX6_rate 57 = .ok (.getfield 17, 3) := dk_180 0 17 (dk_at dksX6_rate_2 9 rfl rfl)
theorem dX6_rate_60 : decode cX6_rate 60 = .ok (.sipush 890, 3) := dk_17 3 122 (dk_at dksX6_rate_2 12 rfl rfl)
theorem dX6_rate_63 : decode cX6_rate 63 = .ok (.iload_n 2, 1) := dk_28 (dk_at dksX6_rate_2 15 rfl rfl)
theorem dX6_rate_64 : decode cX6_rate 64 = .ok (.iadd, 1) := dk_96 (dk_at dksX6_rate_2 16 rfl rfl)
theorem dX6_rate_65 : decode cX6_rate 65 = .ok (.iaload, 1) := dk_46 (dk_at dksX6_rate_2 17 rfl rfl)
theorem dX6_rate_66 : decode cX6_rate 66 = .ok (.invokevirtual 341, 3) := dk_182 1 85 (dk_at dksX6_rate_2 18 rfl rfl)
theorem dX6_rate_69 : decode cX6_rate 69 = .ok (.istore 4, 2) := dk_54 4 (dk_at dksX6_rate_2 21 rfl rfl)
theorem dX6_rate_71 : decode cX6_rate 71 = .ok (.iload_n 3, 1) := dk_29 (dk_at dksX6_rate_2 23 rfl rfl)
theorem dX6_rate_72 : decode cX6_rate 72 = .ok (.ifCond .ne 5, 3) := dk_154 0 5 (dk_at dksX6_rate_3 0 rfl rfl)
theorem dX6_rate_75 : decode cX6_rate 75 = .ok (.iconst (-1), 1) := dk_2 (dk_at dksX6_rate_3 3 rfl rfl)
theorem dX6_rate_76 : decode cX6_rate 76 = .ok (.ireturn, 1) := dk_172 (dk_at dksX6_rate_3 4 rfl rfl)
theorem dX6_rate_77 : decode cX6_rate 77 = .ok (.iload 4, 2) := dk_21 4 (dk_at dksX6_rate_3 5 rfl rfl)
theorem dX6_rate_79 : decode cX6_rate 79 = .ok (.iload_n 3, 1) := dk_29 (dk_at dksX6_rate_3 7 rfl rfl)
theorem dX6_rate_80 : decode cX6_rate 80 = .ok (.iadd, 1) := dk_96 (dk_at dksX6_rate_3 8 rfl rfl)
theorem dX6_rate_81 : decode cX6_rate 81 = .ok (.iconst 1, 1) := dk_4 (dk_at dksX6_rate_3 9 rfl rfl)
theorem dX6_rate_82 : decode cX6_rate 82 = .ok (.isub, 1) := dk_100 (dk_at dksX6_rate_3 10 rfl rfl)
theorem dX6_rate_83 : decode cX6_rate 83 = .ok (.iload_n 3, 1) := dk_29 (dk_at dksX6_rate_3 11 rfl rfl)
theorem dX6_rate_84 : decode cX6_rate 84 = .ok (.idiv, 1) := dk_108 (dk_at dksX6_rate_3 12 rfl rfl)
theorem dX6_rate_85 : decode cX6_rate 85 = .ok (.istore 5, 2) := dk_54 5 (dk_at dksX6_rate_3 13 rfl rfl)
theorem dX6_rate_87 : decode cX6_rate 87 = .ok (.iload 5, 2) := dk_21 5 (dk_at dksX6_rate_3 15 rfl rfl)
theorem dX6_rate_89 : decode cX6_rate 89 = .ok (.iload_n 1, 1) := dk_27 (dk_at dksX6_rate_3 17 rfl rfl)
theorem dX6_rate_90 : decode cX6_rate 90 = .ok (.if_icmp .le 8, 3) := dk_164 0 8 (dk_at dksX6_rate_3 18 rfl rfl)
theorem dX6_rate_93 : decode cX6_rate 93 = .ok (.iload 5, 2) := dk_21 5 (dk_at dksX6_rate_3 21 rfl rfl)
theorem dX6_rate_95 : decode cX6_rate 95 = .ok (.goto 4, 3) := dk_167 0 4 (dk_at dksX6_rate_4 0 rfl rfl)
theorem dX6_rate_98 : decode cX6_rate 98 = .ok (.iload_n 1, 1) := dk_27 (dk_at dksX6_rate_4 3 rfl rfl)
theorem dX6_rate_99 : decode cX6_rate 99 = .ok (.istore_n 1, 1) := dk_60 (dk_at dksX6_rate_4 4 rfl rfl)
theorem dX6_rate_100 : decode cX6_rate 100 = .ok (.iinc 2 1, 3) := dk_132 2 1 (dk_at dksX6_rate_4 5 rfl rfl)
theorem dX6_rate_103 : decode cX6_rate 103 = .ok (.goto (-76), 3) := dk_167 255 180 (dk_at dksX6_rate_4 8 rfl rfl)
theorem dX6_rate_106 : decode cX6_rate 106 = .ok (.iload_n 1, 1) := dk_27 (dk_at dksX6_rate_4 11 rfl rfl)
theorem dX6_rate_107 : decode cX6_rate 107 = .ok (.bipush 99, 2) := dk_16 99 (dk_at dksX6_rate_4 12 rfl rfl)
theorem dX6_rate_109 : decode cX6_rate 109 = .ok (.if_icmp .le 7, 3) := dk_164 0 7 (dk_at dksX6_rate_4 14 rfl rfl)
theorem dX6_rate_112 : decode cX6_rate 112 = .ok (.iconst (-1), 1) := dk_2 (dk_at dksX6_rate_4 17 rfl rfl)
theorem dX6_rate_113 : decode cX6_rate 113 = .ok (.goto 4, 3) := dk_167 0 4 (dk_at dksX6_rate_4 18 rfl rfl)
theorem dX6_rate_116 : decode cX6_rate 116 = .ok (.iload_n 1, 1) := dk_27 (dk_at dksX6_rate_4 21 rfl rfl)
theorem dX6_rate_117 : decode cX6_rate 117 = .ok (.ireturn, 1) := dk_172 (dk_at dksX6_rate_4 22 rfl rfl)
abbrev cX6_freeUpTo : ByteArray := prog_28_method_90_code
def yX6_freeUpTo : MethodName := ⟨RX6, "freeUpTo", "(I)I"⟩
def dkwX6_freeUpTo_1 : List UInt8 := [61, 132, 3, 1, 167, 255, 232, 28, 172]
abbrev dktX6_freeUpTo_1 : List UInt8 := dkwX6_freeUpTo_1 ++ []
def dkwX6_freeUpTo_0 : List UInt8 := [3, 61, 3, 62, 29, 27, 163, 0, 25, 28, 42, 29, 182, 1, 88, 153, 0, 7, 4, 167, 0, 4, 3, 96]
abbrev dktX6_freeUpTo_0 : List UInt8 := dkwX6_freeUpTo_0 ++ dktX6_freeUpTo_1
theorem dksX6_freeUpTo_0 : cX6_freeUpTo.data.toList.drop 0 = dktX6_freeUpTo_0 := by decide +kernel
theorem dksX6_freeUpTo_1 : cX6_freeUpTo.data.toList.drop 24 = dktX6_freeUpTo_1 := dk_seg dksX6_freeUpTo_0 24 rfl rfl
theorem dX6_freeUpTo_0 : decode cX6_freeUpTo 0 = .ok (.iconst 0, 1) := dk_3 (dk_at dksX6_freeUpTo_0 0 rfl rfl)
theorem dX6_freeUpTo_1 : decode cX6_freeUpTo 1 = .ok (.istore_n 2, 1) := dk_61 (dk_at dksX6_freeUpTo_0 1 rfl rfl)
theorem dX6_freeUpTo_2 : decode cX6_freeUpTo 2 = .ok (.iconst 0, 1) := dk_3 (dk_at dksX6_freeUpTo_0 2 rfl rfl)
theorem dX6_freeUpTo_3 : decode cX6_freeUpTo 3 = .ok (.istore_n 3, 1) := dk_62 (dk_at dksX6_freeUpTo_0 3 rfl rfl)
theorem dX6_freeUpTo_4 : decode cX6_freeUpTo 4 = .ok (.iload_n 3, 1) := dk_29 (dk_at dksX6_freeUpTo_0 4 rfl rfl)
theorem dX6_freeUpTo_5 : decode cX6_freeUpTo 5 = .ok (.iload_n 1, 1) := dk_27 (dk_at dksX6_freeUpTo_0 5 rfl rfl)
theorem dX6_freeUpTo_6 : decode cX6_freeUpTo 6 = .ok (.if_icmp .gt 25, 3) := dk_163 0 25 (dk_at dksX6_freeUpTo_0 6 rfl rfl)
theorem dX6_freeUpTo_9 : decode cX6_freeUpTo 9 = .ok (.iload_n 2, 1) := dk_28 (dk_at dksX6_freeUpTo_0 9 rfl rfl)
theorem dX6_freeUpTo_10 : decode cX6_freeUpTo 10 = .ok (.aload_n 0, 1) := dk_42 (dk_at dksX6_freeUpTo_0 10 rfl rfl)
theorem dX6_freeUpTo_11 : decode cX6_freeUpTo 11 = .ok (.iload_n 3, 1) := dk_29 (dk_at dksX6_freeUpTo_0 11 rfl rfl)
theorem dX6_freeUpTo_12 : decode cX6_freeUpTo 12 = .ok (.invokevirtual 344, 3) := dk_182 1 88 (dk_at dksX6_freeUpTo_0 12 rfl rfl)
theorem dX6_freeUpTo_15 : decode cX6_freeUpTo 15 = .ok (.ifCond .eq 7, 3) := dk_153 0 7 (dk_at dksX6_freeUpTo_0 15 rfl rfl)
theorem dX6_freeUpTo_18 : decode cX6_freeUpTo 18 = .ok (.iconst 1, 1) := dk_4 (dk_at dksX6_freeUpTo_0 18 rfl rfl)
theorem dX6_freeUpTo_19 : decode cX6_freeUpTo 19 = .ok (.goto 4, 3) := dk_167 0 4 (dk_at dksX6_freeUpTo_0 19 rfl rfl)
theorem dX6_freeUpTo_22 : decode cX6_freeUpTo 22 = .ok (.iconst 0, 1) := dk_3 (dk_at dksX6_freeUpTo_0 22 rfl rfl)
theorem dX6_freeUpTo_23 : decode cX6_freeUpTo 23 = .ok (.iadd, 1) := dk_96 (dk_at dksX6_freeUpTo_0 23 rfl rfl)
theorem dX6_freeUpTo_24 : decode cX6_freeUpTo 24 = .ok (.istore_n 2, 1) := dk_61 (dk_at dksX6_freeUpTo_1 0 rfl rfl)
theorem dX6_freeUpTo_25 : decode cX6_freeUpTo 25 = .ok (.iinc 3 1, 3) := dk_132 3 1 (dk_at dksX6_freeUpTo_1 1 rfl rfl)
theorem dX6_freeUpTo_28 : decode cX6_freeUpTo 28 = .ok (.goto (-24), 3) := dk_167 255 232 (dk_at dksX6_freeUpTo_1 4 rfl rfl)
theorem dX6_freeUpTo_31 : decode cX6_freeUpTo 31 = .ok (.iload_n 2, 1) := dk_28 (dk_at dksX6_freeUpTo_1 7 rfl rfl)
theorem dX6_freeUpTo_32 : decode cX6_freeUpTo 32 = .ok (.ireturn, 1) := dk_172 (dk_at dksX6_freeUpTo_1 8 rfl rfl)
abbrev cX6_isFree : ByteArray := prog_28_method_89_code
def yX6_isFree : MethodName := ⟨RX6, "isFree", "(I)Z"⟩
def dkwX6_isFree_2 : List UInt8 := [153, 0, 7, 4, 167, 0, 4, 3, 61, 132, 3, 1, 167, 255, 201, 28, 172]
abbrev dktX6_isFree_2 : List UInt8 := dkwX6_isFree_2 ++ []
def dkwX6_isFree_1 : List UInt8 := [180, 0, 17, 17, 3, 203, 29, 96, 46, 133, 42, 180, 0, 17, 17, 3, 211, 29, 96, 46, 133, 184, 0, 81]
abbrev dktX6_isFree_1 : List UInt8 := dkwX6_isFree_1 ++ dktX6_isFree_2
def dkwX6_isFree_0 : List UInt8 := [3, 61, 3, 62, 29, 42, 180, 0, 17, 17, 3, 202, 46, 162, 0, 49, 28, 154, 0, 33, 27, 133, 42]
abbrev dktX6_isFree_0 : List UInt8 := dkwX6_isFree_0 ++ dktX6_isFree_1
theorem dksX6_isFree_0 : cX6_isFree.data.toList.drop 0 = dktX6_isFree_0 := by decide +kernel
theorem dksX6_isFree_1 : cX6_isFree.data.toList.drop 23 = dktX6_isFree_1 := dk_seg dksX6_isFree_0 23 rfl rfl
theorem dksX6_isFree_2 : cX6_isFree.data.toList.drop 47 = dktX6_isFree_2 := dk_seg dksX6_isFree_1 24 rfl rfl
theorem dX6_isFree_0 : decode cX6_isFree 0 = .ok (.iconst 0, 1) := dk_3 (dk_at dksX6_isFree_0 0 rfl rfl)
theorem dX6_isFree_1 : decode cX6_isFree 1 = .ok (.istore_n 2, 1) := dk_61 (dk_at dksX6_isFree_0 1 rfl rfl)
theorem dX6_isFree_2 : decode cX6_isFree 2 = .ok (.iconst 0, 1) := dk_3 (dk_at dksX6_isFree_0 2 rfl rfl)
theorem dX6_isFree_3 : decode cX6_isFree 3 = .ok (.istore_n 3, 1) := dk_62 (dk_at dksX6_isFree_0 3 rfl rfl)
theorem dX6_isFree_4 : decode cX6_isFree 4 = .ok (.iload_n 3, 1) := dk_29 (dk_at dksX6_isFree_0 4 rfl rfl)
theorem dX6_isFree_5 : decode cX6_isFree 5 = .ok (.aload_n 0, 1) := dk_42 (dk_at dksX6_isFree_0 5 rfl rfl)
theorem dX6_isFree_6 : decode cX6_isFree 6 = .ok (.getfield 17, 3) := dk_180 0 17 (dk_at dksX6_isFree_0 6 rfl rfl)
theorem dX6_isFree_9 : decode cX6_isFree 9 = .ok (.sipush 970, 3) := dk_17 3 202 (dk_at dksX6_isFree_0 9 rfl rfl)
theorem dX6_isFree_12 : decode cX6_isFree 12 = .ok (.iaload, 1) := dk_46 (dk_at dksX6_isFree_0 12 rfl rfl)
theorem dX6_isFree_13 : decode cX6_isFree 13 = .ok (.if_icmp .ge 49, 3) := dk_162 0 49 (dk_at dksX6_isFree_0 13 rfl rfl)
theorem dX6_isFree_16 : decode cX6_isFree 16 = .ok (.iload_n 2, 1) := dk_28 (dk_at dksX6_isFree_0 16 rfl rfl)
theorem dX6_isFree_17 : decode cX6_isFree 17 = .ok (.ifCond .ne 33, 3) := dk_154 0 33 (dk_at dksX6_isFree_0 17 rfl rfl)
theorem dX6_isFree_20 : decode cX6_isFree 20 = .ok (.iload_n 1, 1) := dk_27 (dk_at dksX6_isFree_0 20 rfl rfl)
theorem dX6_isFree_21 : decode cX6_isFree 21 = .ok (.i2l, 1) := dk_133 (dk_at dksX6_isFree_0 21 rfl rfl)
theorem dX6_isFree_22 : decode cX6_isFree 22 = .ok (.aload_n 0, 1) := dk_42 (dk_at dksX6_isFree_0 22 rfl rfl)
theorem dX6_isFree_23 : decode cX6_isFree 23 = .ok (.getfield 17, 3) := dk_180 0 17 (dk_at dksX6_isFree_1 0 rfl rfl)
theorem dX6_isFree_26 : decode cX6_isFree 26 = .ok (.sipush 971, 3) := dk_17 3 203 (dk_at dksX6_isFree_1 3 rfl rfl)
theorem dX6_isFree_29 : decode cX6_isFree 29 = .ok (.iload_n 3, 1) := dk_29 (dk_at dksX6_isFree_1 6 rfl rfl)
theorem dX6_isFree_30 : decode cX6_isFree 30 = .ok (.iadd, 1) := dk_96 (dk_at dksX6_isFree_1 7 rfl rfl)
theorem dX6_isFree_31 : decode cX6_isFree 31 = .ok (.iaload, 1) := dk_46 (dk_at dksX6_isFree_1 8 rfl rfl)
theorem dX6_isFree_32 : decode cX6_isFree 32 = .ok (.i2l, 1) := dk_133 (dk_at dksX6_isFree_1 9 rfl rfl)
theorem dX6_isFree_33 : decode cX6_isFree 33 = .ok (.aload_n 0, 1) := dk_42 (dk_at dksX6_isFree_1 10 rfl rfl)
theorem dX6_isFree_34 : decode cX6_isFree 34 = .ok (.getfield 17, 3) := dk_180 0 17 (dk_at dksX6_isFree_1 11 rfl rfl)
theorem dX6_isFree_37 : decode cX6_isFree 37 = .ok (.sipush 979, 3) := dk_17 3 211 (dk_at dksX6_isFree_1 14 rfl rfl)
theorem dX6_isFree_40 : decode cX6_isFree 40 = .ok (.iload_n 3, 1) := dk_29 (dk_at dksX6_isFree_1 17 rfl rfl)
theorem dX6_isFree_41 : decode cX6_isFree 41 = .ok (.iadd, 1) := dk_96 (dk_at dksX6_isFree_1 18 rfl rfl)
theorem dX6_isFree_42 : decode cX6_isFree 42 = .ok (.iaload, 1) := dk_46 (dk_at dksX6_isFree_1 19 rfl rfl)
theorem dX6_isFree_43 : decode cX6_isFree 43 = .ok (.i2l, 1) := dk_133 (dk_at dksX6_isFree_1 20 rfl rfl)
theorem dX6_isFree_44 : decode cX6_isFree 44 = .ok (.invokestatic 81, 3) := dk_184 0 81 (dk_at dksX6_isFree_1 21 rfl rfl)
theorem dX6_isFree_47 : decode cX6_isFree 47 = .ok (.ifCond .eq 7, 3) := dk_153 0 7 (dk_at dksX6_isFree_2 0 rfl rfl)
theorem dX6_isFree_50 : decode cX6_isFree 50 = .ok (.iconst 1, 1) := dk_4 (dk_at dksX6_isFree_2 3 rfl rfl)
theorem dX6_isFree_51 : decode cX6_isFree 51 = .ok (.goto 4, 3) := dk_167 0 4 (dk_at dksX6_isFree_2 4 rfl rfl)
theorem dX6_isFree_54 : decode cX6_isFree 54 = .ok (.iconst 0, 1) := dk_3 (dk_at dksX6_isFree_2 7 rfl rfl)
theorem dX6_isFree_55 : decode cX6_isFree 55 = .ok (.istore_n 2, 1) := dk_61 (dk_at dksX6_isFree_2 8 rfl rfl)
theorem dX6_isFree_56 : decode cX6_isFree 56 = .ok (.iinc 3 1, 3) := dk_132 3 1 (dk_at dksX6_isFree_2 9 rfl rfl)
theorem dX6_isFree_59 : decode cX6_isFree 59 = .ok (.goto (-55), 3) := dk_167 255 201 (dk_at dksX6_isFree_2 12 rfl rfl)
theorem dX6_isFree_62 : decode cX6_isFree 62 = .ok (.iload_n 2, 1) := dk_28 (dk_at dksX6_isFree_2 15 rfl rfl)
theorem dX6_isFree_63 : decode cX6_isFree 63 = .ok (.ireturn, 1) := dk_172 (dk_at dksX6_isFree_2 16 rfl rfl)
abbrev cX6_world : ByteArray := prog_28_method_92_code
def yX6_world : MethodName := ⟨RX6, "world", "(I)I"⟩
def dkwX6_world_5 : List UInt8 := [17, 3, 219, 46, 4, 100, 172]
abbrev dktX6_world_5 : List UInt8 := dkwX6_world_5 ++ []
def dkwX6_world_4 : List UInt8 := [132, 2, 1, 167, 255, 224, 42, 180, 0, 17, 17, 3, 219, 92, 46, 4, 96, 79, 42, 180, 0, 17]
abbrev dktX6_world_4 : List UInt8 := dkwX6_world_4 ++ dktX6_world_5
def dkwX6_world_3 : List UInt8 := [180, 0, 17, 17, 3, 228, 16, 16, 42, 180, 0, 17, 17, 3, 219, 46, 104, 96, 28, 96, 3, 79]
abbrev dktX6_world_3 : List UInt8 := dkwX6_world_3 ++ dktX6_world_4
def dkwX6_world_2 : List UInt8 := [17, 3, 220, 42, 180, 0, 17, 17, 3, 219, 46, 96, 27, 79, 3, 61, 28, 16, 16, 162, 0, 32, 42]
abbrev dktX6_world_2 : List UInt8 := dkwX6_world_2 ++ dktX6_world_3
def dkwX6_world_1 : List UInt8 := [42, 180, 0, 17, 17, 3, 219, 46, 16, 8, 160, 0, 10, 42, 16, 252, 182, 0, 85, 172, 42, 180, 0, 17]
abbrev dktX6_world_1 : List UInt8 := dkwX6_world_1 ++ dktX6_world_2
def dkwX6_world_0 : List UInt8 := [42, 3, 181, 0, 1, 27, 133, 10, 20, 1, 83, 184, 0, 81, 154, 0, 10, 42, 16, 253, 182, 0, 85, 172]
abbrev dktX6_world_0 : List UInt8 := dkwX6_world_0 ++ dktX6_world_1
theorem dksX6_world_0 : cX6_world.data.toList.drop 0 = dktX6_world_0 := by decide +kernel
theorem dksX6_world_1 : cX6_world.data.toList.drop 24 = dktX6_world_1 := dk_seg dksX6_world_0 24 rfl rfl
theorem dksX6_world_2 : cX6_world.data.toList.drop 48 = dktX6_world_2 := dk_seg dksX6_world_1 24 rfl rfl
theorem dksX6_world_3 : cX6_world.data.toList.drop 71 = dktX6_world_3 := dk_seg dksX6_world_2 23 rfl rfl
theorem dksX6_world_4 : cX6_world.data.toList.drop 93 = dktX6_world_4 := dk_seg dksX6_world_3 22 rfl rfl
theorem dksX6_world_5 : cX6_world.data.toList.drop 115 = dktX6_world_5 := dk_seg dksX6_world_4 22 rfl rfl
theorem dX6_world_0 : decode cX6_world 0 = .ok (.aload_n 0, 1) := dk_42 (dk_at dksX6_world_0 0 rfl rfl)
theorem dX6_world_1 : decode cX6_world 1 = .ok (.iconst 0, 1) := dk_3 (dk_at dksX6_world_0 1 rfl rfl)
theorem dX6_world_2 : decode cX6_world 2 = .ok (.putfield 1, 3) := dk_181 0 1 (dk_at dksX6_world_0 2 rfl rfl)
theorem dX6_world_5 : decode cX6_world 5 = .ok (.iload_n 1, 1) := dk_27 (dk_at dksX6_world_0 5 rfl rfl)
theorem dX6_world_6 : decode cX6_world 6 = .ok (.i2l, 1) := dk_133 (dk_at dksX6_world_0 6 rfl rfl)
theorem dX6_world_7 : decode cX6_world 7 = .ok (.lconst 1, 1) := dk_10 (dk_at dksX6_world_0 7 rfl rfl)
theorem dX6_world_8 : decode cX6_world 8 = .ok (.ldc2_w 339, 3) := dk_20 1 83 (dk_at dksX6_world_0 8 rfl rfl)
theorem dX6_world_11 : decode cX6_world 11 = .ok (.invokestatic 81, 3) := dk_184 0 81 (dk_at dksX6_world_0 11 rfl rfl)
theorem dX6_world_14 : decode cX6_world 14 = .ok (.ifCond .ne 10, 3) := dk_154 0 10 (dk_at dksX6_world_0 14 rfl rfl)
theorem dX6_world_17 : decode cX6_world 17 = .ok (.aload_n 0, 1) := dk_42 (dk_at dksX6_world_0 17 rfl rfl)
theorem dX6_world_18 : decode cX6_world 18 = .ok (.bipush (-3), 2) := dk_16 253 (dk_at dksX6_world_0 18 rfl rfl)
theorem dX6_world_20 : decode cX6_world 20 = .ok (.invokevirtual 85, 3) := dk_182 0 85 (dk_at dksX6_world_0 20 rfl rfl)
theorem dX6_world_23 : decode cX6_world 23 = .ok (.ireturn, 1) := dk_172 (dk_at dksX6_world_0 23 rfl rfl)
theorem dX6_world_24 : decode cX6_world 24 = .ok (.aload_n 0, 1) := dk_42 (dk_at dksX6_world_1 0 rfl rfl)
theorem dX6_world_25 : decode cX6_world 25 = .ok (.getfield 17, 3) := dk_180 0 17 (dk_at dksX6_world_1 1 rfl rfl)
theorem dX6_world_28 : decode cX6_world 28 = .ok (.sipush 987, 3) := dk_17 3 219 (dk_at dksX6_world_1 4 rfl rfl)
theorem dX6_world_31 : decode cX6_world 31 = .ok (.iaload, 1) := dk_46 (dk_at dksX6_world_1 7 rfl rfl)
theorem dX6_world_32 : decode cX6_world 32 = .ok (.bipush 8, 2) := dk_16 8 (dk_at dksX6_world_1 8 rfl rfl)
theorem dX6_world_34 : decode cX6_world 34 = .ok (.if_icmp .ne 10, 3) := dk_160 0 10 (dk_at dksX6_world_1 10 rfl rfl)
theorem dX6_world_37 : decode cX6_world 37 = .ok (.aload_n 0, 1) := dk_42 (dk_at dksX6_world_1 13 rfl rfl)
theorem dX6_world_38 : decode cX6_world 38 = .ok (.bipush (-4), 2) := dk_16 252 (dk_at dksX6_world_1 14 rfl rfl)
theorem dX6_world_40 : decode cX6_world 40 = .ok (.invokevirtual 85, 3) := dk_182 0 85 (dk_at dksX6_world_1 16 rfl rfl)
theorem dX6_world_43 : decode cX6_world 43 = .ok (.ireturn, 1) := dk_172 (dk_at dksX6_world_1 19 rfl rfl)
theorem dX6_world_44 : decode cX6_world 44 = .ok (.aload_n 0, 1) := dk_42 (dk_at dksX6_world_1 20 rfl rfl)
theorem dX6_world_45 : decode cX6_world 45 = .ok (.getfield 17, 3) := dk_180 0 17 (dk_at dksX6_world_1 21 rfl rfl)
theorem dX6_world_48 : decode cX6_world 48 = .ok (.sipush 988, 3) := dk_17 3 220 (dk_at dksX6_world_2 0 rfl rfl)
theorem dX6_world_51 : decode cX6_world 51 = .ok (.aload_n 0, 1) := dk_42 (dk_at dksX6_world_2 3 rfl rfl)
theorem dX6_world_52 : decode cX6_world 52 = .ok (.getfield 17, 3) := dk_180 0 17 (dk_at dksX6_world_2 4 rfl rfl)
theorem dX6_world_55 : decode cX6_world 55 = .ok (.sipush 987, 3) := dk_17 3 219 (dk_at dksX6_world_2 7 rfl rfl)
theorem dX6_world_58 : decode cX6_world 58 = .ok (.iaload, 1) := dk_46 (dk_at dksX6_world_2 10 rfl rfl)
theorem dX6_world_59 : decode cX6_world 59 = .ok (.iadd, 1) := dk_96 (dk_at dksX6_world_2 11 rfl rfl)
theorem dX6_world_60 : decode cX6_world 60 = .ok (.iload_n 1, 1) := dk_27 (dk_at dksX6_world_2 12 rfl rfl)
theorem dX6_world_61 : decode cX6_world 61 = .ok (.iastore, 1) := dk_79 (dk_at dksX6_world_2 13 rfl rfl)
theorem dX6_world_62 : decode cX6_world 62 = .ok (.iconst 0, 1) := dk_3 (dk_at dksX6_world_2 14 rfl rfl)
theorem dX6_world_63 : decode cX6_world 63 = .ok (.istore_n 2, 1) := dk_61 (dk_at dksX6_world_2 15 rfl rfl)
theorem dX6_world_64 : decode cX6_world 64 = .ok (.iload_n 2, 1) := dk_28 (dk_at dksX6_world_2 16 rfl rfl)
theorem dX6_world_65 : decode cX6_world 65 = .ok (.bipush 16, 2) := dk_16 16 (dk_at dksX6_world_2 17 rfl rfl)
theorem dX6_world_67 : decode cX6_world 67 = .ok (.if_icmp .ge 32, 3) := dk_162 0 32 (dk_at dksX6_world_2 19 rfl rfl)
theorem dX6_world_70 : decode cX6_world 70 = .ok (.aload_n 0, 1) := dk_42 (dk_at dksX6_world_2 22 rfl rfl)
theorem dX6_world_71 : decode cX6_world 71 = .ok (.getfield 17, 3) := dk_180 0 17 (dk_at dksX6_world_3 0 rfl rfl)
theorem dX6_world_74 : decode cX6_world 74 = .ok (.sipush 996, 3) := dk_17 3 228 (dk_at dksX6_world_3 3 rfl rfl)
theorem dX6_world_77 : decode cX6_world 77 = .ok (.bipush 16, 2) := dk_16 16 (dk_at dksX6_world_3 6 rfl rfl)
theorem dX6_world_79 : decode cX6_world 79 = .ok (.aload_n 0, 1) := dk_42 (dk_at dksX6_world_3 8 rfl rfl)
theorem dX6_world_80 : decode cX6_world 80 = .ok (.getfield 17, 3) := dk_180 0 17 (dk_at dksX6_world_3 9 rfl rfl)
theorem dX6_world_83 : decode cX6_world 83 = .ok (.sipush 987, 3) := dk_17 3 219 (dk_at dksX6_world_3 12 rfl rfl)
theorem dX6_world_86 : decode cX6_world 86 = .ok (.iaload, 1) := dk_46 (dk_at dksX6_world_3 15 rfl rfl)
theorem dX6_world_87 : decode cX6_world 87 = .ok (.imul, 1) := dk_104 (dk_at dksX6_world_3 16 rfl rfl)
theorem dX6_world_88 : decode cX6_world 88 = .ok (.iadd, 1) := dk_96 (dk_at dksX6_world_3 17 rfl rfl)
theorem dX6_world_89 : decode cX6_world 89 = .ok (.iload_n 2, 1) := dk_28 (dk_at dksX6_world_3 18 rfl rfl)
theorem dX6_world_90 : decode cX6_world 90 = .ok (.iadd, 1) := dk_96 (dk_at dksX6_world_3 19 rfl rfl)
theorem dX6_world_91 : decode cX6_world 91 = .ok (.iconst 0, 1) := dk_3 (dk_at dksX6_world_3 20 rfl rfl)
theorem dX6_world_92 : decode cX6_world 92 = .ok (.iastore, 1) := dk_79 (dk_at dksX6_world_3 21 rfl rfl)
theorem dX6_world_93 : decode cX6_world 93 = .ok (.iinc 2 1, 3) := dk_132 2 1 (dk_at dksX6_world_4 0 rfl rfl)
theorem dX6_world_96 : decode cX6_world 96 = .ok (.goto (-32), 3) := dk_167 255 224 (dk_at dksX6_world_4 3 rfl rfl)
theorem dX6_world_99 : decode cX6_world 99 = .ok (.aload_n 0, 1) := dk_42 (dk_at dksX6_world_4 6 rfl rfl)
theorem dX6_world_100 : decode cX6_world 100 = .ok (.getfield 17, 3) := dk_180 0 17 (dk_at dksX6_world_4 7 rfl rfl)
theorem dX6_world_103 : decode cX6_world 103 = .ok (.sipush 987, 3) := dk_17 3 219 (dk_at dksX6_world_4 10 rfl rfl)
theorem dX6_world_106 : decode cX6_world 106 = .ok (.dup2, 1) := dk_92 (dk_at dksX6_world_4 13 rfl rfl)
theorem dX6_world_107 : decode cX6_world 107 = .ok (.iaload, 1) := dk_46 (dk_at dksX6_world_4 14 rfl rfl)
theorem dX6_world_108 : decode cX6_world 108 = .ok (.iconst 1, 1) := dk_4 (dk_at dksX6_world_4 15 rfl rfl)
theorem dX6_world_109 : decode cX6_world 109 = .ok (.iadd, 1) := dk_96 (dk_at dksX6_world_4 16 rfl rfl)
theorem dX6_world_110 : decode cX6_world 110 = .ok (.iastore, 1) := dk_79 (dk_at dksX6_world_4 17 rfl rfl)
theorem dX6_world_111 : decode cX6_world 111 = .ok (.aload_n 0, 1) := dk_42 (dk_at dksX6_world_4 18 rfl rfl)
theorem dX6_world_112 : decode cX6_world 112 = .ok (.getfield 17, 3) := dk_180 0 17 (dk_at dksX6_world_4 19 rfl rfl)
theorem dX6_world_115 : decode cX6_world 115 = .ok (.sipush 987, 3) := dk_17 3 219 (dk_at dksX6_world_5 0 rfl rfl)
theorem dX6_world_118 : decode cX6_world 118 = .ok (.iaload, 1) := dk_46 (dk_at dksX6_world_5 3 rfl rfl)
theorem dX6_world_119 : decode cX6_world 119 = .ok (.iconst 1, 1) := dk_4 (dk_at dksX6_world_5 4 rfl rfl)
theorem dX6_world_120 : decode cX6_world 120 = .ok (.isub, 1) := dk_100 (dk_at dksX6_world_5 5 rfl rfl)
theorem dX6_world_121 : decode cX6_world 121 = .ok (.ireturn, 1) := dk_172 (dk_at dksX6_world_5 6 rfl rfl)
abbrev cX6_says : ByteArray := prog_28_method_93_code
def yX6_says : MethodName := ⟨RX6, "says", "(III)I"⟩
def dkwX6_says_4 : List UInt8 := [29, 79, 21, 4, 172]
abbrev dktX6_says_4 : List UInt8 := dkwX6_says_4 ++ []
def dkwX6_says_3 : List UInt8 := [16, 16, 27, 104, 96, 28, 96, 46, 54, 4, 42, 180, 0, 17, 17, 3, 228, 16, 16, 27, 104, 96, 28, 96]
abbrev dktX6_says_3 : List UInt8 := dkwX6_says_3 ++ dktX6_says_4
def dkwX6_says_2 : List UInt8 := [9, 20, 1, 79, 184, 0, 81, 154, 0, 10, 42, 16, 253, 182, 0, 85, 172, 42, 180, 0, 17, 17, 3, 228]
abbrev dktX6_says_2 : List UInt8 := dkwX6_says_2 ++ dktX6_says_3
def dkwX6_says_1 : List UInt8 := [153, 0, 15, 28, 133, 9, 20, 0, 91, 184, 0, 81, 154, 0, 10, 42, 16, 254, 182, 0, 85, 172, 29, 133]
abbrev dktX6_says_1 : List UInt8 := dkwX6_says_1 ++ dktX6_says_2
def dkwX6_says_0 : List UInt8 := [42, 3, 181, 0, 1, 27, 133, 9, 42, 180, 0, 17, 17, 3, 219, 46, 4, 100, 133, 184, 0, 81]
abbrev dktX6_says_0 : List UInt8 := dkwX6_says_0 ++ dktX6_says_1
theorem dksX6_says_0 : cX6_says.data.toList.drop 0 = dktX6_says_0 := by decide +kernel
theorem dksX6_says_1 : cX6_says.data.toList.drop 22 = dktX6_says_1 := dk_seg dksX6_says_0 22 rfl rfl
theorem dksX6_says_2 : cX6_says.data.toList.drop 46 = dktX6_says_2 := dk_seg dksX6_says_1 24 rfl rfl
theorem dksX6_says_3 : cX6_says.data.toList.drop 70 = dktX6_says_3 := dk_seg dksX6_says_2 24 rfl rfl
theorem dksX6_says_4 : cX6_says.data.toList.drop 94 = dktX6_says_4 := dk_seg dksX6_says_3 24 rfl rfl
theorem dX6_says_0 : decode cX6_says 0 = .ok (.aload_n 0, 1) := dk_42 (dk_at dksX6_says_0 0 rfl rfl)
theorem dX6_says_1 : decode cX6_says 1 = .ok (.iconst 0, 1) := dk_3 (dk_at dksX6_says_0 1 rfl rfl)
theorem dX6_says_2 : decode cX6_says 2 = .ok (.putfield 1, 3) := dk_181 0 1 (dk_at dksX6_says_0 2 rfl rfl)
theorem dX6_says_5 : decode cX6_says 5 = .ok (.iload_n 1, 1) := dk_27 (dk_at dksX6_says_0 5 rfl rfl)
theorem dX6_says_6 : decode cX6_says 6 = .ok (.i2l, 1) := dk_133 (dk_at dksX6_says_0 6 rfl rfl)
theorem dX6_says_7 : decode cX6_says 7 = .ok (.lconst 0, 1) := dk_9 (dk_at dksX6_says_0 7 rfl rfl)
theorem dX6_says_8 : decode cX6_says 8 = .ok (.aload_n 0, 1) := dk_42 (dk_at dksX6_says_0 8 rfl rfl)
theorem dX6_says_9 : decode cX6_says 9 = .ok (.getfield 17, 3) := dk_180 0 17 (dk_at dksX6_says_0 9 rfl rfl)
theorem dX6_says_12 : decode cX6_says 12 = .ok (.sipush 987, 3) := dk_17 3 219 (dk_at dksX6_says_0 12 rfl rfl)
theorem dX6_says_15 : decode cX6_says 15 = .ok (.iaload, 1) := dk_46 (dk_at dksX6_says_0 15 rfl rfl)
theorem dX6_says_16 : decode cX6_says 16 = .ok (.iconst 1, 1) := dk_4 (dk_at dksX6_says_0 16 rfl rfl)
theorem dX6_says_17 : decode cX6_says 17 = .ok (.isub, 1) := dk_100 (dk_at dksX6_says_0 17 rfl rfl)
theorem dX6_says_18 : decode cX6_says 18 = .ok (.i2l, 1) := dk_133 (dk_at dksX6_says_0 18 rfl rfl)
theorem dX6_says_19 : decode cX6_says 19 = .ok (.invokestatic 81, 3) := dk_184 0 81 (dk_at dksX6_says_0 19 rfl rfl)
theorem dX6_says_22 : decode cX6_says 22 = .ok (.ifCond .eq 15, 3) := dk_153 0 15 (dk_at dksX6_says_1 0 rfl rfl)
theorem dX6_says_25 : decode cX6_says 25 = .ok (.iload_n 2, 1) := dk_28 (dk_at dksX6_says_1 3 rfl rfl)
theorem dX6_says_26 : decode cX6_says 26 = .ok (.i2l, 1) := dk_133 (dk_at dksX6_says_1 4 rfl rfl)
theorem dX6_says_27 : decode cX6_says 27 = .ok (.lconst 0, 1) := dk_9 (dk_at dksX6_says_1 5 rfl rfl)
theorem dX6_says_28 : decode cX6_says 28 = .ok (.ldc2_w 91, 3) := dk_20 0 91 (dk_at dksX6_says_1 6 rfl rfl)
theorem dX6_says_31 : decode cX6_says 31 = .ok (.invokestatic 81, 3) := dk_184 0 81 (dk_at dksX6_says_1 9 rfl rfl)
theorem dX6_says_34 : decode cX6_says 34 = .ok (.ifCond .ne 10, 3) := dk_154 0 10 (dk_at dksX6_says_1 12 rfl rfl)
theorem dX6_says_37 : decode cX6_says 37 = .ok (.aload_n 0, 1) := dk_42 (dk_at dksX6_says_1 15 rfl rfl)
theorem dX6_says_38 : decode cX6_says 38 = .ok (.bipush (-2), 2) := dk_16 254 (dk_at dksX6_says_1 16 rfl rfl)
theorem dX6_says_40 : decode cX6_says 40 = .ok (.invokevirtual 85, 3) := dk_182 0 85 (dk_at dksX6_says_1 18 rfl rfl)
theorem dX6_says_43 : decode cX6_says 43 = .ok (.ireturn, 1) := dk_172 (dk_at dksX6_says_1 21 rfl rfl)
theorem dX6_says_44 : decode cX6_says 44 = .ok (.iload_n 3, 1) := dk_29 (dk_at dksX6_says_1 22 rfl rfl)
theorem dX6_says_45 : decode cX6_says 45 = .ok (.i2l, 1) := dk_133 (dk_at dksX6_says_1 23 rfl rfl)
theorem dX6_says_46 : decode cX6_says 46 = .ok (.lconst 0, 1) := dk_9 (dk_at dksX6_says_2 0 rfl rfl)
theorem dX6_says_47 : decode cX6_says 47 = .ok (.ldc2_w 335, 3) := dk_20 1 79 (dk_at dksX6_says_2 1 rfl rfl)
theorem dX6_says_50 : decode cX6_says 50 = .ok (.invokestatic 81, 3) := dk_184 0 81 (dk_at dksX6_says_2 4 rfl rfl)
theorem dX6_says_53 : decode cX6_says 53 = .ok (.ifCond .ne 10, 3) := dk_154 0 10 (dk_at dksX6_says_2 7 rfl rfl)
theorem dX6_says_56 : decode cX6_says 56 = .ok (.aload_n 0, 1) := dk_42 (dk_at dksX6_says_2 10 rfl rfl)
theorem dX6_says_57 : decode cX6_says 57 = .ok (.bipush (-3), 2) := dk_16 253 (dk_at dksX6_says_2 11 rfl rfl)
theorem dX6_says_59 : decode cX6_says 59 = .ok (.invokevirtual 85, 3) := dk_182 0 85 (dk_at dksX6_says_2 13 rfl rfl)
theorem dX6_says_62 : decode cX6_says 62 = .ok (.ireturn, 1) := dk_172 (dk_at dksX6_says_2 16 rfl rfl)
theorem dX6_says_63 : decode cX6_says 63 = .ok (.aload_n 0, 1) := dk_42 (dk_at dksX6_says_2 17 rfl rfl)
theorem dX6_says_64 : decode cX6_says 64 = .ok (.getfield 17, 3) := dk_180 0 17 (dk_at dksX6_says_2 18 rfl rfl)
theorem dX6_says_67 : decode cX6_says 67 = .ok (.sipush 996, 3) := dk_17 3 228 (dk_at dksX6_says_2 21 rfl rfl)
theorem dX6_says_70 : decode cX6_says 70 = .ok (.bipush 16, 2) := dk_16 16 (dk_at dksX6_says_3 0 rfl rfl)
theorem dX6_says_72 : decode cX6_says 72 = .ok (.iload_n 1, 1) := dk_27 (dk_at dksX6_says_3 2 rfl rfl)
theorem dX6_says_73 : decode cX6_says 73 = .ok (.imul, 1) := dk_104 (dk_at dksX6_says_3 3 rfl rfl)
theorem dX6_says_74 : decode cX6_says 74 = .ok (.iadd, 1) := dk_96 (dk_at dksX6_says_3 4 rfl rfl)
theorem dX6_says_75 : decode cX6_says 75 = .ok (.iload_n 2, 1) := dk_28 (dk_at dksX6_says_3 5 rfl rfl)
theorem dX6_says_76 : decode cX6_says 76 = .ok (.iadd, 1) := dk_96 (dk_at dksX6_says_3 6 rfl rfl)
theorem dX6_says_77 : decode cX6_says 77 = .ok (.iaload, 1) := dk_46 (dk_at dksX6_says_3 7 rfl rfl)
theorem dX6_says_78 : decode cX6_says 78 = .ok (.istore 4, 2) := dk_54 4 (dk_at dksX6_says_3 8 rfl rfl)
theorem dX6_says_80 : decode cX6_says 80 = .ok (.aload_n 0, 1) := dk_42 (dk_at dksX6_says_3 10 rfl rfl)
theorem dX6_says_81 : decode cX6_says 81 = .ok (.getfield 17, 3) := dk_180 0 17 (dk_at dksX6_says_3 11 rfl rfl)
theorem dX6_says_84 : decode cX6_says 84 = .ok (.sipush 996, 3) := dk_17 3 228 (dk_at dksX6_says_3 14 rfl rfl)
theorem dX6_says_87 : decode cX6_says 87 = .ok (.bipush 16, 2) := dk_16 16 (dk_at dksX6_says_3 17 rfl rfl)
theorem dX6_says_89 : decode cX6_says 89 = .ok (.iload_n 1, 1) := dk_27 (dk_at dksX6_says_3 19 rfl rfl)
theorem dX6_says_90 : decode cX6_says 90 = .ok (.imul, 1) := dk_104 (dk_at dksX6_says_3 20 rfl rfl)
theorem dX6_says_91 : decode cX6_says 91 = .ok (.iadd, 1) := dk_96 (dk_at dksX6_says_3 21 rfl rfl)
theorem dX6_says_92 : decode cX6_says 92 = .ok (.iload_n 2, 1) := dk_28 (dk_at dksX6_says_3 22 rfl rfl)
theorem dX6_says_93 : decode cX6_says 93 = .ok (.iadd, 1) := dk_96 (dk_at dksX6_says_3 23 rfl rfl)
theorem dX6_says_94 : decode cX6_says 94 = .ok (.iload_n 3, 1) := dk_29 (dk_at dksX6_says_4 0 rfl rfl)
theorem dX6_says_95 : decode cX6_says 95 = .ok (.iastore, 1) := dk_79 (dk_at dksX6_says_4 1 rfl rfl)
theorem dX6_says_96 : decode cX6_says 96 = .ok (.iload 4, 2) := dk_21 4 (dk_at dksX6_says_4 2 rfl rfl)
theorem dX6_says_98 : decode cX6_says 98 = .ok (.ireturn, 1) := dk_172 (dk_at dksX6_says_4 4 rfl rfl)
abbrev cX6_ask : ByteArray := prog_28_method_97_code
def yX6_ask : MethodName := ⟨RX6, "ask", "(II)I"⟩
def dkwX6_ask_6 : List UInt8 := [167, 255, 198, 132, 4, 1, 167, 255, 156, 28, 154, 0, 12, 42, 180, 0, 61, 27, 46, 167, 0, 4, 29, 172]
abbrev dktX6_ask_6 : List UInt8 := dkwX6_ask_6 ++ []
def dkwX6_ask_5 : List UInt8 := [21, 4, 46, 161, 0, 6, 167, 0, 15, 42, 180, 0, 61, 21, 4, 21, 6, 79, 21, 5, 62, 132, 5, 1]
abbrev dktX6_ask_5 : List UInt8 := dkwX6_ask_5 ++ dktX6_ask_6
def dkwX6_ask_4 : List UInt8 := [21, 5, 182, 1, 100, 54, 6, 21, 6, 2, 159, 0, 35, 29, 2, 159, 0, 18, 21, 6, 42, 180, 0, 61]
abbrev dktX6_ask_4 : List UInt8 := dkwX6_ask_4 ++ dktX6_ask_5
def dkwX6_ask_3 : List UInt8 := [154, 0, 75, 21, 4, 154, 0, 6, 167, 0, 67, 3, 54, 5, 21, 5, 16, 16, 162, 0, 57, 42, 21, 4]
abbrev dktX6_ask_3 : List UInt8 := dkwX6_ask_3 ++ dktX6_ask_4
def dkwX6_ask_2 : List UInt8 := [54, 4, 21, 4, 27, 163, 0, 100, 42, 180, 0, 61, 21, 4, 3, 79, 2, 62, 21, 4, 27, 2, 130, 126]
abbrev dktX6_ask_2 : List UInt8 := dkwX6_ask_2 ++ dktX6_ask_3
def dkwX6_ask_1 : List UInt8 := [17, 3, 219, 46, 120, 4, 100, 133, 184, 0, 81, 154, 0, 10, 42, 16, 254, 182, 0, 85, 172, 2, 62, 3]
abbrev dktX6_ask_1 : List UInt8 := dkwX6_ask_1 ++ dktX6_ask_2
def dkwX6_ask_0 : List UInt8 := [42, 3, 181, 0, 1, 28, 133, 9, 10, 184, 0, 81, 153, 0, 25, 27, 133, 9, 4, 42, 180, 0, 17]
abbrev dktX6_ask_0 : List UInt8 := dkwX6_ask_0 ++ dktX6_ask_1
theorem dksX6_ask_0 : cX6_ask.data.toList.drop 0 = dktX6_ask_0 := by decide +kernel
theorem dksX6_ask_1 : cX6_ask.data.toList.drop 23 = dktX6_ask_1 := dk_seg dksX6_ask_0 23 rfl rfl
theorem dksX6_ask_2 : cX6_ask.data.toList.drop 47 = dktX6_ask_2 := dk_seg dksX6_ask_1 24 rfl rfl
theorem dksX6_ask_3 : cX6_ask.data.toList.drop 71 = dktX6_ask_3 := dk_seg dksX6_ask_2 24 rfl rfl
theorem dksX6_ask_4 : cX6_ask.data.toList.drop 95 = dktX6_ask_4 := dk_seg dksX6_ask_3 24 rfl rfl
theorem dksX6_ask_5 : cX6_ask.data.toList.drop 119 = dktX6_ask_5 := dk_seg dksX6_ask_4 24 rfl rfl
theorem dksX6_ask_6 : cX6_ask.data.toList.drop 143 = dktX6_ask_6 := dk_seg dksX6_ask_5 24 rfl rfl
theorem dX6_ask_0 : decode cX6_ask 0 = .ok (.aload_n 0, 1) := dk_42 (dk_at dksX6_ask_0 0 rfl rfl)
theorem dX6_ask_1 : decode cX6_ask 1 = .ok (.iconst 0, 1) := dk_3 (dk_at dksX6_ask_0 1 rfl rfl)
theorem dX6_ask_2 : decode cX6_ask 2 = .ok (.putfield 1, 3) := dk_181 0 1 (dk_at dksX6_ask_0 2 rfl rfl)
theorem dX6_ask_5 : decode cX6_ask 5 = .ok (.iload_n 2, 1) := dk_28 (dk_at dksX6_ask_0 5 rfl rfl)
theorem dX6_ask_6 : decode cX6_ask 6 = .ok (.i2l, 1) := dk_133 (dk_at dksX6_ask_0 6 rfl rfl)
theorem dX6_ask_7 : decode cX6_ask 7 = .ok (.lconst 0, 1) := dk_9 (dk_at dksX6_ask_0 7 rfl rfl)
theorem dX6_ask_8 : decode cX6_ask 8 = .ok (.lconst 1, 1) := dk_10 (dk_at dksX6_ask_0 8 rfl rfl)
theorem dX6_ask_9 : decode cX6_ask 9 = .ok (.invokestatic 81, 3) := dk_184 0 81 (dk_at dksX6_ask_0 9 rfl rfl)
theorem dX6_ask_12 : decode cX6_ask 12 = .ok (.ifCond .eq 25, 3) := dk_153 0 25 (dk_at dksX6_ask_0 12 rfl rfl)
theorem dX6_ask_15 : decode cX6_ask 15 = .ok (.iload_n 1, 1) := dk_27 (dk_at dksX6_ask_0 15 rfl rfl)
theorem dX6_ask_16 : decode cX6_ask 16 = .ok (.i2l, 1) := dk_133 (dk_at dksX6_ask_0 16 rfl rfl)
theorem dX6_ask_17 : decode cX6_ask 17 = .ok (.lconst 0, 1) := dk_9 (dk_at dksX6_ask_0 17 rfl rfl)
theorem dX6_ask_18 : decode cX6_ask 18 = .ok (.iconst 1, 1) := dk_4 (dk_at dksX6_ask_0 18 rfl rfl)
theorem dX6_ask_19 : decode cX6_ask 19 = .ok (.aload_n 0, 1) := dk_42 (dk_at dksX6_ask_0 19 rfl rfl)
theorem dX6_ask_20 : decode cX6_ask 20 = .ok (.getfield 17, 3) := dk_180 0 17 (dk_at dksX6_ask_0 20 rfl rfl)
theorem dX6_ask_23 : decode cX6_ask 23 = .ok (.sipush 987, 3) := dk_17 3 219 (dk_at dksX6_ask_1 0 rfl rfl)
theorem dX6_ask_26 : decode cX6_ask 26 = .ok (.iaload, 1) := dk_46 (dk_at dksX6_ask_1 3 rfl rfl)
theorem dX6_ask_27 : decode cX6_ask 27 = .ok (.ishl, 1) := dk_120 (dk_at dksX6_ask_1 4 rfl rfl)
theorem dX6_ask_28 : decode cX6_ask 28 = .ok (.iconst 1, 1) := dk_4 (dk_at dksX6_ask_1 5 rfl rfl)
theorem dX6_ask_29 : decode cX6_ask 29 = .ok (.isub, 1) := dk_100 (dk_at dksX6_ask_1 6 rfl rfl)
theorem dX6_ask_30 : decode cX6_ask 30 = .ok (.i2l, 1) := dk_133 (dk_at dksX6_ask_1 7 rfl rfl)
theorem dX6_ask_31 : decode cX6_ask 31 = .ok (.invokestatic 81, 3) := dk_184 0 81 (dk_at dksX6_ask_1 8 rfl rfl)
theorem dX6_ask_34 : decode cX6_ask 34 = .ok (.ifCond .ne 10, 3) := dk_154 0 10 (dk_at dksX6_ask_1 11 rfl rfl)
theorem dX6_ask_37 : decode cX6_ask 37 = .ok (.aload_n 0, 1) := dk_42 (dk_at dksX6_ask_1 14 rfl rfl)
theorem dX6_ask_38 : decode cX6_ask 38 = .ok (.bipush (-2), 2) := dk_16 254 (dk_at dksX6_ask_1 15 rfl rfl)
theorem dX6_ask_40 : decode cX6_ask 40 = .ok (.invokevirtual 85, 3) := dk_182 0 85 (dk_at dksX6_ask_1 17 rfl rfl)
theorem dX6_ask_43 : decode cX6_ask 43 = .ok (.ireturn, 1) := dk_172 (dk_at dksX6_ask_1 20 rfl rfl)
theorem dX6_ask_44 : decode cX6_ask 44 = .ok (.iconst (-1), 1) := dk_2 (dk_at dksX6_ask_1 21 rfl rfl)
theorem dX6_ask_45 : decode cX6_ask 45 = .ok (.istore_n 3, 1) := dk_62 (dk_at dksX6_ask_1 22 rfl rfl)
theorem dX6_ask_46 : decode cX6_ask 46 = .ok (.iconst 0, 1) := dk_3 (dk_at dksX6_ask_1 23 rfl rfl)
theorem dX6_ask_47 : decode cX6_ask 47 = .ok (.istore 4, 2) := dk_54 4 (dk_at dksX6_ask_2 0 rfl rfl)
theorem dX6_ask_49 : decode cX6_ask 49 = .ok (.iload 4, 2) := dk_21 4 (dk_at dksX6_ask_2 2 rfl rfl)
theorem dX6_ask_51 : decode cX6_ask 51 = .ok (.iload_n 1, 1) := dk_27 (dk_at dksX6_ask_2 4 rfl rfl)
theorem dX6_ask_52 : decode cX6_ask 52 = .ok (.if_icmp .gt 100, 3) := dk_163 0 100 (dk_at dksX6_ask_2 5 rfl rfl)
theorem dX6_ask_55 : decode cX6_ask 55 = .ok (.aload_n 0, 1) := dk_42 (dk_at dksX6_ask_2 8 rfl rfl)
theorem dX6_ask_56 : decode cX6_ask 56 = .ok (.getfield 61, 3) := dk_180 0 61 (dk_at dksX6_ask_2 9 rfl rfl)
theorem dX6_ask_59 : decode cX6_ask 59 = .ok (.iload 4, 2) := dk_21 4 (dk_at dksX6_ask_2 12 rfl rfl)
theorem dX6_ask_61 : decode cX6_ask 61 = .ok (.iconst 0, 1) := dk_3 (dk_at dksX6_ask_2 14 rfl rfl)
theorem dX6_ask_62 : decode cX6_ask 62 = .ok (.iastore, 1) := dk_79 (dk_at dksX6_ask_2 15 rfl rfl)
theorem dX6_ask_63 : decode cX6_ask 63 = .ok (.iconst (-1), 1) := dk_2 (dk_at dksX6_ask_2 16 rfl rfl)
theorem dX6_ask_64 : decode cX6_ask 64 = .ok (.istore_n 3, 1) := dk_62 (dk_at dksX6_ask_2 17 rfl rfl)
theorem dX6_ask_65 : decode cX6_ask 65 = .ok (.iload 4, 2) := dk_21 4 (dk_at dksX6_ask_2 18 rfl rfl)
theorem dX6_ask_67 : decode cX6_ask 67 = .ok (.iload_n 1, 1) := dk_27 (dk_at dksX6_ask_2 20 rfl rfl)
theorem dX6_ask_68 : decode cX6_ask 68 = .ok (.iconst (-1), 1) := dk_2 (dk_at dksX6_ask_2 21 rfl rfl)
theorem dX6_ask_69 : decode cX6_ask 69 = .ok (.ixor, 1) := dk_130 (dk_at dksX6_ask_2 22 rfl rfl)
theorem dX6_ask_70 : decode cX6_ask 70 = .ok (.iand, 1) := dk_126 (dk_at dksX6_ask_2 23 rfl rfl)
theorem dX6_ask_71 : decode cX6_ask 71 = .ok (.ifCond .ne 75, 3) := dk_154 0 75 (dk_at dksX6_ask_3 0 rfl rfl)
theorem dX6_ask_74 : decode cX6_ask 74 = .ok (.iload 4, 2) := dk_21 4 (dk_at dksX6_ask_3 3 rfl rfl)
theorem dX6_ask_76 : decode cX6_ask 76 = .ok (.ifCond .ne 6, 3) := dk_154 0 6 (dk_at dksX6_ask_3 5 rfl rfl)
theorem dX6_ask_79 : decode cX6_ask 79 = .ok (.goto 67, 3) := dk_167 0 67 (dk_at dksX6_ask_3 8 rfl rfl)
theorem dX6_ask_82 : decode cX6_ask 82 = .ok (.iconst 0, 1) := dk_3 (dk_at dksX6_ask_3 11 rfl rfl)
theorem dX6_ask_83 : decode cX6_ask 83 = .ok (.istore 5, 2) := dk_54 5 (dk_at dksX6_ask_3 12 rfl rfl)
theorem dX6_ask_85 : decode cX6_ask 85 = .ok (.iload 5, 2) := dk_21 5 (dk_at dksX6_ask_3 14 rfl rfl)
theorem dX6_ask_87 : decode cX6_ask 87 = .ok (.bipush 16, 2) := dk_16 16 (dk_at dksX6_ask_3 16 rfl rfl)
theorem dX6_ask_89 : decode cX6_ask 89 = .ok (.if_icmp .ge 57, 3) := dk_162 0 57 (dk_at dksX6_ask_3 18 rfl rfl)
theorem dX6_ask_92 : decode cX6_ask 92 = .ok (.aload_n 0, 1) := dk_42 (dk_at dksX6_ask_3 21 rfl rfl)
theorem dX6_ask_93 : decode cX6_ask 93 = .ok (.iload 4, 2) := dk_21 4 (dk_at dksX6_ask_3 22 rfl rfl)
theorem dX6_ask_95 : decode cX6_ask 95 = .ok (.iload 5, 2) := dk_21 5 (dk_at dksX6_ask_4 0 rfl rfl)
theorem dX6_ask_97 : decode cX6_ask 97 = .ok (.invokevirtual 356, 3) := dk_182 1 100 (dk_at dksX6_ask_4 2 rfl rfl)
theorem dX6_ask_100 : decode cX6_ask 100 = .ok (.istore 6, 2) := dk_54 6 (dk_at dksX6_ask_4 5 rfl rfl)
theorem dX6_ask_102 : decode cX6_ask 102 = .ok (.iload 6, 2) := dk_21 6 (dk_at dksX6_ask_4 7 rfl rfl)
theorem dX6_ask_104 : decode cX6_ask 104 = .ok (.iconst (-1), 1) := dk_2 (dk_at dksX6_ask_4 9 rfl rfl)
theorem dX6_ask_105 : decode cX6_ask 105 = .ok (.if_icmp .eq 35, 3) := dk_159 0 35 (dk_at dksX6_ask_4 10 rfl rfl)
theorem dX6_ask_108 : decode cX6_ask 108 = .ok (.iload_n 3, 1) := dk_29 (dk_at dksX6_ask_4 13 rfl rfl)
theorem dX6_ask_109 : decode cX6_ask 109 = .ok (.iconst (-1), 1) := dk_2 (dk_at dksX6_ask_4 14 rfl rfl)
theorem dX6_ask_110 : decode cX6_ask 110 = .ok (.if_icmp .eq 18, 3) := dk_159 0 18 (dk_at dksX6_ask_4 15 rfl rfl)
theorem dX6_ask_113 : decode cX6_ask 113 = .ok (.iload 6, 2) := dk_21 6 (dk_at dksX6_ask_4 18 rfl rfl)
theorem dX6_ask_115 : decode cX6_ask 115 = .ok (.aload_n 0, 1) := dk_42 (dk_at dksX6_ask_4 20 rfl rfl)
theorem dX6_ask_116 : decode cX6_ask 116 = .ok (.getfield 61, 3) := dk_180 0 61 (dk_at dksX6_ask_4 21 rfl rfl)
theorem dX6_ask_119 : decode cX6_ask 119 = .ok (.iload 4, 2) := dk_21 4 (dk_at dksX6_ask_5 0 rfl rfl)
theorem dX6_ask_121 : decode cX6_ask 121 = .ok (.iaload, 1) := dk_46 (dk_at dksX6_ask_5 2 rfl rfl)
theorem dX6_ask_122 : decode cX6_ask 122 = .ok (.if_icmp .lt 6, 3) := dk_161 0 6 (dk_at dksX6_ask_5 3 rfl rfl)
theorem dX6_ask_125 : decode cX6_ask 125 = .ok (.goto 15, 3) := dk_167 0 15 (dk_at dksX6_ask_5 6 rfl rfl)
theorem dX6_ask_128 : decode cX6_ask 128 = .ok (.aload_n 0, 1) := dk_42 (dk_at dksX6_ask_5 9 rfl rfl)
theorem dX6_ask_129 : decode cX6_ask 129 = .ok (.getfield 61, 3) := dk_180 0 61 (dk_at dksX6_ask_5 10 rfl rfl)
theorem dX6_ask_132 : decode cX6_ask 132 = .ok (.iload 4, 2) := dk_21 4 (dk_at dksX6_ask_5 13 rfl rfl)
theorem dX6_ask_134 : decode cX6_ask 134 = .ok (.iload 6, 2) := dk_21 6 (dk_at dksX6_ask_5 15 rfl rfl)
theorem dX6_ask_136 : decode cX6_ask 136 = .ok (.iastore, 1) := dk_79 (dk_at dksX6_ask_5 17 rfl rfl)
theorem dX6_ask_137 : decode cX6_ask 137 = .ok (.iload 5, 2) := dk_21 5 (dk_at dksX6_ask_5 18 rfl rfl)
theorem dX6_ask_139 : decode cX6_ask 139 = .ok (.istore_n 3, 1) := dk_62 (dk_at dksX6_ask_5 20 rfl rfl)
theorem dX6_ask_140 : decode cX6_ask 140 = .ok (.iinc 5 1, 3) := dk_132 5 1 (dk_at dksX6_ask_5 21 rfl rfl)
theorem dX6_ask_143 : decode cX6_ask 143 = .ok (.goto (-58), 3) := dk_167 255 198 (dk_at dksX6_ask_6 0 rfl rfl)
theorem dX6_ask_146 : decode cX6_ask 146 = .ok (.iinc 4 1, 3) := dk_132 4 1 (dk_at dksX6_ask_6 3 rfl rfl)
theorem dX6_ask_149 : decode cX6_ask 149 = .ok (.goto (-100), 3) := dk_167 255 156 (dk_at dksX6_ask_6 6 rfl rfl)
theorem dX6_ask_152 : decode cX6_ask 152 = .ok (.iload_n 2, 1) := dk_28 (dk_at dksX6_ask_6 9 rfl rfl)
theorem dX6_ask_153 : decode cX6_ask 153 = .ok (.ifCond .ne 12, 3) := dk_154 0 12 (dk_at dksX6_ask_6 10 rfl rfl)
theorem dX6_ask_156 : decode cX6_ask 156 = .ok (.aload_n 0, 1) := dk_42 (dk_at dksX6_ask_6 13 rfl rfl)
theorem dX6_ask_157 : decode cX6_ask 157 = .ok (.getfield 61, 3) := dk_180 0 61 (dk_at dksX6_ask_6 14 rfl rfl)
theorem dX6_ask_160 : decode cX6_ask 160 = .ok (.iload_n 1, 1) := dk_27 (dk_at dksX6_ask_6 17 rfl rfl)
theorem dX6_ask_161 : decode cX6_ask 161 = .ok (.iaload, 1) := dk_46 (dk_at dksX6_ask_6 18 rfl rfl)
theorem dX6_ask_162 : decode cX6_ask 162 = .ok (.goto 4, 3) := dk_167 0 4 (dk_at dksX6_ask_6 19 rfl rfl)
theorem dX6_ask_165 : decode cX6_ask 165 = .ok (.iload_n 3, 1) := dk_29 (dk_at dksX6_ask_6 22 rfl rfl)
theorem dX6_ask_166 : decode cX6_ask 166 = .ok (.ireturn, 1) := dk_172 (dk_at dksX6_ask_6 23 rfl rfl)
abbrev cX6_costBy : ByteArray := prog_28_method_96_code
def yX6_costBy : MethodName := ⟨RX6, "costBy", "(II)I"⟩
def dkwX6_costBy_2 : List UInt8 := [167, 255, 219, 29, 172]
abbrev dktX6_costBy_2 : List UInt8 := dkwX6_costBy_2 ++ []
def dkwX6_costBy_1 : List UInt8 := [54, 5, 21, 5, 27, 160, 0, 5, 2, 172, 29, 42, 180, 0, 61, 21, 5, 46, 96, 62, 132, 4, 1]
abbrev dktX6_costBy_1 : List UInt8 := dkwX6_costBy_1 ++ dktX6_costBy_2
def dkwX6_costBy_0 : List UInt8 := [42, 27, 182, 1, 94, 62, 3, 54, 4, 21, 4, 7, 162, 0, 37, 42, 27, 28, 21, 4, 182, 1, 97]
abbrev dktX6_costBy_0 : List UInt8 := dkwX6_costBy_0 ++ dktX6_costBy_1
theorem dksX6_costBy_0 : cX6_costBy.data.toList.drop 0 = dktX6_costBy_0 := by decide +kernel
theorem dksX6_costBy_1 : cX6_costBy.data.toList.drop 23 = dktX6_costBy_1 := dk_seg dksX6_costBy_0 23 rfl rfl
theorem dksX6_costBy_2 : cX6_costBy.data.toList.drop 46 = dktX6_costBy_2 := dk_seg dksX6_costBy_1 23 rfl rfl
theorem dX6_costBy_0 : decode cX6_costBy 0 = .ok (.aload_n 0, 1) := dk_42 (dk_at dksX6_costBy_0 0 rfl rfl)
theorem dX6_costBy_1 : decode cX6_costBy 1 = .ok (.iload_n 1, 1) := dk_27 (dk_at dksX6_costBy_0 1 rfl rfl)
theorem dX6_costBy_2 : decode cX6_costBy 2 = .ok (.invokevirtual 350, 3) := dk_182 1 94 (dk_at dksX6_costBy_0 2 rfl rfl)
theorem dX6_costBy_5 : decode cX6_costBy 5 = .ok (.istore_n 3, 1) := dk_62 (dk_at dksX6_costBy_0 5 rfl rfl)
theorem dX6_costBy_6 : decode cX6_costBy 6 = .ok (.iconst 0, 1) := dk_3 (dk_at dksX6_costBy_0 6 rfl rfl)
theorem dX6_costBy_7 : decode cX6_costBy 7 = .ok (.istore 4, 2) := dk_54 4 (dk_at dksX6_costBy_0 7 rfl rfl)
theorem dX6_costBy_9 : decode cX6_costBy 9 = .ok (.iload 4, 2) := dk_21 4 (dk_at dksX6_costBy_0 9 rfl rfl)
theorem dX6_costBy_11 : decode cX6_costBy 11 = .ok (.iconst 4, 1) := dk_7 (dk_at dksX6_costBy_0 11 rfl rfl)
theorem dX6_costBy_12 : decode cX6_costBy 12 = .ok (.if_icmp .ge 37, 3) := dk_162 0 37 (dk_at dksX6_costBy_0 12 rfl rfl)
theorem dX6_costBy_15 : decode cX6_costBy 15 = .ok (.aload_n 0, 1) := dk_42 (dk_at dksX6_costBy_0 15 rfl rfl)
theorem dX6_costBy_16 : decode cX6_costBy 16 = .ok (.iload_n 1, 1) := dk_27 (dk_at dksX6_costBy_0 16 rfl rfl)
theorem dX6_costBy_17 : decode cX6_costBy 17 = .ok (.iload_n 2, 1) := dk_28 (dk_at dksX6_costBy_0 17 rfl rfl)
theorem dX6_costBy_18 : decode cX6_costBy 18 = .ok (.iload 4, 2) := dk_21 4 (dk_at dksX6_costBy_0 18 rfl rfl)
theorem dX6_costBy_20 : decode cX6_costBy 20 = .ok (.invokevirtual 353, 3) := dk_182 1 97 (dk_at dksX6_costBy_0 20 rfl rfl)
theorem dX6_costBy_23 : decode cX6_costBy 23 = .ok (.istore 5, 2) := dk_54 5 (dk_at dksX6_costBy_1 0 rfl rfl)
theorem dX6_costBy_25 : decode cX6_costBy 25 = .ok (.iload 5, 2) := dk_21 5 (dk_at dksX6_costBy_1 2 rfl rfl)
theorem dX6_costBy_27 : decode cX6_costBy 27 = .ok (.iload_n 1, 1) := dk_27 (dk_at dksX6_costBy_1 4 rfl rfl)
theorem dX6_costBy_28 : decode cX6_costBy 28 = .ok (.if_icmp .ne 5, 3) := dk_160 0 5 (dk_at dksX6_costBy_1 5 rfl rfl)
theorem dX6_costBy_31 : decode cX6_costBy 31 = .ok (.iconst (-1), 1) := dk_2 (dk_at dksX6_costBy_1 8 rfl rfl)
theorem dX6_costBy_32 : decode cX6_costBy 32 = .ok (.ireturn, 1) := dk_172 (dk_at dksX6_costBy_1 9 rfl rfl)
theorem dX6_costBy_33 : decode cX6_costBy 33 = .ok (.iload_n 3, 1) := dk_29 (dk_at dksX6_costBy_1 10 rfl rfl)
theorem dX6_costBy_34 : decode cX6_costBy 34 = .ok (.aload_n 0, 1) := dk_42 (dk_at dksX6_costBy_1 11 rfl rfl)
theorem dX6_costBy_35 : decode cX6_costBy 35 = .ok (.getfield 61, 3) := dk_180 0 61 (dk_at dksX6_costBy_1 12 rfl rfl)
theorem dX6_costBy_38 : decode cX6_costBy 38 = .ok (.iload 5, 2) := dk_21 5 (dk_at dksX6_costBy_1 15 rfl rfl)
theorem dX6_costBy_40 : decode cX6_costBy 40 = .ok (.iaload, 1) := dk_46 (dk_at dksX6_costBy_1 17 rfl rfl)
theorem dX6_costBy_41 : decode cX6_costBy 41 = .ok (.iadd, 1) := dk_96 (dk_at dksX6_costBy_1 18 rfl rfl)
theorem dX6_costBy_42 : decode cX6_costBy 42 = .ok (.istore_n 3, 1) := dk_62 (dk_at dksX6_costBy_1 19 rfl rfl)
theorem dX6_costBy_43 : decode cX6_costBy 43 = .ok (.iinc 4 1, 3) := dk_132 4 1 (dk_at dksX6_costBy_1 20 rfl rfl)
theorem dX6_costBy_46 : decode cX6_costBy 46 = .ok (.goto (-37), 3) := dk_167 255 219 (dk_at dksX6_costBy_2 0 rfl rfl)
theorem dX6_costBy_49 : decode cX6_costBy 49 = .ok (.iload_n 3, 1) := dk_29 (dk_at dksX6_costBy_2 3 rfl rfl)
theorem dX6_costBy_50 : decode cX6_costBy 50 = .ok (.ireturn, 1) := dk_172 (dk_at dksX6_costBy_2 4 rfl rfl)
abbrev cX6_weightOf : ByteArray := prog_28_method_95_code
def yX6_weightOf : MethodName := ⟨RX6, "weightOf", "(I)I"⟩
def dkwX6_weightOf_2 : List UInt8 := [167, 255, 215, 28, 172]
abbrev dktX6_weightOf_2 : List UInt8 := dkwX6_weightOf_2 ++ []
def dkwX6_weightOf_1 : List UInt8 := [160, 0, 16, 42, 180, 0, 17, 17, 3, 220, 29, 96, 46, 167, 0, 4, 3, 96, 61, 132, 3, 1]
abbrev dktX6_weightOf_1 : List UInt8 := dkwX6_weightOf_1 ++ dktX6_weightOf_2
def dkwX6_weightOf_0 : List UInt8 := [3, 61, 3, 62, 29, 42, 180, 0, 17, 17, 3, 219, 46, 162, 0, 35, 28, 27, 29, 122, 4, 126, 4]
abbrev dktX6_weightOf_0 : List UInt8 := dkwX6_weightOf_0 ++ dktX6_weightOf_1
theorem dksX6_weightOf_0 : cX6_weightOf.data.toList.drop 0 = dktX6_weightOf_0 := by decide +kernel
theorem dksX6_weightOf_1 : cX6_weightOf.data.toList.drop 23 = dktX6_weightOf_1 := dk_seg dksX6_weightOf_0 23 rfl rfl
theorem dksX6_weightOf_2 : cX6_weightOf.data.toList.drop 45 = dktX6_weightOf_2 := dk_seg dksX6_weightOf_1 22 rfl rfl
theorem dX6_weightOf_0 : decode cX6_weightOf 0 = .ok (.iconst 0, 1) := dk_3 (dk_at dksX6_weightOf_0 0 rfl rfl)
theorem dX6_weightOf_1 : decode cX6_weightOf 1 = .ok (.istore_n 2, 1) := dk_61 (dk_at dksX6_weightOf_0 1 rfl rfl)
theorem dX6_weightOf_2 : decode cX6_weightOf 2 = .ok (.iconst 0, 1) := dk_3 (dk_at dksX6_weightOf_0 2 rfl rfl)
theorem dX6_weightOf_3 : decode cX6_weightOf 3 = .ok (.istore_n 3, 1) := dk_62 (dk_at dksX6_weightOf_0 3 rfl rfl)
theorem dX6_weightOf_4 : decode cX6_weightOf 4 = .ok (.iload_n 3, 1) := dk_29 (dk_at dksX6_weightOf_0 4 rfl rfl)
theorem dX6_weightOf_5 : decode cX6_weightOf 5 = .ok (.aload_n 0, 1) := dk_42 (dk_at dksX6_weightOf_0 5 rfl rfl)
theorem dX6_weightOf_6 : decode cX6_weightOf 6 = .ok (.getfield 17, 3) := dk_180 0 17 (dk_at dksX6_weightOf_0 6 rfl rfl)
theorem dX6_weightOf_9 : decode cX6_weightOf 9 = .ok (.sipush 987, 3) := dk_17 3 219 (dk_at dksX6_weightOf_0 9 rfl rfl)
theorem dX6_weightOf_12 : decode cX6_weightOf 12 = .ok (.iaload, 1) := dk_46 (dk_at dksX6_weightOf_0 12 rfl rfl)
theorem dX6_weightOf_13 : decode cX6_weightOf 13 = .ok (.if_icmp .ge 35, 3) := dk_162 0 35 (dk_at dksX6_weightOf_0 13 rfl rfl)
theorem dX6_weightOf_16 : decode cX6_weightOf 16 = .ok (.iload_n 2, 1) := dk_28 (dk_at dksX6_weightOf_0 16 rfl rfl)
theorem dX6_weightOf_17 : decode cX6_weightOf 17 = .ok (.iload_n 1, 1) := dk_27 (dk_at dksX6_weightOf_0 17 rfl rfl)
theorem dX6_weightOf_18 : decode cX6_weightOf 18 = .ok (.iload_n 3, 1) := dk_29 (dk_at dksX6_weightOf_0 18 rfl rfl)
theorem dX6_weightOf_19 : decode cX6_weightOf 19 = .ok (.ishr, 1) := dk_122 (dk_at dksX6_weightOf_0 19 rfl rfl)
theorem dX6_weightOf_20 : decode cX6_weightOf 20 = .ok (.iconst 1, 1) := dk_4 (dk_at dksX6_weightOf_0 20 rfl rfl)
theorem dX6_weightOf_21 : decode cX6_weightOf 21 = .ok (.iand, 1) := dk_126 (dk_at dksX6_weightOf_0 21 rfl rfl)
theorem dX6_weightOf_22 : decode cX6_weightOf 22 = .ok (.iconst 1, 1) := dk_4 (dk_at dksX6_weightOf_0 22 rfl rfl)
theorem dX6_weightOf_23 : decode cX6_weightOf 23 = .ok (.if_icmp .ne 16, 3) := dk_160 0 16 (dk_at dksX6_weightOf_1 0 rfl rfl)
theorem dX6_weightOf_26 : decode cX6_weightOf 26 = .ok (.aload_n 0, 1) := dk_42 (dk_at dksX6_weightOf_1 3 rfl rfl)
theorem dX6_weightOf_27 : decode cX6_weightOf 27 = .ok (.getfield 17, 3) := dk_180 0 17 (dk_at dksX6_weightOf_1 4 rfl rfl)
theorem dX6_weightOf_30 : decode cX6_weightOf 30 = .ok (.sipush 988, 3) := dk_17 3 220 (dk_at dksX6_weightOf_1 7 rfl rfl)
theorem dX6_weightOf_33 : decode cX6_weightOf 33 = .ok (.iload_n 3, 1) := dk_29 (dk_at dksX6_weightOf_1 10 rfl rfl)
theorem dX6_weightOf_34 : decode cX6_weightOf 34 = .ok (.iadd, 1) := dk_96 (dk_at dksX6_weightOf_1 11 rfl rfl)
theorem dX6_weightOf_35 : decode cX6_weightOf 35 = .ok (.iaload, 1) := dk_46 (dk_at dksX6_weightOf_1 12 rfl rfl)
theorem dX6_weightOf_36 : decode cX6_weightOf 36 = .ok (.goto 4, 3) := dk_167 0 4 (dk_at dksX6_weightOf_1 13 rfl rfl)
theorem dX6_weightOf_39 : decode cX6_weightOf 39 = .ok (.iconst 0, 1) := dk_3 (dk_at dksX6_weightOf_1 16 rfl rfl)
theorem dX6_weightOf_40 : decode cX6_weightOf 40 = .ok (.iadd, 1) := dk_96 (dk_at dksX6_weightOf_1 17 rfl rfl)
theorem dX6_weightOf_41 : decode cX6_weightOf 41 = .ok (.istore_n 2, 1) := dk_61 (dk_at dksX6_weightOf_1 18 rfl rfl)
theorem dX6_weightOf_42 : decode cX6_weightOf 42 = .ok (.iinc 3 1, 3) := dk_132 3 1 (dk_at dksX6_weightOf_1 19 rfl rfl)
theorem dX6_weightOf_45 : decode cX6_weightOf 45 = .ok (.goto (-41), 3) := dk_167 255 215 (dk_at dksX6_weightOf_2 0 rfl rfl)
theorem dX6_weightOf_48 : decode cX6_weightOf 48 = .ok (.iload_n 2, 1) := dk_28 (dk_at dksX6_weightOf_2 3 rfl rfl)
theorem dX6_weightOf_49 : decode cX6_weightOf 49 = .ok (.ireturn, 1) := dk_172 (dk_at dksX6_weightOf_2 4 rfl rfl)
abbrev cX6_saying : ByteArray := prog_28_method_94_code
def yX6_saying : MethodName := ⟨RX6, "saying", "(III)I"⟩
def dkwX6_saying_2 : List UInt8 := [160, 0, 12, 21, 4, 4, 21, 5, 120, 128, 54, 4, 132, 5, 1, 167, 255, 201, 21, 4, 172]
abbrev dktX6_saying_2 : List UInt8 := dkwX6_saying_2 ++ []
def dkwX6_saying_1 : List UInt8 := [126, 4, 160, 0, 32, 42, 180, 0, 17, 17, 3, 228, 16, 16, 21, 5, 104, 96, 28, 96, 46, 29]
abbrev dktX6_saying_1 : List UInt8 := dkwX6_saying_1 ++ dktX6_saying_2
def dkwX6_saying_0 : List UInt8 := [3, 54, 4, 3, 54, 5, 21, 5, 42, 180, 0, 17, 17, 3, 219, 46, 162, 0, 48, 27, 21, 5, 122, 4]
abbrev dktX6_saying_0 : List UInt8 := dkwX6_saying_0 ++ dktX6_saying_1
theorem dksX6_saying_0 : cX6_saying.data.toList.drop 0 = dktX6_saying_0 := by decide +kernel
theorem dksX6_saying_1 : cX6_saying.data.toList.drop 24 = dktX6_saying_1 := dk_seg dksX6_saying_0 24 rfl rfl
theorem dksX6_saying_2 : cX6_saying.data.toList.drop 46 = dktX6_saying_2 := dk_seg dksX6_saying_1 22 rfl rfl
theorem dX6_saying_0 : decode cX6_saying 0 = .ok (.iconst 0, 1) := dk_3 (dk_at dksX6_saying_0 0 rfl rfl)
theorem dX6_saying_1 : decode cX6_saying 1 = .ok (.istore 4, 2) := dk_54 4 (dk_at dksX6_saying_0 1 rfl rfl)
theorem dX6_saying_3 : decode cX6_saying 3 = .ok (.iconst 0, 1) := dk_3 (dk_at dksX6_saying_0 3 rfl rfl)
theorem dX6_saying_4 : decode cX6_saying 4 = .ok (.istore 5, 2) := dk_54 5 (dk_at dksX6_saying_0 4 rfl rfl)
theorem dX6_saying_6 : decode cX6_saying 6 = .ok (.iload 5, 2) := dk_21 5 (dk_at dksX6_saying_0 6 rfl rfl)
theorem dX6_saying_8 : decode cX6_saying 8 = .ok (.aload_n 0, 1) := dk_42 (dk_at dksX6_saying_0 8 rfl rfl)
theorem dX6_saying_9 : decode cX6_saying 9 = .ok (.getfield 17, 3) := dk_180 0 17 (dk_at dksX6_saying_0 9 rfl rfl)
theorem dX6_saying_12 : decode cX6_saying 12 = .ok (.sipush 987, 3) := dk_17 3 219 (dk_at dksX6_saying_0 12 rfl rfl)
theorem dX6_saying_15 : decode cX6_saying 15 = .ok (.iaload, 1) := dk_46 (dk_at dksX6_saying_0 15 rfl rfl)
theorem dX6_saying_16 : decode cX6_saying 16 = .ok (.if_icmp .ge 48, 3) := dk_162 0 48 (dk_at dksX6_saying_0 16 rfl rfl)
theorem dX6_saying_19 : decode cX6_saying 19 = .ok (.iload_n 1, 1) := dk_27 (dk_at dksX6_saying_0 19 rfl rfl)
theorem dX6_saying_20 : decode cX6_saying 20 = .ok (.iload 5, 2) := dk_21 5 (dk_at dksX6_saying_0 20 rfl rfl)
theorem dX6_saying_22 : decode cX6_saying 22 = .ok (.ishr, 1) := dk_122 (dk_at dksX6_saying_0 22 rfl rfl)
theorem dX6_saying_23 : decode cX6_saying 23 = .ok (.iconst 1, 1) := dk_4 (dk_at dksX6_saying_0 23 rfl rfl)
theorem dX6_saying_24 : decode cX6_saying 24 = .ok (.iand, 1) := dk_126 (dk_at dksX6_saying_1 0 rfl rfl)
theorem dX6_saying_25 : decode cX6_saying 25 = .ok (.iconst 1, 1) := dk_4 (dk_at dksX6_saying_1 1 rfl rfl)
theorem dX6_saying_26 : decode cX6_saying 26 = .ok (.if_icmp .ne 32, 3) := dk_160 0 32 (dk_at dksX6_saying_1 2 rfl rfl)
theorem dX6_saying_29 : decode cX6_saying 29 = .ok (.aload_n 0, 1) := dk_42 (dk_at dksX6_saying_1 5 rfl rfl)
theorem dX6_saying_30 : decode cX6_saying 30 = .ok (.getfield 17, 3) := dk_180 0 17 (dk_at dksX6_saying_1 6 rfl rfl)
theorem dX6_saying_33 : decode cX6_saying 33 = .ok (.sipush 996, 3) := dk_17 3 228 (dk_at dksX6_saying_1 9 rfl rfl)
theorem dX6_saying_36 : decode cX6_saying 36 = .ok (.bipush 16, 2) := dk_16 16 (dk_at dksX6_saying_1 12 rfl rfl)
theorem dX6_saying_38 : decode cX6_saying 38 = .ok (.iload 5, 2) := dk_21 5 (dk_at dksX6_saying_1 14 rfl rfl)
theorem dX6_saying_40 : decode cX6_saying 40 = .ok (.imul, 1) := dk_104 (dk_at dksX6_saying_1 16 rfl rfl)
theorem dX6_saying_41 : decode cX6_saying 41 = .ok (.iadd, 1) := dk_96 (dk_at dksX6_saying_1 17 rfl rfl)
theorem dX6_saying_42 : decode cX6_saying 42 = .ok (.iload_n 2, 1) := dk_28 (dk_at dksX6_saying_1 18 rfl rfl)
theorem dX6_saying_43 : decode cX6_saying 43 = .ok (.iadd, 1) := dk_96 (dk_at dksX6_saying_1 19 rfl rfl)
theorem dX6_saying_44 : decode cX6_saying 44 = .ok (.iaload, 1) := dk_46 (dk_at dksX6_saying_1 20 rfl rfl)
theorem dX6_saying_45 : decode cX6_saying 45 = .ok (.iload_n 3, 1) := dk_29 (dk_at dksX6_saying_1 21 rfl rfl)
theorem dX6_saying_46 : decode cX6_saying 46 = .ok (.if_icmp .ne 12, 3) := dk_160 0 12 (dk_at dksX6_saying_2 0 rfl rfl)
theorem dX6_saying_49 : decode cX6_saying 49 = .ok (.iload 4, 2) := dk_21 4 (dk_at dksX6_saying_2 3 rfl rfl)
theorem dX6_saying_51 : decode cX6_saying 51 = .ok (.iconst 1, 1) := dk_4 (dk_at dksX6_saying_2 5 rfl rfl)
theorem dX6_saying_52 : decode cX6_saying 52 = .ok (.iload 5, 2) := dk_21 5 (dk_at dksX6_saying_2 6 rfl rfl)
theorem dX6_saying_54 : decode cX6_saying 54 = .ok (.ishl, 1) := dk_120 (dk_at dksX6_saying_2 8 rfl rfl)
theorem dX6_saying_55 : decode cX6_saying 55 = .ok (.ior, 1) := dk_128 (dk_at dksX6_saying_2 9 rfl rfl)
theorem dX6_saying_56 : decode cX6_saying 56 = .ok (.istore 4, 2) := dk_54 4 (dk_at dksX6_saying_2 10 rfl rfl)
theorem dX6_saying_58 : decode cX6_saying 58 = .ok (.iinc 5 1, 3) := dk_132 5 1 (dk_at dksX6_saying_2 12 rfl rfl)
theorem dX6_saying_61 : decode cX6_saying 61 = .ok (.goto (-55), 3) := dk_167 255 201 (dk_at dksX6_saying_2 15 rfl rfl)
theorem dX6_saying_64 : decode cX6_saying 64 = .ok (.iload 4, 2) := dk_21 4 (dk_at dksX6_saying_2 18 rfl rfl)
theorem dX6_saying_66 : decode cX6_saying 66 = .ok (.ireturn, 1) := dk_172 (dk_at dksX6_saying_2 20 rfl rfl)
abbrev cX6_row : ByteArray := prog_28_method_99_code
def yX6_row : MethodName := ⟨RX6, "row", "(III)I"⟩
def dkwX6_row_4 : List UInt8 := [132, 4, 1, 167, 255, 234, 3, 172]
abbrev dktX6_row_4 : List UInt8 := dkwX6_row_4 ++ []
def dkwX6_row_3 : List UInt8 := [3, 54, 4, 21, 4, 29, 162, 0, 22, 42, 180, 0, 70, 16, 60, 27, 104, 21, 4, 96, 9, 80]
abbrev dktX6_row_3 : List UInt8 := dkwX6_row_3 ++ dktX6_row_4
def dkwX6_row_2 : List UInt8 := [154, 0, 10, 42, 16, 253, 182, 0, 85, 172, 42, 180, 0, 64, 27, 28, 79, 42, 180, 0, 67, 27, 29, 79]
abbrev dktX6_row_2 : List UInt8 := dkwX6_row_2 ++ dktX6_row_3
def dkwX6_row_1 : List UInt8 := [184, 0, 81, 154, 0, 10, 42, 16, 254, 182, 0, 85, 172, 29, 133, 9, 20, 1, 103, 184, 0, 81]
abbrev dktX6_row_1 : List UInt8 := dkwX6_row_1 ++ dktX6_row_2
def dkwX6_row_0 : List UInt8 := [42, 3, 181, 0, 1, 27, 133, 9, 20, 1, 79, 184, 0, 81, 153, 0, 15, 28, 133, 9, 20, 1, 79]
abbrev dktX6_row_0 : List UInt8 := dkwX6_row_0 ++ dktX6_row_1
theorem dksX6_row_0 : cX6_row.data.toList.drop 0 = dktX6_row_0 := by decide +kernel
theorem dksX6_row_1 : cX6_row.data.toList.drop 23 = dktX6_row_1 := dk_seg dksX6_row_0 23 rfl rfl
theorem dksX6_row_2 : cX6_row.data.toList.drop 45 = dktX6_row_2 := dk_seg dksX6_row_1 22 rfl rfl
theorem dksX6_row_3 : cX6_row.data.toList.drop 69 = dktX6_row_3 := dk_seg dksX6_row_2 24 rfl rfl
theorem dksX6_row_4 : cX6_row.data.toList.drop 91 = dktX6_row_4 := dk_seg dksX6_row_3 22 rfl rfl
theorem dX6_row_0 : decode cX6_row 0 = .ok (.aload_n 0, 1) := dk_42 (dk_at dksX6_row_0 0 rfl rfl)
theorem dX6_row_1 : decode cX6_row 1 = .ok (.iconst 0, 1) := dk_3 (dk_at dksX6_row_0 1 rfl rfl)
theorem dX6_row_2 : decode cX6_row 2 = .ok (.putfield 1, 3) := dk_181 0 1 (dk_at dksX6_row_0 2 rfl rfl)
theorem dX6_row_5 : decode cX6_row 5 = .ok (.iload_n 1, 1) := dk_27 (dk_at dksX6_row_0 5 rfl rfl)
theorem dX6_row_6 : decode cX6_row 6 = .ok (.i2l, 1) := dk_133 (dk_at dksX6_row_0 6 rfl rfl)
theorem dX6_row_7 : decode cX6_row 7 = .ok (.lconst 0, 1) := dk_9 (dk_at dksX6_row_0 7 rfl rfl)
theorem dX6_row_8 : decode cX6_row 8 = .ok (.ldc2_w 335, 3) := dk_20 1 79 (dk_at dksX6_row_0 8 rfl rfl)
theorem dX6_row_11 : decode cX6_row 11 = .ok (.invokestatic 81, 3) := dk_184 0 81 (dk_at dksX6_row_0 11 rfl rfl)
theorem dX6_row_14 : decode cX6_row 14 = .ok (.ifCond .eq 15, 3) := dk_153 0 15 (dk_at dksX6_row_0 14 rfl rfl)
theorem dX6_row_17 : decode cX6_row 17 = .ok (.iload_n 2, 1) := dk_28 (dk_at dksX6_row_0 17 rfl rfl)
theorem dX6_row_18 : decode cX6_row 18 = .ok (.i2l, 1) := dk_133 (dk_at dksX6_row_0 18 rfl rfl)
theorem dX6_row_19 : decode cX6_row 19 = .ok (.lconst 0, 1) := dk_9 (dk_at dksX6_row_0 19 rfl rfl)
theorem dX6_row_20 : decode cX6_row 20 = .ok (.ldc2_w 335, 3) := dk_20 1 79 (dk_at dksX6_row_0 20 rfl rfl)
theorem dX6_row_23 : decode cX6_row 23 = .ok (.invokestatic 81, 3) := dk_184 0 81 (dk_at dksX6_row_1 0 rfl rfl)
theorem dX6_row_26 : decode cX6_row 26 = .ok (.ifCond .ne 10, 3) := dk_154 0 10 (dk_at dksX6_row_1 3 rfl rfl)
theorem dX6_row_29 : decode cX6_row 29 = .ok (.aload_n 0, 1) := dk_42 (dk_at dksX6_row_1 6 rfl rfl)
theorem dX6_row_30 : decode cX6_row 30 = .ok (.bipush (-2), 2) := dk_16 254 (dk_at dksX6_row_1 7 rfl rfl)
theorem dX6_row_32 : decode cX6_row 32 = .ok (.invokevirtual 85, 3) := dk_182 0 85 (dk_at dksX6_row_1 9 rfl rfl)
theorem dX6_row_35 : decode cX6_row 35 = .ok (.ireturn, 1) := dk_172 (dk_at dksX6_row_1 12 rfl rfl)
theorem dX6_row_36 : decode cX6_row 36 = .ok (.iload_n 3, 1) := dk_29 (dk_at dksX6_row_1 13 rfl rfl)
theorem dX6_row_37 : decode cX6_row 37 = .ok (.i2l, 1) := dk_133 (dk_at dksX6_row_1 14 rfl rfl)
theorem dX6_row_38 : decode cX6_row 38 = .ok (.lconst 0, 1) := dk_9 (dk_at dksX6_row_1 15 rfl rfl)
theorem dX6_row_39 : decode cX6_row 39 = .ok (.ldc2_w 359, 3) := dk_20 1 103 (dk_at dksX6_row_1 16 rfl rfl)
theorem dX6_row_42 : decode cX6_row 42 = .ok (.invokestatic 81, 3) := dk_184 0 81 (dk_at dksX6_row_1 19 rfl rfl)
theorem dX6_row_45 : decode cX6_row 45 = .ok (.ifCond .ne 10, 3) := dk_154 0 10 (dk_at dksX6_row_2 0 rfl rfl)
theorem dX6_row_48 : decode cX6_row 48 = .ok (.aload_n 0, 1) := dk_42 (dk_at dksX6_row_2 3 rfl rfl)
theorem dX6_row_49 : decode cX6_row 49 = .ok (.bipush (-3), 2) := dk_16 253 (dk_at dksX6_row_2 4 rfl rfl)
theorem dX6_row_51 : decode cX6_row 51 = .ok (.invokevirtual 85, 3) := dk_182 0 85 (dk_at dksX6_row_2 6 rfl rfl)
theorem dX6_row_54 : decode cX6_row 54 = .ok (.ireturn, 1) := dk_172 (dk_at dksX6_row_2 9 rfl rfl)
theorem dX6_row_55 : decode cX6_row 55 = .ok (.aload_n 0, 1) := dk_42 (dk_at dksX6_row_2 10 rfl rfl)
theorem dX6_row_56 : decode cX6_row 56 = .ok (.getfield 64, 3) := dk_180 0 64 (dk_at dksX6_row_2 11 rfl rfl)
theorem dX6_row_59 : decode cX6_row 59 = .ok (.iload_n 1, 1) := dk_27 (dk_at dksX6_row_2 14 rfl rfl)
theorem dX6_row_60 : decode cX6_row 60 = .ok (.iload_n 2, 1) := dk_28 (dk_at dksX6_row_2 15 rfl rfl)
theorem dX6_row_61 : decode cX6_row 61 = .ok (.iastore, 1) := dk_79 (dk_at dksX6_row_2 16 rfl rfl)
theorem dX6_row_62 : decode cX6_row 62 = .ok (.aload_n 0, 1) := dk_42 (dk_at dksX6_row_2 17 rfl rfl)
theorem dX6_row_63 : decode cX6_row 63 = .ok (.getfield 67, 3) := dk_180 0 67 (dk_at dksX6_row_2 18 rfl rfl)
theorem dX6_row_66 : decode cX6_row 66 = .ok (.iload_n 1, 1) := dk_27 (dk_at dksX6_row_2 21 rfl rfl)
theorem dX6_row_67 : decode cX6_row 67 = .ok (.iload_n 3, 1) := dk_29 (dk_at dksX6_row_2 22 rfl rfl)
theorem dX6_row_68 : decode cX6_row 68 = .ok (.iastore, 1) := dk_79 (dk_at dksX6_row_2 23 rfl rfl)
theorem dX6_row_69 : decode cX6_row 69 = .ok (.iconst 0, 1) := dk_3 (dk_at dksX6_row_3 0 rfl rfl)
theorem dX6_row_70 : decode cX6_row 70 = .ok (.istore 4, 2) := dk_54 4 (dk_at dksX6_row_3 1 rfl rfl)
theorem dX6_row_72 : decode cX6_row 72 = .ok (.iload 4, 2) := dk_21 4 (dk_at dksX6_row_3 3 rfl rfl)
theorem dX6_row_74 : decode cX6_row 74 = .ok (.iload_n 3, 1) := dk_29 (dk_at dksX6_row_3 5 rfl rfl)
theorem dX6_row_75 : decode cX6_row 75 = .ok (.if_icmp .ge 22, 3) := dk_162 0 22 (dk_at dksX6_row_3 6 rfl rfl)
theorem dX6_row_78 : decode cX6_row 78 = .ok (.aload_n 0, 1) := dk_42 (dk_at dksX6_row_3 9 rfl rfl)
theorem dX6_row_79 : decode cX6_row 79 = .ok (.getfield 70, 3) := dk_180 0 70 (dk_at dksX6_row_3 10 rfl rfl)
theorem dX6_row_82 : decode cX6_row 82 = .ok (.bipush 60, 2) := dk_16 60 (dk_at dksX6_row_3 13 rfl rfl)
theorem dX6_row_84 : decode cX6_row 84 = .ok (.iload_n 1, 1) := dk_27 (dk_at dksX6_row_3 15 rfl rfl)
theorem dX6_row_85 : decode cX6_row 85 = .ok (.imul, 1) := dk_104 (dk_at dksX6_row_3 16 rfl rfl)
theorem dX6_row_86 : decode cX6_row 86 = .ok (.iload 4, 2) := dk_21 4 (dk_at dksX6_row_3 17 rfl rfl)
theorem dX6_row_88 : decode cX6_row 88 = .ok (.iadd, 1) := dk_96 (dk_at dksX6_row_3 19 rfl rfl)
theorem dX6_row_89 : decode cX6_row 89 = .ok (.lconst 0, 1) := dk_9 (dk_at dksX6_row_3 20 rfl rfl)
theorem dX6_row_90 : decode cX6_row 90 = .ok (.lastore, 1) := dk_80 (dk_at dksX6_row_3 21 rfl rfl)
theorem dX6_row_91 : decode cX6_row 91 = .ok (.iinc 4 1, 3) := dk_132 4 1 (dk_at dksX6_row_4 0 rfl rfl)
theorem dX6_row_94 : decode cX6_row 94 = .ok (.goto (-22), 3) := dk_167 255 234 (dk_at dksX6_row_4 3 rfl rfl)
theorem dX6_row_97 : decode cX6_row 97 = .ok (.iconst 0, 1) := dk_3 (dk_at dksX6_row_4 6 rfl rfl)
theorem dX6_row_98 : decode cX6_row 98 = .ok (.ireturn, 1) := dk_172 (dk_at dksX6_row_4 7 rfl rfl)
abbrev cX6_write : ByteArray := prog_28_method_100_code
def yX6_write : MethodName := ⟨RX6, "write", "(IIJ)J"⟩
def dkwX6_write_4 : List UInt8 := [16, 60, 27, 104, 28, 96, 47, 173]
abbrev dktX6_write_4 : List UInt8 := dkwX6_write_4 ++ []
def dkwX6_write_3 : List UInt8 := [180, 0, 70, 16, 60, 27, 104, 28, 96, 33, 42, 180, 0, 64, 27, 46, 184, 1, 105, 80, 42, 180, 0, 70]
abbrev dktX6_write_3 : List UInt8 := dkwX6_write_3 ++ dktX6_write_4
def dkwX6_write_2 : List UInt8 := [180, 0, 67, 27, 46, 4, 100, 133, 184, 0, 81, 154, 0, 11, 42, 16, 249, 182, 0, 85, 133, 173, 42]
abbrev dktX6_write_2 : List UInt8 := dkwX6_write_2 ++ dktX6_write_3
def dkwX6_write_1 : List UInt8 := [173, 42, 180, 0, 64, 27, 46, 2, 160, 0, 11, 42, 16, 250, 182, 0, 85, 133, 173, 28, 133, 9, 42]
abbrev dktX6_write_1 : List UInt8 := dkwX6_write_1 ++ dktX6_write_2
def dkwX6_write_0 : List UInt8 := [42, 3, 181, 0, 1, 27, 133, 9, 20, 1, 79, 184, 0, 81, 154, 0, 11, 42, 16, 254, 182, 0, 85, 133]
abbrev dktX6_write_0 : List UInt8 := dkwX6_write_0 ++ dktX6_write_1
theorem dksX6_write_0 : cX6_write.data.toList.drop 0 = dktX6_write_0 := by decide +kernel
theorem dksX6_write_1 : cX6_write.data.toList.drop 24 = dktX6_write_1 := dk_seg dksX6_write_0 24 rfl rfl
theorem dksX6_write_2 : cX6_write.data.toList.drop 47 = dktX6_write_2 := dk_seg dksX6_write_1 23 rfl rfl
theorem dksX6_write_3 : cX6_write.data.toList.drop 70 = dktX6_write_3 := dk_seg dksX6_write_2 23 rfl rfl
theorem dksX6_write_4 : cX6_write.data.toList.drop 94 = dktX6_write_4 := dk_seg dksX6_write_3 24 rfl rfl
theorem dX6_write_0 : decode cX6_write 0 = .ok (.aload_n 0, 1) := dk_42 (dk_at dksX6_write_0 0 rfl rfl)
theorem dX6_write_1 : decode cX6_write 1 = .ok (.iconst 0, 1) := dk_3 (dk_at dksX6_write_0 1 rfl rfl)
theorem dX6_write_2 : decode cX6_write 2 = .ok (.putfield 1, 3) := dk_181 0 1 (dk_at dksX6_write_0 2 rfl rfl)
theorem dX6_write_5 : decode cX6_write 5 = .ok (.iload_n 1, 1) := dk_27 (dk_at dksX6_write_0 5 rfl rfl)
theorem dX6_write_6 : decode cX6_write 6 = .ok (.i2l, 1) := dk_133 (dk_at dksX6_write_0 6 rfl rfl)
theorem dX6_write_7 : decode cX6_write 7 = .ok (.lconst 0, 1) := dk_9 (dk_at dksX6_write_0 7 rfl rfl)
theorem dX6_write_8 : decode cX6_write 8 = .ok (.ldc2_w 335, 3) := dk_20 1 79 (dk_at dksX6_write_0 8 rfl rfl)
theorem dX6_write_11 : decode cX6_write 11 = .ok (.invokestatic 81, 3) := dk_184 0 81 (dk_at dksX6_write_0 11 rfl rfl)
theorem dX6_write_14 : decode cX6_write 14 = .ok (.ifCond .ne 11, 3) := dk_154 0 11 (dk_at dksX6_write_0 14 rfl rfl)
theorem dX6_write_17 : decode cX6_write 17 = .ok (.aload_n 0, 1) := dk_42 (dk_at dksX6_write_0 17 rfl rfl)
theorem dX6_write_18 : decode cX6_write 18 = .ok (.bipush (-2), 2) := dk_16 254 (dk_at dksX6_write_0 18 rfl rfl)
theorem dX6_write_20 : decode cX6_write 20 = .ok (.invokevirtual 85, 3) := dk_182 0 85 (dk_at dksX6_write_0 20 rfl rfl)
theorem dX6_write_23 : decode cX6_write 23 = .ok (.i2l, 1) := dk_133 (dk_at dksX6_write_0 23 rfl rfl)
theorem dX6_write_24 : decode cX6_write 24 = .ok (.lreturn, 1) := dk_173 (dk_at dksX6_write_1 0 rfl rfl)
theorem dX6_write_25 : decode cX6_write 25 = .ok (.aload_n 0, 1) := dk_42 (dk_at dksX6_write_1 1 rfl rfl)
theorem dX6_write_26 : decode cX6_write 26 = .ok (.getfield 64, 3) := dk_180 0 64 (dk_at dksX6_write_1 2 rfl rfl)
theorem dX6_write_29 : decode cX6_write 29 = .ok (.iload_n 1, 1) := dk_27 (dk_at dksX6_write_1 5 rfl rfl)
theorem dX6_write_30 : decode cX6_write 30 = .ok (.iaload, 1) := dk_46 (dk_at dksX6_write_1 6 rfl rfl)
theorem dX6_write_31 : decode cX6_write 31 = .ok (.iconst (-1), 1) := dk_2 (dk_at dksX6_write_1 7 rfl rfl)
theorem dX6_write_32 : decode cX6_write 32 = .ok (.if_icmp .ne 11, 3) := dk_160 0 11 (dk_at dksX6_write_1 8 rfl rfl)
theorem dX6_write_35 : decode cX6_write 35 = .ok (.aload_n 0, 1) := dk_42 (dk_at dksX6_write_1 11 rfl rfl)
theorem dX6_write_36 : decode cX6_write 36 = .ok (.bipush (-6), 2) := dk_16 250 (dk_at dksX6_write_1 12 rfl rfl)
theorem dX6_write_38 : decode cX6_write 38 = .ok (.invokevirtual 85, 3) := dk_182 0 85 (dk_at dksX6_write_1 14 rfl rfl)
theorem dX6_write_41 : decode cX6_write 41 = .ok (.i2l, 1) := dk_133 (dk_at dksX6_write_1 17 rfl rfl)
theorem dX6_write_42 : decode cX6_write 42 = .ok (.lreturn, 1) := dk_173 (dk_at dksX6_write_1 18 rfl rfl)
theorem dX6_write_43 : decode cX6_write 43 = .ok (.iload_n 2, 1) := dk_28 (dk_at dksX6_write_1 19 rfl rfl)
theorem dX6_write_44 : decode cX6_write 44 = .ok (.i2l, 1) := dk_133 (dk_at dksX6_write_1 20 rfl rfl)
theorem dX6_write_45 : decode cX6_write 45 = .ok (.lconst 0, 1) := dk_9 (dk_at dksX6_write_1 21 rfl rfl)
theorem dX6_write_46 : decode cX6_write 46 = .ok (.aload_n 0, 1) := dk_42 (dk_at dksX6_write_1 22 rfl rfl)
theorem dX6_write_47 : decode cX6_write 47 = .ok (.getfield 67, 3) := dk_180 0 67 (dk_at dksX6_write_2 0 rfl rfl)
theorem dX6_write_50 : decode cX6_write 50 = .ok (.iload_n 1, 1) := dk_27 (dk_at dksX6_write_2 3 rfl rfl)
theorem dX6_write_51 : decode cX6_write 51 = .ok (.iaload, 1) := dk_46 (dk_at dksX6_write_2 4 rfl rfl)
theorem dX6_write_52 : decode cX6_write 52 = .ok (.iconst 1, 1) := dk_4 (dk_at dksX6_write_2 5 rfl rfl)
theorem dX6_write_53 : decode cX6_write 53 = .ok (.isub, 1) := dk_100 (dk_at dksX6_write_2 6 rfl rfl)
theorem dX6_write_54 : decode cX6_write 54 = .ok (.i2l, 1) := dk_133 (dk_at dksX6_write_2 7 rfl rfl)
theorem dX6_write_55 : decode cX6_write 55 = .ok (.invokestatic 81, 3) := dk_184 0 81 (dk_at dksX6_write_2 8 rfl rfl)
theorem dX6_write_58 : decode cX6_write 58 = .ok (.ifCond .ne 11, 3) := dk_154 0 11 (dk_at dksX6_write_2 11 rfl rfl)
theorem dX6_write_61 : decode cX6_write 61 = .ok (.aload_n 0, 1) := dk_42 (dk_at dksX6_write_2 14 rfl rfl)
theorem dX6_write_62 : decode cX6_write 62 = .ok (.bipush (-7), 2) := dk_16 249 (dk_at dksX6_write_2 15 rfl rfl)
theorem dX6_write_64 : decode cX6_write 64 = .ok (.invokevirtual 85, 3) := dk_182 0 85 (dk_at dksX6_write_2 17 rfl rfl)
theorem dX6_write_67 : decode cX6_write 67 = .ok (.i2l, 1) := dk_133 (dk_at dksX6_write_2 20 rfl rfl)
theorem dX6_write_68 : decode cX6_write 68 = .ok (.lreturn, 1) := dk_173 (dk_at dksX6_write_2 21 rfl rfl)
theorem dX6_write_69 : decode cX6_write 69 = .ok (.aload_n 0, 1) := dk_42 (dk_at dksX6_write_2 22 rfl rfl)
theorem dX6_write_70 : decode cX6_write 70 = .ok (.getfield 70, 3) := dk_180 0 70 (dk_at dksX6_write_3 0 rfl rfl)
theorem dX6_write_73 : decode cX6_write 73 = .ok (.bipush 60, 2) := dk_16 60 (dk_at dksX6_write_3 3 rfl rfl)
theorem dX6_write_75 : decode cX6_write 75 = .ok (.iload_n 1, 1) := dk_27 (dk_at dksX6_write_3 5 rfl rfl)
theorem dX6_write_76 : decode cX6_write 76 = .ok (.imul, 1) := dk_104 (dk_at dksX6_write_3 6 rfl rfl)
theorem dX6_write_77 : decode cX6_write 77 = .ok (.iload_n 2, 1) := dk_28 (dk_at dksX6_write_3 7 rfl rfl)
theorem dX6_write_78 : decode cX6_write 78 = .ok (.iadd, 1) := dk_96 (dk_at dksX6_write_3 8 rfl rfl)
theorem dX6_write_79 : decode cX6_write 79 = .ok (.lload_n 3, 1) := dk_33 (dk_at dksX6_write_3 9 rfl rfl)
theorem dX6_write_80 : decode cX6_write 80 = .ok (.aload_n 0, 1) := dk_42 (dk_at dksX6_write_3 10 rfl rfl)
theorem dX6_write_81 : decode cX6_write 81 = .ok (.getfield 64, 3) := dk_180 0 64 (dk_at dksX6_write_3 11 rfl rfl)
theorem dX6_write_84 : decode cX6_write 84 = .ok (.iload_n 1, 1) := dk_27 (dk_at dksX6_write_3 14 rfl rfl)
theorem dX6_write_85 : decode cX6_write 85 = .ok (.iaload, 1) := dk_46 (dk_at dksX6_write_3 15 rfl rfl)
theorem dX6_write_86 : decode cX6_write 86 = .ok (.invokestatic 361, 3) := dk_184 1 105 (dk_at dksX6_write_3 16 rfl rfl)
theorem dX6_write_89 : decode cX6_write 89 = .ok (.lastore, 1) := dk_80 (dk_at dksX6_write_3 19 rfl rfl)
theorem dX6_write_90 : decode cX6_write 90 = .ok (.aload_n 0, 1) := dk_42 (dk_at dksX6_write_3 20 rfl rfl)
theorem dX6_write_91 : decode cX6_write 91 = .ok (.getfield 70, 3) := dk_180 0 70 (dk_at dksX6_write_3 21 rfl rfl)
theorem dX6_write_94 : decode cX6_write 94 = .ok (.bipush 60, 2) := dk_16 60 (dk_at dksX6_write_4 0 rfl rfl)
theorem dX6_write_96 : decode cX6_write 96 = .ok (.iload_n 1, 1) := dk_27 (dk_at dksX6_write_4 2 rfl rfl)
theorem dX6_write_97 : decode cX6_write 97 = .ok (.imul, 1) := dk_104 (dk_at dksX6_write_4 3 rfl rfl)
theorem dX6_write_98 : decode cX6_write 98 = .ok (.iload_n 2, 1) := dk_28 (dk_at dksX6_write_4 4 rfl rfl)
theorem dX6_write_99 : decode cX6_write 99 = .ok (.iadd, 1) := dk_96 (dk_at dksX6_write_4 5 rfl rfl)
theorem dX6_write_100 : decode cX6_write 100 = .ok (.laload, 1) := dk_47 (dk_at dksX6_write_4 6 rfl rfl)
theorem dX6_write_101 : decode cX6_write 101 = .ok (.lreturn, 1) := dk_173 (dk_at dksX6_write_4 7 rfl rfl)
abbrev cX6_cut : ByteArray := prog_28_method_98_code
def yX6_cut : MethodName := ⟨RX6, "cut", "(JI)J"⟩
def dkwX6_cut_1 : List UInt8 := [5, 160, 0, 9, 30, 136, 133, 167, 0, 4, 30, 173]
abbrev dktX6_cut_1 : List UInt8 := dkwX6_cut_1 ++ []
def dkwX6_cut_0 : List UInt8 := [28, 154, 0, 10, 30, 136, 145, 133, 167, 0, 27, 28, 4, 160, 0, 10, 30, 136, 147, 133, 167, 0, 15, 28]
abbrev dktX6_cut_0 : List UInt8 := dkwX6_cut_0 ++ dktX6_cut_1
theorem dksX6_cut_0 : cX6_cut.data.toList.drop 0 = dktX6_cut_0 := by decide +kernel
theorem dksX6_cut_1 : cX6_cut.data.toList.drop 24 = dktX6_cut_1 := dk_seg dksX6_cut_0 24 rfl rfl
theorem dX6_cut_0 : decode cX6_cut 0 = .ok (.iload_n 2, 1) := dk_28 (dk_at dksX6_cut_0 0 rfl rfl)
theorem dX6_cut_1 : decode cX6_cut 1 = .ok (.ifCond .ne 10, 3) := dk_154 0 10 (dk_at dksX6_cut_0 1 rfl rfl)
theorem dX6_cut_4 : decode cX6_cut 4 = .ok (.lload_n 0, 1) := dk_30 (dk_at dksX6_cut_0 4 rfl rfl)
theorem dX6_cut_5 : decode cX6_cut 5 = .ok (.l2i, 1) := dk_136 (dk_at dksX6_cut_0 5 rfl rfl)
theorem dX6_cut_6 : decode cX6_cut 6 = .ok (.i2b, 1) := dk_145 (dk_at dksX6_cut_0 6 rfl rfl)
theorem dX6_cut_7 : decode cX6_cut 7 = .ok (.i2l, 1) := dk_133 (dk_at dksX6_cut_0 7 rfl rfl)
theorem dX6_cut_8 : decode cX6_cut 8 = .ok (.goto 27, 3) := dk_167 0 27 (dk_at dksX6_cut_0 8 rfl rfl)
theorem dX6_cut_11 : decode cX6_cut 11 = .ok (.iload_n 2, 1) := dk_28 (dk_at dksX6_cut_0 11 rfl rfl)
theorem dX6_cut_12 : decode cX6_cut 12 = .ok (.iconst 1, 1) := dk_4 (dk_at dksX6_cut_0 12 rfl rfl)
theorem dX6_cut_13 : decode cX6_cut 13 = .ok (.if_icmp .ne 10, 3) := dk_160 0 10 (dk_at dksX6_cut_0 13 rfl rfl)
theorem dX6_cut_16 : decode cX6_cut 16 = .ok (.lload_n 0, 1) := dk_30 (dk_at dksX6_cut_0 16 rfl rfl)
theorem dX6_cut_17 : decode cX6_cut 17 = .ok (.l2i, 1) := dk_136 (dk_at dksX6_cut_0 17 rfl rfl)
theorem dX6_cut_18 : decode cX6_cut 18 = .ok (.i2s, 1) := dk_147 (dk_at dksX6_cut_0 18 rfl rfl)
theorem dX6_cut_19 : decode cX6_cut 19 = .ok (.i2l, 1) := dk_133 (dk_at dksX6_cut_0 19 rfl rfl)
theorem dX6_cut_20 : decode cX6_cut 20 = .ok (.goto 15, 3) := dk_167 0 15 (dk_at dksX6_cut_0 20 rfl rfl)
theorem dX6_cut_23 : decode cX6_cut 23 = .ok (.iload_n 2, 1) := dk_28 (dk_at dksX6_cut_0 23 rfl rfl)
theorem dX6_cut_24 : decode cX6_cut 24 = .ok (.iconst 2, 1) := dk_5 (dk_at dksX6_cut_1 0 rfl rfl)
theorem dX6_cut_25 : decode cX6_cut 25 = .ok (.if_icmp .ne 9, 3) := dk_160 0 9 (dk_at dksX6_cut_1 1 rfl rfl)
theorem dX6_cut_28 : decode cX6_cut 28 = .ok (.lload_n 0, 1) := dk_30 (dk_at dksX6_cut_1 4 rfl rfl)
theorem dX6_cut_29 : decode cX6_cut 29 = .ok (.l2i, 1) := dk_136 (dk_at dksX6_cut_1 5 rfl rfl)
theorem dX6_cut_30 : decode cX6_cut 30 = .ok (.i2l, 1) := dk_133 (dk_at dksX6_cut_1 6 rfl rfl)
theorem dX6_cut_31 : decode cX6_cut 31 = .ok (.goto 4, 3) := dk_167 0 4 (dk_at dksX6_cut_1 7 rfl rfl)
theorem dX6_cut_34 : decode cX6_cut 34 = .ok (.lload_n 0, 1) := dk_30 (dk_at dksX6_cut_1 10 rfl rfl)
theorem dX6_cut_35 : decode cX6_cut 35 = .ok (.lreturn, 1) := dk_173 (dk_at dksX6_cut_1 11 rfl rfl)
abbrev cX6_minister : ByteArray := prog_28_method_101_code
def yX6_minister : MethodName := ⟨RX6, "minister", "(I)I"⟩
def dkwX6_minister_10 : List UInt8 := [132, 3, 1, 167, 255, 185, 28, 172]
abbrev dktX6_minister_10 : List UInt8 := dkwX6_minister_10 ++ []
def dkwX6_minister_9 : List UInt8 := [42, 180, 0, 70, 21, 4, 6, 96, 47, 136, 42, 180, 0, 70, 21, 4, 7, 96, 47, 136, 9, 182, 1, 61]
abbrev dktX6_minister_9 : List UInt8 := dkwX6_minister_9 ++ dktX6_minister_10
def dkwX6_minister_8 : List UInt8 := [21, 4, 47, 136, 42, 180, 0, 70, 21, 4, 4, 96, 47, 136, 42, 180, 0, 70, 21, 4, 5, 96, 47, 136]
abbrev dktX6_minister_8 : List UInt8 := dkwX6_minister_8 ++ dktX6_minister_9
def dkwX6_minister_7 : List UInt8 := [172, 3, 62, 29, 28, 162, 0, 72, 16, 60, 27, 104, 8, 29, 104, 96, 54, 4, 42, 42, 180, 0, 70]
abbrev dktX6_minister_7 : List UInt8 := dkwX6_minister_7 ++ dktX6_minister_8
def dkwX6_minister_6 : List UInt8 := [167, 255, 182, 42, 180, 0, 17, 17, 2, 35, 46, 28, 96, 16, 60, 164, 0, 10, 42, 16, 252, 182, 0, 85]
abbrev dktX6_minister_6 : List UInt8 := dkwX6_minister_6 ++ dktX6_minister_7
def dkwX6_minister_5 : List UInt8 := [180, 0, 70, 21, 4, 7, 96, 47, 184, 1, 57, 154, 0, 10, 42, 16, 253, 182, 0, 85, 172, 132, 3, 1]
abbrev dktX6_minister_5 : List UInt8 := dkwX6_minister_5 ++ dktX6_minister_6
def dkwX6_minister_4 : List UInt8 := [21, 4, 4, 96, 47, 42, 180, 0, 70, 21, 4, 5, 96, 47, 42, 180, 0, 70, 21, 4, 6, 96, 47, 42]
abbrev dktX6_minister_4 : List UInt8 := dkwX6_minister_4 ++ dktX6_minister_5
def dkwX6_minister_3 : List UInt8 := [162, 0, 75, 16, 60, 27, 104, 8, 29, 104, 96, 54, 4, 42, 180, 0, 70, 21, 4, 47, 42, 180, 0, 70]
abbrev dktX6_minister_3 : List UInt8 := dkwX6_minister_3 ++ dktX6_minister_4
def dkwX6_minister_2 : List UInt8 := [112, 153, 0, 10, 42, 16, 249, 182, 0, 85, 172, 42, 180, 0, 67, 27, 46, 8, 108, 61, 3, 62, 29, 28]
abbrev dktX6_minister_2 : List UInt8 := dkwX6_minister_2 ++ dktX6_minister_3
def dkwX6_minister_1 : List UInt8 := [42, 180, 0, 64, 27, 46, 2, 160, 0, 10, 42, 16, 250, 182, 0, 85, 172, 42, 180, 0, 67, 27, 46, 8]
abbrev dktX6_minister_1 : List UInt8 := dkwX6_minister_1 ++ dktX6_minister_2
def dkwX6_minister_0 : List UInt8 := [42, 3, 181, 0, 1, 27, 133, 9, 20, 1, 79, 184, 0, 81, 154, 0, 10, 42, 16, 254, 182, 0, 85, 172]
abbrev dktX6_minister_0 : List UInt8 := dkwX6_minister_0 ++ dktX6_minister_1
theorem dksX6_minister_0 : cX6_minister.data.toList.drop 0 = dktX6_minister_0 := by decide +kernel
theorem dksX6_minister_1 : cX6_minister.data.toList.drop 24 = dktX6_minister_1 := dk_seg dksX6_minister_0 24 rfl rfl
theorem dksX6_minister_2 : cX6_minister.data.toList.drop 48 = dktX6_minister_2 := dk_seg dksX6_minister_1 24 rfl rfl
theorem dksX6_minister_3 : cX6_minister.data.toList.drop 72 = dktX6_minister_3 := dk_seg dksX6_minister_2 24 rfl rfl
theorem dksX6_minister_4 : cX6_minister.data.toList.drop 96 = dktX6_minister_4 := dk_seg dksX6_minister_3 24 rfl rfl
theorem dksX6_minister_5 : cX6_minister.data.toList.drop 120 = dktX6_minister_5 := dk_seg dksX6_minister_4 24 rfl rfl
theorem dksX6_minister_6 : cX6_minister.data.toList.drop 144 = dktX6_minister_6 := dk_seg dksX6_minister_5 24 rfl rfl
theorem dksX6_minister_7 : cX6_minister.data.toList.drop 168 = dktX6_minister_7 := dk_seg dksX6_minister_6 24 rfl rfl
theorem dksX6_minister_8 : cX6_minister.data.toList.drop 191 = dktX6_minister_8 := dk_seg dksX6_minister_7 23 rfl rfl
theorem dksX6_minister_9 : cX6_minister.data.toList.drop 215 = dktX6_minister_9 := dk_seg dksX6_minister_8 24 rfl rfl
theorem dksX6_minister_10 : cX6_minister.data.toList.drop 239 = dktX6_minister_10 := dk_seg dksX6_minister_9 24 rfl rfl
theorem dX6_minister_0 : decode cX6_minister 0 = .ok (.aload_n 0, 1) := dk_42 (dk_at dksX6_minister_0 0 rfl rfl)
theorem dX6_minister_1 : decode cX6_minister 1 = .ok (.iconst 0, 1) := dk_3 (dk_at dksX6_minister_0 1 rfl rfl)
theorem dX6_minister_2 : decode cX6_minister 2 = .ok (.putfield 1, 3) := dk_181 0 1 (dk_at dksX6_minister_0 2 rfl rfl)
theorem dX6_minister_5 : decode cX6_minister 5 = .ok (.iload_n 1, 1) := dk_27 (dk_at dksX6_minister_0 5 rfl rfl)
theorem dX6_minister_6 : decode cX6_minister 6 = .ok (.i2l, 1) := dk_133 (dk_at dksX6_minister_0 6 rfl rfl)
theorem dX6_minister_7 : decode cX6_minister 7 = .ok (.lconst 0, 1) := dk_9 (dk_at dksX6_minister_0 7 rfl rfl)
theorem dX6_minister_8 : decode cX6_minister 8 = .ok (.ldc2_w 335, 3) := dk_20 1 79 (dk_at dksX6_minister_0 8 rfl rfl)
theorem dX6_minister_11 : decode cX6_minister 11 = .ok (.invokestatic 81, 3) := dk_184 0 81 (dk_at dksX6_minister_0 11 rfl rfl)
theorem dX6_minister_14 : decode cX6_minister 14 = .ok (.ifCond .ne 10, 3) := dk_154 0 10 (dk_at dksX6_minister_0 14 rfl rfl)
theorem dX6_minister_17 : decode cX6_minister 17 = .ok (.aload_n 0, 1) := dk_42 (dk_at dksX6_minister_0 17 rfl rfl)
theorem dX6_minister_18 : decode cX6_minister 18 = .ok (.bipush (-2), 2) := dk_16 254 (dk_at dksX6_minister_0 18 rfl rfl)
theorem dX6_minister_20 : decode cX6_minister 20 = .ok (.invokevirtual 85, 3) := dk_182 0 85 (dk_at dksX6_minister_0 20 rfl rfl)
theorem dX6_minister_23 : decode cX6_minister 23 = .ok (.ireturn, 1) := dk_172 (dk_at dksX6_minister_0 23 rfl rfl)
theorem dX6_minister_24 : decode cX6_minister 24 = .ok (.aload_n 0, 1) := dk_42 (dk_at dksX6_minister_1 0 rfl rfl)
theorem dX6_minister_25 : decode cX6_minister 25 = .ok (.getfield 64, 3) := dk_180 0 64 (dk_at dksX6_minister_1 1 rfl rfl)
theorem dX6_minister_28 : decode cX6_minister 28 = .ok (.iload_n 1, 1) := dk_27 (dk_at dksX6_minister_1 4 rfl rfl)
theorem dX6_minister_29 : decode cX6_minister 29 = .ok (.iaload, 1) := dk_46 (dk_at dksX6_minister_1 5 rfl rfl)
theorem dX6_minister_30 : decode cX6_minister 30 = .ok (.iconst (-1), 1) := dk_2 (dk_at dksX6_minister_1 6 rfl rfl)
theorem dX6_minister_31 : decode cX6_minister 31 = .ok (.if_icmp .ne 10, 3) := dk_160 0 10 (dk_at dksX6_minister_1 7 rfl rfl)
theorem dX6_minister_34 : decode cX6_minister 34 = .ok (.aload_n 0, 1) := dk_42 (dk_at dksX6_minister_1 10 rfl rfl)
theorem dX6_minister_35 : decode cX6_minister 35 = .ok (.bipush (-6), 2) := dk_16 250 (dk_at dksX6_minister_1 11 rfl rfl)
theorem dX6_minister_37 : decode cX6_minister 37 = .ok (.invokevirtual 85, 3) := dk_182 0 85 (dk_at dksX6_minister_1 13 rfl rfl)
theorem dX6_minister_40 : decode cX6_minister 40 = .ok (.ireturn, 1) := dk_172 (dk_at dksX6_minister_1 16 rfl rfl)
theorem dX6_minister_41 : decode cX6_minister 41 = .ok (.aload_n 0, 1) := dk_42 (dk_at dksX6_minister_1 17 rfl rfl)
theorem dX6_minister_42 : decode cX6_minister 42 = .ok (.getfield 67, 3) := dk_180 0 67 (dk_at dksX6_minister_1 18 rfl rfl)
theorem dX6_minister_45 : decode cX6_minister 45 = .ok (.iload_n 1, 1) := dk_27 (dk_at dksX6_minister_1 21 rfl rfl)
theorem dX6_minister_46 : decode cX6_minister 46 = .ok (.iaload, 1) := dk_46 (dk_at dksX6_minister_1 22 rfl rfl)
theorem dX6_minister_47 : decode cX6_minister 47 = .ok (.iconst 5, 1) := dk_8 (dk_at dksX6_minister_1 23 rfl rfl)
theorem dX6_minister_48 : decode cX6_minister 48 = .ok (.irem, 1) := dk_112 (dk_at dksX6_minister_2 0 rfl rfl)
theorem dX6_minister_49 : decode cX6_minister 49 = .ok (.ifCond .eq 10, 3) := dk_153 0 10 (dk_at dksX6_minister_2 1 rfl rfl)
theorem dX6_minister_52 : decode cX6_minister 52 = .ok (.aload_n 0, 1) := dk_42 (dk_at dksX6_minister_2 4 rfl rfl)
theorem dX6_minister_53 : decode cX6_minister 53 = .ok (.bipush (-7), 2) := dk_16 249 (dk_at dksX6_minister_2 5 rfl rfl)
theorem dX6_minister_55 : decode cX6_minister 55 = .ok (.invokevirtual 85, 3) := dk_182 0 85 (dk_at dksX6_minister_2 7 rfl rfl)
theorem dX6_minister_58 : decode cX6_minister 58 = .ok (.ireturn, 1) := dk_172 (dk_at dksX6_minister_2 10 rfl rfl)
theorem dX6_minister_59 : decode cX6_minister 59 = .ok (.aload_n 0, 1) := dk_42 (dk_at dksX6_minister_2 11 rfl rfl)
theorem dX6_minister_60 : decode cX6_minister 60 = .ok (.getfield 67, 3) := dk_180 0 67 (dk_at dksX6_minister_2 12 rfl rfl)
theorem dX6_minister_63 : decode cX6_minister 63 = .ok (.iload_n 1, 1) := dk_27 (dk_at dksX6_minister_2 15 rfl rfl)
theorem dX6_minister_64 : decode cX6_minister 64 = .ok (.iaload, 1) := dk_46 (dk_at dksX6_minister_2 16 rfl rfl)
theorem dX6_minister_65 : decode cX6_minister 65 = .ok (.iconst 5, 1) := dk_8 (dk_at dksX6_minister_2 17 rfl rfl)
theorem dX6_minister_66 : decode cX6_minister 66 = .ok (.idiv, 1) := dk_108 (dk_at dksX6_minister_2 18 rfl rfl)
theorem dX6_minister_67 : decode cX6_minister 67 = .ok (.istore_n 2, 1) := dk_61 (dk_at dksX6_minister_2 19 rfl rfl)
theorem dX6_minister_68 : decode cX6_minister 68 = .ok (.iconst 0, 1) := dk_3 (dk_at dksX6_minister_2 20 rfl rfl)
theorem dX6_minister_69 : decode cX6_minister 69 = .ok (.istore_n 3, 1) := dk_62 (dk_at dksX6_minister_2 21 rfl rfl)
theorem dX6_minister_70 : decode cX6_minister 70 = .ok (.iload_n 3, 1) := dk_29 (dk_at dksX6_minister_2 22 rfl rfl)
theorem dX6_minister_71 : decode cX6_minister 71 = .ok (.iload_n 2, 1) := dk_28 (dk_at dksX6_minister_2 23 rfl rfl)
theorem dX6_minister_72 : decode cX6_minister 72 = .ok (.if_icmp .ge 75, 3) := dk_162 0 75 (dk_at dksX6_minister_3 0 rfl rfl)
theorem dX6_minister_75 : decode cX6_minister 75 = .ok (.bipush 60, 2) := dk_16 60 (dk_at dksX6_minister_3 3 rfl rfl)
theorem dX6_minister_77 : decode cX6_minister 77 = .ok (.iload_n 1, 1) := dk_27 (dk_at dksX6_minister_3 5 rfl rfl)
theorem dX6_minister_78 : decode cX6_minister 78 = .ok (.imul, 1) := dk_104 (dk_at dksX6_minister_3 6 rfl rfl)
theorem dX6_minister_79 : decode cX6_minister 79 = .ok (.iconst 5, 1) := dk_8 (dk_at dksX6_minister_3 7 rfl rfl)
theorem dX6_minister_80 : decode cX6_minister 80 = .ok (.iload_n 3, 1) := dk_29 (dk_at dksX6_minister_3 8 rfl rfl)
theorem dX6_minister_81 : decode cX6_minister 81 = .ok (.imul, 1) := dk_104 (dk_at dksX6_minister_3 9 rfl rfl)
theorem dX6_minister_82 : decode cX6_minister 82 = .ok (.iadd, 1) := dk_96 (dk_at dksX6_minister_3 10 rfl rfl)
theorem dX6_minister_83 : decode cX6_minister 83 = .ok (.istore 4, 2) := dk_54 4 (dk_at dksX6_minister_3 11 rfl rfl)
theorem dX6_minister_85 : decode cX6_minister 85 = .ok (.aload_n 0, 1) := dk_42 (dk_at dksX6_minister_3 13 rfl rfl)
theorem dX6_minister_86 : decode cX6_minister 86 = .ok (.getfield 70, 3) := dk_180 0 70 (dk_at dksX6_minister_3 14 rfl rfl)
theorem dX6_minister_89 : decode cX6_minister 89 = .ok (.iload 4, 2) := dk_21 4 (dk_at dksX6_minister_3 17 rfl rfl)
theorem dX6_minister_91 : decode cX6_minister 91 = .ok (.laload, 1) := dk_47 (dk_at dksX6_minister_3 19 rfl rfl)
theorem dX6_minister_92 : decode cX6_minister 92 = .ok (.aload_n 0, 1) := dk_42 (dk_at dksX6_minister_3 20 rfl rfl)
theorem dX6_minister_93 : decode cX6_minister 93 = .ok (.getfield 70, 3) := dk_180 0 70 (dk_at dksX6_minister_3 21 rfl rfl)
theorem dX6_minister_96 : decode cX6_minister 96 = .ok (.iload 4, 2) := dk_21 4 (dk_at dksX6_minister_4 0 rfl rfl)
theorem dX6_minister_98 : decode cX6_minister 98 = .ok (.iconst 1, 1) := dk_4 (dk_at dksX6_minister_4 2 rfl rfl)
theorem dX6_minister_99 : decode cX6_minister 99 = .ok (.iadd, 1) := dk_96 (dk_at dksX6_minister_4 3 rfl rfl)
theorem dX6_minister_100 : decode cX6_minister 100 = .ok (.laload, 1) := dk_47 (dk_at dksX6_minister_4 4 rfl rfl)
theorem dX6_minister_101 : decode cX6_minister 101 = .ok (.aload_n 0, 1) := dk_42 (dk_at dksX6_minister_4 5 rfl rfl)
theorem dX6_minister_102 : decode cX6_minister 102 = .ok (.getfield 70, 3) := dk_180 0 70 (dk_at dksX6_minister_4 6 rfl rfl)
theorem dX6_minister_105 : decode cX6_minister 105 = .ok (.iload 4, 2) := dk_21 4 (dk_at dksX6_minister_4 9 rfl rfl)
theorem dX6_minister_107 : decode cX6_minister 107 = .ok (.iconst 2, 1) := dk_5 (dk_at dksX6_minister_4 11 rfl rfl)
theorem dX6_minister_108 : decode cX6_minister 108 = .ok (.iadd, 1) := dk_96 (dk_at dksX6_minister_4 12 rfl rfl)
theorem dX6_minister_109 : decode cX6_minister 109 = .ok (.laload, 1) := dk_47 (dk_at dksX6_minister_4 13 rfl rfl)
theorem dX6_minister_110 : decode cX6_minister 110 = .ok (.aload_n 0, 1) := dk_42 (dk_at dksX6_minister_4 14 rfl rfl)
theorem dX6_minister_111 : decode cX6_minister 111 = .ok (.getfield 70, 3) := dk_180 0 70 (dk_at dksX6_minister_4 15 rfl rfl)
theorem dX6_minister_114 : decode cX6_minister 114 = .ok (.iload 4, 2) := dk_21 4 (dk_at dksX6_minister_4 18 rfl rfl)
theorem dX6_minister_116 : decode cX6_minister 116 = .ok (.iconst 3, 1) := dk_6 (dk_at dksX6_minister_4 20 rfl rfl)
theorem dX6_minister_117 : decode cX6_minister 117 = .ok (.iadd, 1) := dk_96 (dk_at dksX6_minister_4 21 rfl rfl)
theorem dX6_minister_118 : decode cX6_minister 118 = .ok (.laload, 1) := dk_47 (dk_at dksX6_minister_4 22 rfl rfl)
theorem dX6_minister_119 : decode cX6_minister 119 = .ok (.aload_n 0, 1) := dk_42 (dk_at dksX6_minister_4 23 rfl rfl)
theorem dX6_minister_120 : decode cX6_minister 120 = .ok (.getfield 70, 3) := dk_180 0 70 (dk_at dksX6_minister_5 0 rfl rfl)
theorem dX6_minister_123 : decode cX6_minister 123 = .ok (.iload 4, 2) := dk_21 4 (dk_at dksX6_minister_5 3 rfl rfl)
theorem dX6_minister_125 : decode cX6_minister 125 = .ok (.iconst 4, 1) := dk_7 (dk_at dksX6_minister_5 5 rfl rfl)
theorem dX6_minister_126 : decode cX6_minister 126 = .ok (.iadd, 1) := dk_96 (dk_at dksX6_minister_5 6 rfl rfl)
theorem dX6_minister_127 : decode cX6_minister 127 = .ok (.laload, 1) := dk_47 (dk_at dksX6_minister_5 7 rfl rfl)
theorem dX6_minister_128 : decode cX6_minister 128 = .ok (.invokestatic 313, 3) := dk_184 1 57 (dk_at dksX6_minister_5 8 rfl rfl)
theorem dX6_minister_131 : decode cX6_minister 131 = .ok (.ifCond .ne 10, 3) := dk_154 0 10 (dk_at dksX6_minister_5 11 rfl rfl)
theorem dX6_minister_134 : decode cX6_minister 134 = .ok (.aload_n 0, 1) := dk_42 (dk_at dksX6_minister_5 14 rfl rfl)
theorem dX6_minister_135 : decode cX6_minister 135 = .ok (.bipush (-3), 2) := dk_16 253 (dk_at dksX6_minister_5 15 rfl rfl)
theorem dX6_minister_137 : decode cX6_minister 137 = .ok (.invokevirtual 85, 3) := dk_182 0 85 (dk_at dksX6_minister_5 17 rfl rfl)
theorem dX6_minister_140 : decode cX6_minister 140 = .ok (.ireturn, 1) := dk_172 (dk_at dksX6_minister_5 20 rfl rfl)
theorem dX6_minister_141 : decode cX6_minister 141 = .ok (.iinc 3 1, 3) := dk_132 3 1 (dk_at dksX6_minister_5 21 rfl rfl)
theorem dX6_minister_144 : decode cX6_minister 144 = .ok (.goto (-74), 3) := dk_167 255 182 (dk_at dksX6_minister_6 0 rfl rfl)
theorem dX6_minister_147 : decode cX6_minister 147 = .ok (.aload_n 0, 1) := dk_42 (dk_at dksX6_minister_6 3 rfl rfl)
theorem dX6_minister_148 : decode cX6_minister 148 = .ok (.getfield 17, 3) := dk_180 0 17 (dk_at dksX6_minister_6 4 rfl rfl)
theorem dX6_minister_151 : decode cX6_minister 151 = .ok (.sipush 547, 3) := dk_17 2 35 (dk_at dksX6_minister_6 7 rfl rfl)
theorem dX6_minister_154 : decode cX6_minister 154 = .ok (.iaload, 1) := dk_46 (dk_at dksX6_minister_6 10 rfl rfl)
theorem dX6_minister_155 : decode cX6_minister 155 = .ok (.iload_n 2, 1) := dk_28 (dk_at dksX6_minister_6 11 rfl rfl)
theorem dX6_minister_156 : decode cX6_minister 156 = .ok (.iadd, 1) := dk_96 (dk_at dksX6_minister_6 12 rfl rfl)
theorem dX6_minister_157 : decode cX6_minister 157 = .ok (.bipush 60, 2) := dk_16 60 (dk_at dksX6_minister_6 13 rfl rfl)
theorem dX6_minister_159 : decode cX6_minister 159 = .ok (.if_icmp .le 10, 3) := dk_164 0 10 (dk_at dksX6_minister_6 15 rfl rfl)
theorem dX6_minister_162 : decode cX6_minister 162 = .ok (.aload_n 0, 1) := dk_42 (dk_at dksX6_minister_6 18 rfl rfl)
theorem dX6_minister_163 : decode cX6_minister 163 = .ok (.bipush (-4), 2) := dk_16 252 (dk_at dksX6_minister_6 19 rfl rfl)
theorem dX6_minister_165 : decode cX6_minister 165 = .ok (.invokevirtual 85, 3) := dk_182 0 85 (dk_at dksX6_minister_6 21 rfl rfl)
theorem dX6_minister_168 : decode cX6_minister 168 = .ok (.ireturn, 1) := dk_172 (dk_at dksX6_minister_7 0 rfl rfl)
theorem dX6_minister_169 : decode cX6_minister 169 = .ok (.iconst 0, 1) := dk_3 (dk_at dksX6_minister_7 1 rfl rfl)
theorem dX6_minister_170 : decode cX6_minister 170 = .ok (.istore_n 3, 1) := dk_62 (dk_at dksX6_minister_7 2 rfl rfl)
theorem dX6_minister_171 : decode cX6_minister 171 = .ok (.iload_n 3, 1) := dk_29 (dk_at dksX6_minister_7 3 rfl rfl)
theorem dX6_minister_172 : decode cX6_minister 172 = .ok (.iload_n 2, 1) := dk_28 (dk_at dksX6_minister_7 4 rfl rfl)
theorem dX6_minister_173 : decode cX6_minister 173 = .ok (.if_icmp .ge 72, 3) := dk_162 0 72 (dk_at dksX6_minister_7 5 rfl rfl)
theorem dX6_minister_176 : decode cX6_minister 176 = .ok (.bipush 60, 2) := dk_16 60 (dk_at dksX6_minister_7 8 rfl rfl)
theorem dX6_minister_178 : decode cX6_minister 178 = .ok (.iload_n 1, 1) := dk_27 (dk_at dksX6_minister_7 10 rfl rfl)
theorem dX6_minister_179 : decode cX6_minister 179 = .ok (.imul, 1) := dk_104 (dk_at dksX6_minister_7 11 rfl rfl)
theorem dX6_minister_180 : decode cX6_minister 180 = .ok (.iconst 5, 1) := dk_8 (dk_at dksX6_minister_7 12 rfl rfl)
theorem dX6_minister_181 : decode cX6_minister 181 = .ok (.iload_n 3, 1) := dk_29 (dk_at dksX6_minister_7 13 rfl rfl)
theorem dX6_minister_182 : decode cX6_minister 182 = .ok (.imul, 1) := dk_104 (dk_at dksX6_minister_7 14 rfl rfl)
theorem dX6_minister_183 : decode cX6_minister 183 = .ok (.iadd, 1) := dk_96 (dk_at dksX6_minister_7 15 rfl rfl)
theorem dX6_minister_184 : decode cX6_minister 184 = .ok (.istore 4, 2) := dk_54 4 (dk_at dksX6_minister_7 16 rfl rfl)
theorem dX6_minister_186 : decode cX6_minister 186 = .ok (.aload_n 0, 1) := dk_42 (dk_at dksX6_minister_7 18 rfl rfl)
theorem dX6_minister_187 : decode cX6_minister 187 = .ok (.aload_n 0, 1) := dk_42 (dk_at dksX6_minister_7 19 rfl rfl)
theorem dX6_minister_188 : decode cX6_minister 188 = .ok (.getfield 70, 3) := dk_180 0 70 (dk_at dksX6_minister_7 20 rfl rfl)
theorem dX6_minister_191 : decode cX6_minister 191 = .ok (.iload 4, 2) := dk_21 4 (dk_at dksX6_minister_8 0 rfl rfl)
theorem dX6_minister_193 : decode cX6_minister 193 = .ok (.laload, 1) := dk_47 (dk_at dksX6_minister_8 2 rfl rfl)
theorem dX6_minister_194 : decode cX6_minister 194 = .ok (.l2i, 1) := dk_136 (dk_at dksX6_minister_8 3 rfl rfl)
theorem dX6_minister_195 : decode cX6_minister 195 = .ok (.aload_n 0, 1) := dk_42 (dk_at dksX6_minister_8 4 rfl rfl)
theorem dX6_minister_196 : decode cX6_minister 196 = .ok (.getfield 70, 3) := dk_180 0 70 (dk_at dksX6_minister_8 5 rfl rfl)
theorem dX6_minister_199 : decode cX6_minister 199 = .ok (.iload 4, 2) := dk_21 4 (dk_at dksX6_minister_8 8 rfl rfl)
theorem dX6_minister_201 : decode cX6_minister 201 = .ok (.iconst 1, 1) := dk_4 (dk_at dksX6_minister_8 10 rfl rfl)
theorem dX6_minister_202 : decode cX6_minister 202 = .ok (.iadd, 1) := dk_96 (dk_at dksX6_minister_8 11 rfl rfl)
theorem dX6_minister_203 : decode cX6_minister 203 = .ok (.laload, 1) := dk_47 (dk_at dksX6_minister_8 12 rfl rfl)
theorem dX6_minister_204 : decode cX6_minister 204 = .ok (.l2i, 1) := dk_136 (dk_at dksX6_minister_8 13 rfl rfl)
theorem dX6_minister_205 : decode cX6_minister 205 = .ok (.aload_n 0, 1) := dk_42 (dk_at dksX6_minister_8 14 rfl rfl)
theorem dX6_minister_206 : decode cX6_minister 206 = .ok (.getfield 70, 3) := dk_180 0 70 (dk_at dksX6_minister_8 15 rfl rfl)
theorem dX6_minister_209 : decode cX6_minister 209 = .ok (.iload 4, 2) := dk_21 4 (dk_at dksX6_minister_8 18 rfl rfl)
theorem dX6_minister_211 : decode cX6_minister 211 = .ok (.iconst 2, 1) := dk_5 (dk_at dksX6_minister_8 20 rfl rfl)
theorem dX6_minister_212 : decode cX6_minister 212 = .ok (.iadd, 1) := dk_96 (dk_at dksX6_minister_8 21 rfl rfl)
theorem dX6_minister_213 : decode cX6_minister 213 = .ok (.laload, 1) := dk_47 (dk_at dksX6_minister_8 22 rfl rfl)
theorem dX6_minister_214 : decode cX6_minister 214 = .ok (.l2i, 1) := dk_136 (dk_at dksX6_minister_8 23 rfl rfl)
theorem dX6_minister_215 : decode cX6_minister 215 = .ok (.aload_n 0, 1) := dk_42 (dk_at dksX6_minister_9 0 rfl rfl)
theorem dX6_minister_216 : decode cX6_minister 216 = .ok (.getfield 70, 3) := dk_180 0 70 (dk_at dksX6_minister_9 1 rfl rfl)
theorem dX6_minister_219 : decode cX6_minister 219 = .ok (.iload 4, 2) := dk_21 4 (dk_at dksX6_minister_9 4 rfl rfl)
theorem dX6_minister_221 : decode cX6_minister 221 = .ok (.iconst 3, 1) := dk_6 (dk_at dksX6_minister_9 6 rfl rfl)
theorem dX6_minister_222 : decode cX6_minister 222 = .ok (.iadd, 1) := dk_96 (dk_at dksX6_minister_9 7 rfl rfl)
theorem dX6_minister_223 : decode cX6_minister 223 = .ok (.laload, 1) := dk_47 (dk_at dksX6_minister_9 8 rfl rfl)
theorem dX6_minister_224 : decode cX6_minister 224 = .ok (.l2i, 1) := dk_136 (dk_at dksX6_minister_9 9 rfl rfl)
theorem dX6_minister_225 : decode cX6_minister 225 = .ok (.aload_n 0, 1) := dk_42 (dk_at dksX6_minister_9 10 rfl rfl)
theorem dX6_minister_226 : decode cX6_minister 226 = .ok (.getfield 70, 3) := dk_180 0 70 (dk_at dksX6_minister_9 11 rfl rfl)
theorem dX6_minister_229 : decode cX6_minister 229 = .ok (.iload 4, 2) := dk_21 4 (dk_at dksX6_minister_9 14 rfl rfl)
theorem dX6_minister_231 : decode cX6_minister 231 = .ok (.iconst 4, 1) := dk_7 (dk_at dksX6_minister_9 16 rfl rfl)
theorem dX6_minister_232 : decode cX6_minister 232 = .ok (.iadd, 1) := dk_96 (dk_at dksX6_minister_9 17 rfl rfl)
theorem dX6_minister_233 : decode cX6_minister 233 = .ok (.laload, 1) := dk_47 (dk_at dksX6_minister_9 18 rfl rfl)
theorem dX6_minister_234 : decode cX6_minister 234 = .ok (.l2i, 1) := dk_136 (dk_at dksX6_minister_9 19 rfl rfl)
theorem dX6_minister_235 : decode cX6_minister 235 = .ok (.lconst 0, 1) := dk_9 (dk_at dksX6_minister_9 20 rfl rfl)
theorem dX6_minister_236 : decode cX6_minister 236 = .ok (.invokevirtual 317, 3) := dk_182 1 61 (dk_at dksX6_minister_9 21 rfl rfl)
theorem dX6_minister_239 : decode cX6_minister 239 = .ok (.iinc 3 1, 3) := dk_132 3 1 (dk_at dksX6_minister_10 0 rfl rfl)
theorem dX6_minister_242 : decode cX6_minister 242 = .ok (.goto (-71), 3) := dk_167 255 185 (dk_at dksX6_minister_10 3 rfl rfl)
theorem dX6_minister_245 : decode cX6_minister 245 = .ok (.iload_n 2, 1) := dk_28 (dk_at dksX6_minister_10 6 rfl rfl)
theorem dX6_minister_246 : decode cX6_minister 246 = .ok (.ireturn, 1) := dk_172 (dk_at dksX6_minister_10 7 rfl rfl)
abbrev cX6_say : ByteArray := prog_28_method_103_code
def yX6_say : MethodName := ⟨RX6, "say", "(I)I"⟩
def dkwX6_say_4 : List UInt8 := [161, 0, 7, 8, 167, 0, 5, 16, 6, 172, 28, 5, 162, 0, 7, 4, 167, 0, 4, 28, 172]
abbrev dktX6_say_4 : List UInt8 := dkwX6_say_4 ++ []
def dkwX6_say_3 : List UInt8 := [42, 180, 0, 20, 17, 1, 224, 27, 96, 47, 3, 182, 1, 19, 42, 180, 0, 17, 17, 0, 248, 46]
abbrev dktX6_say_3 : List UInt8 := dkwX6_say_3 ++ dktX6_say_4
def dkwX6_say_2 : List UInt8 := [182, 1, 108, 154, 0, 5, 3, 172, 42, 182, 1, 13, 42, 27, 182, 1, 16, 61, 28, 8, 160, 0, 36, 42]
abbrev dktX6_say_2 : List UInt8 := dkwX6_say_2 ++ dktX6_say_3
def dkwX6_say_1 : List UInt8 := [154, 0, 10, 42, 16, 254, 182, 0, 85, 172, 42, 180, 0, 17, 17, 0, 223, 46, 154, 0, 12, 42]
abbrev dktX6_say_1 : List UInt8 := dkwX6_say_1 ++ dktX6_say_2
def dkwX6_say_0 : List UInt8 := [42, 3, 181, 0, 1, 27, 133, 9, 42, 180, 0, 17, 17, 0, 162, 46, 4, 100, 133, 184, 0, 81]
abbrev dktX6_say_0 : List UInt8 := dkwX6_say_0 ++ dktX6_say_1
theorem dksX6_say_0 : cX6_say.data.toList.drop 0 = dktX6_say_0 := by decide +kernel
theorem dksX6_say_1 : cX6_say.data.toList.drop 22 = dktX6_say_1 := dk_seg dksX6_say_0 22 rfl rfl
theorem dksX6_say_2 : cX6_say.data.toList.drop 44 = dktX6_say_2 := dk_seg dksX6_say_1 22 rfl rfl
theorem dksX6_say_3 : cX6_say.data.toList.drop 68 = dktX6_say_3 := dk_seg dksX6_say_2 24 rfl rfl
theorem dksX6_say_4 : cX6_say.data.toList.drop 90 = dktX6_say_4 := dk_seg dksX6_say_3 22 rfl rfl
theorem dX6_say_0 : decode cX6_say 0 = .ok (.aload_n 0, 1) := dk_42 (dk_at dksX6_say_0 0 rfl rfl)
theorem dX6_say_1 : decode cX6_say 1 = .ok (.iconst 0, 1) := dk_3 (dk_at dksX6_say_0 1 rfl rfl)
theorem dX6_say_2 : decode cX6_say 2 = .ok (.putfield 1, 3) := dk_181 0 1 (dk_at dksX6_say_0 2 rfl rfl)
theorem dX6_say_5 : decode cX6_say 5 = .ok (.iload_n 1, 1) := dk_27 (dk_at dksX6_say_0 5 rfl rfl)
theorem dX6_say_6 : decode cX6_say 6 = .ok (.i2l, 1) := dk_133 (dk_at dksX6_say_0 6 rfl rfl)
theorem dX6_say_7 : decode cX6_say 7 = .ok (.lconst 0, 1) := dk_9 (dk_at dksX6_say_0 7 rfl rfl)
theorem dX6_say_8 : decode cX6_say 8 = .ok (.aload_n 0, 1) := dk_42 (dk_at dksX6_say_0 8 rfl rfl)
theorem dX6_say_9 : decode cX6_say 9 = .ok (.getfield 17, 3) := dk_180 0 17 (dk_at dksX6_say_0 9 rfl rfl)
theorem dX6_say_12 : decode cX6_say 12 = .ok (.sipush 162, 3) := dk_17 0 162 (dk_at dksX6_say_0 12 rfl rfl)
theorem dX6_say_15 : decode cX6_say 15 = .ok (.iaload, 1) := dk_46 (dk_at dksX6_say_0 15 rfl rfl)
theorem dX6_say_16 : decode cX6_say 16 = .ok (.iconst 1, 1) := dk_4 (dk_at dksX6_say_0 16 rfl rfl)
theorem dX6_say_17 : decode cX6_say 17 = .ok (.isub, 1) := dk_100 (dk_at dksX6_say_0 17 rfl rfl)
theorem dX6_say_18 : decode cX6_say 18 = .ok (.i2l, 1) := dk_133 (dk_at dksX6_say_0 18 rfl rfl)
theorem dX6_say_19 : decode cX6_say 19 = .ok (.invokestatic 81, 3) := dk_184 0 81 (dk_at dksX6_say_0 19 rfl rfl)
theorem dX6_say_22 : decode cX6_say 22 = .ok (.ifCond .ne 10, 3) := dk_154 0 10 (dk_at dksX6_say_1 0 rfl rfl)
theorem dX6_say_25 : decode cX6_say 25 = .ok (.aload_n 0, 1) := dk_42 (dk_at dksX6_say_1 3 rfl rfl)
theorem dX6_say_26 : decode cX6_say 26 = .ok (.bipush (-2), 2) := dk_16 254 (dk_at dksX6_say_1 4 rfl rfl)
theorem dX6_say_28 : decode cX6_say 28 = .ok (.invokevirtual 85, 3) := dk_182 0 85 (dk_at dksX6_say_1 6 rfl rfl)
theorem dX6_say_31 : decode cX6_say 31 = .ok (.ireturn, 1) := dk_172 (dk_at dksX6_say_1 9 rfl rfl)
theorem dX6_say_32 : decode cX6_say 32 = .ok (.aload_n 0, 1) := dk_42 (dk_at dksX6_say_1 10 rfl rfl)
theorem dX6_say_33 : decode cX6_say 33 = .ok (.getfield 17, 3) := dk_180 0 17 (dk_at dksX6_say_1 11 rfl rfl)
theorem dX6_say_36 : decode cX6_say 36 = .ok (.sipush 223, 3) := dk_17 0 223 (dk_at dksX6_say_1 14 rfl rfl)
theorem dX6_say_39 : decode cX6_say 39 = .ok (.iaload, 1) := dk_46 (dk_at dksX6_say_1 17 rfl rfl)
theorem dX6_say_40 : decode cX6_say 40 = .ok (.ifCond .ne 12, 3) := dk_154 0 12 (dk_at dksX6_say_1 18 rfl rfl)
theorem dX6_say_43 : decode cX6_say 43 = .ok (.aload_n 0, 1) := dk_42 (dk_at dksX6_say_1 21 rfl rfl)
theorem dX6_say_44 : decode cX6_say 44 = .ok (.invokevirtual 364, 3) := dk_182 1 108 (dk_at dksX6_say_2 0 rfl rfl)
theorem dX6_say_47 : decode cX6_say 47 = .ok (.ifCond .ne 5, 3) := dk_154 0 5 (dk_at dksX6_say_2 3 rfl rfl)
theorem dX6_say_50 : decode cX6_say 50 = .ok (.iconst 0, 1) := dk_3 (dk_at dksX6_say_2 6 rfl rfl)
theorem dX6_say_51 : decode cX6_say 51 = .ok (.ireturn, 1) := dk_172 (dk_at dksX6_say_2 7 rfl rfl)
theorem dX6_say_52 : decode cX6_say 52 = .ok (.aload_n 0, 1) := dk_42 (dk_at dksX6_say_2 8 rfl rfl)
theorem dX6_say_53 : decode cX6_say 53 = .ok (.invokevirtual 269, 3) := dk_182 1 13 (dk_at dksX6_say_2 9 rfl rfl)
theorem dX6_say_56 : decode cX6_say 56 = .ok (.aload_n 0, 1) := dk_42 (dk_at dksX6_say_2 12 rfl rfl)
theorem dX6_say_57 : decode cX6_say 57 = .ok (.iload_n 1, 1) := dk_27 (dk_at dksX6_say_2 13 rfl rfl)
theorem dX6_say_58 : decode cX6_say 58 = .ok (.invokevirtual 272, 3) := dk_182 1 16 (dk_at dksX6_say_2 14 rfl rfl)
theorem dX6_say_61 : decode cX6_say 61 = .ok (.istore_n 2, 1) := dk_61 (dk_at dksX6_say_2 17 rfl rfl)
theorem dX6_say_62 : decode cX6_say 62 = .ok (.iload_n 2, 1) := dk_28 (dk_at dksX6_say_2 18 rfl rfl)
theorem dX6_say_63 : decode cX6_say 63 = .ok (.iconst 5, 1) := dk_8 (dk_at dksX6_say_2 19 rfl rfl)
theorem dX6_say_64 : decode cX6_say 64 = .ok (.if_icmp .ne 36, 3) := dk_160 0 36 (dk_at dksX6_say_2 20 rfl rfl)
theorem dX6_say_67 : decode cX6_say 67 = .ok (.aload_n 0, 1) := dk_42 (dk_at dksX6_say_2 23 rfl rfl)
theorem dX6_say_68 : decode cX6_say 68 = .ok (.aload_n 0, 1) := dk_42 (dk_at dksX6_say_3 0 rfl rfl)
theorem dX6_say_69 : decode cX6_say 69 = .ok (.getfield 20, 3) := dk_180 0 20 (dk_at dksX6_say_3 1 rfl rfl)
theorem dX6_say_72 : decode cX6_say 72 = .ok (.sipush 480, 3) := dk_17 1 224 (dk_at dksX6_say_3 4 rfl rfl)
theorem dX6_say_75 : decode cX6_say 75 = .ok (.iload_n 1, 1) := dk_27 (dk_at dksX6_say_3 7 rfl rfl)
theorem dX6_say_76 : decode cX6_say 76 = .ok (.iadd, 1) := dk_96 (dk_at dksX6_say_3 8 rfl rfl)
theorem dX6_say_77 : decode cX6_say 77 = .ok (.laload, 1) := dk_47 (dk_at dksX6_say_3 9 rfl rfl)
theorem dX6_say_78 : decode cX6_say 78 = .ok (.iconst 0, 1) := dk_3 (dk_at dksX6_say_3 10 rfl rfl)
theorem dX6_say_79 : decode cX6_say 79 = .ok (.invokevirtual 275, 3) := dk_182 1 19 (dk_at dksX6_say_3 11 rfl rfl)
theorem dX6_say_82 : decode cX6_say 82 = .ok (.aload_n 0, 1) := dk_42 (dk_at dksX6_say_3 14 rfl rfl)
theorem dX6_say_83 : decode cX6_say 83 = .ok (.getfield 17, 3) := dk_180 0 17 (dk_at dksX6_say_3 15 rfl rfl)
theorem dX6_say_86 : decode cX6_say 86 = .ok (.sipush 248, 3) := dk_17 0 248 (dk_at dksX6_say_3 18 rfl rfl)
theorem dX6_say_89 : decode cX6_say 89 = .ok (.iaload, 1) := dk_46 (dk_at dksX6_say_3 21 rfl rfl)
theorem dX6_say_90 : decode cX6_say 90 = .ok (.if_icmp .lt 7, 3) := dk_161 0 7 (dk_at dksX6_say_4 0 rfl rfl)
theorem dX6_say_93 : decode cX6_say 93 = .ok (.iconst 5, 1) := dk_8 (dk_at dksX6_say_4 3 rfl rfl)
theorem dX6_say_94 : decode cX6_say 94 = .ok (.goto 5, 3) := dk_167 0 5 (dk_at dksX6_say_4 4 rfl rfl)
theorem dX6_say_97 : decode cX6_say 97 = .ok (.bipush 6, 2) := dk_16 6 (dk_at dksX6_say_4 7 rfl rfl)
theorem dX6_say_99 : decode cX6_say 99 = .ok (.ireturn, 1) := dk_172 (dk_at dksX6_say_4 9 rfl rfl)
theorem dX6_say_100 : decode cX6_say 100 = .ok (.iload_n 2, 1) := dk_28 (dk_at dksX6_say_4 10 rfl rfl)
theorem dX6_say_101 : decode cX6_say 101 = .ok (.iconst 2, 1) := dk_5 (dk_at dksX6_say_4 11 rfl rfl)
theorem dX6_say_102 : decode cX6_say 102 = .ok (.if_icmp .ge 7, 3) := dk_162 0 7 (dk_at dksX6_say_4 12 rfl rfl)
theorem dX6_say_105 : decode cX6_say 105 = .ok (.iconst 1, 1) := dk_4 (dk_at dksX6_say_4 15 rfl rfl)
theorem dX6_say_106 : decode cX6_say 106 = .ok (.goto 4, 3) := dk_167 0 4 (dk_at dksX6_say_4 16 rfl rfl)
theorem dX6_say_109 : decode cX6_say 109 = .ok (.iload_n 2, 1) := dk_28 (dk_at dksX6_say_4 19 rfl rfl)
theorem dX6_say_110 : decode cX6_say 110 = .ok (.ireturn, 1) := dk_172 (dk_at dksX6_say_4 20 rfl rfl)
abbrev cX6_isAnyEarly : ByteArray := prog_28_method_102_code
def yX6_isAnyEarly : MethodName := ⟨RX6, "isAnyEarly", "()Z"⟩
def dkwX6_isAnyEarly_1 : List UInt8 := [153, 0, 7, 4, 167, 0, 4, 3, 60, 132, 2, 1, 167, 255, 225, 27, 172]
abbrev dktX6_isAnyEarly_1 : List UInt8 := dkwX6_isAnyEarly_1 ++ []
def dkwX6_isAnyEarly_0 : List UInt8 := [3, 60, 3, 61, 28, 42, 180, 0, 17, 3, 46, 162, 0, 27, 27, 154, 0, 11, 42, 28, 182, 0, 250]
abbrev dktX6_isAnyEarly_0 : List UInt8 := dkwX6_isAnyEarly_0 ++ dktX6_isAnyEarly_1
theorem dksX6_isAnyEarly_0 : cX6_isAnyEarly.data.toList.drop 0 = dktX6_isAnyEarly_0 := by decide +kernel
theorem dksX6_isAnyEarly_1 : cX6_isAnyEarly.data.toList.drop 23 = dktX6_isAnyEarly_1 := dk_seg dksX6_isAnyEarly_0 23 rfl rfl
theorem dX6_isAnyEarly_0 : decode cX6_isAnyEarly 0 = .ok (.iconst 0, 1) := dk_3 (dk_at dksX6_isAnyEarly_0 0 rfl rfl)
theorem dX6_isAnyEarly_1 : decode cX6_isAnyEarly 1 = .ok (.istore_n 1, 1) := dk_60 (dk_at dksX6_isAnyEarly_0 1 rfl rfl)
theorem dX6_isAnyEarly_2 : decode cX6_isAnyEarly 2 = .ok (.iconst 0, 1) := dk_3 (dk_at dksX6_isAnyEarly_0 2 rfl rfl)
theorem dX6_isAnyEarly_3 : decode cX6_isAnyEarly 3 = .ok (.istore_n 2, 1) := dk_61 (dk_at dksX6_isAnyEarly_0 3 rfl rfl)
theorem dX6_isAnyEarly_4 : decode cX6_isAnyEarly 4 = .ok (.iload_n 2, 1) := dk_28 (dk_at dksX6_isAnyEarly_0 4 rfl rfl)
theorem dX6_isAnyEarly_5 : decode cX6_isAnyEarly 5 = .ok (.aload_n 0, 1) := dk_42 (dk_at dksX6_isAnyEarly_0 5 rfl rfl)
theorem dX6_isAnyEarly_6 : decode cX6_isAnyEarly 6 = .ok (.getfield 17, 3) := dk_180 0 17 (dk_at dksX6_isAnyEarly_0 6 rfl rfl)
theorem dX6_isAnyEarly_9 : decode cX6_isAnyEarly 9 = .ok (.iconst 0, 1) := dk_3 (dk_at dksX6_isAnyEarly_0 9 rfl rfl)
theorem dX6_isAnyEarly_10 : decode cX6_isAnyEarly 10 = .ok (.iaload, 1) := dk_46 (dk_at dksX6_isAnyEarly_0 10 rfl rfl)
theorem dX6_isAnyEarly_11 : decode cX6_isAnyEarly 11 = .ok (.if_icmp .ge 27, 3) := dk_162 0 27 (dk_at dksX6_isAnyEarly_0 11 rfl rfl)
theorem dX6_isAnyEarly_14 : decode cX6_isAnyEarly 14 = .ok (.iload_n 1, 1) := dk_27 (dk_at dksX6_isAnyEarly_0 14 rfl rfl)
theorem dX6_isAnyEarly_15 : decode cX6_isAnyEarly 15 = .ok (.ifCond .ne 11, 3) := dk_154 0 11 (dk_at dksX6_isAnyEarly_0 15 rfl rfl)
theorem dX6_isAnyEarly_18 : decode cX6_isAnyEarly 18 = .ok (.aload_n 0, 1) := dk_42 (dk_at dksX6_isAnyEarly_0 18 rfl rfl)
theorem dX6_isAnyEarly_19 : decode cX6_isAnyEarly 19 = .ok (.iload_n 2, 1) := dk_28 (dk_at dksX6_isAnyEarly_0 19 rfl rfl)
theorem dX6_isAnyEarly_20 : decode cX6_isAnyEarly 20 = .ok (.invokevirtual 250, 3) := dk_182 0 250 (dk_at dksX6_isAnyEarly_0 20 rfl rfl)
theorem dX6_isAnyEarly_23 : decode cX6_isAnyEarly 23 = .ok (.ifCond .eq 7, 3) := dk_153 0 7 (dk_at dksX6_isAnyEarly_1 0 rfl rfl)
theorem dX6_isAnyEarly_26 : decode cX6_isAnyEarly 26 = .ok (.iconst 1, 1) := dk_4 (dk_at dksX6_isAnyEarly_1 3 rfl rfl)
theorem dX6_isAnyEarly_27 : decode cX6_isAnyEarly 27 = .ok (.goto 4, 3) := dk_167 0 4 (dk_at dksX6_isAnyEarly_1 4 rfl rfl)
theorem dX6_isAnyEarly_30 : decode cX6_isAnyEarly 30 = .ok (.iconst 0, 1) := dk_3 (dk_at dksX6_isAnyEarly_1 7 rfl rfl)
theorem dX6_isAnyEarly_31 : decode cX6_isAnyEarly 31 = .ok (.istore_n 1, 1) := dk_60 (dk_at dksX6_isAnyEarly_1 8 rfl rfl)
theorem dX6_isAnyEarly_32 : decode cX6_isAnyEarly 32 = .ok (.iinc 2 1, 3) := dk_132 2 1 (dk_at dksX6_isAnyEarly_1 9 rfl rfl)
theorem dX6_isAnyEarly_35 : decode cX6_isAnyEarly 35 = .ok (.goto (-31), 3) := dk_167 255 225 (dk_at dksX6_isAnyEarly_1 12 rfl rfl)
theorem dX6_isAnyEarly_38 : decode cX6_isAnyEarly 38 = .ok (.iload_n 1, 1) := dk_27 (dk_at dksX6_isAnyEarly_1 15 rfl rfl)
theorem dX6_isAnyEarly_39 : decode cX6_isAnyEarly 39 = .ok (.ireturn, 1) := dk_172 (dk_at dksX6_isAnyEarly_1 16 rfl rfl)
abbrev cX6_image : ByteArray := prog_28_method_105_code
def yX6_image : MethodName := ⟨RX6, "image", "(I)I"⟩
def dkwX6_image_1 : List UInt8 := [27, 4, 96, 182, 1, 112, 42, 180, 0, 24, 27, 4, 84, 3, 172]
abbrev dktX6_image_1 : List UInt8 := dkwX6_image_1 ++ []
def dkwX6_image_0 : List UInt8 := [42, 3, 181, 0, 1, 27, 133, 9, 10, 184, 0, 81, 154, 0, 10, 42, 16, 254, 182, 0, 85, 172, 42, 3]
abbrev dktX6_image_0 : List UInt8 := dkwX6_image_0 ++ dktX6_image_1
theorem dksX6_image_0 : cX6_image.data.toList.drop 0 = dktX6_image_0 := by decide +kernel
theorem dksX6_image_1 : cX6_image.data.toList.drop 24 = dktX6_image_1 := dk_seg dksX6_image_0 24 rfl rfl
theorem dX6_image_0 : decode cX6_image 0 = .ok (.aload_n 0, 1) := dk_42 (dk_at dksX6_image_0 0 rfl rfl)
theorem dX6_image_1 : decode cX6_image 1 = .ok (.iconst 0, 1) := dk_3 (dk_at dksX6_image_0 1 rfl rfl)
theorem dX6_image_2 : decode cX6_image 2 = .ok (.putfield 1, 3) := dk_181 0 1 (dk_at dksX6_image_0 2 rfl rfl)
theorem dX6_image_5 : decode cX6_image 5 = .ok (.iload_n 1, 1) := dk_27 (dk_at dksX6_image_0 5 rfl rfl)
theorem dX6_image_6 : decode cX6_image 6 = .ok (.i2l, 1) := dk_133 (dk_at dksX6_image_0 6 rfl rfl)
theorem dX6_image_7 : decode cX6_image 7 = .ok (.lconst 0, 1) := dk_9 (dk_at dksX6_image_0 7 rfl rfl)
theorem dX6_image_8 : decode cX6_image 8 = .ok (.lconst 1, 1) := dk_10 (dk_at dksX6_image_0 8 rfl rfl)
theorem dX6_image_9 : decode cX6_image 9 = .ok (.invokestatic 81, 3) := dk_184 0 81 (dk_at dksX6_image_0 9 rfl rfl)
theorem dX6_image_12 : decode cX6_image 12 = .ok (.ifCond .ne 10, 3) := dk_154 0 10 (dk_at dksX6_image_0 12 rfl rfl)
theorem dX6_image_15 : decode cX6_image 15 = .ok (.aload_n 0, 1) := dk_42 (dk_at dksX6_image_0 15 rfl rfl)
theorem dX6_image_16 : decode cX6_image 16 = .ok (.bipush (-2), 2) := dk_16 254 (dk_at dksX6_image_0 16 rfl rfl)
theorem dX6_image_18 : decode cX6_image 18 = .ok (.invokevirtual 85, 3) := dk_182 0 85 (dk_at dksX6_image_0 18 rfl rfl)
theorem dX6_image_21 : decode cX6_image 21 = .ok (.ireturn, 1) := dk_172 (dk_at dksX6_image_0 21 rfl rfl)
theorem dX6_image_22 : decode cX6_image 22 = .ok (.aload_n 0, 1) := dk_42 (dk_at dksX6_image_0 22 rfl rfl)
theorem dX6_image_23 : decode cX6_image 23 = .ok (.iconst 0, 1) := dk_3 (dk_at dksX6_image_0 23 rfl rfl)
theorem dX6_image_24 : decode cX6_image 24 = .ok (.iload_n 1, 1) := dk_27 (dk_at dksX6_image_1 0 rfl rfl)
theorem dX6_image_25 : decode cX6_image 25 = .ok (.iconst 1, 1) := dk_4 (dk_at dksX6_image_1 1 rfl rfl)
theorem dX6_image_26 : decode cX6_image 26 = .ok (.iadd, 1) := dk_96 (dk_at dksX6_image_1 2 rfl rfl)
theorem dX6_image_27 : decode cX6_image 27 = .ok (.invokevirtual 368, 3) := dk_182 1 112 (dk_at dksX6_image_1 3 rfl rfl)
theorem dX6_image_30 : decode cX6_image 30 = .ok (.aload_n 0, 1) := dk_42 (dk_at dksX6_image_1 6 rfl rfl)
theorem dX6_image_31 : decode cX6_image 31 = .ok (.getfield 24, 3) := dk_180 0 24 (dk_at dksX6_image_1 7 rfl rfl)
theorem dX6_image_34 : decode cX6_image 34 = .ok (.iload_n 1, 1) := dk_27 (dk_at dksX6_image_1 10 rfl rfl)
theorem dX6_image_35 : decode cX6_image 35 = .ok (.iconst 1, 1) := dk_4 (dk_at dksX6_image_1 11 rfl rfl)
theorem dX6_image_36 : decode cX6_image 36 = .ok (.bastore, 1) := dk_84 (dk_at dksX6_image_1 12 rfl rfl)
theorem dX6_image_37 : decode cX6_image 37 = .ok (.iconst 0, 1) := dk_3 (dk_at dksX6_image_1 13 rfl rfl)
theorem dX6_image_38 : decode cX6_image 38 = .ok (.ireturn, 1) := dk_172 (dk_at dksX6_image_1 14 rfl rfl)
abbrev cX6_copies : ByteArray := prog_28_method_104_code
def yX6_copies : MethodName := ⟨RX6, "copies", "(II)V"⟩
def dkwX6_copies_6 : List UInt8 := [96, 46, 79, 132, 3, 1, 167, 255, 225, 177]
abbrev dktX6_copies_6 : List UInt8 := dkwX6_copies_6 ++ []
def dkwX6_copies_5 : List UInt8 := [16, 29, 162, 0, 31, 42, 180, 0, 34, 16, 29, 28, 104, 29, 96, 42, 180, 0, 34, 16, 29, 27, 104, 29]
abbrev dktX6_copies_5 : List UInt8 := dkwX6_copies_5 ++ dktX6_copies_6
def dkwX6_copies_4 : List UInt8 := [29, 96, 42, 180, 0, 31, 17, 2, 133, 27, 104, 29, 96, 46, 79, 132, 3, 1, 167, 255, 222, 3, 62, 29]
abbrev dktX6_copies_4 : List UInt8 := dkwX6_copies_4 ++ dktX6_copies_5
def dkwX6_copies_3 : List UInt8 := [132, 3, 1, 167, 255, 222, 3, 62, 29, 17, 2, 133, 162, 0, 33, 42, 180, 0, 31, 17, 2, 133, 28, 104]
abbrev dktX6_copies_3 : List UInt8 := dkwX6_copies_3 ++ dktX6_copies_4
def dkwX6_copies_2 : List UInt8 := [42, 180, 0, 20, 17, 3, 16, 28, 104, 29, 96, 42, 180, 0, 20, 17, 3, 16, 27, 104, 29, 96, 47, 80]
abbrev dktX6_copies_2 : List UInt8 := dkwX6_copies_2 ++ dktX6_copies_3
def dkwX6_copies_1 : List UInt8 := [17, 4, 100, 27, 104, 29, 96, 46, 79, 132, 3, 1, 167, 255, 222, 3, 62, 29, 17, 3, 16, 162, 0, 33]
abbrev dktX6_copies_1 : List UInt8 := dkwX6_copies_1 ++ dktX6_copies_2
def dkwX6_copies_0 : List UInt8 := [3, 62, 29, 17, 4, 100, 162, 0, 33, 42, 180, 0, 17, 17, 4, 100, 28, 104, 29, 96, 42, 180, 0, 17]
abbrev dktX6_copies_0 : List UInt8 := dkwX6_copies_0 ++ dktX6_copies_1
theorem dksX6_copies_0 : cX6_copies.data.toList.drop 0 = dktX6_copies_0 := by decide +kernel
theorem dksX6_copies_1 : cX6_copies.data.toList.drop 24 = dktX6_copies_1 := dk_seg dksX6_copies_0 24 rfl rfl
theorem dksX6_copies_2 : cX6_copies.data.toList.drop 48 = dktX6_copies_2 := dk_seg dksX6_copies_1 24 rfl rfl
theorem dksX6_copies_3 : cX6_copies.data.toList.drop 72 = dktX6_copies_3 := dk_seg dksX6_copies_2 24 rfl rfl
theorem dksX6_copies_4 : cX6_copies.data.toList.drop 96 = dktX6_copies_4 := dk_seg dksX6_copies_3 24 rfl rfl
theorem dksX6_copies_5 : cX6_copies.data.toList.drop 120 = dktX6_copies_5 := dk_seg dksX6_copies_4 24 rfl rfl
theorem dksX6_copies_6 : cX6_copies.data.toList.drop 144 = dktX6_copies_6 := dk_seg dksX6_copies_5 24 rfl rfl
theorem dX6_copies_0 : decode cX6_copies 0 = .ok (.iconst 0, 1) := dk_3 (dk_at dksX6_copies_0 0 rfl rfl)
theorem dX6_copies_1 : decode cX6_copies 1 = .ok (.istore_n 3, 1) := dk_62 (dk_at dksX6_copies_0 1 rfl rfl)
theorem dX6_copies_2 : decode cX6_copies 2 = .ok (.iload_n 3, 1) := dk_29 (dk_at dksX6_copies_0 2 rfl rfl)
theorem dX6_copies_3 : decode cX6_copies 3 = .ok (.sipush 1124, 3) := dk_17 4 100 (dk_at dksX6_copies_0 3 rfl rfl)
theorem dX6_copies_6 : decode cX6_copies 6 = .ok (.if_icmp .ge 33, 3) := dk_162 0 33 (dk_at dksX6_copies_0 6 rfl rfl)
theorem dX6_copies_9 : decode cX6_copies 9 = .ok (.aload_n 0, 1) := dk_42 (dk_at dksX6_copies_0 9 rfl rfl)
theorem dX6_copies_10 : decode cX6_copies 10 = .ok (.getfield 17, 3) := dk_180 0 17 (dk_at dksX6_copies_0 10 rfl rfl)
theorem dX6_copies_13 : decode cX6_copies 13 = .ok (.sipush 1124, 3) := dk_17 4 100 (dk_at dksX6_copies_0 13 rfl rfl)
theorem dX6_copies_16 : decode cX6_copies 16 = .ok (.iload_n 2, 1) := dk_28 (dk_at dksX6_copies_0 16 rfl rfl)
theorem dX6_copies_17 : decode cX6_copies 17 = .ok (.imul, 1) := dk_104 (dk_at dksX6_copies_0 17 rfl rfl)
theorem dX6_copies_18 : decode cX6_copies 18 = .ok (.iload_n 3, 1) := dk_29 (dk_at dksX6_copies_0 18 rfl rfl)
theorem dX6_copies_19 : decode cX6_copies 19 = .ok (.iadd, 1) := dk_96 (dk_at dksX6_copies_0 19 rfl rfl)
theorem dX6_copies_20 : decode cX6_copies 20 = .ok (.aload_n 0, 1) := dk_42 (dk_at dksX6_copies_0 20 rfl rfl)
theorem dX6_copies_21 : decode cX6_copies 21 = .ok (.getfield 17, 3) := dk_180 0 17 (dk_at dksX6_copies_0 21 rfl rfl)
theorem dX6_copies_24 : decode cX6_copies 24 = .ok (.sipush 1124, 3) := dk_17 4 100 (dk_at dksX6_copies_1 0 rfl rfl)
theorem dX6_copies_27 : decode cX6_copies 27 = .ok (.iload_n 1, 1) := dk_27 (dk_at dksX6_copies_1 3 rfl rfl)
theorem dX6_copies_28 : decode cX6_copies 28 = .ok (.imul, 1) := dk_104 (dk_at dksX6_copies_1 4 rfl rfl)
theorem dX6_copies_29 : decode cX6_copies 29 = .ok (.iload_n 3, 1) := dk_29 (dk_at dksX6_copies_1 5 rfl rfl)
theorem dX6_copies_30 : decode cX6_copies 30 = .ok (.iadd, 1) := dk_96 (dk_at dksX6_copies_1 6 rfl rfl)
theorem dX6_copies_31 : decode cX6_copies 31 = .ok (.iaload, 1) := dk_46 (dk_at dksX6_copies_1 7 rfl rfl)
theorem dX6_copies_32 : decode cX6_copies 32 = .ok (.iastore, 1) := dk_79 (dk_at dksX6_copies_1 8 rfl rfl)
theorem dX6_copies_33 : decode cX6_copies 33 = .ok (.iinc 3 1, 3) := dk_132 3 1 (dk_at dksX6_copies_1 9 rfl rfl)
theorem dX6_copies_36 : decode cX6_copies 36 = .ok (.goto (-34), 3) := dk_167 255 222 (dk_at dksX6_copies_1 12 rfl rfl)
theorem dX6_copies_39 : decode cX6_copies 39 = .ok (.iconst 0, 1) := dk_3 (dk_at dksX6_copies_1 15 rfl rfl)
theorem dX6_copies_40 : decode cX6_copies 40 = .ok (.istore_n 3, 1) := dk_62 (dk_at dksX6_copies_1 16 rfl rfl)
theorem dX6_copies_41 : decode cX6_copies 41 = .ok (.iload_n 3, 1) := dk_29 (dk_at dksX6_copies_1 17 rfl rfl)
theorem dX6_copies_42 : decode cX6_copies 42 = .ok (.sipush 784, 3) := dk_17 3 16 (dk_at dksX6_copies_1 18 rfl rfl)
theorem dX6_copies_45 : decode cX6_copies 45 = .ok (.if_icmp .ge 33, 3) := dk_162 0 33 (dk_at dksX6_copies_1 21 rfl rfl)
theorem dX6_copies_48 : decode cX6_copies 48 = .ok (.aload_n 0, 1) := dk_42 (dk_at dksX6_copies_2 0 rfl rfl)
theorem dX6_copies_49 : decode cX6_copies 49 = .ok (.getfield 20, 3) := dk_180 0 20 (dk_at dksX6_copies_2 1 rfl rfl)
theorem dX6_copies_52 : decode cX6_copies 52 = .ok (.sipush 784, 3) := dk_17 3 16 (dk_at dksX6_copies_2 4 rfl rfl)
theorem dX6_copies_55 : decode cX6_copies 55 = .ok (.iload_n 2, 1) := dk_28 (dk_at dksX6_copies_2 7 rfl rfl)
theorem dX6_copies_56 : decode cX6_copies 56 = .ok (.imul, 1) := dk_104 (dk_at dksX6_copies_2 8 rfl rfl)
theorem dX6_copies_57 : decode cX6_copies 57 = .ok (.iload_n 3, 1) := dk_29 (dk_at dksX6_copies_2 9 rfl rfl)
theorem dX6_copies_58 : decode cX6_copies 58 = .ok (.iadd, 1) := dk_96 (dk_at dksX6_copies_2 10 rfl rfl)
theorem dX6_copies_59 : decode cX6_copies 59 = .ok (.aload_n 0, 1) := dk_42 (dk_at dksX6_copies_2 11 rfl rfl)
theorem dX6_copies_60 : decode cX6_copies 60 = .ok (.getfield 20, 3) := dk_180 0 20 (dk_at dksX6_copies_2 12 rfl rfl)
theorem dX6_copies_63 : decode cX6_copies 63 = .ok (.sipush 784, 3) := dk_17 3 16 (dk_at dksX6_copies_2 15 rfl rfl)
theorem dX6_copies_66 : decode cX6_copies 66 = .ok (.iload_n 1, 1) := dk_27 (dk_at dksX6_copies_2 18 rfl rfl)
theorem dX6_copies_67 : decode cX6_copies 67 = .ok (.imul, 1) := dk_104 (dk_at dksX6_copies_2 19 rfl rfl)
theorem dX6_copies_68 : decode cX6_copies 68 = .ok (.iload_n 3, 1) := dk_29 (dk_at dksX6_copies_2 20 rfl rfl)
theorem dX6_copies_69 : decode cX6_copies 69 = .ok (.iadd, 1) := dk_96 (dk_at dksX6_copies_2 21 rfl rfl)
theorem dX6_copies_70 : decode cX6_copies 70 = .ok (.laload, 1) := dk_47 (dk_at dksX6_copies_2 22 rfl rfl)
theorem dX6_copies_71 : decode cX6_copies 71 = .ok (.lastore, 1) := dk_80 (dk_at dksX6_copies_2 23 rfl rfl)
theorem dX6_copies_72 : decode cX6_copies 72 = .ok (.iinc 3 1, 3) := dk_132 3 1 (dk_at dksX6_copies_3 0 rfl rfl)
theorem dX6_copies_75 : decode cX6_copies 75 = .ok (.goto (-34), 3) := dk_167 255 222 (dk_at dksX6_copies_3 3 rfl rfl)
theorem dX6_copies_78 : decode cX6_copies 78 = .ok (.iconst 0, 1) := dk_3 (dk_at dksX6_copies_3 6 rfl rfl)
theorem dX6_copies_79 : decode cX6_copies 79 = .ok (.istore_n 3, 1) := dk_62 (dk_at dksX6_copies_3 7 rfl rfl)
theorem dX6_copies_80 : decode cX6_copies 80 = .ok (.iload_n 3, 1) := dk_29 (dk_at dksX6_copies_3 8 rfl rfl)
theorem dX6_copies_81 : decode cX6_copies 81 = .ok (.sipush 645, 3) := dk_17 2 133 (dk_at dksX6_copies_3 9 rfl rfl)
theorem dX6_copies_84 : decode cX6_copies 84 = .ok (.if_icmp .ge 33, 3) := dk_162 0 33 (dk_at dksX6_copies_3 12 rfl rfl)
theorem dX6_copies_87 : decode cX6_copies 87 = .ok (.aload_n 0, 1) := dk_42 (dk_at dksX6_copies_3 15 rfl rfl)
theorem dX6_copies_88 : decode cX6_copies 88 = .ok (.getfield 31, 3) := dk_180 0 31 (dk_at dksX6_copies_3 16 rfl rfl)
theorem dX6_copies_91 : decode cX6_copies 91 = .ok (.sipush 645, 3) := dk_17 2 133 (dk_at dksX6_copies_3 19 rfl rfl)
theorem dX6_copies_94 : decode cX6_copies 94 = .ok (.iload_n 2, 1) := dk_28 (dk_at dksX6_copies_3 22 rfl rfl)
theorem dX6_copies_95 : decode cX6_copies 95 = .ok (.imul, 1) := dk_104 (dk_at dksX6_copies_3 23 rfl rfl)
theorem dX6_copies_96 : decode cX6_copies 96 = .ok (.iload_n 3, 1) := dk_29 (dk_at dksX6_copies_4 0 rfl rfl)
theorem dX6_copies_97 : decode cX6_copies 97 = .ok (.iadd, 1) := dk_96 (dk_at dksX6_copies_4 1 rfl rfl)
theorem dX6_copies_98 : decode cX6_copies 98 = .ok (.aload_n 0, 1) := dk_42 (dk_at dksX6_copies_4 2 rfl rfl)
theorem dX6_copies_99 : decode cX6_copies 99 = .ok (.getfield 31, 3) := dk_180 0 31 (dk_at dksX6_copies_4 3 rfl rfl)
theorem dX6_copies_102 : decode cX6_copies 102 = .ok (.sipush 645, 3) := dk_17 2 133 (dk_at dksX6_copies_4 6 rfl rfl)
theorem dX6_copies_105 : decode cX6_copies 105 = .ok (.iload_n 1, 1) := dk_27 (dk_at dksX6_copies_4 9 rfl rfl)
theorem dX6_copies_106 : decode cX6_copies 106 = .ok (.imul, 1) := dk_104 (dk_at dksX6_copies_4 10 rfl rfl)
theorem dX6_copies_107 : decode cX6_copies 107 = .ok (.iload_n 3, 1) := dk_29 (dk_at dksX6_copies_4 11 rfl rfl)
theorem dX6_copies_108 : decode cX6_copies 108 = .ok (.iadd, 1) := dk_96 (dk_at dksX6_copies_4 12 rfl rfl)
theorem dX6_copies_109 : decode cX6_copies 109 = .ok (.iaload, 1) := dk_46 (dk_at dksX6_copies_4 13 rfl rfl)
theorem dX6_copies_110 : decode cX6_copies 110 = .ok (.iastore, 1) := dk_79 (dk_at dksX6_copies_4 14 rfl rfl)
theorem dX6_copies_111 : decode cX6_copies 111 = .ok (.iinc 3 1, 3) := dk_132 3 1 (dk_at dksX6_copies_4 15 rfl rfl)
theorem dX6_copies_114 : decode cX6_copies 114 = .ok (.goto (-34), 3) := dk_167 255 222 (dk_at dksX6_copies_4 18 rfl rfl)
theorem dX6_copies_117 : decode cX6_copies 117 = .ok (.iconst 0, 1) := dk_3 (dk_at dksX6_copies_4 21 rfl rfl)
theorem dX6_copies_118 : decode cX6_copies 118 = .ok (.istore_n 3, 1) := dk_62 (dk_at dksX6_copies_4 22 rfl rfl)
theorem dX6_copies_119 : decode cX6_copies 119 = .ok (.iload_n 3, 1) := dk_29 (dk_at dksX6_copies_4 23 rfl rfl)
theorem dX6_copies_120 : decode cX6_copies 120 = .ok (.bipush 29, 2) := dk_16 29 (dk_at dksX6_copies_5 0 rfl rfl)
theorem dX6_copies_122 : decode cX6_copies 122 = .ok (.if_icmp .ge 31, 3) := dk_162 0 31 (dk_at dksX6_copies_5 2 rfl rfl)
theorem dX6_copies_125 : decode cX6_copies 125 = .ok (.aload_n 0, 1) := dk_42 (dk_at dksX6_copies_5 5 rfl rfl)
theorem dX6_copies_126 : decode cX6_copies 126 = .ok (.getfield 34, 3) := dk_180 0 34 (dk_at dksX6_copies_5 6 rfl rfl)
theorem dX6_copies_129 : decode cX6_copies 129 = .ok (.bipush 29, 2) := dk_16 29 (dk_at dksX6_copies_5 9 rfl rfl)
theorem dX6_copies_131 : decode cX6_copies 131 = .ok (.iload_n 2, 1) := dk_28 (dk_at dksX6_copies_5 11 rfl rfl)
theorem dX6_copies_132 : decode cX6_copies 132 = .ok (.imul, 1) := dk_104 (dk_at dksX6_copies_5 12 rfl rfl)
theorem dX6_copies_133 : decode cX6_copies 133 = .ok (.iload_n 3, 1) := dk_29 (dk_at dksX6_copies_5 13 rfl rfl)
theorem dX6_copies_134 : decode cX6_copies 134 = .ok (.iadd, 1) := dk_96 (dk_at dksX6_copies_5 14 rfl rfl)
theorem dX6_copies_135 : decode cX6_copies 135 = .ok (.aload_n 0, 1) := dk_42 (dk_at dksX6_copies_5 15 rfl rfl)
theorem dX6_copies_136 : decode cX6_copies 136 = .ok (.getfield 34, 3) := dk_180 0 34 (dk_at dksX6_copies_5 16 rfl rfl)
theorem dX6_copies_139 : decode cX6_copies 139 = .ok (.bipush 29, 2) := dk_16 29 (dk_at dksX6_copies_5 19 rfl rfl)
theorem dX6_copies_141 : decode cX6_copies 141 = .ok (.iload_n 1, 1) := dk_27 (dk_at dksX6_copies_5 21 rfl rfl)
theorem dX6_copies_142 : decode cX6_copies 142 = .ok (.imul, 1) := dk_104 (dk_at dksX6_copies_5 22 rfl rfl)
theorem dX6_copies_143 : decode cX6_copies 143 = .ok (.iload_n 3, 1) := dk_29 (dk_at dksX6_copies_5 23 rfl rfl)
theorem dX6_copies_144 : decode cX6_copies 144 = .ok (.iadd, 1) := dk_96 (dk_at dksX6_copies_6 0 rfl rfl)
theorem dX6_copies_145 : decode cX6_copies 145 = .ok (.iaload, 1) := dk_46 (dk_at dksX6_copies_6 1 rfl rfl)
theorem dX6_copies_146 : decode cX6_copies 146 = .ok (.iastore, 1) := dk_79 (dk_at dksX6_copies_6 2 rfl rfl)
theorem dX6_copies_147 : decode cX6_copies 147 = .ok (.iinc 3 1, 3) := dk_132 3 1 (dk_at dksX6_copies_6 3 rfl rfl)
theorem dX6_copies_150 : decode cX6_copies 150 = .ok (.goto (-31), 3) := dk_167 255 225 (dk_at dksX6_copies_6 6 rfl rfl)
theorem dX6_copies_153 : decode cX6_copies 153 = .ok (.return_, 1) := dk_177 (dk_at dksX6_copies_6 9 rfl rfl)
abbrev cX6_restore : ByteArray := prog_28_method_106_code
def yX6_restore : MethodName := ⟨RX6, "restore", "(I)I"⟩
def dkwX6_restore_2 : List UInt8 := [172]
abbrev dktX6_restore_2 : List UInt8 := dkwX6_restore_2 ++ []
def dkwX6_restore_1 : List UInt8 := [180, 0, 24, 27, 51, 154, 0, 10, 42, 16, 251, 182, 0, 85, 172, 42, 27, 4, 96, 3, 182, 1, 112, 3]
abbrev dktX6_restore_1 : List UInt8 := dkwX6_restore_1 ++ dktX6_restore_2
def dkwX6_restore_0 : List UInt8 := [42, 3, 181, 0, 1, 27, 133, 9, 10, 184, 0, 81, 154, 0, 10, 42, 16, 254, 182, 0, 85, 172, 42]
abbrev dktX6_restore_0 : List UInt8 := dkwX6_restore_0 ++ dktX6_restore_1
theorem dksX6_restore_0 : cX6_restore.data.toList.drop 0 = dktX6_restore_0 := by decide +kernel
theorem dksX6_restore_1 : cX6_restore.data.toList.drop 23 = dktX6_restore_1 := dk_seg dksX6_restore_0 23 rfl rfl
theorem dksX6_restore_2 : cX6_restore.data.toList.drop 47 = dktX6_restore_2 := dk_seg dksX6_restore_1 24 rfl rfl
theorem dX6_restore_0 : decode cX6_restore 0 = .ok (.aload_n 0, 1) := dk_42 (dk_at dksX6_restore_0 0 rfl rfl)
theorem dX6_restore_1 : decode cX6_restore 1 = .ok (.iconst 0, 1) := dk_3 (dk_at dksX6_restore_0 1 rfl rfl)
theorem dX6_restore_2 : decode cX6_restore 2 = .ok (.putfield 1, 3) := dk_181 0 1 (dk_at dksX6_restore_0 2 rfl rfl)
theorem dX6_restore_5 : decode cX6_restore 5 = .ok (.iload_n 1, 1) := dk_27 (dk_at dksX6_restore_0 5 rfl rfl)
theorem dX6_restore_6 : decode cX6_restore 6 = .ok (.i2l, 1) := dk_133 (dk_at dksX6_restore_0 6 rfl rfl)
theorem dX6_restore_7 : decode cX6_restore 7 = .ok (.lconst 0, 1) := dk_9 (dk_at dksX6_restore_0 7 rfl rfl)
theorem dX6_restore_8 : decode cX6_restore 8 = .ok (.lconst 1, 1) := dk_10 (dk_at dksX6_restore_0 8 rfl rfl)
theorem dX6_restore_9 : decode cX6_restore 9 = .ok (.invokestatic 81, 3) := dk_184 0 81 (dk_at dksX6_restore_0 9 rfl rfl)
theorem dX6_restore_12 : decode cX6_restore 12 = .ok (.ifCond .ne 10, 3) := dk_154 0 10 (dk_at dksX6_restore_0 12 rfl rfl)
theorem dX6_restore_15 : decode cX6_restore 15 = .ok (.aload_n 0, 1) := dk_42 (dk_at dksX6_restore_0 15 rfl rfl)
theorem dX6_restore_16 : decode cX6_restore 16 = .ok (.bipush (-2), 2) := dk_16 254 (dk_at dksX6_restore_0 16 rfl rfl)
theorem dX6_restore_18 : decode cX6_restore 18 = .ok (.invokevirtual 85, 3) := dk_182 0 85 (dk_at dksX6_restore_0 18 rfl rfl)
theorem dX6_restore_21 : decode cX6_restore 21 = .ok (.ireturn, 1) := dk_172 (dk_at dksX6_restore_0 21 rfl rfl)
theorem dX6_restore_22 : decode cX6_restore 22 = .ok (.aload_n 0, 1) := dk_42 (dk_at dksX6_restore_0 22 rfl rfl)
theorem dX6_restore_23 : decode cX6_restore 23 = .ok (.getfield 24, 3) := dk_180 0 24 (dk_at dksX6_restore_1 0 rfl rfl)
theorem dX6_restore_26 : decode cX6_restore 26 = .ok (.iload_n 1, 1) := dk_27 (dk_at dksX6_restore_1 3 rfl rfl)
theorem dX6_restore_27 : decode cX6_restore 27 = .ok (.baload, 1) := dk_51 (dk_at dksX6_restore_1 4 rfl rfl)
theorem dX6_restore_28 : decode cX6_restore 28 = .ok (.ifCond .ne 10, 3) := dk_154 0 10 (dk_at dksX6_restore_1 5 rfl rfl)
theorem dX6_restore_31 : decode cX6_restore 31 = .ok (.aload_n 0, 1) := dk_42 (dk_at dksX6_restore_1 8 rfl rfl)
theorem dX6_restore_32 : decode cX6_restore 32 = .ok (.bipush (-5), 2) := dk_16 251 (dk_at dksX6_restore_1 9 rfl rfl)
theorem dX6_restore_34 : decode cX6_restore 34 = .ok (.invokevirtual 85, 3) := dk_182 0 85 (dk_at dksX6_restore_1 11 rfl rfl)
theorem dX6_restore_37 : decode cX6_restore 37 = .ok (.ireturn, 1) := dk_172 (dk_at dksX6_restore_1 14 rfl rfl)
theorem dX6_restore_38 : decode cX6_restore 38 = .ok (.aload_n 0, 1) := dk_42 (dk_at dksX6_restore_1 15 rfl rfl)
theorem dX6_restore_39 : decode cX6_restore 39 = .ok (.iload_n 1, 1) := dk_27 (dk_at dksX6_restore_1 16 rfl rfl)
theorem dX6_restore_40 : decode cX6_restore 40 = .ok (.iconst 1, 1) := dk_4 (dk_at dksX6_restore_1 17 rfl rfl)
theorem dX6_restore_41 : decode cX6_restore 41 = .ok (.iadd, 1) := dk_96 (dk_at dksX6_restore_1 18 rfl rfl)
theorem dX6_restore_42 : decode cX6_restore 42 = .ok (.iconst 0, 1) := dk_3 (dk_at dksX6_restore_1 19 rfl rfl)
theorem dX6_restore_43 : decode cX6_restore 43 = .ok (.invokevirtual 368, 3) := dk_182 1 112 (dk_at dksX6_restore_1 20 rfl rfl)
theorem dX6_restore_46 : decode cX6_restore 46 = .ok (.iconst 0, 1) := dk_3 (dk_at dksX6_restore_1 23 rfl rfl)
theorem dX6_restore_47 : decode cX6_restore 47 = .ok (.ireturn, 1) := dk_172 (dk_at dksX6_restore_2 0 rfl rfl)
abbrev cX6_status : ByteArray := prog_28_method_107_code
def yX6_status : MethodName := ⟨RX6, "status", "(I)I"⟩
def dkwX6_status_1 : List UInt8 := [167, 0, 4, 2, 172]
abbrev dktX6_status_1 : List UInt8 := dkwX6_status_1 ++ []
def dkwX6_status_0 : List UInt8 := [42, 3, 181, 0, 1, 27, 133, 10, 20, 1, 115, 184, 0, 81, 153, 0, 12, 42, 180, 0, 7, 27, 46]
abbrev dktX6_status_0 : List UInt8 := dkwX6_status_0 ++ dktX6_status_1
theorem dksX6_status_0 : cX6_status.data.toList.drop 0 = dktX6_status_0 := by decide +kernel
theorem dksX6_status_1 : cX6_status.data.toList.drop 23 = dktX6_status_1 := dk_seg dksX6_status_0 23 rfl rfl
theorem dX6_status_0 : decode cX6_status 0 = .ok (.aload_n 0, 1) := dk_42 (dk_at dksX6_status_0 0 rfl rfl)
theorem dX6_status_1 : decode cX6_status 1 = .ok (.iconst 0, 1) := dk_3 (dk_at dksX6_status_0 1 rfl rfl)
theorem dX6_status_2 : decode cX6_status 2 = .ok (.putfield 1, 3) := dk_181 0 1 (dk_at dksX6_status_0 2 rfl rfl)
theorem dX6_status_5 : decode cX6_status 5 = .ok (.iload_n 1, 1) := dk_27 (dk_at dksX6_status_0 5 rfl rfl)
theorem dX6_status_6 : decode cX6_status 6 = .ok (.i2l, 1) := dk_133 (dk_at dksX6_status_0 6 rfl rfl)
theorem dX6_status_7 : decode cX6_status 7 = .ok (.lconst 1, 1) := dk_10 (dk_at dksX6_status_0 7 rfl rfl)
theorem dX6_status_8 : decode cX6_status 8 = .ok (.ldc2_w 371, 3) := dk_20 1 115 (dk_at dksX6_status_0 8 rfl rfl)
theorem dX6_status_11 : decode cX6_status 11 = .ok (.invokestatic 81, 3) := dk_184 0 81 (dk_at dksX6_status_0 11 rfl rfl)
theorem dX6_status_14 : decode cX6_status 14 = .ok (.ifCond .eq 12, 3) := dk_153 0 12 (dk_at dksX6_status_0 14 rfl rfl)
theorem dX6_status_17 : decode cX6_status 17 = .ok (.aload_n 0, 1) := dk_42 (dk_at dksX6_status_0 17 rfl rfl)
theorem dX6_status_18 : decode cX6_status 18 = .ok (.getfield 7, 3) := dk_180 0 7 (dk_at dksX6_status_0 18 rfl rfl)
theorem dX6_status_21 : decode cX6_status 21 = .ok (.iload_n 1, 1) := dk_27 (dk_at dksX6_status_0 21 rfl rfl)
theorem dX6_status_22 : decode cX6_status 22 = .ok (.iaload, 1) := dk_46 (dk_at dksX6_status_0 22 rfl rfl)
theorem dX6_status_23 : decode cX6_status 23 = .ok (.goto 4, 3) := dk_167 0 4 (dk_at dksX6_status_1 0 rfl rfl)
theorem dX6_status_26 : decode cX6_status 26 = .ok (.iconst (-1), 1) := dk_2 (dk_at dksX6_status_1 3 rfl rfl)
theorem dX6_status_27 : decode cX6_status 27 = .ok (.ireturn, 1) := dk_172 (dk_at dksX6_status_1 4 rfl rfl)
abbrev cX6_count : ByteArray := prog_28_method_108_code
def yX6_count : MethodName := ⟨RX6, "count", "(I)I"⟩
def dkwX6_count_9 : List UInt8 := [180, 0, 115, 172, 42, 180, 0, 17, 17, 0, 161, 46, 172, 2, 172]
abbrev dktX6_count_9 : List UInt8 := dkwX6_count_9 ++ []
def dkwX6_count_8 : List UInt8 := [180, 0, 17, 17, 3, 219, 46, 172, 42, 180, 0, 31, 3, 46, 172, 42, 180, 0, 34, 3, 46, 172, 42]
abbrev dktX6_count_8 : List UInt8 := dkwX6_count_8 ++ dktX6_count_9
def dkwX6_count_7 : List UInt8 := [17, 3, 80, 46, 172, 42, 180, 0, 17, 17, 3, 121, 46, 172, 42, 180, 0, 17, 17, 3, 202, 46, 172, 42]
abbrev dktX6_count_7 : List UInt8 := dkwX6_count_7 ++ dktX6_count_8
def dkwX6_count_6 : List UInt8 := [172, 42, 180, 0, 17, 17, 2, 35, 46, 172, 42, 180, 0, 17, 17, 1, 250, 46, 172, 42, 180, 0, 17]
abbrev dktX6_count_6 : List UInt8 := dkwX6_count_6 ++ dktX6_count_7
def dkwX6_count_5 : List UInt8 := [42, 180, 0, 17, 3, 46, 172, 42, 180, 0, 17, 17, 0, 223, 46, 172, 42, 180, 0, 17, 17, 0, 162, 46]
abbrev dktX6_count_5 : List UInt8 := dkwX6_count_5 ++ dktX6_count_6
def dkwX6_count_4 : List UInt8 := [170, 0, 0, 0, 172, 0, 0, 0, 0, 0, 0, 0, 12, 0, 0, 0, 65, 0, 0, 0, 72, 0, 0, 0, 81, 0, 0, 0, 90, 0, 0, 0, 99, 0, 0, 0, 108, 0, 0, 0, 117, 0, 0, 0, 126, 0, 0, 0, 135, 0, 0, 0, 144, 0, 0, 0, 151, 0, 0, 0, 158, 0, 0, 0, 163]
abbrev dktX6_count_4 : List UInt8 := dkwX6_count_4 ++ dktX6_count_5
def dkwX6_count_3 : List UInt8 := [96, 17, 0, 200, 100, 46, 172, 27]
abbrev dktX6_count_3 : List UInt8 := dkwX6_count_3 ++ dktX6_count_4
def dkwX6_count_2 : List UInt8 := [42, 180, 0, 17, 17, 0, 223, 46, 96, 133, 184, 0, 81, 153, 0, 18, 42, 180, 0, 17, 17, 0, 236, 27]
abbrev dktX6_count_2 : List UInt8 := dkwX6_count_2 ++ dktX6_count_3
def dkwX6_count_1 : List UInt8 := [153, 0, 16, 42, 180, 0, 17, 16, 121, 27, 96, 16, 100, 100, 46, 172, 27, 133, 20, 1, 117, 17, 0, 199]
abbrev dktX6_count_1 : List UInt8 := dkwX6_count_1 ++ dktX6_count_2
def dkwX6_count_0 : List UInt8 := [42, 3, 181, 0, 1, 27, 133, 20, 0, 105, 16, 99, 42, 180, 0, 17, 3, 46, 96, 133, 184, 0, 81]
abbrev dktX6_count_0 : List UInt8 := dkwX6_count_0 ++ dktX6_count_1
theorem dksX6_count_0 : cX6_count.data.toList.drop 0 = dktX6_count_0 := by decide +kernel
theorem dksX6_count_1 : cX6_count.data.toList.drop 23 = dktX6_count_1 := dk_seg dksX6_count_0 23 rfl rfl
theorem dksX6_count_2 : cX6_count.data.toList.drop 47 = dktX6_count_2 := dk_seg dksX6_count_1 24 rfl rfl
theorem dksX6_count_3 : cX6_count.data.toList.drop 71 = dktX6_count_3 := dk_seg dksX6_count_2 24 rfl rfl
theorem dksX6_count_4 : cX6_count.data.toList.drop 79 = dktX6_count_4 := dk_seg dksX6_count_3 8 rfl rfl
theorem dksX6_count_5 : cX6_count.data.toList.drop 144 = dktX6_count_5 := dk_seg dksX6_count_4 65 rfl rfl
theorem dksX6_count_6 : cX6_count.data.toList.drop 168 = dktX6_count_6 := dk_seg dksX6_count_5 24 rfl rfl
theorem dksX6_count_7 : cX6_count.data.toList.drop 191 = dktX6_count_7 := dk_seg dksX6_count_6 23 rfl rfl
theorem dksX6_count_8 : cX6_count.data.toList.drop 215 = dktX6_count_8 := dk_seg dksX6_count_7 24 rfl rfl
theorem dksX6_count_9 : cX6_count.data.toList.drop 238 = dktX6_count_9 := dk_seg dksX6_count_8 23 rfl rfl
theorem dX6_count_0 : decode cX6_count 0 = .ok (.aload_n 0, 1) := dk_42 (dk_at dksX6_count_0 0 rfl rfl)
theorem dX6_count_1 : decode cX6_count 1 = .ok (.iconst 0, 1) := dk_3 (dk_at dksX6_count_0 1 rfl rfl)
theorem dX6_count_2 : decode cX6_count 2 = .ok (.putfield 1, 3) := dk_181 0 1 (dk_at dksX6_count_0 2 rfl rfl)
theorem dX6_count_5 : decode cX6_count 5 = .ok (.iload_n 1, 1) := dk_27 (dk_at dksX6_count_0 5 rfl rfl)
theorem dX6_count_6 : decode cX6_count 6 = .ok (.i2l, 1) := dk_133 (dk_at dksX6_count_0 6 rfl rfl)
theorem dX6_count_7 : decode cX6_count 7 = .ok (.ldc2_w 105, 3) := dk_20 0 105 (dk_at dksX6_count_0 7 rfl rfl)
theorem dX6_count_10 : decode cX6_count 10 = .ok (.bipush 99, 2) := dk_16 99 (dk_at dksX6_count_0 10 rfl rfl)
theorem dX6_count_12 : decode cX6_count 12 = .ok (.aload_n 0, 1) := dk_42 (dk_at dksX6_count_0 12 rfl rfl)
theorem dX6_count_13 : decode cX6_count 13 = .ok (.getfield 17, 3) := dk_180 0 17 (dk_at dksX6_count_0 13 rfl rfl)
theorem dX6_count_16 : decode cX6_count 16 = .ok (.iconst 0, 1) := dk_3 (dk_at dksX6_count_0 16 rfl rfl)
theorem dX6_count_17 : decode cX6_count 17 = .ok (.iaload, 1) := dk_46 (dk_at dksX6_count_0 17 rfl rfl)
theorem dX6_count_18 : decode cX6_count 18 = .ok (.iadd, 1) := dk_96 (dk_at dksX6_count_0 18 rfl rfl)
theorem dX6_count_19 : decode cX6_count 19 = .ok (.i2l, 1) := dk_133 (dk_at dksX6_count_0 19 rfl rfl)
theorem dX6_count_20 : decode cX6_count 20 = .ok (.invokestatic 81, 3) := dk_184 0 81 (dk_at dksX6_count_0 20 rfl rfl)
theorem dX6_count_23 : decode cX6_count 23 = .ok (.ifCond .eq 16, 3) := dk_153 0 16 (dk_at dksX6_count_1 0 rfl rfl)
theorem dX6_count_26 : decode cX6_count 26 = .ok (.aload_n 0, 1) := dk_42 (dk_at dksX6_count_1 3 rfl rfl)
theorem dX6_count_27 : decode cX6_count 27 = .ok (.getfield 17, 3) := dk_180 0 17 (dk_at dksX6_count_1 4 rfl rfl)
theorem dX6_count_30 : decode cX6_count 30 = .ok (.bipush 121, 2) := dk_16 121 (dk_at dksX6_count_1 7 rfl rfl)
theorem dX6_count_32 : decode cX6_count 32 = .ok (.iload_n 1, 1) := dk_27 (dk_at dksX6_count_1 9 rfl rfl)
theorem dX6_count_33 : decode cX6_count 33 = .ok (.iadd, 1) := dk_96 (dk_at dksX6_count_1 10 rfl rfl)
theorem dX6_count_34 : decode cX6_count 34 = .ok (.bipush 100, 2) := dk_16 100 (dk_at dksX6_count_1 11 rfl rfl)
theorem dX6_count_36 : decode cX6_count 36 = .ok (.isub, 1) := dk_100 (dk_at dksX6_count_1 13 rfl rfl)
theorem dX6_count_37 : decode cX6_count 37 = .ok (.iaload, 1) := dk_46 (dk_at dksX6_count_1 14 rfl rfl)
theorem dX6_count_38 : decode cX6_count 38 = .ok (.ireturn, 1) := dk_172 (dk_at dksX6_count_1 15 rfl rfl)
theorem dX6_count_39 : decode cX6_count 39 = .ok (.iload_n 1, 1) := dk_27 (dk_at dksX6_count_1 16 rfl rfl)
theorem dX6_count_40 : decode cX6_count 40 = .ok (.i2l, 1) := dk_133 (dk_at dksX6_count_1 17 rfl rfl)
theorem dX6_count_41 : decode cX6_count 41 = .ok (.ldc2_w 373, 3) := dk_20 1 117 (dk_at dksX6_count_1 18 rfl rfl)
theorem dX6_count_44 : decode cX6_count 44 = .ok (.sipush 199, 3) := dk_17 0 199 (dk_at dksX6_count_1 21 rfl rfl)
theorem dX6_count_47 : decode cX6_count 47 = .ok (.aload_n 0, 1) := dk_42 (dk_at dksX6_count_2 0 rfl rfl)
theorem dX6_count_48 : decode cX6_count 48 = .ok (.getfield 17, 3) := dk_180 0 17 (dk_at dksX6_count_2 1 rfl rfl)
theorem dX6_count_51 : decode cX6_count 51 = .ok (.sipush 223, 3) := dk_17 0 223 (dk_at dksX6_count_2 4 rfl rfl)
theorem dX6_count_54 : decode cX6_count 54 = .ok (.iaload, 1) := dk_46 (dk_at dksX6_count_2 7 rfl rfl)
theorem dX6_count_55 : decode cX6_count 55 = .ok (.iadd, 1) := dk_96 (dk_at dksX6_count_2 8 rfl rfl)
theorem dX6_count_56 : decode cX6_count 56 = .ok (.i2l, 1) := dk_133 (dk_at dksX6_count_2 9 rfl rfl)
theorem dX6_count_57 : decode cX6_count 57 = .ok (.invokestatic 81, 3) := dk_184 0 81 (dk_at dksX6_count_2 10 rfl rfl)
theorem dX6_count_60 : decode cX6_count 60 = .ok (.ifCond .eq 18, 3) := dk_153 0 18 (dk_at dksX6_count_2 13 rfl rfl)
theorem dX6_count_63 : decode cX6_count 63 = .ok (.aload_n 0, 1) := dk_42 (dk_at dksX6_count_2 16 rfl rfl)
theorem dX6_count_64 : decode cX6_count 64 = .ok (.getfield 17, 3) := dk_180 0 17 (dk_at dksX6_count_2 17 rfl rfl)
theorem dX6_count_67 : decode cX6_count 67 = .ok (.sipush 236, 3) := dk_17 0 236 (dk_at dksX6_count_2 20 rfl rfl)
theorem dX6_count_70 : decode cX6_count 70 = .ok (.iload_n 1, 1) := dk_27 (dk_at dksX6_count_2 23 rfl rfl)
theorem dX6_count_71 : decode cX6_count 71 = .ok (.iadd, 1) := dk_96 (dk_at dksX6_count_3 0 rfl rfl)
theorem dX6_count_72 : decode cX6_count 72 = .ok (.sipush 200, 3) := dk_17 0 200 (dk_at dksX6_count_3 1 rfl rfl)
theorem dX6_count_75 : decode cX6_count 75 = .ok (.isub, 1) := dk_100 (dk_at dksX6_count_3 4 rfl rfl)
theorem dX6_count_76 : decode cX6_count 76 = .ok (.iaload, 1) := dk_46 (dk_at dksX6_count_3 5 rfl rfl)
theorem dX6_count_77 : decode cX6_count 77 = .ok (.ireturn, 1) := dk_172 (dk_at dksX6_count_3 6 rfl rfl)
theorem dX6_count_78 : decode cX6_count 78 = .ok (.iload_n 1, 1) := dk_27 (dk_at dksX6_count_3 7 rfl rfl)
theorem dX6_count_79 : decode cX6_count 79 = .ok (.tableswitch 172 0 12 #[65, 72, 81, 90, 99, 108, 117, 126, 135, 144, 151, 158, 163], 65) := by decide +kernel
theorem dX6_count_144 : decode cX6_count 144 = .ok (.aload_n 0, 1) := dk_42 (dk_at dksX6_count_5 0 rfl rfl)
theorem dX6_count_145 : decode cX6_count 145 = .ok (.getfield 17, 3) := dk_180 0 17 (dk_at dksX6_count_5 1 rfl rfl)
theorem dX6_count_148 : decode cX6_count 148 = .ok (.iconst 0, 1) := dk_3 (dk_at dksX6_count_5 4 rfl rfl)
theorem dX6_count_149 : decode cX6_count 149 = .ok (.iaload, 1) := dk_46 (dk_at dksX6_count_5 5 rfl rfl)
theorem dX6_count_150 : decode cX6_count 150 = .ok (.ireturn, 1) := dk_172 (dk_at dksX6_count_5 6 rfl rfl)
theorem dX6_count_151 : decode cX6_count 151 = .ok (.aload_n 0, 1) := dk_42 (dk_at dksX6_count_5 7 rfl rfl)
theorem dX6_count_152 : decode cX6_count 152 = .ok (.getfield 17, 3) := dk_180 0 17 (dk_at dksX6_count_5 8 rfl rfl)
theorem dX6_count_155 : decode cX6_count 155 = .ok (.sipush 223, 3) := dk_17 0 223 (dk_at dksX6_count_5 11 rfl rfl)
theorem dX6_count_158 : decode cX6_count 158 = .ok (.iaload, 1) := dk_46 (dk_at dksX6_count_5 14 rfl rfl)
theorem dX6_count_159 : decode cX6_count 159 = .ok (.ireturn, 1) := dk_172 (dk_at dksX6_count_5 15 rfl rfl)
theorem dX6_count_160 : decode cX6_count 160 = .ok (.aload_n 0, 1) := dk_42 (dk_at dksX6_count_5 16 rfl rfl)
theorem dX6_count_161 : decode cX6_count 161 = .ok (.getfield 17, 3) := dk_180 0 17 (dk_at dksX6_count_5 17 rfl rfl)
theorem dX6_count_164 : decode cX6_count 164 = .ok (.sipush 162, 3) := dk_17 0 162 (dk_at dksX6_count_5 20 rfl rfl)
theorem dX6_count_167 : decode cX6_count 167 = .ok (.iaload, 1) := dk_46 (dk_at dksX6_count_5 23 rfl rfl)
theorem dX6_count_168 : decode cX6_count 168 = .ok (.ireturn, 1) := dk_172 (dk_at dksX6_count_6 0 rfl rfl)
theorem dX6_count_169 : decode cX6_count 169 = .ok (.aload_n 0, 1) := dk_42 (dk_at dksX6_count_6 1 rfl rfl)
theorem dX6_count_170 : decode cX6_count 170 = .ok (.getfield 17, 3) := dk_180 0 17 (dk_at dksX6_count_6 2 rfl rfl)
theorem dX6_count_173 : decode cX6_count 173 = .ok (.sipush 547, 3) := dk_17 2 35 (dk_at dksX6_count_6 5 rfl rfl)
theorem dX6_count_176 : decode cX6_count 176 = .ok (.iaload, 1) := dk_46 (dk_at dksX6_count_6 8 rfl rfl)
theorem dX6_count_177 : decode cX6_count 177 = .ok (.ireturn, 1) := dk_172 (dk_at dksX6_count_6 9 rfl rfl)
theorem dX6_count_178 : decode cX6_count 178 = .ok (.aload_n 0, 1) := dk_42 (dk_at dksX6_count_6 10 rfl rfl)
theorem dX6_count_179 : decode cX6_count 179 = .ok (.getfield 17, 3) := dk_180 0 17 (dk_at dksX6_count_6 11 rfl rfl)
theorem dX6_count_182 : decode cX6_count 182 = .ok (.sipush 506, 3) := dk_17 1 250 (dk_at dksX6_count_6 14 rfl rfl)
theorem dX6_count_185 : decode cX6_count 185 = .ok (.iaload, 1) := dk_46 (dk_at dksX6_count_6 17 rfl rfl)
theorem dX6_count_186 : decode cX6_count 186 = .ok (.ireturn, 1) := dk_172 (dk_at dksX6_count_6 18 rfl rfl)
theorem dX6_count_187 : decode cX6_count 187 = .ok (.aload_n 0, 1) := dk_42 (dk_at dksX6_count_6 19 rfl rfl)
theorem dX6_count_188 : decode cX6_count 188 = .ok (.getfield 17, 3) := dk_180 0 17 (dk_at dksX6_count_6 20 rfl rfl)
theorem dX6_count_191 : decode cX6_count 191 = .ok (.sipush 848, 3) := dk_17 3 80 (dk_at dksX6_count_7 0 rfl rfl)
theorem dX6_count_194 : decode cX6_count 194 = .ok (.iaload, 1) := dk_46 (dk_at dksX6_count_7 3 rfl rfl)
theorem dX6_count_195 : decode cX6_count 195 = .ok (.ireturn, 1) := dk_172 (dk_at dksX6_count_7 4 rfl rfl)
theorem dX6_count_196 : decode cX6_count 196 = .ok (.aload_n 0, 1) := dk_42 (dk_at dksX6_count_7 5 rfl rfl)
theorem dX6_count_197 : decode cX6_count 197 = .ok (.getfield 17, 3) := dk_180 0 17 (dk_at dksX6_count_7 6 rfl rfl)
theorem dX6_count_200 : decode cX6_count 200 = .ok (.sipush 889, 3) := dk_17 3 121 (dk_at dksX6_count_7 9 rfl rfl)
theorem dX6_count_203 : decode cX6_count 203 = .ok (.iaload, 1) := dk_46 (dk_at dksX6_count_7 12 rfl rfl)
theorem dX6_count_204 : decode cX6_count 204 = .ok (.ireturn, 1) := dk_172 (dk_at dksX6_count_7 13 rfl rfl)
theorem dX6_count_205 : decode cX6_count 205 = .ok (.aload_n 0, 1) := dk_42 (dk_at dksX6_count_7 14 rfl rfl)
theorem dX6_count_206 : decode cX6_count 206 = .ok (.getfield 17, 3) := dk_180 0 17 (dk_at dksX6_count_7 15 rfl rfl)
theorem dX6_count_209 : decode cX6_count 209 = .ok (.sipush 970, 3) := dk_17 3 202 (dk_at dksX6_count_7 18 rfl rfl)
theorem dX6_count_212 : decode cX6_count 212 = .ok (.iaload, 1) := dk_46 (dk_at dksX6_count_7 21 rfl rfl)
theorem dX6_count_213 : decode cX6_count 213 = .ok (.ireturn, 1) := dk_172 (dk_at dksX6_count_7 22 rfl rfl)
theorem dX6_count_214 : decode cX6_count 214 = .ok (.aload_n 0, 1) := dk_42 (dk_at dksX6_count_7 23 rfl rfl)
theorem dX6_count_215 : decode cX6_count 215 = .ok (.getfield 17, 3) := dk_180 0 17 (dk_at dksX6_count_8 0 rfl rfl)
theorem dX6_count_218 : decode cX6_count 218 = .ok (.sipush 987, 3) := dk_17 3 219 (dk_at dksX6_count_8 3 rfl rfl)
theorem dX6_count_221 : decode cX6_count 221 = .ok (.iaload, 1) := dk_46 (dk_at dksX6_count_8 6 rfl rfl)
theorem dX6_count_222 : decode cX6_count 222 = .ok (.ireturn, 1) := dk_172 (dk_at dksX6_count_8 7 rfl rfl)
theorem dX6_count_223 : decode cX6_count 223 = .ok (.aload_n 0, 1) := dk_42 (dk_at dksX6_count_8 8 rfl rfl)
theorem dX6_count_224 : decode cX6_count 224 = .ok (.getfield 31, 3) := dk_180 0 31 (dk_at dksX6_count_8 9 rfl rfl)
theorem dX6_count_227 : decode cX6_count 227 = .ok (.iconst 0, 1) := dk_3 (dk_at dksX6_count_8 12 rfl rfl)
theorem dX6_count_228 : decode cX6_count 228 = .ok (.iaload, 1) := dk_46 (dk_at dksX6_count_8 13 rfl rfl)
theorem dX6_count_229 : decode cX6_count 229 = .ok (.ireturn, 1) := dk_172 (dk_at dksX6_count_8 14 rfl rfl)
theorem dX6_count_230 : decode cX6_count 230 = .ok (.aload_n 0, 1) := dk_42 (dk_at dksX6_count_8 15 rfl rfl)
theorem dX6_count_231 : decode cX6_count 231 = .ok (.getfield 34, 3) := dk_180 0 34 (dk_at dksX6_count_8 16 rfl rfl)
theorem dX6_count_234 : decode cX6_count 234 = .ok (.iconst 0, 1) := dk_3 (dk_at dksX6_count_8 19 rfl rfl)
theorem dX6_count_235 : decode cX6_count 235 = .ok (.iaload, 1) := dk_46 (dk_at dksX6_count_8 20 rfl rfl)
theorem dX6_count_236 : decode cX6_count 236 = .ok (.ireturn, 1) := dk_172 (dk_at dksX6_count_8 21 rfl rfl)
theorem dX6_count_237 : decode cX6_count 237 = .ok (.aload_n 0, 1) := dk_42 (dk_at dksX6_count_8 22 rfl rfl)
theorem dX6_count_238 : decode cX6_count 238 = .ok (.getfield 115, 3) := dk_180 0 115 (dk_at dksX6_count_9 0 rfl rfl)
theorem dX6_count_241 : decode cX6_count 241 = .ok (.ireturn, 1) := dk_172 (dk_at dksX6_count_9 3 rfl rfl)
theorem dX6_count_242 : decode cX6_count 242 = .ok (.aload_n 0, 1) := dk_42 (dk_at dksX6_count_9 4 rfl rfl)
theorem dX6_count_243 : decode cX6_count 243 = .ok (.getfield 17, 3) := dk_180 0 17 (dk_at dksX6_count_9 5 rfl rfl)
theorem dX6_count_246 : decode cX6_count 246 = .ok (.sipush 161, 3) := dk_17 0 161 (dk_at dksX6_count_9 8 rfl rfl)
theorem dX6_count_249 : decode cX6_count 249 = .ok (.iaload, 1) := dk_46 (dk_at dksX6_count_9 11 rfl rfl)
theorem dX6_count_250 : decode cX6_count 250 = .ok (.ireturn, 1) := dk_172 (dk_at dksX6_count_9 12 rfl rfl)
theorem dX6_count_251 : decode cX6_count 251 = .ok (.iconst (-1), 1) := dk_2 (dk_at dksX6_count_9 13 rfl rfl)
theorem dX6_count_252 : decode cX6_count 252 = .ok (.ireturn, 1) := dk_172 (dk_at dksX6_count_9 14 rfl rfl)

