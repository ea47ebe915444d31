set_option maxRecDepth 100000
abbrev cX0_init : ByteArray := prog_1_method_5_code
def yX0_init : MethodName := ⟨RX0, "<init>", "()V"⟩
def dkwX0_init_7 : List UInt8 := [181, 0, 105, 177]
abbrev dktX0_init_7 : List UInt8 := dkwX0_init_7 ++ []
def dkwX0_init_6 : List UInt8 := [183, 0, 104, 83, 89, 5, 187, 0, 102, 89, 183, 0, 104, 83, 89, 6, 187, 0, 102, 89, 183, 0, 104, 83]
abbrev dktX0_init_6 : List UInt8 := dkwX0_init_6 ++ dktX0_init_7
def dkwX0_init_5 : List UInt8 := [181, 0, 99, 42, 7, 189, 0, 102, 89, 3, 187, 0, 102, 89, 183, 0, 104, 83, 89, 4, 187, 0, 102, 89]
abbrev dktX0_init_5 : List UInt8 := dkwX0_init_5 ++ dktX0_init_6
def dkwX0_init_4 : List UInt8 := [16, 6, 188, 10, 181, 0, 93, 42, 17, 1, 0, 188, 10, 181, 0, 96, 42, 17, 1, 0, 188, 10]
abbrev dktX0_init_4 : List UInt8 := dkwX0_init_4 ++ dktX0_init_5
def dkwX0_init_3 : List UInt8 := [181, 0, 83, 42, 17, 1, 224, 189, 0, 2, 181, 0, 86, 42, 16, 12, 189, 0, 2, 181, 0, 90, 42]
abbrev dktX0_init_3 : List UInt8 := dkwX0_init_3 ++ dktX0_init_4
def dkwX0_init_2 : List UInt8 := [42, 2, 181, 0, 70, 42, 187, 0, 73, 89, 183, 0, 75, 181, 0, 76, 42, 187, 0, 80, 89, 183, 0, 82]
abbrev dktX0_init_2 : List UInt8 := dkwX0_init_2 ++ dktX0_init_3
def dkwX0_init_1 : List UInt8 := [5, 189, 0, 31, 181, 0, 59, 42, 16, 8, 188, 10, 181, 0, 63, 42, 17, 1, 144, 188, 8, 181, 0, 66]
abbrev dktX0_init_1 : List UInt8 := dkwX0_init_1 ++ dktX0_init_2
def dkwX0_init_0 : List UInt8 := [42, 183, 0, 52, 42, 16, 81, 188, 10, 181, 0, 17, 42, 187, 0, 31, 89, 183, 0, 58, 181, 0, 26, 42]
abbrev dktX0_init_0 : List UInt8 := dkwX0_init_0 ++ dktX0_init_1
theorem dksX0_init_0 : cX0_init.data.toList.drop 0 = dktX0_init_0 := by decide +kernel
theorem dksX0_init_1 : cX0_init.data.toList.drop 24 = dktX0_init_1 := dk_seg dksX0_init_0 24 rfl rfl
theorem dksX0_init_2 : cX0_init.data.toList.drop 48 = dktX0_init_2 := dk_seg dksX0_init_1 24 rfl rfl
theorem dksX0_init_3 : cX0_init.data.toList.drop 72 = dktX0_init_3 := dk_seg dksX0_init_2 24 rfl rfl
theorem dksX0_init_4 : cX0_init.data.toList.drop 95 = dktX0_init_4 := dk_seg dksX0_init_3 23 rfl rfl
theorem dksX0_init_5 : cX0_init.data.toList.drop 117 = dktX0_init_5 := dk_seg dksX0_init_4 22 rfl rfl
theorem dksX0_init_6 : cX0_init.data.toList.drop 141 = dktX0_init_6 := dk_seg dksX0_init_5 24 rfl rfl
theorem dksX0_init_7 : cX0_init.data.toList.drop 165 = dktX0_init_7 := dk_seg dksX0_init_6 24 rfl rfl
theorem dX0_init_0 : decode cX0_init 0 = .ok (.aload_n 0, 1) := dk_42 (dk_at dksX0_init_0 0 rfl rfl)
theorem dX0_init_1 : decode cX0_init 1 = .ok (.invokespecial 52, 3) := dk_183 0 52 (dk_at dksX0_init_0 1 rfl rfl)
theorem dX0_init_4 : decode cX0_init 4 = .ok (.aload_n 0, 1) := dk_42 (dk_at dksX0_init_0 4 rfl rfl)
theorem dX0_init_5 : decode cX0_init 5 = .ok (.bipush 81, 2) := dk_16 81 (dk_at dksX0_init_0 5 rfl rfl)
theorem dX0_init_7 : decode cX0_init 7 = .ok (.newarray .int, 2) := dk_188_10 (dk_at dksX0_init_0 7 rfl rfl)
theorem dX0_init_9 : decode cX0_init 9 = .ok (.putfield 17, 3) := dk_181 0 17 (dk_at dksX0_init_0 9 rfl rfl)
theorem dX0_init_12 : decode cX0_init 12 = .ok (.aload_n 0, 1) := dk_42 (dk_at dksX0_init_0 12 rfl rfl)
theorem dX0_init_13 : decode cX0_init 13 = .ok (.new 31, 3) := dk_187 0 31 (dk_at dksX0_init_0 13 rfl rfl)
theorem dX0_init_16 : decode cX0_init 16 = .ok (.dup, 1) := dk_89 (dk_at dksX0_init_0 16 rfl rfl)
theorem dX0_init_17 : decode cX0_init 17 = .ok (.invokespecial 58, 3) := dk_183 0 58 (dk_at dksX0_init_0 17 rfl rfl)
theorem dX0_init_20 : decode cX0_init 20 = .ok (.putfield 26, 3) := dk_181 0 26 (dk_at dksX0_init_0 20 rfl rfl)
theorem dX0_init_23 : decode cX0_init 23 = .ok (.aload_n 0, 1) := dk_42 (dk_at dksX0_init_0 23 rfl rfl)
theorem dX0_init_24 : decode cX0_init 24 = .ok (.iconst 2, 1) := dk_5 (dk_at dksX0_init_1 0 rfl rfl)
theorem dX0_init_25 : decode cX0_init 25 = .ok (.anewarray 31, 3) := dk_189 0 31 (dk_at dksX0_init_1 1 rfl rfl)
theorem dX0_init_28 : decode cX0_init 28 = .ok (.putfield 59, 3) := dk_181 0 59 (dk_at dksX0_init_1 4 rfl rfl)
theorem dX0_init_31 : decode cX0_init 31 = .ok (.aload_n 0, 1) := dk_42 (dk_at dksX0_init_1 7 rfl rfl)
theorem dX0_init_32 : decode cX0_init 32 = .ok (.bipush 8, 2) := dk_16 8 (dk_at dksX0_init_1 8 rfl rfl)
theorem dX0_init_34 : decode cX0_init 34 = .ok (.newarray .int, 2) := dk_188_10 (dk_at dksX0_init_1 10 rfl rfl)
theorem dX0_init_36 : decode cX0_init 36 = .ok (.putfield 63, 3) := dk_181 0 63 (dk_at dksX0_init_1 12 rfl rfl)
theorem dX0_init_39 : decode cX0_init 39 = .ok (.aload_n 0, 1) := dk_42 (dk_at dksX0_init_1 15 rfl rfl)
theorem dX0_init_40 : decode cX0_init 40 = .ok (.sipush 400, 3) := dk_17 1 144 (dk_at dksX0_init_1 16 rfl rfl)
theorem dX0_init_43 : decode cX0_init 43 = .ok (.newarray .byte, 2) := dk_188_8 (dk_at dksX0_init_1 19 rfl rfl)
theorem dX0_init_45 : decode cX0_init 45 = .ok (.putfield 66, 3) := dk_181 0 66 (dk_at dksX0_init_1 21 rfl rfl)
theorem dX0_init_48 : decode cX0_init 48 = .ok (.aload_n 0, 1) := dk_42 (dk_at dksX0_init_2 0 rfl rfl)
theorem dX0_init_49 : decode cX0_init 49 = .ok (.iconst (-1), 1) := dk_2 (dk_at dksX0_init_2 1 rfl rfl)
theorem dX0_init_50 : decode cX0_init 50 = .ok (.putfield 70, 3) := dk_181 0 70 (dk_at dksX0_init_2 2 rfl rfl)
theorem dX0_init_53 : decode cX0_init 53 = .ok (.aload_n 0, 1) := dk_42 (dk_at dksX0_init_2 5 rfl rfl)
theorem dX0_init_54 : decode cX0_init 54 = .ok (.new 73, 3) := dk_187 0 73 (dk_at dksX0_init_2 6 rfl rfl)
theorem dX0_init_57 : decode cX0_init 57 = .ok (.dup, 1) := dk_89 (dk_at dksX0_init_2 9 rfl rfl)
theorem dX0_init_58 : decode cX0_init 58 = .ok (.invokespecial 75, 3) := dk_183 0 75 (dk_at dksX0_init_2 10 rfl rfl)
theorem dX0_init_61 : decode cX0_init 61 = .ok (.putfield 76, 3) := dk_181 0 76 (dk_at dksX0_init_2 13 rfl rfl)
theorem dX0_init_64 : decode cX0_init 64 = .ok (.aload_n 0, 1) := dk_42 (dk_at dksX0_init_2 16 rfl rfl)
theorem dX0_init_65 : decode cX0_init 65 = .ok (.new 80, 3) := dk_187 0 80 (dk_at dksX0_init_2 17 rfl rfl)
theorem dX0_init_68 : decode cX0_init 68 = .ok (.dup, 1) := dk_89 (dk_at dksX0_init_2 20 rfl rfl)
theorem dX0_init_69 : decode cX0_init 69 = .ok (.invokespecial 82, 3) := dk_183 0 82 (dk_at dksX0_init_2 21 rfl rfl)
theorem dX0_init_72 : decode cX0_init 72 = .ok (.putfield 83, 3) := dk_181 0 83 (dk_at dksX0_init_3 0 rfl rfl)
theorem dX0_init_75 : decode cX0_init 75 = .ok (.aload_n 0, 1) := dk_42 (dk_at dksX0_init_3 3 rfl rfl)
theorem dX0_init_76 : decode cX0_init 76 = .ok (.sipush 480, 3) := dk_17 1 224 (dk_at dksX0_init_3 4 rfl rfl)
theorem dX0_init_79 : decode cX0_init 79 = .ok (.anewarray 2, 3) := dk_189 0 2 (dk_at dksX0_init_3 7 rfl rfl)
theorem dX0_init_82 : decode cX0_init 82 = .ok (.putfield 86, 3) := dk_181 0 86 (dk_at dksX0_init_3 10 rfl rfl)
theorem dX0_init_85 : decode cX0_init 85 = .ok (.aload_n 0, 1) := dk_42 (dk_at dksX0_init_3 13 rfl rfl)
theorem dX0_init_86 : decode cX0_init 86 = .ok (.bipush 12, 2) := dk_16 12 (dk_at dksX0_init_3 14 rfl rfl)
theorem dX0_init_88 : decode cX0_init 88 = .ok (.anewarray 2, 3) := dk_189 0 2 (dk_at dksX0_init_3 16 rfl rfl)
theorem dX0_init_91 : decode cX0_init 91 = .ok (.putfield 90, 3) := dk_181 0 90 (dk_at dksX0_init_3 19 rfl rfl)
theorem dX0_init_94 : decode cX0_init 94 = .ok (.aload_n 0, 1) := dk_42 (dk_at dksX0_init_3 22 rfl rfl)
theorem dX0_init_95 : decode cX0_init 95 = .ok (.bipush 6, 2) := dk_16 6 (dk_at dksX0_init_4 0 rfl rfl)
theorem dX0_init_97 : decode cX0_init 97 = .ok (.newarray .int, 2) := dk_188_10 (dk_at dksX0_init_4 2 rfl rfl)
theorem dX0_init_99 : decode cX0_init 99 = .ok (.putfield 93, 3) := dk_181 0 93 (dk_at dksX0_init_4 4 rfl rfl)
theorem dX0_init_102 : decode cX0_init 102 = .ok (.aload_n 0, 1) := dk_42 (dk_at dksX0_init_4 7 rfl rfl)
theorem dX0_init_103 : decode cX0_init 103 = .ok (.sipush 256, 3) := dk_17 1 0 (dk_at dksX0_init_4 8 rfl rfl)
theorem dX0_init_106 : decode cX0_init 106 = .ok (.newarray .int, 2) := dk_188_10 (dk_at dksX0_init_4 11 rfl rfl)
theorem dX0_init_108 : decode cX0_init 108 = .ok (.putfield 96, 3) := dk_181 0 96 (dk_at dksX0_init_4 13 rfl rfl)
theorem dX0_init_111 : decode cX0_init 111 = .ok (.aload_n 0, 1) := dk_42 (dk_at dksX0_init_4 16 rfl rfl)
theorem dX0_init_112 : decode cX0_init 112 = .ok (.sipush 256, 3) := dk_17 1 0 (dk_at dksX0_init_4 17 rfl rfl)
theorem dX0_init_115 : decode cX0_init 115 = .ok (.newarray .int, 2) := dk_188_10 (dk_at dksX0_init_4 20 rfl rfl)
theorem dX0_init_117 : decode cX0_init 117 = .ok (.putfield 99, 3) := dk_181 0 99 (dk_at dksX0_init_5 0 rfl rfl)
theorem dX0_init_120 : decode cX0_init 120 = .ok (.aload_n 0, 1) := dk_42 (dk_at dksX0_init_5 3 rfl rfl)
theorem dX0_init_121 : decode cX0_init 121 = .ok (.iconst 4, 1) := dk_7 (dk_at dksX0_init_5 4 rfl rfl)
theorem dX0_init_122 : decode cX0_init 122 = .ok (.anewarray 102, 3) := dk_189 0 102 (dk_at dksX0_init_5 5 rfl rfl)
theorem dX0_init_125 : decode cX0_init 125 = .ok (.dup, 1) := dk_89 (dk_at dksX0_init_5 8 rfl rfl)
theorem dX0_init_126 : decode cX0_init 126 = .ok (.iconst 0, 1) := dk_3 (dk_at dksX0_init_5 9 rfl rfl)
theorem dX0_init_127 : decode cX0_init 127 = .ok (.new 102, 3) := dk_187 0 102 (dk_at dksX0_init_5 10 rfl rfl)
theorem dX0_init_130 : decode cX0_init 130 = .ok (.dup, 1) := dk_89 (dk_at dksX0_init_5 13 rfl rfl)
theorem dX0_init_131 : decode cX0_init 131 = .ok (.invokespecial 104, 3) := dk_183 0 104 (dk_at dksX0_init_5 14 rfl rfl)
theorem dX0_init_134 : decode cX0_init 134 = .ok (.aastore, 1) := dk_83 (dk_at dksX0_init_5 17 rfl rfl)
theorem dX0_init_135 : decode cX0_init 135 = .ok (.dup, 1) := dk_89 (dk_at dksX0_init_5 18 rfl rfl)
theorem dX0_init_136 : decode cX0_init 136 = .ok (.iconst 1, 1) := dk_4 (dk_at dksX0_init_5 19 rfl rfl)
theorem dX0_init_137 : decode cX0_init 137 = .ok (.new 102, 3) := dk_187 0 102 (dk_at dksX0_init_5 20 rfl rfl)
theorem dX0_init_140 : decode cX0_init 140 = .ok (.dup, 1) := dk_89 (dk_at dksX0_init_5 23 rfl rfl)
theorem dX0_init_141 : decode cX0_init 141 = .ok (.invokespecial 104, 3) := dk_183 0 104 (dk_at dksX0_init_6 0 rfl rfl)
theorem dX0_init_144 : decode cX0_init 144 = .ok (.aastore, 1) := dk_83 (dk_at dksX0_init_6 3 rfl rfl)
theorem dX0_init_145 : decode cX0_init 145 = .ok (.dup, 1) := dk_89 (dk_at dksX0_init_6 4 rfl rfl)
theorem dX0_init_146 : decode cX0_init 146 = .ok (.iconst 2, 1) := dk_5 (dk_at dksX0_init_6 5 rfl rfl)
theorem dX0_init_147 : decode cX0_init 147 = .ok (.new 102, 3) := dk_187 0 102 (dk_at dksX0_init_6 6 rfl rfl)
theorem dX0_init_150 : decode cX0_init 150 = .ok (.dup, 1) := dk_89 (dk_at dksX0_init_6 9 rfl rfl)
theorem dX0_init_151 : decode cX0_init 151 = .ok (.invokespecial 104, 3) := dk_183 0 104 (dk_at dksX0_init_6 10 rfl rfl)
theorem dX0_init_154 : decode cX0_init 154 = .ok (.aastore, 1) := dk_83 (dk_at dksX0_init_6 13 rfl rfl)
theorem dX0_init_155 : decode cX0_init 155 = .ok (.dup, 1) := dk_89 (dk_at dksX0_init_6 14 rfl rfl)
theorem dX0_init_156 : decode cX0_init 156 = .ok (.iconst 3, 1) := dk_6 (dk_at dksX0_init_6 15 rfl rfl)
theorem dX0_init_157 : decode cX0_init 157 = .ok (.new 102, 3) := dk_187 0 102 (dk_at dksX0_init_6 16 rfl rfl)
theorem dX0_init_160 : decode cX0_init 160 = .ok (.dup, 1) := dk_89 (dk_at dksX0_init_6 19 rfl rfl)
theorem dX0_init_161 : decode cX0_init 161 = .ok (.invokespecial 104, 3) := dk_183 0 104 (dk_at dksX0_init_6 20 rfl rfl)
theorem dX0_init_164 : decode cX0_init 164 = .ok (.aastore, 1) := dk_83 (dk_at dksX0_init_6 23 rfl rfl)
theorem dX0_init_165 : decode cX0_init 165 = .ok (.putfield 105, 3) := dk_181 0 105 (dk_at dksX0_init_7 0 rfl rfl)
theorem dX0_init_168 : decode cX0_init 168 = .ok (.return_, 1) := dk_177 (dk_at dksX0_init_7 3 rfl rfl)
abbrev cX0_open : ByteArray := prog_1_method_11_code
def yX0_open : MethodName := ⟨RX0, "open", "(IIII)I"⟩
def dkwX0_open_6 : List UInt8 := [21, 4, 167, 0, 4, 3, 183, 0, 147, 182, 0, 150, 87, 25, 5, 182, 0, 36, 4, 100, 172]
abbrev dktX0_open_6 : List UInt8 := dkwX0_open_6 ++ []
def dkwX0_open_5 : List UInt8 := [181, 0, 141, 25, 5, 187, 0, 145, 89, 28, 28, 27, 154, 0, 7, 29, 167, 0, 4, 3, 27, 154, 0, 8]
abbrev dktX0_open_5 : List UInt8 := dkwX0_open_5 ++ dktX0_open_6
def dkwX0_open_4 : List UInt8 := [154, 0, 8, 16, 40, 167, 0, 5, 16, 12, 160, 0, 10, 42, 16, 252, 182, 0, 119, 172, 42, 3]
abbrev dktX0_open_4 : List UInt8 := dkwX0_open_4 ++ dktX0_open_5
def dkwX0_open_3 : List UInt8 := [180, 0, 26, 180, 0, 135, 167, 0, 10, 42, 180, 0, 26, 180, 0, 138, 58, 5, 25, 5, 182, 0, 36, 27]
abbrev dktX0_open_3 : List UInt8 := dkwX0_open_3 ++ dktX0_open_4
def dkwX0_open_2 : List UInt8 := [28, 133, 9, 20, 0, 133, 184, 0, 111, 154, 0, 10, 42, 16, 253, 182, 0, 119, 172, 27, 154, 0, 13, 42]
abbrev dktX0_open_2 : List UInt8 := dkwX0_open_2 ++ dktX0_open_3
def dkwX0_open_1 : List UInt8 := [184, 0, 123, 153, 0, 33, 29, 184, 0, 127, 153, 0, 26, 21, 4, 184, 0, 130, 154, 0, 25, 167, 0, 15]
abbrev dktX0_open_1 : List UInt8 := dkwX0_open_1 ++ dktX0_open_2
def dkwX0_open_0 : List UInt8 := [27, 133, 9, 10, 184, 0, 111, 154, 0, 10, 42, 16, 254, 182, 0, 119, 172, 27, 154, 0, 28, 28]
abbrev dktX0_open_0 : List UInt8 := dkwX0_open_0 ++ dktX0_open_1
theorem dksX0_open_0 : cX0_open.data.toList.drop 0 = dktX0_open_0 := by decide +kernel
theorem dksX0_open_1 : cX0_open.data.toList.drop 22 = dktX0_open_1 := dk_seg dksX0_open_0 22 rfl rfl
theorem dksX0_open_2 : cX0_open.data.toList.drop 46 = dktX0_open_2 := dk_seg dksX0_open_1 24 rfl rfl
theorem dksX0_open_3 : cX0_open.data.toList.drop 70 = dktX0_open_3 := dk_seg dksX0_open_2 24 rfl rfl
theorem dksX0_open_4 : cX0_open.data.toList.drop 94 = dktX0_open_4 := dk_seg dksX0_open_3 24 rfl rfl
theorem dksX0_open_5 : cX0_open.data.toList.drop 116 = dktX0_open_5 := dk_seg dksX0_open_4 22 rfl rfl
theorem dksX0_open_6 : cX0_open.data.toList.drop 140 = dktX0_open_6 := dk_seg dksX0_open_5 24 rfl rfl
theorem dX0_open_0 : decode cX0_open 0 = .ok (.iload_n 1, 1) := dk_27 (dk_at dksX0_open_0 0 rfl rfl)
theorem dX0_open_1 : decode cX0_open 1 = .ok (.i2l, 1) := dk_133 (dk_at dksX0_open_0 1 rfl rfl)
theorem dX0_open_2 : decode cX0_open 2 = .ok (.lconst 0, 1) := dk_9 (dk_at dksX0_open_0 2 rfl rfl)
theorem dX0_open_3 : decode cX0_open 3 = .ok (.lconst 1, 1) := dk_10 (dk_at dksX0_open_0 3 rfl rfl)
theorem dX0_open_4 : decode cX0_open 4 = .ok (.invokestatic 111, 3) := dk_184 0 111 (dk_at dksX0_open_0 4 rfl rfl)
theorem dX0_open_7 : decode cX0_open 7 = .ok (.ifCond .ne 10, 3) := dk_154 0 10 (dk_at dksX0_open_0 7 rfl rfl)
theorem dX0_open_10 : decode cX0_open 10 = .ok (.aload_n 0, 1) := dk_42 (dk_at dksX0_open_0 10 rfl rfl)
theorem dX0_open_11 : decode cX0_open 11 = .ok (.bipush (-2), 2) := dk_16 254 (dk_at dksX0_open_0 11 rfl rfl)
theorem dX0_open_13 : decode cX0_open 13 = .ok (.invokevirtual 119, 3) := dk_182 0 119 (dk_at dksX0_open_0 13 rfl rfl)
theorem dX0_open_16 : decode cX0_open 16 = .ok (.ireturn, 1) := dk_172 (dk_at dksX0_open_0 16 rfl rfl)
theorem dX0_open_17 : decode cX0_open 17 = .ok (.iload_n 1, 1) := dk_27 (dk_at dksX0_open_0 17 rfl rfl)
theorem dX0_open_18 : decode cX0_open 18 = .ok (.ifCond .ne 28, 3) := dk_154 0 28 (dk_at dksX0_open_0 18 rfl rfl)
theorem dX0_open_21 : decode cX0_open 21 = .ok (.iload_n 2, 1) := dk_28 (dk_at dksX0_open_0 21 rfl rfl)
theorem dX0_open_22 : decode cX0_open 22 = .ok (.invokestatic 123, 3) := dk_184 0 123 (dk_at dksX0_open_1 0 rfl rfl)
theorem dX0_open_25 : decode cX0_open 25 = .ok (.ifCond .eq 33, 3) := dk_153 0 33 (dk_at dksX0_open_1 3 rfl rfl)
theorem dX0_open_28 : decode cX0_open 28 = .ok (.iload_n 3, 1) := dk_29 (dk_at dksX0_open_1 6 rfl rfl)
theorem dX0_open_29 : decode cX0_open 29 = .ok (.invokestatic 127, 3) := dk_184 0 127 (dk_at dksX0_open_1 7 rfl rfl)
theorem dX0_open_32 : decode cX0_open 32 = .ok (.ifCond .eq 26, 3) := dk_153 0 26 (dk_at dksX0_open_1 10 rfl rfl)
theorem dX0_open_35 : decode cX0_open 35 = .ok (.iload 4, 2) := dk_21 4 (dk_at dksX0_open_1 13 rfl rfl)
theorem dX0_open_37 : decode cX0_open 37 = .ok (.invokestatic 130, 3) := dk_184 0 130 (dk_at dksX0_open_1 15 rfl rfl)
theorem dX0_open_40 : decode cX0_open 40 = .ok (.ifCond .ne 25, 3) := dk_154 0 25 (dk_at dksX0_open_1 18 rfl rfl)
theorem dX0_open_43 : decode cX0_open 43 = .ok (.goto 15, 3) := dk_167 0 15 (dk_at dksX0_open_1 21 rfl rfl)
theorem dX0_open_46 : decode cX0_open 46 = .ok (.iload_n 2, 1) := dk_28 (dk_at dksX0_open_2 0 rfl rfl)
theorem dX0_open_47 : decode cX0_open 47 = .ok (.i2l, 1) := dk_133 (dk_at dksX0_open_2 1 rfl rfl)
theorem dX0_open_48 : decode cX0_open 48 = .ok (.lconst 0, 1) := dk_9 (dk_at dksX0_open_2 2 rfl rfl)
theorem dX0_open_49 : decode cX0_open 49 = .ok (.ldc2_w 133, 3) := dk_20 0 133 (dk_at dksX0_open_2 3 rfl rfl)
theorem dX0_open_52 : decode cX0_open 52 = .ok (.invokestatic 111, 3) := dk_184 0 111 (dk_at dksX0_open_2 6 rfl rfl)
theorem dX0_open_55 : decode cX0_open 55 = .ok (.ifCond .ne 10, 3) := dk_154 0 10 (dk_at dksX0_open_2 9 rfl rfl)
theorem dX0_open_58 : decode cX0_open 58 = .ok (.aload_n 0, 1) := dk_42 (dk_at dksX0_open_2 12 rfl rfl)
theorem dX0_open_59 : decode cX0_open 59 = .ok (.bipush (-3), 2) := dk_16 253 (dk_at dksX0_open_2 13 rfl rfl)
theorem dX0_open_61 : decode cX0_open 61 = .ok (.invokevirtual 119, 3) := dk_182 0 119 (dk_at dksX0_open_2 15 rfl rfl)
theorem dX0_open_64 : decode cX0_open 64 = .ok (.ireturn, 1) := dk_172 (dk_at dksX0_open_2 18 rfl rfl)
theorem dX0_open_65 : decode cX0_open 65 = .ok (.iload_n 1, 1) := dk_27 (dk_at dksX0_open_2 19 rfl rfl)
theorem dX0_open_66 : decode cX0_open 66 = .ok (.ifCond .ne 13, 3) := dk_154 0 13 (dk_at dksX0_open_2 20 rfl rfl)
theorem dX0_open_69 : decode cX0_open 69 = .ok (.aload_n 0, 1) := dk_42 (dk_at dksX0_open_2 23 rfl rfl)
theorem dX0_open_70 : decode cX0_open 70 = .ok (.getfield 26, 3) := dk_180 0 26 (dk_at dksX0_open_3 0 rfl rfl)
theorem dX0_open_73 : decode cX0_open 73 = .ok (.getfield 135, 3) := dk_180 0 135 (dk_at dksX0_open_3 3 rfl rfl)
theorem dX0_open_76 : decode cX0_open 76 = .ok (.goto 10, 3) := dk_167 0 10 (dk_at dksX0_open_3 6 rfl rfl)
theorem dX0_open_79 : decode cX0_open 79 = .ok (.aload_n 0, 1) := dk_42 (dk_at dksX0_open_3 9 rfl rfl)
theorem dX0_open_80 : decode cX0_open 80 = .ok (.getfield 26, 3) := dk_180 0 26 (dk_at dksX0_open_3 10 rfl rfl)
theorem dX0_open_83 : decode cX0_open 83 = .ok (.getfield 138, 3) := dk_180 0 138 (dk_at dksX0_open_3 13 rfl rfl)
theorem dX0_open_86 : decode cX0_open 86 = .ok (.astore 5, 2) := dk_58 5 (dk_at dksX0_open_3 16 rfl rfl)
theorem dX0_open_88 : decode cX0_open 88 = .ok (.aload 5, 2) := dk_25 5 (dk_at dksX0_open_3 18 rfl rfl)
theorem dX0_open_90 : decode cX0_open 90 = .ok (.invokevirtual 36, 3) := dk_182 0 36 (dk_at dksX0_open_3 20 rfl rfl)
theorem dX0_open_93 : decode cX0_open 93 = .ok (.iload_n 1, 1) := dk_27 (dk_at dksX0_open_3 23 rfl rfl)
theorem dX0_open_94 : decode cX0_open 94 = .ok (.ifCond .ne 8, 3) := dk_154 0 8 (dk_at dksX0_open_4 0 rfl rfl)
theorem dX0_open_97 : decode cX0_open 97 = .ok (.bipush 40, 2) := dk_16 40 (dk_at dksX0_open_4 3 rfl rfl)
theorem dX0_open_99 : decode cX0_open 99 = .ok (.goto 5, 3) := dk_167 0 5 (dk_at dksX0_open_4 5 rfl rfl)
theorem dX0_open_102 : decode cX0_open 102 = .ok (.bipush 12, 2) := dk_16 12 (dk_at dksX0_open_4 8 rfl rfl)
theorem dX0_open_104 : decode cX0_open 104 = .ok (.if_icmp .ne 10, 3) := dk_160 0 10 (dk_at dksX0_open_4 10 rfl rfl)
theorem dX0_open_107 : decode cX0_open 107 = .ok (.aload_n 0, 1) := dk_42 (dk_at dksX0_open_4 13 rfl rfl)
theorem dX0_open_108 : decode cX0_open 108 = .ok (.bipush (-4), 2) := dk_16 252 (dk_at dksX0_open_4 14 rfl rfl)
theorem dX0_open_110 : decode cX0_open 110 = .ok (.invokevirtual 119, 3) := dk_182 0 119 (dk_at dksX0_open_4 16 rfl rfl)
theorem dX0_open_113 : decode cX0_open 113 = .ok (.ireturn, 1) := dk_172 (dk_at dksX0_open_4 19 rfl rfl)
theorem dX0_open_114 : decode cX0_open 114 = .ok (.aload_n 0, 1) := dk_42 (dk_at dksX0_open_4 20 rfl rfl)
theorem dX0_open_115 : decode cX0_open 115 = .ok (.iconst 0, 1) := dk_3 (dk_at dksX0_open_4 21 rfl rfl)
theorem dX0_open_116 : decode cX0_open 116 = .ok (.putfield 141, 3) := dk_181 0 141 (dk_at dksX0_open_5 0 rfl rfl)
theorem dX0_open_119 : decode cX0_open 119 = .ok (.aload 5, 2) := dk_25 5 (dk_at dksX0_open_5 3 rfl rfl)
theorem dX0_open_121 : decode cX0_open 121 = .ok (.new 145, 3) := dk_187 0 145 (dk_at dksX0_open_5 5 rfl rfl)
theorem dX0_open_124 : decode cX0_open 124 = .ok (.dup, 1) := dk_89 (dk_at dksX0_open_5 8 rfl rfl)
theorem dX0_open_125 : decode cX0_open 125 = .ok (.iload_n 2, 1) := dk_28 (dk_at dksX0_open_5 9 rfl rfl)
theorem dX0_open_126 : decode cX0_open 126 = .ok (.iload_n 2, 1) := dk_28 (dk_at dksX0_open_5 10 rfl rfl)
theorem dX0_open_127 : decode cX0_open 127 = .ok (.iload_n 1, 1) := dk_27 (dk_at dksX0_open_5 11 rfl rfl)
theorem dX0_open_128 : decode cX0_open 128 = .ok (.ifCond .ne 7, 3) := dk_154 0 7 (dk_at dksX0_open_5 12 rfl rfl)
theorem dX0_open_131 : decode cX0_open 131 = .ok (.iload_n 3, 1) := dk_29 (dk_at dksX0_open_5 15 rfl rfl)
theorem dX0_open_132 : decode cX0_open 132 = .ok (.goto 4, 3) := dk_167 0 4 (dk_at dksX0_open_5 16 rfl rfl)
theorem dX0_open_135 : decode cX0_open 135 = .ok (.iconst 0, 1) := dk_3 (dk_at dksX0_open_5 19 rfl rfl)
theorem dX0_open_136 : decode cX0_open 136 = .ok (.iload_n 1, 1) := dk_27 (dk_at dksX0_open_5 20 rfl rfl)
theorem dX0_open_137 : decode cX0_open 137 = .ok (.ifCond .ne 8, 3) := dk_154 0 8 (dk_at dksX0_open_5 21 rfl rfl)
theorem dX0_open_140 : decode cX0_open 140 = .ok (.iload 4, 2) := dk_21 4 (dk_at dksX0_open_6 0 rfl rfl)
theorem dX0_open_142 : decode cX0_open 142 = .ok (.goto 4, 3) := dk_167 0 4 (dk_at dksX0_open_6 2 rfl rfl)
theorem dX0_open_145 : decode cX0_open 145 = .ok (.iconst 0, 1) := dk_3 (dk_at dksX0_open_6 5 rfl rfl)
theorem dX0_open_146 : decode cX0_open 146 = .ok (.invokespecial 147, 3) := dk_183 0 147 (dk_at dksX0_open_6 6 rfl rfl)
theorem dX0_open_149 : decode cX0_open 149 = .ok (.invokevirtual 150, 3) := dk_182 0 150 (dk_at dksX0_open_6 9 rfl rfl)
theorem dX0_open_152 : decode cX0_open 152 = .ok (.pop, 1) := dk_87 (dk_at dksX0_open_6 12 rfl rfl)
theorem dX0_open_153 : decode cX0_open 153 = .ok (.aload 5, 2) := dk_25 5 (dk_at dksX0_open_6 13 rfl rfl)
theorem dX0_open_155 : decode cX0_open 155 = .ok (.invokevirtual 36, 3) := dk_182 0 36 (dk_at dksX0_open_6 15 rfl rfl)
theorem dX0_open_158 : decode cX0_open 158 = .ok (.iconst 1, 1) := dk_4 (dk_at dksX0_open_6 18 rfl rfl)
theorem dX0_open_159 : decode cX0_open 159 = .ok (.isub, 1) := dk_100 (dk_at dksX0_open_6 19 rfl rfl)
theorem dX0_open_160 : decode cX0_open 160 = .ok (.ireturn, 1) := dk_172 (dk_at dksX0_open_6 20 rfl rfl)
abbrev cX0_in : ByteArray := prog_1_method_1_code
def yX0_in : MethodName := ⟨RX0, "in", "(JJJ)Z"⟩
def dkwX0_in_0 : List UInt8 := [30, 32, 148, 155, 0, 14, 30, 22, 4, 148, 157, 0, 7, 4, 167, 0, 4, 3, 172]
abbrev dktX0_in_0 : List UInt8 := dkwX0_in_0 ++ []
theorem dksX0_in_0 : cX0_in.data.toList.drop 0 = dktX0_in_0 := by decide +kernel
theorem dX0_in_0 : decode cX0_in 0 = .ok (.lload_n 0, 1) := dk_30 (dk_at dksX0_in_0 0 rfl rfl)
theorem dX0_in_1 : decode cX0_in 1 = .ok (.lload_n 2, 1) := dk_32 (dk_at dksX0_in_0 1 rfl rfl)
theorem dX0_in_2 : decode cX0_in 2 = .ok (.lcmp, 1) := dk_148 (dk_at dksX0_in_0 2 rfl rfl)
theorem dX0_in_3 : decode cX0_in 3 = .ok (.ifCond .lt 14, 3) := dk_155 0 14 (dk_at dksX0_in_0 3 rfl rfl)
theorem dX0_in_6 : decode cX0_in 6 = .ok (.lload_n 0, 1) := dk_30 (dk_at dksX0_in_0 6 rfl rfl)
theorem dX0_in_7 : decode cX0_in 7 = .ok (.lload 4, 2) := dk_22 4 (dk_at dksX0_in_0 7 rfl rfl)
theorem dX0_in_9 : decode cX0_in 9 = .ok (.lcmp, 1) := dk_148 (dk_at dksX0_in_0 9 rfl rfl)
theorem dX0_in_10 : decode cX0_in 10 = .ok (.ifCond .gt 7, 3) := dk_157 0 7 (dk_at dksX0_in_0 10 rfl rfl)
theorem dX0_in_13 : decode cX0_in 13 = .ok (.iconst 1, 1) := dk_4 (dk_at dksX0_in_0 13 rfl rfl)
theorem dX0_in_14 : decode cX0_in 14 = .ok (.goto 4, 3) := dk_167 0 4 (dk_at dksX0_in_0 14 rfl rfl)
theorem dX0_in_17 : decode cX0_in 17 = .ok (.iconst 0, 1) := dk_3 (dk_at dksX0_in_0 17 rfl rfl)
theorem dX0_in_18 : decode cX0_in 18 = .ok (.ireturn, 1) := dk_172 (dk_at dksX0_in_0 18 rfl rfl)
abbrev cX0_refuse : ByteArray := prog_1_method_6_code
def yX0_refuse : MethodName := ⟨RX0, "refuse", "(I)I"⟩
def dkwX0_refuse_0 : List UInt8 := [42, 180, 0, 63, 27, 116, 92, 46, 4, 96, 79, 27, 172]
abbrev dktX0_refuse_0 : List UInt8 := dkwX0_refuse_0 ++ []
theorem dksX0_refuse_0 : cX0_refuse.data.toList.drop 0 = dktX0_refuse_0 := by decide +kernel
theorem dX0_refuse_0 : decode cX0_refuse 0 = .ok (.aload_n 0, 1) := dk_42 (dk_at dksX0_refuse_0 0 rfl rfl)
theorem dX0_refuse_1 : decode cX0_refuse 1 = .ok (.getfield 63, 3) := dk_180 0 63 (dk_at dksX0_refuse_0 1 rfl rfl)
theorem dX0_refuse_4 : decode cX0_refuse 4 = .ok (.iload_n 1, 1) := dk_27 (dk_at dksX0_refuse_0 4 rfl rfl)
theorem dX0_refuse_5 : decode cX0_refuse 5 = .ok (.ineg, 1) := dk_116 (dk_at dksX0_refuse_0 5 rfl rfl)
theorem dX0_refuse_6 : decode cX0_refuse 6 = .ok (.dup2, 1) := dk_92 (dk_at dksX0_refuse_0 6 rfl rfl)
theorem dX0_refuse_7 : decode cX0_refuse 7 = .ok (.iaload, 1) := dk_46 (dk_at dksX0_refuse_0 7 rfl rfl)
theorem dX0_refuse_8 : decode cX0_refuse 8 = .ok (.iconst 1, 1) := dk_4 (dk_at dksX0_refuse_0 8 rfl rfl)
theorem dX0_refuse_9 : decode cX0_refuse 9 = .ok (.iadd, 1) := dk_96 (dk_at dksX0_refuse_0 9 rfl rfl)
theorem dX0_refuse_10 : decode cX0_refuse 10 = .ok (.iastore, 1) := dk_79 (dk_at dksX0_refuse_0 10 rfl rfl)
theorem dX0_refuse_11 : decode cX0_refuse 11 = .ok (.iload_n 1, 1) := dk_27 (dk_at dksX0_refuse_0 11 rfl rfl)
theorem dX0_refuse_12 : decode cX0_refuse 12 = .ok (.ireturn, 1) := dk_172 (dk_at dksX0_refuse_0 12 rfl rfl)
abbrev cX0_isTale : ByteArray := prog_1_method_7_code
def yX0_isTale : MethodName := ⟨RX0, "isTale", "(I)Z"⟩
def dkwX0_isTale_0 : List UInt8 := [26, 133, 9, 20, 0, 109, 184, 0, 111, 172]
abbrev dktX0_isTale_0 : List UInt8 := dkwX0_isTale_0 ++ []
theorem dksX0_isTale_0 : cX0_isTale.data.toList.drop 0 = dktX0_isTale_0 := by decide +kernel
theorem dX0_isTale_0 : decode cX0_isTale 0 = .ok (.iload_n 0, 1) := dk_26 (dk_at dksX0_isTale_0 0 rfl rfl)
theorem dX0_isTale_1 : decode cX0_isTale 1 = .ok (.i2l, 1) := dk_133 (dk_at dksX0_isTale_0 1 rfl rfl)
theorem dX0_isTale_2 : decode cX0_isTale 2 = .ok (.lconst 0, 1) := dk_9 (dk_at dksX0_isTale_0 2 rfl rfl)
theorem dX0_isTale_3 : decode cX0_isTale 3 = .ok (.ldc2_w 109, 3) := dk_20 0 109 (dk_at dksX0_isTale_0 3 rfl rfl)
theorem dX0_isTale_6 : decode cX0_isTale 6 = .ok (.invokestatic 111, 3) := dk_184 0 111 (dk_at dksX0_isTale_0 6 rfl rfl)
theorem dX0_isTale_9 : decode cX0_isTale 9 = .ok (.ireturn, 1) := dk_172 (dk_at dksX0_isTale_0 9 rfl rfl)
abbrev cX0_isGlen : ByteArray := prog_1_method_9_code
def yX0_isGlen : MethodName := ⟨RX0, "isGlen", "(I)Z"⟩
def dkwX0_isGlen_0 : List UInt8 := [26, 133, 9, 20, 0, 117, 184, 0, 111, 172]
abbrev dktX0_isGlen_0 : List UInt8 := dkwX0_isGlen_0 ++ []
theorem dksX0_isGlen_0 : cX0_isGlen.data.toList.drop 0 = dktX0_isGlen_0 := by decide +kernel
theorem dX0_isGlen_0 : decode cX0_isGlen 0 = .ok (.iload_n 0, 1) := dk_26 (dk_at dksX0_isGlen_0 0 rfl rfl)
theorem dX0_isGlen_1 : decode cX0_isGlen 1 = .ok (.i2l, 1) := dk_133 (dk_at dksX0_isGlen_0 1 rfl rfl)
theorem dX0_isGlen_2 : decode cX0_isGlen 2 = .ok (.lconst 0, 1) := dk_9 (dk_at dksX0_isGlen_0 2 rfl rfl)
theorem dX0_isGlen_3 : decode cX0_isGlen 3 = .ok (.ldc2_w 117, 3) := dk_20 0 117 (dk_at dksX0_isGlen_0 3 rfl rfl)
theorem dX0_isGlen_6 : decode cX0_isGlen 6 = .ok (.invokestatic 111, 3) := dk_184 0 111 (dk_at dksX0_isGlen_0 6 rfl rfl)
theorem dX0_isGlen_9 : decode cX0_isGlen 9 = .ok (.ireturn, 1) := dk_172 (dk_at dksX0_isGlen_0 9 rfl rfl)
abbrev cX0_isDay : ByteArray := prog_1_method_8_code
def yX0_isDay : MethodName := ⟨RX0, "isDay", "(I)Z"⟩
def dkwX0_isDay_0 : List UInt8 := [26, 133, 9, 20, 0, 115, 184, 0, 111, 172]
abbrev dktX0_isDay_0 : List UInt8 := dkwX0_isDay_0 ++ []
theorem dksX0_isDay_0 : cX0_isDay.data.toList.drop 0 = dktX0_isDay_0 := by decide +kernel
theorem dX0_isDay_0 : decode cX0_isDay 0 = .ok (.iload_n 0, 1) := dk_26 (dk_at dksX0_isDay_0 0 rfl rfl)
theorem dX0_isDay_1 : decode cX0_isDay 1 = .ok (.i2l, 1) := dk_133 (dk_at dksX0_isDay_0 1 rfl rfl)
theorem dX0_isDay_2 : decode cX0_isDay 2 = .ok (.lconst 0, 1) := dk_9 (dk_at dksX0_isDay_0 2 rfl rfl)
theorem dX0_isDay_3 : decode cX0_isDay 3 = .ok (.ldc2_w 115, 3) := dk_20 0 115 (dk_at dksX0_isDay_0 3 rfl rfl)
theorem dX0_isDay_6 : decode cX0_isDay 6 = .ok (.invokestatic 111, 3) := dk_184 0 111 (dk_at dksX0_isDay_0 6 rfl rfl)
theorem dX0_isDay_9 : decode cX0_isDay 9 = .ok (.ireturn, 1) := dk_172 (dk_at dksX0_isDay_0 9 rfl rfl)
abbrev cX0_line : ByteArray := prog_1_method_15_code
def yX0_line : MethodName := ⟨RX0, "line", "(IIIJ)I"⟩
def dkwX0_line_9 : List UInt8 := [87, 25, 7, 182, 0, 36, 4, 100, 172]
abbrev dktX0_line_9 : List UInt8 := dkwX0_line_9 ++ []
def dkwX0_line_8 : List UInt8 := [16, 12, 160, 0, 10, 42, 16, 252, 182, 0, 119, 172, 42, 3, 181, 0, 141, 25, 7, 25, 6, 182, 0, 150]
abbrev dktX0_line_8 : List UInt8 := dkwX0_line_8 ++ dktX0_line_9
def dkwX0_line_7 : List UInt8 := [180, 0, 26, 180, 0, 138, 28, 182, 0, 42, 192, 0, 145, 180, 0, 178, 58, 7, 25, 7, 182, 0, 36]
abbrev dktX0_line_7 : List UInt8 := dkwX0_line_7 ++ dktX0_line_8
def dkwX0_line_6 : List UInt8 := [154, 0, 23, 42, 180, 0, 26, 180, 0, 135, 28, 182, 0, 42, 192, 0, 145, 180, 0, 178, 167, 0, 20, 42]
abbrev dktX0_line_6 : List UInt8 := dkwX0_line_6 ++ dktX0_line_7
def dkwX0_line_5 : List UInt8 := [25, 6, 29, 183, 0, 175, 182, 0, 150, 87, 42, 180, 0, 26, 180, 0, 154, 182, 0, 36, 4, 100, 172, 27]
abbrev dktX0_line_5 : List UInt8 := dkwX0_line_5 ++ dktX0_line_6
def dkwX0_line_4 : List UInt8 := [16, 60, 160, 0, 10, 42, 16, 252, 182, 0, 119, 172, 42, 180, 0, 26, 180, 0, 154, 187, 0, 173, 89]
abbrev dktX0_line_4 : List UInt8 := dkwX0_line_4 ++ dktX0_line_5
def dkwX0_line_3 : List UInt8 := [172, 22, 4, 184, 0, 169, 58, 6, 27, 5, 160, 0, 59, 42, 180, 0, 26, 180, 0, 154, 182, 0, 36]
abbrev dktX0_line_3 : List UInt8 := dkwX0_line_3 ++ dktX0_line_4
def dkwX0_line_2 : List UInt8 := [160, 0, 10, 29, 184, 0, 123, 153, 0, 11, 22, 4, 184, 0, 165, 154, 0, 10, 42, 16, 253, 182, 0, 119]
abbrev dktX0_line_2 : List UInt8 := dkwX0_line_2 ++ dktX0_line_3
def dkwX0_line_1 : List UInt8 := [27, 4, 160, 0, 18, 42, 28, 182, 0, 162, 154, 0, 10, 42, 16, 254, 182, 0, 119, 172, 27, 5]
abbrev dktX0_line_1 : List UInt8 := dkwX0_line_1 ++ dktX0_line_2
def dkwX0_line_0 : List UInt8 := [27, 133, 9, 20, 0, 157, 184, 0, 111, 153, 0, 28, 27, 154, 0, 11, 42, 28, 182, 0, 159, 153, 0, 16]
abbrev dktX0_line_0 : List UInt8 := dkwX0_line_0 ++ dktX0_line_1
theorem dksX0_line_0 : cX0_line.data.toList.drop 0 = dktX0_line_0 := by decide +kernel
theorem dksX0_line_1 : cX0_line.data.toList.drop 24 = dktX0_line_1 := dk_seg dksX0_line_0 24 rfl rfl
theorem dksX0_line_2 : cX0_line.data.toList.drop 46 = dktX0_line_2 := dk_seg dksX0_line_1 22 rfl rfl
theorem dksX0_line_3 : cX0_line.data.toList.drop 70 = dktX0_line_3 := dk_seg dksX0_line_2 24 rfl rfl
theorem dksX0_line_4 : cX0_line.data.toList.drop 93 = dktX0_line_4 := dk_seg dksX0_line_3 23 rfl rfl
theorem dksX0_line_5 : cX0_line.data.toList.drop 116 = dktX0_line_5 := dk_seg dksX0_line_4 23 rfl rfl
theorem dksX0_line_6 : cX0_line.data.toList.drop 140 = dktX0_line_6 := dk_seg dksX0_line_5 24 rfl rfl
theorem dksX0_line_7 : cX0_line.data.toList.drop 164 = dktX0_line_7 := dk_seg dksX0_line_6 24 rfl rfl
theorem dksX0_line_8 : cX0_line.data.toList.drop 187 = dktX0_line_8 := dk_seg dksX0_line_7 23 rfl rfl
theorem dksX0_line_9 : cX0_line.data.toList.drop 211 = dktX0_line_9 := dk_seg dksX0_line_8 24 rfl rfl
theorem dX0_line_0 : decode cX0_line 0 = .ok (.iload_n 1, 1) := dk_27 (dk_at dksX0_line_0 0 rfl rfl)
theorem dX0_line_1 : decode cX0_line 1 = .ok (.i2l, 1) := dk_133 (dk_at dksX0_line_0 1 rfl rfl)
theorem dX0_line_2 : decode cX0_line 2 = .ok (.lconst 0, 1) := dk_9 (dk_at dksX0_line_0 2 rfl rfl)
theorem dX0_line_3 : decode cX0_line 3 = .ok (.ldc2_w 157, 3) := dk_20 0 157 (dk_at dksX0_line_0 3 rfl rfl)
theorem dX0_line_6 : decode cX0_line 6 = .ok (.invokestatic 111, 3) := dk_184 0 111 (dk_at dksX0_line_0 6 rfl rfl)
theorem dX0_line_9 : decode cX0_line 9 = .ok (.ifCond .eq 28, 3) := dk_153 0 28 (dk_at dksX0_line_0 9 rfl rfl)
theorem dX0_line_12 : decode cX0_line 12 = .ok (.iload_n 1, 1) := dk_27 (dk_at dksX0_line_0 12 rfl rfl)
theorem dX0_line_13 : decode cX0_line 13 = .ok (.ifCond .ne 11, 3) := dk_154 0 11 (dk_at dksX0_line_0 13 rfl rfl)
theorem dX0_line_16 : decode cX0_line 16 = .ok (.aload_n 0, 1) := dk_42 (dk_at dksX0_line_0 16 rfl rfl)
theorem dX0_line_17 : decode cX0_line 17 = .ok (.iload_n 2, 1) := dk_28 (dk_at dksX0_line_0 17 rfl rfl)
theorem dX0_line_18 : decode cX0_line 18 = .ok (.invokevirtual 159, 3) := dk_182 0 159 (dk_at dksX0_line_0 18 rfl rfl)
theorem dX0_line_21 : decode cX0_line 21 = .ok (.ifCond .eq 16, 3) := dk_153 0 16 (dk_at dksX0_line_0 21 rfl rfl)
theorem dX0_line_24 : decode cX0_line 24 = .ok (.iload_n 1, 1) := dk_27 (dk_at dksX0_line_1 0 rfl rfl)
theorem dX0_line_25 : decode cX0_line 25 = .ok (.iconst 1, 1) := dk_4 (dk_at dksX0_line_1 1 rfl rfl)
theorem dX0_line_26 : decode cX0_line 26 = .ok (.if_icmp .ne 18, 3) := dk_160 0 18 (dk_at dksX0_line_1 2 rfl rfl)
theorem dX0_line_29 : decode cX0_line 29 = .ok (.aload_n 0, 1) := dk_42 (dk_at dksX0_line_1 5 rfl rfl)
theorem dX0_line_30 : decode cX0_line 30 = .ok (.iload_n 2, 1) := dk_28 (dk_at dksX0_line_1 6 rfl rfl)
theorem dX0_line_31 : decode cX0_line 31 = .ok (.invokevirtual 162, 3) := dk_182 0 162 (dk_at dksX0_line_1 7 rfl rfl)
theorem dX0_line_34 : decode cX0_line 34 = .ok (.ifCond .ne 10, 3) := dk_154 0 10 (dk_at dksX0_line_1 10 rfl rfl)
theorem dX0_line_37 : decode cX0_line 37 = .ok (.aload_n 0, 1) := dk_42 (dk_at dksX0_line_1 13 rfl rfl)
theorem dX0_line_38 : decode cX0_line 38 = .ok (.bipush (-2), 2) := dk_16 254 (dk_at dksX0_line_1 14 rfl rfl)
theorem dX0_line_40 : decode cX0_line 40 = .ok (.invokevirtual 119, 3) := dk_182 0 119 (dk_at dksX0_line_1 16 rfl rfl)
theorem dX0_line_43 : decode cX0_line 43 = .ok (.ireturn, 1) := dk_172 (dk_at dksX0_line_1 19 rfl rfl)
theorem dX0_line_44 : decode cX0_line 44 = .ok (.iload_n 1, 1) := dk_27 (dk_at dksX0_line_1 20 rfl rfl)
theorem dX0_line_45 : decode cX0_line 45 = .ok (.iconst 2, 1) := dk_5 (dk_at dksX0_line_1 21 rfl rfl)
theorem dX0_line_46 : decode cX0_line 46 = .ok (.if_icmp .ne 10, 3) := dk_160 0 10 (dk_at dksX0_line_2 0 rfl rfl)
theorem dX0_line_49 : decode cX0_line 49 = .ok (.iload_n 3, 1) := dk_29 (dk_at dksX0_line_2 3 rfl rfl)
theorem dX0_line_50 : decode cX0_line 50 = .ok (.invokestatic 123, 3) := dk_184 0 123 (dk_at dksX0_line_2 4 rfl rfl)
theorem dX0_line_53 : decode cX0_line 53 = .ok (.ifCond .eq 11, 3) := dk_153 0 11 (dk_at dksX0_line_2 7 rfl rfl)
theorem dX0_line_56 : decode cX0_line 56 = .ok (.lload 4, 2) := dk_22 4 (dk_at dksX0_line_2 10 rfl rfl)
theorem dX0_line_58 : decode cX0_line 58 = .ok (.invokestatic 165, 3) := dk_184 0 165 (dk_at dksX0_line_2 12 rfl rfl)
theorem dX0_line_61 : decode cX0_line 61 = .ok (.ifCond .ne 10, 3) := dk_154 0 10 (dk_at dksX0_line_2 15 rfl rfl)
theorem dX0_line_64 : decode cX0_line 64 = .ok (.aload_n 0, 1) := dk_42 (dk_at dksX0_line_2 18 rfl rfl)
theorem dX0_line_65 : decode cX0_line 65 = .ok (.bipush (-3), 2) := dk_16 253 (dk_at dksX0_line_2 19 rfl rfl)
theorem dX0_line_67 : decode cX0_line 67 = .ok (.invokevirtual 119, 3) := dk_182 0 119 (dk_at dksX0_line_2 21 rfl rfl)
theorem dX0_line_70 : decode cX0_line 70 = .ok (.ireturn, 1) := dk_172 (dk_at dksX0_line_3 0 rfl rfl)
theorem dX0_line_71 : decode cX0_line 71 = .ok (.lload 4, 2) := dk_22 4 (dk_at dksX0_line_3 1 rfl rfl)
theorem dX0_line_73 : decode cX0_line 73 = .ok (.invokestatic 169, 3) := dk_184 0 169 (dk_at dksX0_line_3 3 rfl rfl)
theorem dX0_line_76 : decode cX0_line 76 = .ok (.astore 6, 2) := dk_58 6 (dk_at dksX0_line_3 6 rfl rfl)
theorem dX0_line_78 : decode cX0_line 78 = .ok (.iload_n 1, 1) := dk_27 (dk_at dksX0_line_3 8 rfl rfl)
theorem dX0_line_79 : decode cX0_line 79 = .ok (.iconst 2, 1) := dk_5 (dk_at dksX0_line_3 9 rfl rfl)
theorem dX0_line_80 : decode cX0_line 80 = .ok (.if_icmp .ne 59, 3) := dk_160 0 59 (dk_at dksX0_line_3 10 rfl rfl)
theorem dX0_line_83 : decode cX0_line 83 = .ok (.aload_n 0, 1) := dk_42 (dk_at dksX0_line_3 13 rfl rfl)
theorem dX0_line_84 : decode cX0_line 84 = .ok (.getfield 26, 3) := dk_180 0 26 (dk_at dksX0_line_3 14 rfl rfl)
theorem dX0_line_87 : decode cX0_line 87 = .ok (.getfield 154, 3) := dk_180 0 154 (dk_at dksX0_line_3 17 rfl rfl)
theorem dX0_line_90 : decode cX0_line 90 = .ok (.invokevirtual 36, 3) := dk_182 0 36 (dk_at dksX0_line_3 20 rfl rfl)
theorem dX0_line_93 : decode cX0_line 93 = .ok (.bipush 60, 2) := dk_16 60 (dk_at dksX0_line_4 0 rfl rfl)
theorem dX0_line_95 : decode cX0_line 95 = .ok (.if_icmp .ne 10, 3) := dk_160 0 10 (dk_at dksX0_line_4 2 rfl rfl)
theorem dX0_line_98 : decode cX0_line 98 = .ok (.aload_n 0, 1) := dk_42 (dk_at dksX0_line_4 5 rfl rfl)
theorem dX0_line_99 : decode cX0_line 99 = .ok (.bipush (-4), 2) := dk_16 252 (dk_at dksX0_line_4 6 rfl rfl)
theorem dX0_line_101 : decode cX0_line 101 = .ok (.invokevirtual 119, 3) := dk_182 0 119 (dk_at dksX0_line_4 8 rfl rfl)
theorem dX0_line_104 : decode cX0_line 104 = .ok (.ireturn, 1) := dk_172 (dk_at dksX0_line_4 11 rfl rfl)
theorem dX0_line_105 : decode cX0_line 105 = .ok (.aload_n 0, 1) := dk_42 (dk_at dksX0_line_4 12 rfl rfl)
theorem dX0_line_106 : decode cX0_line 106 = .ok (.getfield 26, 3) := dk_180 0 26 (dk_at dksX0_line_4 13 rfl rfl)
theorem dX0_line_109 : decode cX0_line 109 = .ok (.getfield 154, 3) := dk_180 0 154 (dk_at dksX0_line_4 16 rfl rfl)
theorem dX0_line_112 : decode cX0_line 112 = .ok (.new 173, 3) := dk_187 0 173 (dk_at dksX0_line_4 19 rfl rfl)
theorem dX0_line_115 : decode cX0_line 115 = .ok (.dup, 1) := dk_89 (dk_at dksX0_line_4 22 rfl rfl)
theorem dX0_line_116 : decode cX0_line 116 = .ok (.aload 6, 2) := dk_25 6 (dk_at dksX0_line_5 0 rfl rfl)
theorem dX0_line_118 : decode cX0_line 118 = .ok (.iload_n 3, 1) := dk_29 (dk_at dksX0_line_5 2 rfl rfl)
theorem dX0_line_119 : decode cX0_line 119 = .ok (.invokespecial 175, 3) := dk_183 0 175 (dk_at dksX0_line_5 3 rfl rfl)
theorem dX0_line_122 : decode cX0_line 122 = .ok (.invokevirtual 150, 3) := dk_182 0 150 (dk_at dksX0_line_5 6 rfl rfl)
theorem dX0_line_125 : decode cX0_line 125 = .ok (.pop, 1) := dk_87 (dk_at dksX0_line_5 9 rfl rfl)
theorem dX0_line_126 : decode cX0_line 126 = .ok (.aload_n 0, 1) := dk_42 (dk_at dksX0_line_5 10 rfl rfl)
theorem dX0_line_127 : decode cX0_line 127 = .ok (.getfield 26, 3) := dk_180 0 26 (dk_at dksX0_line_5 11 rfl rfl)
theorem dX0_line_130 : decode cX0_line 130 = .ok (.getfield 154, 3) := dk_180 0 154 (dk_at dksX0_line_5 14 rfl rfl)
theorem dX0_line_133 : decode cX0_line 133 = .ok (.invokevirtual 36, 3) := dk_182 0 36 (dk_at dksX0_line_5 17 rfl rfl)
theorem dX0_line_136 : decode cX0_line 136 = .ok (.iconst 1, 1) := dk_4 (dk_at dksX0_line_5 20 rfl rfl)
theorem dX0_line_137 : decode cX0_line 137 = .ok (.isub, 1) := dk_100 (dk_at dksX0_line_5 21 rfl rfl)
theorem dX0_line_138 : decode cX0_line 138 = .ok (.ireturn, 1) := dk_172 (dk_at dksX0_line_5 22 rfl rfl)
theorem dX0_line_139 : decode cX0_line 139 = .ok (.iload_n 1, 1) := dk_27 (dk_at dksX0_line_5 23 rfl rfl)
theorem dX0_line_140 : decode cX0_line 140 = .ok (.ifCond .ne 23, 3) := dk_154 0 23 (dk_at dksX0_line_6 0 rfl rfl)
theorem dX0_line_143 : decode cX0_line 143 = .ok (.aload_n 0, 1) := dk_42 (dk_at dksX0_line_6 3 rfl rfl)
theorem dX0_line_144 : decode cX0_line 144 = .ok (.getfield 26, 3) := dk_180 0 26 (dk_at dksX0_line_6 4 rfl rfl)
theorem dX0_line_147 : decode cX0_line 147 = .ok (.getfield 135, 3) := dk_180 0 135 (dk_at dksX0_line_6 7 rfl rfl)
theorem dX0_line_150 : decode cX0_line 150 = .ok (.iload_n 2, 1) := dk_28 (dk_at dksX0_line_6 10 rfl rfl)
theorem dX0_line_151 : decode cX0_line 151 = .ok (.invokevirtual 42, 3) := dk_182 0 42 (dk_at dksX0_line_6 11 rfl rfl)
theorem dX0_line_154 : decode cX0_line 154 = .ok (.checkcast 145, 3) := dk_192 0 145 (dk_at dksX0_line_6 14 rfl rfl)
theorem dX0_line_157 : decode cX0_line 157 = .ok (.getfield 178, 3) := dk_180 0 178 (dk_at dksX0_line_6 17 rfl rfl)
theorem dX0_line_160 : decode cX0_line 160 = .ok (.goto 20, 3) := dk_167 0 20 (dk_at dksX0_line_6 20 rfl rfl)
theorem dX0_line_163 : decode cX0_line 163 = .ok (.aload_n 0, 1) := dk_42 (dk_at dksX0_line_6 23 rfl rfl)
theorem dX0_line_164 : decode cX0_line 164 = .ok (.getfield 26, 3) := dk_180 0 26 (dk_at dksX0_line_7 0 rfl rfl)
theorem dX0_line_167 : decode cX0_line 167 = .ok (.getfield 138, 3) := dk_180 0 138 (dk_at dksX0_line_7 3 rfl rfl)
theorem dX0_line_170 : decode cX0_line 170 = .ok (.iload_n 2, 1) := dk_28 (dk_at dksX0_line_7 6 rfl rfl)
theorem dX0_line_171 : decode cX0_line 171 = .ok (.invokevirtual 42, 3) := dk_182 0 42 (dk_at dksX0_line_7 7 rfl rfl)
theorem dX0_line_174 : decode cX0_line 174 = .ok (.checkcast 145, 3) := dk_192 0 145 (dk_at dksX0_line_7 10 rfl rfl)
theorem dX0_line_177 : decode cX0_line 177 = .ok (.getfield 178, 3) := dk_180 0 178 (dk_at dksX0_line_7 13 rfl rfl)
theorem dX0_line_180 : decode cX0_line 180 = .ok (.astore 7, 2) := dk_58 7 (dk_at dksX0_line_7 16 rfl rfl)
theorem dX0_line_182 : decode cX0_line 182 = .ok (.aload 7, 2) := dk_25 7 (dk_at dksX0_line_7 18 rfl rfl)
theorem dX0_line_184 : decode cX0_line 184 = .ok (.invokevirtual 36, 3) := dk_182 0 36 (dk_at dksX0_line_7 20 rfl rfl)
theorem dX0_line_187 : decode cX0_line 187 = .ok (.bipush 12, 2) := dk_16 12 (dk_at dksX0_line_8 0 rfl rfl)
theorem dX0_line_189 : decode cX0_line 189 = .ok (.if_icmp .ne 10, 3) := dk_160 0 10 (dk_at dksX0_line_8 2 rfl rfl)
theorem dX0_line_192 : decode cX0_line 192 = .ok (.aload_n 0, 1) := dk_42 (dk_at dksX0_line_8 5 rfl rfl)
theorem dX0_line_193 : decode cX0_line 193 = .ok (.bipush (-4), 2) := dk_16 252 (dk_at dksX0_line_8 6 rfl rfl)
theorem dX0_line_195 : decode cX0_line 195 = .ok (.invokevirtual 119, 3) := dk_182 0 119 (dk_at dksX0_line_8 8 rfl rfl)
theorem dX0_line_198 : decode cX0_line 198 = .ok (.ireturn, 1) := dk_172 (dk_at dksX0_line_8 11 rfl rfl)
theorem dX0_line_199 : decode cX0_line 199 = .ok (.aload_n 0, 1) := dk_42 (dk_at dksX0_line_8 12 rfl rfl)
theorem dX0_line_200 : decode cX0_line 200 = .ok (.iconst 0, 1) := dk_3 (dk_at dksX0_line_8 13 rfl rfl)
theorem dX0_line_201 : decode cX0_line 201 = .ok (.putfield 141, 3) := dk_181 0 141 (dk_at dksX0_line_8 14 rfl rfl)
theorem dX0_line_204 : decode cX0_line 204 = .ok (.aload 7, 2) := dk_25 7 (dk_at dksX0_line_8 17 rfl rfl)
theorem dX0_line_206 : decode cX0_line 206 = .ok (.aload 6, 2) := dk_25 6 (dk_at dksX0_line_8 19 rfl rfl)
theorem dX0_line_208 : decode cX0_line 208 = .ok (.invokevirtual 150, 3) := dk_182 0 150 (dk_at dksX0_line_8 21 rfl rfl)
theorem dX0_line_211 : decode cX0_line 211 = .ok (.pop, 1) := dk_87 (dk_at dksX0_line_9 0 rfl rfl)
theorem dX0_line_212 : decode cX0_line 212 = .ok (.aload 7, 2) := dk_25 7 (dk_at dksX0_line_9 1 rfl rfl)
theorem dX0_line_214 : decode cX0_line 214 = .ok (.invokevirtual 36, 3) := dk_182 0 36 (dk_at dksX0_line_9 3 rfl rfl)
theorem dX0_line_217 : decode cX0_line 217 = .ok (.iconst 1, 1) := dk_4 (dk_at dksX0_line_9 6 rfl rfl)
theorem dX0_line_218 : decode cX0_line 218 = .ok (.isub, 1) := dk_100 (dk_at dksX0_line_9 7 rfl rfl)
theorem dX0_line_219 : decode cX0_line 219 = .ok (.ireturn, 1) := dk_172 (dk_at dksX0_line_9 8 rfl rfl)
abbrev cX0_isSong : ByteArray := prog_1_method_12_code
def yX0_isSong : MethodName := ⟨RX0, "isSong", "(I)Z"⟩
def dkwX0_isSong_0 : List UInt8 := [27, 133, 9, 42, 180, 0, 26, 180, 0, 135, 182, 0, 36, 4, 100, 133, 184, 0, 111, 172]
abbrev dktX0_isSong_0 : List UInt8 := dkwX0_isSong_0 ++ []
theorem dksX0_isSong_0 : cX0_isSong.data.toList.drop 0 = dktX0_isSong_0 := by decide +kernel
theorem dX0_isSong_0 : decode cX0_isSong 0 = .ok (.iload_n 1, 1) := dk_27 (dk_at dksX0_isSong_0 0 rfl rfl)
theorem dX0_isSong_1 : decode cX0_isSong 1 = .ok (.i2l, 1) := dk_133 (dk_at dksX0_isSong_0 1 rfl rfl)
theorem dX0_isSong_2 : decode cX0_isSong 2 = .ok (.lconst 0, 1) := dk_9 (dk_at dksX0_isSong_0 2 rfl rfl)
theorem dX0_isSong_3 : decode cX0_isSong 3 = .ok (.aload_n 0, 1) := dk_42 (dk_at dksX0_isSong_0 3 rfl rfl)
theorem dX0_isSong_4 : decode cX0_isSong 4 = .ok (.getfield 26, 3) := dk_180 0 26 (dk_at dksX0_isSong_0 4 rfl rfl)
theorem dX0_isSong_7 : decode cX0_isSong 7 = .ok (.getfield 135, 3) := dk_180 0 135 (dk_at dksX0_isSong_0 7 rfl rfl)
theorem dX0_isSong_10 : decode cX0_isSong 10 = .ok (.invokevirtual 36, 3) := dk_182 0 36 (dk_at dksX0_isSong_0 10 rfl rfl)
theorem dX0_isSong_13 : decode cX0_isSong 13 = .ok (.iconst 1, 1) := dk_4 (dk_at dksX0_isSong_0 13 rfl rfl)
theorem dX0_isSong_14 : decode cX0_isSong 14 = .ok (.isub, 1) := dk_100 (dk_at dksX0_isSong_0 14 rfl rfl)
theorem dX0_isSong_15 : decode cX0_isSong 15 = .ok (.i2l, 1) := dk_133 (dk_at dksX0_isSong_0 15 rfl rfl)
theorem dX0_isSong_16 : decode cX0_isSong 16 = .ok (.invokestatic 111, 3) := dk_184 0 111 (dk_at dksX0_isSong_0 16 rfl rfl)
theorem dX0_isSong_19 : decode cX0_isSong 19 = .ok (.ireturn, 1) := dk_172 (dk_at dksX0_isSong_0 19 rfl rfl)
abbrev cX0_isBook : ByteArray := prog_1_method_13_code
def yX0_isBook : MethodName := ⟨RX0, "isBook", "(I)Z"⟩
def dkwX0_isBook_0 : List UInt8 := [27, 133, 9, 42, 180, 0, 26, 180, 0, 138, 182, 0, 36, 4, 100, 133, 184, 0, 111, 172]
abbrev dktX0_isBook_0 : List UInt8 := dkwX0_isBook_0 ++ []
theorem dksX0_isBook_0 : cX0_isBook.data.toList.drop 0 = dktX0_isBook_0 := by decide +kernel
theorem dX0_isBook_0 : decode cX0_isBook 0 = .ok (.iload_n 1, 1) := dk_27 (dk_at dksX0_isBook_0 0 rfl rfl)
theorem dX0_isBook_1 : decode cX0_isBook 1 = .ok (.i2l, 1) := dk_133 (dk_at dksX0_isBook_0 1 rfl rfl)
theorem dX0_isBook_2 : decode cX0_isBook 2 = .ok (.lconst 0, 1) := dk_9 (dk_at dksX0_isBook_0 2 rfl rfl)
theorem dX0_isBook_3 : decode cX0_isBook 3 = .ok (.aload_n 0, 1) := dk_42 (dk_at dksX0_isBook_0 3 rfl rfl)
theorem dX0_isBook_4 : decode cX0_isBook 4 = .ok (.getfield 26, 3) := dk_180 0 26 (dk_at dksX0_isBook_0 4 rfl rfl)
theorem dX0_isBook_7 : decode cX0_isBook 7 = .ok (.getfield 138, 3) := dk_180 0 138 (dk_at dksX0_isBook_0 7 rfl rfl)
theorem dX0_isBook_10 : decode cX0_isBook 10 = .ok (.invokevirtual 36, 3) := dk_182 0 36 (dk_at dksX0_isBook_0 10 rfl rfl)
theorem dX0_isBook_13 : decode cX0_isBook 13 = .ok (.iconst 1, 1) := dk_4 (dk_at dksX0_isBook_0 13 rfl rfl)
theorem dX0_isBook_14 : decode cX0_isBook 14 = .ok (.isub, 1) := dk_100 (dk_at dksX0_isBook_0 14 rfl rfl)
theorem dX0_isBook_15 : decode cX0_isBook 15 = .ok (.i2l, 1) := dk_133 (dk_at dksX0_isBook_0 15 rfl rfl)
theorem dX0_isBook_16 : decode cX0_isBook 16 = .ok (.invokestatic 111, 3) := dk_184 0 111 (dk_at dksX0_isBook_0 16 rfl rfl)
theorem dX0_isBook_19 : decode cX0_isBook 19 = .ok (.ireturn, 1) := dk_172 (dk_at dksX0_isBook_0 19 rfl rfl)
abbrev cX0_hasWords : ByteArray := prog_1_method_10_code
def yX0_hasWords : MethodName := ⟨RX0, "hasWords", "(J)Z"⟩
def dkwX0_hasWords_0 : List UInt8 := [30, 16, 56, 125, 9, 148, 153, 0, 7, 4, 167, 0, 4, 3, 172]
abbrev dktX0_hasWords_0 : List UInt8 := dkwX0_hasWords_0 ++ []
theorem dksX0_hasWords_0 : cX0_hasWords.data.toList.drop 0 = dktX0_hasWords_0 := by decide +kernel
theorem dX0_hasWords_0 : decode cX0_hasWords 0 = .ok (.lload_n 0, 1) := dk_30 (dk_at dksX0_hasWords_0 0 rfl rfl)
theorem dX0_hasWords_1 : decode cX0_hasWords 1 = .ok (.bipush 56, 2) := dk_16 56 (dk_at dksX0_hasWords_0 1 rfl rfl)
theorem dX0_hasWords_3 : decode cX0_hasWords 3 = .ok (.lushr, 1) := dk_125 (dk_at dksX0_hasWords_0 3 rfl rfl)
theorem dX0_hasWords_4 : decode cX0_hasWords 4 = .ok (.lconst 0, 1) := dk_9 (dk_at dksX0_hasWords_0 4 rfl rfl)
theorem dX0_hasWords_5 : decode cX0_hasWords 5 = .ok (.lcmp, 1) := dk_148 (dk_at dksX0_hasWords_0 5 rfl rfl)
theorem dX0_hasWords_6 : decode cX0_hasWords 6 = .ok (.ifCond .eq 7, 3) := dk_153 0 7 (dk_at dksX0_hasWords_0 6 rfl rfl)
theorem dX0_hasWords_9 : decode cX0_hasWords 9 = .ok (.iconst 1, 1) := dk_4 (dk_at dksX0_hasWords_0 9 rfl rfl)
theorem dX0_hasWords_10 : decode cX0_hasWords 10 = .ok (.goto 4, 3) := dk_167 0 4 (dk_at dksX0_hasWords_0 10 rfl rfl)
theorem dX0_hasWords_13 : decode cX0_hasWords 13 = .ok (.iconst 0, 1) := dk_3 (dk_at dksX0_hasWords_0 13 rfl rfl)
theorem dX0_hasWords_14 : decode cX0_hasWords 14 = .ok (.ireturn, 1) := dk_172 (dk_at dksX0_hasWords_0 14 rfl rfl)
abbrev cX0_print : ByteArray := prog_1_method_16_code
def yX0_print : MethodName := ⟨RX0, "print", "(I)I"⟩
def dkwX0_print_1 : List UInt8 := [180, 0, 26, 27, 181, 0, 181, 42, 3, 181, 0, 141, 28, 172]
abbrev dktX0_print_1 : List UInt8 := dkwX0_print_1 ++ []
def dkwX0_print_0 : List UInt8 := [27, 184, 0, 130, 154, 0, 10, 42, 16, 253, 182, 0, 119, 172, 42, 180, 0, 26, 180, 0, 181, 61, 42]
abbrev dktX0_print_0 : List UInt8 := dkwX0_print_0 ++ dktX0_print_1
theorem dksX0_print_0 : cX0_print.data.toList.drop 0 = dktX0_print_0 := by decide +kernel
theorem dksX0_print_1 : cX0_print.data.toList.drop 23 = dktX0_print_1 := dk_seg dksX0_print_0 23 rfl rfl
theorem dX0_print_0 : decode cX0_print 0 = .ok (.iload_n 1, 1) := dk_27 (dk_at dksX0_print_0 0 rfl rfl)
theorem dX0_print_1 : decode cX0_print 1 = .ok (.invokestatic 130, 3) := dk_184 0 130 (dk_at dksX0_print_0 1 rfl rfl)
theorem dX0_print_4 : decode cX0_print 4 = .ok (.ifCond .ne 10, 3) := dk_154 0 10 (dk_at dksX0_print_0 4 rfl rfl)
theorem dX0_print_7 : decode cX0_print 7 = .ok (.aload_n 0, 1) := dk_42 (dk_at dksX0_print_0 7 rfl rfl)
theorem dX0_print_8 : decode cX0_print 8 = .ok (.bipush (-3), 2) := dk_16 253 (dk_at dksX0_print_0 8 rfl rfl)
theorem dX0_print_10 : decode cX0_print 10 = .ok (.invokevirtual 119, 3) := dk_182 0 119 (dk_at dksX0_print_0 10 rfl rfl)
theorem dX0_print_13 : decode cX0_print 13 = .ok (.ireturn, 1) := dk_172 (dk_at dksX0_print_0 13 rfl rfl)
theorem dX0_print_14 : decode cX0_print 14 = .ok (.aload_n 0, 1) := dk_42 (dk_at dksX0_print_0 14 rfl rfl)
theorem dX0_print_15 : decode cX0_print 15 = .ok (.getfield 26, 3) := dk_180 0 26 (dk_at dksX0_print_0 15 rfl rfl)
theorem dX0_print_18 : decode cX0_print 18 = .ok (.getfield 181, 3) := dk_180 0 181 (dk_at dksX0_print_0 18 rfl rfl)
theorem dX0_print_21 : decode cX0_print 21 = .ok (.istore_n 2, 1) := dk_61 (dk_at dksX0_print_0 21 rfl rfl)
theorem dX0_print_22 : decode cX0_print 22 = .ok (.aload_n 0, 1) := dk_42 (dk_at dksX0_print_0 22 rfl rfl)
theorem dX0_print_23 : decode cX0_print 23 = .ok (.getfield 26, 3) := dk_180 0 26 (dk_at dksX0_print_1 0 rfl rfl)
theorem dX0_print_26 : decode cX0_print 26 = .ok (.iload_n 1, 1) := dk_27 (dk_at dksX0_print_1 3 rfl rfl)
theorem dX0_print_27 : decode cX0_print 27 = .ok (.putfield 181, 3) := dk_181 0 181 (dk_at dksX0_print_1 4 rfl rfl)
theorem dX0_print_30 : decode cX0_print 30 = .ok (.aload_n 0, 1) := dk_42 (dk_at dksX0_print_1 7 rfl rfl)
theorem dX0_print_31 : decode cX0_print 31 = .ok (.iconst 0, 1) := dk_3 (dk_at dksX0_print_1 8 rfl rfl)
theorem dX0_print_32 : decode cX0_print 32 = .ok (.putfield 141, 3) := dk_181 0 141 (dk_at dksX0_print_1 9 rfl rfl)
theorem dX0_print_35 : decode cX0_print 35 = .ok (.iload_n 2, 1) := dk_28 (dk_at dksX0_print_1 12 rfl rfl)
theorem dX0_print_36 : decode cX0_print 36 = .ok (.ireturn, 1) := dk_172 (dk_at dksX0_print_1 13 rfl rfl)
abbrev cX0_bounds : ByteArray := prog_1_method_17_code
def yX0_bounds : MethodName := ⟨RX0, "bounds", "(II)I"⟩
def dkwX0_bounds_1 : List UInt8 := [16, 253, 182, 0, 119, 172, 42, 180, 0, 26, 27, 181, 0, 186, 42, 180, 0, 26, 28, 181, 0, 189, 3, 172]
abbrev dktX0_bounds_1 : List UInt8 := dkwX0_bounds_1 ++ []
def dkwX0_bounds_0 : List UInt8 := [27, 133, 10, 20, 0, 184, 184, 0, 111, 153, 0, 14, 28, 133, 10, 27, 133, 184, 0, 111, 154, 0, 10, 42]
abbrev dktX0_bounds_0 : List UInt8 := dkwX0_bounds_0 ++ dktX0_bounds_1
theorem dksX0_bounds_0 : cX0_bounds.data.toList.drop 0 = dktX0_bounds_0 := by decide +kernel
theorem dksX0_bounds_1 : cX0_bounds.data.toList.drop 24 = dktX0_bounds_1 := dk_seg dksX0_bounds_0 24 rfl rfl
theorem dX0_bounds_0 : decode cX0_bounds 0 = .ok (.iload_n 1, 1) := dk_27 (dk_at dksX0_bounds_0 0 rfl rfl)
theorem dX0_bounds_1 : decode cX0_bounds 1 = .ok (.i2l, 1) := dk_133 (dk_at dksX0_bounds_0 1 rfl rfl)
theorem dX0_bounds_2 : decode cX0_bounds 2 = .ok (.lconst 1, 1) := dk_10 (dk_at dksX0_bounds_0 2 rfl rfl)
theorem dX0_bounds_3 : decode cX0_bounds 3 = .ok (.ldc2_w 184, 3) := dk_20 0 184 (dk_at dksX0_bounds_0 3 rfl rfl)
theorem dX0_bounds_6 : decode cX0_bounds 6 = .ok (.invokestatic 111, 3) := dk_184 0 111 (dk_at dksX0_bounds_0 6 rfl rfl)
theorem dX0_bounds_9 : decode cX0_bounds 9 = .ok (.ifCond .eq 14, 3) := dk_153 0 14 (dk_at dksX0_bounds_0 9 rfl rfl)
theorem dX0_bounds_12 : decode cX0_bounds 12 = .ok (.iload_n 2, 1) := dk_28 (dk_at dksX0_bounds_0 12 rfl rfl)
theorem dX0_bounds_13 : decode cX0_bounds 13 = .ok (.i2l, 1) := dk_133 (dk_at dksX0_bounds_0 13 rfl rfl)
theorem dX0_bounds_14 : decode cX0_bounds 14 = .ok (.lconst 1, 1) := dk_10 (dk_at dksX0_bounds_0 14 rfl rfl)
theorem dX0_bounds_15 : decode cX0_bounds 15 = .ok (.iload_n 1, 1) := dk_27 (dk_at dksX0_bounds_0 15 rfl rfl)
theorem dX0_bounds_16 : decode cX0_bounds 16 = .ok (.i2l, 1) := dk_133 (dk_at dksX0_bounds_0 16 rfl rfl)
theorem dX0_bounds_17 : decode cX0_bounds 17 = .ok (.invokestatic 111, 3) := dk_184 0 111 (dk_at dksX0_bounds_0 17 rfl rfl)
theorem dX0_bounds_20 : decode cX0_bounds 20 = .ok (.ifCond .ne 10, 3) := dk_154 0 10 (dk_at dksX0_bounds_0 20 rfl rfl)
theorem dX0_bounds_23 : decode cX0_bounds 23 = .ok (.aload_n 0, 1) := dk_42 (dk_at dksX0_bounds_0 23 rfl rfl)
theorem dX0_bounds_24 : decode cX0_bounds 24 = .ok (.bipush (-3), 2) := dk_16 253 (dk_at dksX0_bounds_1 0 rfl rfl)
theorem dX0_bounds_26 : decode cX0_bounds 26 = .ok (.invokevirtual 119, 3) := dk_182 0 119 (dk_at dksX0_bounds_1 2 rfl rfl)
theorem dX0_bounds_29 : decode cX0_bounds 29 = .ok (.ireturn, 1) := dk_172 (dk_at dksX0_bounds_1 5 rfl rfl)
theorem dX0_bounds_30 : decode cX0_bounds 30 = .ok (.aload_n 0, 1) := dk_42 (dk_at dksX0_bounds_1 6 rfl rfl)
theorem dX0_bounds_31 : decode cX0_bounds 31 = .ok (.getfield 26, 3) := dk_180 0 26 (dk_at dksX0_bounds_1 7 rfl rfl)
theorem dX0_bounds_34 : decode cX0_bounds 34 = .ok (.iload_n 1, 1) := dk_27 (dk_at dksX0_bounds_1 10 rfl rfl)
theorem dX0_bounds_35 : decode cX0_bounds 35 = .ok (.putfield 186, 3) := dk_181 0 186 (dk_at dksX0_bounds_1 11 rfl rfl)
theorem dX0_bounds_38 : decode cX0_bounds 38 = .ok (.aload_n 0, 1) := dk_42 (dk_at dksX0_bounds_1 14 rfl rfl)
theorem dX0_bounds_39 : decode cX0_bounds 39 = .ok (.getfield 26, 3) := dk_180 0 26 (dk_at dksX0_bounds_1 15 rfl rfl)
theorem dX0_bounds_42 : decode cX0_bounds 42 = .ok (.iload_n 2, 1) := dk_28 (dk_at dksX0_bounds_1 18 rfl rfl)
theorem dX0_bounds_43 : decode cX0_bounds 43 = .ok (.putfield 189, 3) := dk_181 0 189 (dk_at dksX0_bounds_1 19 rfl rfl)
theorem dX0_bounds_46 : decode cX0_bounds 46 = .ok (.iconst 0, 1) := dk_3 (dk_at dksX0_bounds_1 22 rfl rfl)
theorem dX0_bounds_47 : decode cX0_bounds 47 = .ok (.ireturn, 1) := dk_172 (dk_at dksX0_bounds_1 23 rfl rfl)
abbrev cX0_words : ByteArray := prog_1_method_19_code
def yX0_words : MethodName := ⟨RX0, "words", "(III)J"⟩
def dkwX0_words_1 : List UInt8 := [25, 4, 182, 0, 214, 173]
abbrev dktX0_words_1 : List UInt8 := dkwX0_words_1 ++ []
def dkwX0_words_0 : List UInt8 := [42, 27, 28, 29, 182, 0, 210, 58, 4, 25, 4, 199, 0, 13, 42, 16, 254, 182, 0, 119, 133, 167, 0, 8]
abbrev dktX0_words_0 : List UInt8 := dkwX0_words_0 ++ dktX0_words_1
theorem dksX0_words_0 : cX0_words.data.toList.drop 0 = dktX0_words_0 := by decide +kernel
theorem dksX0_words_1 : cX0_words.data.toList.drop 24 = dktX0_words_1 := dk_seg dksX0_words_0 24 rfl rfl
theorem dX0_words_0 : decode cX0_words 0 = .ok (.aload_n 0, 1) := dk_42 (dk_at dksX0_words_0 0 rfl rfl)
theorem dX0_words_1 : decode cX0_words 1 = .ok (.iload_n 1, 1) := dk_27 (dk_at dksX0_words_0 1 rfl rfl)
theorem dX0_words_2 : decode cX0_words 2 = .ok (.iload_n 2, 1) := dk_28 (dk_at dksX0_words_0 2 rfl rfl)
theorem dX0_words_3 : decode cX0_words 3 = .ok (.iload_n 3, 1) := dk_29 (dk_at dksX0_words_0 3 rfl rfl)
theorem dX0_words_4 : decode cX0_words 4 = .ok (.invokevirtual 210, 3) := dk_182 0 210 (dk_at dksX0_words_0 4 rfl rfl)
theorem dX0_words_7 : decode cX0_words 7 = .ok (.astore 4, 2) := dk_58 4 (dk_at dksX0_words_0 7 rfl rfl)
theorem dX0_words_9 : decode cX0_words 9 = .ok (.aload 4, 2) := dk_25 4 (dk_at dksX0_words_0 9 rfl rfl)
theorem dX0_words_11 : decode cX0_words 11 = .ok (.ifnonnull 13, 3) := dk_199 0 13 (dk_at dksX0_words_0 11 rfl rfl)
theorem dX0_words_14 : decode cX0_words 14 = .ok (.aload_n 0, 1) := dk_42 (dk_at dksX0_words_0 14 rfl rfl)
theorem dX0_words_15 : decode cX0_words 15 = .ok (.bipush (-2), 2) := dk_16 254 (dk_at dksX0_words_0 15 rfl rfl)
theorem dX0_words_17 : decode cX0_words 17 = .ok (.invokevirtual 119, 3) := dk_182 0 119 (dk_at dksX0_words_0 17 rfl rfl)
theorem dX0_words_20 : decode cX0_words 20 = .ok (.i2l, 1) := dk_133 (dk_at dksX0_words_0 20 rfl rfl)
theorem dX0_words_21 : decode cX0_words 21 = .ok (.goto 8, 3) := dk_167 0 8 (dk_at dksX0_words_0 21 rfl rfl)
theorem dX0_words_24 : decode cX0_words 24 = .ok (.aload 4, 2) := dk_25 4 (dk_at dksX0_words_1 0 rfl rfl)
theorem dX0_words_26 : decode cX0_words 26 = .ok (.invokevirtual 214, 3) := dk_182 0 214 (dk_at dksX0_words_1 2 rfl rfl)
theorem dX0_words_29 : decode cX0_words 29 = .ok (.lreturn, 1) := dk_173 (dk_at dksX0_words_1 5 rfl rfl)
abbrev cX0_lineAt : ByteArray := prog_1_method_18_code
def yX0_lineAt : MethodName := ⟨RX0, "lineAt", "(III)LNobodysBard$Phrase;"⟩
def dkwX0_lineAt_13 : List UInt8 := [176, 1, 176]
abbrev dktX0_lineAt_13 : List UInt8 := dkwX0_lineAt_13 ++ []
def dkwX0_lineAt_12 : List UInt8 := [153, 0, 23, 42, 180, 0, 26, 180, 0, 199, 28, 182, 0, 42, 192, 0, 202, 180, 0, 207, 167, 0, 4, 1]
abbrev dktX0_lineAt_12 : List UInt8 := dkwX0_lineAt_12 ++ dktX0_lineAt_13
def dkwX0_lineAt_11 : List UInt8 := [167, 0, 4, 1, 176, 28, 133, 9, 42, 180, 0, 26, 180, 0, 199, 182, 0, 36, 4, 100, 133, 184, 0, 111]
abbrev dktX0_lineAt_11 : List UInt8 := dkwX0_lineAt_11 ++ dktX0_lineAt_12
def dkwX0_lineAt_10 : List UInt8 := [184, 0, 111, 153, 0, 23, 42, 180, 0, 26, 180, 0, 199, 28, 182, 0, 42, 192, 0, 202, 180, 0, 204]
abbrev dktX0_lineAt_10 : List UInt8 := dkwX0_lineAt_10 ++ dktX0_lineAt_11
def dkwX0_lineAt_9 : List UInt8 := [180, 0, 195, 167, 0, 4, 1, 176, 28, 133, 9, 42, 180, 0, 26, 180, 0, 199, 182, 0, 36, 4, 100, 133]
abbrev dktX0_lineAt_9 : List UInt8 := dkwX0_lineAt_9 ++ dktX0_lineAt_10
def dkwX0_lineAt_8 : List UInt8 := [176, 42, 29, 182, 0, 192, 153, 0, 23, 42, 180, 0, 26, 180, 0, 154, 29, 182, 0, 42, 192, 0, 173]
abbrev dktX0_lineAt_8 : List UInt8 := dkwX0_lineAt_8 ++ dktX0_lineAt_9
def dkwX0_lineAt_7 : List UInt8 := [180, 0, 138, 28, 182, 0, 42, 192, 0, 145, 180, 0, 178, 29, 182, 0, 42, 192, 0, 2, 167, 0, 4, 1]
abbrev dktX0_lineAt_7 : List UInt8 := dkwX0_lineAt_7 ++ dktX0_lineAt_8
def dkwX0_lineAt_6 : List UInt8 := [192, 0, 145, 180, 0, 178, 182, 0, 36, 4, 100, 133, 184, 0, 111, 153, 0, 30, 42, 180, 0, 26]
abbrev dktX0_lineAt_6 : List UInt8 := dkwX0_lineAt_6 ++ dktX0_lineAt_7
def dkwX0_lineAt_5 : List UInt8 := [176, 42, 28, 182, 0, 162, 153, 0, 62, 29, 133, 9, 42, 180, 0, 26, 180, 0, 138, 28, 182, 0, 42]
abbrev dktX0_lineAt_5 : List UInt8 := dkwX0_lineAt_5 ++ dktX0_lineAt_6
def dkwX0_lineAt_4 : List UInt8 := [180, 0, 135, 28, 182, 0, 42, 192, 0, 145, 180, 0, 178, 29, 182, 0, 42, 192, 0, 2, 167, 0, 4, 1]
abbrev dktX0_lineAt_4 : List UInt8 := dkwX0_lineAt_4 ++ dktX0_lineAt_5
def dkwX0_lineAt_3 : List UInt8 := [192, 0, 145, 180, 0, 178, 182, 0, 36, 4, 100, 133, 184, 0, 111, 153, 0, 30, 42, 180, 0, 26]
abbrev dktX0_lineAt_3 : List UInt8 := dkwX0_lineAt_3 ++ dktX0_lineAt_4
def dkwX0_lineAt_2 : List UInt8 := [42, 28, 182, 0, 159, 153, 0, 62, 29, 133, 9, 42, 180, 0, 26, 180, 0, 135, 28, 182, 0, 42]
abbrev dktX0_lineAt_2 : List UInt8 := dkwX0_lineAt_2 ++ dktX0_lineAt_3
def dkwX0_lineAt_1 : List UInt8 := [170, 0, 0, 0, 0, 1, 35, 0, 0, 0, 0, 0, 0, 0, 4, 0, 0, 0, 35, 0, 0, 0, 104, 0, 0, 0, 173, 0, 0, 0, 203, 0, 0, 0, 247]
abbrev dktX0_lineAt_1 : List UInt8 := dkwX0_lineAt_1 ++ dktX0_lineAt_2
def dkwX0_lineAt_0 : List UInt8 := [27]
abbrev dktX0_lineAt_0 : List UInt8 := dkwX0_lineAt_0 ++ dktX0_lineAt_1
theorem dksX0_lineAt_0 : cX0_lineAt.data.toList.drop 0 = dktX0_lineAt_0 := by decide +kernel
theorem dksX0_lineAt_1 : cX0_lineAt.data.toList.drop 1 = dktX0_lineAt_1 := dk_seg dksX0_lineAt_0 1 rfl rfl
theorem dksX0_lineAt_2 : cX0_lineAt.data.toList.drop 36 = dktX0_lineAt_2 := dk_seg dksX0_lineAt_1 35 rfl rfl
theorem dksX0_lineAt_3 : cX0_lineAt.data.toList.drop 58 = dktX0_lineAt_3 := dk_seg dksX0_lineAt_2 22 rfl rfl
theorem dksX0_lineAt_4 : cX0_lineAt.data.toList.drop 80 = dktX0_lineAt_4 := dk_seg dksX0_lineAt_3 22 rfl rfl
theorem dksX0_lineAt_5 : cX0_lineAt.data.toList.drop 104 = dktX0_lineAt_5 := dk_seg dksX0_lineAt_4 24 rfl rfl
theorem dksX0_lineAt_6 : cX0_lineAt.data.toList.drop 127 = dktX0_lineAt_6 := dk_seg dksX0_lineAt_5 23 rfl rfl
theorem dksX0_lineAt_7 : cX0_lineAt.data.toList.drop 149 = dktX0_lineAt_7 := dk_seg dksX0_lineAt_6 22 rfl rfl
theorem dksX0_lineAt_8 : cX0_lineAt.data.toList.drop 173 = dktX0_lineAt_8 := dk_seg dksX0_lineAt_7 24 rfl rfl
theorem dksX0_lineAt_9 : cX0_lineAt.data.toList.drop 196 = dktX0_lineAt_9 := dk_seg dksX0_lineAt_8 23 rfl rfl
theorem dksX0_lineAt_10 : cX0_lineAt.data.toList.drop 220 = dktX0_lineAt_10 := dk_seg dksX0_lineAt_9 24 rfl rfl
theorem dksX0_lineAt_11 : cX0_lineAt.data.toList.drop 243 = dktX0_lineAt_11 := dk_seg dksX0_lineAt_10 23 rfl rfl
theorem dksX0_lineAt_12 : cX0_lineAt.data.toList.drop 267 = dktX0_lineAt_12 := dk_seg dksX0_lineAt_11 24 rfl rfl
theorem dksX0_lineAt_13 : cX0_lineAt.data.toList.drop 291 = dktX0_lineAt_13 := dk_seg dksX0_lineAt_12 24 rfl rfl
theorem dX0_lineAt_0 : decode cX0_lineAt 0 = .ok (.iload_n 1, 1) := dk_27 (dk_at dksX0_lineAt_0 0 rfl rfl)
theorem dX0_lineAt_1 : decode cX0_lineAt 1 = .ok (.tableswitch 291 0 4 #[35, 104, 173, 203, 247], 35) := by decide +kernel
theorem dX0_lineAt_36 : decode cX0_lineAt 36 = .ok (.aload_n 0, 1) := dk_42 (dk_at dksX0_lineAt_2 0 rfl rfl)
theorem dX0_lineAt_37 : decode cX0_lineAt 37 = .ok (.iload_n 2, 1) := dk_28 (dk_at dksX0_lineAt_2 1 rfl rfl)
theorem dX0_lineAt_38 : decode cX0_lineAt 38 = .ok (.invokevirtual 159, 3) := dk_182 0 159 (dk_at dksX0_lineAt_2 2 rfl rfl)
theorem dX0_lineAt_41 : decode cX0_lineAt 41 = .ok (.ifCond .eq 62, 3) := dk_153 0 62 (dk_at dksX0_lineAt_2 5 rfl rfl)
theorem dX0_lineAt_44 : decode cX0_lineAt 44 = .ok (.iload_n 3, 1) := dk_29 (dk_at dksX0_lineAt_2 8 rfl rfl)
theorem dX0_lineAt_45 : decode cX0_lineAt 45 = .ok (.i2l, 1) := dk_133 (dk_at dksX0_lineAt_2 9 rfl rfl)
theorem dX0_lineAt_46 : decode cX0_lineAt 46 = .ok (.lconst 0, 1) := dk_9 (dk_at dksX0_lineAt_2 10 rfl rfl)
theorem dX0_lineAt_47 : decode cX0_lineAt 47 = .ok (.aload_n 0, 1) := dk_42 (dk_at dksX0_lineAt_2 11 rfl rfl)
theorem dX0_lineAt_48 : decode cX0_lineAt 48 = .ok (.getfield 26, 3) := dk_180 0 26 (dk_at dksX0_lineAt_2 12 rfl rfl)
theorem dX0_lineAt_51 : decode cX0_lineAt 51 = .ok (.getfield 135, 3) := dk_180 0 135 (dk_at dksX0_lineAt_2 15 rfl rfl)
theorem dX0_lineAt_54 : decode cX0_lineAt 54 = .ok (.iload_n 2, 1) := dk_28 (dk_at dksX0_lineAt_2 18 rfl rfl)
theorem dX0_lineAt_55 : decode cX0_lineAt 55 = .ok (.invokevirtual 42, 3) := dk_182 0 42 (dk_at dksX0_lineAt_2 19 rfl rfl)
theorem dX0_lineAt_58 : decode cX0_lineAt 58 = .ok (.checkcast 145, 3) := dk_192 0 145 (dk_at dksX0_lineAt_3 0 rfl rfl)
theorem dX0_lineAt_61 : decode cX0_lineAt 61 = .ok (.getfield 178, 3) := dk_180 0 178 (dk_at dksX0_lineAt_3 3 rfl rfl)
theorem dX0_lineAt_64 : decode cX0_lineAt 64 = .ok (.invokevirtual 36, 3) := dk_182 0 36 (dk_at dksX0_lineAt_3 6 rfl rfl)
theorem dX0_lineAt_67 : decode cX0_lineAt 67 = .ok (.iconst 1, 1) := dk_4 (dk_at dksX0_lineAt_3 9 rfl rfl)
theorem dX0_lineAt_68 : decode cX0_lineAt 68 = .ok (.isub, 1) := dk_100 (dk_at dksX0_lineAt_3 10 rfl rfl)
theorem dX0_lineAt_69 : decode cX0_lineAt 69 = .ok (.i2l, 1) := dk_133 (dk_at dksX0_lineAt_3 11 rfl rfl)
theorem dX0_lineAt_70 : decode cX0_lineAt 70 = .ok (.invokestatic 111, 3) := dk_184 0 111 (dk_at dksX0_lineAt_3 12 rfl rfl)
theorem dX0_lineAt_73 : decode cX0_lineAt 73 = .ok (.ifCond .eq 30, 3) := dk_153 0 30 (dk_at dksX0_lineAt_3 15 rfl rfl)
theorem dX0_lineAt_76 : decode cX0_lineAt 76 = .ok (.aload_n 0, 1) := dk_42 (dk_at dksX0_lineAt_3 18 rfl rfl)
theorem dX0_lineAt_77 : decode cX0_lineAt 77 = .ok (.getfield 26, 3) := dk_180 0 26 (dk_at dksX0_lineAt_3 19 rfl rfl)
theorem dX0_lineAt_80 : decode cX0_lineAt 80 = .ok (.getfield 135, 3) := dk_180 0 135 (dk_at dksX0_lineAt_4 0 rfl rfl)
theorem dX0_lineAt_83 : decode cX0_lineAt 83 = .ok (.iload_n 2, 1) := dk_28 (dk_at dksX0_lineAt_4 3 rfl rfl)
theorem dX0_lineAt_84 : decode cX0_lineAt 84 = .ok (.invokevirtual 42, 3) := dk_182 0 42 (dk_at dksX0_lineAt_4 4 rfl rfl)
theorem dX0_lineAt_87 : decode cX0_lineAt 87 = .ok (.checkcast 145, 3) := dk_192 0 145 (dk_at dksX0_lineAt_4 7 rfl rfl)
theorem dX0_lineAt_90 : decode cX0_lineAt 90 = .ok (.getfield 178, 3) := dk_180 0 178 (dk_at dksX0_lineAt_4 10 rfl rfl)
theorem dX0_lineAt_93 : decode cX0_lineAt 93 = .ok (.iload_n 3, 1) := dk_29 (dk_at dksX0_lineAt_4 13 rfl rfl)
theorem dX0_lineAt_94 : decode cX0_lineAt 94 = .ok (.invokevirtual 42, 3) := dk_182 0 42 (dk_at dksX0_lineAt_4 14 rfl rfl)
theorem dX0_lineAt_97 : decode cX0_lineAt 97 = .ok (.checkcast 2, 3) := dk_192 0 2 (dk_at dksX0_lineAt_4 17 rfl rfl)
theorem dX0_lineAt_100 : decode cX0_lineAt 100 = .ok (.goto 4, 3) := dk_167 0 4 (dk_at dksX0_lineAt_4 20 rfl rfl)
theorem dX0_lineAt_103 : decode cX0_lineAt 103 = .ok (.aconst_null, 1) := dk_1 (dk_at dksX0_lineAt_4 23 rfl rfl)
theorem dX0_lineAt_104 : decode cX0_lineAt 104 = .ok (.areturn, 1) := dk_176 (dk_at dksX0_lineAt_5 0 rfl rfl)
theorem dX0_lineAt_105 : decode cX0_lineAt 105 = .ok (.aload_n 0, 1) := dk_42 (dk_at dksX0_lineAt_5 1 rfl rfl)
theorem dX0_lineAt_106 : decode cX0_lineAt 106 = .ok (.iload_n 2, 1) := dk_28 (dk_at dksX0_lineAt_5 2 rfl rfl)
theorem dX0_lineAt_107 : decode cX0_lineAt 107 = .ok (.invokevirtual 162, 3) := dk_182 0 162 (dk_at dksX0_lineAt_5 3 rfl rfl)
theorem dX0_lineAt_110 : decode cX0_lineAt 110 = .ok (.ifCond .eq 62, 3) := dk_153 0 62 (dk_at dksX0_lineAt_5 6 rfl rfl)
theorem dX0_lineAt_113 : decode cX0_lineAt 113 = .ok (.iload_n 3, 1) := dk_29 (dk_at dksX0_lineAt_5 9 rfl rfl)
theorem dX0_lineAt_114 : decode cX0_lineAt 114 = .ok (.i2l, 1) := dk_133 (dk_at dksX0_lineAt_5 10 rfl rfl)
theorem dX0_lineAt_115 : decode cX0_lineAt 115 = .ok (.lconst 0, 1) := dk_9 (dk_at dksX0_lineAt_5 11 rfl rfl)
theorem dX0_lineAt_116 : decode cX0_lineAt 116 = .ok (.aload_n 0, 1) := dk_42 (dk_at dksX0_lineAt_5 12 rfl rfl)
theorem dX0_lineAt_117 : decode cX0_lineAt 117 = .ok (.getfield 26, 3) := dk_180 0 26 (dk_at dksX0_lineAt_5 13 rfl rfl)
theorem dX0_lineAt_120 : decode cX0_lineAt 120 = .ok (.getfield 138, 3) := dk_180 0 138 (dk_at dksX0_lineAt_5 16 rfl rfl)
theorem dX0_lineAt_123 : decode cX0_lineAt 123 = .ok (.iload_n 2, 1) := dk_28 (dk_at dksX0_lineAt_5 19 rfl rfl)
theorem dX0_lineAt_124 : decode cX0_lineAt 124 = .ok (.invokevirtual 42, 3) := dk_182 0 42 (dk_at dksX0_lineAt_5 20 rfl rfl)
theorem dX0_lineAt_127 : decode cX0_lineAt 127 = .ok (.checkcast 145, 3) := dk_192 0 145 (dk_at dksX0_lineAt_6 0 rfl rfl)
theorem dX0_lineAt_130 : decode cX0_lineAt 130 = .ok (.getfield 178, 3) := dk_180 0 178 (dk_at dksX0_lineAt_6 3 rfl rfl)
theorem dX0_lineAt_133 : decode cX0_lineAt 133 = .ok (.invokevirtual 36, 3) := dk_182 0 36 (dk_at dksX0_lineAt_6 6 rfl rfl)
theorem dX0_lineAt_136 : decode cX0_lineAt 136 = .ok (.iconst 1, 1) := dk_4 (dk_at dksX0_lineAt_6 9 rfl rfl)
theorem dX0_lineAt_137 : decode cX0_lineAt 137 = .ok (.isub, 1) := dk_100 (dk_at dksX0_lineAt_6 10 rfl rfl)
theorem dX0_lineAt_138 : decode cX0_lineAt 138 = .ok (.i2l, 1) := dk_133 (dk_at dksX0_lineAt_6 11 rfl rfl)
theorem dX0_lineAt_139 : decode cX0_lineAt 139 = .ok (.invokestatic 111, 3) := dk_184 0 111 (dk_at dksX0_lineAt_6 12 rfl rfl)
theorem dX0_lineAt_142 : decode cX0_lineAt 142 = .ok (.ifCond .eq 30, 3) := dk_153 0 30 (dk_at dksX0_lineAt_6 15 rfl rfl)
theorem dX0_lineAt_145 : decode cX0_lineAt 145 = .ok (.aload_n 0, 1) := dk_42 (dk_at dksX0_lineAt_6 18 rfl rfl)
theorem dX0_lineAt_146 : decode cX0_lineAt 146 = .ok (.getfield 26, 3) := dk_180 0 26 (dk_at dksX0_lineAt_6 19 rfl rfl)
theorem dX0_lineAt_149 : decode cX0_lineAt 149 = .ok (.getfield 138, 3) := dk_180 0 138 (dk_at dksX0_lineAt_7 0 rfl rfl)
theorem dX0_lineAt_152 : decode cX0_lineAt 152 = .ok (.iload_n 2, 1) := dk_28 (dk_at dksX0_lineAt_7 3 rfl rfl)
theorem dX0_lineAt_153 : decode cX0_lineAt 153 = .ok (.invokevirtual 42, 3) := dk_182 0 42 (dk_at dksX0_lineAt_7 4 rfl rfl)
theorem dX0_lineAt_156 : decode cX0_lineAt 156 = .ok (.checkcast 145, 3) := dk_192 0 145 (dk_at dksX0_lineAt_7 7 rfl rfl)
theorem dX0_lineAt_159 : decode cX0_lineAt 159 = .ok (.getfield 178, 3) := dk_180 0 178 (dk_at dksX0_lineAt_7 10 rfl rfl)
theorem dX0_lineAt_162 : decode cX0_lineAt 162 = .ok (.iload_n 3, 1) := dk_29 (dk_at dksX0_lineAt_7 13 rfl rfl)
theorem dX0_lineAt_163 : decode cX0_lineAt 163 = .ok (.invokevirtual 42, 3) := dk_182 0 42 (dk_at dksX0_lineAt_7 14 rfl rfl)
theorem dX0_lineAt_166 : decode cX0_lineAt 166 = .ok (.checkcast 2, 3) := dk_192 0 2 (dk_at dksX0_lineAt_7 17 rfl rfl)
theorem dX0_lineAt_169 : decode cX0_lineAt 169 = .ok (.goto 4, 3) := dk_167 0 4 (dk_at dksX0_lineAt_7 20 rfl rfl)
theorem dX0_lineAt_172 : decode cX0_lineAt 172 = .ok (.aconst_null, 1) := dk_1 (dk_at dksX0_lineAt_7 23 rfl rfl)
theorem dX0_lineAt_173 : decode cX0_lineAt 173 = .ok (.areturn, 1) := dk_176 (dk_at dksX0_lineAt_8 0 rfl rfl)
theorem dX0_lineAt_174 : decode cX0_lineAt 174 = .ok (.aload_n 0, 1) := dk_42 (dk_at dksX0_lineAt_8 1 rfl rfl)
theorem dX0_lineAt_175 : decode cX0_lineAt 175 = .ok (.iload_n 3, 1) := dk_29 (dk_at dksX0_lineAt_8 2 rfl rfl)
theorem dX0_lineAt_176 : decode cX0_lineAt 176 = .ok (.invokevirtual 192, 3) := dk_182 0 192 (dk_at dksX0_lineAt_8 3 rfl rfl)
theorem dX0_lineAt_179 : decode cX0_lineAt 179 = .ok (.ifCond .eq 23, 3) := dk_153 0 23 (dk_at dksX0_lineAt_8 6 rfl rfl)
theorem dX0_lineAt_182 : decode cX0_lineAt 182 = .ok (.aload_n 0, 1) := dk_42 (dk_at dksX0_lineAt_8 9 rfl rfl)
theorem dX0_lineAt_183 : decode cX0_lineAt 183 = .ok (.getfield 26, 3) := dk_180 0 26 (dk_at dksX0_lineAt_8 10 rfl rfl)
theorem dX0_lineAt_186 : decode cX0_lineAt 186 = .ok (.getfield 154, 3) := dk_180 0 154 (dk_at dksX0_lineAt_8 13 rfl rfl)
theorem dX0_lineAt_189 : decode cX0_lineAt 189 = .ok (.iload_n 3, 1) := dk_29 (dk_at dksX0_lineAt_8 16 rfl rfl)
theorem dX0_lineAt_190 : decode cX0_lineAt 190 = .ok (.invokevirtual 42, 3) := dk_182 0 42 (dk_at dksX0_lineAt_8 17 rfl rfl)
theorem dX0_lineAt_193 : decode cX0_lineAt 193 = .ok (.checkcast 173, 3) := dk_192 0 173 (dk_at dksX0_lineAt_8 20 rfl rfl)
theorem dX0_lineAt_196 : decode cX0_lineAt 196 = .ok (.getfield 195, 3) := dk_180 0 195 (dk_at dksX0_lineAt_9 0 rfl rfl)
theorem dX0_lineAt_199 : decode cX0_lineAt 199 = .ok (.goto 4, 3) := dk_167 0 4 (dk_at dksX0_lineAt_9 3 rfl rfl)
theorem dX0_lineAt_202 : decode cX0_lineAt 202 = .ok (.aconst_null, 1) := dk_1 (dk_at dksX0_lineAt_9 6 rfl rfl)
theorem dX0_lineAt_203 : decode cX0_lineAt 203 = .ok (.areturn, 1) := dk_176 (dk_at dksX0_lineAt_9 7 rfl rfl)
theorem dX0_lineAt_204 : decode cX0_lineAt 204 = .ok (.iload_n 2, 1) := dk_28 (dk_at dksX0_lineAt_9 8 rfl rfl)
theorem dX0_lineAt_205 : decode cX0_lineAt 205 = .ok (.i2l, 1) := dk_133 (dk_at dksX0_lineAt_9 9 rfl rfl)
theorem dX0_lineAt_206 : decode cX0_lineAt 206 = .ok (.lconst 0, 1) := dk_9 (dk_at dksX0_lineAt_9 10 rfl rfl)
theorem dX0_lineAt_207 : decode cX0_lineAt 207 = .ok (.aload_n 0, 1) := dk_42 (dk_at dksX0_lineAt_9 11 rfl rfl)
theorem dX0_lineAt_208 : decode cX0_lineAt 208 = .ok (.getfield 26, 3) := dk_180 0 26 (dk_at dksX0_lineAt_9 12 rfl rfl)
theorem dX0_lineAt_211 : decode cX0_lineAt 211 = .ok (.getfield 199, 3) := dk_180 0 199 (dk_at dksX0_lineAt_9 15 rfl rfl)
theorem dX0_lineAt_214 : decode cX0_lineAt 214 = .ok (.invokevirtual 36, 3) := dk_182 0 36 (dk_at dksX0_lineAt_9 18 rfl rfl)
theorem dX0_lineAt_217 : decode cX0_lineAt 217 = .ok (.iconst 1, 1) := dk_4 (dk_at dksX0_lineAt_9 21 rfl rfl)
theorem dX0_lineAt_218 : decode cX0_lineAt 218 = .ok (.isub, 1) := dk_100 (dk_at dksX0_lineAt_9 22 rfl rfl)
theorem dX0_lineAt_219 : decode cX0_lineAt 219 = .ok (.i2l, 1) := dk_133 (dk_at dksX0_lineAt_9 23 rfl rfl)
theorem dX0_lineAt_220 : decode cX0_lineAt 220 = .ok (.invokestatic 111, 3) := dk_184 0 111 (dk_at dksX0_lineAt_10 0 rfl rfl)
theorem dX0_lineAt_223 : decode cX0_lineAt 223 = .ok (.ifCond .eq 23, 3) := dk_153 0 23 (dk_at dksX0_lineAt_10 3 rfl rfl)
theorem dX0_lineAt_226 : decode cX0_lineAt 226 = .ok (.aload_n 0, 1) := dk_42 (dk_at dksX0_lineAt_10 6 rfl rfl)
theorem dX0_lineAt_227 : decode cX0_lineAt 227 = .ok (.getfield 26, 3) := dk_180 0 26 (dk_at dksX0_lineAt_10 7 rfl rfl)
theorem dX0_lineAt_230 : decode cX0_lineAt 230 = .ok (.getfield 199, 3) := dk_180 0 199 (dk_at dksX0_lineAt_10 10 rfl rfl)
theorem dX0_lineAt_233 : decode cX0_lineAt 233 = .ok (.iload_n 2, 1) := dk_28 (dk_at dksX0_lineAt_10 13 rfl rfl)
theorem dX0_lineAt_234 : decode cX0_lineAt 234 = .ok (.invokevirtual 42, 3) := dk_182 0 42 (dk_at dksX0_lineAt_10 14 rfl rfl)
theorem dX0_lineAt_237 : decode cX0_lineAt 237 = .ok (.checkcast 202, 3) := dk_192 0 202 (dk_at dksX0_lineAt_10 17 rfl rfl)
theorem dX0_lineAt_240 : decode cX0_lineAt 240 = .ok (.getfield 204, 3) := dk_180 0 204 (dk_at dksX0_lineAt_10 20 rfl rfl)
theorem dX0_lineAt_243 : decode cX0_lineAt 243 = .ok (.goto 4, 3) := dk_167 0 4 (dk_at dksX0_lineAt_11 0 rfl rfl)
theorem dX0_lineAt_246 : decode cX0_lineAt 246 = .ok (.aconst_null, 1) := dk_1 (dk_at dksX0_lineAt_11 3 rfl rfl)
theorem dX0_lineAt_247 : decode cX0_lineAt 247 = .ok (.areturn, 1) := dk_176 (dk_at dksX0_lineAt_11 4 rfl rfl)
theorem dX0_lineAt_248 : decode cX0_lineAt 248 = .ok (.iload_n 2, 1) := dk_28 (dk_at dksX0_lineAt_11 5 rfl rfl)
theorem dX0_lineAt_249 : decode cX0_lineAt 249 = .ok (.i2l, 1) := dk_133 (dk_at dksX0_lineAt_11 6 rfl rfl)
theorem dX0_lineAt_250 : decode cX0_lineAt 250 = .ok (.lconst 0, 1) := dk_9 (dk_at dksX0_lineAt_11 7 rfl rfl)
theorem dX0_lineAt_251 : decode cX0_lineAt 251 = .ok (.aload_n 0, 1) := dk_42 (dk_at dksX0_lineAt_11 8 rfl rfl)
theorem dX0_lineAt_252 : decode cX0_lineAt 252 = .ok (.getfield 26, 3) := dk_180 0 26 (dk_at dksX0_lineAt_11 9 rfl rfl)
theorem dX0_lineAt_255 : decode cX0_lineAt 255 = .ok (.getfield 199, 3) := dk_180 0 199 (dk_at dksX0_lineAt_11 12 rfl rfl)
theorem dX0_lineAt_258 : decode cX0_lineAt 258 = .ok (.invokevirtual 36, 3) := dk_182 0 36 (dk_at dksX0_lineAt_11 15 rfl rfl)
theorem dX0_lineAt_261 : decode cX0_lineAt 261 = .ok (.iconst 1, 1) := dk_4 (dk_at dksX0_lineAt_11 18 rfl rfl)
theorem dX0_lineAt_262 : decode cX0_lineAt 262 = .ok (.isub, 1) := dk_100 (dk_at dksX0_lineAt_11 19 rfl rfl)
theorem dX0_lineAt_263 : decode cX0_lineAt 263 = .ok (.i2l, 1) := dk_133 (dk_at dksX0_lineAt_11 20 rfl rfl)
theorem dX0_lineAt_264 : decode cX0_lineAt 264 = .ok (.invokestatic 111, 3) := dk_184 0 111 (dk_at dksX0_lineAt_11 21 rfl rfl)
theorem dX0_lineAt_267 : decode cX0_lineAt 267 = .ok (.ifCond .eq 23, 3) := dk_153 0 23 (dk_at dksX0_lineAt_12 0 rfl rfl)
theorem dX0_lineAt_270 : decode cX0_lineAt 270 = .ok (.aload_n 0, 1) := dk_42 (dk_at dksX0_lineAt_12 3 rfl rfl)
theorem dX0_lineAt_271 : decode cX0_lineAt 271 = .ok (.getfield 26, 3) := dk_180 0 26 (dk_at dksX0_lineAt_12 4 rfl rfl)
theorem dX0_lineAt_274 : decode cX0_lineAt 274 = .ok (.getfield 199, 3) := dk_180 0 199 (dk_at dksX0_lineAt_12 7 rfl rfl)
theorem dX0_lineAt_277 : decode cX0_lineAt 277 = .ok (.iload_n 2, 1) := dk_28 (dk_at dksX0_lineAt_12 10 rfl rfl)
theorem dX0_lineAt_278 : decode cX0_lineAt 278 = .ok (.invokevirtual 42, 3) := dk_182 0 42 (dk_at dksX0_lineAt_12 11 rfl rfl)
theorem dX0_lineAt_281 : decode cX0_lineAt 281 = .ok (.checkcast 202, 3) := dk_192 0 202 (dk_at dksX0_lineAt_12 14 rfl rfl)
theorem dX0_lineAt_284 : decode cX0_lineAt 284 = .ok (.getfield 207, 3) := dk_180 0 207 (dk_at dksX0_lineAt_12 17 rfl rfl)
theorem dX0_lineAt_287 : decode cX0_lineAt 287 = .ok (.goto 4, 3) := dk_167 0 4 (dk_at dksX0_lineAt_12 20 rfl rfl)
theorem dX0_lineAt_290 : decode cX0_lineAt 290 = .ok (.aconst_null, 1) := dk_1 (dk_at dksX0_lineAt_12 23 rfl rfl)
theorem dX0_lineAt_291 : decode cX0_lineAt 291 = .ok (.areturn, 1) := dk_176 (dk_at dksX0_lineAt_13 0 rfl rfl)
theorem dX0_lineAt_292 : decode cX0_lineAt 292 = .ok (.aconst_null, 1) := dk_1 (dk_at dksX0_lineAt_13 1 rfl rfl)
theorem dX0_lineAt_293 : decode cX0_lineAt 293 = .ok (.areturn, 1) := dk_176 (dk_at dksX0_lineAt_13 2 rfl rfl)
abbrev cX0_isPrinted : ByteArray := prog_1_method_14_code
def yX0_isPrinted : MethodName := ⟨RX0, "isPrinted", "(I)Z"⟩
def dkwX0_isPrinted_0 : List UInt8 := [27, 133, 9, 42, 180, 0, 26, 180, 0, 154, 182, 0, 36, 4, 100, 133, 184, 0, 111, 172]
abbrev dktX0_isPrinted_0 : List UInt8 := dkwX0_isPrinted_0 ++ []
theorem dksX0_isPrinted_0 : cX0_isPrinted.data.toList.drop 0 = dktX0_isPrinted_0 := by decide +kernel
theorem dX0_isPrinted_0 : decode cX0_isPrinted 0 = .ok (.iload_n 1, 1) := dk_27 (dk_at dksX0_isPrinted_0 0 rfl rfl)
theorem dX0_isPrinted_1 : decode cX0_isPrinted 1 = .ok (.i2l, 1) := dk_133 (dk_at dksX0_isPrinted_0 1 rfl rfl)
theorem dX0_isPrinted_2 : decode cX0_isPrinted 2 = .ok (.lconst 0, 1) := dk_9 (dk_at dksX0_isPrinted_0 2 rfl rfl)
theorem dX0_isPrinted_3 : decode cX0_isPrinted 3 = .ok (.aload_n 0, 1) := dk_42 (dk_at dksX0_isPrinted_0 3 rfl rfl)
theorem dX0_isPrinted_4 : decode cX0_isPrinted 4 = .ok (.getfield 26, 3) := dk_180 0 26 (dk_at dksX0_isPrinted_0 4 rfl rfl)
theorem dX0_isPrinted_7 : decode cX0_isPrinted 7 = .ok (.getfield 154, 3) := dk_180 0 154 (dk_at dksX0_isPrinted_0 7 rfl rfl)
theorem dX0_isPrinted_10 : decode cX0_isPrinted 10 = .ok (.invokevirtual 36, 3) := dk_182 0 36 (dk_at dksX0_isPrinted_0 10 rfl rfl)
theorem dX0_isPrinted_13 : decode cX0_isPrinted 13 = .ok (.iconst 1, 1) := dk_4 (dk_at dksX0_isPrinted_0 13 rfl rfl)
theorem dX0_isPrinted_14 : decode cX0_isPrinted 14 = .ok (.isub, 1) := dk_100 (dk_at dksX0_isPrinted_0 14 rfl rfl)
theorem dX0_isPrinted_15 : decode cX0_isPrinted 15 = .ok (.i2l, 1) := dk_133 (dk_at dksX0_isPrinted_0 15 rfl rfl)
theorem dX0_isPrinted_16 : decode cX0_isPrinted 16 = .ok (.invokestatic 111, 3) := dk_184 0 111 (dk_at dksX0_isPrinted_0 16 rfl rfl)
theorem dX0_isPrinted_19 : decode cX0_isPrinted 19 = .ok (.ireturn, 1) := dk_172 (dk_at dksX0_isPrinted_0 19 rfl rfl)
abbrev cX0_like : ByteArray := prog_1_method_20_code
def yX0_like : MethodName := ⟨RX0, "like", "(JJ)I"⟩
def dkwX0_like_1 : List UInt8 := [182, 0, 218, 167, 0, 9, 42, 16, 253, 182, 0, 119, 172]
abbrev dktX0_like_1 : List UInt8 := dkwX0_like_1 ++ []
def dkwX0_like_0 : List UInt8 := [31, 184, 0, 165, 153, 0, 25, 33, 184, 0, 165, 153, 0, 18, 42, 31, 184, 0, 169, 33, 184, 0, 169]
abbrev dktX0_like_0 : List UInt8 := dkwX0_like_0 ++ dktX0_like_1
theorem dksX0_like_0 : cX0_like.data.toList.drop 0 = dktX0_like_0 := by decide +kernel
theorem dksX0_like_1 : cX0_like.data.toList.drop 23 = dktX0_like_1 := dk_seg dksX0_like_0 23 rfl rfl
theorem dX0_like_0 : decode cX0_like 0 = .ok (.lload_n 1, 1) := dk_31 (dk_at dksX0_like_0 0 rfl rfl)
theorem dX0_like_1 : decode cX0_like 1 = .ok (.invokestatic 165, 3) := dk_184 0 165 (dk_at dksX0_like_0 1 rfl rfl)
theorem dX0_like_4 : decode cX0_like 4 = .ok (.ifCond .eq 25, 3) := dk_153 0 25 (dk_at dksX0_like_0 4 rfl rfl)
theorem dX0_like_7 : decode cX0_like 7 = .ok (.lload_n 3, 1) := dk_33 (dk_at dksX0_like_0 7 rfl rfl)
theorem dX0_like_8 : decode cX0_like 8 = .ok (.invokestatic 165, 3) := dk_184 0 165 (dk_at dksX0_like_0 8 rfl rfl)
theorem dX0_like_11 : decode cX0_like 11 = .ok (.ifCond .eq 18, 3) := dk_153 0 18 (dk_at dksX0_like_0 11 rfl rfl)
theorem dX0_like_14 : decode cX0_like 14 = .ok (.aload_n 0, 1) := dk_42 (dk_at dksX0_like_0 14 rfl rfl)
theorem dX0_like_15 : decode cX0_like 15 = .ok (.lload_n 1, 1) := dk_31 (dk_at dksX0_like_0 15 rfl rfl)
theorem dX0_like_16 : decode cX0_like 16 = .ok (.invokestatic 169, 3) := dk_184 0 169 (dk_at dksX0_like_0 16 rfl rfl)
theorem dX0_like_19 : decode cX0_like 19 = .ok (.lload_n 3, 1) := dk_33 (dk_at dksX0_like_0 19 rfl rfl)
theorem dX0_like_20 : decode cX0_like 20 = .ok (.invokestatic 169, 3) := dk_184 0 169 (dk_at dksX0_like_0 20 rfl rfl)
theorem dX0_like_23 : decode cX0_like 23 = .ok (.invokevirtual 218, 3) := dk_182 0 218 (dk_at dksX0_like_1 0 rfl rfl)
theorem dX0_like_26 : decode cX0_like 26 = .ok (.goto 9, 3) := dk_167 0 9 (dk_at dksX0_like_1 3 rfl rfl)
theorem dX0_like_29 : decode cX0_like 29 = .ok (.aload_n 0, 1) := dk_42 (dk_at dksX0_like_1 6 rfl rfl)
theorem dX0_like_30 : decode cX0_like 30 = .ok (.bipush (-3), 2) := dk_16 253 (dk_at dksX0_like_1 7 rfl rfl)
theorem dX0_like_32 : decode cX0_like 32 = .ok (.invokevirtual 119, 3) := dk_182 0 119 (dk_at dksX0_like_1 9 rfl rfl)
theorem dX0_like_35 : decode cX0_like 35 = .ok (.ireturn, 1) := dk_172 (dk_at dksX0_like_1 12 rfl rfl)
abbrev cX0_likeness : ByteArray := prog_1_method_2_code
def yX0_likeness : MethodName := ⟨RX0, "likeness", "(LNobodysBard$Phrase;LNobodysBard$Phrase;)I"⟩
def dkwX0_likeness_6 : List UInt8 := [184, 0, 20, 108, 172]
abbrev dktX0_likeness_6 : List UInt8 := dkwX0_likeness_6 ++ []
def dkwX0_likeness_5 : List UInt8 := [167, 255, 147, 16, 100, 42, 43, 44, 3, 3, 182, 0, 11, 104, 43, 180, 0, 1, 44, 180, 0, 1]
abbrev dktX0_likeness_5 : List UInt8 := dkwX0_likeness_5 ++ dktX0_likeness_6
def dkwX0_likeness_4 : List UInt8 := [21, 4, 4, 96, 182, 0, 11, 184, 0, 20, 184, 0, 20, 79, 132, 4, 255, 167, 255, 165, 132, 3, 255]
abbrev dktX0_likeness_4 : List UInt8 := dkwX0_likeness_4 ++ dktX0_likeness_5
def dkwX0_likeness_3 : List UInt8 := [42, 180, 0, 17, 21, 5, 21, 6, 42, 43, 44, 29, 4, 96, 21, 4, 182, 0, 11, 42, 43, 44, 29]
abbrev dktX0_likeness_3 : List UInt8 := dkwX0_likeness_3 ++ dktX0_likeness_4
def dkwX0_likeness_2 : List UInt8 := [160, 0, 21, 4, 42, 43, 44, 29, 4, 96, 21, 4, 4, 96, 182, 0, 11, 96, 167, 0, 4, 3, 54, 6]
abbrev dktX0_likeness_2 : List UInt8 := dkwX0_likeness_2 ++ dktX0_likeness_3
def dkwX0_likeness_1 : List UInt8 := [16, 9, 29, 104, 21, 4, 96, 54, 5, 43, 180, 0, 7, 29, 46, 44, 180, 0, 7, 21, 4, 46]
abbrev dktX0_likeness_1 : List UInt8 := dkwX0_likeness_1 ++ dktX0_likeness_2
def dkwX0_likeness_0 : List UInt8 := [43, 180, 0, 1, 4, 100, 62, 29, 155, 0, 111, 44, 180, 0, 1, 4, 100, 54, 4, 21, 4, 155, 0, 92]
abbrev dktX0_likeness_0 : List UInt8 := dkwX0_likeness_0 ++ dktX0_likeness_1
theorem dksX0_likeness_0 : cX0_likeness.data.toList.drop 0 = dktX0_likeness_0 := by decide +kernel
theorem dksX0_likeness_1 : cX0_likeness.data.toList.drop 24 = dktX0_likeness_1 := dk_seg dksX0_likeness_0 24 rfl rfl
theorem dksX0_likeness_2 : cX0_likeness.data.toList.drop 46 = dktX0_likeness_2 := dk_seg dksX0_likeness_1 22 rfl rfl
theorem dksX0_likeness_3 : cX0_likeness.data.toList.drop 70 = dktX0_likeness_3 := dk_seg dksX0_likeness_2 24 rfl rfl
theorem dksX0_likeness_4 : cX0_likeness.data.toList.drop 93 = dktX0_likeness_4 := dk_seg dksX0_likeness_3 23 rfl rfl
theorem dksX0_likeness_5 : cX0_likeness.data.toList.drop 116 = dktX0_likeness_5 := dk_seg dksX0_likeness_4 23 rfl rfl
theorem dksX0_likeness_6 : cX0_likeness.data.toList.drop 138 = dktX0_likeness_6 := dk_seg dksX0_likeness_5 22 rfl rfl
theorem dX0_likeness_0 : decode cX0_likeness 0 = .ok (.aload_n 1, 1) := dk_43 (dk_at dksX0_likeness_0 0 rfl rfl)
theorem dX0_likeness_1 : decode cX0_likeness 1 = .ok (.getfield 1, 3) := dk_180 0 1 (dk_at dksX0_likeness_0 1 rfl rfl)
theorem dX0_likeness_4 : decode cX0_likeness 4 = .ok (.iconst 1, 1) := dk_4 (dk_at dksX0_likeness_0 4 rfl rfl)
theorem dX0_likeness_5 : decode cX0_likeness 5 = .ok (.isub, 1) := dk_100 (dk_at dksX0_likeness_0 5 rfl rfl)
theorem dX0_likeness_6 : decode cX0_likeness 6 = .ok (.istore_n 3, 1) := dk_62 (dk_at dksX0_likeness_0 6 rfl rfl)
theorem dX0_likeness_7 : decode cX0_likeness 7 = .ok (.iload_n 3, 1) := dk_29 (dk_at dksX0_likeness_0 7 rfl rfl)
theorem dX0_likeness_8 : decode cX0_likeness 8 = .ok (.ifCond .lt 111, 3) := dk_155 0 111 (dk_at dksX0_likeness_0 8 rfl rfl)
theorem dX0_likeness_11 : decode cX0_likeness 11 = .ok (.aload_n 2, 1) := dk_44 (dk_at dksX0_likeness_0 11 rfl rfl)
theorem dX0_likeness_12 : decode cX0_likeness 12 = .ok (.getfield 1, 3) := dk_180 0 1 (dk_at dksX0_likeness_0 12 rfl rfl)
theorem dX0_likeness_15 : decode cX0_likeness 15 = .ok (.iconst 1, 1) := dk_4 (dk_at dksX0_likeness_0 15 rfl rfl)
theorem dX0_likeness_16 : decode cX0_likeness 16 = .ok (.isub, 1) := dk_100 (dk_at dksX0_likeness_0 16 rfl rfl)
theorem dX0_likeness_17 : decode cX0_likeness 17 = .ok (.istore 4, 2) := dk_54 4 (dk_at dksX0_likeness_0 17 rfl rfl)
theorem dX0_likeness_19 : decode cX0_likeness 19 = .ok (.iload 4, 2) := dk_21 4 (dk_at dksX0_likeness_0 19 rfl rfl)
theorem dX0_likeness_21 : decode cX0_likeness 21 = .ok (.ifCond .lt 92, 3) := dk_155 0 92 (dk_at dksX0_likeness_0 21 rfl rfl)
theorem dX0_likeness_24 : decode cX0_likeness 24 = .ok (.bipush 9, 2) := dk_16 9 (dk_at dksX0_likeness_1 0 rfl rfl)
theorem dX0_likeness_26 : decode cX0_likeness 26 = .ok (.iload_n 3, 1) := dk_29 (dk_at dksX0_likeness_1 2 rfl rfl)
theorem dX0_likeness_27 : decode cX0_likeness 27 = .ok (.imul, 1) := dk_104 (dk_at dksX0_likeness_1 3 rfl rfl)
theorem dX0_likeness_28 : decode cX0_likeness 28 = .ok (.iload 4, 2) := dk_21 4 (dk_at dksX0_likeness_1 4 rfl rfl)
theorem dX0_likeness_30 : decode cX0_likeness 30 = .ok (.iadd, 1) := dk_96 (dk_at dksX0_likeness_1 6 rfl rfl)
theorem dX0_likeness_31 : decode cX0_likeness 31 = .ok (.istore 5, 2) := dk_54 5 (dk_at dksX0_likeness_1 7 rfl rfl)
theorem dX0_likeness_33 : decode cX0_likeness 33 = .ok (.aload_n 1, 1) := dk_43 (dk_at dksX0_likeness_1 9 rfl rfl)
theorem dX0_likeness_34 : decode cX0_likeness 34 = .ok (.getfield 7, 3) := dk_180 0 7 (dk_at dksX0_likeness_1 10 rfl rfl)
theorem dX0_likeness_37 : decode cX0_likeness 37 = .ok (.iload_n 3, 1) := dk_29 (dk_at dksX0_likeness_1 13 rfl rfl)
theorem dX0_likeness_38 : decode cX0_likeness 38 = .ok (.iaload, 1) := dk_46 (dk_at dksX0_likeness_1 14 rfl rfl)
theorem dX0_likeness_39 : decode cX0_likeness 39 = .ok (.aload_n 2, 1) := dk_44 (dk_at dksX0_likeness_1 15 rfl rfl)
theorem dX0_likeness_40 : decode cX0_likeness 40 = .ok (.getfield 7, 3) := dk_180 0 7 (dk_at dksX0_likeness_1 16 rfl rfl)
theorem dX0_likeness_43 : decode cX0_likeness 43 = .ok (.iload 4, 2) := dk_21 4 (dk_at dksX0_likeness_1 19 rfl rfl)
theorem dX0_likeness_45 : decode cX0_likeness 45 = .ok (.iaload, 1) := dk_46 (dk_at dksX0_likeness_1 21 rfl rfl)
theorem dX0_likeness_46 : decode cX0_likeness 46 = .ok (.if_icmp .ne 21, 3) := dk_160 0 21 (dk_at dksX0_likeness_2 0 rfl rfl)
theorem dX0_likeness_49 : decode cX0_likeness 49 = .ok (.iconst 1, 1) := dk_4 (dk_at dksX0_likeness_2 3 rfl rfl)
theorem dX0_likeness_50 : decode cX0_likeness 50 = .ok (.aload_n 0, 1) := dk_42 (dk_at dksX0_likeness_2 4 rfl rfl)
theorem dX0_likeness_51 : decode cX0_likeness 51 = .ok (.aload_n 1, 1) := dk_43 (dk_at dksX0_likeness_2 5 rfl rfl)
theorem dX0_likeness_52 : decode cX0_likeness 52 = .ok (.aload_n 2, 1) := dk_44 (dk_at dksX0_likeness_2 6 rfl rfl)
theorem dX0_likeness_53 : decode cX0_likeness 53 = .ok (.iload_n 3, 1) := dk_29 (dk_at dksX0_likeness_2 7 rfl rfl)
theorem dX0_likeness_54 : decode cX0_likeness 54 = .ok (.iconst 1, 1) := dk_4 (dk_at dksX0_likeness_2 8 rfl rfl)
theorem dX0_likeness_55 : decode cX0_likeness 55 = .ok (.iadd, 1) := dk_96 (dk_at dksX0_likeness_2 9 rfl rfl)
theorem dX0_likeness_56 : decode cX0_likeness 56 = .ok (.iload 4, 2) := dk_21 4 (dk_at dksX0_likeness_2 10 rfl rfl)
theorem dX0_likeness_58 : decode cX0_likeness 58 = .ok (.iconst 1, 1) := dk_4 (dk_at dksX0_likeness_2 12 rfl rfl)
theorem dX0_likeness_59 : decode cX0_likeness 59 = .ok (.iadd, 1) := dk_96 (dk_at dksX0_likeness_2 13 rfl rfl)
theorem dX0_likeness_60 : decode cX0_likeness 60 = .ok (.invokevirtual 11, 3) := dk_182 0 11 (dk_at dksX0_likeness_2 14 rfl rfl)
theorem dX0_likeness_63 : decode cX0_likeness 63 = .ok (.iadd, 1) := dk_96 (dk_at dksX0_likeness_2 17 rfl rfl)
theorem dX0_likeness_64 : decode cX0_likeness 64 = .ok (.goto 4, 3) := dk_167 0 4 (dk_at dksX0_likeness_2 18 rfl rfl)
theorem dX0_likeness_67 : decode cX0_likeness 67 = .ok (.iconst 0, 1) := dk_3 (dk_at dksX0_likeness_2 21 rfl rfl)
theorem dX0_likeness_68 : decode cX0_likeness 68 = .ok (.istore 6, 2) := dk_54 6 (dk_at dksX0_likeness_2 22 rfl rfl)
theorem dX0_likeness_70 : decode cX0_likeness 70 = .ok (.aload_n 0, 1) := dk_42 (dk_at dksX0_likeness_3 0 rfl rfl)
theorem dX0_likeness_71 : decode cX0_likeness 71 = .ok (.getfield 17, 3) := dk_180 0 17 (dk_at dksX0_likeness_3 1 rfl rfl)
theorem dX0_likeness_74 : decode cX0_likeness 74 = .ok (.iload 5, 2) := dk_21 5 (dk_at dksX0_likeness_3 4 rfl rfl)
theorem dX0_likeness_76 : decode cX0_likeness 76 = .ok (.iload 6, 2) := dk_21 6 (dk_at dksX0_likeness_3 6 rfl rfl)
theorem dX0_likeness_78 : decode cX0_likeness 78 = .ok (.aload_n 0, 1) := dk_42 (dk_at dksX0_likeness_3 8 rfl rfl)
theorem dX0_likeness_79 : decode cX0_likeness 79 = .ok (.aload_n 1, 1) := dk_43 (dk_at dksX0_likeness_3 9 rfl rfl)
theorem dX0_likeness_80 : decode cX0_likeness 80 = .ok (.aload_n 2, 1) := dk_44 (dk_at dksX0_likeness_3 10 rfl rfl)
theorem dX0_likeness_81 : decode cX0_likeness 81 = .ok (.iload_n 3, 1) := dk_29 (dk_at dksX0_likeness_3 11 rfl rfl)
theorem dX0_likeness_82 : decode cX0_likeness 82 = .ok (.iconst 1, 1) := dk_4 (dk_at dksX0_likeness_3 12 rfl rfl)
theorem dX0_likeness_83 : decode cX0_likeness 83 = .ok (.iadd, 1) := dk_96 (dk_at dksX0_likeness_3 13 rfl rfl)
theorem dX0_likeness_84 : decode cX0_likeness 84 = .ok (.iload 4, 2) := dk_21 4 (dk_at dksX0_likeness_3 14 rfl rfl)
theorem dX0_likeness_86 : decode cX0_likeness 86 = .ok (.invokevirtual 11, 3) := dk_182 0 11 (dk_at dksX0_likeness_3 16 rfl rfl)
theorem dX0_likeness_89 : decode cX0_likeness 89 = .ok (.aload_n 0, 1) := dk_42 (dk_at dksX0_likeness_3 19 rfl rfl)
theorem dX0_likeness_90 : decode cX0_likeness 90 = .ok (.aload_n 1, 1) := dk_43 (dk_at dksX0_likeness_3 20 rfl rfl)
theorem dX0_likeness_91 : decode cX0_likeness 91 = .ok (.aload_n 2, 1) := dk_44 (dk_at dksX0_likeness_3 21 rfl rfl)
theorem dX0_likeness_92 : decode cX0_likeness 92 = .ok (.iload_n 3, 1) := dk_29 (dk_at dksX0_likeness_3 22 rfl rfl)
theorem dX0_likeness_93 : decode cX0_likeness 93 = .ok (.iload 4, 2) := dk_21 4 (dk_at dksX0_likeness_4 0 rfl rfl)
theorem dX0_likeness_95 : decode cX0_likeness 95 = .ok (.iconst 1, 1) := dk_4 (dk_at dksX0_likeness_4 2 rfl rfl)
theorem dX0_likeness_96 : decode cX0_likeness 96 = .ok (.iadd, 1) := dk_96 (dk_at dksX0_likeness_4 3 rfl rfl)
theorem dX0_likeness_97 : decode cX0_likeness 97 = .ok (.invokevirtual 11, 3) := dk_182 0 11 (dk_at dksX0_likeness_4 4 rfl rfl)
theorem dX0_likeness_100 : decode cX0_likeness 100 = .ok (.invokestatic 20, 3) := dk_184 0 20 (dk_at dksX0_likeness_4 7 rfl rfl)
theorem dX0_likeness_103 : decode cX0_likeness 103 = .ok (.invokestatic 20, 3) := dk_184 0 20 (dk_at dksX0_likeness_4 10 rfl rfl)
theorem dX0_likeness_106 : decode cX0_likeness 106 = .ok (.iastore, 1) := dk_79 (dk_at dksX0_likeness_4 13 rfl rfl)
theorem dX0_likeness_107 : decode cX0_likeness 107 = .ok (.iinc 4 (-1), 3) := dk_132 4 255 (dk_at dksX0_likeness_4 14 rfl rfl)
theorem dX0_likeness_110 : decode cX0_likeness 110 = .ok (.goto (-91), 3) := dk_167 255 165 (dk_at dksX0_likeness_4 17 rfl rfl)
theorem dX0_likeness_113 : decode cX0_likeness 113 = .ok (.iinc 3 (-1), 3) := dk_132 3 255 (dk_at dksX0_likeness_4 20 rfl rfl)
theorem dX0_likeness_116 : decode cX0_likeness 116 = .ok (.goto (-109), 3) := dk_167 255 147 (dk_at dksX0_likeness_5 0 rfl rfl)
theorem dX0_likeness_119 : decode cX0_likeness 119 = .ok (.bipush 100, 2) := dk_16 100 (dk_at dksX0_likeness_5 3 rfl rfl)
theorem dX0_likeness_121 : decode cX0_likeness 121 = .ok (.aload_n 0, 1) := dk_42 (dk_at dksX0_likeness_5 5 rfl rfl)
theorem dX0_likeness_122 : decode cX0_likeness 122 = .ok (.aload_n 1, 1) := dk_43 (dk_at dksX0_likeness_5 6 rfl rfl)
theorem dX0_likeness_123 : decode cX0_likeness 123 = .ok (.aload_n 2, 1) := dk_44 (dk_at dksX0_likeness_5 7 rfl rfl)
theorem dX0_likeness_124 : decode cX0_likeness 124 = .ok (.iconst 0, 1) := dk_3 (dk_at dksX0_likeness_5 8 rfl rfl)
theorem dX0_likeness_125 : decode cX0_likeness 125 = .ok (.iconst 0, 1) := dk_3 (dk_at dksX0_likeness_5 9 rfl rfl)
theorem dX0_likeness_126 : decode cX0_likeness 126 = .ok (.invokevirtual 11, 3) := dk_182 0 11 (dk_at dksX0_likeness_5 10 rfl rfl)
theorem dX0_likeness_129 : decode cX0_likeness 129 = .ok (.imul, 1) := dk_104 (dk_at dksX0_likeness_5 13 rfl rfl)
theorem dX0_likeness_130 : decode cX0_likeness 130 = .ok (.aload_n 1, 1) := dk_43 (dk_at dksX0_likeness_5 14 rfl rfl)
theorem dX0_likeness_131 : decode cX0_likeness 131 = .ok (.getfield 1, 3) := dk_180 0 1 (dk_at dksX0_likeness_5 15 rfl rfl)
theorem dX0_likeness_134 : decode cX0_likeness 134 = .ok (.aload_n 2, 1) := dk_44 (dk_at dksX0_likeness_5 18 rfl rfl)
theorem dX0_likeness_135 : decode cX0_likeness 135 = .ok (.getfield 1, 3) := dk_180 0 1 (dk_at dksX0_likeness_5 19 rfl rfl)
theorem dX0_likeness_138 : decode cX0_likeness 138 = .ok (.invokestatic 20, 3) := dk_184 0 20 (dk_at dksX0_likeness_6 0 rfl rfl)
theorem dX0_likeness_141 : decode cX0_likeness 141 = .ok (.idiv, 1) := dk_108 (dk_at dksX0_likeness_6 3 rfl rfl)
theorem dX0_likeness_142 : decode cX0_likeness 142 = .ok (.ireturn, 1) := dk_172 (dk_at dksX0_likeness_6 4 rfl rfl)
abbrev cX0_at : ByteArray := prog_1_method_3_code
def yX0_at : MethodName := ⟨RX0, "at", "(LNobodysBard$Phrase;LNobodysBard$Phrase;II)I"⟩
def dkwX0_at_1 : List UInt8 := [180, 0, 17, 16, 9, 29, 104, 21, 4, 96, 46, 172]
abbrev dktX0_at_1 : List UInt8 := dkwX0_at_1 ++ []
def dkwX0_at_0 : List UInt8 := [29, 43, 180, 0, 1, 162, 0, 12, 21, 4, 44, 180, 0, 1, 161, 0, 7, 3, 167, 0, 15, 42]
abbrev dktX0_at_0 : List UInt8 := dkwX0_at_0 ++ dktX0_at_1
theorem dksX0_at_0 : cX0_at.data.toList.drop 0 = dktX0_at_0 := by decide +kernel
theorem dksX0_at_1 : cX0_at.data.toList.drop 22 = dktX0_at_1 := dk_seg dksX0_at_0 22 rfl rfl
theorem dX0_at_0 : decode cX0_at 0 = .ok (.iload_n 3, 1) := dk_29 (dk_at dksX0_at_0 0 rfl rfl)
theorem dX0_at_1 : decode cX0_at 1 = .ok (.aload_n 1, 1) := dk_43 (dk_at dksX0_at_0 1 rfl rfl)
theorem dX0_at_2 : decode cX0_at 2 = .ok (.getfield 1, 3) := dk_180 0 1 (dk_at dksX0_at_0 2 rfl rfl)
theorem dX0_at_5 : decode cX0_at 5 = .ok (.if_icmp .ge 12, 3) := dk_162 0 12 (dk_at dksX0_at_0 5 rfl rfl)
theorem dX0_at_8 : decode cX0_at 8 = .ok (.iload 4, 2) := dk_21 4 (dk_at dksX0_at_0 8 rfl rfl)
theorem dX0_at_10 : decode cX0_at 10 = .ok (.aload_n 2, 1) := dk_44 (dk_at dksX0_at_0 10 rfl rfl)
theorem dX0_at_11 : decode cX0_at 11 = .ok (.getfield 1, 3) := dk_180 0 1 (dk_at dksX0_at_0 11 rfl rfl)
theorem dX0_at_14 : decode cX0_at 14 = .ok (.if_icmp .lt 7, 3) := dk_161 0 7 (dk_at dksX0_at_0 14 rfl rfl)
theorem dX0_at_17 : decode cX0_at 17 = .ok (.iconst 0, 1) := dk_3 (dk_at dksX0_at_0 17 rfl rfl)
theorem dX0_at_18 : decode cX0_at 18 = .ok (.goto 15, 3) := dk_167 0 15 (dk_at dksX0_at_0 18 rfl rfl)
theorem dX0_at_21 : decode cX0_at 21 = .ok (.aload_n 0, 1) := dk_42 (dk_at dksX0_at_0 21 rfl rfl)
theorem dX0_at_22 : decode cX0_at 22 = .ok (.getfield 17, 3) := dk_180 0 17 (dk_at dksX0_at_1 0 rfl rfl)
theorem dX0_at_25 : decode cX0_at 25 = .ok (.bipush 9, 2) := dk_16 9 (dk_at dksX0_at_1 3 rfl rfl)
theorem dX0_at_27 : decode cX0_at 27 = .ok (.iload_n 3, 1) := dk_29 (dk_at dksX0_at_1 5 rfl rfl)
theorem dX0_at_28 : decode cX0_at 28 = .ok (.imul, 1) := dk_104 (dk_at dksX0_at_1 6 rfl rfl)
theorem dX0_at_29 : decode cX0_at 29 = .ok (.iload 4, 2) := dk_21 4 (dk_at dksX0_at_1 7 rfl rfl)
theorem dX0_at_31 : decode cX0_at 31 = .ok (.iadd, 1) := dk_96 (dk_at dksX0_at_1 9 rfl rfl)
theorem dX0_at_32 : decode cX0_at 32 = .ok (.iaload, 1) := dk_46 (dk_at dksX0_at_1 10 rfl rfl)
theorem dX0_at_33 : decode cX0_at 33 = .ok (.ireturn, 1) := dk_172 (dk_at dksX0_at_1 11 rfl rfl)
abbrev cX0_feed : ByteArray := prog_1_method_21_code
def yX0_feed : MethodName := ⟨RX0, "feed", "(IIIII)I"⟩
def dkwX0_feed_2 : List UInt8 := [182, 0, 225, 42, 180, 0, 222, 172]
abbrev dktX0_feed_2 : List UInt8 := dkwX0_feed_2 ++ []
def dkwX0_feed_1 : List UInt8 := [182, 0, 225, 42, 28, 182, 0, 225, 42, 29, 182, 0, 225, 42, 21, 4, 182, 0, 225, 42, 21, 5]
abbrev dktX0_feed_1 : List UInt8 := dkwX0_feed_1 ++ dktX0_feed_2
def dkwX0_feed_0 : List UInt8 := [42, 180, 0, 222, 16, 20, 96, 17, 1, 144, 164, 0, 10, 42, 16, 252, 182, 0, 119, 172, 42, 27]
abbrev dktX0_feed_0 : List UInt8 := dkwX0_feed_0 ++ dktX0_feed_1
theorem dksX0_feed_0 : cX0_feed.data.toList.drop 0 = dktX0_feed_0 := by decide +kernel
theorem dksX0_feed_1 : cX0_feed.data.toList.drop 22 = dktX0_feed_1 := dk_seg dksX0_feed_0 22 rfl rfl
theorem dksX0_feed_2 : cX0_feed.data.toList.drop 44 = dktX0_feed_2 := dk_seg dksX0_feed_1 22 rfl rfl
theorem dX0_feed_0 : decode cX0_feed 0 = .ok (.aload_n 0, 1) := dk_42 (dk_at dksX0_feed_0 0 rfl rfl)
theorem dX0_feed_1 : decode cX0_feed 1 = .ok (.getfield 222, 3) := dk_180 0 222 (dk_at dksX0_feed_0 1 rfl rfl)
theorem dX0_feed_4 : decode cX0_feed 4 = .ok (.bipush 20, 2) := dk_16 20 (dk_at dksX0_feed_0 4 rfl rfl)
theorem dX0_feed_6 : decode cX0_feed 6 = .ok (.iadd, 1) := dk_96 (dk_at dksX0_feed_0 6 rfl rfl)
theorem dX0_feed_7 : decode cX0_feed 7 = .ok (.sipush 400, 3) := dk_17 1 144 (dk_at dksX0_feed_0 7 rfl rfl)
theorem dX0_feed_10 : decode cX0_feed 10 = .ok (.if_icmp .le 10, 3) := dk_164 0 10 (dk_at dksX0_feed_0 10 rfl rfl)
theorem dX0_feed_13 : decode cX0_feed 13 = .ok (.aload_n 0, 1) := dk_42 (dk_at dksX0_feed_0 13 rfl rfl)
theorem dX0_feed_14 : decode cX0_feed 14 = .ok (.bipush (-4), 2) := dk_16 252 (dk_at dksX0_feed_0 14 rfl rfl)
theorem dX0_feed_16 : decode cX0_feed 16 = .ok (.invokevirtual 119, 3) := dk_182 0 119 (dk_at dksX0_feed_0 16 rfl rfl)
theorem dX0_feed_19 : decode cX0_feed 19 = .ok (.ireturn, 1) := dk_172 (dk_at dksX0_feed_0 19 rfl rfl)
theorem dX0_feed_20 : decode cX0_feed 20 = .ok (.aload_n 0, 1) := dk_42 (dk_at dksX0_feed_0 20 rfl rfl)
theorem dX0_feed_21 : decode cX0_feed 21 = .ok (.iload_n 1, 1) := dk_27 (dk_at dksX0_feed_0 21 rfl rfl)
theorem dX0_feed_22 : decode cX0_feed 22 = .ok (.invokevirtual 225, 3) := dk_182 0 225 (dk_at dksX0_feed_1 0 rfl rfl)
theorem dX0_feed_25 : decode cX0_feed 25 = .ok (.aload_n 0, 1) := dk_42 (dk_at dksX0_feed_1 3 rfl rfl)
theorem dX0_feed_26 : decode cX0_feed 26 = .ok (.iload_n 2, 1) := dk_28 (dk_at dksX0_feed_1 4 rfl rfl)
theorem dX0_feed_27 : decode cX0_feed 27 = .ok (.invokevirtual 225, 3) := dk_182 0 225 (dk_at dksX0_feed_1 5 rfl rfl)
theorem dX0_feed_30 : decode cX0_feed 30 = .ok (.aload_n 0, 1) := dk_42 (dk_at dksX0_feed_1 8 rfl rfl)
theorem dX0_feed_31 : decode cX0_feed 31 = .ok (.iload_n 3, 1) := dk_29 (dk_at dksX0_feed_1 9 rfl rfl)
theorem dX0_feed_32 : decode cX0_feed 32 = .ok (.invokevirtual 225, 3) := dk_182 0 225 (dk_at dksX0_feed_1 10 rfl rfl)
theorem dX0_feed_35 : decode cX0_feed 35 = .ok (.aload_n 0, 1) := dk_42 (dk_at dksX0_feed_1 13 rfl rfl)
theorem dX0_feed_36 : decode cX0_feed 36 = .ok (.iload 4, 2) := dk_21 4 (dk_at dksX0_feed_1 14 rfl rfl)
theorem dX0_feed_38 : decode cX0_feed 38 = .ok (.invokevirtual 225, 3) := dk_182 0 225 (dk_at dksX0_feed_1 16 rfl rfl)
theorem dX0_feed_41 : decode cX0_feed 41 = .ok (.aload_n 0, 1) := dk_42 (dk_at dksX0_feed_1 19 rfl rfl)
theorem dX0_feed_42 : decode cX0_feed 42 = .ok (.iload 5, 2) := dk_21 5 (dk_at dksX0_feed_1 20 rfl rfl)
theorem dX0_feed_44 : decode cX0_feed 44 = .ok (.invokevirtual 225, 3) := dk_182 0 225 (dk_at dksX0_feed_2 0 rfl rfl)
theorem dX0_feed_47 : decode cX0_feed 47 = .ok (.aload_n 0, 1) := dk_42 (dk_at dksX0_feed_2 3 rfl rfl)
theorem dX0_feed_48 : decode cX0_feed 48 = .ok (.getfield 222, 3) := dk_180 0 222 (dk_at dksX0_feed_2 4 rfl rfl)
theorem dX0_feed_51 : decode cX0_feed 51 = .ok (.ireturn, 1) := dk_172 (dk_at dksX0_feed_2 7 rfl rfl)
abbrev cX0_bytes : ByteArray := prog_1_method_22_code
def yX0_bytes : MethodName := ⟨RX0, "bytes", "(I)V"⟩
def dkwX0_bytes_1 : List UInt8 := [180, 0, 222, 4, 96, 181, 0, 222, 132, 2, 248, 167, 255, 226, 177]
abbrev dktX0_bytes_1 : List UInt8 := dkwX0_bytes_1 ++ []
def dkwX0_bytes_0 : List UInt8 := [16, 24, 61, 28, 155, 0, 32, 42, 180, 0, 66, 42, 180, 0, 222, 27, 28, 122, 145, 84, 42, 89]
abbrev dktX0_bytes_0 : List UInt8 := dkwX0_bytes_0 ++ dktX0_bytes_1
theorem dksX0_bytes_0 : cX0_bytes.data.toList.drop 0 = dktX0_bytes_0 := by decide +kernel
theorem dksX0_bytes_1 : cX0_bytes.data.toList.drop 22 = dktX0_bytes_1 := dk_seg dksX0_bytes_0 22 rfl rfl
theorem dX0_bytes_0 : decode cX0_bytes 0 = .ok (.bipush 24, 2) := dk_16 24 (dk_at dksX0_bytes_0 0 rfl rfl)
theorem dX0_bytes_2 : decode cX0_bytes 2 = .ok (.istore_n 2, 1) := dk_61 (dk_at dksX0_bytes_0 2 rfl rfl)
theorem dX0_bytes_3 : decode cX0_bytes 3 = .ok (.iload_n 2, 1) := dk_28 (dk_at dksX0_bytes_0 3 rfl rfl)
theorem dX0_bytes_4 : decode cX0_bytes 4 = .ok (.ifCond .lt 32, 3) := dk_155 0 32 (dk_at dksX0_bytes_0 4 rfl rfl)
theorem dX0_bytes_7 : decode cX0_bytes 7 = .ok (.aload_n 0, 1) := dk_42 (dk_at dksX0_bytes_0 7 rfl rfl)
theorem dX0_bytes_8 : decode cX0_bytes 8 = .ok (.getfield 66, 3) := dk_180 0 66 (dk_at dksX0_bytes_0 8 rfl rfl)
theorem dX0_bytes_11 : decode cX0_bytes 11 = .ok (.aload_n 0, 1) := dk_42 (dk_at dksX0_bytes_0 11 rfl rfl)
theorem dX0_bytes_12 : decode cX0_bytes 12 = .ok (.getfield 222, 3) := dk_180 0 222 (dk_at dksX0_bytes_0 12 rfl rfl)
theorem dX0_bytes_15 : decode cX0_bytes 15 = .ok (.iload_n 1, 1) := dk_27 (dk_at dksX0_bytes_0 15 rfl rfl)
theorem dX0_bytes_16 : decode cX0_bytes 16 = .ok (.iload_n 2, 1) := dk_28 (dk_at dksX0_bytes_0 16 rfl rfl)
theorem dX0_bytes_17 : decode cX0_bytes 17 = .ok (.ishr, 1) := dk_122 (dk_at dksX0_bytes_0 17 rfl rfl)
theorem dX0_bytes_18 : decode cX0_bytes 18 = .ok (.i2b, 1) := dk_145 (dk_at dksX0_bytes_0 18 rfl rfl)
theorem dX0_bytes_19 : decode cX0_bytes 19 = .ok (.bastore, 1) := dk_84 (dk_at dksX0_bytes_0 19 rfl rfl)
theorem dX0_bytes_20 : decode cX0_bytes 20 = .ok (.aload_n 0, 1) := dk_42 (dk_at dksX0_bytes_0 20 rfl rfl)
theorem dX0_bytes_21 : decode cX0_bytes 21 = .ok (.dup, 1) := dk_89 (dk_at dksX0_bytes_0 21 rfl rfl)
theorem dX0_bytes_22 : decode cX0_bytes 22 = .ok (.getfield 222, 3) := dk_180 0 222 (dk_at dksX0_bytes_1 0 rfl rfl)
theorem dX0_bytes_25 : decode cX0_bytes 25 = .ok (.iconst 1, 1) := dk_4 (dk_at dksX0_bytes_1 3 rfl rfl)
theorem dX0_bytes_26 : decode cX0_bytes 26 = .ok (.iadd, 1) := dk_96 (dk_at dksX0_bytes_1 4 rfl rfl)
theorem dX0_bytes_27 : decode cX0_bytes 27 = .ok (.putfield 222, 3) := dk_181 0 222 (dk_at dksX0_bytes_1 5 rfl rfl)
theorem dX0_bytes_30 : decode cX0_bytes 30 = .ok (.iinc 2 (-8), 3) := dk_132 2 248 (dk_at dksX0_bytes_1 8 rfl rfl)
theorem dX0_bytes_33 : decode cX0_bytes 33 = .ok (.goto (-30), 3) := dk_167 255 226 (dk_at dksX0_bytes_1 11 rfl rfl)
theorem dX0_bytes_36 : decode cX0_bytes 36 = .ok (.return_, 1) := dk_177 (dk_at dksX0_bytes_1 14 rfl rfl)
abbrev cX0_text : ByteArray := prog_1_method_23_code
def yX0_text : MethodName := ⟨RX0, "text", "(II)I"⟩
def dkwX0_text_7 : List UInt8 := [180, 0, 254, 172]
abbrev dktX0_text_7 : List UInt8 := dkwX0_text_7 ++ []
def dkwX0_text_6 : List UInt8 := [180, 0, 250, 181, 0, 253, 27, 154, 0, 13, 45, 180, 0, 249, 182, 0, 36, 167, 0, 10, 45, 180, 0, 250]
abbrev dktX0_text_6 : List UInt8 := dkwX0_text_6 ++ dktX0_text_7
def dkwX0_text_5 : List UInt8 := [154, 0, 17, 42, 180, 0, 26, 45, 180, 0, 249, 181, 0, 30, 167, 0, 14, 42, 180, 0, 26, 45]
abbrev dktX0_text_5 : List UInt8 := dkwX0_text_5 ++ dktX0_text_6
def dkwX0_text_4 : List UInt8 := [180, 0, 63, 4, 92, 46, 4, 96, 79, 16, 246, 42, 180, 0, 243, 100, 172, 42, 3, 181, 0, 141, 27]
abbrev dktX0_text_4 : List UInt8 := dkwX0_text_4 ++ dktX0_text_5
def dkwX0_text_3 : List UInt8 := [180, 0, 240, 181, 0, 243, 42, 45, 180, 0, 246, 181, 0, 70, 42, 180, 0, 243, 153, 0, 21, 42]
abbrev dktX0_text_3 : List UInt8 := dkwX0_text_3 ++ dktX0_text_4
def dkwX0_text_2 : List UInt8 := [27, 154, 0, 10, 45, 182, 0, 234, 167, 0, 7, 45, 182, 0, 237, 42, 3, 181, 0, 222, 42, 45]
abbrev dktX0_text_2 : List UInt8 := dkwX0_text_2 ++ dktX0_text_3
def dkwX0_text_1 : List UInt8 := [133, 184, 0, 111, 154, 0, 10, 42, 16, 253, 182, 0, 119, 172, 187, 0, 229, 89, 42, 28, 183, 0, 231, 78]
abbrev dktX0_text_1 : List UInt8 := dkwX0_text_1 ++ dktX0_text_2
def dkwX0_text_0 : List UInt8 := [27, 133, 9, 10, 184, 0, 111, 154, 0, 10, 42, 16, 254, 182, 0, 119, 172, 28, 133, 9, 42, 180, 0, 222]
abbrev dktX0_text_0 : List UInt8 := dkwX0_text_0 ++ dktX0_text_1
theorem dksX0_text_0 : cX0_text.data.toList.drop 0 = dktX0_text_0 := by decide +kernel
theorem dksX0_text_1 : cX0_text.data.toList.drop 24 = dktX0_text_1 := dk_seg dksX0_text_0 24 rfl rfl
theorem dksX0_text_2 : cX0_text.data.toList.drop 48 = dktX0_text_2 := dk_seg dksX0_text_1 24 rfl rfl
theorem dksX0_text_3 : cX0_text.data.toList.drop 70 = dktX0_text_3 := dk_seg dksX0_text_2 22 rfl rfl
theorem dksX0_text_4 : cX0_text.data.toList.drop 92 = dktX0_text_4 := dk_seg dksX0_text_3 22 rfl rfl
theorem dksX0_text_5 : cX0_text.data.toList.drop 115 = dktX0_text_5 := dk_seg dksX0_text_4 23 rfl rfl
theorem dksX0_text_6 : cX0_text.data.toList.drop 137 = dktX0_text_6 := dk_seg dksX0_text_5 22 rfl rfl
theorem dksX0_text_7 : cX0_text.data.toList.drop 161 = dktX0_text_7 := dk_seg dksX0_text_6 24 rfl rfl
theorem dX0_text_0 : decode cX0_text 0 = .ok (.iload_n 1, 1) := dk_27 (dk_at dksX0_text_0 0 rfl rfl)
theorem dX0_text_1 : decode cX0_text 1 = .ok (.i2l, 1) := dk_133 (dk_at dksX0_text_0 1 rfl rfl)
theorem dX0_text_2 : decode cX0_text 2 = .ok (.lconst 0, 1) := dk_9 (dk_at dksX0_text_0 2 rfl rfl)
theorem dX0_text_3 : decode cX0_text 3 = .ok (.lconst 1, 1) := dk_10 (dk_at dksX0_text_0 3 rfl rfl)
theorem dX0_text_4 : decode cX0_text 4 = .ok (.invokestatic 111, 3) := dk_184 0 111 (dk_at dksX0_text_0 4 rfl rfl)
theorem dX0_text_7 : decode cX0_text 7 = .ok (.ifCond .ne 10, 3) := dk_154 0 10 (dk_at dksX0_text_0 7 rfl rfl)
theorem dX0_text_10 : decode cX0_text 10 = .ok (.aload_n 0, 1) := dk_42 (dk_at dksX0_text_0 10 rfl rfl)
theorem dX0_text_11 : decode cX0_text 11 = .ok (.bipush (-2), 2) := dk_16 254 (dk_at dksX0_text_0 11 rfl rfl)
theorem dX0_text_13 : decode cX0_text 13 = .ok (.invokevirtual 119, 3) := dk_182 0 119 (dk_at dksX0_text_0 13 rfl rfl)
theorem dX0_text_16 : decode cX0_text 16 = .ok (.ireturn, 1) := dk_172 (dk_at dksX0_text_0 16 rfl rfl)
theorem dX0_text_17 : decode cX0_text 17 = .ok (.iload_n 2, 1) := dk_28 (dk_at dksX0_text_0 17 rfl rfl)
theorem dX0_text_18 : decode cX0_text 18 = .ok (.i2l, 1) := dk_133 (dk_at dksX0_text_0 18 rfl rfl)
theorem dX0_text_19 : decode cX0_text 19 = .ok (.lconst 0, 1) := dk_9 (dk_at dksX0_text_0 19 rfl rfl)
theorem dX0_text_20 : decode cX0_text 20 = .ok (.aload_n 0, 1) := dk_42 (dk_at dksX0_text_0 20 rfl rfl)
theorem dX0_text_21 : decode cX0_text 21 = .ok (.getfield 222, 3) := dk_180 0 222 (dk_at dksX0_text_0 21 rfl rfl)
theorem dX0_text_24 : decode cX0_text 24 = .ok (.i2l, 1) := dk_133 (dk_at dksX0_text_1 0 rfl rfl)
theorem dX0_text_25 : decode cX0_text 25 = .ok (.invokestatic 111, 3) := dk_184 0 111 (dk_at dksX0_text_1 1 rfl rfl)
theorem dX0_text_28 : decode cX0_text 28 = .ok (.ifCond .ne 10, 3) := dk_154 0 10 (dk_at dksX0_text_1 4 rfl rfl)
theorem dX0_text_31 : decode cX0_text 31 = .ok (.aload_n 0, 1) := dk_42 (dk_at dksX0_text_1 7 rfl rfl)
theorem dX0_text_32 : decode cX0_text 32 = .ok (.bipush (-3), 2) := dk_16 253 (dk_at dksX0_text_1 8 rfl rfl)
theorem dX0_text_34 : decode cX0_text 34 = .ok (.invokevirtual 119, 3) := dk_182 0 119 (dk_at dksX0_text_1 10 rfl rfl)
theorem dX0_text_37 : decode cX0_text 37 = .ok (.ireturn, 1) := dk_172 (dk_at dksX0_text_1 13 rfl rfl)
theorem dX0_text_38 : decode cX0_text 38 = .ok (.new 229, 3) := dk_187 0 229 (dk_at dksX0_text_1 14 rfl rfl)
theorem dX0_text_41 : decode cX0_text 41 = .ok (.dup, 1) := dk_89 (dk_at dksX0_text_1 17 rfl rfl)
theorem dX0_text_42 : decode cX0_text 42 = .ok (.aload_n 0, 1) := dk_42 (dk_at dksX0_text_1 18 rfl rfl)
theorem dX0_text_43 : decode cX0_text 43 = .ok (.iload_n 2, 1) := dk_28 (dk_at dksX0_text_1 19 rfl rfl)
theorem dX0_text_44 : decode cX0_text 44 = .ok (.invokespecial 231, 3) := dk_183 0 231 (dk_at dksX0_text_1 20 rfl rfl)
theorem dX0_text_47 : decode cX0_text 47 = .ok (.astore_n 3, 1) := dk_78 (dk_at dksX0_text_1 23 rfl rfl)
theorem dX0_text_48 : decode cX0_text 48 = .ok (.iload_n 1, 1) := dk_27 (dk_at dksX0_text_2 0 rfl rfl)
theorem dX0_text_49 : decode cX0_text 49 = .ok (.ifCond .ne 10, 3) := dk_154 0 10 (dk_at dksX0_text_2 1 rfl rfl)
theorem dX0_text_52 : decode cX0_text 52 = .ok (.aload_n 3, 1) := dk_45 (dk_at dksX0_text_2 4 rfl rfl)
theorem dX0_text_53 : decode cX0_text 53 = .ok (.invokevirtual 234, 3) := dk_182 0 234 (dk_at dksX0_text_2 5 rfl rfl)
theorem dX0_text_56 : decode cX0_text 56 = .ok (.goto 7, 3) := dk_167 0 7 (dk_at dksX0_text_2 8 rfl rfl)
theorem dX0_text_59 : decode cX0_text 59 = .ok (.aload_n 3, 1) := dk_45 (dk_at dksX0_text_2 11 rfl rfl)
theorem dX0_text_60 : decode cX0_text 60 = .ok (.invokevirtual 237, 3) := dk_182 0 237 (dk_at dksX0_text_2 12 rfl rfl)
theorem dX0_text_63 : decode cX0_text 63 = .ok (.aload_n 0, 1) := dk_42 (dk_at dksX0_text_2 15 rfl rfl)
theorem dX0_text_64 : decode cX0_text 64 = .ok (.iconst 0, 1) := dk_3 (dk_at dksX0_text_2 16 rfl rfl)
theorem dX0_text_65 : decode cX0_text 65 = .ok (.putfield 222, 3) := dk_181 0 222 (dk_at dksX0_text_2 17 rfl rfl)
theorem dX0_text_68 : decode cX0_text 68 = .ok (.aload_n 0, 1) := dk_42 (dk_at dksX0_text_2 20 rfl rfl)
theorem dX0_text_69 : decode cX0_text 69 = .ok (.aload_n 3, 1) := dk_45 (dk_at dksX0_text_2 21 rfl rfl)
theorem dX0_text_70 : decode cX0_text 70 = .ok (.getfield 240, 3) := dk_180 0 240 (dk_at dksX0_text_3 0 rfl rfl)
theorem dX0_text_73 : decode cX0_text 73 = .ok (.putfield 243, 3) := dk_181 0 243 (dk_at dksX0_text_3 3 rfl rfl)
theorem dX0_text_76 : decode cX0_text 76 = .ok (.aload_n 0, 1) := dk_42 (dk_at dksX0_text_3 6 rfl rfl)
theorem dX0_text_77 : decode cX0_text 77 = .ok (.aload_n 3, 1) := dk_45 (dk_at dksX0_text_3 7 rfl rfl)
theorem dX0_text_78 : decode cX0_text 78 = .ok (.getfield 246, 3) := dk_180 0 246 (dk_at dksX0_text_3 8 rfl rfl)
theorem dX0_text_81 : decode cX0_text 81 = .ok (.putfield 70, 3) := dk_181 0 70 (dk_at dksX0_text_3 11 rfl rfl)
theorem dX0_text_84 : decode cX0_text 84 = .ok (.aload_n 0, 1) := dk_42 (dk_at dksX0_text_3 14 rfl rfl)
theorem dX0_text_85 : decode cX0_text 85 = .ok (.getfield 243, 3) := dk_180 0 243 (dk_at dksX0_text_3 15 rfl rfl)
theorem dX0_text_88 : decode cX0_text 88 = .ok (.ifCond .eq 21, 3) := dk_153 0 21 (dk_at dksX0_text_3 18 rfl rfl)
theorem dX0_text_91 : decode cX0_text 91 = .ok (.aload_n 0, 1) := dk_42 (dk_at dksX0_text_3 21 rfl rfl)
theorem dX0_text_92 : decode cX0_text 92 = .ok (.getfield 63, 3) := dk_180 0 63 (dk_at dksX0_text_4 0 rfl rfl)
theorem dX0_text_95 : decode cX0_text 95 = .ok (.iconst 1, 1) := dk_4 (dk_at dksX0_text_4 3 rfl rfl)
theorem dX0_text_96 : decode cX0_text 96 = .ok (.dup2, 1) := dk_92 (dk_at dksX0_text_4 4 rfl rfl)
theorem dX0_text_97 : decode cX0_text 97 = .ok (.iaload, 1) := dk_46 (dk_at dksX0_text_4 5 rfl rfl)
theorem dX0_text_98 : decode cX0_text 98 = .ok (.iconst 1, 1) := dk_4 (dk_at dksX0_text_4 6 rfl rfl)
theorem dX0_text_99 : decode cX0_text 99 = .ok (.iadd, 1) := dk_96 (dk_at dksX0_text_4 7 rfl rfl)
theorem dX0_text_100 : decode cX0_text 100 = .ok (.iastore, 1) := dk_79 (dk_at dksX0_text_4 8 rfl rfl)
theorem dX0_text_101 : decode cX0_text 101 = .ok (.bipush (-10), 2) := dk_16 246 (dk_at dksX0_text_4 9 rfl rfl)
theorem dX0_text_103 : decode cX0_text 103 = .ok (.aload_n 0, 1) := dk_42 (dk_at dksX0_text_4 11 rfl rfl)
theorem dX0_text_104 : decode cX0_text 104 = .ok (.getfield 243, 3) := dk_180 0 243 (dk_at dksX0_text_4 12 rfl rfl)
theorem dX0_text_107 : decode cX0_text 107 = .ok (.isub, 1) := dk_100 (dk_at dksX0_text_4 15 rfl rfl)
theorem dX0_text_108 : decode cX0_text 108 = .ok (.ireturn, 1) := dk_172 (dk_at dksX0_text_4 16 rfl rfl)
theorem dX0_text_109 : decode cX0_text 109 = .ok (.aload_n 0, 1) := dk_42 (dk_at dksX0_text_4 17 rfl rfl)
theorem dX0_text_110 : decode cX0_text 110 = .ok (.iconst 0, 1) := dk_3 (dk_at dksX0_text_4 18 rfl rfl)
theorem dX0_text_111 : decode cX0_text 111 = .ok (.putfield 141, 3) := dk_181 0 141 (dk_at dksX0_text_4 19 rfl rfl)
theorem dX0_text_114 : decode cX0_text 114 = .ok (.iload_n 1, 1) := dk_27 (dk_at dksX0_text_4 22 rfl rfl)
theorem dX0_text_115 : decode cX0_text 115 = .ok (.ifCond .ne 17, 3) := dk_154 0 17 (dk_at dksX0_text_5 0 rfl rfl)
theorem dX0_text_118 : decode cX0_text 118 = .ok (.aload_n 0, 1) := dk_42 (dk_at dksX0_text_5 3 rfl rfl)
theorem dX0_text_119 : decode cX0_text 119 = .ok (.getfield 26, 3) := dk_180 0 26 (dk_at dksX0_text_5 4 rfl rfl)
theorem dX0_text_122 : decode cX0_text 122 = .ok (.aload_n 3, 1) := dk_45 (dk_at dksX0_text_5 7 rfl rfl)
theorem dX0_text_123 : decode cX0_text 123 = .ok (.getfield 249, 3) := dk_180 0 249 (dk_at dksX0_text_5 8 rfl rfl)
theorem dX0_text_126 : decode cX0_text 126 = .ok (.putfield 30, 3) := dk_181 0 30 (dk_at dksX0_text_5 11 rfl rfl)
theorem dX0_text_129 : decode cX0_text 129 = .ok (.goto 14, 3) := dk_167 0 14 (dk_at dksX0_text_5 14 rfl rfl)
theorem dX0_text_132 : decode cX0_text 132 = .ok (.aload_n 0, 1) := dk_42 (dk_at dksX0_text_5 17 rfl rfl)
theorem dX0_text_133 : decode cX0_text 133 = .ok (.getfield 26, 3) := dk_180 0 26 (dk_at dksX0_text_5 18 rfl rfl)
theorem dX0_text_136 : decode cX0_text 136 = .ok (.aload_n 3, 1) := dk_45 (dk_at dksX0_text_5 21 rfl rfl)
theorem dX0_text_137 : decode cX0_text 137 = .ok (.getfield 250, 3) := dk_180 0 250 (dk_at dksX0_text_6 0 rfl rfl)
theorem dX0_text_140 : decode cX0_text 140 = .ok (.putfield 253, 3) := dk_181 0 253 (dk_at dksX0_text_6 3 rfl rfl)
theorem dX0_text_143 : decode cX0_text 143 = .ok (.iload_n 1, 1) := dk_27 (dk_at dksX0_text_6 6 rfl rfl)
theorem dX0_text_144 : decode cX0_text 144 = .ok (.ifCond .ne 13, 3) := dk_154 0 13 (dk_at dksX0_text_6 7 rfl rfl)
theorem dX0_text_147 : decode cX0_text 147 = .ok (.aload_n 3, 1) := dk_45 (dk_at dksX0_text_6 10 rfl rfl)
theorem dX0_text_148 : decode cX0_text 148 = .ok (.getfield 249, 3) := dk_180 0 249 (dk_at dksX0_text_6 11 rfl rfl)
theorem dX0_text_151 : decode cX0_text 151 = .ok (.invokevirtual 36, 3) := dk_182 0 36 (dk_at dksX0_text_6 14 rfl rfl)
theorem dX0_text_154 : decode cX0_text 154 = .ok (.goto 10, 3) := dk_167 0 10 (dk_at dksX0_text_6 17 rfl rfl)
theorem dX0_text_157 : decode cX0_text 157 = .ok (.aload_n 3, 1) := dk_45 (dk_at dksX0_text_6 20 rfl rfl)
theorem dX0_text_158 : decode cX0_text 158 = .ok (.getfield 250, 3) := dk_180 0 250 (dk_at dksX0_text_6 21 rfl rfl)
theorem dX0_text_161 : decode cX0_text 161 = .ok (.getfield 254, 3) := dk_180 0 254 (dk_at dksX0_text_7 0 rfl rfl)
theorem dX0_text_164 : decode cX0_text 164 = .ok (.ireturn, 1) := dk_172 (dk_at dksX0_text_7 3 rfl rfl)
abbrev cX0_fault : ByteArray := prog_1_method_24_code
def yX0_fault : MethodName := ⟨RX0, "fault", "(I)I"⟩
def dkwX0_fault_1 : List UInt8 := [172]
abbrev dktX0_fault_1 : List UInt8 := dkwX0_fault_1 ++ []
def dkwX0_fault_0 : List UInt8 := [27, 154, 0, 10, 42, 180, 0, 243, 167, 0, 16, 27, 4, 160, 0, 10, 42, 180, 0, 70, 167, 0, 4, 2]
abbrev dktX0_fault_0 : List UInt8 := dkwX0_fault_0 ++ dktX0_fault_1
theorem dksX0_fault_0 : cX0_fault.data.toList.drop 0 = dktX0_fault_0 := by decide +kernel
theorem dksX0_fault_1 : cX0_fault.data.toList.drop 24 = dktX0_fault_1 := dk_seg dksX0_fault_0 24 rfl rfl
theorem dX0_fault_0 : decode cX0_fault 0 = .ok (.iload_n 1, 1) := dk_27 (dk_at dksX0_fault_0 0 rfl rfl)
theorem dX0_fault_1 : decode cX0_fault 1 = .ok (.ifCond .ne 10, 3) := dk_154 0 10 (dk_at dksX0_fault_0 1 rfl rfl)
theorem dX0_fault_4 : decode cX0_fault 4 = .ok (.aload_n 0, 1) := dk_42 (dk_at dksX0_fault_0 4 rfl rfl)
theorem dX0_fault_5 : decode cX0_fault 5 = .ok (.getfield 243, 3) := dk_180 0 243 (dk_at dksX0_fault_0 5 rfl rfl)
theorem dX0_fault_8 : decode cX0_fault 8 = .ok (.goto 16, 3) := dk_167 0 16 (dk_at dksX0_fault_0 8 rfl rfl)
theorem dX0_fault_11 : decode cX0_fault 11 = .ok (.iload_n 1, 1) := dk_27 (dk_at dksX0_fault_0 11 rfl rfl)
theorem dX0_fault_12 : decode cX0_fault 12 = .ok (.iconst 1, 1) := dk_4 (dk_at dksX0_fault_0 12 rfl rfl)
theorem dX0_fault_13 : decode cX0_fault 13 = .ok (.if_icmp .ne 10, 3) := dk_160 0 10 (dk_at dksX0_fault_0 13 rfl rfl)
theorem dX0_fault_16 : decode cX0_fault 16 = .ok (.aload_n 0, 1) := dk_42 (dk_at dksX0_fault_0 16 rfl rfl)
theorem dX0_fault_17 : decode cX0_fault 17 = .ok (.getfield 70, 3) := dk_180 0 70 (dk_at dksX0_fault_0 17 rfl rfl)
theorem dX0_fault_20 : decode cX0_fault 20 = .ok (.goto 4, 3) := dk_167 0 4 (dk_at dksX0_fault_0 20 rfl rfl)
theorem dX0_fault_23 : decode cX0_fault 23 = .ok (.iconst (-1), 1) := dk_2 (dk_at dksX0_fault_0 23 rfl rfl)
theorem dX0_fault_24 : decode cX0_fault 24 = .ok (.ireturn, 1) := dk_172 (dk_at dksX0_fault_1 0 rfl rfl)
abbrev cX0_smoothed : ByteArray := prog_1_method_25_code
def yX0_smoothed : MethodName := ⟨RX0, "smoothed", "(JI)J"⟩
def dkwX0_smoothed_1 : List UInt8 := [182, 0, 214, 167, 0, 10, 42, 16, 253, 182, 0, 119, 133, 173]
abbrev dktX0_smoothed_1 : List UInt8 := dkwX0_smoothed_1 ++ []
def dkwX0_smoothed_0 : List UInt8 := [31, 184, 0, 165, 153, 0, 25, 29, 184, 0, 123, 153, 0, 18, 42, 31, 184, 0, 169, 29, 182, 1, 3]
abbrev dktX0_smoothed_0 : List UInt8 := dkwX0_smoothed_0 ++ dktX0_smoothed_1
theorem dksX0_smoothed_0 : cX0_smoothed.data.toList.drop 0 = dktX0_smoothed_0 := by decide +kernel
theorem dksX0_smoothed_1 : cX0_smoothed.data.toList.drop 23 = dktX0_smoothed_1 := dk_seg dksX0_smoothed_0 23 rfl rfl
theorem dX0_smoothed_0 : decode cX0_smoothed 0 = .ok (.lload_n 1, 1) := dk_31 (dk_at dksX0_smoothed_0 0 rfl rfl)
theorem dX0_smoothed_1 : decode cX0_smoothed 1 = .ok (.invokestatic 165, 3) := dk_184 0 165 (dk_at dksX0_smoothed_0 1 rfl rfl)
theorem dX0_smoothed_4 : decode cX0_smoothed 4 = .ok (.ifCond .eq 25, 3) := dk_153 0 25 (dk_at dksX0_smoothed_0 4 rfl rfl)
theorem dX0_smoothed_7 : decode cX0_smoothed 7 = .ok (.iload_n 3, 1) := dk_29 (dk_at dksX0_smoothed_0 7 rfl rfl)
theorem dX0_smoothed_8 : decode cX0_smoothed 8 = .ok (.invokestatic 123, 3) := dk_184 0 123 (dk_at dksX0_smoothed_0 8 rfl rfl)
theorem dX0_smoothed_11 : decode cX0_smoothed 11 = .ok (.ifCond .eq 18, 3) := dk_153 0 18 (dk_at dksX0_smoothed_0 11 rfl rfl)
theorem dX0_smoothed_14 : decode cX0_smoothed 14 = .ok (.aload_n 0, 1) := dk_42 (dk_at dksX0_smoothed_0 14 rfl rfl)
theorem dX0_smoothed_15 : decode cX0_smoothed 15 = .ok (.lload_n 1, 1) := dk_31 (dk_at dksX0_smoothed_0 15 rfl rfl)
theorem dX0_smoothed_16 : decode cX0_smoothed 16 = .ok (.invokestatic 169, 3) := dk_184 0 169 (dk_at dksX0_smoothed_0 16 rfl rfl)
theorem dX0_smoothed_19 : decode cX0_smoothed 19 = .ok (.iload_n 3, 1) := dk_29 (dk_at dksX0_smoothed_0 19 rfl rfl)
theorem dX0_smoothed_20 : decode cX0_smoothed 20 = .ok (.invokevirtual 259, 3) := dk_182 1 3 (dk_at dksX0_smoothed_0 20 rfl rfl)
theorem dX0_smoothed_23 : decode cX0_smoothed 23 = .ok (.invokevirtual 214, 3) := dk_182 0 214 (dk_at dksX0_smoothed_1 0 rfl rfl)
theorem dX0_smoothed_26 : decode cX0_smoothed 26 = .ok (.goto 10, 3) := dk_167 0 10 (dk_at dksX0_smoothed_1 3 rfl rfl)
theorem dX0_smoothed_29 : decode cX0_smoothed 29 = .ok (.aload_n 0, 1) := dk_42 (dk_at dksX0_smoothed_1 6 rfl rfl)
theorem dX0_smoothed_30 : decode cX0_smoothed 30 = .ok (.bipush (-3), 2) := dk_16 253 (dk_at dksX0_smoothed_1 7 rfl rfl)
theorem dX0_smoothed_32 : decode cX0_smoothed 32 = .ok (.invokevirtual 119, 3) := dk_182 0 119 (dk_at dksX0_smoothed_1 9 rfl rfl)
theorem dX0_smoothed_35 : decode cX0_smoothed 35 = .ok (.i2l, 1) := dk_133 (dk_at dksX0_smoothed_1 12 rfl rfl)
theorem dX0_smoothed_36 : decode cX0_smoothed 36 = .ok (.lreturn, 1) := dk_173 (dk_at dksX0_smoothed_1 13 rfl rfl)
abbrev cX0_smooths : ByteArray := prog_1_method_4_code
def yX0_smooths : MethodName := ⟨RX0, "smooths", "(LNobodysBard$Phrase;I)LNobodysBard$Phrase;"⟩
def dkwX0_smooths_3 : List UInt8 := [45, 176, 25, 5, 78, 132, 4, 1, 167, 255, 182, 45, 176]
abbrev dktX0_smooths_3 : List UInt8 := dkwX0_smooths_3 ++ []
def dkwX0_smooths_2 : List UInt8 := [182, 0, 42, 192, 0, 46, 45, 28, 182, 0, 48, 58, 5, 132, 6, 1, 167, 255, 211, 25, 5, 199, 0, 5]
abbrev dktX0_smooths_2 : List UInt8 := dkwX0_smooths_2 ++ dktX0_smooths_3
def dkwX0_smooths_1 : List UInt8 := [180, 0, 30, 182, 0, 36, 162, 0, 36, 25, 5, 199, 0, 31, 42, 180, 0, 26, 180, 0, 30, 21, 6]
abbrev dktX0_smooths_1 : List UInt8 := dkwX0_smooths_1 ++ dktX0_smooths_2
def dkwX0_smooths_0 : List UInt8 := [43, 78, 3, 54, 4, 21, 4, 16, 12, 162, 0, 73, 1, 58, 5, 3, 54, 6, 21, 6, 42, 180, 0, 26]
abbrev dktX0_smooths_0 : List UInt8 := dkwX0_smooths_0 ++ dktX0_smooths_1
theorem dksX0_smooths_0 : cX0_smooths.data.toList.drop 0 = dktX0_smooths_0 := by decide +kernel
theorem dksX0_smooths_1 : cX0_smooths.data.toList.drop 24 = dktX0_smooths_1 := dk_seg dksX0_smooths_0 24 rfl rfl
theorem dksX0_smooths_2 : cX0_smooths.data.toList.drop 47 = dktX0_smooths_2 := dk_seg dksX0_smooths_1 23 rfl rfl
theorem dksX0_smooths_3 : cX0_smooths.data.toList.drop 71 = dktX0_smooths_3 := dk_seg dksX0_smooths_2 24 rfl rfl
theorem dX0_smooths_0 : decode cX0_smooths 0 = .ok (.aload_n 1, 1) := dk_43 (dk_at dksX0_smooths_0 0 rfl rfl)
theorem dX0_smooths_1 : decode cX0_smooths 1 = .ok (.astore_n 3, 1) := dk_78 (dk_at dksX0_smooths_0 1 rfl rfl)
theorem dX0_smooths_2 : decode cX0_smooths 2 = .ok (.iconst 0, 1) := dk_3 (dk_at dksX0_smooths_0 2 rfl rfl)
theorem dX0_smooths_3 : decode cX0_smooths 3 = .ok (.istore 4, 2) := dk_54 4 (dk_at dksX0_smooths_0 3 rfl rfl)
theorem dX0_smooths_5 : decode cX0_smooths 5 = .ok (.iload 4, 2) := dk_21 4 (dk_at dksX0_smooths_0 5 rfl rfl)
theorem dX0_smooths_7 : decode cX0_smooths 7 = .ok (.bipush 12, 2) := dk_16 12 (dk_at dksX0_smooths_0 7 rfl rfl)
theorem dX0_smooths_9 : decode cX0_smooths 9 = .ok (.if_icmp .ge 73, 3) := dk_162 0 73 (dk_at dksX0_smooths_0 9 rfl rfl)
theorem dX0_smooths_12 : decode cX0_smooths 12 = .ok (.aconst_null, 1) := dk_1 (dk_at dksX0_smooths_0 12 rfl rfl)
theorem dX0_smooths_13 : decode cX0_smooths 13 = .ok (.astore 5, 2) := dk_58 5 (dk_at dksX0_smooths_0 13 rfl rfl)
theorem dX0_smooths_15 : decode cX0_smooths 15 = .ok (.iconst 0, 1) := dk_3 (dk_at dksX0_smooths_0 15 rfl rfl)
theorem dX0_smooths_16 : decode cX0_smooths 16 = .ok (.istore 6, 2) := dk_54 6 (dk_at dksX0_smooths_0 16 rfl rfl)
theorem dX0_smooths_18 : decode cX0_smooths 18 = .ok (.iload 6, 2) := dk_21 6 (dk_at dksX0_smooths_0 18 rfl rfl)
theorem dX0_smooths_20 : decode cX0_smooths 20 = .ok (.aload_n 0, 1) := dk_42 (dk_at dksX0_smooths_0 20 rfl rfl)
theorem dX0_smooths_21 : decode cX0_smooths 21 = .ok (.getfield 26, 3) := dk_180 0 26 (dk_at dksX0_smooths_0 21 rfl rfl)
theorem dX0_smooths_24 : decode cX0_smooths 24 = .ok (.getfield 30, 3) := dk_180 0 30 (dk_at dksX0_smooths_1 0 rfl rfl)
theorem dX0_smooths_27 : decode cX0_smooths 27 = .ok (.invokevirtual 36, 3) := dk_182 0 36 (dk_at dksX0_smooths_1 3 rfl rfl)
theorem dX0_smooths_30 : decode cX0_smooths 30 = .ok (.if_icmp .ge 36, 3) := dk_162 0 36 (dk_at dksX0_smooths_1 6 rfl rfl)
theorem dX0_smooths_33 : decode cX0_smooths 33 = .ok (.aload 5, 2) := dk_25 5 (dk_at dksX0_smooths_1 9 rfl rfl)
theorem dX0_smooths_35 : decode cX0_smooths 35 = .ok (.ifnonnull 31, 3) := dk_199 0 31 (dk_at dksX0_smooths_1 11 rfl rfl)
theorem dX0_smooths_38 : decode cX0_smooths 38 = .ok (.aload_n 0, 1) := dk_42 (dk_at dksX0_smooths_1 14 rfl rfl)
theorem dX0_smooths_39 : decode cX0_smooths 39 = .ok (.getfield 26, 3) := dk_180 0 26 (dk_at dksX0_smooths_1 15 rfl rfl)
theorem dX0_smooths_42 : decode cX0_smooths 42 = .ok (.getfield 30, 3) := dk_180 0 30 (dk_at dksX0_smooths_1 18 rfl rfl)
theorem dX0_smooths_45 : decode cX0_smooths 45 = .ok (.iload 6, 2) := dk_21 6 (dk_at dksX0_smooths_1 21 rfl rfl)
theorem dX0_smooths_47 : decode cX0_smooths 47 = .ok (.invokevirtual 42, 3) := dk_182 0 42 (dk_at dksX0_smooths_2 0 rfl rfl)
theorem dX0_smooths_50 : decode cX0_smooths 50 = .ok (.checkcast 46, 3) := dk_192 0 46 (dk_at dksX0_smooths_2 3 rfl rfl)
theorem dX0_smooths_53 : decode cX0_smooths 53 = .ok (.aload_n 3, 1) := dk_45 (dk_at dksX0_smooths_2 6 rfl rfl)
theorem dX0_smooths_54 : decode cX0_smooths 54 = .ok (.iload_n 2, 1) := dk_28 (dk_at dksX0_smooths_2 7 rfl rfl)
theorem dX0_smooths_55 : decode cX0_smooths 55 = .ok (.invokevirtual 48, 3) := dk_182 0 48 (dk_at dksX0_smooths_2 8 rfl rfl)
theorem dX0_smooths_58 : decode cX0_smooths 58 = .ok (.astore 5, 2) := dk_58 5 (dk_at dksX0_smooths_2 11 rfl rfl)
theorem dX0_smooths_60 : decode cX0_smooths 60 = .ok (.iinc 6 1, 3) := dk_132 6 1 (dk_at dksX0_smooths_2 13 rfl rfl)
theorem dX0_smooths_63 : decode cX0_smooths 63 = .ok (.goto (-45), 3) := dk_167 255 211 (dk_at dksX0_smooths_2 16 rfl rfl)
theorem dX0_smooths_66 : decode cX0_smooths 66 = .ok (.aload 5, 2) := dk_25 5 (dk_at dksX0_smooths_2 19 rfl rfl)
theorem dX0_smooths_68 : decode cX0_smooths 68 = .ok (.ifnonnull 5, 3) := dk_199 0 5 (dk_at dksX0_smooths_2 21 rfl rfl)
theorem dX0_smooths_71 : decode cX0_smooths 71 = .ok (.aload_n 3, 1) := dk_45 (dk_at dksX0_smooths_3 0 rfl rfl)
theorem dX0_smooths_72 : decode cX0_smooths 72 = .ok (.areturn, 1) := dk_176 (dk_at dksX0_smooths_3 1 rfl rfl)
theorem dX0_smooths_73 : decode cX0_smooths 73 = .ok (.aload 5, 2) := dk_25 5 (dk_at dksX0_smooths_3 2 rfl rfl)
theorem dX0_smooths_75 : decode cX0_smooths 75 = .ok (.astore_n 3, 1) := dk_78 (dk_at dksX0_smooths_3 4 rfl rfl)
theorem dX0_smooths_76 : decode cX0_smooths 76 = .ok (.iinc 4 1, 3) := dk_132 4 1 (dk_at dksX0_smooths_3 5 rfl rfl)
theorem dX0_smooths_79 : decode cX0_smooths 79 = .ok (.goto (-74), 3) := dk_167 255 182 (dk_at dksX0_smooths_3 8 rfl rfl)
theorem dX0_smooths_82 : decode cX0_smooths 82 = .ok (.aload_n 3, 1) := dk_45 (dk_at dksX0_smooths_3 11 rfl rfl)
theorem dX0_smooths_83 : decode cX0_smooths 83 = .ok (.areturn, 1) := dk_176 (dk_at dksX0_smooths_3 12 rfl rfl)
abbrev cX0_told : ByteArray := prog_1_method_28_code
def yX0_told : MethodName := ⟨RX0, "told", "(IIII)I"⟩
def dkwX0_told_14 : List UInt8 := [172]
abbrev dktX0_told_14 : List UInt8 := dkwX0_told_14 ++ []
def dkwX0_told_13 : List UInt8 := [180, 0, 26, 180, 0, 135, 25, 6, 182, 0, 150, 87, 42, 180, 0, 26, 180, 0, 135, 182, 0, 36, 4, 100]
abbrev dktX0_told_13 : List UInt8 := dkwX0_told_13 ++ dktX0_told_14
def dkwX0_told_12 : List UInt8 := [180, 0, 178, 21, 7, 4, 96, 25, 8, 182, 1, 41, 132, 7, 1, 167, 255, 189, 42, 3, 181, 0, 141, 42]
abbrev dktX0_told_12 : List UInt8 := dkwX0_told_12 ++ dktX0_told_13
def dkwX0_told_11 : List UInt8 := [161, 0, 6, 167, 0, 32, 25, 6, 180, 0, 178, 21, 7, 182, 1, 38, 192, 0, 2, 58, 8, 25, 6]
abbrev dktX0_told_11 : List UInt8 := dkwX0_told_11 ++ dktX0_told_12
def dkwX0_told_10 : List UInt8 := [180, 0, 178, 182, 0, 36, 162, 0, 58, 42, 182, 1, 20, 42, 180, 0, 26, 180, 0, 253, 180, 1, 35]
abbrev dktX0_told_10 : List UInt8 := dkwX0_told_10 ++ dktX0_told_11
def dkwX0_told_9 : List UInt8 := [182, 1, 31, 153, 0, 10, 42, 16, 251, 182, 0, 119, 172, 3, 54, 7, 21, 7, 4, 96, 25, 6]
abbrev dktX0_told_9 : List UInt8 := dkwX0_told_9 ++ dktX0_told_10
def dkwX0_told_8 : List UInt8 := [182, 1, 3, 167, 0, 5, 25, 8, 182, 0, 150, 87, 132, 7, 1, 167, 255, 159, 25, 6, 180, 0, 178]
abbrev dktX0_told_8 : List UInt8 := dkwX0_told_8 ++ dktX0_told_9
def dkwX0_told_7 : List UInt8 := [182, 1, 20, 42, 180, 0, 26, 180, 0, 253, 180, 1, 29, 162, 0, 17, 42, 25, 8, 25, 5, 180, 1, 17]
abbrev dktX0_told_7 : List UInt8 := dkwX0_told_7 ++ dktX0_told_8
def dkwX0_told_6 : List UInt8 := [180, 0, 178, 21, 7, 182, 0, 42, 192, 0, 2, 182, 1, 26, 58, 8, 25, 6, 180, 0, 178, 42]
abbrev dktX0_told_6 : List UInt8 := dkwX0_told_6 ++ dktX0_told_7
def dkwX0_told_5 : List UInt8 := [42, 182, 1, 20, 42, 180, 0, 26, 180, 0, 253, 180, 1, 23, 162, 0, 6, 167, 0, 64, 42, 25, 5]
abbrev dktX0_told_5 : List UInt8 := dkwX0_told_5 ++ dktX0_told_6
def dkwX0_told_4 : List UInt8 := [58, 6, 42, 21, 4, 181, 1, 7, 3, 54, 7, 21, 7, 25, 5, 180, 0, 178, 182, 0, 36, 162, 0, 90]
abbrev dktX0_told_4 : List UInt8 := dkwX0_told_4 ++ dktX0_told_5
def dkwX0_told_3 : List UInt8 := [192, 0, 145, 58, 5, 187, 0, 145, 89, 25, 5, 180, 1, 17, 25, 5, 180, 1, 17, 28, 29, 183, 0, 147]
abbrev dktX0_told_3 : List UInt8 := dkwX0_told_3 ++ dktX0_told_4
def dkwX0_told_2 : List UInt8 := [16, 40, 160, 0, 10, 42, 16, 252, 182, 0, 119, 172, 42, 180, 0, 26, 180, 0, 135, 27, 182, 0, 42]
abbrev dktX0_told_2 : List UInt8 := dkwX0_told_2 ++ dktX0_told_3
def dkwX0_told_1 : List UInt8 := [184, 0, 130, 154, 0, 10, 42, 16, 253, 182, 0, 119, 172, 42, 180, 0, 26, 180, 0, 135, 182, 0, 36]
abbrev dktX0_told_1 : List UInt8 := dkwX0_told_1 ++ dktX0_told_2
def dkwX0_told_0 : List UInt8 := [42, 27, 182, 0, 159, 154, 0, 10, 42, 16, 254, 182, 0, 119, 172, 28, 184, 0, 127, 153, 0, 10, 29]
abbrev dktX0_told_0 : List UInt8 := dkwX0_told_0 ++ dktX0_told_1
theorem dksX0_told_0 : cX0_told.data.toList.drop 0 = dktX0_told_0 := by decide +kernel
theorem dksX0_told_1 : cX0_told.data.toList.drop 23 = dktX0_told_1 := dk_seg dksX0_told_0 23 rfl rfl
theorem dksX0_told_2 : cX0_told.data.toList.drop 46 = dktX0_told_2 := dk_seg dksX0_told_1 23 rfl rfl
theorem dksX0_told_3 : cX0_told.data.toList.drop 69 = dktX0_told_3 := dk_seg dksX0_told_2 23 rfl rfl
theorem dksX0_told_4 : cX0_told.data.toList.drop 93 = dktX0_told_4 := dk_seg dksX0_told_3 24 rfl rfl
theorem dksX0_told_5 : cX0_told.data.toList.drop 117 = dktX0_told_5 := dk_seg dksX0_told_4 24 rfl rfl
theorem dksX0_told_6 : cX0_told.data.toList.drop 140 = dktX0_told_6 := dk_seg dksX0_told_5 23 rfl rfl
theorem dksX0_told_7 : cX0_told.data.toList.drop 162 = dktX0_told_7 := dk_seg dksX0_told_6 22 rfl rfl
theorem dksX0_told_8 : cX0_told.data.toList.drop 186 = dktX0_told_8 := dk_seg dksX0_told_7 24 rfl rfl
theorem dksX0_told_9 : cX0_told.data.toList.drop 209 = dktX0_told_9 := dk_seg dksX0_told_8 23 rfl rfl
theorem dksX0_told_10 : cX0_told.data.toList.drop 231 = dktX0_told_10 := dk_seg dksX0_told_9 22 rfl rfl
theorem dksX0_told_11 : cX0_told.data.toList.drop 254 = dktX0_told_11 := dk_seg dksX0_told_10 23 rfl rfl
theorem dksX0_told_12 : cX0_told.data.toList.drop 277 = dktX0_told_12 := dk_seg dksX0_told_11 23 rfl rfl
theorem dksX0_told_13 : cX0_told.data.toList.drop 301 = dktX0_told_13 := dk_seg dksX0_told_12 24 rfl rfl
theorem dksX0_told_14 : cX0_told.data.toList.drop 325 = dktX0_told_14 := dk_seg dksX0_told_13 24 rfl rfl
theorem dX0_told_0 : decode cX0_told 0 = .ok (.aload_n 0, 1) := dk_42 (dk_at dksX0_told_0 0 rfl rfl)
theorem dX0_told_1 : decode cX0_told 1 = .ok (.iload_n 1, 1) := dk_27 (dk_at dksX0_told_0 1 rfl rfl)
theorem dX0_told_2 : decode cX0_told 2 = .ok (.invokevirtual 159, 3) := dk_182 0 159 (dk_at dksX0_told_0 2 rfl rfl)
theorem dX0_told_5 : decode cX0_told 5 = .ok (.ifCond .ne 10, 3) := dk_154 0 10 (dk_at dksX0_told_0 5 rfl rfl)
theorem dX0_told_8 : decode cX0_told 8 = .ok (.aload_n 0, 1) := dk_42 (dk_at dksX0_told_0 8 rfl rfl)
theorem dX0_told_9 : decode cX0_told 9 = .ok (.bipush (-2), 2) := dk_16 254 (dk_at dksX0_told_0 9 rfl rfl)
theorem dX0_told_11 : decode cX0_told 11 = .ok (.invokevirtual 119, 3) := dk_182 0 119 (dk_at dksX0_told_0 11 rfl rfl)
theorem dX0_told_14 : decode cX0_told 14 = .ok (.ireturn, 1) := dk_172 (dk_at dksX0_told_0 14 rfl rfl)
theorem dX0_told_15 : decode cX0_told 15 = .ok (.iload_n 2, 1) := dk_28 (dk_at dksX0_told_0 15 rfl rfl)
theorem dX0_told_16 : decode cX0_told 16 = .ok (.invokestatic 127, 3) := dk_184 0 127 (dk_at dksX0_told_0 16 rfl rfl)
theorem dX0_told_19 : decode cX0_told 19 = .ok (.ifCond .eq 10, 3) := dk_153 0 10 (dk_at dksX0_told_0 19 rfl rfl)
theorem dX0_told_22 : decode cX0_told 22 = .ok (.iload_n 3, 1) := dk_29 (dk_at dksX0_told_0 22 rfl rfl)
theorem dX0_told_23 : decode cX0_told 23 = .ok (.invokestatic 130, 3) := dk_184 0 130 (dk_at dksX0_told_1 0 rfl rfl)
theorem dX0_told_26 : decode cX0_told 26 = .ok (.ifCond .ne 10, 3) := dk_154 0 10 (dk_at dksX0_told_1 3 rfl rfl)
theorem dX0_told_29 : decode cX0_told 29 = .ok (.aload_n 0, 1) := dk_42 (dk_at dksX0_told_1 6 rfl rfl)
theorem dX0_told_30 : decode cX0_told 30 = .ok (.bipush (-3), 2) := dk_16 253 (dk_at dksX0_told_1 7 rfl rfl)
theorem dX0_told_32 : decode cX0_told 32 = .ok (.invokevirtual 119, 3) := dk_182 0 119 (dk_at dksX0_told_1 9 rfl rfl)
theorem dX0_told_35 : decode cX0_told 35 = .ok (.ireturn, 1) := dk_172 (dk_at dksX0_told_1 12 rfl rfl)
theorem dX0_told_36 : decode cX0_told 36 = .ok (.aload_n 0, 1) := dk_42 (dk_at dksX0_told_1 13 rfl rfl)
theorem dX0_told_37 : decode cX0_told 37 = .ok (.getfield 26, 3) := dk_180 0 26 (dk_at dksX0_told_1 14 rfl rfl)
theorem dX0_told_40 : decode cX0_told 40 = .ok (.getfield 135, 3) := dk_180 0 135 (dk_at dksX0_told_1 17 rfl rfl)
theorem dX0_told_43 : decode cX0_told 43 = .ok (.invokevirtual 36, 3) := dk_182 0 36 (dk_at dksX0_told_1 20 rfl rfl)
theorem dX0_told_46 : decode cX0_told 46 = .ok (.bipush 40, 2) := dk_16 40 (dk_at dksX0_told_2 0 rfl rfl)
theorem dX0_told_48 : decode cX0_told 48 = .ok (.if_icmp .ne 10, 3) := dk_160 0 10 (dk_at dksX0_told_2 2 rfl rfl)
theorem dX0_told_51 : decode cX0_told 51 = .ok (.aload_n 0, 1) := dk_42 (dk_at dksX0_told_2 5 rfl rfl)
theorem dX0_told_52 : decode cX0_told 52 = .ok (.bipush (-4), 2) := dk_16 252 (dk_at dksX0_told_2 6 rfl rfl)
theorem dX0_told_54 : decode cX0_told 54 = .ok (.invokevirtual 119, 3) := dk_182 0 119 (dk_at dksX0_told_2 8 rfl rfl)
theorem dX0_told_57 : decode cX0_told 57 = .ok (.ireturn, 1) := dk_172 (dk_at dksX0_told_2 11 rfl rfl)
theorem dX0_told_58 : decode cX0_told 58 = .ok (.aload_n 0, 1) := dk_42 (dk_at dksX0_told_2 12 rfl rfl)
theorem dX0_told_59 : decode cX0_told 59 = .ok (.getfield 26, 3) := dk_180 0 26 (dk_at dksX0_told_2 13 rfl rfl)
theorem dX0_told_62 : decode cX0_told 62 = .ok (.getfield 135, 3) := dk_180 0 135 (dk_at dksX0_told_2 16 rfl rfl)
theorem dX0_told_65 : decode cX0_told 65 = .ok (.iload_n 1, 1) := dk_27 (dk_at dksX0_told_2 19 rfl rfl)
theorem dX0_told_66 : decode cX0_told 66 = .ok (.invokevirtual 42, 3) := dk_182 0 42 (dk_at dksX0_told_2 20 rfl rfl)
theorem dX0_told_69 : decode cX0_told 69 = .ok (.checkcast 145, 3) := dk_192 0 145 (dk_at dksX0_told_3 0 rfl rfl)
theorem dX0_told_72 : decode cX0_told 72 = .ok (.astore 5, 2) := dk_58 5 (dk_at dksX0_told_3 3 rfl rfl)
theorem dX0_told_74 : decode cX0_told 74 = .ok (.new 145, 3) := dk_187 0 145 (dk_at dksX0_told_3 5 rfl rfl)
theorem dX0_told_77 : decode cX0_told 77 = .ok (.dup, 1) := dk_89 (dk_at dksX0_told_3 8 rfl rfl)
theorem dX0_told_78 : decode cX0_told 78 = .ok (.aload 5, 2) := dk_25 5 (dk_at dksX0_told_3 9 rfl rfl)
theorem dX0_told_80 : decode cX0_told 80 = .ok (.getfield 273, 3) := dk_180 1 17 (dk_at dksX0_told_3 11 rfl rfl)
theorem dX0_told_83 : decode cX0_told 83 = .ok (.aload 5, 2) := dk_25 5 (dk_at dksX0_told_3 14 rfl rfl)
theorem dX0_told_85 : decode cX0_told 85 = .ok (.getfield 273, 3) := dk_180 1 17 (dk_at dksX0_told_3 16 rfl rfl)
theorem dX0_told_88 : decode cX0_told 88 = .ok (.iload_n 2, 1) := dk_28 (dk_at dksX0_told_3 19 rfl rfl)
theorem dX0_told_89 : decode cX0_told 89 = .ok (.iload_n 3, 1) := dk_29 (dk_at dksX0_told_3 20 rfl rfl)
theorem dX0_told_90 : decode cX0_told 90 = .ok (.invokespecial 147, 3) := dk_183 0 147 (dk_at dksX0_told_3 21 rfl rfl)
theorem dX0_told_93 : decode cX0_told 93 = .ok (.astore 6, 2) := dk_58 6 (dk_at dksX0_told_4 0 rfl rfl)
theorem dX0_told_95 : decode cX0_told 95 = .ok (.aload_n 0, 1) := dk_42 (dk_at dksX0_told_4 2 rfl rfl)
theorem dX0_told_96 : decode cX0_told 96 = .ok (.iload 4, 2) := dk_21 4 (dk_at dksX0_told_4 3 rfl rfl)
theorem dX0_told_98 : decode cX0_told 98 = .ok (.putfield 263, 3) := dk_181 1 7 (dk_at dksX0_told_4 5 rfl rfl)
theorem dX0_told_101 : decode cX0_told 101 = .ok (.iconst 0, 1) := dk_3 (dk_at dksX0_told_4 8 rfl rfl)
theorem dX0_told_102 : decode cX0_told 102 = .ok (.istore 7, 2) := dk_54 7 (dk_at dksX0_told_4 9 rfl rfl)
theorem dX0_told_104 : decode cX0_told 104 = .ok (.iload 7, 2) := dk_21 7 (dk_at dksX0_told_4 11 rfl rfl)
theorem dX0_told_106 : decode cX0_told 106 = .ok (.aload 5, 2) := dk_25 5 (dk_at dksX0_told_4 13 rfl rfl)
theorem dX0_told_108 : decode cX0_told 108 = .ok (.getfield 178, 3) := dk_180 0 178 (dk_at dksX0_told_4 15 rfl rfl)
theorem dX0_told_111 : decode cX0_told 111 = .ok (.invokevirtual 36, 3) := dk_182 0 36 (dk_at dksX0_told_4 18 rfl rfl)
theorem dX0_told_114 : decode cX0_told 114 = .ok (.if_icmp .ge 90, 3) := dk_162 0 90 (dk_at dksX0_told_4 21 rfl rfl)
theorem dX0_told_117 : decode cX0_told 117 = .ok (.aload_n 0, 1) := dk_42 (dk_at dksX0_told_5 0 rfl rfl)
theorem dX0_told_118 : decode cX0_told 118 = .ok (.invokevirtual 276, 3) := dk_182 1 20 (dk_at dksX0_told_5 1 rfl rfl)
theorem dX0_told_121 : decode cX0_told 121 = .ok (.aload_n 0, 1) := dk_42 (dk_at dksX0_told_5 4 rfl rfl)
theorem dX0_told_122 : decode cX0_told 122 = .ok (.getfield 26, 3) := dk_180 0 26 (dk_at dksX0_told_5 5 rfl rfl)
theorem dX0_told_125 : decode cX0_told 125 = .ok (.getfield 253, 3) := dk_180 0 253 (dk_at dksX0_told_5 8 rfl rfl)
theorem dX0_told_128 : decode cX0_told 128 = .ok (.getfield 279, 3) := dk_180 1 23 (dk_at dksX0_told_5 11 rfl rfl)
theorem dX0_told_131 : decode cX0_told 131 = .ok (.if_icmp .ge 6, 3) := dk_162 0 6 (dk_at dksX0_told_5 14 rfl rfl)
theorem dX0_told_134 : decode cX0_told 134 = .ok (.goto 64, 3) := dk_167 0 64 (dk_at dksX0_told_5 17 rfl rfl)
theorem dX0_told_137 : decode cX0_told 137 = .ok (.aload_n 0, 1) := dk_42 (dk_at dksX0_told_5 20 rfl rfl)
theorem dX0_told_138 : decode cX0_told 138 = .ok (.aload 5, 2) := dk_25 5 (dk_at dksX0_told_5 21 rfl rfl)
theorem dX0_told_140 : decode cX0_told 140 = .ok (.getfield 178, 3) := dk_180 0 178 (dk_at dksX0_told_6 0 rfl rfl)
theorem dX0_told_143 : decode cX0_told 143 = .ok (.iload 7, 2) := dk_21 7 (dk_at dksX0_told_6 3 rfl rfl)
theorem dX0_told_145 : decode cX0_told 145 = .ok (.invokevirtual 42, 3) := dk_182 0 42 (dk_at dksX0_told_6 5 rfl rfl)
theorem dX0_told_148 : decode cX0_told 148 = .ok (.checkcast 2, 3) := dk_192 0 2 (dk_at dksX0_told_6 8 rfl rfl)
theorem dX0_told_151 : decode cX0_told 151 = .ok (.invokevirtual 282, 3) := dk_182 1 26 (dk_at dksX0_told_6 11 rfl rfl)
theorem dX0_told_154 : decode cX0_told 154 = .ok (.astore 8, 2) := dk_58 8 (dk_at dksX0_told_6 14 rfl rfl)
theorem dX0_told_156 : decode cX0_told 156 = .ok (.aload 6, 2) := dk_25 6 (dk_at dksX0_told_6 16 rfl rfl)
theorem dX0_told_158 : decode cX0_told 158 = .ok (.getfield 178, 3) := dk_180 0 178 (dk_at dksX0_told_6 18 rfl rfl)
theorem dX0_told_161 : decode cX0_told 161 = .ok (.aload_n 0, 1) := dk_42 (dk_at dksX0_told_6 21 rfl rfl)
theorem dX0_told_162 : decode cX0_told 162 = .ok (.invokevirtual 276, 3) := dk_182 1 20 (dk_at dksX0_told_7 0 rfl rfl)
theorem dX0_told_165 : decode cX0_told 165 = .ok (.aload_n 0, 1) := dk_42 (dk_at dksX0_told_7 3 rfl rfl)
theorem dX0_told_166 : decode cX0_told 166 = .ok (.getfield 26, 3) := dk_180 0 26 (dk_at dksX0_told_7 4 rfl rfl)
theorem dX0_told_169 : decode cX0_told 169 = .ok (.getfield 253, 3) := dk_180 0 253 (dk_at dksX0_told_7 7 rfl rfl)
theorem dX0_told_172 : decode cX0_told 172 = .ok (.getfield 285, 3) := dk_180 1 29 (dk_at dksX0_told_7 10 rfl rfl)
theorem dX0_told_175 : decode cX0_told 175 = .ok (.if_icmp .ge 17, 3) := dk_162 0 17 (dk_at dksX0_told_7 13 rfl rfl)
theorem dX0_told_178 : decode cX0_told 178 = .ok (.aload_n 0, 1) := dk_42 (dk_at dksX0_told_7 16 rfl rfl)
theorem dX0_told_179 : decode cX0_told 179 = .ok (.aload 8, 2) := dk_25 8 (dk_at dksX0_told_7 17 rfl rfl)
theorem dX0_told_181 : decode cX0_told 181 = .ok (.aload 5, 2) := dk_25 5 (dk_at dksX0_told_7 19 rfl rfl)
theorem dX0_told_183 : decode cX0_told 183 = .ok (.getfield 273, 3) := dk_180 1 17 (dk_at dksX0_told_7 21 rfl rfl)
theorem dX0_told_186 : decode cX0_told 186 = .ok (.invokevirtual 259, 3) := dk_182 1 3 (dk_at dksX0_told_8 0 rfl rfl)
theorem dX0_told_189 : decode cX0_told 189 = .ok (.goto 5, 3) := dk_167 0 5 (dk_at dksX0_told_8 3 rfl rfl)
theorem dX0_told_192 : decode cX0_told 192 = .ok (.aload 8, 2) := dk_25 8 (dk_at dksX0_told_8 6 rfl rfl)
theorem dX0_told_194 : decode cX0_told 194 = .ok (.invokevirtual 150, 3) := dk_182 0 150 (dk_at dksX0_told_8 8 rfl rfl)
theorem dX0_told_197 : decode cX0_told 197 = .ok (.pop, 1) := dk_87 (dk_at dksX0_told_8 11 rfl rfl)
theorem dX0_told_198 : decode cX0_told 198 = .ok (.iinc 7 1, 3) := dk_132 7 1 (dk_at dksX0_told_8 12 rfl rfl)
theorem dX0_told_201 : decode cX0_told 201 = .ok (.goto (-97), 3) := dk_167 255 159 (dk_at dksX0_told_8 15 rfl rfl)
theorem dX0_told_204 : decode cX0_told 204 = .ok (.aload 6, 2) := dk_25 6 (dk_at dksX0_told_8 18 rfl rfl)
theorem dX0_told_206 : decode cX0_told 206 = .ok (.getfield 178, 3) := dk_180 0 178 (dk_at dksX0_told_8 20 rfl rfl)
theorem dX0_told_209 : decode cX0_told 209 = .ok (.invokevirtual 287, 3) := dk_182 1 31 (dk_at dksX0_told_9 0 rfl rfl)
theorem dX0_told_212 : decode cX0_told 212 = .ok (.ifCond .eq 10, 3) := dk_153 0 10 (dk_at dksX0_told_9 3 rfl rfl)
theorem dX0_told_215 : decode cX0_told 215 = .ok (.aload_n 0, 1) := dk_42 (dk_at dksX0_told_9 6 rfl rfl)
theorem dX0_told_216 : decode cX0_told 216 = .ok (.bipush (-5), 2) := dk_16 251 (dk_at dksX0_told_9 7 rfl rfl)
theorem dX0_told_218 : decode cX0_told 218 = .ok (.invokevirtual 119, 3) := dk_182 0 119 (dk_at dksX0_told_9 9 rfl rfl)
theorem dX0_told_221 : decode cX0_told 221 = .ok (.ireturn, 1) := dk_172 (dk_at dksX0_told_9 12 rfl rfl)
theorem dX0_told_222 : decode cX0_told 222 = .ok (.iconst 0, 1) := dk_3 (dk_at dksX0_told_9 13 rfl rfl)
theorem dX0_told_223 : decode cX0_told 223 = .ok (.istore 7, 2) := dk_54 7 (dk_at dksX0_told_9 14 rfl rfl)
theorem dX0_told_225 : decode cX0_told 225 = .ok (.iload 7, 2) := dk_21 7 (dk_at dksX0_told_9 16 rfl rfl)
theorem dX0_told_227 : decode cX0_told 227 = .ok (.iconst 1, 1) := dk_4 (dk_at dksX0_told_9 18 rfl rfl)
theorem dX0_told_228 : decode cX0_told 228 = .ok (.iadd, 1) := dk_96 (dk_at dksX0_told_9 19 rfl rfl)
theorem dX0_told_229 : decode cX0_told 229 = .ok (.aload 6, 2) := dk_25 6 (dk_at dksX0_told_9 20 rfl rfl)
theorem dX0_told_231 : decode cX0_told 231 = .ok (.getfield 178, 3) := dk_180 0 178 (dk_at dksX0_told_10 0 rfl rfl)
theorem dX0_told_234 : decode cX0_told 234 = .ok (.invokevirtual 36, 3) := dk_182 0 36 (dk_at dksX0_told_10 3 rfl rfl)
theorem dX0_told_237 : decode cX0_told 237 = .ok (.if_icmp .ge 58, 3) := dk_162 0 58 (dk_at dksX0_told_10 6 rfl rfl)
theorem dX0_told_240 : decode cX0_told 240 = .ok (.aload_n 0, 1) := dk_42 (dk_at dksX0_told_10 9 rfl rfl)
theorem dX0_told_241 : decode cX0_told 241 = .ok (.invokevirtual 276, 3) := dk_182 1 20 (dk_at dksX0_told_10 10 rfl rfl)
theorem dX0_told_244 : decode cX0_told 244 = .ok (.aload_n 0, 1) := dk_42 (dk_at dksX0_told_10 13 rfl rfl)
theorem dX0_told_245 : decode cX0_told 245 = .ok (.getfield 26, 3) := dk_180 0 26 (dk_at dksX0_told_10 14 rfl rfl)
theorem dX0_told_248 : decode cX0_told 248 = .ok (.getfield 253, 3) := dk_180 0 253 (dk_at dksX0_told_10 17 rfl rfl)
theorem dX0_told_251 : decode cX0_told 251 = .ok (.getfield 291, 3) := dk_180 1 35 (dk_at dksX0_told_10 20 rfl rfl)
theorem dX0_told_254 : decode cX0_told 254 = .ok (.if_icmp .lt 6, 3) := dk_161 0 6 (dk_at dksX0_told_11 0 rfl rfl)
theorem dX0_told_257 : decode cX0_told 257 = .ok (.goto 32, 3) := dk_167 0 32 (dk_at dksX0_told_11 3 rfl rfl)
theorem dX0_told_260 : decode cX0_told 260 = .ok (.aload 6, 2) := dk_25 6 (dk_at dksX0_told_11 6 rfl rfl)
theorem dX0_told_262 : decode cX0_told 262 = .ok (.getfield 178, 3) := dk_180 0 178 (dk_at dksX0_told_11 8 rfl rfl)
theorem dX0_told_265 : decode cX0_told 265 = .ok (.iload 7, 2) := dk_21 7 (dk_at dksX0_told_11 11 rfl rfl)
theorem dX0_told_267 : decode cX0_told 267 = .ok (.invokevirtual 294, 3) := dk_182 1 38 (dk_at dksX0_told_11 13 rfl rfl)
theorem dX0_told_270 : decode cX0_told 270 = .ok (.checkcast 2, 3) := dk_192 0 2 (dk_at dksX0_told_11 16 rfl rfl)
theorem dX0_told_273 : decode cX0_told 273 = .ok (.astore 8, 2) := dk_58 8 (dk_at dksX0_told_11 19 rfl rfl)
theorem dX0_told_275 : decode cX0_told 275 = .ok (.aload 6, 2) := dk_25 6 (dk_at dksX0_told_11 21 rfl rfl)
theorem dX0_told_277 : decode cX0_told 277 = .ok (.getfield 178, 3) := dk_180 0 178 (dk_at dksX0_told_12 0 rfl rfl)
theorem dX0_told_280 : decode cX0_told 280 = .ok (.iload 7, 2) := dk_21 7 (dk_at dksX0_told_12 3 rfl rfl)
theorem dX0_told_282 : decode cX0_told 282 = .ok (.iconst 1, 1) := dk_4 (dk_at dksX0_told_12 5 rfl rfl)
theorem dX0_told_283 : decode cX0_told 283 = .ok (.iadd, 1) := dk_96 (dk_at dksX0_told_12 6 rfl rfl)
theorem dX0_told_284 : decode cX0_told 284 = .ok (.aload 8, 2) := dk_25 8 (dk_at dksX0_told_12 7 rfl rfl)
theorem dX0_told_286 : decode cX0_told 286 = .ok (.invokevirtual 297, 3) := dk_182 1 41 (dk_at dksX0_told_12 9 rfl rfl)
theorem dX0_told_289 : decode cX0_told 289 = .ok (.iinc 7 1, 3) := dk_132 7 1 (dk_at dksX0_told_12 12 rfl rfl)
theorem dX0_told_292 : decode cX0_told 292 = .ok (.goto (-67), 3) := dk_167 255 189 (dk_at dksX0_told_12 15 rfl rfl)
theorem dX0_told_295 : decode cX0_told 295 = .ok (.aload_n 0, 1) := dk_42 (dk_at dksX0_told_12 18 rfl rfl)
theorem dX0_told_296 : decode cX0_told 296 = .ok (.iconst 0, 1) := dk_3 (dk_at dksX0_told_12 19 rfl rfl)
theorem dX0_told_297 : decode cX0_told 297 = .ok (.putfield 141, 3) := dk_181 0 141 (dk_at dksX0_told_12 20 rfl rfl)
theorem dX0_told_300 : decode cX0_told 300 = .ok (.aload_n 0, 1) := dk_42 (dk_at dksX0_told_12 23 rfl rfl)
theorem dX0_told_301 : decode cX0_told 301 = .ok (.getfield 26, 3) := dk_180 0 26 (dk_at dksX0_told_13 0 rfl rfl)
theorem dX0_told_304 : decode cX0_told 304 = .ok (.getfield 135, 3) := dk_180 0 135 (dk_at dksX0_told_13 3 rfl rfl)
theorem dX0_told_307 : decode cX0_told 307 = .ok (.aload 6, 2) := dk_25 6 (dk_at dksX0_told_13 6 rfl rfl)
theorem dX0_told_309 : decode cX0_told 309 = .ok (.invokevirtual 150, 3) := dk_182 0 150 (dk_at dksX0_told_13 8 rfl rfl)
theorem dX0_told_312 : decode cX0_told 312 = .ok (.pop, 1) := dk_87 (dk_at dksX0_told_13 11 rfl rfl)
theorem dX0_told_313 : decode cX0_told 313 = .ok (.aload_n 0, 1) := dk_42 (dk_at dksX0_told_13 12 rfl rfl)
theorem dX0_told_314 : decode cX0_told 314 = .ok (.getfield 26, 3) := dk_180 0 26 (dk_at dksX0_told_13 13 rfl rfl)
theorem dX0_told_317 : decode cX0_told 317 = .ok (.getfield 135, 3) := dk_180 0 135 (dk_at dksX0_told_13 16 rfl rfl)
theorem dX0_told_320 : decode cX0_told 320 = .ok (.invokevirtual 36, 3) := dk_182 0 36 (dk_at dksX0_told_13 19 rfl rfl)
theorem dX0_told_323 : decode cX0_told 323 = .ok (.iconst 1, 1) := dk_4 (dk_at dksX0_told_13 22 rfl rfl)
theorem dX0_told_324 : decode cX0_told 324 = .ok (.isub, 1) := dk_100 (dk_at dksX0_told_13 23 rfl rfl)
theorem dX0_told_325 : decode cX0_told 325 = .ok (.ireturn, 1) := dk_172 (dk_at dksX0_told_14 0 rfl rfl)
abbrev cX0_draw : ByteArray := prog_1_method_26_code
def yX0_draw : MethodName := ⟨RX0, "draw", "()I"⟩
def dkwX0_draw_1 : List UInt8 := [16, 100, 112, 172]
abbrev dktX0_draw_1 : List UInt8 := dkwX0_draw_1 ++ []
def dkwX0_draw_0 : List UInt8 := [42, 19, 1, 6, 42, 180, 1, 7, 104, 17, 48, 57, 96, 181, 1, 7, 42, 180, 1, 7, 16, 16, 124]
abbrev dktX0_draw_0 : List UInt8 := dkwX0_draw_0 ++ dktX0_draw_1
theorem dksX0_draw_0 : cX0_draw.data.toList.drop 0 = dktX0_draw_0 := by decide +kernel
theorem dksX0_draw_1 : cX0_draw.data.toList.drop 23 = dktX0_draw_1 := dk_seg dksX0_draw_0 23 rfl rfl
theorem dX0_draw_0 : decode cX0_draw 0 = .ok (.aload_n 0, 1) := dk_42 (dk_at dksX0_draw_0 0 rfl rfl)
theorem dX0_draw_1 : decode cX0_draw 1 = .ok (.ldc_w 262, 3) := dk_19 1 6 (dk_at dksX0_draw_0 1 rfl rfl)
theorem dX0_draw_4 : decode cX0_draw 4 = .ok (.aload_n 0, 1) := dk_42 (dk_at dksX0_draw_0 4 rfl rfl)
theorem dX0_draw_5 : decode cX0_draw 5 = .ok (.getfield 263, 3) := dk_180 1 7 (dk_at dksX0_draw_0 5 rfl rfl)
theorem dX0_draw_8 : decode cX0_draw 8 = .ok (.imul, 1) := dk_104 (dk_at dksX0_draw_0 8 rfl rfl)
theorem dX0_draw_9 : decode cX0_draw 9 = .ok (.sipush 12345, 3) := dk_17 48 57 (dk_at dksX0_draw_0 9 rfl rfl)
theorem dX0_draw_12 : decode cX0_draw 12 = .ok (.iadd, 1) := dk_96 (dk_at dksX0_draw_0 12 rfl rfl)
theorem dX0_draw_13 : decode cX0_draw 13 = .ok (.putfield 263, 3) := dk_181 1 7 (dk_at dksX0_draw_0 13 rfl rfl)
theorem dX0_draw_16 : decode cX0_draw 16 = .ok (.aload_n 0, 1) := dk_42 (dk_at dksX0_draw_0 16 rfl rfl)
theorem dX0_draw_17 : decode cX0_draw 17 = .ok (.getfield 263, 3) := dk_180 1 7 (dk_at dksX0_draw_0 17 rfl rfl)
theorem dX0_draw_20 : decode cX0_draw 20 = .ok (.bipush 16, 2) := dk_16 16 (dk_at dksX0_draw_0 20 rfl rfl)
theorem dX0_draw_22 : decode cX0_draw 22 = .ok (.iushr, 1) := dk_124 (dk_at dksX0_draw_0 22 rfl rfl)
theorem dX0_draw_23 : decode cX0_draw 23 = .ok (.bipush 100, 2) := dk_16 100 (dk_at dksX0_draw_1 0 rfl rfl)
theorem dX0_draw_25 : decode cX0_draw 25 = .ok (.irem, 1) := dk_112 (dk_at dksX0_draw_1 2 rfl rfl)
theorem dX0_draw_26 : decode cX0_draw 26 = .ok (.ireturn, 1) := dk_172 (dk_at dksX0_draw_1 3 rfl rfl)
abbrev cX0_said : ByteArray := prog_1_method_27_code
def yX0_said : MethodName := ⟨RX0, "said", "(LNobodysBard$Phrase;)LNobodysBard$Phrase;"⟩
def dkwX0_said_3 : List UInt8 := [132, 3, 1, 167, 255, 195, 44, 176]
abbrev dktX0_said_3 : List UInt8 := dkwX0_said_3 ++ []
def dkwX0_said_2 : List UInt8 := [167, 0, 20, 42, 180, 0, 26, 180, 0, 253, 180, 1, 11, 43, 180, 0, 7, 29, 46, 46, 182, 1, 14]
abbrev dktX0_said_2 : List UInt8 := dkwX0_said_2 ++ dktX0_said_3
def dkwX0_said_1 : List UInt8 := [180, 0, 253, 180, 1, 11, 43, 180, 0, 7, 29, 46, 46, 154, 0, 12, 43, 180, 0, 7, 29, 46]
abbrev dktX0_said_1 : List UInt8 := dkwX0_said_1 ++ dktX0_said_2
def dkwX0_said_0 : List UInt8 := [187, 0, 2, 89, 183, 1, 10, 77, 3, 62, 29, 43, 180, 0, 1, 162, 0, 59, 44, 42, 180, 0, 26]
abbrev dktX0_said_0 : List UInt8 := dkwX0_said_0 ++ dktX0_said_1
theorem dksX0_said_0 : cX0_said.data.toList.drop 0 = dktX0_said_0 := by decide +kernel
theorem dksX0_said_1 : cX0_said.data.toList.drop 23 = dktX0_said_1 := dk_seg dksX0_said_0 23 rfl rfl
theorem dksX0_said_2 : cX0_said.data.toList.drop 45 = dktX0_said_2 := dk_seg dksX0_said_1 22 rfl rfl
theorem dksX0_said_3 : cX0_said.data.toList.drop 68 = dktX0_said_3 := dk_seg dksX0_said_2 23 rfl rfl
theorem dX0_said_0 : decode cX0_said 0 = .ok (.new 2, 3) := dk_187 0 2 (dk_at dksX0_said_0 0 rfl rfl)
theorem dX0_said_3 : decode cX0_said 3 = .ok (.dup, 1) := dk_89 (dk_at dksX0_said_0 3 rfl rfl)
theorem dX0_said_4 : decode cX0_said 4 = .ok (.invokespecial 266, 3) := dk_183 1 10 (dk_at dksX0_said_0 4 rfl rfl)
theorem dX0_said_7 : decode cX0_said 7 = .ok (.astore_n 2, 1) := dk_77 (dk_at dksX0_said_0 7 rfl rfl)
theorem dX0_said_8 : decode cX0_said 8 = .ok (.iconst 0, 1) := dk_3 (dk_at dksX0_said_0 8 rfl rfl)
theorem dX0_said_9 : decode cX0_said 9 = .ok (.istore_n 3, 1) := dk_62 (dk_at dksX0_said_0 9 rfl rfl)
theorem dX0_said_10 : decode cX0_said 10 = .ok (.iload_n 3, 1) := dk_29 (dk_at dksX0_said_0 10 rfl rfl)
theorem dX0_said_11 : decode cX0_said 11 = .ok (.aload_n 1, 1) := dk_43 (dk_at dksX0_said_0 11 rfl rfl)
theorem dX0_said_12 : decode cX0_said 12 = .ok (.getfield 1, 3) := dk_180 0 1 (dk_at dksX0_said_0 12 rfl rfl)
theorem dX0_said_15 : decode cX0_said 15 = .ok (.if_icmp .ge 59, 3) := dk_162 0 59 (dk_at dksX0_said_0 15 rfl rfl)
theorem dX0_said_18 : decode cX0_said 18 = .ok (.aload_n 2, 1) := dk_44 (dk_at dksX0_said_0 18 rfl rfl)
theorem dX0_said_19 : decode cX0_said 19 = .ok (.aload_n 0, 1) := dk_42 (dk_at dksX0_said_0 19 rfl rfl)
theorem dX0_said_20 : decode cX0_said 20 = .ok (.getfield 26, 3) := dk_180 0 26 (dk_at dksX0_said_0 20 rfl rfl)
theorem dX0_said_23 : decode cX0_said 23 = .ok (.getfield 253, 3) := dk_180 0 253 (dk_at dksX0_said_1 0 rfl rfl)
theorem dX0_said_26 : decode cX0_said 26 = .ok (.getfield 267, 3) := dk_180 1 11 (dk_at dksX0_said_1 3 rfl rfl)
theorem dX0_said_29 : decode cX0_said 29 = .ok (.aload_n 1, 1) := dk_43 (dk_at dksX0_said_1 6 rfl rfl)
theorem dX0_said_30 : decode cX0_said 30 = .ok (.getfield 7, 3) := dk_180 0 7 (dk_at dksX0_said_1 7 rfl rfl)
theorem dX0_said_33 : decode cX0_said 33 = .ok (.iload_n 3, 1) := dk_29 (dk_at dksX0_said_1 10 rfl rfl)
theorem dX0_said_34 : decode cX0_said 34 = .ok (.iaload, 1) := dk_46 (dk_at dksX0_said_1 11 rfl rfl)
theorem dX0_said_35 : decode cX0_said 35 = .ok (.iaload, 1) := dk_46 (dk_at dksX0_said_1 12 rfl rfl)
theorem dX0_said_36 : decode cX0_said 36 = .ok (.ifCond .ne 12, 3) := dk_154 0 12 (dk_at dksX0_said_1 13 rfl rfl)
theorem dX0_said_39 : decode cX0_said 39 = .ok (.aload_n 1, 1) := dk_43 (dk_at dksX0_said_1 16 rfl rfl)
theorem dX0_said_40 : decode cX0_said 40 = .ok (.getfield 7, 3) := dk_180 0 7 (dk_at dksX0_said_1 17 rfl rfl)
theorem dX0_said_43 : decode cX0_said 43 = .ok (.iload_n 3, 1) := dk_29 (dk_at dksX0_said_1 20 rfl rfl)
theorem dX0_said_44 : decode cX0_said 44 = .ok (.iaload, 1) := dk_46 (dk_at dksX0_said_1 21 rfl rfl)
theorem dX0_said_45 : decode cX0_said 45 = .ok (.goto 20, 3) := dk_167 0 20 (dk_at dksX0_said_2 0 rfl rfl)
theorem dX0_said_48 : decode cX0_said 48 = .ok (.aload_n 0, 1) := dk_42 (dk_at dksX0_said_2 3 rfl rfl)
theorem dX0_said_49 : decode cX0_said 49 = .ok (.getfield 26, 3) := dk_180 0 26 (dk_at dksX0_said_2 4 rfl rfl)
theorem dX0_said_52 : decode cX0_said 52 = .ok (.getfield 253, 3) := dk_180 0 253 (dk_at dksX0_said_2 7 rfl rfl)
theorem dX0_said_55 : decode cX0_said 55 = .ok (.getfield 267, 3) := dk_180 1 11 (dk_at dksX0_said_2 10 rfl rfl)
theorem dX0_said_58 : decode cX0_said 58 = .ok (.aload_n 1, 1) := dk_43 (dk_at dksX0_said_2 13 rfl rfl)
theorem dX0_said_59 : decode cX0_said 59 = .ok (.getfield 7, 3) := dk_180 0 7 (dk_at dksX0_said_2 14 rfl rfl)
theorem dX0_said_62 : decode cX0_said 62 = .ok (.iload_n 3, 1) := dk_29 (dk_at dksX0_said_2 17 rfl rfl)
theorem dX0_said_63 : decode cX0_said 63 = .ok (.iaload, 1) := dk_46 (dk_at dksX0_said_2 18 rfl rfl)
theorem dX0_said_64 : decode cX0_said 64 = .ok (.iaload, 1) := dk_46 (dk_at dksX0_said_2 19 rfl rfl)
theorem dX0_said_65 : decode cX0_said 65 = .ok (.invokevirtual 270, 3) := dk_182 1 14 (dk_at dksX0_said_2 20 rfl rfl)
theorem dX0_said_68 : decode cX0_said 68 = .ok (.iinc 3 1, 3) := dk_132 3 1 (dk_at dksX0_said_3 0 rfl rfl)
theorem dX0_said_71 : decode cX0_said 71 = .ok (.goto (-61), 3) := dk_167 255 195 (dk_at dksX0_said_3 3 rfl rfl)
theorem dX0_said_74 : decode cX0_said 74 = .ok (.aload_n 2, 1) := dk_44 (dk_at dksX0_said_3 6 rfl rfl)
theorem dX0_said_75 : decode cX0_said 75 = .ok (.areturn, 1) := dk_176 (dk_at dksX0_said_3 7 rfl rfl)
abbrev cX0_whose : ByteArray := prog_1_method_35_code
def yX0_whose : MethodName := ⟨RX0, "whose", "(II)I"⟩
def dkwX0_whose_2 : List UInt8 := [28, 154, 0, 12, 45, 185, 1, 94, 1, 0, 167, 0, 9, 45, 185, 1, 99, 1, 0, 172]
abbrev dktX0_whose_2 : List UInt8 := dkwX0_whose_2 ++ []
def dkwX0_whose_1 : List UInt8 := [172, 42, 182, 1, 87, 42, 42, 180, 0, 26, 180, 0, 154, 27, 182, 0, 42, 192, 0, 173, 182, 1, 90, 78]
abbrev dktX0_whose_1 : List UInt8 := dkwX0_whose_1 ++ dktX0_whose_2
def dkwX0_whose_0 : List UInt8 := [42, 27, 182, 0, 192, 153, 0, 13, 28, 133, 9, 10, 184, 0, 111, 154, 0, 10, 42, 16, 254, 182, 0, 119]
abbrev dktX0_whose_0 : List UInt8 := dkwX0_whose_0 ++ dktX0_whose_1
theorem dksX0_whose_0 : cX0_whose.data.toList.drop 0 = dktX0_whose_0 := by decide +kernel
theorem dksX0_whose_1 : cX0_whose.data.toList.drop 24 = dktX0_whose_1 := dk_seg dksX0_whose_0 24 rfl rfl
theorem dksX0_whose_2 : cX0_whose.data.toList.drop 48 = dktX0_whose_2 := dk_seg dksX0_whose_1 24 rfl rfl
theorem dX0_whose_0 : decode cX0_whose 0 = .ok (.aload_n 0, 1) := dk_42 (dk_at dksX0_whose_0 0 rfl rfl)
theorem dX0_whose_1 : decode cX0_whose 1 = .ok (.iload_n 1, 1) := dk_27 (dk_at dksX0_whose_0 1 rfl rfl)
theorem dX0_whose_2 : decode cX0_whose 2 = .ok (.invokevirtual 192, 3) := dk_182 0 192 (dk_at dksX0_whose_0 2 rfl rfl)
theorem dX0_whose_5 : decode cX0_whose 5 = .ok (.ifCond .eq 13, 3) := dk_153 0 13 (dk_at dksX0_whose_0 5 rfl rfl)
theorem dX0_whose_8 : decode cX0_whose 8 = .ok (.iload_n 2, 1) := dk_28 (dk_at dksX0_whose_0 8 rfl rfl)
theorem dX0_whose_9 : decode cX0_whose 9 = .ok (.i2l, 1) := dk_133 (dk_at dksX0_whose_0 9 rfl rfl)
theorem dX0_whose_10 : decode cX0_whose 10 = .ok (.lconst 0, 1) := dk_9 (dk_at dksX0_whose_0 10 rfl rfl)
theorem dX0_whose_11 : decode cX0_whose 11 = .ok (.lconst 1, 1) := dk_10 (dk_at dksX0_whose_0 11 rfl rfl)
theorem dX0_whose_12 : decode cX0_whose 12 = .ok (.invokestatic 111, 3) := dk_184 0 111 (dk_at dksX0_whose_0 12 rfl rfl)
theorem dX0_whose_15 : decode cX0_whose 15 = .ok (.ifCond .ne 10, 3) := dk_154 0 10 (dk_at dksX0_whose_0 15 rfl rfl)
theorem dX0_whose_18 : decode cX0_whose 18 = .ok (.aload_n 0, 1) := dk_42 (dk_at dksX0_whose_0 18 rfl rfl)
theorem dX0_whose_19 : decode cX0_whose 19 = .ok (.bipush (-2), 2) := dk_16 254 (dk_at dksX0_whose_0 19 rfl rfl)
theorem dX0_whose_21 : decode cX0_whose 21 = .ok (.invokevirtual 119, 3) := dk_182 0 119 (dk_at dksX0_whose_0 21 rfl rfl)
theorem dX0_whose_24 : decode cX0_whose 24 = .ok (.ireturn, 1) := dk_172 (dk_at dksX0_whose_1 0 rfl rfl)
theorem dX0_whose_25 : decode cX0_whose 25 = .ok (.aload_n 0, 1) := dk_42 (dk_at dksX0_whose_1 1 rfl rfl)
theorem dX0_whose_26 : decode cX0_whose 26 = .ok (.invokevirtual 343, 3) := dk_182 1 87 (dk_at dksX0_whose_1 2 rfl rfl)
theorem dX0_whose_29 : decode cX0_whose 29 = .ok (.aload_n 0, 1) := dk_42 (dk_at dksX0_whose_1 5 rfl rfl)
theorem dX0_whose_30 : decode cX0_whose 30 = .ok (.aload_n 0, 1) := dk_42 (dk_at dksX0_whose_1 6 rfl rfl)
theorem dX0_whose_31 : decode cX0_whose 31 = .ok (.getfield 26, 3) := dk_180 0 26 (dk_at dksX0_whose_1 7 rfl rfl)
theorem dX0_whose_34 : decode cX0_whose 34 = .ok (.getfield 154, 3) := dk_180 0 154 (dk_at dksX0_whose_1 10 rfl rfl)
theorem dX0_whose_37 : decode cX0_whose 37 = .ok (.iload_n 1, 1) := dk_27 (dk_at dksX0_whose_1 13 rfl rfl)
theorem dX0_whose_38 : decode cX0_whose 38 = .ok (.invokevirtual 42, 3) := dk_182 0 42 (dk_at dksX0_whose_1 14 rfl rfl)
theorem dX0_whose_41 : decode cX0_whose 41 = .ok (.checkcast 173, 3) := dk_192 0 173 (dk_at dksX0_whose_1 17 rfl rfl)
theorem dX0_whose_44 : decode cX0_whose 44 = .ok (.invokevirtual 346, 3) := dk_182 1 90 (dk_at dksX0_whose_1 20 rfl rfl)
theorem dX0_whose_47 : decode cX0_whose 47 = .ok (.astore_n 3, 1) := dk_78 (dk_at dksX0_whose_1 23 rfl rfl)
theorem dX0_whose_48 : decode cX0_whose 48 = .ok (.iload_n 2, 1) := dk_28 (dk_at dksX0_whose_2 0 rfl rfl)
theorem dX0_whose_49 : decode cX0_whose 49 = .ok (.ifCond .ne 12, 3) := dk_154 0 12 (dk_at dksX0_whose_2 1 rfl rfl)
theorem dX0_whose_52 : decode cX0_whose 52 = .ok (.aload_n 3, 1) := dk_45 (dk_at dksX0_whose_2 4 rfl rfl)
theorem dX0_whose_53 : decode cX0_whose 53 = .ok (.invokeinterface 350 1, 5) := by decide +kernel
theorem dX0_whose_58 : decode cX0_whose 58 = .ok (.goto 9, 3) := dk_167 0 9 (dk_at dksX0_whose_2 10 rfl rfl)
theorem dX0_whose_61 : decode cX0_whose 61 = .ok (.aload_n 3, 1) := dk_45 (dk_at dksX0_whose_2 13 rfl rfl)
theorem dX0_whose_62 : decode cX0_whose 62 = .ok (.invokeinterface 355 1, 5) := by decide +kernel
theorem dX0_whose_67 : decode cX0_whose 67 = .ok (.ireturn, 1) := dk_172 (dk_at dksX0_whose_2 19 rfl rfl)
abbrev cX0_laySmooth : ByteArray := prog_1_method_30_code
def yX0_laySmooth : MethodName := ⟨RX0, "laySmooth", "()V"⟩
def dkwX0_laySmooth_4 : List UInt8 := [132, 3, 1, 167, 255, 204, 132, 1, 1, 167, 255, 167, 177]
abbrev dktX0_laySmooth_4 : List UInt8 := dkwX0_laySmooth_4 ++ []
def dkwX0_laySmooth_3 : List UInt8 := [27, 104, 29, 96, 42, 44, 180, 0, 178, 29, 182, 0, 42, 192, 0, 2, 44, 180, 1, 17, 182, 1, 3, 83]
abbrev dktX0_laySmooth_3 : List UInt8 := dkwX0_laySmooth_3 ++ dktX0_laySmooth_4
def dkwX0_laySmooth_2 : List UInt8 := [44, 182, 1, 47, 153, 0, 50, 29, 44, 180, 0, 178, 182, 0, 36, 162, 0, 39, 42, 180, 0, 86, 16, 12]
abbrev dktX0_laySmooth_2 : List UInt8 := dkwX0_laySmooth_2 ++ dktX0_laySmooth_3
def dkwX0_laySmooth_1 : List UInt8 := [182, 0, 36, 162, 0, 81, 42, 180, 0, 26, 180, 0, 135, 27, 182, 0, 42, 192, 0, 145, 77, 3, 62, 42]
abbrev dktX0_laySmooth_1 : List UInt8 := dkwX0_laySmooth_1 ++ dktX0_laySmooth_2
def dkwX0_laySmooth_0 : List UInt8 := [42, 180, 0, 141, 153, 0, 4, 177, 42, 4, 181, 0, 141, 3, 60, 27, 42, 180, 0, 26, 180, 0, 135]
abbrev dktX0_laySmooth_0 : List UInt8 := dkwX0_laySmooth_0 ++ dktX0_laySmooth_1
theorem dksX0_laySmooth_0 : cX0_laySmooth.data.toList.drop 0 = dktX0_laySmooth_0 := by decide +kernel
theorem dksX0_laySmooth_1 : cX0_laySmooth.data.toList.drop 23 = dktX0_laySmooth_1 := dk_seg dksX0_laySmooth_0 23 rfl rfl
theorem dksX0_laySmooth_2 : cX0_laySmooth.data.toList.drop 47 = dktX0_laySmooth_2 := dk_seg dksX0_laySmooth_1 24 rfl rfl
theorem dksX0_laySmooth_3 : cX0_laySmooth.data.toList.drop 71 = dktX0_laySmooth_3 := dk_seg dksX0_laySmooth_2 24 rfl rfl
theorem dksX0_laySmooth_4 : cX0_laySmooth.data.toList.drop 95 = dktX0_laySmooth_4 := dk_seg dksX0_laySmooth_3 24 rfl rfl
theorem dX0_laySmooth_0 : decode cX0_laySmooth 0 = .ok (.aload_n 0, 1) := dk_42 (dk_at dksX0_laySmooth_0 0 rfl rfl)
theorem dX0_laySmooth_1 : decode cX0_laySmooth 1 = .ok (.getfield 141, 3) := dk_180 0 141 (dk_at dksX0_laySmooth_0 1 rfl rfl)
theorem dX0_laySmooth_4 : decode cX0_laySmooth 4 = .ok (.ifCond .eq 4, 3) := dk_153 0 4 (dk_at dksX0_laySmooth_0 4 rfl rfl)
theorem dX0_laySmooth_7 : decode cX0_laySmooth 7 = .ok (.return_, 1) := dk_177 (dk_at dksX0_laySmooth_0 7 rfl rfl)
theorem dX0_laySmooth_8 : decode cX0_laySmooth 8 = .ok (.aload_n 0, 1) := dk_42 (dk_at dksX0_laySmooth_0 8 rfl rfl)
theorem dX0_laySmooth_9 : decode cX0_laySmooth 9 = .ok (.iconst 1, 1) := dk_4 (dk_at dksX0_laySmooth_0 9 rfl rfl)
theorem dX0_laySmooth_10 : decode cX0_laySmooth 10 = .ok (.putfield 141, 3) := dk_181 0 141 (dk_at dksX0_laySmooth_0 10 rfl rfl)
theorem dX0_laySmooth_13 : decode cX0_laySmooth 13 = .ok (.iconst 0, 1) := dk_3 (dk_at dksX0_laySmooth_0 13 rfl rfl)
theorem dX0_laySmooth_14 : decode cX0_laySmooth 14 = .ok (.istore_n 1, 1) := dk_60 (dk_at dksX0_laySmooth_0 14 rfl rfl)
theorem dX0_laySmooth_15 : decode cX0_laySmooth 15 = .ok (.iload_n 1, 1) := dk_27 (dk_at dksX0_laySmooth_0 15 rfl rfl)
theorem dX0_laySmooth_16 : decode cX0_laySmooth 16 = .ok (.aload_n 0, 1) := dk_42 (dk_at dksX0_laySmooth_0 16 rfl rfl)
theorem dX0_laySmooth_17 : decode cX0_laySmooth 17 = .ok (.getfield 26, 3) := dk_180 0 26 (dk_at dksX0_laySmooth_0 17 rfl rfl)
theorem dX0_laySmooth_20 : decode cX0_laySmooth 20 = .ok (.getfield 135, 3) := dk_180 0 135 (dk_at dksX0_laySmooth_0 20 rfl rfl)
theorem dX0_laySmooth_23 : decode cX0_laySmooth 23 = .ok (.invokevirtual 36, 3) := dk_182 0 36 (dk_at dksX0_laySmooth_1 0 rfl rfl)
theorem dX0_laySmooth_26 : decode cX0_laySmooth 26 = .ok (.if_icmp .ge 81, 3) := dk_162 0 81 (dk_at dksX0_laySmooth_1 3 rfl rfl)
theorem dX0_laySmooth_29 : decode cX0_laySmooth 29 = .ok (.aload_n 0, 1) := dk_42 (dk_at dksX0_laySmooth_1 6 rfl rfl)
theorem dX0_laySmooth_30 : decode cX0_laySmooth 30 = .ok (.getfield 26, 3) := dk_180 0 26 (dk_at dksX0_laySmooth_1 7 rfl rfl)
theorem dX0_laySmooth_33 : decode cX0_laySmooth 33 = .ok (.getfield 135, 3) := dk_180 0 135 (dk_at dksX0_laySmooth_1 10 rfl rfl)
theorem dX0_laySmooth_36 : decode cX0_laySmooth 36 = .ok (.iload_n 1, 1) := dk_27 (dk_at dksX0_laySmooth_1 13 rfl rfl)
theorem dX0_laySmooth_37 : decode cX0_laySmooth 37 = .ok (.invokevirtual 42, 3) := dk_182 0 42 (dk_at dksX0_laySmooth_1 14 rfl rfl)
theorem dX0_laySmooth_40 : decode cX0_laySmooth 40 = .ok (.checkcast 145, 3) := dk_192 0 145 (dk_at dksX0_laySmooth_1 17 rfl rfl)
theorem dX0_laySmooth_43 : decode cX0_laySmooth 43 = .ok (.astore_n 2, 1) := dk_77 (dk_at dksX0_laySmooth_1 20 rfl rfl)
theorem dX0_laySmooth_44 : decode cX0_laySmooth 44 = .ok (.iconst 0, 1) := dk_3 (dk_at dksX0_laySmooth_1 21 rfl rfl)
theorem dX0_laySmooth_45 : decode cX0_laySmooth 45 = .ok (.istore_n 3, 1) := dk_62 (dk_at dksX0_laySmooth_1 22 rfl rfl)
theorem dX0_laySmooth_46 : decode cX0_laySmooth 46 = .ok (.aload_n 0, 1) := dk_42 (dk_at dksX0_laySmooth_1 23 rfl rfl)
theorem dX0_laySmooth_47 : decode cX0_laySmooth 47 = .ok (.aload_n 2, 1) := dk_44 (dk_at dksX0_laySmooth_2 0 rfl rfl)
theorem dX0_laySmooth_48 : decode cX0_laySmooth 48 = .ok (.invokevirtual 303, 3) := dk_182 1 47 (dk_at dksX0_laySmooth_2 1 rfl rfl)
theorem dX0_laySmooth_51 : decode cX0_laySmooth 51 = .ok (.ifCond .eq 50, 3) := dk_153 0 50 (dk_at dksX0_laySmooth_2 4 rfl rfl)
theorem dX0_laySmooth_54 : decode cX0_laySmooth 54 = .ok (.iload_n 3, 1) := dk_29 (dk_at dksX0_laySmooth_2 7 rfl rfl)
theorem dX0_laySmooth_55 : decode cX0_laySmooth 55 = .ok (.aload_n 2, 1) := dk_44 (dk_at dksX0_laySmooth_2 8 rfl rfl)
theorem dX0_laySmooth_56 : decode cX0_laySmooth 56 = .ok (.getfield 178, 3) := dk_180 0 178 (dk_at dksX0_laySmooth_2 9 rfl rfl)
theorem dX0_laySmooth_59 : decode cX0_laySmooth 59 = .ok (.invokevirtual 36, 3) := dk_182 0 36 (dk_at dksX0_laySmooth_2 12 rfl rfl)
theorem dX0_laySmooth_62 : decode cX0_laySmooth 62 = .ok (.if_icmp .ge 39, 3) := dk_162 0 39 (dk_at dksX0_laySmooth_2 15 rfl rfl)
theorem dX0_laySmooth_65 : decode cX0_laySmooth 65 = .ok (.aload_n 0, 1) := dk_42 (dk_at dksX0_laySmooth_2 18 rfl rfl)
theorem dX0_laySmooth_66 : decode cX0_laySmooth 66 = .ok (.getfield 86, 3) := dk_180 0 86 (dk_at dksX0_laySmooth_2 19 rfl rfl)
theorem dX0_laySmooth_69 : decode cX0_laySmooth 69 = .ok (.bipush 12, 2) := dk_16 12 (dk_at dksX0_laySmooth_2 22 rfl rfl)
theorem dX0_laySmooth_71 : decode cX0_laySmooth 71 = .ok (.iload_n 1, 1) := dk_27 (dk_at dksX0_laySmooth_3 0 rfl rfl)
theorem dX0_laySmooth_72 : decode cX0_laySmooth 72 = .ok (.imul, 1) := dk_104 (dk_at dksX0_laySmooth_3 1 rfl rfl)
theorem dX0_laySmooth_73 : decode cX0_laySmooth 73 = .ok (.iload_n 3, 1) := dk_29 (dk_at dksX0_laySmooth_3 2 rfl rfl)
theorem dX0_laySmooth_74 : decode cX0_laySmooth 74 = .ok (.iadd, 1) := dk_96 (dk_at dksX0_laySmooth_3 3 rfl rfl)
theorem dX0_laySmooth_75 : decode cX0_laySmooth 75 = .ok (.aload_n 0, 1) := dk_42 (dk_at dksX0_laySmooth_3 4 rfl rfl)
theorem dX0_laySmooth_76 : decode cX0_laySmooth 76 = .ok (.aload_n 2, 1) := dk_44 (dk_at dksX0_laySmooth_3 5 rfl rfl)
theorem dX0_laySmooth_77 : decode cX0_laySmooth 77 = .ok (.getfield 178, 3) := dk_180 0 178 (dk_at dksX0_laySmooth_3 6 rfl rfl)
theorem dX0_laySmooth_80 : decode cX0_laySmooth 80 = .ok (.iload_n 3, 1) := dk_29 (dk_at dksX0_laySmooth_3 9 rfl rfl)
theorem dX0_laySmooth_81 : decode cX0_laySmooth 81 = .ok (.invokevirtual 42, 3) := dk_182 0 42 (dk_at dksX0_laySmooth_3 10 rfl rfl)
theorem dX0_laySmooth_84 : decode cX0_laySmooth 84 = .ok (.checkcast 2, 3) := dk_192 0 2 (dk_at dksX0_laySmooth_3 13 rfl rfl)
theorem dX0_laySmooth_87 : decode cX0_laySmooth 87 = .ok (.aload_n 2, 1) := dk_44 (dk_at dksX0_laySmooth_3 16 rfl rfl)
theorem dX0_laySmooth_88 : decode cX0_laySmooth 88 = .ok (.getfield 273, 3) := dk_180 1 17 (dk_at dksX0_laySmooth_3 17 rfl rfl)
theorem dX0_laySmooth_91 : decode cX0_laySmooth 91 = .ok (.invokevirtual 259, 3) := dk_182 1 3 (dk_at dksX0_laySmooth_3 20 rfl rfl)
theorem dX0_laySmooth_94 : decode cX0_laySmooth 94 = .ok (.aastore, 1) := dk_83 (dk_at dksX0_laySmooth_3 23 rfl rfl)
theorem dX0_laySmooth_95 : decode cX0_laySmooth 95 = .ok (.iinc 3 1, 3) := dk_132 3 1 (dk_at dksX0_laySmooth_4 0 rfl rfl)
theorem dX0_laySmooth_98 : decode cX0_laySmooth 98 = .ok (.goto (-52), 3) := dk_167 255 204 (dk_at dksX0_laySmooth_4 3 rfl rfl)
theorem dX0_laySmooth_101 : decode cX0_laySmooth 101 = .ok (.iinc 1 1, 3) := dk_132 1 1 (dk_at dksX0_laySmooth_4 6 rfl rfl)
theorem dX0_laySmooth_104 : decode cX0_laySmooth 104 = .ok (.goto (-89), 3) := dk_167 255 167 (dk_at dksX0_laySmooth_4 9 rfl rfl)
theorem dX0_laySmooth_107 : decode cX0_laySmooth 107 = .ok (.return_, 1) := dk_177 (dk_at dksX0_laySmooth_4 12 rfl rfl)
abbrev cX0_isEarly : ByteArray := prog_1_method_29_code
def yX0_isEarly : MethodName := ⟨RX0, "isEarly", "(LNobodysBard$Owner;)Z"⟩
def dkwX0_isEarly_0 : List UInt8 := [43, 180, 1, 44, 42, 180, 0, 26, 180, 0, 181, 163, 0, 7, 4, 167, 0, 4, 3, 172]
abbrev dktX0_isEarly_0 : List UInt8 := dkwX0_isEarly_0 ++ []
theorem dksX0_isEarly_0 : cX0_isEarly.data.toList.drop 0 = dktX0_isEarly_0 := by decide +kernel
theorem dX0_isEarly_0 : decode cX0_isEarly 0 = .ok (.aload_n 1, 1) := dk_43 (dk_at dksX0_isEarly_0 0 rfl rfl)
theorem dX0_isEarly_1 : decode cX0_isEarly 1 = .ok (.getfield 300, 3) := dk_180 1 44 (dk_at dksX0_isEarly_0 1 rfl rfl)
theorem dX0_isEarly_4 : decode cX0_isEarly 4 = .ok (.aload_n 0, 1) := dk_42 (dk_at dksX0_isEarly_0 4 rfl rfl)
theorem dX0_isEarly_5 : decode cX0_isEarly 5 = .ok (.getfield 26, 3) := dk_180 0 26 (dk_at dksX0_isEarly_0 5 rfl rfl)
theorem dX0_isEarly_8 : decode cX0_isEarly 8 = .ok (.getfield 181, 3) := dk_180 0 181 (dk_at dksX0_isEarly_0 8 rfl rfl)
theorem dX0_isEarly_11 : decode cX0_isEarly 11 = .ok (.if_icmp .gt 7, 3) := dk_163 0 7 (dk_at dksX0_isEarly_0 11 rfl rfl)
theorem dX0_isEarly_14 : decode cX0_isEarly 14 = .ok (.iconst 1, 1) := dk_4 (dk_at dksX0_isEarly_0 14 rfl rfl)
theorem dX0_isEarly_15 : decode cX0_isEarly 15 = .ok (.goto 4, 3) := dk_167 0 4 (dk_at dksX0_isEarly_0 15 rfl rfl)
theorem dX0_isEarly_18 : decode cX0_isEarly 18 = .ok (.iconst 0, 1) := dk_3 (dk_at dksX0_isEarly_0 18 rfl rfl)
theorem dX0_isEarly_19 : decode cX0_isEarly 19 = .ok (.ireturn, 1) := dk_172 (dk_at dksX0_isEarly_0 19 rfl rfl)
abbrev cX0_comes : ByteArray := prog_1_method_34_code
def yX0_comes : MethodName := ⟨RX0, "comes", "(LNobodysBard$Printed;)LNobodysBard$Comes;"⟩
def dkwX0_comes_8 : List UInt8 := [180, 0, 189, 161, 0, 10, 42, 180, 0, 76, 167, 0, 7, 42, 180, 0, 83, 176]
abbrev dktX0_comes_8 : List UInt8 := dkwX0_comes_8 ++ []
def dkwX0_comes_7 : List UInt8 := [161, 0, 19, 187, 1, 84, 89, 42, 180, 1, 54, 42, 180, 1, 57, 183, 1, 86, 176, 28, 42, 180, 0, 26]
abbrev dktX0_comes_7 : List UInt8 := dkwX0_comes_7 ++ dktX0_comes_8
def dkwX0_comes_6 : List UInt8 := [43, 180, 0, 195, 182, 1, 80, 184, 0, 20, 61, 42, 180, 1, 51, 42, 180, 0, 26, 180, 0, 186]
abbrev dktX0_comes_6 : List UInt8 := dkwX0_comes_6 ++ dktX0_comes_7
def dkwX0_comes_5 : List UInt8 := [180, 0, 186, 161, 0, 19, 187, 1, 77, 89, 42, 180, 1, 54, 42, 180, 1, 57, 183, 1, 79, 176, 28, 42]
abbrev dktX0_comes_5 : List UInt8 := dkwX0_comes_5 ++ dktX0_comes_6
def dkwX0_comes_4 : List UInt8 := [43, 180, 0, 195, 43, 180, 1, 64, 5, 182, 1, 65, 184, 0, 20, 61, 42, 180, 1, 51, 42, 180, 0, 26]
abbrev dktX0_comes_4 : List UInt8 := dkwX0_comes_4 ++ dktX0_comes_5
def dkwX0_comes_3 : List UInt8 := [180, 0, 186, 161, 0, 19, 187, 1, 74, 89, 42, 180, 1, 54, 42, 180, 1, 57, 183, 1, 76, 176, 28, 42]
abbrev dktX0_comes_3 : List UInt8 := dkwX0_comes_3 ++ dktX0_comes_4
def dkwX0_comes_2 : List UInt8 := [180, 0, 195, 43, 180, 1, 64, 4, 182, 1, 65, 184, 0, 20, 61, 42, 180, 1, 51, 42, 180, 0, 26]
abbrev dktX0_comes_2 : List UInt8 := dkwX0_comes_2 ++ dktX0_comes_3
def dkwX0_comes_1 : List UInt8 := [161, 0, 19, 187, 1, 69, 89, 42, 180, 1, 54, 42, 180, 1, 57, 183, 1, 71, 176, 28, 42, 43]
abbrev dktX0_comes_1 : List UInt8 := dkwX0_comes_1 ++ dktX0_comes_2
def dkwX0_comes_0 : List UInt8 := [42, 43, 180, 0, 195, 43, 180, 1, 64, 3, 182, 1, 65, 61, 28, 42, 180, 0, 26, 180, 0, 186]
abbrev dktX0_comes_0 : List UInt8 := dkwX0_comes_0 ++ dktX0_comes_1
theorem dksX0_comes_0 : cX0_comes.data.toList.drop 0 = dktX0_comes_0 := by decide +kernel
theorem dksX0_comes_1 : cX0_comes.data.toList.drop 22 = dktX0_comes_1 := dk_seg dksX0_comes_0 22 rfl rfl
theorem dksX0_comes_2 : cX0_comes.data.toList.drop 44 = dktX0_comes_2 := dk_seg dksX0_comes_1 22 rfl rfl
theorem dksX0_comes_3 : cX0_comes.data.toList.drop 67 = dktX0_comes_3 := dk_seg dksX0_comes_2 23 rfl rfl
theorem dksX0_comes_4 : cX0_comes.data.toList.drop 91 = dktX0_comes_4 := dk_seg dksX0_comes_3 24 rfl rfl
theorem dksX0_comes_5 : cX0_comes.data.toList.drop 115 = dktX0_comes_5 := dk_seg dksX0_comes_4 24 rfl rfl
theorem dksX0_comes_6 : cX0_comes.data.toList.drop 139 = dktX0_comes_6 := dk_seg dksX0_comes_5 24 rfl rfl
theorem dksX0_comes_7 : cX0_comes.data.toList.drop 161 = dktX0_comes_7 := dk_seg dksX0_comes_6 22 rfl rfl
theorem dksX0_comes_8 : cX0_comes.data.toList.drop 185 = dktX0_comes_8 := dk_seg dksX0_comes_7 24 rfl rfl
theorem dX0_comes_0 : decode cX0_comes 0 = .ok (.aload_n 0, 1) := dk_42 (dk_at dksX0_comes_0 0 rfl rfl)
theorem dX0_comes_1 : decode cX0_comes 1 = .ok (.aload_n 1, 1) := dk_43 (dk_at dksX0_comes_0 1 rfl rfl)
theorem dX0_comes_2 : decode cX0_comes 2 = .ok (.getfield 195, 3) := dk_180 0 195 (dk_at dksX0_comes_0 2 rfl rfl)
theorem dX0_comes_5 : decode cX0_comes 5 = .ok (.aload_n 1, 1) := dk_43 (dk_at dksX0_comes_0 5 rfl rfl)
theorem dX0_comes_6 : decode cX0_comes 6 = .ok (.getfield 320, 3) := dk_180 1 64 (dk_at dksX0_comes_0 6 rfl rfl)
theorem dX0_comes_9 : decode cX0_comes 9 = .ok (.iconst 0, 1) := dk_3 (dk_at dksX0_comes_0 9 rfl rfl)
theorem dX0_comes_10 : decode cX0_comes 10 = .ok (.invokevirtual 321, 3) := dk_182 1 65 (dk_at dksX0_comes_0 10 rfl rfl)
theorem dX0_comes_13 : decode cX0_comes 13 = .ok (.istore_n 2, 1) := dk_61 (dk_at dksX0_comes_0 13 rfl rfl)
theorem dX0_comes_14 : decode cX0_comes 14 = .ok (.iload_n 2, 1) := dk_28 (dk_at dksX0_comes_0 14 rfl rfl)
theorem dX0_comes_15 : decode cX0_comes 15 = .ok (.aload_n 0, 1) := dk_42 (dk_at dksX0_comes_0 15 rfl rfl)
theorem dX0_comes_16 : decode cX0_comes 16 = .ok (.getfield 26, 3) := dk_180 0 26 (dk_at dksX0_comes_0 16 rfl rfl)
theorem dX0_comes_19 : decode cX0_comes 19 = .ok (.getfield 186, 3) := dk_180 0 186 (dk_at dksX0_comes_0 19 rfl rfl)
theorem dX0_comes_22 : decode cX0_comes 22 = .ok (.if_icmp .lt 19, 3) := dk_161 0 19 (dk_at dksX0_comes_1 0 rfl rfl)
theorem dX0_comes_25 : decode cX0_comes 25 = .ok (.new 325, 3) := dk_187 1 69 (dk_at dksX0_comes_1 3 rfl rfl)
theorem dX0_comes_28 : decode cX0_comes 28 = .ok (.dup, 1) := dk_89 (dk_at dksX0_comes_1 6 rfl rfl)
theorem dX0_comes_29 : decode cX0_comes 29 = .ok (.aload_n 0, 1) := dk_42 (dk_at dksX0_comes_1 7 rfl rfl)
theorem dX0_comes_30 : decode cX0_comes 30 = .ok (.getfield 310, 3) := dk_180 1 54 (dk_at dksX0_comes_1 8 rfl rfl)
theorem dX0_comes_33 : decode cX0_comes 33 = .ok (.aload_n 0, 1) := dk_42 (dk_at dksX0_comes_1 11 rfl rfl)
theorem dX0_comes_34 : decode cX0_comes 34 = .ok (.getfield 313, 3) := dk_180 1 57 (dk_at dksX0_comes_1 12 rfl rfl)
theorem dX0_comes_37 : decode cX0_comes 37 = .ok (.invokespecial 327, 3) := dk_183 1 71 (dk_at dksX0_comes_1 15 rfl rfl)
theorem dX0_comes_40 : decode cX0_comes 40 = .ok (.areturn, 1) := dk_176 (dk_at dksX0_comes_1 18 rfl rfl)
theorem dX0_comes_41 : decode cX0_comes 41 = .ok (.iload_n 2, 1) := dk_28 (dk_at dksX0_comes_1 19 rfl rfl)
theorem dX0_comes_42 : decode cX0_comes 42 = .ok (.aload_n 0, 1) := dk_42 (dk_at dksX0_comes_1 20 rfl rfl)
theorem dX0_comes_43 : decode cX0_comes 43 = .ok (.aload_n 1, 1) := dk_43 (dk_at dksX0_comes_1 21 rfl rfl)
theorem dX0_comes_44 : decode cX0_comes 44 = .ok (.getfield 195, 3) := dk_180 0 195 (dk_at dksX0_comes_2 0 rfl rfl)
theorem dX0_comes_47 : decode cX0_comes 47 = .ok (.aload_n 1, 1) := dk_43 (dk_at dksX0_comes_2 3 rfl rfl)
theorem dX0_comes_48 : decode cX0_comes 48 = .ok (.getfield 320, 3) := dk_180 1 64 (dk_at dksX0_comes_2 4 rfl rfl)
theorem dX0_comes_51 : decode cX0_comes 51 = .ok (.iconst 1, 1) := dk_4 (dk_at dksX0_comes_2 7 rfl rfl)
theorem dX0_comes_52 : decode cX0_comes 52 = .ok (.invokevirtual 321, 3) := dk_182 1 65 (dk_at dksX0_comes_2 8 rfl rfl)
theorem dX0_comes_55 : decode cX0_comes 55 = .ok (.invokestatic 20, 3) := dk_184 0 20 (dk_at dksX0_comes_2 11 rfl rfl)
theorem dX0_comes_58 : decode cX0_comes 58 = .ok (.istore_n 2, 1) := dk_61 (dk_at dksX0_comes_2 14 rfl rfl)
theorem dX0_comes_59 : decode cX0_comes 59 = .ok (.aload_n 0, 1) := dk_42 (dk_at dksX0_comes_2 15 rfl rfl)
theorem dX0_comes_60 : decode cX0_comes 60 = .ok (.getfield 307, 3) := dk_180 1 51 (dk_at dksX0_comes_2 16 rfl rfl)
theorem dX0_comes_63 : decode cX0_comes 63 = .ok (.aload_n 0, 1) := dk_42 (dk_at dksX0_comes_2 19 rfl rfl)
theorem dX0_comes_64 : decode cX0_comes 64 = .ok (.getfield 26, 3) := dk_180 0 26 (dk_at dksX0_comes_2 20 rfl rfl)
theorem dX0_comes_67 : decode cX0_comes 67 = .ok (.getfield 186, 3) := dk_180 0 186 (dk_at dksX0_comes_3 0 rfl rfl)
theorem dX0_comes_70 : decode cX0_comes 70 = .ok (.if_icmp .lt 19, 3) := dk_161 0 19 (dk_at dksX0_comes_3 3 rfl rfl)
theorem dX0_comes_73 : decode cX0_comes 73 = .ok (.new 330, 3) := dk_187 1 74 (dk_at dksX0_comes_3 6 rfl rfl)
theorem dX0_comes_76 : decode cX0_comes 76 = .ok (.dup, 1) := dk_89 (dk_at dksX0_comes_3 9 rfl rfl)
theorem dX0_comes_77 : decode cX0_comes 77 = .ok (.aload_n 0, 1) := dk_42 (dk_at dksX0_comes_3 10 rfl rfl)
theorem dX0_comes_78 : decode cX0_comes 78 = .ok (.getfield 310, 3) := dk_180 1 54 (dk_at dksX0_comes_3 11 rfl rfl)
theorem dX0_comes_81 : decode cX0_comes 81 = .ok (.aload_n 0, 1) := dk_42 (dk_at dksX0_comes_3 14 rfl rfl)
theorem dX0_comes_82 : decode cX0_comes 82 = .ok (.getfield 313, 3) := dk_180 1 57 (dk_at dksX0_comes_3 15 rfl rfl)
theorem dX0_comes_85 : decode cX0_comes 85 = .ok (.invokespecial 332, 3) := dk_183 1 76 (dk_at dksX0_comes_3 18 rfl rfl)
theorem dX0_comes_88 : decode cX0_comes 88 = .ok (.areturn, 1) := dk_176 (dk_at dksX0_comes_3 21 rfl rfl)
theorem dX0_comes_89 : decode cX0_comes 89 = .ok (.iload_n 2, 1) := dk_28 (dk_at dksX0_comes_3 22 rfl rfl)
theorem dX0_comes_90 : decode cX0_comes 90 = .ok (.aload_n 0, 1) := dk_42 (dk_at dksX0_comes_3 23 rfl rfl)
theorem dX0_comes_91 : decode cX0_comes 91 = .ok (.aload_n 1, 1) := dk_43 (dk_at dksX0_comes_4 0 rfl rfl)
theorem dX0_comes_92 : decode cX0_comes 92 = .ok (.getfield 195, 3) := dk_180 0 195 (dk_at dksX0_comes_4 1 rfl rfl)
theorem dX0_comes_95 : decode cX0_comes 95 = .ok (.aload_n 1, 1) := dk_43 (dk_at dksX0_comes_4 4 rfl rfl)
theorem dX0_comes_96 : decode cX0_comes 96 = .ok (.getfield 320, 3) := dk_180 1 64 (dk_at dksX0_comes_4 5 rfl rfl)
theorem dX0_comes_99 : decode cX0_comes 99 = .ok (.iconst 2, 1) := dk_5 (dk_at dksX0_comes_4 8 rfl rfl)
theorem dX0_comes_100 : decode cX0_comes 100 = .ok (.invokevirtual 321, 3) := dk_182 1 65 (dk_at dksX0_comes_4 9 rfl rfl)
theorem dX0_comes_103 : decode cX0_comes 103 = .ok (.invokestatic 20, 3) := dk_184 0 20 (dk_at dksX0_comes_4 12 rfl rfl)
theorem dX0_comes_106 : decode cX0_comes 106 = .ok (.istore_n 2, 1) := dk_61 (dk_at dksX0_comes_4 15 rfl rfl)
theorem dX0_comes_107 : decode cX0_comes 107 = .ok (.aload_n 0, 1) := dk_42 (dk_at dksX0_comes_4 16 rfl rfl)
theorem dX0_comes_108 : decode cX0_comes 108 = .ok (.getfield 307, 3) := dk_180 1 51 (dk_at dksX0_comes_4 17 rfl rfl)
theorem dX0_comes_111 : decode cX0_comes 111 = .ok (.aload_n 0, 1) := dk_42 (dk_at dksX0_comes_4 20 rfl rfl)
theorem dX0_comes_112 : decode cX0_comes 112 = .ok (.getfield 26, 3) := dk_180 0 26 (dk_at dksX0_comes_4 21 rfl rfl)
theorem dX0_comes_115 : decode cX0_comes 115 = .ok (.getfield 186, 3) := dk_180 0 186 (dk_at dksX0_comes_5 0 rfl rfl)
theorem dX0_comes_118 : decode cX0_comes 118 = .ok (.if_icmp .lt 19, 3) := dk_161 0 19 (dk_at dksX0_comes_5 3 rfl rfl)
theorem dX0_comes_121 : decode cX0_comes 121 = .ok (.new 333, 3) := dk_187 1 77 (dk_at dksX0_comes_5 6 rfl rfl)
theorem dX0_comes_124 : decode cX0_comes 124 = .ok (.dup, 1) := dk_89 (dk_at dksX0_comes_5 9 rfl rfl)
theorem dX0_comes_125 : decode cX0_comes 125 = .ok (.aload_n 0, 1) := dk_42 (dk_at dksX0_comes_5 10 rfl rfl)
theorem dX0_comes_126 : decode cX0_comes 126 = .ok (.getfield 310, 3) := dk_180 1 54 (dk_at dksX0_comes_5 11 rfl rfl)
theorem dX0_comes_129 : decode cX0_comes 129 = .ok (.aload_n 0, 1) := dk_42 (dk_at dksX0_comes_5 14 rfl rfl)
theorem dX0_comes_130 : decode cX0_comes 130 = .ok (.getfield 313, 3) := dk_180 1 57 (dk_at dksX0_comes_5 15 rfl rfl)
theorem dX0_comes_133 : decode cX0_comes 133 = .ok (.invokespecial 335, 3) := dk_183 1 79 (dk_at dksX0_comes_5 18 rfl rfl)
theorem dX0_comes_136 : decode cX0_comes 136 = .ok (.areturn, 1) := dk_176 (dk_at dksX0_comes_5 21 rfl rfl)
theorem dX0_comes_137 : decode cX0_comes 137 = .ok (.iload_n 2, 1) := dk_28 (dk_at dksX0_comes_5 22 rfl rfl)
theorem dX0_comes_138 : decode cX0_comes 138 = .ok (.aload_n 0, 1) := dk_42 (dk_at dksX0_comes_5 23 rfl rfl)
theorem dX0_comes_139 : decode cX0_comes 139 = .ok (.aload_n 1, 1) := dk_43 (dk_at dksX0_comes_6 0 rfl rfl)
theorem dX0_comes_140 : decode cX0_comes 140 = .ok (.getfield 195, 3) := dk_180 0 195 (dk_at dksX0_comes_6 1 rfl rfl)
theorem dX0_comes_143 : decode cX0_comes 143 = .ok (.invokevirtual 336, 3) := dk_182 1 80 (dk_at dksX0_comes_6 4 rfl rfl)
theorem dX0_comes_146 : decode cX0_comes 146 = .ok (.invokestatic 20, 3) := dk_184 0 20 (dk_at dksX0_comes_6 7 rfl rfl)
theorem dX0_comes_149 : decode cX0_comes 149 = .ok (.istore_n 2, 1) := dk_61 (dk_at dksX0_comes_6 10 rfl rfl)
theorem dX0_comes_150 : decode cX0_comes 150 = .ok (.aload_n 0, 1) := dk_42 (dk_at dksX0_comes_6 11 rfl rfl)
theorem dX0_comes_151 : decode cX0_comes 151 = .ok (.getfield 307, 3) := dk_180 1 51 (dk_at dksX0_comes_6 12 rfl rfl)
theorem dX0_comes_154 : decode cX0_comes 154 = .ok (.aload_n 0, 1) := dk_42 (dk_at dksX0_comes_6 15 rfl rfl)
theorem dX0_comes_155 : decode cX0_comes 155 = .ok (.getfield 26, 3) := dk_180 0 26 (dk_at dksX0_comes_6 16 rfl rfl)
theorem dX0_comes_158 : decode cX0_comes 158 = .ok (.getfield 186, 3) := dk_180 0 186 (dk_at dksX0_comes_6 19 rfl rfl)
theorem dX0_comes_161 : decode cX0_comes 161 = .ok (.if_icmp .lt 19, 3) := dk_161 0 19 (dk_at dksX0_comes_7 0 rfl rfl)
theorem dX0_comes_164 : decode cX0_comes 164 = .ok (.new 340, 3) := dk_187 1 84 (dk_at dksX0_comes_7 3 rfl rfl)
theorem dX0_comes_167 : decode cX0_comes 167 = .ok (.dup, 1) := dk_89 (dk_at dksX0_comes_7 6 rfl rfl)
theorem dX0_comes_168 : decode cX0_comes 168 = .ok (.aload_n 0, 1) := dk_42 (dk_at dksX0_comes_7 7 rfl rfl)
theorem dX0_comes_169 : decode cX0_comes 169 = .ok (.getfield 310, 3) := dk_180 1 54 (dk_at dksX0_comes_7 8 rfl rfl)
theorem dX0_comes_172 : decode cX0_comes 172 = .ok (.aload_n 0, 1) := dk_42 (dk_at dksX0_comes_7 11 rfl rfl)
theorem dX0_comes_173 : decode cX0_comes 173 = .ok (.getfield 313, 3) := dk_180 1 57 (dk_at dksX0_comes_7 12 rfl rfl)
theorem dX0_comes_176 : decode cX0_comes 176 = .ok (.invokespecial 342, 3) := dk_183 1 86 (dk_at dksX0_comes_7 15 rfl rfl)
theorem dX0_comes_179 : decode cX0_comes 179 = .ok (.areturn, 1) := dk_176 (dk_at dksX0_comes_7 18 rfl rfl)
theorem dX0_comes_180 : decode cX0_comes 180 = .ok (.iload_n 2, 1) := dk_28 (dk_at dksX0_comes_7 19 rfl rfl)
theorem dX0_comes_181 : decode cX0_comes 181 = .ok (.aload_n 0, 1) := dk_42 (dk_at dksX0_comes_7 20 rfl rfl)
theorem dX0_comes_182 : decode cX0_comes 182 = .ok (.getfield 26, 3) := dk_180 0 26 (dk_at dksX0_comes_7 21 rfl rfl)
theorem dX0_comes_185 : decode cX0_comes 185 = .ok (.getfield 189, 3) := dk_180 0 189 (dk_at dksX0_comes_8 0 rfl rfl)
theorem dX0_comes_188 : decode cX0_comes 188 = .ok (.if_icmp .lt 10, 3) := dk_161 0 10 (dk_at dksX0_comes_8 3 rfl rfl)
theorem dX0_comes_191 : decode cX0_comes 191 = .ok (.aload_n 0, 1) := dk_42 (dk_at dksX0_comes_8 6 rfl rfl)
theorem dX0_comes_192 : decode cX0_comes 192 = .ok (.getfield 76, 3) := dk_180 0 76 (dk_at dksX0_comes_8 7 rfl rfl)
theorem dX0_comes_195 : decode cX0_comes 195 = .ok (.goto 7, 3) := dk_167 0 7 (dk_at dksX0_comes_8 10 rfl rfl)
theorem dX0_comes_198 : decode cX0_comes 198 = .ok (.aload_n 0, 1) := dk_42 (dk_at dksX0_comes_8 13 rfl rfl)
theorem dX0_comes_199 : decode cX0_comes 199 = .ok (.getfield 83, 3) := dk_180 0 83 (dk_at dksX0_comes_8 14 rfl rfl)
theorem dX0_comes_202 : decode cX0_comes 202 = .ok (.areturn, 1) := dk_176 (dk_at dksX0_comes_8 17 rfl rfl)
abbrev cX0_seekSongs : ByteArray := prog_1_method_32_code
def yX0_seekSongs : MethodName := ⟨RX0, "seekSongs", "(LNobodysBard$Phrase;II)I"⟩
def dkwX0_seekSongs_6 : List UInt8 := [182, 1, 60, 132, 6, 1, 167, 255, 197, 132, 4, 1, 167, 255, 113, 42, 180, 1, 51, 172]
abbrev dktX0_seekSongs_6 : List UInt8 := dkwX0_seekSongs_6 ++ []
def dkwX0_seekSongs_5 : List UInt8 := [96, 50, 167, 0, 16, 25, 5, 180, 0, 178, 21, 6, 182, 0, 42, 192, 0, 2, 21, 4, 21, 6]
abbrev dktX0_seekSongs_5 : List UInt8 := dkwX0_seekSongs_5 ++ dktX0_seekSongs_6
def dkwX0_seekSongs_4 : List UInt8 := [182, 0, 36, 162, 0, 52, 42, 43, 29, 5, 160, 0, 19, 42, 180, 0, 86, 16, 12, 21, 4, 104, 21, 6]
abbrev dktX0_seekSongs_4 : List UInt8 := dkwX0_seekSongs_4 ++ dktX0_seekSongs_5
def dkwX0_seekSongs_3 : List UInt8 := [154, 0, 7, 4, 167, 0, 4, 3, 159, 0, 6, 167, 0, 68, 3, 54, 6, 21, 6, 25, 5, 180, 0, 178]
abbrev dktX0_seekSongs_3 : List UInt8 := dkwX0_seekSongs_3 ++ dktX0_seekSongs_4
def dkwX0_seekSongs_2 : List UInt8 := [153, 0, 102, 29, 5, 162, 0, 32, 25, 5, 180, 1, 17, 28, 160, 0, 7, 4, 167, 0, 4, 3, 29]
abbrev dktX0_seekSongs_2 : List UInt8 := dkwX0_seekSongs_2 ++ dktX0_seekSongs_3
def dkwX0_seekSongs_1 : List UInt8 := [180, 0, 26, 180, 0, 135, 21, 4, 182, 0, 42, 192, 0, 145, 58, 5, 42, 25, 5, 182, 1, 47]
abbrev dktX0_seekSongs_1 : List UInt8 := dkwX0_seekSongs_1 ++ dktX0_seekSongs_2
def dkwX0_seekSongs_0 : List UInt8 := [42, 2, 181, 1, 51, 3, 54, 4, 21, 4, 42, 180, 0, 26, 180, 0, 135, 182, 0, 36, 162, 0, 134, 42]
abbrev dktX0_seekSongs_0 : List UInt8 := dkwX0_seekSongs_0 ++ dktX0_seekSongs_1
theorem dksX0_seekSongs_0 : cX0_seekSongs.data.toList.drop 0 = dktX0_seekSongs_0 := by decide +kernel
theorem dksX0_seekSongs_1 : cX0_seekSongs.data.toList.drop 24 = dktX0_seekSongs_1 := dk_seg dksX0_seekSongs_0 24 rfl rfl
theorem dksX0_seekSongs_2 : cX0_seekSongs.data.toList.drop 46 = dktX0_seekSongs_2 := dk_seg dksX0_seekSongs_1 22 rfl rfl
theorem dksX0_seekSongs_3 : cX0_seekSongs.data.toList.drop 69 = dktX0_seekSongs_3 := dk_seg dksX0_seekSongs_2 23 rfl rfl
theorem dksX0_seekSongs_4 : cX0_seekSongs.data.toList.drop 93 = dktX0_seekSongs_4 := dk_seg dksX0_seekSongs_3 24 rfl rfl
theorem dksX0_seekSongs_5 : cX0_seekSongs.data.toList.drop 117 = dktX0_seekSongs_5 := dk_seg dksX0_seekSongs_4 24 rfl rfl
theorem dksX0_seekSongs_6 : cX0_seekSongs.data.toList.drop 139 = dktX0_seekSongs_6 := dk_seg dksX0_seekSongs_5 22 rfl rfl
theorem dX0_seekSongs_0 : decode cX0_seekSongs 0 = .ok (.aload_n 0, 1) := dk_42 (dk_at dksX0_seekSongs_0 0 rfl rfl)
theorem dX0_seekSongs_1 : decode cX0_seekSongs 1 = .ok (.iconst (-1), 1) := dk_2 (dk_at dksX0_seekSongs_0 1 rfl rfl)
theorem dX0_seekSongs_2 : decode cX0_seekSongs 2 = .ok (.putfield 307, 3) := dk_181 1 51 (dk_at dksX0_seekSongs_0 2 rfl rfl)
theorem dX0_seekSongs_5 : decode cX0_seekSongs 5 = .ok (.iconst 0, 1) := dk_3 (dk_at dksX0_seekSongs_0 5 rfl rfl)
theorem dX0_seekSongs_6 : decode cX0_seekSongs 6 = .ok (.istore 4, 2) := dk_54 4 (dk_at dksX0_seekSongs_0 6 rfl rfl)
theorem dX0_seekSongs_8 : decode cX0_seekSongs 8 = .ok (.iload 4, 2) := dk_21 4 (dk_at dksX0_seekSongs_0 8 rfl rfl)
theorem dX0_seekSongs_10 : decode cX0_seekSongs 10 = .ok (.aload_n 0, 1) := dk_42 (dk_at dksX0_seekSongs_0 10 rfl rfl)
theorem dX0_seekSongs_11 : decode cX0_seekSongs 11 = .ok (.getfield 26, 3) := dk_180 0 26 (dk_at dksX0_seekSongs_0 11 rfl rfl)
theorem dX0_seekSongs_14 : decode cX0_seekSongs 14 = .ok (.getfield 135, 3) := dk_180 0 135 (dk_at dksX0_seekSongs_0 14 rfl rfl)
theorem dX0_seekSongs_17 : decode cX0_seekSongs 17 = .ok (.invokevirtual 36, 3) := dk_182 0 36 (dk_at dksX0_seekSongs_0 17 rfl rfl)
theorem dX0_seekSongs_20 : decode cX0_seekSongs 20 = .ok (.if_icmp .ge 134, 3) := dk_162 0 134 (dk_at dksX0_seekSongs_0 20 rfl rfl)
theorem dX0_seekSongs_23 : decode cX0_seekSongs 23 = .ok (.aload_n 0, 1) := dk_42 (dk_at dksX0_seekSongs_0 23 rfl rfl)
theorem dX0_seekSongs_24 : decode cX0_seekSongs 24 = .ok (.getfield 26, 3) := dk_180 0 26 (dk_at dksX0_seekSongs_1 0 rfl rfl)
theorem dX0_seekSongs_27 : decode cX0_seekSongs 27 = .ok (.getfield 135, 3) := dk_180 0 135 (dk_at dksX0_seekSongs_1 3 rfl rfl)
theorem dX0_seekSongs_30 : decode cX0_seekSongs 30 = .ok (.iload 4, 2) := dk_21 4 (dk_at dksX0_seekSongs_1 6 rfl rfl)
theorem dX0_seekSongs_32 : decode cX0_seekSongs 32 = .ok (.invokevirtual 42, 3) := dk_182 0 42 (dk_at dksX0_seekSongs_1 8 rfl rfl)
theorem dX0_seekSongs_35 : decode cX0_seekSongs 35 = .ok (.checkcast 145, 3) := dk_192 0 145 (dk_at dksX0_seekSongs_1 11 rfl rfl)
theorem dX0_seekSongs_38 : decode cX0_seekSongs 38 = .ok (.astore 5, 2) := dk_58 5 (dk_at dksX0_seekSongs_1 14 rfl rfl)
theorem dX0_seekSongs_40 : decode cX0_seekSongs 40 = .ok (.aload_n 0, 1) := dk_42 (dk_at dksX0_seekSongs_1 16 rfl rfl)
theorem dX0_seekSongs_41 : decode cX0_seekSongs 41 = .ok (.aload 5, 2) := dk_25 5 (dk_at dksX0_seekSongs_1 17 rfl rfl)
theorem dX0_seekSongs_43 : decode cX0_seekSongs 43 = .ok (.invokevirtual 303, 3) := dk_182 1 47 (dk_at dksX0_seekSongs_1 19 rfl rfl)
theorem dX0_seekSongs_46 : decode cX0_seekSongs 46 = .ok (.ifCond .eq 102, 3) := dk_153 0 102 (dk_at dksX0_seekSongs_2 0 rfl rfl)
theorem dX0_seekSongs_49 : decode cX0_seekSongs 49 = .ok (.iload_n 3, 1) := dk_29 (dk_at dksX0_seekSongs_2 3 rfl rfl)
theorem dX0_seekSongs_50 : decode cX0_seekSongs 50 = .ok (.iconst 2, 1) := dk_5 (dk_at dksX0_seekSongs_2 4 rfl rfl)
theorem dX0_seekSongs_51 : decode cX0_seekSongs 51 = .ok (.if_icmp .ge 32, 3) := dk_162 0 32 (dk_at dksX0_seekSongs_2 5 rfl rfl)
theorem dX0_seekSongs_54 : decode cX0_seekSongs 54 = .ok (.aload 5, 2) := dk_25 5 (dk_at dksX0_seekSongs_2 8 rfl rfl)
theorem dX0_seekSongs_56 : decode cX0_seekSongs 56 = .ok (.getfield 273, 3) := dk_180 1 17 (dk_at dksX0_seekSongs_2 10 rfl rfl)
theorem dX0_seekSongs_59 : decode cX0_seekSongs 59 = .ok (.iload_n 2, 1) := dk_28 (dk_at dksX0_seekSongs_2 13 rfl rfl)
theorem dX0_seekSongs_60 : decode cX0_seekSongs 60 = .ok (.if_icmp .ne 7, 3) := dk_160 0 7 (dk_at dksX0_seekSongs_2 14 rfl rfl)
theorem dX0_seekSongs_63 : decode cX0_seekSongs 63 = .ok (.iconst 1, 1) := dk_4 (dk_at dksX0_seekSongs_2 17 rfl rfl)
theorem dX0_seekSongs_64 : decode cX0_seekSongs 64 = .ok (.goto 4, 3) := dk_167 0 4 (dk_at dksX0_seekSongs_2 18 rfl rfl)
theorem dX0_seekSongs_67 : decode cX0_seekSongs 67 = .ok (.iconst 0, 1) := dk_3 (dk_at dksX0_seekSongs_2 21 rfl rfl)
theorem dX0_seekSongs_68 : decode cX0_seekSongs 68 = .ok (.iload_n 3, 1) := dk_29 (dk_at dksX0_seekSongs_2 22 rfl rfl)
theorem dX0_seekSongs_69 : decode cX0_seekSongs 69 = .ok (.ifCond .ne 7, 3) := dk_154 0 7 (dk_at dksX0_seekSongs_3 0 rfl rfl)
theorem dX0_seekSongs_72 : decode cX0_seekSongs 72 = .ok (.iconst 1, 1) := dk_4 (dk_at dksX0_seekSongs_3 3 rfl rfl)
theorem dX0_seekSongs_73 : decode cX0_seekSongs 73 = .ok (.goto 4, 3) := dk_167 0 4 (dk_at dksX0_seekSongs_3 4 rfl rfl)
theorem dX0_seekSongs_76 : decode cX0_seekSongs 76 = .ok (.iconst 0, 1) := dk_3 (dk_at dksX0_seekSongs_3 7 rfl rfl)
theorem dX0_seekSongs_77 : decode cX0_seekSongs 77 = .ok (.if_icmp .eq 6, 3) := dk_159 0 6 (dk_at dksX0_seekSongs_3 8 rfl rfl)
theorem dX0_seekSongs_80 : decode cX0_seekSongs 80 = .ok (.goto 68, 3) := dk_167 0 68 (dk_at dksX0_seekSongs_3 11 rfl rfl)
theorem dX0_seekSongs_83 : decode cX0_seekSongs 83 = .ok (.iconst 0, 1) := dk_3 (dk_at dksX0_seekSongs_3 14 rfl rfl)
theorem dX0_seekSongs_84 : decode cX0_seekSongs 84 = .ok (.istore 6, 2) := dk_54 6 (dk_at dksX0_seekSongs_3 15 rfl rfl)
theorem dX0_seekSongs_86 : decode cX0_seekSongs 86 = .ok (.iload 6, 2) := dk_21 6 (dk_at dksX0_seekSongs_3 17 rfl rfl)
theorem dX0_seekSongs_88 : decode cX0_seekSongs 88 = .ok (.aload 5, 2) := dk_25 5 (dk_at dksX0_seekSongs_3 19 rfl rfl)
theorem dX0_seekSongs_90 : decode cX0_seekSongs 90 = .ok (.getfield 178, 3) := dk_180 0 178 (dk_at dksX0_seekSongs_3 21 rfl rfl)
theorem dX0_seekSongs_93 : decode cX0_seekSongs 93 = .ok (.invokevirtual 36, 3) := dk_182 0 36 (dk_at dksX0_seekSongs_4 0 rfl rfl)
theorem dX0_seekSongs_96 : decode cX0_seekSongs 96 = .ok (.if_icmp .ge 52, 3) := dk_162 0 52 (dk_at dksX0_seekSongs_4 3 rfl rfl)
theorem dX0_seekSongs_99 : decode cX0_seekSongs 99 = .ok (.aload_n 0, 1) := dk_42 (dk_at dksX0_seekSongs_4 6 rfl rfl)
theorem dX0_seekSongs_100 : decode cX0_seekSongs 100 = .ok (.aload_n 1, 1) := dk_43 (dk_at dksX0_seekSongs_4 7 rfl rfl)
theorem dX0_seekSongs_101 : decode cX0_seekSongs 101 = .ok (.iload_n 3, 1) := dk_29 (dk_at dksX0_seekSongs_4 8 rfl rfl)
theorem dX0_seekSongs_102 : decode cX0_seekSongs 102 = .ok (.iconst 2, 1) := dk_5 (dk_at dksX0_seekSongs_4 9 rfl rfl)
theorem dX0_seekSongs_103 : decode cX0_seekSongs 103 = .ok (.if_icmp .ne 19, 3) := dk_160 0 19 (dk_at dksX0_seekSongs_4 10 rfl rfl)
theorem dX0_seekSongs_106 : decode cX0_seekSongs 106 = .ok (.aload_n 0, 1) := dk_42 (dk_at dksX0_seekSongs_4 13 rfl rfl)
theorem dX0_seekSongs_107 : decode cX0_seekSongs 107 = .ok (.getfield 86, 3) := dk_180 0 86 (dk_at dksX0_seekSongs_4 14 rfl rfl)
theorem dX0_seekSongs_110 : decode cX0_seekSongs 110 = .ok (.bipush 12, 2) := dk_16 12 (dk_at dksX0_seekSongs_4 17 rfl rfl)
theorem dX0_seekSongs_112 : decode cX0_seekSongs 112 = .ok (.iload 4, 2) := dk_21 4 (dk_at dksX0_seekSongs_4 19 rfl rfl)
theorem dX0_seekSongs_114 : decode cX0_seekSongs 114 = .ok (.imul, 1) := dk_104 (dk_at dksX0_seekSongs_4 21 rfl rfl)
theorem dX0_seekSongs_115 : decode cX0_seekSongs 115 = .ok (.iload 6, 2) := dk_21 6 (dk_at dksX0_seekSongs_4 22 rfl rfl)
theorem dX0_seekSongs_117 : decode cX0_seekSongs 117 = .ok (.iadd, 1) := dk_96 (dk_at dksX0_seekSongs_5 0 rfl rfl)
theorem dX0_seekSongs_118 : decode cX0_seekSongs 118 = .ok (.aaload, 1) := dk_50 (dk_at dksX0_seekSongs_5 1 rfl rfl)
theorem dX0_seekSongs_119 : decode cX0_seekSongs 119 = .ok (.goto 16, 3) := dk_167 0 16 (dk_at dksX0_seekSongs_5 2 rfl rfl)
theorem dX0_seekSongs_122 : decode cX0_seekSongs 122 = .ok (.aload 5, 2) := dk_25 5 (dk_at dksX0_seekSongs_5 5 rfl rfl)
theorem dX0_seekSongs_124 : decode cX0_seekSongs 124 = .ok (.getfield 178, 3) := dk_180 0 178 (dk_at dksX0_seekSongs_5 7 rfl rfl)
theorem dX0_seekSongs_127 : decode cX0_seekSongs 127 = .ok (.iload 6, 2) := dk_21 6 (dk_at dksX0_seekSongs_5 10 rfl rfl)
theorem dX0_seekSongs_129 : decode cX0_seekSongs 129 = .ok (.invokevirtual 42, 3) := dk_182 0 42 (dk_at dksX0_seekSongs_5 12 rfl rfl)
theorem dX0_seekSongs_132 : decode cX0_seekSongs 132 = .ok (.checkcast 2, 3) := dk_192 0 2 (dk_at dksX0_seekSongs_5 15 rfl rfl)
theorem dX0_seekSongs_135 : decode cX0_seekSongs 135 = .ok (.iload 4, 2) := dk_21 4 (dk_at dksX0_seekSongs_5 18 rfl rfl)
theorem dX0_seekSongs_137 : decode cX0_seekSongs 137 = .ok (.iload 6, 2) := dk_21 6 (dk_at dksX0_seekSongs_5 20 rfl rfl)
theorem dX0_seekSongs_139 : decode cX0_seekSongs 139 = .ok (.invokevirtual 316, 3) := dk_182 1 60 (dk_at dksX0_seekSongs_6 0 rfl rfl)
theorem dX0_seekSongs_142 : decode cX0_seekSongs 142 = .ok (.iinc 6 1, 3) := dk_132 6 1 (dk_at dksX0_seekSongs_6 3 rfl rfl)
theorem dX0_seekSongs_145 : decode cX0_seekSongs 145 = .ok (.goto (-59), 3) := dk_167 255 197 (dk_at dksX0_seekSongs_6 6 rfl rfl)
theorem dX0_seekSongs_148 : decode cX0_seekSongs 148 = .ok (.iinc 4 1, 3) := dk_132 4 1 (dk_at dksX0_seekSongs_6 9 rfl rfl)
theorem dX0_seekSongs_151 : decode cX0_seekSongs 151 = .ok (.goto (-143), 3) := dk_167 255 113 (dk_at dksX0_seekSongs_6 12 rfl rfl)
theorem dX0_seekSongs_154 : decode cX0_seekSongs 154 = .ok (.aload_n 0, 1) := dk_42 (dk_at dksX0_seekSongs_6 15 rfl rfl)
theorem dX0_seekSongs_155 : decode cX0_seekSongs 155 = .ok (.getfield 307, 3) := dk_180 1 51 (dk_at dksX0_seekSongs_6 16 rfl rfl)
theorem dX0_seekSongs_158 : decode cX0_seekSongs 158 = .ok (.ireturn, 1) := dk_172 (dk_at dksX0_seekSongs_6 19 rfl rfl)
abbrev cX0_seeks : ByteArray := prog_1_method_31_code
def yX0_seeks : MethodName := ⟨RX0, "seeks", "(LNobodysBard$Phrase;LNobodysBard$Phrase;II)V"⟩
def dkwX0_seeks_1 : List UInt8 := [42, 29, 181, 1, 54, 42, 21, 4, 181, 1, 57, 177]
abbrev dktX0_seeks_1 : List UInt8 := dkwX0_seeks_1 ++ []
def dkwX0_seeks_0 : List UInt8 := [42, 43, 44, 182, 0, 218, 54, 5, 21, 5, 42, 180, 1, 51, 163, 0, 4, 177, 42, 21, 5, 181, 1, 51]
abbrev dktX0_seeks_0 : List UInt8 := dkwX0_seeks_0 ++ dktX0_seeks_1
theorem dksX0_seeks_0 : cX0_seeks.data.toList.drop 0 = dktX0_seeks_0 := by decide +kernel
theorem dksX0_seeks_1 : cX0_seeks.data.toList.drop 24 = dktX0_seeks_1 := dk_seg dksX0_seeks_0 24 rfl rfl
theorem dX0_seeks_0 : decode cX0_seeks 0 = .ok (.aload_n 0, 1) := dk_42 (dk_at dksX0_seeks_0 0 rfl rfl)
theorem dX0_seeks_1 : decode cX0_seeks 1 = .ok (.aload_n 1, 1) := dk_43 (dk_at dksX0_seeks_0 1 rfl rfl)
theorem dX0_seeks_2 : decode cX0_seeks 2 = .ok (.aload_n 2, 1) := dk_44 (dk_at dksX0_seeks_0 2 rfl rfl)
theorem dX0_seeks_3 : decode cX0_seeks 3 = .ok (.invokevirtual 218, 3) := dk_182 0 218 (dk_at dksX0_seeks_0 3 rfl rfl)
theorem dX0_seeks_6 : decode cX0_seeks 6 = .ok (.istore 5, 2) := dk_54 5 (dk_at dksX0_seeks_0 6 rfl rfl)
theorem dX0_seeks_8 : decode cX0_seeks 8 = .ok (.iload 5, 2) := dk_21 5 (dk_at dksX0_seeks_0 8 rfl rfl)
theorem dX0_seeks_10 : decode cX0_seeks 10 = .ok (.aload_n 0, 1) := dk_42 (dk_at dksX0_seeks_0 10 rfl rfl)
theorem dX0_seeks_11 : decode cX0_seeks 11 = .ok (.getfield 307, 3) := dk_180 1 51 (dk_at dksX0_seeks_0 11 rfl rfl)
theorem dX0_seeks_14 : decode cX0_seeks 14 = .ok (.if_icmp .gt 4, 3) := dk_163 0 4 (dk_at dksX0_seeks_0 14 rfl rfl)
theorem dX0_seeks_17 : decode cX0_seeks 17 = .ok (.return_, 1) := dk_177 (dk_at dksX0_seeks_0 17 rfl rfl)
theorem dX0_seeks_18 : decode cX0_seeks 18 = .ok (.aload_n 0, 1) := dk_42 (dk_at dksX0_seeks_0 18 rfl rfl)
theorem dX0_seeks_19 : decode cX0_seeks 19 = .ok (.iload 5, 2) := dk_21 5 (dk_at dksX0_seeks_0 19 rfl rfl)
theorem dX0_seeks_21 : decode cX0_seeks 21 = .ok (.putfield 307, 3) := dk_181 1 51 (dk_at dksX0_seeks_0 21 rfl rfl)
theorem dX0_seeks_24 : decode cX0_seeks 24 = .ok (.aload_n 0, 1) := dk_42 (dk_at dksX0_seeks_1 0 rfl rfl)
theorem dX0_seeks_25 : decode cX0_seeks 25 = .ok (.iload_n 3, 1) := dk_29 (dk_at dksX0_seeks_1 1 rfl rfl)
theorem dX0_seeks_26 : decode cX0_seeks 26 = .ok (.putfield 310, 3) := dk_181 1 54 (dk_at dksX0_seeks_1 2 rfl rfl)
theorem dX0_seeks_29 : decode cX0_seeks 29 = .ok (.aload_n 0, 1) := dk_42 (dk_at dksX0_seeks_1 5 rfl rfl)
theorem dX0_seeks_30 : decode cX0_seeks 30 = .ok (.iload 4, 2) := dk_21 4 (dk_at dksX0_seeks_1 6 rfl rfl)
theorem dX0_seeks_32 : decode cX0_seeks 32 = .ok (.putfield 313, 3) := dk_181 1 57 (dk_at dksX0_seeks_1 8 rfl rfl)
theorem dX0_seeks_35 : decode cX0_seeks 35 = .ok (.return_, 1) := dk_177 (dk_at dksX0_seeks_1 11 rfl rfl)
abbrev cX0_seekBooks : ByteArray := prog_1_method_33_code
def yX0_seekBooks : MethodName := ⟨RX0, "seekBooks", "(LNobodysBard$Phrase;)I"⟩
def dkwX0_seekBooks_4 : List UInt8 := [172]
abbrev dktX0_seekBooks_4 : List UInt8 := dkwX0_seekBooks_4 ++ []
def dkwX0_seekBooks_3 : List UInt8 := [192, 0, 2, 28, 29, 182, 1, 60, 132, 3, 1, 167, 255, 198, 132, 2, 1, 167, 255, 176, 42, 180, 1, 51]
abbrev dktX0_seekBooks_3 : List UInt8 := dkwX0_seekBooks_3 ++ dktX0_seekBooks_4
def dkwX0_seekBooks_2 : List UInt8 := [43, 42, 180, 0, 26, 180, 0, 138, 28, 182, 0, 42, 192, 0, 145, 180, 0, 178, 29, 182, 0, 42]
abbrev dktX0_seekBooks_2 : List UInt8 := dkwX0_seekBooks_2 ++ dktX0_seekBooks_3
def dkwX0_seekBooks_1 : List UInt8 := [42, 180, 0, 26, 180, 0, 138, 28, 182, 0, 42, 192, 0, 145, 180, 0, 178, 182, 0, 36, 162, 0, 40, 42]
abbrev dktX0_seekBooks_1 : List UInt8 := dkwX0_seekBooks_1 ++ dktX0_seekBooks_2
def dkwX0_seekBooks_0 : List UInt8 := [42, 2, 181, 1, 51, 3, 61, 28, 42, 180, 0, 26, 180, 0, 138, 182, 0, 36, 162, 0, 72, 3, 62, 29]
abbrev dktX0_seekBooks_0 : List UInt8 := dkwX0_seekBooks_0 ++ dktX0_seekBooks_1
theorem dksX0_seekBooks_0 : cX0_seekBooks.data.toList.drop 0 = dktX0_seekBooks_0 := by decide +kernel
theorem dksX0_seekBooks_1 : cX0_seekBooks.data.toList.drop 24 = dktX0_seekBooks_1 := dk_seg dksX0_seekBooks_0 24 rfl rfl
theorem dksX0_seekBooks_2 : cX0_seekBooks.data.toList.drop 48 = dktX0_seekBooks_2 := dk_seg dksX0_seekBooks_1 24 rfl rfl
theorem dksX0_seekBooks_3 : cX0_seekBooks.data.toList.drop 70 = dktX0_seekBooks_3 := dk_seg dksX0_seekBooks_2 22 rfl rfl
theorem dksX0_seekBooks_4 : cX0_seekBooks.data.toList.drop 94 = dktX0_seekBooks_4 := dk_seg dksX0_seekBooks_3 24 rfl rfl
theorem dX0_seekBooks_0 : decode cX0_seekBooks 0 = .ok (.aload_n 0, 1) := dk_42 (dk_at dksX0_seekBooks_0 0 rfl rfl)
theorem dX0_seekBooks_1 : decode cX0_seekBooks 1 = .ok (.iconst (-1), 1) := dk_2 (dk_at dksX0_seekBooks_0 1 rfl rfl)
theorem dX0_seekBooks_2 : decode cX0_seekBooks 2 = .ok (.putfield 307, 3) := dk_181 1 51 (dk_at dksX0_seekBooks_0 2 rfl rfl)
theorem dX0_seekBooks_5 : decode cX0_seekBooks 5 = .ok (.iconst 0, 1) := dk_3 (dk_at dksX0_seekBooks_0 5 rfl rfl)
theorem dX0_seekBooks_6 : decode cX0_seekBooks 6 = .ok (.istore_n 2, 1) := dk_61 (dk_at dksX0_seekBooks_0 6 rfl rfl)
theorem dX0_seekBooks_7 : decode cX0_seekBooks 7 = .ok (.iload_n 2, 1) := dk_28 (dk_at dksX0_seekBooks_0 7 rfl rfl)
theorem dX0_seekBooks_8 : decode cX0_seekBooks 8 = .ok (.aload_n 0, 1) := dk_42 (dk_at dksX0_seekBooks_0 8 rfl rfl)
theorem dX0_seekBooks_9 : decode cX0_seekBooks 9 = .ok (.getfield 26, 3) := dk_180 0 26 (dk_at dksX0_seekBooks_0 9 rfl rfl)
theorem dX0_seekBooks_12 : decode cX0_seekBooks 12 = .ok (.getfield 138, 3) := dk_180 0 138 (dk_at dksX0_seekBooks_0 12 rfl rfl)
theorem dX0_seekBooks_15 : decode cX0_seekBooks 15 = .ok (.invokevirtual 36, 3) := dk_182 0 36 (dk_at dksX0_seekBooks_0 15 rfl rfl)
theorem dX0_seekBooks_18 : decode cX0_seekBooks 18 = .ok (.if_icmp .ge 72, 3) := dk_162 0 72 (dk_at dksX0_seekBooks_0 18 rfl rfl)
theorem dX0_seekBooks_21 : decode cX0_seekBooks 21 = .ok (.iconst 0, 1) := dk_3 (dk_at dksX0_seekBooks_0 21 rfl rfl)
theorem dX0_seekBooks_22 : decode cX0_seekBooks 22 = .ok (.istore_n 3, 1) := dk_62 (dk_at dksX0_seekBooks_0 22 rfl rfl)
theorem dX0_seekBooks_23 : decode cX0_seekBooks 23 = .ok (.iload_n 3, 1) := dk_29 (dk_at dksX0_seekBooks_0 23 rfl rfl)
theorem dX0_seekBooks_24 : decode cX0_seekBooks 24 = .ok (.aload_n 0, 1) := dk_42 (dk_at dksX0_seekBooks_1 0 rfl rfl)
theorem dX0_seekBooks_25 : decode cX0_seekBooks 25 = .ok (.getfield 26, 3) := dk_180 0 26 (dk_at dksX0_seekBooks_1 1 rfl rfl)
theorem dX0_seekBooks_28 : decode cX0_seekBooks 28 = .ok (.getfield 138, 3) := dk_180 0 138 (dk_at dksX0_seekBooks_1 4 rfl rfl)
theorem dX0_seekBooks_31 : decode cX0_seekBooks 31 = .ok (.iload_n 2, 1) := dk_28 (dk_at dksX0_seekBooks_1 7 rfl rfl)
theorem dX0_seekBooks_32 : decode cX0_seekBooks 32 = .ok (.invokevirtual 42, 3) := dk_182 0 42 (dk_at dksX0_seekBooks_1 8 rfl rfl)
theorem dX0_seekBooks_35 : decode cX0_seekBooks 35 = .ok (.checkcast 145, 3) := dk_192 0 145 (dk_at dksX0_seekBooks_1 11 rfl rfl)
theorem dX0_seekBooks_38 : decode cX0_seekBooks 38 = .ok (.getfield 178, 3) := dk_180 0 178 (dk_at dksX0_seekBooks_1 14 rfl rfl)
theorem dX0_seekBooks_41 : decode cX0_seekBooks 41 = .ok (.invokevirtual 36, 3) := dk_182 0 36 (dk_at dksX0_seekBooks_1 17 rfl rfl)
theorem dX0_seekBooks_44 : decode cX0_seekBooks 44 = .ok (.if_icmp .ge 40, 3) := dk_162 0 40 (dk_at dksX0_seekBooks_1 20 rfl rfl)
theorem dX0_seekBooks_47 : decode cX0_seekBooks 47 = .ok (.aload_n 0, 1) := dk_42 (dk_at dksX0_seekBooks_1 23 rfl rfl)
theorem dX0_seekBooks_48 : decode cX0_seekBooks 48 = .ok (.aload_n 1, 1) := dk_43 (dk_at dksX0_seekBooks_2 0 rfl rfl)
theorem dX0_seekBooks_49 : decode cX0_seekBooks 49 = .ok (.aload_n 0, 1) := dk_42 (dk_at dksX0_seekBooks_2 1 rfl rfl)
theorem dX0_seekBooks_50 : decode cX0_seekBooks 50 = .ok (.getfield 26, 3) := dk_180 0 26 (dk_at dksX0_seekBooks_2 2 rfl rfl)
theorem dX0_seekBooks_53 : decode cX0_seekBooks 53 = .ok (.getfield 138, 3) := dk_180 0 138 (dk_at dksX0_seekBooks_2 5 rfl rfl)
theorem dX0_seekBooks_56 : decode cX0_seekBooks 56 = .ok (.iload_n 2, 1) := dk_28 (dk_at dksX0_seekBooks_2 8 rfl rfl)
theorem dX0_seekBooks_57 : decode cX0_seekBooks 57 = .ok (.invokevirtual 42, 3) := dk_182 0 42 (dk_at dksX0_seekBooks_2 9 rfl rfl)
theorem dX0_seekBooks_60 : decode cX0_seekBooks 60 = .ok (.checkcast 145, 3) := dk_192 0 145 (dk_at dksX0_seekBooks_2 12 rfl rfl)
theorem dX0_seekBooks_63 : decode cX0_seekBooks 63 = .ok (.getfield 178, 3) := dk_180 0 178 (dk_at dksX0_seekBooks_2 15 rfl rfl)
theorem dX0_seekBooks_66 : decode cX0_seekBooks 66 = .ok (.iload_n 3, 1) := dk_29 (dk_at dksX0_seekBooks_2 18 rfl rfl)
theorem dX0_seekBooks_67 : decode cX0_seekBooks 67 = .ok (.invokevirtual 42, 3) := dk_182 0 42 (dk_at dksX0_seekBooks_2 19 rfl rfl)
theorem dX0_seekBooks_70 : decode cX0_seekBooks 70 = .ok (.checkcast 2, 3) := dk_192 0 2 (dk_at dksX0_seekBooks_3 0 rfl rfl)
theorem dX0_seekBooks_73 : decode cX0_seekBooks 73 = .ok (.iload_n 2, 1) := dk_28 (dk_at dksX0_seekBooks_3 3 rfl rfl)
theorem dX0_seekBooks_74 : decode cX0_seekBooks 74 = .ok (.iload_n 3, 1) := dk_29 (dk_at dksX0_seekBooks_3 4 rfl rfl)
theorem dX0_seekBooks_75 : decode cX0_seekBooks 75 = .ok (.invokevirtual 316, 3) := dk_182 1 60 (dk_at dksX0_seekBooks_3 5 rfl rfl)
theorem dX0_seekBooks_78 : decode cX0_seekBooks 78 = .ok (.iinc 3 1, 3) := dk_132 3 1 (dk_at dksX0_seekBooks_3 8 rfl rfl)
theorem dX0_seekBooks_81 : decode cX0_seekBooks 81 = .ok (.goto (-58), 3) := dk_167 255 198 (dk_at dksX0_seekBooks_3 11 rfl rfl)
theorem dX0_seekBooks_84 : decode cX0_seekBooks 84 = .ok (.iinc 2 1, 3) := dk_132 2 1 (dk_at dksX0_seekBooks_3 14 rfl rfl)
theorem dX0_seekBooks_87 : decode cX0_seekBooks 87 = .ok (.goto (-80), 3) := dk_167 255 176 (dk_at dksX0_seekBooks_3 17 rfl rfl)
theorem dX0_seekBooks_90 : decode cX0_seekBooks 90 = .ok (.aload_n 0, 1) := dk_42 (dk_at dksX0_seekBooks_3 20 rfl rfl)
theorem dX0_seekBooks_91 : decode cX0_seekBooks 91 = .ok (.getfield 307, 3) := dk_180 1 51 (dk_at dksX0_seekBooks_3 21 rfl rfl)
theorem dX0_seekBooks_94 : decode cX0_seekBooks 94 = .ok (.ireturn, 1) := dk_172 (dk_at dksX0_seekBooks_4 0 rfl rfl)
