set_option maxRecDepth 100000
abbrev cX6_init : ByteArray := prog_28_method_4_code
def yX6_init : MethodName := ⟨RX6, "<init>", "()V"⟩
def dkwX6_init_8 : List UInt8 := [180, 0, 17, 17, 0, 248, 16, 80, 79, 42, 180, 0, 17, 17, 0, 249, 16, 50, 79, 177]
abbrev dktX6_init_8 : List UInt8 := dkwX6_init_8 ++ []
def dkwX6_init_7 : List UInt8 := [181, 0, 67, 42, 17, 0, 240, 188, 11, 181, 0, 70, 42, 180, 0, 17, 17, 0, 161, 17, 19, 136, 79, 42]
abbrev dktX6_init_7 : List UInt8 := dkwX6_init_7 ++ dktX6_init_8
def dkwX6_init_6 : List UInt8 := [89, 3, 2, 79, 89, 4, 2, 79, 89, 5, 2, 79, 89, 6, 2, 79, 181, 0, 64, 42, 7, 188, 10]
abbrev dktX6_init_6 : List UInt8 := dkwX6_init_6 ++ dktX6_init_7
def dkwX6_init_5 : List UInt8 := [181, 0, 55, 42, 16, 6, 188, 10, 181, 0, 58, 42, 17, 1, 0, 188, 10, 181, 0, 61, 42, 7, 188, 10]
abbrev dktX6_init_5 : List UInt8 := dkwX6_init_5 ++ dktX6_init_6
def dkwX6_init_4 : List UInt8 := [42, 17, 1, 4, 188, 4, 181, 0, 49, 42, 16, 12, 188, 11, 181, 0, 52, 42, 17, 1, 224, 188, 11]
abbrev dktX6_init_4 : List UInt8 := dkwX6_init_4 ++ dktX6_init_5
def dkwX6_init_3 : List UInt8 := [181, 0, 37, 42, 2, 181, 0, 40, 42, 16, 8, 188, 10, 181, 0, 43, 42, 16, 12, 188, 10, 181, 0, 46]
abbrev dktX6_init_3 : List UInt8 := dkwX6_init_3 ++ dktX6_init_4
def dkwX6_init_2 : List UInt8 := [17, 10, 20, 188, 10, 181, 0, 31, 42, 16, 116, 188, 10, 181, 0, 34, 42, 17, 1, 144, 188, 10]
abbrev dktX6_init_2 : List UInt8 := dkwX6_init_2 ++ dktX6_init_3
def dkwX6_init_1 : List UInt8 := [17, 9, 48, 188, 11, 181, 0, 20, 42, 5, 188, 4, 181, 0, 24, 42, 16, 81, 188, 10, 181, 0, 28, 42]
abbrev dktX6_init_1 : List UInt8 := dkwX6_init_1 ++ dktX6_init_2
def dkwX6_init_0 : List UInt8 := [42, 183, 0, 11, 42, 16, 8, 188, 10, 181, 0, 7, 42, 17, 13, 44, 188, 10, 181, 0, 17, 42]
abbrev dktX6_init_0 : List UInt8 := dkwX6_init_0 ++ dktX6_init_1
theorem dksX6_init_0 : cX6_init.data.toList.drop 0 = dktX6_init_0 := by decide +kernel
theorem dksX6_init_1 : cX6_init.data.toList.drop 22 = dktX6_init_1 := dk_seg dksX6_init_0 22 rfl rfl
theorem dksX6_init_2 : cX6_init.data.toList.drop 46 = dktX6_init_2 := dk_seg dksX6_init_1 24 rfl rfl
theorem dksX6_init_3 : cX6_init.data.toList.drop 68 = dktX6_init_3 := dk_seg dksX6_init_2 22 rfl rfl
theorem dksX6_init_4 : cX6_init.data.toList.drop 92 = dktX6_init_4 := dk_seg dksX6_init_3 24 rfl rfl
theorem dksX6_init_5 : cX6_init.data.toList.drop 115 = dktX6_init_5 := dk_seg dksX6_init_4 23 rfl rfl
theorem dksX6_init_6 : cX6_init.data.toList.drop 139 = dktX6_init_6 := dk_seg dksX6_init_5 24 rfl rfl
theorem dksX6_init_7 : cX6_init.data.toList.drop 162 = dktX6_init_7 := dk_seg dksX6_init_6 23 rfl rfl
theorem dksX6_init_8 : cX6_init.data.toList.drop 186 = dktX6_init_8 := dk_seg dksX6_init_7 24 rfl rfl
theorem dX6_init_0 : decode cX6_init 0 = .ok (.aload_n 0, 1) := dk_42 (dk_at dksX6_init_0 0 rfl rfl)
theorem dX6_init_1 : decode cX6_init 1 = .ok (.invokespecial 11, 3) := dk_183 0 11 (dk_at dksX6_init_0 1 rfl rfl)
theorem dX6_init_4 : decode cX6_init 4 = .ok (.aload_n 0, 1) := dk_42 (dk_at dksX6_init_0 4 rfl rfl)
theorem dX6_init_5 : decode cX6_init 5 = .ok (.bipush 8, 2) := dk_16 8 (dk_at dksX6_init_0 5 rfl rfl)
theorem dX6_init_7 : decode cX6_init 7 = .ok (.newarray .int, 2) := dk_188_10 (dk_at dksX6_init_0 7 rfl rfl)
theorem dX6_init_9 : decode cX6_init 9 = .ok (.putfield 7, 3) := dk_181 0 7 (dk_at dksX6_init_0 9 rfl rfl)
theorem dX6_init_12 : decode cX6_init 12 = .ok (.aload_n 0, 1) := dk_42 (dk_at dksX6_init_0 12 rfl rfl)
theorem dX6_init_13 : decode cX6_init 13 = .ok (.sipush 3372, 3) := dk_17 13 44 (dk_at dksX6_init_0 13 rfl rfl)
theorem dX6_init_16 : decode cX6_init 16 = .ok (.newarray .int, 2) := dk_188_10 (dk_at dksX6_init_0 16 rfl rfl)
theorem dX6_init_18 : decode cX6_init 18 = .ok (.putfield 17, 3) := dk_181 0 17 (dk_at dksX6_init_0 18 rfl rfl)
theorem dX6_init_21 : decode cX6_init 21 = .ok (.aload_n 0, 1) := dk_42 (dk_at dksX6_init_0 21 rfl rfl)
theorem dX6_init_22 : decode cX6_init 22 = .ok (.sipush 2352, 3) := dk_17 9 48 (dk_at dksX6_init_1 0 rfl rfl)
theorem dX6_init_25 : decode cX6_init 25 = .ok (.newarray .long, 2) := dk_188_11 (dk_at dksX6_init_1 3 rfl rfl)
theorem dX6_init_27 : decode cX6_init 27 = .ok (.putfield 20, 3) := dk_181 0 20 (dk_at dksX6_init_1 5 rfl rfl)
theorem dX6_init_30 : decode cX6_init 30 = .ok (.aload_n 0, 1) := dk_42 (dk_at dksX6_init_1 8 rfl rfl)
theorem dX6_init_31 : decode cX6_init 31 = .ok (.iconst 2, 1) := dk_5 (dk_at dksX6_init_1 9 rfl rfl)
theorem dX6_init_32 : decode cX6_init 32 = .ok (.newarray .boolean, 2) := dk_188_4 (dk_at dksX6_init_1 10 rfl rfl)
theorem dX6_init_34 : decode cX6_init 34 = .ok (.putfield 24, 3) := dk_181 0 24 (dk_at dksX6_init_1 12 rfl rfl)
theorem dX6_init_37 : decode cX6_init 37 = .ok (.aload_n 0, 1) := dk_42 (dk_at dksX6_init_1 15 rfl rfl)
theorem dX6_init_38 : decode cX6_init 38 = .ok (.bipush 81, 2) := dk_16 81 (dk_at dksX6_init_1 16 rfl rfl)
theorem dX6_init_40 : decode cX6_init 40 = .ok (.newarray .int, 2) := dk_188_10 (dk_at dksX6_init_1 18 rfl rfl)
theorem dX6_init_42 : decode cX6_init 42 = .ok (.putfield 28, 3) := dk_181 0 28 (dk_at dksX6_init_1 20 rfl rfl)
theorem dX6_init_45 : decode cX6_init 45 = .ok (.aload_n 0, 1) := dk_42 (dk_at dksX6_init_1 23 rfl rfl)
theorem dX6_init_46 : decode cX6_init 46 = .ok (.sipush 2580, 3) := dk_17 10 20 (dk_at dksX6_init_2 0 rfl rfl)
theorem dX6_init_49 : decode cX6_init 49 = .ok (.newarray .int, 2) := dk_188_10 (dk_at dksX6_init_2 3 rfl rfl)
theorem dX6_init_51 : decode cX6_init 51 = .ok (.putfield 31, 3) := dk_181 0 31 (dk_at dksX6_init_2 5 rfl rfl)
theorem dX6_init_54 : decode cX6_init 54 = .ok (.aload_n 0, 1) := dk_42 (dk_at dksX6_init_2 8 rfl rfl)
theorem dX6_init_55 : decode cX6_init 55 = .ok (.bipush 116, 2) := dk_16 116 (dk_at dksX6_init_2 9 rfl rfl)
theorem dX6_init_57 : decode cX6_init 57 = .ok (.newarray .int, 2) := dk_188_10 (dk_at dksX6_init_2 11 rfl rfl)
theorem dX6_init_59 : decode cX6_init 59 = .ok (.putfield 34, 3) := dk_181 0 34 (dk_at dksX6_init_2 13 rfl rfl)
theorem dX6_init_62 : decode cX6_init 62 = .ok (.aload_n 0, 1) := dk_42 (dk_at dksX6_init_2 16 rfl rfl)
theorem dX6_init_63 : decode cX6_init 63 = .ok (.sipush 400, 3) := dk_17 1 144 (dk_at dksX6_init_2 17 rfl rfl)
theorem dX6_init_66 : decode cX6_init 66 = .ok (.newarray .int, 2) := dk_188_10 (dk_at dksX6_init_2 20 rfl rfl)
theorem dX6_init_68 : decode cX6_init 68 = .ok (.putfield 37, 3) := dk_181 0 37 (dk_at dksX6_init_3 0 rfl rfl)
theorem dX6_init_71 : decode cX6_init 71 = .ok (.aload_n 0, 1) := dk_42 (dk_at dksX6_init_3 3 rfl rfl)
theorem dX6_init_72 : decode cX6_init 72 = .ok (.iconst (-1), 1) := dk_2 (dk_at dksX6_init_3 4 rfl rfl)
theorem dX6_init_73 : decode cX6_init 73 = .ok (.putfield 40, 3) := dk_181 0 40 (dk_at dksX6_init_3 5 rfl rfl)
theorem dX6_init_76 : decode cX6_init 76 = .ok (.aload_n 0, 1) := dk_42 (dk_at dksX6_init_3 8 rfl rfl)
theorem dX6_init_77 : decode cX6_init 77 = .ok (.bipush 8, 2) := dk_16 8 (dk_at dksX6_init_3 9 rfl rfl)
theorem dX6_init_79 : decode cX6_init 79 = .ok (.newarray .int, 2) := dk_188_10 (dk_at dksX6_init_3 11 rfl rfl)
theorem dX6_init_81 : decode cX6_init 81 = .ok (.putfield 43, 3) := dk_181 0 43 (dk_at dksX6_init_3 13 rfl rfl)
theorem dX6_init_84 : decode cX6_init 84 = .ok (.aload_n 0, 1) := dk_42 (dk_at dksX6_init_3 16 rfl rfl)
theorem dX6_init_85 : decode cX6_init 85 = .ok (.bipush 12, 2) := dk_16 12 (dk_at dksX6_init_3 17 rfl rfl)
theorem dX6_init_87 : decode cX6_init 87 = .ok (.newarray .int, 2) := dk_188_10 (dk_at dksX6_init_3 19 rfl rfl)
theorem dX6_init_89 : decode cX6_init 89 = .ok (.putfield 46, 3) := dk_181 0 46 (dk_at dksX6_init_3 21 rfl rfl)
theorem dX6_init_92 : decode cX6_init 92 = .ok (.aload_n 0, 1) := dk_42 (dk_at dksX6_init_4 0 rfl rfl)
theorem dX6_init_93 : decode cX6_init 93 = .ok (.sipush 260, 3) := dk_17 1 4 (dk_at dksX6_init_4 1 rfl rfl)
theorem dX6_init_96 : decode cX6_init 96 = .ok (.newarray .boolean, 2) := dk_188_4 (dk_at dksX6_init_4 4 rfl rfl)
theorem dX6_init_98 : decode cX6_init 98 = .ok (.putfield 49, 3) := dk_181 0 49 (dk_at dksX6_init_4 6 rfl rfl)
theorem dX6_init_101 : decode cX6_init 101 = .ok (.aload_n 0, 1) := dk_42 (dk_at dksX6_init_4 9 rfl rfl)
theorem dX6_init_102 : decode cX6_init 102 = .ok (.bipush 12, 2) := dk_16 12 (dk_at dksX6_init_4 10 rfl rfl)
theorem dX6_init_104 : decode cX6_init 104 = .ok (.newarray .long, 2) := dk_188_11 (dk_at dksX6_init_4 12 rfl rfl)
theorem dX6_init_106 : decode cX6_init 106 = .ok (.putfield 52, 3) := dk_181 0 52 (dk_at dksX6_init_4 14 rfl rfl)
theorem dX6_init_109 : decode cX6_init 109 = .ok (.aload_n 0, 1) := dk_42 (dk_at dksX6_init_4 17 rfl rfl)
theorem dX6_init_110 : decode cX6_init 110 = .ok (.sipush 480, 3) := dk_17 1 224 (dk_at dksX6_init_4 18 rfl rfl)
theorem dX6_init_113 : decode cX6_init 113 = .ok (.newarray .long, 2) := dk_188_11 (dk_at dksX6_init_4 21 rfl rfl)
theorem dX6_init_115 : decode cX6_init 115 = .ok (.putfield 55, 3) := dk_181 0 55 (dk_at dksX6_init_5 0 rfl rfl)
theorem dX6_init_118 : decode cX6_init 118 = .ok (.aload_n 0, 1) := dk_42 (dk_at dksX6_init_5 3 rfl rfl)
theorem dX6_init_119 : decode cX6_init 119 = .ok (.bipush 6, 2) := dk_16 6 (dk_at dksX6_init_5 4 rfl rfl)
theorem dX6_init_121 : decode cX6_init 121 = .ok (.newarray .int, 2) := dk_188_10 (dk_at dksX6_init_5 6 rfl rfl)
theorem dX6_init_123 : decode cX6_init 123 = .ok (.putfield 58, 3) := dk_181 0 58 (dk_at dksX6_init_5 8 rfl rfl)
theorem dX6_init_126 : decode cX6_init 126 = .ok (.aload_n 0, 1) := dk_42 (dk_at dksX6_init_5 11 rfl rfl)
theorem dX6_init_127 : decode cX6_init 127 = .ok (.sipush 256, 3) := dk_17 1 0 (dk_at dksX6_init_5 12 rfl rfl)
theorem dX6_init_130 : decode cX6_init 130 = .ok (.newarray .int, 2) := dk_188_10 (dk_at dksX6_init_5 15 rfl rfl)
theorem dX6_init_132 : decode cX6_init 132 = .ok (.putfield 61, 3) := dk_181 0 61 (dk_at dksX6_init_5 17 rfl rfl)
theorem dX6_init_135 : decode cX6_init 135 = .ok (.aload_n 0, 1) := dk_42 (dk_at dksX6_init_5 20 rfl rfl)
theorem dX6_init_136 : decode cX6_init 136 = .ok (.iconst 4, 1) := dk_7 (dk_at dksX6_init_5 21 rfl rfl)
theorem dX6_init_137 : decode cX6_init 137 = .ok (.newarray .int, 2) := dk_188_10 (dk_at dksX6_init_5 22 rfl rfl)
theorem dX6_init_139 : decode cX6_init 139 = .ok (.dup, 1) := dk_89 (dk_at dksX6_init_6 0 rfl rfl)
theorem dX6_init_140 : decode cX6_init 140 = .ok (.iconst 0, 1) := dk_3 (dk_at dksX6_init_6 1 rfl rfl)
theorem dX6_init_141 : decode cX6_init 141 = .ok (.iconst (-1), 1) := dk_2 (dk_at dksX6_init_6 2 rfl rfl)
theorem dX6_init_142 : decode cX6_init 142 = .ok (.iastore, 1) := dk_79 (dk_at dksX6_init_6 3 rfl rfl)
theorem dX6_init_143 : decode cX6_init 143 = .ok (.dup, 1) := dk_89 (dk_at dksX6_init_6 4 rfl rfl)
theorem dX6_init_144 : decode cX6_init 144 = .ok (.iconst 1, 1) := dk_4 (dk_at dksX6_init_6 5 rfl rfl)
theorem dX6_init_145 : decode cX6_init 145 = .ok (.iconst (-1), 1) := dk_2 (dk_at dksX6_init_6 6 rfl rfl)
theorem dX6_init_146 : decode cX6_init 146 = .ok (.iastore, 1) := dk_79 (dk_at dksX6_init_6 7 rfl rfl)
theorem dX6_init_147 : decode cX6_init 147 = .ok (.dup, 1) := dk_89 (dk_at dksX6_init_6 8 rfl rfl)
theorem dX6_init_148 : decode cX6_init 148 = .ok (.iconst 2, 1) := dk_5 (dk_at dksX6_init_6 9 rfl rfl)
theorem dX6_init_149 : decode cX6_init 149 = .ok (.iconst (-1), 1) := dk_2 (dk_at dksX6_init_6 10 rfl rfl)
theorem dX6_init_150 : decode cX6_init 150 = .ok (.iastore, 1) := dk_79 (dk_at dksX6_init_6 11 rfl rfl)
theorem dX6_init_151 : decode cX6_init 151 = .ok (.dup, 1) := dk_89 (dk_at dksX6_init_6 12 rfl rfl)
theorem dX6_init_152 : decode cX6_init 152 = .ok (.iconst 3, 1) := dk_6 (dk_at dksX6_init_6 13 rfl rfl)
theorem dX6_init_153 : decode cX6_init 153 = .ok (.iconst (-1), 1) := dk_2 (dk_at dksX6_init_6 14 rfl rfl)
theorem dX6_init_154 : decode cX6_init 154 = .ok (.iastore, 1) := dk_79 (dk_at dksX6_init_6 15 rfl rfl)
theorem dX6_init_155 : decode cX6_init 155 = .ok (.putfield 64, 3) := dk_181 0 64 (dk_at dksX6_init_6 16 rfl rfl)
theorem dX6_init_158 : decode cX6_init 158 = .ok (.aload_n 0, 1) := dk_42 (dk_at dksX6_init_6 19 rfl rfl)
theorem dX6_init_159 : decode cX6_init 159 = .ok (.iconst 4, 1) := dk_7 (dk_at dksX6_init_6 20 rfl rfl)
theorem dX6_init_160 : decode cX6_init 160 = .ok (.newarray .int, 2) := dk_188_10 (dk_at dksX6_init_6 21 rfl rfl)
theorem dX6_init_162 : decode cX6_init 162 = .ok (.putfield 67, 3) := dk_181 0 67 (dk_at dksX6_init_7 0 rfl rfl)
theorem dX6_init_165 : decode cX6_init 165 = .ok (.aload_n 0, 1) := dk_42 (dk_at dksX6_init_7 3 rfl rfl)
theorem dX6_init_166 : decode cX6_init 166 = .ok (.sipush 240, 3) := dk_17 0 240 (dk_at dksX6_init_7 4 rfl rfl)
theorem dX6_init_169 : decode cX6_init 169 = .ok (.newarray .long, 2) := dk_188_11 (dk_at dksX6_init_7 7 rfl rfl)
theorem dX6_init_171 : decode cX6_init 171 = .ok (.putfield 70, 3) := dk_181 0 70 (dk_at dksX6_init_7 9 rfl rfl)
theorem dX6_init_174 : decode cX6_init 174 = .ok (.aload_n 0, 1) := dk_42 (dk_at dksX6_init_7 12 rfl rfl)
theorem dX6_init_175 : decode cX6_init 175 = .ok (.getfield 17, 3) := dk_180 0 17 (dk_at dksX6_init_7 13 rfl rfl)
theorem dX6_init_178 : decode cX6_init 178 = .ok (.sipush 161, 3) := dk_17 0 161 (dk_at dksX6_init_7 16 rfl rfl)
theorem dX6_init_181 : decode cX6_init 181 = .ok (.sipush 5000, 3) := dk_17 19 136 (dk_at dksX6_init_7 19 rfl rfl)
theorem dX6_init_184 : decode cX6_init 184 = .ok (.iastore, 1) := dk_79 (dk_at dksX6_init_7 22 rfl rfl)
theorem dX6_init_185 : decode cX6_init 185 = .ok (.aload_n 0, 1) := dk_42 (dk_at dksX6_init_7 23 rfl rfl)
theorem dX6_init_186 : decode cX6_init 186 = .ok (.getfield 17, 3) := dk_180 0 17 (dk_at dksX6_init_8 0 rfl rfl)
theorem dX6_init_189 : decode cX6_init 189 = .ok (.sipush 248, 3) := dk_17 0 248 (dk_at dksX6_init_8 3 rfl rfl)
theorem dX6_init_192 : decode cX6_init 192 = .ok (.bipush 80, 2) := dk_16 80 (dk_at dksX6_init_8 6 rfl rfl)
theorem dX6_init_194 : decode cX6_init 194 = .ok (.iastore, 1) := dk_79 (dk_at dksX6_init_8 8 rfl rfl)
theorem dX6_init_195 : decode cX6_init 195 = .ok (.aload_n 0, 1) := dk_42 (dk_at dksX6_init_8 9 rfl rfl)
theorem dX6_init_196 : decode cX6_init 196 = .ok (.getfield 17, 3) := dk_180 0 17 (dk_at dksX6_init_8 10 rfl rfl)
theorem dX6_init_199 : decode cX6_init 199 = .ok (.sipush 249, 3) := dk_17 0 249 (dk_at dksX6_init_8 13 rfl rfl)
theorem dX6_init_202 : decode cX6_init 202 = .ok (.bipush 50, 2) := dk_16 50 (dk_at dksX6_init_8 16 rfl rfl)
theorem dX6_init_204 : decode cX6_init 204 = .ok (.iastore, 1) := dk_79 (dk_at dksX6_init_8 18 rfl rfl)
theorem dX6_init_205 : decode cX6_init 205 = .ok (.return_, 1) := dk_177 (dk_at dksX6_init_8 19 rfl rfl)
abbrev cX6_open : ByteArray := prog_28_method_9_code
def yX6_open : MethodName := ⟨RX6, "open", "(IIII)I"⟩
def dkwX6_open_8 : List UInt8 := [42, 28, 29, 21, 4, 182, 0, 97, 172]
abbrev dktX6_open_8 : List UInt8 := dkwX6_open_8 ++ []
def dkwX6_open_7 : List UInt8 := [79, 42, 180, 0, 17, 17, 0, 223, 92, 46, 4, 96, 79, 42, 180, 0, 17, 17, 0, 223, 46, 4, 100, 172]
abbrev dktX6_open_7 : List UInt8 := dkwX6_open_7 ++ dktX6_open_8
def dkwX6_open_6 : List UInt8 := [17, 0, 223, 46, 96, 28, 79, 42, 180, 0, 17, 17, 0, 236, 42, 180, 0, 17, 17, 0, 223, 46, 96, 3]
abbrev dktX6_open_6 : List UInt8 := dkwX6_open_6 ++ dktX6_open_7
def dkwX6_open_5 : List UInt8 := [16, 252, 182, 0, 85, 172, 27, 4, 160, 0, 62, 42, 180, 0, 17, 17, 0, 224, 42, 180, 0, 17]
abbrev dktX6_open_5 : List UInt8 := dkwX6_open_5 ++ dktX6_open_6
def dkwX6_open_4 : List UInt8 := [3, 46, 16, 40, 160, 0, 26, 167, 0, 16, 42, 180, 0, 17, 17, 0, 223, 46, 16, 12, 160, 0, 10, 42]
abbrev dktX6_open_4 : List UInt8 := dkwX6_open_4 ++ dktX6_open_5
def dkwX6_open_3 : List UInt8 := [20, 0, 95, 184, 0, 81, 154, 0, 10, 42, 16, 253, 182, 0, 85, 172, 27, 154, 0, 17, 42, 180, 0, 17]
abbrev dktX6_open_3 : List UInt8 := dkwX6_open_3 ++ dktX6_open_4
def dkwX6_open_2 : List UInt8 := [153, 0, 31, 21, 4, 133, 9, 20, 0, 93, 184, 0, 81, 154, 0, 25, 167, 0, 15, 28, 133, 9]
abbrev dktX6_open_2 : List UInt8 := dkwX6_open_2 ++ dktX6_open_3
def dkwX6_open_1 : List UInt8 := [154, 0, 43, 28, 133, 9, 20, 0, 89, 184, 0, 81, 153, 0, 43, 29, 133, 9, 20, 0, 91, 184, 0, 81]
abbrev dktX6_open_1 : List UInt8 := dkwX6_open_1 ++ dktX6_open_2
def dkwX6_open_0 : List UInt8 := [42, 3, 181, 0, 1, 27, 133, 9, 10, 184, 0, 81, 154, 0, 10, 42, 16, 254, 182, 0, 85, 172, 27]
abbrev dktX6_open_0 : List UInt8 := dkwX6_open_0 ++ dktX6_open_1
theorem dksX6_open_0 : cX6_open.data.toList.drop 0 = dktX6_open_0 := by decide +kernel
theorem dksX6_open_1 : cX6_open.data.toList.drop 23 = dktX6_open_1 := dk_seg dksX6_open_0 23 rfl rfl
theorem dksX6_open_2 : cX6_open.data.toList.drop 47 = dktX6_open_2 := dk_seg dksX6_open_1 24 rfl rfl
theorem dksX6_open_3 : cX6_open.data.toList.drop 69 = dktX6_open_3 := dk_seg dksX6_open_2 22 rfl rfl
theorem dksX6_open_4 : cX6_open.data.toList.drop 93 = dktX6_open_4 := dk_seg dksX6_open_3 24 rfl rfl
theorem dksX6_open_5 : cX6_open.data.toList.drop 117 = dktX6_open_5 := dk_seg dksX6_open_4 24 rfl rfl
theorem dksX6_open_6 : cX6_open.data.toList.drop 139 = dktX6_open_6 := dk_seg dksX6_open_5 22 rfl rfl
theorem dksX6_open_7 : cX6_open.data.toList.drop 163 = dktX6_open_7 := dk_seg dksX6_open_6 24 rfl rfl
theorem dksX6_open_8 : cX6_open.data.toList.drop 187 = dktX6_open_8 := dk_seg dksX6_open_7 24 rfl rfl
theorem dX6_open_0 : decode cX6_open 0 = .ok (.aload_n 0, 1) := dk_42 (dk_at dksX6_open_0 0 rfl rfl)
theorem dX6_open_1 : decode cX6_open 1 = .ok (.iconst 0, 1) := dk_3 (dk_at dksX6_open_0 1 rfl rfl)
theorem dX6_open_2 : decode cX6_open 2 = .ok (.putfield 1, 3) := dk_181 0 1 (dk_at dksX6_open_0 2 rfl rfl)
theorem dX6_open_5 : decode cX6_open 5 = .ok (.iload_n 1, 1) := dk_27 (dk_at dksX6_open_0 5 rfl rfl)
theorem dX6_open_6 : decode cX6_open 6 = .ok (.i2l, 1) := dk_133 (dk_at dksX6_open_0 6 rfl rfl)
theorem dX6_open_7 : decode cX6_open 7 = .ok (.lconst 0, 1) := dk_9 (dk_at dksX6_open_0 7 rfl rfl)
theorem dX6_open_8 : decode cX6_open 8 = .ok (.lconst 1, 1) := dk_10 (dk_at dksX6_open_0 8 rfl rfl)
theorem dX6_open_9 : decode cX6_open 9 = .ok (.invokestatic 81, 3) := dk_184 0 81 (dk_at dksX6_open_0 9 rfl rfl)
theorem dX6_open_12 : decode cX6_open 12 = .ok (.ifCond .ne 10, 3) := dk_154 0 10 (dk_at dksX6_open_0 12 rfl rfl)
theorem dX6_open_15 : decode cX6_open 15 = .ok (.aload_n 0, 1) := dk_42 (dk_at dksX6_open_0 15 rfl rfl)
theorem dX6_open_16 : decode cX6_open 16 = .ok (.bipush (-2), 2) := dk_16 254 (dk_at dksX6_open_0 16 rfl rfl)
theorem dX6_open_18 : decode cX6_open 18 = .ok (.invokevirtual 85, 3) := dk_182 0 85 (dk_at dksX6_open_0 18 rfl rfl)
theorem dX6_open_21 : decode cX6_open 21 = .ok (.ireturn, 1) := dk_172 (dk_at dksX6_open_0 21 rfl rfl)
theorem dX6_open_22 : decode cX6_open 22 = .ok (.iload_n 1, 1) := dk_27 (dk_at dksX6_open_0 22 rfl rfl)
theorem dX6_open_23 : decode cX6_open 23 = .ok (.ifCond .ne 43, 3) := dk_154 0 43 (dk_at dksX6_open_1 0 rfl rfl)
theorem dX6_open_26 : decode cX6_open 26 = .ok (.iload_n 2, 1) := dk_28 (dk_at dksX6_open_1 3 rfl rfl)
theorem dX6_open_27 : decode cX6_open 27 = .ok (.i2l, 1) := dk_133 (dk_at dksX6_open_1 4 rfl rfl)
theorem dX6_open_28 : decode cX6_open 28 = .ok (.lconst 0, 1) := dk_9 (dk_at dksX6_open_1 5 rfl rfl)
theorem dX6_open_29 : decode cX6_open 29 = .ok (.ldc2_w 89, 3) := dk_20 0 89 (dk_at dksX6_open_1 6 rfl rfl)
theorem dX6_open_32 : decode cX6_open 32 = .ok (.invokestatic 81, 3) := dk_184 0 81 (dk_at dksX6_open_1 9 rfl rfl)
theorem dX6_open_35 : decode cX6_open 35 = .ok (.ifCond .eq 43, 3) := dk_153 0 43 (dk_at dksX6_open_1 12 rfl rfl)
theorem dX6_open_38 : decode cX6_open 38 = .ok (.iload_n 3, 1) := dk_29 (dk_at dksX6_open_1 15 rfl rfl)
theorem dX6_open_39 : decode cX6_open 39 = .ok (.i2l, 1) := dk_133 (dk_at dksX6_open_1 16 rfl rfl)
theorem dX6_open_40 : decode cX6_open 40 = .ok (.lconst 0, 1) := dk_9 (dk_at dksX6_open_1 17 rfl rfl)
theorem dX6_open_41 : decode cX6_open 41 = .ok (.ldc2_w 91, 3) := dk_20 0 91 (dk_at dksX6_open_1 18 rfl rfl)
theorem dX6_open_44 : decode cX6_open 44 = .ok (.invokestatic 81, 3) := dk_184 0 81 (dk_at dksX6_open_1 21 rfl rfl)
theorem dX6_open_47 : decode cX6_open 47 = .ok (.ifCond .eq 31, 3) := dk_153 0 31 (dk_at dksX6_open_2 0 rfl rfl)
theorem dX6_open_50 : decode cX6_open 50 = .ok (.iload 4, 2) := dk_21 4 (dk_at dksX6_open_2 3 rfl rfl)
theorem dX6_open_52 : decode cX6_open 52 = .ok (.i2l, 1) := dk_133 (dk_at dksX6_open_2 5 rfl rfl)
theorem dX6_open_53 : decode cX6_open 53 = .ok (.lconst 0, 1) := dk_9 (dk_at dksX6_open_2 6 rfl rfl)
theorem dX6_open_54 : decode cX6_open 54 = .ok (.ldc2_w 93, 3) := dk_20 0 93 (dk_at dksX6_open_2 7 rfl rfl)
theorem dX6_open_57 : decode cX6_open 57 = .ok (.invokestatic 81, 3) := dk_184 0 81 (dk_at dksX6_open_2 10 rfl rfl)
theorem dX6_open_60 : decode cX6_open 60 = .ok (.ifCond .ne 25, 3) := dk_154 0 25 (dk_at dksX6_open_2 13 rfl rfl)
theorem dX6_open_63 : decode cX6_open 63 = .ok (.goto 15, 3) := dk_167 0 15 (dk_at dksX6_open_2 16 rfl rfl)
theorem dX6_open_66 : decode cX6_open 66 = .ok (.iload_n 2, 1) := dk_28 (dk_at dksX6_open_2 19 rfl rfl)
theorem dX6_open_67 : decode cX6_open 67 = .ok (.i2l, 1) := dk_133 (dk_at dksX6_open_2 20 rfl rfl)
theorem dX6_open_68 : decode cX6_open 68 = .ok (.lconst 0, 1) := dk_9 (dk_at dksX6_open_2 21 rfl rfl)
theorem dX6_open_69 : decode cX6_open 69 = .ok (.ldc2_w 95, 3) := dk_20 0 95 (dk_at dksX6_open_3 0 rfl rfl)
theorem dX6_open_72 : decode cX6_open 72 = .ok (.invokestatic 81, 3) := dk_184 0 81 (dk_at dksX6_open_3 3 rfl rfl)
theorem dX6_open_75 : decode cX6_open 75 = .ok (.ifCond .ne 10, 3) := dk_154 0 10 (dk_at dksX6_open_3 6 rfl rfl)
theorem dX6_open_78 : decode cX6_open 78 = .ok (.aload_n 0, 1) := dk_42 (dk_at dksX6_open_3 9 rfl rfl)
theorem dX6_open_79 : decode cX6_open 79 = .ok (.bipush (-3), 2) := dk_16 253 (dk_at dksX6_open_3 10 rfl rfl)
theorem dX6_open_81 : decode cX6_open 81 = .ok (.invokevirtual 85, 3) := dk_182 0 85 (dk_at dksX6_open_3 12 rfl rfl)
theorem dX6_open_84 : decode cX6_open 84 = .ok (.ireturn, 1) := dk_172 (dk_at dksX6_open_3 15 rfl rfl)
theorem dX6_open_85 : decode cX6_open 85 = .ok (.iload_n 1, 1) := dk_27 (dk_at dksX6_open_3 16 rfl rfl)
theorem dX6_open_86 : decode cX6_open 86 = .ok (.ifCond .ne 17, 3) := dk_154 0 17 (dk_at dksX6_open_3 17 rfl rfl)
theorem dX6_open_89 : decode cX6_open 89 = .ok (.aload_n 0, 1) := dk_42 (dk_at dksX6_open_3 20 rfl rfl)
theorem dX6_open_90 : decode cX6_open 90 = .ok (.getfield 17, 3) := dk_180 0 17 (dk_at dksX6_open_3 21 rfl rfl)
theorem dX6_open_93 : decode cX6_open 93 = .ok (.iconst 0, 1) := dk_3 (dk_at dksX6_open_4 0 rfl rfl)
theorem dX6_open_94 : decode cX6_open 94 = .ok (.iaload, 1) := dk_46 (dk_at dksX6_open_4 1 rfl rfl)
theorem dX6_open_95 : decode cX6_open 95 = .ok (.bipush 40, 2) := dk_16 40 (dk_at dksX6_open_4 2 rfl rfl)
theorem dX6_open_97 : decode cX6_open 97 = .ok (.if_icmp .ne 26, 3) := dk_160 0 26 (dk_at dksX6_open_4 4 rfl rfl)
theorem dX6_open_100 : decode cX6_open 100 = .ok (.goto 16, 3) := dk_167 0 16 (dk_at dksX6_open_4 7 rfl rfl)
theorem dX6_open_103 : decode cX6_open 103 = .ok (.aload_n 0, 1) := dk_42 (dk_at dksX6_open_4 10 rfl rfl)
theorem dX6_open_104 : decode cX6_open 104 = .ok (.getfield 17, 3) := dk_180 0 17 (dk_at dksX6_open_4 11 rfl rfl)
theorem dX6_open_107 : decode cX6_open 107 = .ok (.sipush 223, 3) := dk_17 0 223 (dk_at dksX6_open_4 14 rfl rfl)
theorem dX6_open_110 : decode cX6_open 110 = .ok (.iaload, 1) := dk_46 (dk_at dksX6_open_4 17 rfl rfl)
theorem dX6_open_111 : decode cX6_open 111 = .ok (.bipush 12, 2) := dk_16 12 (dk_at dksX6_open_4 18 rfl rfl)
theorem dX6_open_113 : decode cX6_open 113 = .ok (.if_icmp .ne 10, 3) := dk_160 0 10 (dk_at dksX6_open_4 20 rfl rfl)
theorem dX6_open_116 : decode cX6_open 116 = .ok (.aload_n 0, 1) := dk_42 (dk_at dksX6_open_4 23 rfl rfl)
theorem dX6_open_117 : decode cX6_open 117 = .ok (.bipush (-4), 2) := dk_16 252 (dk_at dksX6_open_5 0 rfl rfl)
theorem dX6_open_119 : decode cX6_open 119 = .ok (.invokevirtual 85, 3) := dk_182 0 85 (dk_at dksX6_open_5 2 rfl rfl)
theorem dX6_open_122 : decode cX6_open 122 = .ok (.ireturn, 1) := dk_172 (dk_at dksX6_open_5 5 rfl rfl)
theorem dX6_open_123 : decode cX6_open 123 = .ok (.iload_n 1, 1) := dk_27 (dk_at dksX6_open_5 6 rfl rfl)
theorem dX6_open_124 : decode cX6_open 124 = .ok (.iconst 1, 1) := dk_4 (dk_at dksX6_open_5 7 rfl rfl)
theorem dX6_open_125 : decode cX6_open 125 = .ok (.if_icmp .ne 62, 3) := dk_160 0 62 (dk_at dksX6_open_5 8 rfl rfl)
theorem dX6_open_128 : decode cX6_open 128 = .ok (.aload_n 0, 1) := dk_42 (dk_at dksX6_open_5 11 rfl rfl)
theorem dX6_open_129 : decode cX6_open 129 = .ok (.getfield 17, 3) := dk_180 0 17 (dk_at dksX6_open_5 12 rfl rfl)
theorem dX6_open_132 : decode cX6_open 132 = .ok (.sipush 224, 3) := dk_17 0 224 (dk_at dksX6_open_5 15 rfl rfl)
theorem dX6_open_135 : decode cX6_open 135 = .ok (.aload_n 0, 1) := dk_42 (dk_at dksX6_open_5 18 rfl rfl)
theorem dX6_open_136 : decode cX6_open 136 = .ok (.getfield 17, 3) := dk_180 0 17 (dk_at dksX6_open_5 19 rfl rfl)
theorem dX6_open_139 : decode cX6_open 139 = .ok (.sipush 223, 3) := dk_17 0 223 (dk_at dksX6_open_6 0 rfl rfl)
theorem dX6_open_142 : decode cX6_open 142 = .ok (.iaload, 1) := dk_46 (dk_at dksX6_open_6 3 rfl rfl)
theorem dX6_open_143 : decode cX6_open 143 = .ok (.iadd, 1) := dk_96 (dk_at dksX6_open_6 4 rfl rfl)
theorem dX6_open_144 : decode cX6_open 144 = .ok (.iload_n 2, 1) := dk_28 (dk_at dksX6_open_6 5 rfl rfl)
theorem dX6_open_145 : decode cX6_open 145 = .ok (.iastore, 1) := dk_79 (dk_at dksX6_open_6 6 rfl rfl)
theorem dX6_open_146 : decode cX6_open 146 = .ok (.aload_n 0, 1) := dk_42 (dk_at dksX6_open_6 7 rfl rfl)
theorem dX6_open_147 : decode cX6_open 147 = .ok (.getfield 17, 3) := dk_180 0 17 (dk_at dksX6_open_6 8 rfl rfl)
theorem dX6_open_150 : decode cX6_open 150 = .ok (.sipush 236, 3) := dk_17 0 236 (dk_at dksX6_open_6 11 rfl rfl)
theorem dX6_open_153 : decode cX6_open 153 = .ok (.aload_n 0, 1) := dk_42 (dk_at dksX6_open_6 14 rfl rfl)
theorem dX6_open_154 : decode cX6_open 154 = .ok (.getfield 17, 3) := dk_180 0 17 (dk_at dksX6_open_6 15 rfl rfl)
theorem dX6_open_157 : decode cX6_open 157 = .ok (.sipush 223, 3) := dk_17 0 223 (dk_at dksX6_open_6 18 rfl rfl)
theorem dX6_open_160 : decode cX6_open 160 = .ok (.iaload, 1) := dk_46 (dk_at dksX6_open_6 21 rfl rfl)
theorem dX6_open_161 : decode cX6_open 161 = .ok (.iadd, 1) := dk_96 (dk_at dksX6_open_6 22 rfl rfl)
theorem dX6_open_162 : decode cX6_open 162 = .ok (.iconst 0, 1) := dk_3 (dk_at dksX6_open_6 23 rfl rfl)
theorem dX6_open_163 : decode cX6_open 163 = .ok (.iastore, 1) := dk_79 (dk_at dksX6_open_7 0 rfl rfl)
theorem dX6_open_164 : decode cX6_open 164 = .ok (.aload_n 0, 1) := dk_42 (dk_at dksX6_open_7 1 rfl rfl)
theorem dX6_open_165 : decode cX6_open 165 = .ok (.getfield 17, 3) := dk_180 0 17 (dk_at dksX6_open_7 2 rfl rfl)
theorem dX6_open_168 : decode cX6_open 168 = .ok (.sipush 223, 3) := dk_17 0 223 (dk_at dksX6_open_7 5 rfl rfl)
theorem dX6_open_171 : decode cX6_open 171 = .ok (.dup2, 1) := dk_92 (dk_at dksX6_open_7 8 rfl rfl)
theorem dX6_open_172 : decode cX6_open 172 = .ok (.iaload, 1) := dk_46 (dk_at dksX6_open_7 9 rfl rfl)
theorem dX6_open_173 : decode cX6_open 173 = .ok (.iconst 1, 1) := dk_4 (dk_at dksX6_open_7 10 rfl rfl)
theorem dX6_open_174 : decode cX6_open 174 = .ok (.iadd, 1) := dk_96 (dk_at dksX6_open_7 11 rfl rfl)
theorem dX6_open_175 : decode cX6_open 175 = .ok (.iastore, 1) := dk_79 (dk_at dksX6_open_7 12 rfl rfl)
theorem dX6_open_176 : decode cX6_open 176 = .ok (.aload_n 0, 1) := dk_42 (dk_at dksX6_open_7 13 rfl rfl)
theorem dX6_open_177 : decode cX6_open 177 = .ok (.getfield 17, 3) := dk_180 0 17 (dk_at dksX6_open_7 14 rfl rfl)
theorem dX6_open_180 : decode cX6_open 180 = .ok (.sipush 223, 3) := dk_17 0 223 (dk_at dksX6_open_7 17 rfl rfl)
theorem dX6_open_183 : decode cX6_open 183 = .ok (.iaload, 1) := dk_46 (dk_at dksX6_open_7 20 rfl rfl)
theorem dX6_open_184 : decode cX6_open 184 = .ok (.iconst 1, 1) := dk_4 (dk_at dksX6_open_7 21 rfl rfl)
theorem dX6_open_185 : decode cX6_open 185 = .ok (.isub, 1) := dk_100 (dk_at dksX6_open_7 22 rfl rfl)
theorem dX6_open_186 : decode cX6_open 186 = .ok (.ireturn, 1) := dk_172 (dk_at dksX6_open_7 23 rfl rfl)
theorem dX6_open_187 : decode cX6_open 187 = .ok (.aload_n 0, 1) := dk_42 (dk_at dksX6_open_8 0 rfl rfl)
theorem dX6_open_188 : decode cX6_open 188 = .ok (.iload_n 2, 1) := dk_28 (dk_at dksX6_open_8 1 rfl rfl)
theorem dX6_open_189 : decode cX6_open 189 = .ok (.iload_n 3, 1) := dk_29 (dk_at dksX6_open_8 2 rfl rfl)
theorem dX6_open_190 : decode cX6_open 190 = .ok (.iload 4, 2) := dk_21 4 (dk_at dksX6_open_8 3 rfl rfl)
theorem dX6_open_192 : decode cX6_open 192 = .ok (.invokevirtual 97, 3) := dk_182 0 97 (dk_at dksX6_open_8 5 rfl rfl)
theorem dX6_open_195 : decode cX6_open 195 = .ok (.ireturn, 1) := dk_172 (dk_at dksX6_open_8 8 rfl rfl)
abbrev cX6_within : ByteArray := prog_28_method_3_code
def yX6_within : MethodName := ⟨RX6, "within", "(JJJ)Z"⟩
def dkwX6_within_0 : List UInt8 := [30, 32, 148, 155, 0, 14, 30, 22, 4, 148, 157, 0, 7, 4, 167, 0, 4, 3, 172]
abbrev dktX6_within_0 : List UInt8 := dkwX6_within_0 ++ []
theorem dksX6_within_0 : cX6_within.data.toList.drop 0 = dktX6_within_0 := by decide +kernel
theorem dX6_within_0 : decode cX6_within 0 = .ok (.lload_n 0, 1) := dk_30 (dk_at dksX6_within_0 0 rfl rfl)
theorem dX6_within_1 : decode cX6_within 1 = .ok (.lload_n 2, 1) := dk_32 (dk_at dksX6_within_0 1 rfl rfl)
theorem dX6_within_2 : decode cX6_within 2 = .ok (.lcmp, 1) := dk_148 (dk_at dksX6_within_0 2 rfl rfl)
theorem dX6_within_3 : decode cX6_within 3 = .ok (.ifCond .lt 14, 3) := dk_155 0 14 (dk_at dksX6_within_0 3 rfl rfl)
theorem dX6_within_6 : decode cX6_within 6 = .ok (.lload_n 0, 1) := dk_30 (dk_at dksX6_within_0 6 rfl rfl)
theorem dX6_within_7 : decode cX6_within 7 = .ok (.lload 4, 2) := dk_22 4 (dk_at dksX6_within_0 7 rfl rfl)
theorem dX6_within_9 : decode cX6_within 9 = .ok (.lcmp, 1) := dk_148 (dk_at dksX6_within_0 9 rfl rfl)
theorem dX6_within_10 : decode cX6_within 10 = .ok (.ifCond .gt 7, 3) := dk_157 0 7 (dk_at dksX6_within_0 10 rfl rfl)
theorem dX6_within_13 : decode cX6_within 13 = .ok (.iconst 1, 1) := dk_4 (dk_at dksX6_within_0 13 rfl rfl)
theorem dX6_within_14 : decode cX6_within 14 = .ok (.goto 4, 3) := dk_167 0 4 (dk_at dksX6_within_0 14 rfl rfl)
theorem dX6_within_17 : decode cX6_within 17 = .ok (.iconst 0, 1) := dk_3 (dk_at dksX6_within_0 17 rfl rfl)
theorem dX6_within_18 : decode cX6_within 18 = .ok (.ireturn, 1) := dk_172 (dk_at dksX6_within_0 18 rfl rfl)
abbrev cX6_no : ByteArray := prog_28_method_2_code
def yX6_no : MethodName := ⟨RX6, "no", "(I)I"⟩
def dkwX6_no_0 : List UInt8 := [42, 180, 0, 7, 27, 116, 92, 46, 4, 96, 79, 27, 172]
abbrev dktX6_no_0 : List UInt8 := dkwX6_no_0 ++ []
theorem dksX6_no_0 : cX6_no.data.toList.drop 0 = dktX6_no_0 := by decide +kernel
theorem dX6_no_0 : decode cX6_no 0 = .ok (.aload_n 0, 1) := dk_42 (dk_at dksX6_no_0 0 rfl rfl)
theorem dX6_no_1 : decode cX6_no 1 = .ok (.getfield 7, 3) := dk_180 0 7 (dk_at dksX6_no_0 1 rfl rfl)
theorem dX6_no_4 : decode cX6_no 4 = .ok (.iload_n 1, 1) := dk_27 (dk_at dksX6_no_0 4 rfl rfl)
theorem dX6_no_5 : decode cX6_no 5 = .ok (.ineg, 1) := dk_116 (dk_at dksX6_no_0 5 rfl rfl)
theorem dX6_no_6 : decode cX6_no 6 = .ok (.dup2, 1) := dk_92 (dk_at dksX6_no_0 6 rfl rfl)
theorem dX6_no_7 : decode cX6_no 7 = .ok (.iaload, 1) := dk_46 (dk_at dksX6_no_0 7 rfl rfl)
theorem dX6_no_8 : decode cX6_no 8 = .ok (.iconst 1, 1) := dk_4 (dk_at dksX6_no_0 8 rfl rfl)
theorem dX6_no_9 : decode cX6_no 9 = .ok (.iadd, 1) := dk_96 (dk_at dksX6_no_0 9 rfl rfl)
theorem dX6_no_10 : decode cX6_no 10 = .ok (.iastore, 1) := dk_79 (dk_at dksX6_no_0 10 rfl rfl)
theorem dX6_no_11 : decode cX6_no 11 = .ok (.iload_n 1, 1) := dk_27 (dk_at dksX6_no_0 11 rfl rfl)
theorem dX6_no_12 : decode cX6_no 12 = .ok (.ireturn, 1) := dk_172 (dk_at dksX6_no_0 12 rfl rfl)
abbrev cX6_opens : ByteArray := prog_28_method_10_code
def yX6_opens : MethodName := ⟨RX6, "opens", "(III)I"⟩
def dkwX6_opens_2 : List UInt8 := [96, 3, 79, 42, 180, 0, 17, 3, 92, 46, 4, 96, 79, 21, 4, 172]
abbrev dktX6_opens_2 : List UInt8 := dkwX6_opens_2 ++ []
def dkwX6_opens_1 : List UInt8 := [21, 4, 96, 28, 79, 42, 180, 0, 17, 16, 81, 21, 4, 96, 29, 79, 42, 180, 0, 17, 16, 121, 21, 4]
abbrev dktX6_opens_1 : List UInt8 := dkwX6_opens_1 ++ dktX6_opens_2
def dkwX6_opens_0 : List UInt8 := [42, 180, 0, 17, 3, 46, 54, 4, 42, 180, 0, 17, 4, 21, 4, 96, 27, 79, 42, 180, 0, 17, 16, 41]
abbrev dktX6_opens_0 : List UInt8 := dkwX6_opens_0 ++ dktX6_opens_1
theorem dksX6_opens_0 : cX6_opens.data.toList.drop 0 = dktX6_opens_0 := by decide +kernel
theorem dksX6_opens_1 : cX6_opens.data.toList.drop 24 = dktX6_opens_1 := dk_seg dksX6_opens_0 24 rfl rfl
theorem dksX6_opens_2 : cX6_opens.data.toList.drop 48 = dktX6_opens_2 := dk_seg dksX6_opens_1 24 rfl rfl
theorem dX6_opens_0 : decode cX6_opens 0 = .ok (.aload_n 0, 1) := dk_42 (dk_at dksX6_opens_0 0 rfl rfl)
theorem dX6_opens_1 : decode cX6_opens 1 = .ok (.getfield 17, 3) := dk_180 0 17 (dk_at dksX6_opens_0 1 rfl rfl)
theorem dX6_opens_4 : decode cX6_opens 4 = .ok (.iconst 0, 1) := dk_3 (dk_at dksX6_opens_0 4 rfl rfl)
theorem dX6_opens_5 : decode cX6_opens 5 = .ok (.iaload, 1) := dk_46 (dk_at dksX6_opens_0 5 rfl rfl)
theorem dX6_opens_6 : decode cX6_opens 6 = .ok (.istore 4, 2) := dk_54 4 (dk_at dksX6_opens_0 6 rfl rfl)
theorem dX6_opens_8 : decode cX6_opens 8 = .ok (.aload_n 0, 1) := dk_42 (dk_at dksX6_opens_0 8 rfl rfl)
theorem dX6_opens_9 : decode cX6_opens 9 = .ok (.getfield 17, 3) := dk_180 0 17 (dk_at dksX6_opens_0 9 rfl rfl)
theorem dX6_opens_12 : decode cX6_opens 12 = .ok (.iconst 1, 1) := dk_4 (dk_at dksX6_opens_0 12 rfl rfl)
theorem dX6_opens_13 : decode cX6_opens 13 = .ok (.iload 4, 2) := dk_21 4 (dk_at dksX6_opens_0 13 rfl rfl)
theorem dX6_opens_15 : decode cX6_opens 15 = .ok (.iadd, 1) := dk_96 (dk_at dksX6_opens_0 15 rfl rfl)
theorem dX6_opens_16 : decode cX6_opens 16 = .ok (.iload_n 1, 1) := dk_27 (dk_at dksX6_opens_0 16 rfl rfl)
theorem dX6_opens_17 : decode cX6_opens 17 = .ok (.iastore, 1) := dk_79 (dk_at dksX6_opens_0 17 rfl rfl)
theorem dX6_opens_18 : decode cX6_opens 18 = .ok (.aload_n 0, 1) := dk_42 (dk_at dksX6_opens_0 18 rfl rfl)
theorem dX6_opens_19 : decode cX6_opens 19 = .ok (.getfield 17, 3) := dk_180 0 17 (dk_at dksX6_opens_0 19 rfl rfl)
theorem dX6_opens_22 : decode cX6_opens 22 = .ok (.bipush 41, 2) := dk_16 41 (dk_at dksX6_opens_0 22 rfl rfl)
theorem dX6_opens_24 : decode cX6_opens 24 = .ok (.iload 4, 2) := dk_21 4 (dk_at dksX6_opens_1 0 rfl rfl)
theorem dX6_opens_26 : decode cX6_opens 26 = .ok (.iadd, 1) := dk_96 (dk_at dksX6_opens_1 2 rfl rfl)
theorem dX6_opens_27 : decode cX6_opens 27 = .ok (.iload_n 2, 1) := dk_28 (dk_at dksX6_opens_1 3 rfl rfl)
theorem dX6_opens_28 : decode cX6_opens 28 = .ok (.iastore, 1) := dk_79 (dk_at dksX6_opens_1 4 rfl rfl)
theorem dX6_opens_29 : decode cX6_opens 29 = .ok (.aload_n 0, 1) := dk_42 (dk_at dksX6_opens_1 5 rfl rfl)
theorem dX6_opens_30 : decode cX6_opens 30 = .ok (.getfield 17, 3) := dk_180 0 17 (dk_at dksX6_opens_1 6 rfl rfl)
theorem dX6_opens_33 : decode cX6_opens 33 = .ok (.bipush 81, 2) := dk_16 81 (dk_at dksX6_opens_1 9 rfl rfl)
theorem dX6_opens_35 : decode cX6_opens 35 = .ok (.iload 4, 2) := dk_21 4 (dk_at dksX6_opens_1 11 rfl rfl)
theorem dX6_opens_37 : decode cX6_opens 37 = .ok (.iadd, 1) := dk_96 (dk_at dksX6_opens_1 13 rfl rfl)
theorem dX6_opens_38 : decode cX6_opens 38 = .ok (.iload_n 3, 1) := dk_29 (dk_at dksX6_opens_1 14 rfl rfl)
theorem dX6_opens_39 : decode cX6_opens 39 = .ok (.iastore, 1) := dk_79 (dk_at dksX6_opens_1 15 rfl rfl)
theorem dX6_opens_40 : decode cX6_opens 40 = .ok (.aload_n 0, 1) := dk_42 (dk_at dksX6_opens_1 16 rfl rfl)
theorem dX6_opens_41 : decode cX6_opens 41 = .ok (.getfield 17, 3) := dk_180 0 17 (dk_at dksX6_opens_1 17 rfl rfl)
theorem dX6_opens_44 : decode cX6_opens 44 = .ok (.bipush 121, 2) := dk_16 121 (dk_at dksX6_opens_1 20 rfl rfl)
theorem dX6_opens_46 : decode cX6_opens 46 = .ok (.iload 4, 2) := dk_21 4 (dk_at dksX6_opens_1 22 rfl rfl)
theorem dX6_opens_48 : decode cX6_opens 48 = .ok (.iadd, 1) := dk_96 (dk_at dksX6_opens_2 0 rfl rfl)
theorem dX6_opens_49 : decode cX6_opens 49 = .ok (.iconst 0, 1) := dk_3 (dk_at dksX6_opens_2 1 rfl rfl)
theorem dX6_opens_50 : decode cX6_opens 50 = .ok (.iastore, 1) := dk_79 (dk_at dksX6_opens_2 2 rfl rfl)
theorem dX6_opens_51 : decode cX6_opens 51 = .ok (.aload_n 0, 1) := dk_42 (dk_at dksX6_opens_2 3 rfl rfl)
theorem dX6_opens_52 : decode cX6_opens 52 = .ok (.getfield 17, 3) := dk_180 0 17 (dk_at dksX6_opens_2 4 rfl rfl)
theorem dX6_opens_55 : decode cX6_opens 55 = .ok (.iconst 0, 1) := dk_3 (dk_at dksX6_opens_2 7 rfl rfl)
theorem dX6_opens_56 : decode cX6_opens 56 = .ok (.dup2, 1) := dk_92 (dk_at dksX6_opens_2 8 rfl rfl)
theorem dX6_opens_57 : decode cX6_opens 57 = .ok (.iaload, 1) := dk_46 (dk_at dksX6_opens_2 9 rfl rfl)
theorem dX6_opens_58 : decode cX6_opens 58 = .ok (.iconst 1, 1) := dk_4 (dk_at dksX6_opens_2 10 rfl rfl)
theorem dX6_opens_59 : decode cX6_opens 59 = .ok (.iadd, 1) := dk_96 (dk_at dksX6_opens_2 11 rfl rfl)
theorem dX6_opens_60 : decode cX6_opens 60 = .ok (.iastore, 1) := dk_79 (dk_at dksX6_opens_2 12 rfl rfl)
theorem dX6_opens_61 : decode cX6_opens 61 = .ok (.iload 4, 2) := dk_21 4 (dk_at dksX6_opens_2 13 rfl rfl)
theorem dX6_opens_63 : decode cX6_opens 63 = .ok (.ireturn, 1) := dk_172 (dk_at dksX6_opens_2 15 rfl rfl)
abbrev cX6_line : ByteArray := prog_28_method_11_code
def yX6_line : MethodName := ⟨RX6, "line", "(IIIJ)I"⟩
def dkwX6_line_11 : List UInt8 := [180, 0, 17, 21, 6, 92, 46, 4, 96, 79, 42, 180, 0, 17, 21, 6, 46, 4, 100, 172]
abbrev dktX6_line_11 : List UInt8 := dkwX6_line_11 ++ []
def dkwX6_line_10 : List UInt8 := [17, 2, 28, 16, 12, 28, 104, 96, 42, 180, 0, 17, 21, 6, 46, 96, 22, 4, 184, 0, 101, 80, 42]
abbrev dktX6_line_10 : List UInt8 := dkwX6_line_10 ++ dktX6_line_11
def dkwX6_line_9 : List UInt8 := [16, 12, 160, 0, 10, 42, 16, 252, 182, 0, 85, 172, 42, 180, 0, 20, 27, 154, 0, 7, 3, 167, 0, 6]
abbrev dktX6_line_9 : List UInt8 := dkwX6_line_9 ++ dktX6_line_10
def dkwX6_line_8 : List UInt8 := [154, 0, 10, 16, 121, 28, 96, 167, 0, 8, 17, 0, 236, 28, 96, 54, 6, 42, 180, 0, 17, 21, 6, 46]
abbrev dktX6_line_8 : List UInt8 := dkwX6_line_8 ++ dktX6_line_9
def dkwX6_line_7 : List UInt8 := [180, 0, 17, 17, 0, 162, 92, 46, 4, 96, 79, 42, 180, 0, 17, 17, 0, 162, 46, 4, 100, 172, 27]
abbrev dktX6_line_7 : List UInt8 := dkwX6_line_7 ++ dktX6_line_8
def dkwX6_line_6 : List UInt8 := [79, 42, 180, 0, 20, 17, 1, 224, 42, 180, 0, 17, 17, 0, 162, 46, 96, 22, 4, 184, 0, 101, 80, 42]
abbrev dktX6_line_6 : List UInt8 := dkwX6_line_6 ++ dktX6_line_7
def dkwX6_line_5 : List UInt8 := [42, 16, 252, 182, 0, 85, 172, 42, 180, 0, 17, 17, 0, 163, 42, 180, 0, 17, 17, 0, 162, 46, 96, 29]
abbrev dktX6_line_5 : List UInt8 := dkwX6_line_5 ++ dktX6_line_6
def dkwX6_line_4 : List UInt8 := [16, 253, 182, 0, 85, 172, 27, 5, 160, 0, 86, 42, 180, 0, 17, 17, 0, 162, 46, 16, 60, 160, 0, 10]
abbrev dktX6_line_4 : List UInt8 := dkwX6_line_4 ++ dktX6_line_5
def dkwX6_line_3 : List UInt8 := [184, 0, 77, 153, 0, 20, 27, 5, 160, 0, 22, 29, 133, 9, 20, 0, 89, 184, 0, 81, 154, 0, 10, 42]
abbrev dktX6_line_3 : List UInt8 := dkwX6_line_3 ++ dktX6_line_4
def dkwX6_line_2 : List UInt8 := [133, 184, 0, 81, 154, 0, 18, 167, 0, 8, 27, 5, 159, 0, 10, 42, 16, 254, 182, 0, 85, 172, 22, 4]
abbrev dktX6_line_2 : List UInt8 := dkwX6_line_2 ++ dktX6_line_3
def dkwX6_line_1 : List UInt8 := [154, 0, 46, 167, 0, 36, 27, 4, 160, 0, 26, 28, 133, 9, 42, 180, 0, 17, 17, 0, 223, 46, 4, 100]
abbrev dktX6_line_1 : List UInt8 := dkwX6_line_1 ++ dktX6_line_2
def dkwX6_line_0 : List UInt8 := [42, 3, 181, 0, 1, 27, 154, 0, 24, 28, 133, 9, 42, 180, 0, 17, 3, 46, 4, 100, 133, 184, 0, 81]
abbrev dktX6_line_0 : List UInt8 := dkwX6_line_0 ++ dktX6_line_1
theorem dksX6_line_0 : cX6_line.data.toList.drop 0 = dktX6_line_0 := by decide +kernel
theorem dksX6_line_1 : cX6_line.data.toList.drop 24 = dktX6_line_1 := dk_seg dksX6_line_0 24 rfl rfl
theorem dksX6_line_2 : cX6_line.data.toList.drop 48 = dktX6_line_2 := dk_seg dksX6_line_1 24 rfl rfl
theorem dksX6_line_3 : cX6_line.data.toList.drop 72 = dktX6_line_3 := dk_seg dksX6_line_2 24 rfl rfl
theorem dksX6_line_4 : cX6_line.data.toList.drop 96 = dktX6_line_4 := dk_seg dksX6_line_3 24 rfl rfl
theorem dksX6_line_5 : cX6_line.data.toList.drop 120 = dktX6_line_5 := dk_seg dksX6_line_4 24 rfl rfl
theorem dksX6_line_6 : cX6_line.data.toList.drop 144 = dktX6_line_6 := dk_seg dksX6_line_5 24 rfl rfl
theorem dksX6_line_7 : cX6_line.data.toList.drop 168 = dktX6_line_7 := dk_seg dksX6_line_6 24 rfl rfl
theorem dksX6_line_8 : cX6_line.data.toList.drop 191 = dktX6_line_8 := dk_seg dksX6_line_7 23 rfl rfl
theorem dksX6_line_9 : cX6_line.data.toList.drop 215 = dktX6_line_9 := dk_seg dksX6_line_8 24 rfl rfl
theorem dksX6_line_10 : cX6_line.data.toList.drop 239 = dktX6_line_10 := dk_seg dksX6_line_9 24 rfl rfl
theorem dksX6_line_11 : cX6_line.data.toList.drop 262 = dktX6_line_11 := dk_seg dksX6_line_10 23 rfl rfl
theorem dX6_line_0 : decode cX6_line 0 = .ok (.aload_n 0, 1) := dk_42 (dk_at dksX6_line_0 0 rfl rfl)
theorem dX6_line_1 : decode cX6_line 1 = .ok (.iconst 0, 1) := dk_3 (dk_at dksX6_line_0 1 rfl rfl)
theorem dX6_line_2 : decode cX6_line 2 = .ok (.putfield 1, 3) := dk_181 0 1 (dk_at dksX6_line_0 2 rfl rfl)
theorem dX6_line_5 : decode cX6_line 5 = .ok (.iload_n 1, 1) := dk_27 (dk_at dksX6_line_0 5 rfl rfl)
theorem dX6_line_6 : decode cX6_line 6 = .ok (.ifCond .ne 24, 3) := dk_154 0 24 (dk_at dksX6_line_0 6 rfl rfl)
theorem dX6_line_9 : decode cX6_line 9 = .ok (.iload_n 2, 1) := dk_28 (dk_at dksX6_line_0 9 rfl rfl)
theorem dX6_line_10 : decode cX6_line 10 = .ok (.i2l, 1) := dk_133 (dk_at dksX6_line_0 10 rfl rfl)
theorem dX6_line_11 : decode cX6_line 11 = .ok (.lconst 0, 1) := dk_9 (dk_at dksX6_line_0 11 rfl rfl)
theorem dX6_line_12 : decode cX6_line 12 = .ok (.aload_n 0, 1) := dk_42 (dk_at dksX6_line_0 12 rfl rfl)
theorem dX6_line_13 : decode cX6_line 13 = .ok (.getfield 17, 3) := dk_180 0 17 (dk_at dksX6_line_0 13 rfl rfl)
theorem dX6_line_16 : decode cX6_line 16 = .ok (.iconst 0, 1) := dk_3 (dk_at dksX6_line_0 16 rfl rfl)
theorem dX6_line_17 : decode cX6_line 17 = .ok (.iaload, 1) := dk_46 (dk_at dksX6_line_0 17 rfl rfl)
theorem dX6_line_18 : decode cX6_line 18 = .ok (.iconst 1, 1) := dk_4 (dk_at dksX6_line_0 18 rfl rfl)
theorem dX6_line_19 : decode cX6_line 19 = .ok (.isub, 1) := dk_100 (dk_at dksX6_line_0 19 rfl rfl)
theorem dX6_line_20 : decode cX6_line 20 = .ok (.i2l, 1) := dk_133 (dk_at dksX6_line_0 20 rfl rfl)
theorem dX6_line_21 : decode cX6_line 21 = .ok (.invokestatic 81, 3) := dk_184 0 81 (dk_at dksX6_line_0 21 rfl rfl)
theorem dX6_line_24 : decode cX6_line 24 = .ok (.ifCond .ne 46, 3) := dk_154 0 46 (dk_at dksX6_line_1 0 rfl rfl)
theorem dX6_line_27 : decode cX6_line 27 = .ok (.goto 36, 3) := dk_167 0 36 (dk_at dksX6_line_1 3 rfl rfl)
theorem dX6_line_30 : decode cX6_line 30 = .ok (.iload_n 1, 1) := dk_27 (dk_at dksX6_line_1 6 rfl rfl)
theorem dX6_line_31 : decode cX6_line 31 = .ok (.iconst 1, 1) := dk_4 (dk_at dksX6_line_1 7 rfl rfl)
theorem dX6_line_32 : decode cX6_line 32 = .ok (.if_icmp .ne 26, 3) := dk_160 0 26 (dk_at dksX6_line_1 8 rfl rfl)
theorem dX6_line_35 : decode cX6_line 35 = .ok (.iload_n 2, 1) := dk_28 (dk_at dksX6_line_1 11 rfl rfl)
theorem dX6_line_36 : decode cX6_line 36 = .ok (.i2l, 1) := dk_133 (dk_at dksX6_line_1 12 rfl rfl)
theorem dX6_line_37 : decode cX6_line 37 = .ok (.lconst 0, 1) := dk_9 (dk_at dksX6_line_1 13 rfl rfl)
theorem dX6_line_38 : decode cX6_line 38 = .ok (.aload_n 0, 1) := dk_42 (dk_at dksX6_line_1 14 rfl rfl)
theorem dX6_line_39 : decode cX6_line 39 = .ok (.getfield 17, 3) := dk_180 0 17 (dk_at dksX6_line_1 15 rfl rfl)
theorem dX6_line_42 : decode cX6_line 42 = .ok (.sipush 223, 3) := dk_17 0 223 (dk_at dksX6_line_1 18 rfl rfl)
theorem dX6_line_45 : decode cX6_line 45 = .ok (.iaload, 1) := dk_46 (dk_at dksX6_line_1 21 rfl rfl)
theorem dX6_line_46 : decode cX6_line 46 = .ok (.iconst 1, 1) := dk_4 (dk_at dksX6_line_1 22 rfl rfl)
theorem dX6_line_47 : decode cX6_line 47 = .ok (.isub, 1) := dk_100 (dk_at dksX6_line_1 23 rfl rfl)
theorem dX6_line_48 : decode cX6_line 48 = .ok (.i2l, 1) := dk_133 (dk_at dksX6_line_2 0 rfl rfl)
theorem dX6_line_49 : decode cX6_line 49 = .ok (.invokestatic 81, 3) := dk_184 0 81 (dk_at dksX6_line_2 1 rfl rfl)
theorem dX6_line_52 : decode cX6_line 52 = .ok (.ifCond .ne 18, 3) := dk_154 0 18 (dk_at dksX6_line_2 4 rfl rfl)
theorem dX6_line_55 : decode cX6_line 55 = .ok (.goto 8, 3) := dk_167 0 8 (dk_at dksX6_line_2 7 rfl rfl)
theorem dX6_line_58 : decode cX6_line 58 = .ok (.iload_n 1, 1) := dk_27 (dk_at dksX6_line_2 10 rfl rfl)
theorem dX6_line_59 : decode cX6_line 59 = .ok (.iconst 2, 1) := dk_5 (dk_at dksX6_line_2 11 rfl rfl)
theorem dX6_line_60 : decode cX6_line 60 = .ok (.if_icmp .eq 10, 3) := dk_159 0 10 (dk_at dksX6_line_2 12 rfl rfl)
theorem dX6_line_63 : decode cX6_line 63 = .ok (.aload_n 0, 1) := dk_42 (dk_at dksX6_line_2 15 rfl rfl)
theorem dX6_line_64 : decode cX6_line 64 = .ok (.bipush (-2), 2) := dk_16 254 (dk_at dksX6_line_2 16 rfl rfl)
theorem dX6_line_66 : decode cX6_line 66 = .ok (.invokevirtual 85, 3) := dk_182 0 85 (dk_at dksX6_line_2 18 rfl rfl)
theorem dX6_line_69 : decode cX6_line 69 = .ok (.ireturn, 1) := dk_172 (dk_at dksX6_line_2 21 rfl rfl)
theorem dX6_line_70 : decode cX6_line 70 = .ok (.lload 4, 2) := dk_22 4 (dk_at dksX6_line_2 22 rfl rfl)
theorem dX6_line_72 : decode cX6_line 72 = .ok (.invokestatic 77, 3) := dk_184 0 77 (dk_at dksX6_line_3 0 rfl rfl)
theorem dX6_line_75 : decode cX6_line 75 = .ok (.ifCond .eq 20, 3) := dk_153 0 20 (dk_at dksX6_line_3 3 rfl rfl)
theorem dX6_line_78 : decode cX6_line 78 = .ok (.iload_n 1, 1) := dk_27 (dk_at dksX6_line_3 6 rfl rfl)
theorem dX6_line_79 : decode cX6_line 79 = .ok (.iconst 2, 1) := dk_5 (dk_at dksX6_line_3 7 rfl rfl)
theorem dX6_line_80 : decode cX6_line 80 = .ok (.if_icmp .ne 22, 3) := dk_160 0 22 (dk_at dksX6_line_3 8 rfl rfl)
theorem dX6_line_83 : decode cX6_line 83 = .ok (.iload_n 3, 1) := dk_29 (dk_at dksX6_line_3 11 rfl rfl)
theorem dX6_line_84 : decode cX6_line 84 = .ok (.i2l, 1) := dk_133 (dk_at dksX6_line_3 12 rfl rfl)
theorem dX6_line_85 : decode cX6_line 85 = .ok (.lconst 0, 1) := dk_9 (dk_at dksX6_line_3 13 rfl rfl)
theorem dX6_line_86 : decode cX6_line 86 = .ok (.ldc2_w 89, 3) := dk_20 0 89 (dk_at dksX6_line_3 14 rfl rfl)
theorem dX6_line_89 : decode cX6_line 89 = .ok (.invokestatic 81, 3) := dk_184 0 81 (dk_at dksX6_line_3 17 rfl rfl)
theorem dX6_line_92 : decode cX6_line 92 = .ok (.ifCond .ne 10, 3) := dk_154 0 10 (dk_at dksX6_line_3 20 rfl rfl)
theorem dX6_line_95 : decode cX6_line 95 = .ok (.aload_n 0, 1) := dk_42 (dk_at dksX6_line_3 23 rfl rfl)
theorem dX6_line_96 : decode cX6_line 96 = .ok (.bipush (-3), 2) := dk_16 253 (dk_at dksX6_line_4 0 rfl rfl)
theorem dX6_line_98 : decode cX6_line 98 = .ok (.invokevirtual 85, 3) := dk_182 0 85 (dk_at dksX6_line_4 2 rfl rfl)
theorem dX6_line_101 : decode cX6_line 101 = .ok (.ireturn, 1) := dk_172 (dk_at dksX6_line_4 5 rfl rfl)
theorem dX6_line_102 : decode cX6_line 102 = .ok (.iload_n 1, 1) := dk_27 (dk_at dksX6_line_4 6 rfl rfl)
theorem dX6_line_103 : decode cX6_line 103 = .ok (.iconst 2, 1) := dk_5 (dk_at dksX6_line_4 7 rfl rfl)
theorem dX6_line_104 : decode cX6_line 104 = .ok (.if_icmp .ne 86, 3) := dk_160 0 86 (dk_at dksX6_line_4 8 rfl rfl)
theorem dX6_line_107 : decode cX6_line 107 = .ok (.aload_n 0, 1) := dk_42 (dk_at dksX6_line_4 11 rfl rfl)
theorem dX6_line_108 : decode cX6_line 108 = .ok (.getfield 17, 3) := dk_180 0 17 (dk_at dksX6_line_4 12 rfl rfl)
theorem dX6_line_111 : decode cX6_line 111 = .ok (.sipush 162, 3) := dk_17 0 162 (dk_at dksX6_line_4 15 rfl rfl)
theorem dX6_line_114 : decode cX6_line 114 = .ok (.iaload, 1) := dk_46 (dk_at dksX6_line_4 18 rfl rfl)
theorem dX6_line_115 : decode cX6_line 115 = .ok (.bipush 60, 2) := dk_16 60 (dk_at dksX6_line_4 19 rfl rfl)
theorem dX6_line_117 : decode cX6_line 117 = .ok (.if_icmp .ne 10, 3) := dk_160 0 10 (dk_at dksX6_line_4 21 rfl rfl)
theorem dX6_line_120 : decode cX6_line 120 = .ok (.aload_n 0, 1) := dk_42 (dk_at dksX6_line_5 0 rfl rfl)
theorem dX6_line_121 : decode cX6_line 121 = .ok (.bipush (-4), 2) := dk_16 252 (dk_at dksX6_line_5 1 rfl rfl)
theorem dX6_line_123 : decode cX6_line 123 = .ok (.invokevirtual 85, 3) := dk_182 0 85 (dk_at dksX6_line_5 3 rfl rfl)
theorem dX6_line_126 : decode cX6_line 126 = .ok (.ireturn, 1) := dk_172 (dk_at dksX6_line_5 6 rfl rfl)
theorem dX6_line_127 : decode cX6_line 127 = .ok (.aload_n 0, 1) := dk_42 (dk_at dksX6_line_5 7 rfl rfl)
theorem dX6_line_128 : decode cX6_line 128 = .ok (.getfield 17, 3) := dk_180 0 17 (dk_at dksX6_line_5 8 rfl rfl)
theorem dX6_line_131 : decode cX6_line 131 = .ok (.sipush 163, 3) := dk_17 0 163 (dk_at dksX6_line_5 11 rfl rfl)
theorem dX6_line_134 : decode cX6_line 134 = .ok (.aload_n 0, 1) := dk_42 (dk_at dksX6_line_5 14 rfl rfl)
theorem dX6_line_135 : decode cX6_line 135 = .ok (.getfield 17, 3) := dk_180 0 17 (dk_at dksX6_line_5 15 rfl rfl)
theorem dX6_line_138 : decode cX6_line 138 = .ok (.sipush 162, 3) := dk_17 0 162 (dk_at dksX6_line_5 18 rfl rfl)
theorem dX6_line_141 : decode cX6_line 141 = .ok (.iaload, 1) := dk_46 (dk_at dksX6_line_5 21 rfl rfl)
theorem dX6_line_142 : decode cX6_line 142 = .ok (.iadd, 1) := dk_96 (dk_at dksX6_line_5 22 rfl rfl)
theorem dX6_line_143 : decode cX6_line 143 = .ok (.iload_n 3, 1) := dk_29 (dk_at dksX6_line_5 23 rfl rfl)
theorem dX6_line_144 : decode cX6_line 144 = .ok (.iastore, 1) := dk_79 (dk_at dksX6_line_6 0 rfl rfl)
theorem dX6_line_145 : decode cX6_line 145 = .ok (.aload_n 0, 1) := dk_42 (dk_at dksX6_line_6 1 rfl rfl)
theorem dX6_line_146 : decode cX6_line 146 = .ok (.getfield 20, 3) := dk_180 0 20 (dk_at dksX6_line_6 2 rfl rfl)
theorem dX6_line_149 : decode cX6_line 149 = .ok (.sipush 480, 3) := dk_17 1 224 (dk_at dksX6_line_6 5 rfl rfl)
theorem dX6_line_152 : decode cX6_line 152 = .ok (.aload_n 0, 1) := dk_42 (dk_at dksX6_line_6 8 rfl rfl)
theorem dX6_line_153 : decode cX6_line 153 = .ok (.getfield 17, 3) := dk_180 0 17 (dk_at dksX6_line_6 9 rfl rfl)
theorem dX6_line_156 : decode cX6_line 156 = .ok (.sipush 162, 3) := dk_17 0 162 (dk_at dksX6_line_6 12 rfl rfl)
theorem dX6_line_159 : decode cX6_line 159 = .ok (.iaload, 1) := dk_46 (dk_at dksX6_line_6 15 rfl rfl)
theorem dX6_line_160 : decode cX6_line 160 = .ok (.iadd, 1) := dk_96 (dk_at dksX6_line_6 16 rfl rfl)
theorem dX6_line_161 : decode cX6_line 161 = .ok (.lload 4, 2) := dk_22 4 (dk_at dksX6_line_6 17 rfl rfl)
theorem dX6_line_163 : decode cX6_line 163 = .ok (.invokestatic 101, 3) := dk_184 0 101 (dk_at dksX6_line_6 19 rfl rfl)
theorem dX6_line_166 : decode cX6_line 166 = .ok (.lastore, 1) := dk_80 (dk_at dksX6_line_6 22 rfl rfl)
theorem dX6_line_167 : decode cX6_line 167 = .ok (.aload_n 0, 1) := dk_42 (dk_at dksX6_line_6 23 rfl rfl)
theorem dX6_line_168 : decode cX6_line 168 = .ok (.getfield 17, 3) := dk_180 0 17 (dk_at dksX6_line_7 0 rfl rfl)
theorem dX6_line_171 : decode cX6_line 171 = .ok (.sipush 162, 3) := dk_17 0 162 (dk_at dksX6_line_7 3 rfl rfl)
theorem dX6_line_174 : decode cX6_line 174 = .ok (.dup2, 1) := dk_92 (dk_at dksX6_line_7 6 rfl rfl)
theorem dX6_line_175 : decode cX6_line 175 = .ok (.iaload, 1) := dk_46 (dk_at dksX6_line_7 7 rfl rfl)
theorem dX6_line_176 : decode cX6_line 176 = .ok (.iconst 1, 1) := dk_4 (dk_at dksX6_line_7 8 rfl rfl)
theorem dX6_line_177 : decode cX6_line 177 = .ok (.iadd, 1) := dk_96 (dk_at dksX6_line_7 9 rfl rfl)
theorem dX6_line_178 : decode cX6_line 178 = .ok (.iastore, 1) := dk_79 (dk_at dksX6_line_7 10 rfl rfl)
theorem dX6_line_179 : decode cX6_line 179 = .ok (.aload_n 0, 1) := dk_42 (dk_at dksX6_line_7 11 rfl rfl)
theorem dX6_line_180 : decode cX6_line 180 = .ok (.getfield 17, 3) := dk_180 0 17 (dk_at dksX6_line_7 12 rfl rfl)
theorem dX6_line_183 : decode cX6_line 183 = .ok (.sipush 162, 3) := dk_17 0 162 (dk_at dksX6_line_7 15 rfl rfl)
theorem dX6_line_186 : decode cX6_line 186 = .ok (.iaload, 1) := dk_46 (dk_at dksX6_line_7 18 rfl rfl)
theorem dX6_line_187 : decode cX6_line 187 = .ok (.iconst 1, 1) := dk_4 (dk_at dksX6_line_7 19 rfl rfl)
theorem dX6_line_188 : decode cX6_line 188 = .ok (.isub, 1) := dk_100 (dk_at dksX6_line_7 20 rfl rfl)
theorem dX6_line_189 : decode cX6_line 189 = .ok (.ireturn, 1) := dk_172 (dk_at dksX6_line_7 21 rfl rfl)
theorem dX6_line_190 : decode cX6_line 190 = .ok (.iload_n 1, 1) := dk_27 (dk_at dksX6_line_7 22 rfl rfl)
theorem dX6_line_191 : decode cX6_line 191 = .ok (.ifCond .ne 10, 3) := dk_154 0 10 (dk_at dksX6_line_8 0 rfl rfl)
theorem dX6_line_194 : decode cX6_line 194 = .ok (.bipush 121, 2) := dk_16 121 (dk_at dksX6_line_8 3 rfl rfl)
theorem dX6_line_196 : decode cX6_line 196 = .ok (.iload_n 2, 1) := dk_28 (dk_at dksX6_line_8 5 rfl rfl)
theorem dX6_line_197 : decode cX6_line 197 = .ok (.iadd, 1) := dk_96 (dk_at dksX6_line_8 6 rfl rfl)
theorem dX6_line_198 : decode cX6_line 198 = .ok (.goto 8, 3) := dk_167 0 8 (dk_at dksX6_line_8 7 rfl rfl)
theorem dX6_line_201 : decode cX6_line 201 = .ok (.sipush 236, 3) := dk_17 0 236 (dk_at dksX6_line_8 10 rfl rfl)
theorem dX6_line_204 : decode cX6_line 204 = .ok (.iload_n 2, 1) := dk_28 (dk_at dksX6_line_8 13 rfl rfl)
theorem dX6_line_205 : decode cX6_line 205 = .ok (.iadd, 1) := dk_96 (dk_at dksX6_line_8 14 rfl rfl)
theorem dX6_line_206 : decode cX6_line 206 = .ok (.istore 6, 2) := dk_54 6 (dk_at dksX6_line_8 15 rfl rfl)
theorem dX6_line_208 : decode cX6_line 208 = .ok (.aload_n 0, 1) := dk_42 (dk_at dksX6_line_8 17 rfl rfl)
theorem dX6_line_209 : decode cX6_line 209 = .ok (.getfield 17, 3) := dk_180 0 17 (dk_at dksX6_line_8 18 rfl rfl)
theorem dX6_line_212 : decode cX6_line 212 = .ok (.iload 6, 2) := dk_21 6 (dk_at dksX6_line_8 21 rfl rfl)
theorem dX6_line_214 : decode cX6_line 214 = .ok (.iaload, 1) := dk_46 (dk_at dksX6_line_8 23 rfl rfl)
theorem dX6_line_215 : decode cX6_line 215 = .ok (.bipush 12, 2) := dk_16 12 (dk_at dksX6_line_9 0 rfl rfl)
theorem dX6_line_217 : decode cX6_line 217 = .ok (.if_icmp .ne 10, 3) := dk_160 0 10 (dk_at dksX6_line_9 2 rfl rfl)
theorem dX6_line_220 : decode cX6_line 220 = .ok (.aload_n 0, 1) := dk_42 (dk_at dksX6_line_9 5 rfl rfl)
theorem dX6_line_221 : decode cX6_line 221 = .ok (.bipush (-4), 2) := dk_16 252 (dk_at dksX6_line_9 6 rfl rfl)
theorem dX6_line_223 : decode cX6_line 223 = .ok (.invokevirtual 85, 3) := dk_182 0 85 (dk_at dksX6_line_9 8 rfl rfl)
theorem dX6_line_226 : decode cX6_line 226 = .ok (.ireturn, 1) := dk_172 (dk_at dksX6_line_9 11 rfl rfl)
theorem dX6_line_227 : decode cX6_line 227 = .ok (.aload_n 0, 1) := dk_42 (dk_at dksX6_line_9 12 rfl rfl)
theorem dX6_line_228 : decode cX6_line 228 = .ok (.getfield 20, 3) := dk_180 0 20 (dk_at dksX6_line_9 13 rfl rfl)
theorem dX6_line_231 : decode cX6_line 231 = .ok (.iload_n 1, 1) := dk_27 (dk_at dksX6_line_9 16 rfl rfl)
theorem dX6_line_232 : decode cX6_line 232 = .ok (.ifCond .ne 7, 3) := dk_154 0 7 (dk_at dksX6_line_9 17 rfl rfl)
theorem dX6_line_235 : decode cX6_line 235 = .ok (.iconst 0, 1) := dk_3 (dk_at dksX6_line_9 20 rfl rfl)
theorem dX6_line_236 : decode cX6_line 236 = .ok (.goto 6, 3) := dk_167 0 6 (dk_at dksX6_line_9 21 rfl rfl)
theorem dX6_line_239 : decode cX6_line 239 = .ok (.sipush 540, 3) := dk_17 2 28 (dk_at dksX6_line_10 0 rfl rfl)
theorem dX6_line_242 : decode cX6_line 242 = .ok (.bipush 12, 2) := dk_16 12 (dk_at dksX6_line_10 3 rfl rfl)
theorem dX6_line_244 : decode cX6_line 244 = .ok (.iload_n 2, 1) := dk_28 (dk_at dksX6_line_10 5 rfl rfl)
theorem dX6_line_245 : decode cX6_line 245 = .ok (.imul, 1) := dk_104 (dk_at dksX6_line_10 6 rfl rfl)
theorem dX6_line_246 : decode cX6_line 246 = .ok (.iadd, 1) := dk_96 (dk_at dksX6_line_10 7 rfl rfl)
theorem dX6_line_247 : decode cX6_line 247 = .ok (.aload_n 0, 1) := dk_42 (dk_at dksX6_line_10 8 rfl rfl)
theorem dX6_line_248 : decode cX6_line 248 = .ok (.getfield 17, 3) := dk_180 0 17 (dk_at dksX6_line_10 9 rfl rfl)
theorem dX6_line_251 : decode cX6_line 251 = .ok (.iload 6, 2) := dk_21 6 (dk_at dksX6_line_10 12 rfl rfl)
theorem dX6_line_253 : decode cX6_line 253 = .ok (.iaload, 1) := dk_46 (dk_at dksX6_line_10 14 rfl rfl)
theorem dX6_line_254 : decode cX6_line 254 = .ok (.iadd, 1) := dk_96 (dk_at dksX6_line_10 15 rfl rfl)
theorem dX6_line_255 : decode cX6_line 255 = .ok (.lload 4, 2) := dk_22 4 (dk_at dksX6_line_10 16 rfl rfl)
theorem dX6_line_257 : decode cX6_line 257 = .ok (.invokestatic 101, 3) := dk_184 0 101 (dk_at dksX6_line_10 18 rfl rfl)
theorem dX6_line_260 : decode cX6_line 260 = .ok (.lastore, 1) := dk_80 (dk_at dksX6_line_10 21 rfl rfl)
theorem dX6_line_261 : decode cX6_line 261 = .ok (.aload_n 0, 1) := dk_42 (dk_at dksX6_line_10 22 rfl rfl)
theorem dX6_line_262 : decode cX6_line 262 = .ok (.getfield 17, 3) := dk_180 0 17 (dk_at dksX6_line_11 0 rfl rfl)
theorem dX6_line_265 : decode cX6_line 265 = .ok (.iload 6, 2) := dk_21 6 (dk_at dksX6_line_11 3 rfl rfl)
theorem dX6_line_267 : decode cX6_line 267 = .ok (.dup2, 1) := dk_92 (dk_at dksX6_line_11 5 rfl rfl)
theorem dX6_line_268 : decode cX6_line 268 = .ok (.iaload, 1) := dk_46 (dk_at dksX6_line_11 6 rfl rfl)
theorem dX6_line_269 : decode cX6_line 269 = .ok (.iconst 1, 1) := dk_4 (dk_at dksX6_line_11 7 rfl rfl)
theorem dX6_line_270 : decode cX6_line 270 = .ok (.iadd, 1) := dk_96 (dk_at dksX6_line_11 8 rfl rfl)
theorem dX6_line_271 : decode cX6_line 271 = .ok (.iastore, 1) := dk_79 (dk_at dksX6_line_11 9 rfl rfl)
theorem dX6_line_272 : decode cX6_line 272 = .ok (.aload_n 0, 1) := dk_42 (dk_at dksX6_line_11 10 rfl rfl)
theorem dX6_line_273 : decode cX6_line 273 = .ok (.getfield 17, 3) := dk_180 0 17 (dk_at dksX6_line_11 11 rfl rfl)
theorem dX6_line_276 : decode cX6_line 276 = .ok (.iload 6, 2) := dk_21 6 (dk_at dksX6_line_11 14 rfl rfl)
theorem dX6_line_278 : decode cX6_line 278 = .ok (.iaload, 1) := dk_46 (dk_at dksX6_line_11 16 rfl rfl)
theorem dX6_line_279 : decode cX6_line 279 = .ok (.iconst 1, 1) := dk_4 (dk_at dksX6_line_11 17 rfl rfl)
theorem dX6_line_280 : decode cX6_line 280 = .ok (.isub, 1) := dk_100 (dk_at dksX6_line_11 18 rfl rfl)
theorem dX6_line_281 : decode cX6_line 281 = .ok (.ireturn, 1) := dk_172 (dk_at dksX6_line_11 19 rfl rfl)
abbrev cX6_lengthOf : ByteArray := prog_28_method_6_code
def yX6_lengthOf : MethodName := ⟨RX6, "lengthOf", "(J)I"⟩
def dkwX6_lengthOf_0 : List UInt8 := [3, 61, 28, 16, 8, 162, 0, 17, 30, 28, 184, 0, 73, 153, 0, 9, 132, 2, 1, 167, 255, 239, 28, 172]
abbrev dktX6_lengthOf_0 : List UInt8 := dkwX6_lengthOf_0 ++ []
theorem dksX6_lengthOf_0 : cX6_lengthOf.data.toList.drop 0 = dktX6_lengthOf_0 := by decide +kernel
theorem dX6_lengthOf_0 : decode cX6_lengthOf 0 = .ok (.iconst 0, 1) := dk_3 (dk_at dksX6_lengthOf_0 0 rfl rfl)
theorem dX6_lengthOf_1 : decode cX6_lengthOf 1 = .ok (.istore_n 2, 1) := dk_61 (dk_at dksX6_lengthOf_0 1 rfl rfl)
theorem dX6_lengthOf_2 : decode cX6_lengthOf 2 = .ok (.iload_n 2, 1) := dk_28 (dk_at dksX6_lengthOf_0 2 rfl rfl)
theorem dX6_lengthOf_3 : decode cX6_lengthOf 3 = .ok (.bipush 8, 2) := dk_16 8 (dk_at dksX6_lengthOf_0 3 rfl rfl)
theorem dX6_lengthOf_5 : decode cX6_lengthOf 5 = .ok (.if_icmp .ge 17, 3) := dk_162 0 17 (dk_at dksX6_lengthOf_0 5 rfl rfl)
theorem dX6_lengthOf_8 : decode cX6_lengthOf 8 = .ok (.lload_n 0, 1) := dk_30 (dk_at dksX6_lengthOf_0 8 rfl rfl)
theorem dX6_lengthOf_9 : decode cX6_lengthOf 9 = .ok (.iload_n 2, 1) := dk_28 (dk_at dksX6_lengthOf_0 9 rfl rfl)
theorem dX6_lengthOf_10 : decode cX6_lengthOf 10 = .ok (.invokestatic 73, 3) := dk_184 0 73 (dk_at dksX6_lengthOf_0 10 rfl rfl)
theorem dX6_lengthOf_13 : decode cX6_lengthOf 13 = .ok (.ifCond .eq 9, 3) := dk_153 0 9 (dk_at dksX6_lengthOf_0 13 rfl rfl)
theorem dX6_lengthOf_16 : decode cX6_lengthOf 16 = .ok (.iinc 2 1, 3) := dk_132 2 1 (dk_at dksX6_lengthOf_0 16 rfl rfl)
theorem dX6_lengthOf_19 : decode cX6_lengthOf 19 = .ok (.goto (-17), 3) := dk_167 255 239 (dk_at dksX6_lengthOf_0 19 rfl rfl)
theorem dX6_lengthOf_22 : decode cX6_lengthOf 22 = .ok (.iload_n 2, 1) := dk_28 (dk_at dksX6_lengthOf_0 22 rfl rfl)
theorem dX6_lengthOf_23 : decode cX6_lengthOf 23 = .ok (.ireturn, 1) := dk_172 (dk_at dksX6_lengthOf_0 23 rfl rfl)
abbrev cX6_wordAt : ByteArray := prog_28_method_5_code
def yX6_wordAt : MethodName := ⟨RX6, "wordAt", "(JI)I"⟩
def dkwX6_wordAt_1 : List UInt8 := [172]
abbrev dktX6_wordAt_1 : List UInt8 := dkwX6_wordAt_1 ++ []
def dkwX6_wordAt_0 : List UInt8 := [28, 16, 7, 164, 0, 7, 3, 167, 0, 17, 30, 16, 56, 16, 8, 28, 104, 100, 125, 136, 17, 0, 255, 126]
abbrev dktX6_wordAt_0 : List UInt8 := dkwX6_wordAt_0 ++ dktX6_wordAt_1
theorem dksX6_wordAt_0 : cX6_wordAt.data.toList.drop 0 = dktX6_wordAt_0 := by decide +kernel
theorem dksX6_wordAt_1 : cX6_wordAt.data.toList.drop 24 = dktX6_wordAt_1 := dk_seg dksX6_wordAt_0 24 rfl rfl
theorem dX6_wordAt_0 : decode cX6_wordAt 0 = .ok (.iload_n 2, 1) := dk_28 (dk_at dksX6_wordAt_0 0 rfl rfl)
theorem dX6_wordAt_1 : decode cX6_wordAt 1 = .ok (.bipush 7, 2) := dk_16 7 (dk_at dksX6_wordAt_0 1 rfl rfl)
theorem dX6_wordAt_3 : decode cX6_wordAt 3 = .ok (.if_icmp .le 7, 3) := dk_164 0 7 (dk_at dksX6_wordAt_0 3 rfl rfl)
theorem dX6_wordAt_6 : decode cX6_wordAt 6 = .ok (.iconst 0, 1) := dk_3 (dk_at dksX6_wordAt_0 6 rfl rfl)
theorem dX6_wordAt_7 : decode cX6_wordAt 7 = .ok (.goto 17, 3) := dk_167 0 17 (dk_at dksX6_wordAt_0 7 rfl rfl)
theorem dX6_wordAt_10 : decode cX6_wordAt 10 = .ok (.lload_n 0, 1) := dk_30 (dk_at dksX6_wordAt_0 10 rfl rfl)
theorem dX6_wordAt_11 : decode cX6_wordAt 11 = .ok (.bipush 56, 2) := dk_16 56 (dk_at dksX6_wordAt_0 11 rfl rfl)
theorem dX6_wordAt_13 : decode cX6_wordAt 13 = .ok (.bipush 8, 2) := dk_16 8 (dk_at dksX6_wordAt_0 13 rfl rfl)
theorem dX6_wordAt_15 : decode cX6_wordAt 15 = .ok (.iload_n 2, 1) := dk_28 (dk_at dksX6_wordAt_0 15 rfl rfl)
theorem dX6_wordAt_16 : decode cX6_wordAt 16 = .ok (.imul, 1) := dk_104 (dk_at dksX6_wordAt_0 16 rfl rfl)
theorem dX6_wordAt_17 : decode cX6_wordAt 17 = .ok (.isub, 1) := dk_100 (dk_at dksX6_wordAt_0 17 rfl rfl)
theorem dX6_wordAt_18 : decode cX6_wordAt 18 = .ok (.lushr, 1) := dk_125 (dk_at dksX6_wordAt_0 18 rfl rfl)
theorem dX6_wordAt_19 : decode cX6_wordAt 19 = .ok (.l2i, 1) := dk_136 (dk_at dksX6_wordAt_0 19 rfl rfl)
theorem dX6_wordAt_20 : decode cX6_wordAt 20 = .ok (.sipush 255, 3) := dk_17 0 255 (dk_at dksX6_wordAt_0 20 rfl rfl)
theorem dX6_wordAt_23 : decode cX6_wordAt 23 = .ok (.iand, 1) := dk_126 (dk_at dksX6_wordAt_0 23 rfl rfl)
theorem dX6_wordAt_24 : decode cX6_wordAt 24 = .ok (.ireturn, 1) := dk_172 (dk_at dksX6_wordAt_1 0 rfl rfl)
abbrev cX6_plain : ByteArray := prog_28_method_7_code
def yX6_plain : MethodName := ⟨RX6, "plain", "(J)J"⟩
def dkwX6_plain_1 : List UInt8 := [184, 0, 73, 133, 16, 56, 16, 8, 21, 5, 104, 100, 121, 129, 65, 132, 5, 1, 167, 255, 227, 32, 173]
abbrev dktX6_plain_1 : List UInt8 := dkwX6_plain_1 ++ []
def dkwX6_plain_0 : List UInt8 := [9, 65, 30, 184, 0, 77, 54, 4, 3, 54, 5, 21, 5, 21, 4, 162, 0, 28, 32, 30, 21, 5]
abbrev dktX6_plain_0 : List UInt8 := dkwX6_plain_0 ++ dktX6_plain_1
theorem dksX6_plain_0 : cX6_plain.data.toList.drop 0 = dktX6_plain_0 := by decide +kernel
theorem dksX6_plain_1 : cX6_plain.data.toList.drop 22 = dktX6_plain_1 := dk_seg dksX6_plain_0 22 rfl rfl
theorem dX6_plain_0 : decode cX6_plain 0 = .ok (.lconst 0, 1) := dk_9 (dk_at dksX6_plain_0 0 rfl rfl)
theorem dX6_plain_1 : decode cX6_plain 1 = .ok (.lstore_n 2, 1) := dk_65 (dk_at dksX6_plain_0 1 rfl rfl)
theorem dX6_plain_2 : decode cX6_plain 2 = .ok (.lload_n 0, 1) := dk_30 (dk_at dksX6_plain_0 2 rfl rfl)
theorem dX6_plain_3 : decode cX6_plain 3 = .ok (.invokestatic 77, 3) := dk_184 0 77 (dk_at dksX6_plain_0 3 rfl rfl)
theorem dX6_plain_6 : decode cX6_plain 6 = .ok (.istore 4, 2) := dk_54 4 (dk_at dksX6_plain_0 6 rfl rfl)
theorem dX6_plain_8 : decode cX6_plain 8 = .ok (.iconst 0, 1) := dk_3 (dk_at dksX6_plain_0 8 rfl rfl)
theorem dX6_plain_9 : decode cX6_plain 9 = .ok (.istore 5, 2) := dk_54 5 (dk_at dksX6_plain_0 9 rfl rfl)
theorem dX6_plain_11 : decode cX6_plain 11 = .ok (.iload 5, 2) := dk_21 5 (dk_at dksX6_plain_0 11 rfl rfl)
theorem dX6_plain_13 : decode cX6_plain 13 = .ok (.iload 4, 2) := dk_21 4 (dk_at dksX6_plain_0 13 rfl rfl)
theorem dX6_plain_15 : decode cX6_plain 15 = .ok (.if_icmp .ge 28, 3) := dk_162 0 28 (dk_at dksX6_plain_0 15 rfl rfl)
theorem dX6_plain_18 : decode cX6_plain 18 = .ok (.lload_n 2, 1) := dk_32 (dk_at dksX6_plain_0 18 rfl rfl)
theorem dX6_plain_19 : decode cX6_plain 19 = .ok (.lload_n 0, 1) := dk_30 (dk_at dksX6_plain_0 19 rfl rfl)
theorem dX6_plain_20 : decode cX6_plain 20 = .ok (.iload 5, 2) := dk_21 5 (dk_at dksX6_plain_0 20 rfl rfl)
theorem dX6_plain_22 : decode cX6_plain 22 = .ok (.invokestatic 73, 3) := dk_184 0 73 (dk_at dksX6_plain_1 0 rfl rfl)
theorem dX6_plain_25 : decode cX6_plain 25 = .ok (.i2l, 1) := dk_133 (dk_at dksX6_plain_1 3 rfl rfl)
theorem dX6_plain_26 : decode cX6_plain 26 = .ok (.bipush 56, 2) := dk_16 56 (dk_at dksX6_plain_1 4 rfl rfl)
theorem dX6_plain_28 : decode cX6_plain 28 = .ok (.bipush 8, 2) := dk_16 8 (dk_at dksX6_plain_1 6 rfl rfl)
theorem dX6_plain_30 : decode cX6_plain 30 = .ok (.iload 5, 2) := dk_21 5 (dk_at dksX6_plain_1 8 rfl rfl)
theorem dX6_plain_32 : decode cX6_plain 32 = .ok (.imul, 1) := dk_104 (dk_at dksX6_plain_1 10 rfl rfl)
theorem dX6_plain_33 : decode cX6_plain 33 = .ok (.isub, 1) := dk_100 (dk_at dksX6_plain_1 11 rfl rfl)
theorem dX6_plain_34 : decode cX6_plain 34 = .ok (.lshl, 1) := dk_121 (dk_at dksX6_plain_1 12 rfl rfl)
theorem dX6_plain_35 : decode cX6_plain 35 = .ok (.lor, 1) := dk_129 (dk_at dksX6_plain_1 13 rfl rfl)
theorem dX6_plain_36 : decode cX6_plain 36 = .ok (.lstore_n 2, 1) := dk_65 (dk_at dksX6_plain_1 14 rfl rfl)
theorem dX6_plain_37 : decode cX6_plain 37 = .ok (.iinc 5 1, 3) := dk_132 5 1 (dk_at dksX6_plain_1 15 rfl rfl)
theorem dX6_plain_40 : decode cX6_plain 40 = .ok (.goto (-29), 3) := dk_167 255 227 (dk_at dksX6_plain_1 18 rfl rfl)
theorem dX6_plain_43 : decode cX6_plain 43 = .ok (.lload_n 2, 1) := dk_32 (dk_at dksX6_plain_1 21 rfl rfl)
theorem dX6_plain_44 : decode cX6_plain 44 = .ok (.lreturn, 1) := dk_173 (dk_at dksX6_plain_1 22 rfl rfl)
abbrev cX6_print : ByteArray := prog_28_method_12_code
def yX6_print : MethodName := ⟨RX6, "print", "(I)I"⟩
def dkwX6_print_1 : List UInt8 := [42, 180, 0, 17, 17, 0, 161, 46, 61, 42, 180, 0, 17, 17, 0, 161, 27, 79, 28, 172]
abbrev dktX6_print_1 : List UInt8 := dkwX6_print_1 ++ []
def dkwX6_print_0 : List UInt8 := [42, 3, 181, 0, 1, 27, 133, 9, 20, 0, 93, 184, 0, 81, 154, 0, 10, 42, 16, 253, 182, 0, 85, 172]
abbrev dktX6_print_0 : List UInt8 := dkwX6_print_0 ++ dktX6_print_1
theorem dksX6_print_0 : cX6_print.data.toList.drop 0 = dktX6_print_0 := by decide +kernel
theorem dksX6_print_1 : cX6_print.data.toList.drop 24 = dktX6_print_1 := dk_seg dksX6_print_0 24 rfl rfl
theorem dX6_print_0 : decode cX6_print 0 = .ok (.aload_n 0, 1) := dk_42 (dk_at dksX6_print_0 0 rfl rfl)
theorem dX6_print_1 : decode cX6_print 1 = .ok (.iconst 0, 1) := dk_3 (dk_at dksX6_print_0 1 rfl rfl)
theorem dX6_print_2 : decode cX6_print 2 = .ok (.putfield 1, 3) := dk_181 0 1 (dk_at dksX6_print_0 2 rfl rfl)
theorem dX6_print_5 : decode cX6_print 5 = .ok (.iload_n 1, 1) := dk_27 (dk_at dksX6_print_0 5 rfl rfl)
theorem dX6_print_6 : decode cX6_print 6 = .ok (.i2l, 1) := dk_133 (dk_at dksX6_print_0 6 rfl rfl)
theorem dX6_print_7 : decode cX6_print 7 = .ok (.lconst 0, 1) := dk_9 (dk_at dksX6_print_0 7 rfl rfl)
theorem dX6_print_8 : decode cX6_print 8 = .ok (.ldc2_w 93, 3) := dk_20 0 93 (dk_at dksX6_print_0 8 rfl rfl)
theorem dX6_print_11 : decode cX6_print 11 = .ok (.invokestatic 81, 3) := dk_184 0 81 (dk_at dksX6_print_0 11 rfl rfl)
theorem dX6_print_14 : decode cX6_print 14 = .ok (.ifCond .ne 10, 3) := dk_154 0 10 (dk_at dksX6_print_0 14 rfl rfl)
theorem dX6_print_17 : decode cX6_print 17 = .ok (.aload_n 0, 1) := dk_42 (dk_at dksX6_print_0 17 rfl rfl)
theorem dX6_print_18 : decode cX6_print 18 = .ok (.bipush (-3), 2) := dk_16 253 (dk_at dksX6_print_0 18 rfl rfl)
theorem dX6_print_20 : decode cX6_print 20 = .ok (.invokevirtual 85, 3) := dk_182 0 85 (dk_at dksX6_print_0 20 rfl rfl)
theorem dX6_print_23 : decode cX6_print 23 = .ok (.ireturn, 1) := dk_172 (dk_at dksX6_print_0 23 rfl rfl)
theorem dX6_print_24 : decode cX6_print 24 = .ok (.aload_n 0, 1) := dk_42 (dk_at dksX6_print_1 0 rfl rfl)
theorem dX6_print_25 : decode cX6_print 25 = .ok (.getfield 17, 3) := dk_180 0 17 (dk_at dksX6_print_1 1 rfl rfl)
theorem dX6_print_28 : decode cX6_print 28 = .ok (.sipush 161, 3) := dk_17 0 161 (dk_at dksX6_print_1 4 rfl rfl)
theorem dX6_print_31 : decode cX6_print 31 = .ok (.iaload, 1) := dk_46 (dk_at dksX6_print_1 7 rfl rfl)
theorem dX6_print_32 : decode cX6_print 32 = .ok (.istore_n 2, 1) := dk_61 (dk_at dksX6_print_1 8 rfl rfl)
theorem dX6_print_33 : decode cX6_print 33 = .ok (.aload_n 0, 1) := dk_42 (dk_at dksX6_print_1 9 rfl rfl)
theorem dX6_print_34 : decode cX6_print 34 = .ok (.getfield 17, 3) := dk_180 0 17 (dk_at dksX6_print_1 10 rfl rfl)
theorem dX6_print_37 : decode cX6_print 37 = .ok (.sipush 161, 3) := dk_17 0 161 (dk_at dksX6_print_1 13 rfl rfl)
theorem dX6_print_40 : decode cX6_print 40 = .ok (.iload_n 1, 1) := dk_27 (dk_at dksX6_print_1 16 rfl rfl)
theorem dX6_print_41 : decode cX6_print 41 = .ok (.iastore, 1) := dk_79 (dk_at dksX6_print_1 17 rfl rfl)
theorem dX6_print_42 : decode cX6_print 42 = .ok (.iload_n 2, 1) := dk_28 (dk_at dksX6_print_1 18 rfl rfl)
theorem dX6_print_43 : decode cX6_print 43 = .ok (.ireturn, 1) := dk_172 (dk_at dksX6_print_1 19 rfl rfl)
abbrev cX6_bounds : ByteArray := prog_28_method_13_code
def yX6_bounds : MethodName := ⟨RX6, "bounds", "(II)I"⟩
def dkwX6_bounds_2 : List UInt8 := [180, 0, 17, 17, 0, 249, 28, 79, 3, 172]
abbrev dktX6_bounds_2 : List UInt8 := dkwX6_bounds_2 ++ []
def dkwX6_bounds_1 : List UInt8 := [184, 0, 81, 154, 0, 10, 42, 16, 253, 182, 0, 85, 172, 42, 180, 0, 17, 17, 0, 248, 27, 79, 42]
abbrev dktX6_bounds_1 : List UInt8 := dkwX6_bounds_1 ++ dktX6_bounds_2
def dkwX6_bounds_0 : List UInt8 := [42, 3, 181, 0, 1, 27, 133, 10, 20, 0, 105, 184, 0, 81, 153, 0, 14, 28, 133, 10, 27, 133]
abbrev dktX6_bounds_0 : List UInt8 := dkwX6_bounds_0 ++ dktX6_bounds_1
theorem dksX6_bounds_0 : cX6_bounds.data.toList.drop 0 = dktX6_bounds_0 := by decide +kernel
theorem dksX6_bounds_1 : cX6_bounds.data.toList.drop 22 = dktX6_bounds_1 := dk_seg dksX6_bounds_0 22 rfl rfl
theorem dksX6_bounds_2 : cX6_bounds.data.toList.drop 45 = dktX6_bounds_2 := dk_seg dksX6_bounds_1 23 rfl rfl
theorem dX6_bounds_0 : decode cX6_bounds 0 = .ok (.aload_n 0, 1) := dk_42 (dk_at dksX6_bounds_0 0 rfl rfl)
theorem dX6_bounds_1 : decode cX6_bounds 1 = .ok (.iconst 0, 1) := dk_3 (dk_at dksX6_bounds_0 1 rfl rfl)
theorem dX6_bounds_2 : decode cX6_bounds 2 = .ok (.putfield 1, 3) := dk_181 0 1 (dk_at dksX6_bounds_0 2 rfl rfl)
theorem dX6_bounds_5 : decode cX6_bounds 5 = .ok (.iload_n 1, 1) := dk_27 (dk_at dksX6_bounds_0 5 rfl rfl)
theorem dX6_bounds_6 : decode cX6_bounds 6 = .ok (.i2l, 1) := dk_133 (dk_at dksX6_bounds_0 6 rfl rfl)
theorem dX6_bounds_7 : decode cX6_bounds 7 = .ok (.lconst 1, 1) := dk_10 (dk_at dksX6_bounds_0 7 rfl rfl)
theorem dX6_bounds_8 : decode cX6_bounds 8 = .ok (.ldc2_w 105, 3) := dk_20 0 105 (dk_at dksX6_bounds_0 8 rfl rfl)
theorem dX6_bounds_11 : decode cX6_bounds 11 = .ok (.invokestatic 81, 3) := dk_184 0 81 (dk_at dksX6_bounds_0 11 rfl rfl)
theorem dX6_bounds_14 : decode cX6_bounds 14 = .ok (.ifCond .eq 14, 3) := dk_153 0 14 (dk_at dksX6_bounds_0 14 rfl rfl)
theorem dX6_bounds_17 : decode cX6_bounds 17 = .ok (.iload_n 2, 1) := dk_28 (dk_at dksX6_bounds_0 17 rfl rfl)
theorem dX6_bounds_18 : decode cX6_bounds 18 = .ok (.i2l, 1) := dk_133 (dk_at dksX6_bounds_0 18 rfl rfl)
theorem dX6_bounds_19 : decode cX6_bounds 19 = .ok (.lconst 1, 1) := dk_10 (dk_at dksX6_bounds_0 19 rfl rfl)
theorem dX6_bounds_20 : decode cX6_bounds 20 = .ok (.iload_n 1, 1) := dk_27 (dk_at dksX6_bounds_0 20 rfl rfl)
theorem dX6_bounds_21 : decode cX6_bounds 21 = .ok (.i2l, 1) := dk_133 (dk_at dksX6_bounds_0 21 rfl rfl)
theorem dX6_bounds_22 : decode cX6_bounds 22 = .ok (.invokestatic 81, 3) := dk_184 0 81 (dk_at dksX6_bounds_1 0 rfl rfl)
theorem dX6_bounds_25 : decode cX6_bounds 25 = .ok (.ifCond .ne 10, 3) := dk_154 0 10 (dk_at dksX6_bounds_1 3 rfl rfl)
theorem dX6_bounds_28 : decode cX6_bounds 28 = .ok (.aload_n 0, 1) := dk_42 (dk_at dksX6_bounds_1 6 rfl rfl)
theorem dX6_bounds_29 : decode cX6_bounds 29 = .ok (.bipush (-3), 2) := dk_16 253 (dk_at dksX6_bounds_1 7 rfl rfl)
theorem dX6_bounds_31 : decode cX6_bounds 31 = .ok (.invokevirtual 85, 3) := dk_182 0 85 (dk_at dksX6_bounds_1 9 rfl rfl)
theorem dX6_bounds_34 : decode cX6_bounds 34 = .ok (.ireturn, 1) := dk_172 (dk_at dksX6_bounds_1 12 rfl rfl)
theorem dX6_bounds_35 : decode cX6_bounds 35 = .ok (.aload_n 0, 1) := dk_42 (dk_at dksX6_bounds_1 13 rfl rfl)
theorem dX6_bounds_36 : decode cX6_bounds 36 = .ok (.getfield 17, 3) := dk_180 0 17 (dk_at dksX6_bounds_1 14 rfl rfl)
theorem dX6_bounds_39 : decode cX6_bounds 39 = .ok (.sipush 248, 3) := dk_17 0 248 (dk_at dksX6_bounds_1 17 rfl rfl)
theorem dX6_bounds_42 : decode cX6_bounds 42 = .ok (.iload_n 1, 1) := dk_27 (dk_at dksX6_bounds_1 20 rfl rfl)
theorem dX6_bounds_43 : decode cX6_bounds 43 = .ok (.iastore, 1) := dk_79 (dk_at dksX6_bounds_1 21 rfl rfl)
theorem dX6_bounds_44 : decode cX6_bounds 44 = .ok (.aload_n 0, 1) := dk_42 (dk_at dksX6_bounds_1 22 rfl rfl)
theorem dX6_bounds_45 : decode cX6_bounds 45 = .ok (.getfield 17, 3) := dk_180 0 17 (dk_at dksX6_bounds_2 0 rfl rfl)
theorem dX6_bounds_48 : decode cX6_bounds 48 = .ok (.sipush 249, 3) := dk_17 0 249 (dk_at dksX6_bounds_2 3 rfl rfl)
theorem dX6_bounds_51 : decode cX6_bounds 51 = .ok (.iload_n 2, 1) := dk_28 (dk_at dksX6_bounds_2 6 rfl rfl)
theorem dX6_bounds_52 : decode cX6_bounds 52 = .ok (.iastore, 1) := dk_79 (dk_at dksX6_bounds_2 7 rfl rfl)
theorem dX6_bounds_53 : decode cX6_bounds 53 = .ok (.iconst 0, 1) := dk_3 (dk_at dksX6_bounds_2 8 rfl rfl)
theorem dX6_bounds_54 : decode cX6_bounds 54 = .ok (.ireturn, 1) := dk_172 (dk_at dksX6_bounds_2 9 rfl rfl)
abbrev cX6_words : ByteArray := prog_28_method_15_code
def yX6_words : MethodName := ⟨RX6, "words", "(III)J"⟩
def dkwX6_words_4 : List UInt8 := [47, 173, 42, 180, 0, 20, 17, 2, 192, 28, 96, 47, 173]
abbrev dktX6_words_4 : List UInt8 := dkwX6_words_4 ++ []
def dkwX6_words_3 : List UInt8 := [29, 96, 47, 173, 42, 180, 0, 20, 17, 1, 224, 29, 96, 47, 173, 42, 180, 0, 20, 17, 2, 172, 28, 96]
abbrev dktX6_words_3 : List UInt8 := dkwX6_words_3 ++ dktX6_words_4
def dkwX6_words_2 : List UInt8 := [42, 180, 0, 20, 16, 12, 28, 104, 29, 96, 47, 173, 42, 180, 0, 20, 17, 2, 28, 16, 12, 28, 104, 96]
abbrev dktX6_words_2 : List UInt8 := dkwX6_words_2 ++ dktX6_words_3
def dkwX6_words_1 : List UInt8 := [170, 0, 0, 0, 0, 0, 0, 82, 0, 0, 0, 0, 0, 0, 0, 3, 0, 0, 0, 32, 0, 0, 0, 44, 0, 0, 0, 60, 0, 0, 0, 71]
abbrev dktX6_words_1 : List UInt8 := dkwX6_words_1 ++ dktX6_words_2
def dkwX6_words_0 : List UInt8 := [42, 3, 181, 0, 1, 42, 27, 28, 29, 182, 0, 107, 154, 0, 11, 42, 16, 254, 182, 0, 85, 133, 173, 27]
abbrev dktX6_words_0 : List UInt8 := dkwX6_words_0 ++ dktX6_words_1
theorem dksX6_words_0 : cX6_words.data.toList.drop 0 = dktX6_words_0 := by decide +kernel
theorem dksX6_words_1 : cX6_words.data.toList.drop 24 = dktX6_words_1 := dk_seg dksX6_words_0 24 rfl rfl
theorem dksX6_words_2 : cX6_words.data.toList.drop 56 = dktX6_words_2 := dk_seg dksX6_words_1 32 rfl rfl
theorem dksX6_words_3 : cX6_words.data.toList.drop 80 = dktX6_words_3 := dk_seg dksX6_words_2 24 rfl rfl
theorem dksX6_words_4 : cX6_words.data.toList.drop 104 = dktX6_words_4 := dk_seg dksX6_words_3 24 rfl rfl
theorem dX6_words_0 : decode cX6_words 0 = .ok (.aload_n 0, 1) := dk_42 (dk_at dksX6_words_0 0 rfl rfl)
theorem dX6_words_1 : decode cX6_words 1 = .ok (.iconst 0, 1) := dk_3 (dk_at dksX6_words_0 1 rfl rfl)
theorem dX6_words_2 : decode cX6_words 2 = .ok (.putfield 1, 3) := dk_181 0 1 (dk_at dksX6_words_0 2 rfl rfl)
theorem dX6_words_5 : decode cX6_words 5 = .ok (.aload_n 0, 1) := dk_42 (dk_at dksX6_words_0 5 rfl rfl)
theorem dX6_words_6 : decode cX6_words 6 = .ok (.iload_n 1, 1) := dk_27 (dk_at dksX6_words_0 6 rfl rfl)
theorem dX6_words_7 : decode cX6_words 7 = .ok (.iload_n 2, 1) := dk_28 (dk_at dksX6_words_0 7 rfl rfl)
theorem dX6_words_8 : decode cX6_words 8 = .ok (.iload_n 3, 1) := dk_29 (dk_at dksX6_words_0 8 rfl rfl)
theorem dX6_words_9 : decode cX6_words 9 = .ok (.invokevirtual 107, 3) := dk_182 0 107 (dk_at dksX6_words_0 9 rfl rfl)
theorem dX6_words_12 : decode cX6_words 12 = .ok (.ifCond .ne 11, 3) := dk_154 0 11 (dk_at dksX6_words_0 12 rfl rfl)
theorem dX6_words_15 : decode cX6_words 15 = .ok (.aload_n 0, 1) := dk_42 (dk_at dksX6_words_0 15 rfl rfl)
theorem dX6_words_16 : decode cX6_words 16 = .ok (.bipush (-2), 2) := dk_16 254 (dk_at dksX6_words_0 16 rfl rfl)
theorem dX6_words_18 : decode cX6_words 18 = .ok (.invokevirtual 85, 3) := dk_182 0 85 (dk_at dksX6_words_0 18 rfl rfl)
theorem dX6_words_21 : decode cX6_words 21 = .ok (.i2l, 1) := dk_133 (dk_at dksX6_words_0 21 rfl rfl)
theorem dX6_words_22 : decode cX6_words 22 = .ok (.lreturn, 1) := dk_173 (dk_at dksX6_words_0 22 rfl rfl)
theorem dX6_words_23 : decode cX6_words 23 = .ok (.iload_n 1, 1) := dk_27 (dk_at dksX6_words_0 23 rfl rfl)
theorem dX6_words_24 : decode cX6_words 24 = .ok (.tableswitch 82 0 3 #[32, 44, 60, 71], 32) := by decide +kernel
theorem dX6_words_56 : decode cX6_words 56 = .ok (.aload_n 0, 1) := dk_42 (dk_at dksX6_words_2 0 rfl rfl)
theorem dX6_words_57 : decode cX6_words 57 = .ok (.getfield 20, 3) := dk_180 0 20 (dk_at dksX6_words_2 1 rfl rfl)
theorem dX6_words_60 : decode cX6_words 60 = .ok (.bipush 12, 2) := dk_16 12 (dk_at dksX6_words_2 4 rfl rfl)
theorem dX6_words_62 : decode cX6_words 62 = .ok (.iload_n 2, 1) := dk_28 (dk_at dksX6_words_2 6 rfl rfl)
theorem dX6_words_63 : decode cX6_words 63 = .ok (.imul, 1) := dk_104 (dk_at dksX6_words_2 7 rfl rfl)
theorem dX6_words_64 : decode cX6_words 64 = .ok (.iload_n 3, 1) := dk_29 (dk_at dksX6_words_2 8 rfl rfl)
theorem dX6_words_65 : decode cX6_words 65 = .ok (.iadd, 1) := dk_96 (dk_at dksX6_words_2 9 rfl rfl)
theorem dX6_words_66 : decode cX6_words 66 = .ok (.laload, 1) := dk_47 (dk_at dksX6_words_2 10 rfl rfl)
theorem dX6_words_67 : decode cX6_words 67 = .ok (.lreturn, 1) := dk_173 (dk_at dksX6_words_2 11 rfl rfl)
theorem dX6_words_68 : decode cX6_words 68 = .ok (.aload_n 0, 1) := dk_42 (dk_at dksX6_words_2 12 rfl rfl)
theorem dX6_words_69 : decode cX6_words 69 = .ok (.getfield 20, 3) := dk_180 0 20 (dk_at dksX6_words_2 13 rfl rfl)
theorem dX6_words_72 : decode cX6_words 72 = .ok (.sipush 540, 3) := dk_17 2 28 (dk_at dksX6_words_2 16 rfl rfl)
theorem dX6_words_75 : decode cX6_words 75 = .ok (.bipush 12, 2) := dk_16 12 (dk_at dksX6_words_2 19 rfl rfl)
theorem dX6_words_77 : decode cX6_words 77 = .ok (.iload_n 2, 1) := dk_28 (dk_at dksX6_words_2 21 rfl rfl)
theorem dX6_words_78 : decode cX6_words 78 = .ok (.imul, 1) := dk_104 (dk_at dksX6_words_2 22 rfl rfl)
theorem dX6_words_79 : decode cX6_words 79 = .ok (.iadd, 1) := dk_96 (dk_at dksX6_words_2 23 rfl rfl)
theorem dX6_words_80 : decode cX6_words 80 = .ok (.iload_n 3, 1) := dk_29 (dk_at dksX6_words_3 0 rfl rfl)
theorem dX6_words_81 : decode cX6_words 81 = .ok (.iadd, 1) := dk_96 (dk_at dksX6_words_3 1 rfl rfl)
theorem dX6_words_82 : decode cX6_words 82 = .ok (.laload, 1) := dk_47 (dk_at dksX6_words_3 2 rfl rfl)
theorem dX6_words_83 : decode cX6_words 83 = .ok (.lreturn, 1) := dk_173 (dk_at dksX6_words_3 3 rfl rfl)
theorem dX6_words_84 : decode cX6_words 84 = .ok (.aload_n 0, 1) := dk_42 (dk_at dksX6_words_3 4 rfl rfl)
theorem dX6_words_85 : decode cX6_words 85 = .ok (.getfield 20, 3) := dk_180 0 20 (dk_at dksX6_words_3 5 rfl rfl)
theorem dX6_words_88 : decode cX6_words 88 = .ok (.sipush 480, 3) := dk_17 1 224 (dk_at dksX6_words_3 8 rfl rfl)
theorem dX6_words_91 : decode cX6_words 91 = .ok (.iload_n 3, 1) := dk_29 (dk_at dksX6_words_3 11 rfl rfl)
theorem dX6_words_92 : decode cX6_words 92 = .ok (.iadd, 1) := dk_96 (dk_at dksX6_words_3 12 rfl rfl)
theorem dX6_words_93 : decode cX6_words 93 = .ok (.laload, 1) := dk_47 (dk_at dksX6_words_3 13 rfl rfl)
theorem dX6_words_94 : decode cX6_words 94 = .ok (.lreturn, 1) := dk_173 (dk_at dksX6_words_3 14 rfl rfl)
theorem dX6_words_95 : decode cX6_words 95 = .ok (.aload_n 0, 1) := dk_42 (dk_at dksX6_words_3 15 rfl rfl)
theorem dX6_words_96 : decode cX6_words 96 = .ok (.getfield 20, 3) := dk_180 0 20 (dk_at dksX6_words_3 16 rfl rfl)
theorem dX6_words_99 : decode cX6_words 99 = .ok (.sipush 684, 3) := dk_17 2 172 (dk_at dksX6_words_3 19 rfl rfl)
theorem dX6_words_102 : decode cX6_words 102 = .ok (.iload_n 2, 1) := dk_28 (dk_at dksX6_words_3 22 rfl rfl)
theorem dX6_words_103 : decode cX6_words 103 = .ok (.iadd, 1) := dk_96 (dk_at dksX6_words_3 23 rfl rfl)
theorem dX6_words_104 : decode cX6_words 104 = .ok (.laload, 1) := dk_47 (dk_at dksX6_words_4 0 rfl rfl)
theorem dX6_words_105 : decode cX6_words 105 = .ok (.lreturn, 1) := dk_173 (dk_at dksX6_words_4 1 rfl rfl)
theorem dX6_words_106 : decode cX6_words 106 = .ok (.aload_n 0, 1) := dk_42 (dk_at dksX6_words_4 2 rfl rfl)
theorem dX6_words_107 : decode cX6_words 107 = .ok (.getfield 20, 3) := dk_180 0 20 (dk_at dksX6_words_4 3 rfl rfl)
theorem dX6_words_110 : decode cX6_words 110 = .ok (.sipush 704, 3) := dk_17 2 192 (dk_at dksX6_words_4 6 rfl rfl)
theorem dX6_words_113 : decode cX6_words 113 = .ok (.iload_n 2, 1) := dk_28 (dk_at dksX6_words_4 9 rfl rfl)
theorem dX6_words_114 : decode cX6_words 114 = .ok (.iadd, 1) := dk_96 (dk_at dksX6_words_4 10 rfl rfl)
theorem dX6_words_115 : decode cX6_words 115 = .ok (.laload, 1) := dk_47 (dk_at dksX6_words_4 11 rfl rfl)
theorem dX6_words_116 : decode cX6_words 116 = .ok (.lreturn, 1) := dk_173 (dk_at dksX6_words_4 12 rfl rfl)
abbrev cX6_isLine : ByteArray := prog_28_method_14_code
def yX6_isLine : MethodName := ⟨RX6, "isLine", "(III)Z"⟩
def dkwX6_isLine_7 : List UInt8 := [180, 0, 17, 17, 1, 250, 46, 4, 100, 133, 184, 0, 81, 172, 3, 172]
abbrev dktX6_isLine_7 : List UInt8 := dkwX6_isLine_7 ++ []
def dkwX6_isLine_6 : List UInt8 := [29, 133, 9, 42, 180, 0, 17, 17, 0, 162, 46, 4, 100, 133, 184, 0, 81, 172, 28, 133, 9, 42]
abbrev dktX6_isLine_6 : List UInt8 := dkwX6_isLine_6 ++ dktX6_isLine_7
def dkwX6_isLine_5 : List UInt8 := [180, 0, 17, 17, 0, 236, 28, 96, 46, 4, 100, 133, 184, 0, 81, 153, 0, 7, 4, 167, 0, 4, 3, 172]
abbrev dktX6_isLine_5 : List UInt8 := dkwX6_isLine_5 ++ dktX6_isLine_6
def dkwX6_isLine_4 : List UInt8 := [133, 9, 42, 180, 0, 17, 17, 0, 223, 46, 4, 100, 133, 184, 0, 81, 153, 0, 29, 29, 133, 9, 42]
abbrev dktX6_isLine_4 : List UInt8 := dkwX6_isLine_4 ++ dktX6_isLine_5
def dkwX6_isLine_3 : List UInt8 := [180, 0, 17, 16, 121, 28, 96, 46, 4, 100, 133, 184, 0, 81, 153, 0, 7, 4, 167, 0, 4, 3, 172, 28]
abbrev dktX6_isLine_3 : List UInt8 := dkwX6_isLine_3 ++ dktX6_isLine_4
def dkwX6_isLine_2 : List UInt8 := [28, 133, 9, 42, 180, 0, 17, 3, 46, 4, 100, 133, 184, 0, 81, 153, 0, 28, 29, 133, 9, 42]
abbrev dktX6_isLine_2 : List UInt8 := dkwX6_isLine_2 ++ dktX6_isLine_3
def dkwX6_isLine_1 : List UInt8 := [170, 0, 0, 0, 0, 0, 164, 0, 0, 0, 0, 0, 0, 0, 4, 0, 0, 0, 35, 0, 0, 0, 80, 0, 0, 0, 128, 0, 0, 0, 146, 0, 0, 0, 146]
abbrev dktX6_isLine_1 : List UInt8 := dkwX6_isLine_1 ++ dktX6_isLine_2
def dkwX6_isLine_0 : List UInt8 := [27]
abbrev dktX6_isLine_0 : List UInt8 := dkwX6_isLine_0 ++ dktX6_isLine_1
theorem dksX6_isLine_0 : cX6_isLine.data.toList.drop 0 = dktX6_isLine_0 := by decide +kernel
theorem dksX6_isLine_1 : cX6_isLine.data.toList.drop 1 = dktX6_isLine_1 := dk_seg dksX6_isLine_0 1 rfl rfl
theorem dksX6_isLine_2 : cX6_isLine.data.toList.drop 36 = dktX6_isLine_2 := dk_seg dksX6_isLine_1 35 rfl rfl
theorem dksX6_isLine_3 : cX6_isLine.data.toList.drop 58 = dktX6_isLine_3 := dk_seg dksX6_isLine_2 22 rfl rfl
theorem dksX6_isLine_4 : cX6_isLine.data.toList.drop 82 = dktX6_isLine_4 := dk_seg dksX6_isLine_3 24 rfl rfl
theorem dksX6_isLine_5 : cX6_isLine.data.toList.drop 105 = dktX6_isLine_5 := dk_seg dksX6_isLine_4 23 rfl rfl
theorem dksX6_isLine_6 : cX6_isLine.data.toList.drop 129 = dktX6_isLine_6 := dk_seg dksX6_isLine_5 24 rfl rfl
theorem dksX6_isLine_7 : cX6_isLine.data.toList.drop 151 = dktX6_isLine_7 := dk_seg dksX6_isLine_6 22 rfl rfl
theorem dX6_isLine_0 : decode cX6_isLine 0 = .ok (.iload_n 1, 1) := dk_27 (dk_at dksX6_isLine_0 0 rfl rfl)
theorem dX6_isLine_1 : decode cX6_isLine 1 = .ok (.tableswitch 164 0 4 #[35, 80, 128, 146, 146], 35) := by decide +kernel
theorem dX6_isLine_36 : decode cX6_isLine 36 = .ok (.iload_n 2, 1) := dk_28 (dk_at dksX6_isLine_2 0 rfl rfl)
theorem dX6_isLine_37 : decode cX6_isLine 37 = .ok (.i2l, 1) := dk_133 (dk_at dksX6_isLine_2 1 rfl rfl)
theorem dX6_isLine_38 : decode cX6_isLine 38 = .ok (.lconst 0, 1) := dk_9 (dk_at dksX6_isLine_2 2 rfl rfl)
theorem dX6_isLine_39 : decode cX6_isLine 39 = .ok (.aload_n 0, 1) := dk_42 (dk_at dksX6_isLine_2 3 rfl rfl)
theorem dX6_isLine_40 : decode cX6_isLine 40 = .ok (.getfield 17, 3) := dk_180 0 17 (dk_at dksX6_isLine_2 4 rfl rfl)
theorem dX6_isLine_43 : decode cX6_isLine 43 = .ok (.iconst 0, 1) := dk_3 (dk_at dksX6_isLine_2 7 rfl rfl)
theorem dX6_isLine_44 : decode cX6_isLine 44 = .ok (.iaload, 1) := dk_46 (dk_at dksX6_isLine_2 8 rfl rfl)
theorem dX6_isLine_45 : decode cX6_isLine 45 = .ok (.iconst 1, 1) := dk_4 (dk_at dksX6_isLine_2 9 rfl rfl)
theorem dX6_isLine_46 : decode cX6_isLine 46 = .ok (.isub, 1) := dk_100 (dk_at dksX6_isLine_2 10 rfl rfl)
theorem dX6_isLine_47 : decode cX6_isLine 47 = .ok (.i2l, 1) := dk_133 (dk_at dksX6_isLine_2 11 rfl rfl)
theorem dX6_isLine_48 : decode cX6_isLine 48 = .ok (.invokestatic 81, 3) := dk_184 0 81 (dk_at dksX6_isLine_2 12 rfl rfl)
theorem dX6_isLine_51 : decode cX6_isLine 51 = .ok (.ifCond .eq 28, 3) := dk_153 0 28 (dk_at dksX6_isLine_2 15 rfl rfl)
theorem dX6_isLine_54 : decode cX6_isLine 54 = .ok (.iload_n 3, 1) := dk_29 (dk_at dksX6_isLine_2 18 rfl rfl)
theorem dX6_isLine_55 : decode cX6_isLine 55 = .ok (.i2l, 1) := dk_133 (dk_at dksX6_isLine_2 19 rfl rfl)
theorem dX6_isLine_56 : decode cX6_isLine 56 = .ok (.lconst 0, 1) := dk_9 (dk_at dksX6_isLine_2 20 rfl rfl)
theorem dX6_isLine_57 : decode cX6_isLine 57 = .ok (.aload_n 0, 1) := dk_42 (dk_at dksX6_isLine_2 21 rfl rfl)
theorem dX6_isLine_58 : decode cX6_isLine 58 = .ok (.getfield 17, 3) := dk_180 0 17 (dk_at dksX6_isLine_3 0 rfl rfl)
theorem dX6_isLine_61 : decode cX6_isLine 61 = .ok (.bipush 121, 2) := dk_16 121 (dk_at dksX6_isLine_3 3 rfl rfl)
theorem dX6_isLine_63 : decode cX6_isLine 63 = .ok (.iload_n 2, 1) := dk_28 (dk_at dksX6_isLine_3 5 rfl rfl)
theorem dX6_isLine_64 : decode cX6_isLine 64 = .ok (.iadd, 1) := dk_96 (dk_at dksX6_isLine_3 6 rfl rfl)
theorem dX6_isLine_65 : decode cX6_isLine 65 = .ok (.iaload, 1) := dk_46 (dk_at dksX6_isLine_3 7 rfl rfl)
theorem dX6_isLine_66 : decode cX6_isLine 66 = .ok (.iconst 1, 1) := dk_4 (dk_at dksX6_isLine_3 8 rfl rfl)
theorem dX6_isLine_67 : decode cX6_isLine 67 = .ok (.isub, 1) := dk_100 (dk_at dksX6_isLine_3 9 rfl rfl)
theorem dX6_isLine_68 : decode cX6_isLine 68 = .ok (.i2l, 1) := dk_133 (dk_at dksX6_isLine_3 10 rfl rfl)
theorem dX6_isLine_69 : decode cX6_isLine 69 = .ok (.invokestatic 81, 3) := dk_184 0 81 (dk_at dksX6_isLine_3 11 rfl rfl)
theorem dX6_isLine_72 : decode cX6_isLine 72 = .ok (.ifCond .eq 7, 3) := dk_153 0 7 (dk_at dksX6_isLine_3 14 rfl rfl)
theorem dX6_isLine_75 : decode cX6_isLine 75 = .ok (.iconst 1, 1) := dk_4 (dk_at dksX6_isLine_3 17 rfl rfl)
theorem dX6_isLine_76 : decode cX6_isLine 76 = .ok (.goto 4, 3) := dk_167 0 4 (dk_at dksX6_isLine_3 18 rfl rfl)
theorem dX6_isLine_79 : decode cX6_isLine 79 = .ok (.iconst 0, 1) := dk_3 (dk_at dksX6_isLine_3 21 rfl rfl)
theorem dX6_isLine_80 : decode cX6_isLine 80 = .ok (.ireturn, 1) := dk_172 (dk_at dksX6_isLine_3 22 rfl rfl)
theorem dX6_isLine_81 : decode cX6_isLine 81 = .ok (.iload_n 2, 1) := dk_28 (dk_at dksX6_isLine_3 23 rfl rfl)
theorem dX6_isLine_82 : decode cX6_isLine 82 = .ok (.i2l, 1) := dk_133 (dk_at dksX6_isLine_4 0 rfl rfl)
theorem dX6_isLine_83 : decode cX6_isLine 83 = .ok (.lconst 0, 1) := dk_9 (dk_at dksX6_isLine_4 1 rfl rfl)
theorem dX6_isLine_84 : decode cX6_isLine 84 = .ok (.aload_n 0, 1) := dk_42 (dk_at dksX6_isLine_4 2 rfl rfl)
theorem dX6_isLine_85 : decode cX6_isLine 85 = .ok (.getfield 17, 3) := dk_180 0 17 (dk_at dksX6_isLine_4 3 rfl rfl)
theorem dX6_isLine_88 : decode cX6_isLine 88 = .ok (.sipush 223, 3) := dk_17 0 223 (dk_at dksX6_isLine_4 6 rfl rfl)
theorem dX6_isLine_91 : decode cX6_isLine 91 = .ok (.iaload, 1) := dk_46 (dk_at dksX6_isLine_4 9 rfl rfl)
theorem dX6_isLine_92 : decode cX6_isLine 92 = .ok (.iconst 1, 1) := dk_4 (dk_at dksX6_isLine_4 10 rfl rfl)
theorem dX6_isLine_93 : decode cX6_isLine 93 = .ok (.isub, 1) := dk_100 (dk_at dksX6_isLine_4 11 rfl rfl)
theorem dX6_isLine_94 : decode cX6_isLine 94 = .ok (.i2l, 1) := dk_133 (dk_at dksX6_isLine_4 12 rfl rfl)
theorem dX6_isLine_95 : decode cX6_isLine 95 = .ok (.invokestatic 81, 3) := dk_184 0 81 (dk_at dksX6_isLine_4 13 rfl rfl)
theorem dX6_isLine_98 : decode cX6_isLine 98 = .ok (.ifCond .eq 29, 3) := dk_153 0 29 (dk_at dksX6_isLine_4 16 rfl rfl)
theorem dX6_isLine_101 : decode cX6_isLine 101 = .ok (.iload_n 3, 1) := dk_29 (dk_at dksX6_isLine_4 19 rfl rfl)
theorem dX6_isLine_102 : decode cX6_isLine 102 = .ok (.i2l, 1) := dk_133 (dk_at dksX6_isLine_4 20 rfl rfl)
theorem dX6_isLine_103 : decode cX6_isLine 103 = .ok (.lconst 0, 1) := dk_9 (dk_at dksX6_isLine_4 21 rfl rfl)
theorem dX6_isLine_104 : decode cX6_isLine 104 = .ok (.aload_n 0, 1) := dk_42 (dk_at dksX6_isLine_4 22 rfl rfl)
theorem dX6_isLine_105 : decode cX6_isLine 105 = .ok (.getfield 17, 3) := dk_180 0 17 (dk_at dksX6_isLine_5 0 rfl rfl)
theorem dX6_isLine_108 : decode cX6_isLine 108 = .ok (.sipush 236, 3) := dk_17 0 236 (dk_at dksX6_isLine_5 3 rfl rfl)
theorem dX6_isLine_111 : decode cX6_isLine 111 = .ok (.iload_n 2, 1) := dk_28 (dk_at dksX6_isLine_5 6 rfl rfl)
theorem dX6_isLine_112 : decode cX6_isLine 112 = .ok (.iadd, 1) := dk_96 (dk_at dksX6_isLine_5 7 rfl rfl)
theorem dX6_isLine_113 : decode cX6_isLine 113 = .ok (.iaload, 1) := dk_46 (dk_at dksX6_isLine_5 8 rfl rfl)
theorem dX6_isLine_114 : decode cX6_isLine 114 = .ok (.iconst 1, 1) := dk_4 (dk_at dksX6_isLine_5 9 rfl rfl)
theorem dX6_isLine_115 : decode cX6_isLine 115 = .ok (.isub, 1) := dk_100 (dk_at dksX6_isLine_5 10 rfl rfl)
theorem dX6_isLine_116 : decode cX6_isLine 116 = .ok (.i2l, 1) := dk_133 (dk_at dksX6_isLine_5 11 rfl rfl)
theorem dX6_isLine_117 : decode cX6_isLine 117 = .ok (.invokestatic 81, 3) := dk_184 0 81 (dk_at dksX6_isLine_5 12 rfl rfl)
theorem dX6_isLine_120 : decode cX6_isLine 120 = .ok (.ifCond .eq 7, 3) := dk_153 0 7 (dk_at dksX6_isLine_5 15 rfl rfl)
theorem dX6_isLine_123 : decode cX6_isLine 123 = .ok (.iconst 1, 1) := dk_4 (dk_at dksX6_isLine_5 18 rfl rfl)
theorem dX6_isLine_124 : decode cX6_isLine 124 = .ok (.goto 4, 3) := dk_167 0 4 (dk_at dksX6_isLine_5 19 rfl rfl)
theorem dX6_isLine_127 : decode cX6_isLine 127 = .ok (.iconst 0, 1) := dk_3 (dk_at dksX6_isLine_5 22 rfl rfl)
theorem dX6_isLine_128 : decode cX6_isLine 128 = .ok (.ireturn, 1) := dk_172 (dk_at dksX6_isLine_5 23 rfl rfl)
theorem dX6_isLine_129 : decode cX6_isLine 129 = .ok (.iload_n 3, 1) := dk_29 (dk_at dksX6_isLine_6 0 rfl rfl)
theorem dX6_isLine_130 : decode cX6_isLine 130 = .ok (.i2l, 1) := dk_133 (dk_at dksX6_isLine_6 1 rfl rfl)
theorem dX6_isLine_131 : decode cX6_isLine 131 = .ok (.lconst 0, 1) := dk_9 (dk_at dksX6_isLine_6 2 rfl rfl)
theorem dX6_isLine_132 : decode cX6_isLine 132 = .ok (.aload_n 0, 1) := dk_42 (dk_at dksX6_isLine_6 3 rfl rfl)
theorem dX6_isLine_133 : decode cX6_isLine 133 = .ok (.getfield 17, 3) := dk_180 0 17 (dk_at dksX6_isLine_6 4 rfl rfl)
theorem dX6_isLine_136 : decode cX6_isLine 136 = .ok (.sipush 162, 3) := dk_17 0 162 (dk_at dksX6_isLine_6 7 rfl rfl)
theorem dX6_isLine_139 : decode cX6_isLine 139 = .ok (.iaload, 1) := dk_46 (dk_at dksX6_isLine_6 10 rfl rfl)
theorem dX6_isLine_140 : decode cX6_isLine 140 = .ok (.iconst 1, 1) := dk_4 (dk_at dksX6_isLine_6 11 rfl rfl)
theorem dX6_isLine_141 : decode cX6_isLine 141 = .ok (.isub, 1) := dk_100 (dk_at dksX6_isLine_6 12 rfl rfl)
theorem dX6_isLine_142 : decode cX6_isLine 142 = .ok (.i2l, 1) := dk_133 (dk_at dksX6_isLine_6 13 rfl rfl)
theorem dX6_isLine_143 : decode cX6_isLine 143 = .ok (.invokestatic 81, 3) := dk_184 0 81 (dk_at dksX6_isLine_6 14 rfl rfl)
theorem dX6_isLine_146 : decode cX6_isLine 146 = .ok (.ireturn, 1) := dk_172 (dk_at dksX6_isLine_6 17 rfl rfl)
theorem dX6_isLine_147 : decode cX6_isLine 147 = .ok (.iload_n 2, 1) := dk_28 (dk_at dksX6_isLine_6 18 rfl rfl)
theorem dX6_isLine_148 : decode cX6_isLine 148 = .ok (.i2l, 1) := dk_133 (dk_at dksX6_isLine_6 19 rfl rfl)
theorem dX6_isLine_149 : decode cX6_isLine 149 = .ok (.lconst 0, 1) := dk_9 (dk_at dksX6_isLine_6 20 rfl rfl)
theorem dX6_isLine_150 : decode cX6_isLine 150 = .ok (.aload_n 0, 1) := dk_42 (dk_at dksX6_isLine_6 21 rfl rfl)
theorem dX6_isLine_151 : decode cX6_isLine 151 = .ok (.getfield 17, 3) := dk_180 0 17 (dk_at dksX6_isLine_7 0 rfl rfl)
theorem dX6_isLine_154 : decode cX6_isLine 154 = .ok (.sipush 506, 3) := dk_17 1 250 (dk_at dksX6_isLine_7 3 rfl rfl)
theorem dX6_isLine_157 : decode cX6_isLine 157 = .ok (.iaload, 1) := dk_46 (dk_at dksX6_isLine_7 6 rfl rfl)
theorem dX6_isLine_158 : decode cX6_isLine 158 = .ok (.iconst 1, 1) := dk_4 (dk_at dksX6_isLine_7 7 rfl rfl)
theorem dX6_isLine_159 : decode cX6_isLine 159 = .ok (.isub, 1) := dk_100 (dk_at dksX6_isLine_7 8 rfl rfl)
theorem dX6_isLine_160 : decode cX6_isLine 160 = .ok (.i2l, 1) := dk_133 (dk_at dksX6_isLine_7 9 rfl rfl)
theorem dX6_isLine_161 : decode cX6_isLine 161 = .ok (.invokestatic 81, 3) := dk_184 0 81 (dk_at dksX6_isLine_7 10 rfl rfl)
theorem dX6_isLine_164 : decode cX6_isLine 164 = .ok (.ireturn, 1) := dk_172 (dk_at dksX6_isLine_7 13 rfl rfl)
theorem dX6_isLine_165 : decode cX6_isLine 165 = .ok (.iconst 0, 1) := dk_3 (dk_at dksX6_isLine_7 14 rfl rfl)
theorem dX6_isLine_166 : decode cX6_isLine 166 = .ok (.ireturn, 1) := dk_172 (dk_at dksX6_isLine_7 15 rfl rfl)
abbrev cX6_like : ByteArray := prog_28_method_16_code
def yX6_like : MethodName := ⟨RX6, "like", "(JJ)I"⟩
def dkwX6_like_1 : List UInt8 := [182, 0, 85, 172, 42, 31, 33, 182, 0, 111, 172]
abbrev dktX6_like_1 : List UInt8 := dkwX6_like_1 ++ []
def dkwX6_like_0 : List UInt8 := [42, 3, 181, 0, 1, 31, 184, 0, 77, 153, 0, 10, 33, 184, 0, 77, 154, 0, 10, 42, 16, 253]
abbrev dktX6_like_0 : List UInt8 := dkwX6_like_0 ++ dktX6_like_1
theorem dksX6_like_0 : cX6_like.data.toList.drop 0 = dktX6_like_0 := by decide +kernel
theorem dksX6_like_1 : cX6_like.data.toList.drop 22 = dktX6_like_1 := dk_seg dksX6_like_0 22 rfl rfl
theorem dX6_like_0 : decode cX6_like 0 = .ok (.aload_n 0, 1) := dk_42 (dk_at dksX6_like_0 0 rfl rfl)
theorem dX6_like_1 : decode cX6_like 1 = .ok (.iconst 0, 1) := dk_3 (dk_at dksX6_like_0 1 rfl rfl)
theorem dX6_like_2 : decode cX6_like 2 = .ok (.putfield 1, 3) := dk_181 0 1 (dk_at dksX6_like_0 2 rfl rfl)
theorem dX6_like_5 : decode cX6_like 5 = .ok (.lload_n 1, 1) := dk_31 (dk_at dksX6_like_0 5 rfl rfl)
theorem dX6_like_6 : decode cX6_like 6 = .ok (.invokestatic 77, 3) := dk_184 0 77 (dk_at dksX6_like_0 6 rfl rfl)
theorem dX6_like_9 : decode cX6_like 9 = .ok (.ifCond .eq 10, 3) := dk_153 0 10 (dk_at dksX6_like_0 9 rfl rfl)
theorem dX6_like_12 : decode cX6_like 12 = .ok (.lload_n 3, 1) := dk_33 (dk_at dksX6_like_0 12 rfl rfl)
theorem dX6_like_13 : decode cX6_like 13 = .ok (.invokestatic 77, 3) := dk_184 0 77 (dk_at dksX6_like_0 13 rfl rfl)
theorem dX6_like_16 : decode cX6_like 16 = .ok (.ifCond .ne 10, 3) := dk_154 0 10 (dk_at dksX6_like_0 16 rfl rfl)
theorem dX6_like_19 : decode cX6_like 19 = .ok (.aload_n 0, 1) := dk_42 (dk_at dksX6_like_0 19 rfl rfl)
theorem dX6_like_20 : decode cX6_like 20 = .ok (.bipush (-3), 2) := dk_16 253 (dk_at dksX6_like_0 20 rfl rfl)
theorem dX6_like_22 : decode cX6_like 22 = .ok (.invokevirtual 85, 3) := dk_182 0 85 (dk_at dksX6_like_1 0 rfl rfl)
theorem dX6_like_25 : decode cX6_like 25 = .ok (.ireturn, 1) := dk_172 (dk_at dksX6_like_1 3 rfl rfl)
theorem dX6_like_26 : decode cX6_like 26 = .ok (.aload_n 0, 1) := dk_42 (dk_at dksX6_like_1 4 rfl rfl)
theorem dX6_like_27 : decode cX6_like 27 = .ok (.lload_n 1, 1) := dk_31 (dk_at dksX6_like_1 5 rfl rfl)
theorem dX6_like_28 : decode cX6_like 28 = .ok (.lload_n 3, 1) := dk_33 (dk_at dksX6_like_1 6 rfl rfl)
theorem dX6_like_29 : decode cX6_like 29 = .ok (.invokevirtual 111, 3) := dk_182 0 111 (dk_at dksX6_like_1 7 rfl rfl)
theorem dX6_like_32 : decode cX6_like 32 = .ok (.ireturn, 1) := dk_172 (dk_at dksX6_like_1 10 rfl rfl)
abbrev cX6_likeOf : ByteArray := prog_28_method_8_code
def yX6_likeOf : MethodName := ⟨RX6, "likeOf", "(JJ)I"⟩
def dkwX6_likeOf_10 : List UInt8 := [21, 6, 164, 0, 8, 21, 5, 167, 0, 5, 21, 6, 108, 172]
abbrev dktX6_likeOf_10 : List UInt8 := dkwX6_likeOf_10 ++ []
def dkwX6_likeOf_9 : List UInt8 := [132, 7, 1, 167, 255, 66, 16, 100, 42, 180, 0, 28, 16, 9, 21, 5, 104, 21, 6, 96, 46, 104, 21, 5]
abbrev dktX6_likeOf_9 : List UInt8 := dkwX6_likeOf_9 ++ dktX6_likeOf_10
def dkwX6_likeOf_8 : List UInt8 := [96, 54, 9, 42, 180, 0, 28, 16, 9, 21, 7, 104, 21, 8, 96, 21, 9, 79, 132, 8, 1, 167, 255, 82]
abbrev dktX6_likeOf_8 : List UInt8 := dkwX6_likeOf_8 ++ dktX6_likeOf_9
def dkwX6_likeOf_7 : List UInt8 := [21, 9, 164, 0, 25, 42, 180, 0, 28, 16, 9, 21, 7, 104, 16, 9, 100, 21, 8, 96, 4, 100, 46, 4]
abbrev dktX6_likeOf_7 : List UInt8 := dkwX6_likeOf_7 ++ dktX6_likeOf_8
def dkwX6_likeOf_6 : List UInt8 := [160, 0, 50, 42, 180, 0, 28, 16, 9, 21, 7, 104, 16, 9, 100, 21, 8, 96, 4, 100, 46, 4, 96]
abbrev dktX6_likeOf_6 : List UInt8 := dkwX6_likeOf_6 ++ dktX6_likeOf_7
def dkwX6_likeOf_5 : List UInt8 := [21, 8, 96, 4, 100, 46, 54, 9, 31, 21, 7, 4, 100, 184, 0, 73, 33, 21, 8, 4, 100, 184, 0, 73]
abbrev dktX6_likeOf_5 : List UInt8 := dkwX6_likeOf_5 ++ dktX6_likeOf_6
def dkwX6_likeOf_4 : List UInt8 := [16, 9, 21, 7, 104, 16, 9, 100, 21, 8, 96, 46, 167, 0, 18, 42, 180, 0, 28, 16, 9, 21, 7, 104]
abbrev dktX6_likeOf_4 : List UInt8 := dkwX6_likeOf_4 ++ dktX6_likeOf_5
def dkwX6_likeOf_3 : List UInt8 := [96, 46, 42, 180, 0, 28, 16, 9, 21, 7, 104, 21, 8, 96, 4, 100, 46, 164, 0, 22, 42, 180, 0, 28]
abbrev dktX6_likeOf_3 : List UInt8 := dkwX6_likeOf_3 ++ dktX6_likeOf_4
def dkwX6_likeOf_2 : List UInt8 := [21, 7, 158, 0, 144, 21, 8, 158, 0, 139, 42, 180, 0, 28, 16, 9, 21, 7, 104, 16, 9, 100, 21, 8]
abbrev dktX6_likeOf_2 : List UInt8 := dkwX6_likeOf_2 ++ dktX6_likeOf_3
def dkwX6_likeOf_1 : List UInt8 := [3, 54, 7, 21, 7, 21, 5, 163, 0, 189, 3, 54, 8, 21, 8, 21, 6, 163, 0, 173, 3, 54, 9]
abbrev dktX6_likeOf_1 : List UInt8 := dkwX6_likeOf_1 ++ dktX6_likeOf_2
def dkwX6_likeOf_0 : List UInt8 := [31, 184, 0, 77, 54, 5, 33, 184, 0, 77, 54, 6, 21, 5, 153, 0, 8, 21, 6, 154, 0, 5, 3, 172]
abbrev dktX6_likeOf_0 : List UInt8 := dkwX6_likeOf_0 ++ dktX6_likeOf_1
theorem dksX6_likeOf_0 : cX6_likeOf.data.toList.drop 0 = dktX6_likeOf_0 := by decide +kernel
theorem dksX6_likeOf_1 : cX6_likeOf.data.toList.drop 24 = dktX6_likeOf_1 := dk_seg dksX6_likeOf_0 24 rfl rfl
theorem dksX6_likeOf_2 : cX6_likeOf.data.toList.drop 47 = dktX6_likeOf_2 := dk_seg dksX6_likeOf_1 23 rfl rfl
theorem dksX6_likeOf_3 : cX6_likeOf.data.toList.drop 71 = dktX6_likeOf_3 := dk_seg dksX6_likeOf_2 24 rfl rfl
theorem dksX6_likeOf_4 : cX6_likeOf.data.toList.drop 95 = dktX6_likeOf_4 := dk_seg dksX6_likeOf_3 24 rfl rfl
theorem dksX6_likeOf_5 : cX6_likeOf.data.toList.drop 119 = dktX6_likeOf_5 := dk_seg dksX6_likeOf_4 24 rfl rfl
theorem dksX6_likeOf_6 : cX6_likeOf.data.toList.drop 143 = dktX6_likeOf_6 := dk_seg dksX6_likeOf_5 24 rfl rfl
theorem dksX6_likeOf_7 : cX6_likeOf.data.toList.drop 166 = dktX6_likeOf_7 := dk_seg dksX6_likeOf_6 23 rfl rfl
theorem dksX6_likeOf_8 : cX6_likeOf.data.toList.drop 190 = dktX6_likeOf_8 := dk_seg dksX6_likeOf_7 24 rfl rfl
theorem dksX6_likeOf_9 : cX6_likeOf.data.toList.drop 214 = dktX6_likeOf_9 := dk_seg dksX6_likeOf_8 24 rfl rfl
theorem dksX6_likeOf_10 : cX6_likeOf.data.toList.drop 238 = dktX6_likeOf_10 := dk_seg dksX6_likeOf_9 24 rfl rfl
theorem dX6_likeOf_0 : decode cX6_likeOf 0 = .ok (.lload_n 1, 1) := dk_31 (dk_at dksX6_likeOf_0 0 rfl rfl)
theorem dX6_likeOf_1 : decode cX6_likeOf 1 = .ok (.invokestatic 77, 3) := dk_184 0 77 (dk_at dksX6_likeOf_0 1 rfl rfl)
theorem dX6_likeOf_4 : decode cX6_likeOf 4 = .ok (.istore 5, 2) := dk_54 5 (dk_at dksX6_likeOf_0 4 rfl rfl)
theorem dX6_likeOf_6 : decode cX6_likeOf 6 = .ok (.lload_n 3, 1) := dk_33 (dk_at dksX6_likeOf_0 6 rfl rfl)
theorem dX6_likeOf_7 : decode cX6_likeOf 7 = .ok (.invokestatic 77, 3) := dk_184 0 77 (dk_at dksX6_likeOf_0 7 rfl rfl)
theorem dX6_likeOf_10 : decode cX6_likeOf 10 = .ok (.istore 6, 2) := dk_54 6 (dk_at dksX6_likeOf_0 10 rfl rfl)
theorem dX6_likeOf_12 : decode cX6_likeOf 12 = .ok (.iload 5, 2) := dk_21 5 (dk_at dksX6_likeOf_0 12 rfl rfl)
theorem dX6_likeOf_14 : decode cX6_likeOf 14 = .ok (.ifCond .eq 8, 3) := dk_153 0 8 (dk_at dksX6_likeOf_0 14 rfl rfl)
theorem dX6_likeOf_17 : decode cX6_likeOf 17 = .ok (.iload 6, 2) := dk_21 6 (dk_at dksX6_likeOf_0 17 rfl rfl)
theorem dX6_likeOf_19 : decode cX6_likeOf 19 = .ok (.ifCond .ne 5, 3) := dk_154 0 5 (dk_at dksX6_likeOf_0 19 rfl rfl)
theorem dX6_likeOf_22 : decode cX6_likeOf 22 = .ok (.iconst 0, 1) := dk_3 (dk_at dksX6_likeOf_0 22 rfl rfl)
theorem dX6_likeOf_23 : decode cX6_likeOf 23 = .ok (.ireturn, 1) := dk_172 (dk_at dksX6_likeOf_0 23 rfl rfl)
theorem dX6_likeOf_24 : decode cX6_likeOf 24 = .ok (.iconst 0, 1) := dk_3 (dk_at dksX6_likeOf_1 0 rfl rfl)
theorem dX6_likeOf_25 : decode cX6_likeOf 25 = .ok (.istore 7, 2) := dk_54 7 (dk_at dksX6_likeOf_1 1 rfl rfl)
theorem dX6_likeOf_27 : decode cX6_likeOf 27 = .ok (.iload 7, 2) := dk_21 7 (dk_at dksX6_likeOf_1 3 rfl rfl)
theorem dX6_likeOf_29 : decode cX6_likeOf 29 = .ok (.iload 5, 2) := dk_21 5 (dk_at dksX6_likeOf_1 5 rfl rfl)
theorem dX6_likeOf_31 : decode cX6_likeOf 31 = .ok (.if_icmp .gt 189, 3) := dk_163 0 189 (dk_at dksX6_likeOf_1 7 rfl rfl)
theorem dX6_likeOf_34 : decode cX6_likeOf 34 = .ok (.iconst 0, 1) := dk_3 (dk_at dksX6_likeOf_1 10 rfl rfl)
theorem dX6_likeOf_35 : decode cX6_likeOf 35 = .ok (.istore 8, 2) := dk_54 8 (dk_at dksX6_likeOf_1 11 rfl rfl)
theorem dX6_likeOf_37 : decode cX6_likeOf 37 = .ok (.iload 8, 2) := dk_21 8 (dk_at dksX6_likeOf_1 13 rfl rfl)
theorem dX6_likeOf_39 : decode cX6_likeOf 39 = .ok (.iload 6, 2) := dk_21 6 (dk_at dksX6_likeOf_1 15 rfl rfl)
theorem dX6_likeOf_41 : decode cX6_likeOf 41 = .ok (.if_icmp .gt 173, 3) := dk_163 0 173 (dk_at dksX6_likeOf_1 17 rfl rfl)
theorem dX6_likeOf_44 : decode cX6_likeOf 44 = .ok (.iconst 0, 1) := dk_3 (dk_at dksX6_likeOf_1 20 rfl rfl)
theorem dX6_likeOf_45 : decode cX6_likeOf 45 = .ok (.istore 9, 2) := dk_54 9 (dk_at dksX6_likeOf_1 21 rfl rfl)
theorem dX6_likeOf_47 : decode cX6_likeOf 47 = .ok (.iload 7, 2) := dk_21 7 (dk_at dksX6_likeOf_2 0 rfl rfl)
theorem dX6_likeOf_49 : decode cX6_likeOf 49 = .ok (.ifCond .le 144, 3) := dk_158 0 144 (dk_at dksX6_likeOf_2 2 rfl rfl)
theorem dX6_likeOf_52 : decode cX6_likeOf 52 = .ok (.iload 8, 2) := dk_21 8 (dk_at dksX6_likeOf_2 5 rfl rfl)
theorem dX6_likeOf_54 : decode cX6_likeOf 54 = .ok (.ifCond .le 139, 3) := dk_158 0 139 (dk_at dksX6_likeOf_2 7 rfl rfl)
theorem dX6_likeOf_57 : decode cX6_likeOf 57 = .ok (.aload_n 0, 1) := dk_42 (dk_at dksX6_likeOf_2 10 rfl rfl)
theorem dX6_likeOf_58 : decode cX6_likeOf 58 = .ok (.getfield 28, 3) := dk_180 0 28 (dk_at dksX6_likeOf_2 11 rfl rfl)
theorem dX6_likeOf_61 : decode cX6_likeOf 61 = .ok (.bipush 9, 2) := dk_16 9 (dk_at dksX6_likeOf_2 14 rfl rfl)
theorem dX6_likeOf_63 : decode cX6_likeOf 63 = .ok (.iload 7, 2) := dk_21 7 (dk_at dksX6_likeOf_2 16 rfl rfl)
theorem dX6_likeOf_65 : decode cX6_likeOf 65 = .ok (.imul, 1) := dk_104 (dk_at dksX6_likeOf_2 18 rfl rfl)
theorem dX6_likeOf_66 : decode cX6_likeOf 66 = .ok (.bipush 9, 2) := dk_16 9 (dk_at dksX6_likeOf_2 19 rfl rfl)
theorem dX6_likeOf_68 : decode cX6_likeOf 68 = .ok (.isub, 1) := dk_100 (dk_at dksX6_likeOf_2 21 rfl rfl)
theorem dX6_likeOf_69 : decode cX6_likeOf 69 = .ok (.iload 8, 2) := dk_21 8 (dk_at dksX6_likeOf_2 22 rfl rfl)
theorem dX6_likeOf_71 : decode cX6_likeOf 71 = .ok (.iadd, 1) := dk_96 (dk_at dksX6_likeOf_3 0 rfl rfl)
theorem dX6_likeOf_72 : decode cX6_likeOf 72 = .ok (.iaload, 1) := dk_46 (dk_at dksX6_likeOf_3 1 rfl rfl)
theorem dX6_likeOf_73 : decode cX6_likeOf 73 = .ok (.aload_n 0, 1) := dk_42 (dk_at dksX6_likeOf_3 2 rfl rfl)
theorem dX6_likeOf_74 : decode cX6_likeOf 74 = .ok (.getfield 28, 3) := dk_180 0 28 (dk_at dksX6_likeOf_3 3 rfl rfl)
theorem dX6_likeOf_77 : decode cX6_likeOf 77 = .ok (.bipush 9, 2) := dk_16 9 (dk_at dksX6_likeOf_3 6 rfl rfl)
theorem dX6_likeOf_79 : decode cX6_likeOf 79 = .ok (.iload 7, 2) := dk_21 7 (dk_at dksX6_likeOf_3 8 rfl rfl)
theorem dX6_likeOf_81 : decode cX6_likeOf 81 = .ok (.imul, 1) := dk_104 (dk_at dksX6_likeOf_3 10 rfl rfl)
theorem dX6_likeOf_82 : decode cX6_likeOf 82 = .ok (.iload 8, 2) := dk_21 8 (dk_at dksX6_likeOf_3 11 rfl rfl)
theorem dX6_likeOf_84 : decode cX6_likeOf 84 = .ok (.iadd, 1) := dk_96 (dk_at dksX6_likeOf_3 13 rfl rfl)
theorem dX6_likeOf_85 : decode cX6_likeOf 85 = .ok (.iconst 1, 1) := dk_4 (dk_at dksX6_likeOf_3 14 rfl rfl)
theorem dX6_likeOf_86 : decode cX6_likeOf 86 = .ok (.isub, 1) := dk_100 (dk_at dksX6_likeOf_3 15 rfl rfl)
theorem dX6_likeOf_87 : decode cX6_likeOf 87 = .ok (.iaload, 1) := dk_46 (dk_at dksX6_likeOf_3 16 rfl rfl)
theorem dX6_likeOf_88 : decode cX6_likeOf 88 = .ok (.if_icmp .le 22, 3) := dk_164 0 22 (dk_at dksX6_likeOf_3 17 rfl rfl)
theorem dX6_likeOf_91 : decode cX6_likeOf 91 = .ok (.aload_n 0, 1) := dk_42 (dk_at dksX6_likeOf_3 20 rfl rfl)
theorem dX6_likeOf_92 : decode cX6_likeOf 92 = .ok (.getfield 28, 3) := dk_180 0 28 (dk_at dksX6_likeOf_3 21 rfl rfl)
theorem dX6_likeOf_95 : decode cX6_likeOf 95 = .ok (.bipush 9, 2) := dk_16 9 (dk_at dksX6_likeOf_4 0 rfl rfl)
theorem dX6_likeOf_97 : decode cX6_likeOf 97 = .ok (.iload 7, 2) := dk_21 7 (dk_at dksX6_likeOf_4 2 rfl rfl)
theorem dX6_likeOf_99 : decode cX6_likeOf 99 = .ok (.imul, 1) := dk_104 (dk_at dksX6_likeOf_4 4 rfl rfl)
theorem dX6_likeOf_100 : decode cX6_likeOf 100 = .ok (.bipush 9, 2) := dk_16 9 (dk_at dksX6_likeOf_4 5 rfl rfl)
theorem dX6_likeOf_102 : decode cX6_likeOf 102 = .ok (.isub, 1) := dk_100 (dk_at dksX6_likeOf_4 7 rfl rfl)
theorem dX6_likeOf_103 : decode cX6_likeOf 103 = .ok (.iload 8, 2) := dk_21 8 (dk_at dksX6_likeOf_4 8 rfl rfl)
theorem dX6_likeOf_105 : decode cX6_likeOf 105 = .ok (.iadd, 1) := dk_96 (dk_at dksX6_likeOf_4 10 rfl rfl)
theorem dX6_likeOf_106 : decode cX6_likeOf 106 = .ok (.iaload, 1) := dk_46 (dk_at dksX6_likeOf_4 11 rfl rfl)
theorem dX6_likeOf_107 : decode cX6_likeOf 107 = .ok (.goto 18, 3) := dk_167 0 18 (dk_at dksX6_likeOf_4 12 rfl rfl)
theorem dX6_likeOf_110 : decode cX6_likeOf 110 = .ok (.aload_n 0, 1) := dk_42 (dk_at dksX6_likeOf_4 15 rfl rfl)
theorem dX6_likeOf_111 : decode cX6_likeOf 111 = .ok (.getfield 28, 3) := dk_180 0 28 (dk_at dksX6_likeOf_4 16 rfl rfl)
theorem dX6_likeOf_114 : decode cX6_likeOf 114 = .ok (.bipush 9, 2) := dk_16 9 (dk_at dksX6_likeOf_4 19 rfl rfl)
theorem dX6_likeOf_116 : decode cX6_likeOf 116 = .ok (.iload 7, 2) := dk_21 7 (dk_at dksX6_likeOf_4 21 rfl rfl)
theorem dX6_likeOf_118 : decode cX6_likeOf 118 = .ok (.imul, 1) := dk_104 (dk_at dksX6_likeOf_4 23 rfl rfl)
theorem dX6_likeOf_119 : decode cX6_likeOf 119 = .ok (.iload 8, 2) := dk_21 8 (dk_at dksX6_likeOf_5 0 rfl rfl)
theorem dX6_likeOf_121 : decode cX6_likeOf 121 = .ok (.iadd, 1) := dk_96 (dk_at dksX6_likeOf_5 2 rfl rfl)
theorem dX6_likeOf_122 : decode cX6_likeOf 122 = .ok (.iconst 1, 1) := dk_4 (dk_at dksX6_likeOf_5 3 rfl rfl)
theorem dX6_likeOf_123 : decode cX6_likeOf 123 = .ok (.isub, 1) := dk_100 (dk_at dksX6_likeOf_5 4 rfl rfl)
theorem dX6_likeOf_124 : decode cX6_likeOf 124 = .ok (.iaload, 1) := dk_46 (dk_at dksX6_likeOf_5 5 rfl rfl)
theorem dX6_likeOf_125 : decode cX6_likeOf 125 = .ok (.istore 9, 2) := dk_54 9 (dk_at dksX6_likeOf_5 6 rfl rfl)
theorem dX6_likeOf_127 : decode cX6_likeOf 127 = .ok (.lload_n 1, 1) := dk_31 (dk_at dksX6_likeOf_5 8 rfl rfl)
theorem dX6_likeOf_128 : decode cX6_likeOf 128 = .ok (.iload 7, 2) := dk_21 7 (dk_at dksX6_likeOf_5 9 rfl rfl)
theorem dX6_likeOf_130 : decode cX6_likeOf 130 = .ok (.iconst 1, 1) := dk_4 (dk_at dksX6_likeOf_5 11 rfl rfl)
theorem dX6_likeOf_131 : decode cX6_likeOf 131 = .ok (.isub, 1) := dk_100 (dk_at dksX6_likeOf_5 12 rfl rfl)
theorem dX6_likeOf_132 : decode cX6_likeOf 132 = .ok (.invokestatic 73, 3) := dk_184 0 73 (dk_at dksX6_likeOf_5 13 rfl rfl)
theorem dX6_likeOf_135 : decode cX6_likeOf 135 = .ok (.lload_n 3, 1) := dk_33 (dk_at dksX6_likeOf_5 16 rfl rfl)
theorem dX6_likeOf_136 : decode cX6_likeOf 136 = .ok (.iload 8, 2) := dk_21 8 (dk_at dksX6_likeOf_5 17 rfl rfl)
theorem dX6_likeOf_138 : decode cX6_likeOf 138 = .ok (.iconst 1, 1) := dk_4 (dk_at dksX6_likeOf_5 19 rfl rfl)
theorem dX6_likeOf_139 : decode cX6_likeOf 139 = .ok (.isub, 1) := dk_100 (dk_at dksX6_likeOf_5 20 rfl rfl)
theorem dX6_likeOf_140 : decode cX6_likeOf 140 = .ok (.invokestatic 73, 3) := dk_184 0 73 (dk_at dksX6_likeOf_5 21 rfl rfl)
theorem dX6_likeOf_143 : decode cX6_likeOf 143 = .ok (.if_icmp .ne 50, 3) := dk_160 0 50 (dk_at dksX6_likeOf_6 0 rfl rfl)
theorem dX6_likeOf_146 : decode cX6_likeOf 146 = .ok (.aload_n 0, 1) := dk_42 (dk_at dksX6_likeOf_6 3 rfl rfl)
theorem dX6_likeOf_147 : decode cX6_likeOf 147 = .ok (.getfield 28, 3) := dk_180 0 28 (dk_at dksX6_likeOf_6 4 rfl rfl)
theorem dX6_likeOf_150 : decode cX6_likeOf 150 = .ok (.bipush 9, 2) := dk_16 9 (dk_at dksX6_likeOf_6 7 rfl rfl)
theorem dX6_likeOf_152 : decode cX6_likeOf 152 = .ok (.iload 7, 2) := dk_21 7 (dk_at dksX6_likeOf_6 9 rfl rfl)
theorem dX6_likeOf_154 : decode cX6_likeOf 154 = .ok (.imul, 1) := dk_104 (dk_at dksX6_likeOf_6 11 rfl rfl)
theorem dX6_likeOf_155 : decode cX6_likeOf 155 = .ok (.bipush 9, 2) := dk_16 9 (dk_at dksX6_likeOf_6 12 rfl rfl)
theorem dX6_likeOf_157 : decode cX6_likeOf 157 = .ok (.isub, 1) := dk_100 (dk_at dksX6_likeOf_6 14 rfl rfl)
theorem dX6_likeOf_158 : decode cX6_likeOf 158 = .ok (.iload 8, 2) := dk_21 8 (dk_at dksX6_likeOf_6 15 rfl rfl)
theorem dX6_likeOf_160 : decode cX6_likeOf 160 = .ok (.iadd, 1) := dk_96 (dk_at dksX6_likeOf_6 17 rfl rfl)
theorem dX6_likeOf_161 : decode cX6_likeOf 161 = .ok (.iconst 1, 1) := dk_4 (dk_at dksX6_likeOf_6 18 rfl rfl)
theorem dX6_likeOf_162 : decode cX6_likeOf 162 = .ok (.isub, 1) := dk_100 (dk_at dksX6_likeOf_6 19 rfl rfl)
theorem dX6_likeOf_163 : decode cX6_likeOf 163 = .ok (.iaload, 1) := dk_46 (dk_at dksX6_likeOf_6 20 rfl rfl)
theorem dX6_likeOf_164 : decode cX6_likeOf 164 = .ok (.iconst 1, 1) := dk_4 (dk_at dksX6_likeOf_6 21 rfl rfl)
theorem dX6_likeOf_165 : decode cX6_likeOf 165 = .ok (.iadd, 1) := dk_96 (dk_at dksX6_likeOf_6 22 rfl rfl)
theorem dX6_likeOf_166 : decode cX6_likeOf 166 = .ok (.iload 9, 2) := dk_21 9 (dk_at dksX6_likeOf_7 0 rfl rfl)
theorem dX6_likeOf_168 : decode cX6_likeOf 168 = .ok (.if_icmp .le 25, 3) := dk_164 0 25 (dk_at dksX6_likeOf_7 2 rfl rfl)
theorem dX6_likeOf_171 : decode cX6_likeOf 171 = .ok (.aload_n 0, 1) := dk_42 (dk_at dksX6_likeOf_7 5 rfl rfl)
theorem dX6_likeOf_172 : decode cX6_likeOf 172 = .ok (.getfield 28, 3) := dk_180 0 28 (dk_at dksX6_likeOf_7 6 rfl rfl)
theorem dX6_likeOf_175 : decode cX6_likeOf 175 = .ok (.bipush 9, 2) := dk_16 9 (dk_at dksX6_likeOf_7 9 rfl rfl)
theorem dX6_likeOf_177 : decode cX6_likeOf 177 = .ok (.iload 7, 2) := dk_21 7 (dk_at dksX6_likeOf_7 11 rfl rfl)
theorem dX6_likeOf_179 : decode cX6_likeOf 179 = .ok (.imul, 1) := dk_104 (dk_at dksX6_likeOf_7 13 rfl rfl)
theorem dX6_likeOf_180 : decode cX6_likeOf 180 = .ok (.bipush 9, 2) := dk_16 9 (dk_at dksX6_likeOf_7 14 rfl rfl)
theorem dX6_likeOf_182 : decode cX6_likeOf 182 = .ok (.isub, 1) := dk_100 (dk_at dksX6_likeOf_7 16 rfl rfl)
theorem dX6_likeOf_183 : decode cX6_likeOf 183 = .ok (.iload 8, 2) := dk_21 8 (dk_at dksX6_likeOf_7 17 rfl rfl)
theorem dX6_likeOf_185 : decode cX6_likeOf 185 = .ok (.iadd, 1) := dk_96 (dk_at dksX6_likeOf_7 19 rfl rfl)
theorem dX6_likeOf_186 : decode cX6_likeOf 186 = .ok (.iconst 1, 1) := dk_4 (dk_at dksX6_likeOf_7 20 rfl rfl)
theorem dX6_likeOf_187 : decode cX6_likeOf 187 = .ok (.isub, 1) := dk_100 (dk_at dksX6_likeOf_7 21 rfl rfl)
theorem dX6_likeOf_188 : decode cX6_likeOf 188 = .ok (.iaload, 1) := dk_46 (dk_at dksX6_likeOf_7 22 rfl rfl)
theorem dX6_likeOf_189 : decode cX6_likeOf 189 = .ok (.iconst 1, 1) := dk_4 (dk_at dksX6_likeOf_7 23 rfl rfl)
theorem dX6_likeOf_190 : decode cX6_likeOf 190 = .ok (.iadd, 1) := dk_96 (dk_at dksX6_likeOf_8 0 rfl rfl)
theorem dX6_likeOf_191 : decode cX6_likeOf 191 = .ok (.istore 9, 2) := dk_54 9 (dk_at dksX6_likeOf_8 1 rfl rfl)
theorem dX6_likeOf_193 : decode cX6_likeOf 193 = .ok (.aload_n 0, 1) := dk_42 (dk_at dksX6_likeOf_8 3 rfl rfl)
theorem dX6_likeOf_194 : decode cX6_likeOf 194 = .ok (.getfield 28, 3) := dk_180 0 28 (dk_at dksX6_likeOf_8 4 rfl rfl)
theorem dX6_likeOf_197 : decode cX6_likeOf 197 = .ok (.bipush 9, 2) := dk_16 9 (dk_at dksX6_likeOf_8 7 rfl rfl)
theorem dX6_likeOf_199 : decode cX6_likeOf 199 = .ok (.iload 7, 2) := dk_21 7 (dk_at dksX6_likeOf_8 9 rfl rfl)
theorem dX6_likeOf_201 : decode cX6_likeOf 201 = .ok (.imul, 1) := dk_104 (dk_at dksX6_likeOf_8 11 rfl rfl)
theorem dX6_likeOf_202 : decode cX6_likeOf 202 = .ok (.iload 8, 2) := dk_21 8 (dk_at dksX6_likeOf_8 12 rfl rfl)
theorem dX6_likeOf_204 : decode cX6_likeOf 204 = .ok (.iadd, 1) := dk_96 (dk_at dksX6_likeOf_8 14 rfl rfl)
theorem dX6_likeOf_205 : decode cX6_likeOf 205 = .ok (.iload 9, 2) := dk_21 9 (dk_at dksX6_likeOf_8 15 rfl rfl)
theorem dX6_likeOf_207 : decode cX6_likeOf 207 = .ok (.iastore, 1) := dk_79 (dk_at dksX6_likeOf_8 17 rfl rfl)
theorem dX6_likeOf_208 : decode cX6_likeOf 208 = .ok (.iinc 8 1, 3) := dk_132 8 1 (dk_at dksX6_likeOf_8 18 rfl rfl)
theorem dX6_likeOf_211 : decode cX6_likeOf 211 = .ok (.goto (-174), 3) := dk_167 255 82 (dk_at dksX6_likeOf_8 21 rfl rfl)
theorem dX6_likeOf_214 : decode cX6_likeOf 214 = .ok (.iinc 7 1, 3) := dk_132 7 1 (dk_at dksX6_likeOf_9 0 rfl rfl)
theorem dX6_likeOf_217 : decode cX6_likeOf 217 = .ok (.goto (-190), 3) := dk_167 255 66 (dk_at dksX6_likeOf_9 3 rfl rfl)
theorem dX6_likeOf_220 : decode cX6_likeOf 220 = .ok (.bipush 100, 2) := dk_16 100 (dk_at dksX6_likeOf_9 6 rfl rfl)
theorem dX6_likeOf_222 : decode cX6_likeOf 222 = .ok (.aload_n 0, 1) := dk_42 (dk_at dksX6_likeOf_9 8 rfl rfl)
theorem dX6_likeOf_223 : decode cX6_likeOf 223 = .ok (.getfield 28, 3) := dk_180 0 28 (dk_at dksX6_likeOf_9 9 rfl rfl)
theorem dX6_likeOf_226 : decode cX6_likeOf 226 = .ok (.bipush 9, 2) := dk_16 9 (dk_at dksX6_likeOf_9 12 rfl rfl)
theorem dX6_likeOf_228 : decode cX6_likeOf 228 = .ok (.iload 5, 2) := dk_21 5 (dk_at dksX6_likeOf_9 14 rfl rfl)
theorem dX6_likeOf_230 : decode cX6_likeOf 230 = .ok (.imul, 1) := dk_104 (dk_at dksX6_likeOf_9 16 rfl rfl)
theorem dX6_likeOf_231 : decode cX6_likeOf 231 = .ok (.iload 6, 2) := dk_21 6 (dk_at dksX6_likeOf_9 17 rfl rfl)
theorem dX6_likeOf_233 : decode cX6_likeOf 233 = .ok (.iadd, 1) := dk_96 (dk_at dksX6_likeOf_9 19 rfl rfl)
theorem dX6_likeOf_234 : decode cX6_likeOf 234 = .ok (.iaload, 1) := dk_46 (dk_at dksX6_likeOf_9 20 rfl rfl)
theorem dX6_likeOf_235 : decode cX6_likeOf 235 = .ok (.imul, 1) := dk_104 (dk_at dksX6_likeOf_9 21 rfl rfl)
theorem dX6_likeOf_236 : decode cX6_likeOf 236 = .ok (.iload 5, 2) := dk_21 5 (dk_at dksX6_likeOf_9 22 rfl rfl)
theorem dX6_likeOf_238 : decode cX6_likeOf 238 = .ok (.iload 6, 2) := dk_21 6 (dk_at dksX6_likeOf_10 0 rfl rfl)
theorem dX6_likeOf_240 : decode cX6_likeOf 240 = .ok (.if_icmp .le 8, 3) := dk_164 0 8 (dk_at dksX6_likeOf_10 2 rfl rfl)
theorem dX6_likeOf_243 : decode cX6_likeOf 243 = .ok (.iload 5, 2) := dk_21 5 (dk_at dksX6_likeOf_10 5 rfl rfl)
theorem dX6_likeOf_245 : decode cX6_likeOf 245 = .ok (.goto 5, 3) := dk_167 0 5 (dk_at dksX6_likeOf_10 7 rfl rfl)
theorem dX6_likeOf_248 : decode cX6_likeOf 248 = .ok (.iload 6, 2) := dk_21 6 (dk_at dksX6_likeOf_10 10 rfl rfl)
theorem dX6_likeOf_250 : decode cX6_likeOf 250 = .ok (.idiv, 1) := dk_108 (dk_at dksX6_likeOf_10 12 rfl rfl)
theorem dX6_likeOf_251 : decode cX6_likeOf 251 = .ok (.ireturn, 1) := dk_172 (dk_at dksX6_likeOf_10 13 rfl rfl)
abbrev cX6_feed : ByteArray := prog_28_method_17_code
def yX6_feed : MethodName := ⟨RX6, "feed", "(IIIII)I"⟩
def dkwX6_feed_5 : List UInt8 := [132, 6, 1, 167, 255, 162, 42, 180, 0, 115, 172]
abbrev dktX6_feed_5 : List UInt8 := dkwX6_feed_5 ++ []
def dkwX6_feed_4 : List UInt8 := [16, 8, 21, 6, 7, 112, 104, 100, 122, 17, 0, 255, 126, 79, 42, 89, 180, 0, 115, 4, 96, 181, 0, 115]
abbrev dktX6_feed_4 : List UInt8 := dkwX6_feed_4 ++ dktX6_feed_5
def dkwX6_feed_3 : List UInt8 := [162, 0, 8, 21, 4, 167, 0, 5, 21, 5, 54, 7, 42, 180, 0, 37, 42, 180, 0, 115, 21, 7, 16, 24]
abbrev dktX6_feed_3 : List UInt8 := dkwX6_feed_3 ++ dktX6_feed_4
def dkwX6_feed_2 : List UInt8 := [16, 8, 162, 0, 7, 28, 167, 0, 28, 21, 6, 16, 12, 162, 0, 7, 29, 167, 0, 17, 21, 6, 16, 16]
abbrev dktX6_feed_2 : List UInt8 := dkwX6_feed_2 ++ dktX6_feed_3
def dkwX6_feed_1 : List UInt8 := [172, 3, 54, 6, 21, 6, 16, 20, 162, 0, 93, 21, 6, 7, 162, 0, 7, 27, 167, 0, 39, 21, 6]
abbrev dktX6_feed_1 : List UInt8 := dkwX6_feed_1 ++ dktX6_feed_2
def dkwX6_feed_0 : List UInt8 := [42, 3, 181, 0, 1, 42, 180, 0, 115, 16, 20, 96, 17, 1, 144, 164, 0, 10, 42, 16, 252, 182, 0, 85]
abbrev dktX6_feed_0 : List UInt8 := dkwX6_feed_0 ++ dktX6_feed_1
theorem dksX6_feed_0 : cX6_feed.data.toList.drop 0 = dktX6_feed_0 := by decide +kernel
theorem dksX6_feed_1 : cX6_feed.data.toList.drop 24 = dktX6_feed_1 := dk_seg dksX6_feed_0 24 rfl rfl
theorem dksX6_feed_2 : cX6_feed.data.toList.drop 47 = dktX6_feed_2 := dk_seg dksX6_feed_1 23 rfl rfl
theorem dksX6_feed_3 : cX6_feed.data.toList.drop 71 = dktX6_feed_3 := dk_seg dksX6_feed_2 24 rfl rfl
theorem dksX6_feed_4 : cX6_feed.data.toList.drop 95 = dktX6_feed_4 := dk_seg dksX6_feed_3 24 rfl rfl
theorem dksX6_feed_5 : cX6_feed.data.toList.drop 119 = dktX6_feed_5 := dk_seg dksX6_feed_4 24 rfl rfl
theorem dX6_feed_0 : decode cX6_feed 0 = .ok (.aload_n 0, 1) := dk_42 (dk_at dksX6_feed_0 0 rfl rfl)
theorem dX6_feed_1 : decode cX6_feed 1 = .ok (.iconst 0, 1) := dk_3 (dk_at dksX6_feed_0 1 rfl rfl)
theorem dX6_feed_2 : decode cX6_feed 2 = .ok (.putfield 1, 3) := dk_181 0 1 (dk_at dksX6_feed_0 2 rfl rfl)
theorem dX6_feed_5 : decode cX6_feed 5 = .ok (.aload_n 0, 1) := dk_42 (dk_at dksX6_feed_0 5 rfl rfl)
theorem dX6_feed_6 : decode cX6_feed 6 = .ok (.getfield 115, 3) := dk_180 0 115 (dk_at dksX6_feed_0 6 rfl rfl)
theorem dX6_feed_9 : decode cX6_feed 9 = .ok (.bipush 20, 2) := dk_16 20 (dk_at dksX6_feed_0 9 rfl rfl)
theorem dX6_feed_11 : decode cX6_feed 11 = .ok (.iadd, 1) := dk_96 (dk_at dksX6_feed_0 11 rfl rfl)
theorem dX6_feed_12 : decode cX6_feed 12 = .ok (.sipush 400, 3) := dk_17 1 144 (dk_at dksX6_feed_0 12 rfl rfl)
theorem dX6_feed_15 : decode cX6_feed 15 = .ok (.if_icmp .le 10, 3) := dk_164 0 10 (dk_at dksX6_feed_0 15 rfl rfl)
theorem dX6_feed_18 : decode cX6_feed 18 = .ok (.aload_n 0, 1) := dk_42 (dk_at dksX6_feed_0 18 rfl rfl)
theorem dX6_feed_19 : decode cX6_feed 19 = .ok (.bipush (-4), 2) := dk_16 252 (dk_at dksX6_feed_0 19 rfl rfl)
theorem dX6_feed_21 : decode cX6_feed 21 = .ok (.invokevirtual 85, 3) := dk_182 0 85 (dk_at dksX6_feed_0 21 rfl rfl)
theorem dX6_feed_24 : decode cX6_feed 24 = .ok (.ireturn, 1) := dk_172 (dk_at dksX6_feed_1 0 rfl rfl)
theorem dX6_feed_25 : decode cX6_feed 25 = .ok (.iconst 0, 1) := dk_3 (dk_at dksX6_feed_1 1 rfl rfl)
theorem dX6_feed_26 : decode cX6_feed 26 = .ok (.istore 6, 2) := dk_54 6 (dk_at dksX6_feed_1 2 rfl rfl)
theorem dX6_feed_28 : decode cX6_feed 28 = .ok (.iload 6, 2) := dk_21 6 (dk_at dksX6_feed_1 4 rfl rfl)
theorem dX6_feed_30 : decode cX6_feed 30 = .ok (.bipush 20, 2) := dk_16 20 (dk_at dksX6_feed_1 6 rfl rfl)
theorem dX6_feed_32 : decode cX6_feed 32 = .ok (.if_icmp .ge 93, 3) := dk_162 0 93 (dk_at dksX6_feed_1 8 rfl rfl)
theorem dX6_feed_35 : decode cX6_feed 35 = .ok (.iload 6, 2) := dk_21 6 (dk_at dksX6_feed_1 11 rfl rfl)
theorem dX6_feed_37 : decode cX6_feed 37 = .ok (.iconst 4, 1) := dk_7 (dk_at dksX6_feed_1 13 rfl rfl)
theorem dX6_feed_38 : decode cX6_feed 38 = .ok (.if_icmp .ge 7, 3) := dk_162 0 7 (dk_at dksX6_feed_1 14 rfl rfl)
theorem dX6_feed_41 : decode cX6_feed 41 = .ok (.iload_n 1, 1) := dk_27 (dk_at dksX6_feed_1 17 rfl rfl)
theorem dX6_feed_42 : decode cX6_feed 42 = .ok (.goto 39, 3) := dk_167 0 39 (dk_at dksX6_feed_1 18 rfl rfl)
theorem dX6_feed_45 : decode cX6_feed 45 = .ok (.iload 6, 2) := dk_21 6 (dk_at dksX6_feed_1 21 rfl rfl)
theorem dX6_feed_47 : decode cX6_feed 47 = .ok (.bipush 8, 2) := dk_16 8 (dk_at dksX6_feed_2 0 rfl rfl)
theorem dX6_feed_49 : decode cX6_feed 49 = .ok (.if_icmp .ge 7, 3) := dk_162 0 7 (dk_at dksX6_feed_2 2 rfl rfl)
theorem dX6_feed_52 : decode cX6_feed 52 = .ok (.iload_n 2, 1) := dk_28 (dk_at dksX6_feed_2 5 rfl rfl)
theorem dX6_feed_53 : decode cX6_feed 53 = .ok (.goto 28, 3) := dk_167 0 28 (dk_at dksX6_feed_2 6 rfl rfl)
theorem dX6_feed_56 : decode cX6_feed 56 = .ok (.iload 6, 2) := dk_21 6 (dk_at dksX6_feed_2 9 rfl rfl)
theorem dX6_feed_58 : decode cX6_feed 58 = .ok (.bipush 12, 2) := dk_16 12 (dk_at dksX6_feed_2 11 rfl rfl)
theorem dX6_feed_60 : decode cX6_feed 60 = .ok (.if_icmp .ge 7, 3) := dk_162 0 7 (dk_at dksX6_feed_2 13 rfl rfl)
theorem dX6_feed_63 : decode cX6_feed 63 = .ok (.iload_n 3, 1) := dk_29 (dk_at dksX6_feed_2 16 rfl rfl)
theorem dX6_feed_64 : decode cX6_feed 64 = .ok (.goto 17, 3) := dk_167 0 17 (dk_at dksX6_feed_2 17 rfl rfl)
theorem dX6_feed_67 : decode cX6_feed 67 = .ok (.iload 6, 2) := dk_21 6 (dk_at dksX6_feed_2 20 rfl rfl)
theorem dX6_feed_69 : decode cX6_feed 69 = .ok (.bipush 16, 2) := dk_16 16 (dk_at dksX6_feed_2 22 rfl rfl)
theorem dX6_feed_71 : decode cX6_feed 71 = .ok (.if_icmp .ge 8, 3) := dk_162 0 8 (dk_at dksX6_feed_3 0 rfl rfl)
theorem dX6_feed_74 : decode cX6_feed 74 = .ok (.iload 4, 2) := dk_21 4 (dk_at dksX6_feed_3 3 rfl rfl)
theorem dX6_feed_76 : decode cX6_feed 76 = .ok (.goto 5, 3) := dk_167 0 5 (dk_at dksX6_feed_3 5 rfl rfl)
theorem dX6_feed_79 : decode cX6_feed 79 = .ok (.iload 5, 2) := dk_21 5 (dk_at dksX6_feed_3 8 rfl rfl)
theorem dX6_feed_81 : decode cX6_feed 81 = .ok (.istore 7, 2) := dk_54 7 (dk_at dksX6_feed_3 10 rfl rfl)
theorem dX6_feed_83 : decode cX6_feed 83 = .ok (.aload_n 0, 1) := dk_42 (dk_at dksX6_feed_3 12 rfl rfl)
theorem dX6_feed_84 : decode cX6_feed 84 = .ok (.getfield 37, 3) := dk_180 0 37 (dk_at dksX6_feed_3 13 rfl rfl)
theorem dX6_feed_87 : decode cX6_feed 87 = .ok (.aload_n 0, 1) := dk_42 (dk_at dksX6_feed_3 16 rfl rfl)
theorem dX6_feed_88 : decode cX6_feed 88 = .ok (.getfield 115, 3) := dk_180 0 115 (dk_at dksX6_feed_3 17 rfl rfl)
theorem dX6_feed_91 : decode cX6_feed 91 = .ok (.iload 7, 2) := dk_21 7 (dk_at dksX6_feed_3 20 rfl rfl)
theorem dX6_feed_93 : decode cX6_feed 93 = .ok (.bipush 24, 2) := dk_16 24 (dk_at dksX6_feed_3 22 rfl rfl)
theorem dX6_feed_95 : decode cX6_feed 95 = .ok (.bipush 8, 2) := dk_16 8 (dk_at dksX6_feed_4 0 rfl rfl)
theorem dX6_feed_97 : decode cX6_feed 97 = .ok (.iload 6, 2) := dk_21 6 (dk_at dksX6_feed_4 2 rfl rfl)
theorem dX6_feed_99 : decode cX6_feed 99 = .ok (.iconst 4, 1) := dk_7 (dk_at dksX6_feed_4 4 rfl rfl)
theorem dX6_feed_100 : decode cX6_feed 100 = .ok (.irem, 1) := dk_112 (dk_at dksX6_feed_4 5 rfl rfl)
theorem dX6_feed_101 : decode cX6_feed 101 = .ok (.imul, 1) := dk_104 (dk_at dksX6_feed_4 6 rfl rfl)
theorem dX6_feed_102 : decode cX6_feed 102 = .ok (.isub, 1) := dk_100 (dk_at dksX6_feed_4 7 rfl rfl)
theorem dX6_feed_103 : decode cX6_feed 103 = .ok (.ishr, 1) := dk_122 (dk_at dksX6_feed_4 8 rfl rfl)
theorem dX6_feed_104 : decode cX6_feed 104 = .ok (.sipush 255, 3) := dk_17 0 255 (dk_at dksX6_feed_4 9 rfl rfl)
theorem dX6_feed_107 : decode cX6_feed 107 = .ok (.iand, 1) := dk_126 (dk_at dksX6_feed_4 12 rfl rfl)
theorem dX6_feed_108 : decode cX6_feed 108 = .ok (.iastore, 1) := dk_79 (dk_at dksX6_feed_4 13 rfl rfl)
theorem dX6_feed_109 : decode cX6_feed 109 = .ok (.aload_n 0, 1) := dk_42 (dk_at dksX6_feed_4 14 rfl rfl)
theorem dX6_feed_110 : decode cX6_feed 110 = .ok (.dup, 1) := dk_89 (dk_at dksX6_feed_4 15 rfl rfl)
theorem dX6_feed_111 : decode cX6_feed 111 = .ok (.getfield 115, 3) := dk_180 0 115 (dk_at dksX6_feed_4 16 rfl rfl)
theorem dX6_feed_114 : decode cX6_feed 114 = .ok (.iconst 1, 1) := dk_4 (dk_at dksX6_feed_4 19 rfl rfl)
theorem dX6_feed_115 : decode cX6_feed 115 = .ok (.iadd, 1) := dk_96 (dk_at dksX6_feed_4 20 rfl rfl)
theorem dX6_feed_116 : decode cX6_feed 116 = .ok (.putfield 115, 3) := dk_181 0 115 (dk_at dksX6_feed_4 21 rfl rfl)
theorem dX6_feed_119 : decode cX6_feed 119 = .ok (.iinc 6 1, 3) := dk_132 6 1 (dk_at dksX6_feed_5 0 rfl rfl)
theorem dX6_feed_122 : decode cX6_feed 122 = .ok (.goto (-94), 3) := dk_167 255 162 (dk_at dksX6_feed_5 3 rfl rfl)
theorem dX6_feed_125 : decode cX6_feed 125 = .ok (.aload_n 0, 1) := dk_42 (dk_at dksX6_feed_5 6 rfl rfl)
theorem dX6_feed_126 : decode cX6_feed 126 = .ok (.getfield 115, 3) := dk_180 0 115 (dk_at dksX6_feed_5 7 rfl rfl)
theorem dX6_feed_129 : decode cX6_feed 129 = .ok (.ireturn, 1) := dk_172 (dk_at dksX6_feed_5 10 rfl rfl)
abbrev cX6_text : ByteArray := prog_28_method_35_code
def yX6_text : MethodName := ⟨RX6, "text", "(II)I"⟩
def dkwX6_text_12 : List UInt8 := [46, 172]
abbrev dktX6_text_12 : List UInt8 := dkwX6_text_12 ++ []
def dkwX6_text_11 : List UInt8 := [132, 3, 1, 167, 255, 232, 27, 154, 0, 12, 42, 180, 0, 31, 3, 46, 167, 0, 9, 42, 180, 0, 34, 3]
abbrev dktX6_text_11 : List UInt8 := dkwX6_text_11 ++ dktX6_text_12
def dkwX6_text_10 : List UInt8 := [3, 62, 29, 16, 29, 162, 0, 24, 42, 180, 0, 34, 29, 42, 180, 0, 34, 16, 87, 29, 96, 46, 79]
abbrev dktX6_text_10 : List UInt8 := dkwX6_text_10 ++ dktX6_text_11
def dkwX6_text_9 : List UInt8 := [180, 0, 31, 29, 42, 180, 0, 31, 17, 7, 143, 29, 96, 46, 79, 132, 3, 1, 167, 255, 230, 167, 0, 32]
abbrev dktX6_text_9 : List UInt8 := dkwX6_text_9 ++ dktX6_text_10
def dkwX6_text_8 : List UInt8 := [16, 246, 42, 180, 0, 158, 100, 172, 27, 154, 0, 37, 3, 62, 29, 17, 2, 133, 162, 0, 25, 42]
abbrev dktX6_text_8 : List UInt8 := dkwX6_text_8 ++ dktX6_text_9
def dkwX6_text_7 : List UInt8 := [180, 0, 161, 181, 0, 40, 42, 180, 0, 158, 153, 0, 21, 42, 180, 0, 7, 4, 92, 46, 4, 96, 79]
abbrev dktX6_text_7 : List UInt8 := dkwX6_text_7 ++ dktX6_text_8
def dkwX6_text_6 : List UInt8 := [167, 255, 225, 42, 42, 180, 0, 158, 181, 0, 217, 42, 42, 180, 0, 158, 154, 0, 7, 2, 167, 0, 7, 42]
abbrev dktX6_text_6 : List UInt8 := dkwX6_text_6 ++ dktX6_text_7
def dkwX6_text_5 : List UInt8 := [180, 0, 142, 16, 18, 159, 0, 21, 27, 154, 0, 10, 42, 182, 0, 211, 167, 255, 232, 42, 182, 0, 214]
abbrev dktX6_text_5 : List UInt8 := dkwX6_text_5 ++ dktX6_text_6
def dkwX6_text_4 : List UInt8 := [16, 87, 29, 96, 3, 79, 132, 3, 1, 167, 255, 237, 42, 182, 0, 167, 42, 180, 0, 158, 154, 0, 30, 42]
abbrev dktX6_text_4 : List UInt8 := dkwX6_text_4 ++ dktX6_text_5
def dkwX6_text_3 : List UInt8 := [181, 0, 177, 42, 180, 0, 31, 17, 7, 143, 3, 79, 3, 62, 29, 16, 29, 162, 0, 19, 42, 180, 0, 34]
abbrev dktX6_text_3 : List UInt8 := dkwX6_text_3 ++ dktX6_text_4
def dkwX6_text_2 : List UInt8 := [42, 3, 181, 0, 115, 42, 3, 181, 0, 136, 42, 3, 181, 0, 158, 42, 3, 181, 0, 190, 42, 3]
abbrev dktX6_text_2 : List UInt8 := dkwX6_text_2 ++ dktX6_text_3
def dkwX6_text_1 : List UInt8 := [9, 42, 180, 0, 115, 133, 184, 0, 81, 154, 0, 10, 42, 16, 253, 182, 0, 85, 172, 42, 28, 181, 0, 118]
abbrev dktX6_text_1 : List UInt8 := dkwX6_text_1 ++ dktX6_text_2
def dkwX6_text_0 : List UInt8 := [42, 3, 181, 0, 1, 27, 133, 9, 10, 184, 0, 81, 154, 0, 10, 42, 16, 254, 182, 0, 85, 172, 28, 133]
abbrev dktX6_text_0 : List UInt8 := dkwX6_text_0 ++ dktX6_text_1
theorem dksX6_text_0 : cX6_text.data.toList.drop 0 = dktX6_text_0 := by decide +kernel
theorem dksX6_text_1 : cX6_text.data.toList.drop 24 = dktX6_text_1 := dk_seg dksX6_text_0 24 rfl rfl
theorem dksX6_text_2 : cX6_text.data.toList.drop 48 = dktX6_text_2 := dk_seg dksX6_text_1 24 rfl rfl
theorem dksX6_text_3 : cX6_text.data.toList.drop 70 = dktX6_text_3 := dk_seg dksX6_text_2 22 rfl rfl
theorem dksX6_text_4 : cX6_text.data.toList.drop 94 = dktX6_text_4 := dk_seg dksX6_text_3 24 rfl rfl
theorem dksX6_text_5 : cX6_text.data.toList.drop 118 = dktX6_text_5 := dk_seg dksX6_text_4 24 rfl rfl
theorem dksX6_text_6 : cX6_text.data.toList.drop 141 = dktX6_text_6 := dk_seg dksX6_text_5 23 rfl rfl
theorem dksX6_text_7 : cX6_text.data.toList.drop 165 = dktX6_text_7 := dk_seg dksX6_text_6 24 rfl rfl
theorem dksX6_text_8 : cX6_text.data.toList.drop 188 = dktX6_text_8 := dk_seg dksX6_text_7 23 rfl rfl
theorem dksX6_text_9 : cX6_text.data.toList.drop 210 = dktX6_text_9 := dk_seg dksX6_text_8 22 rfl rfl
theorem dksX6_text_10 : cX6_text.data.toList.drop 234 = dktX6_text_10 := dk_seg dksX6_text_9 24 rfl rfl
theorem dksX6_text_11 : cX6_text.data.toList.drop 257 = dktX6_text_11 := dk_seg dksX6_text_10 23 rfl rfl
theorem dksX6_text_12 : cX6_text.data.toList.drop 281 = dktX6_text_12 := dk_seg dksX6_text_11 24 rfl rfl
theorem dX6_text_0 : decode cX6_text 0 = .ok (.aload_n 0, 1) := dk_42 (dk_at dksX6_text_0 0 rfl rfl)
theorem dX6_text_1 : decode cX6_text 1 = .ok (.iconst 0, 1) := dk_3 (dk_at dksX6_text_0 1 rfl rfl)
theorem dX6_text_2 : decode cX6_text 2 = .ok (.putfield 1, 3) := dk_181 0 1 (dk_at dksX6_text_0 2 rfl rfl)
theorem dX6_text_5 : decode cX6_text 5 = .ok (.iload_n 1, 1) := dk_27 (dk_at dksX6_text_0 5 rfl rfl)
theorem dX6_text_6 : decode cX6_text 6 = .ok (.i2l, 1) := dk_133 (dk_at dksX6_text_0 6 rfl rfl)
theorem dX6_text_7 : decode cX6_text 7 = .ok (.lconst 0, 1) := dk_9 (dk_at dksX6_text_0 7 rfl rfl)
theorem dX6_text_8 : decode cX6_text 8 = .ok (.lconst 1, 1) := dk_10 (dk_at dksX6_text_0 8 rfl rfl)
theorem dX6_text_9 : decode cX6_text 9 = .ok (.invokestatic 81, 3) := dk_184 0 81 (dk_at dksX6_text_0 9 rfl rfl)
theorem dX6_text_12 : decode cX6_text 12 = .ok (.ifCond .ne 10, 3) := dk_154 0 10 (dk_at dksX6_text_0 12 rfl rfl)
theorem dX6_text_15 : decode cX6_text 15 = .ok (.aload_n 0, 1) := dk_42 (dk_at dksX6_text_0 15 rfl rfl)
theorem dX6_text_16 : decode cX6_text 16 = .ok (.bipush (-2), 2) := dk_16 254 (dk_at dksX6_text_0 16 rfl rfl)
theorem dX6_text_18 : decode cX6_text 18 = .ok (.invokevirtual 85, 3) := dk_182 0 85 (dk_at dksX6_text_0 18 rfl rfl)
theorem dX6_text_21 : decode cX6_text 21 = .ok (.ireturn, 1) := dk_172 (dk_at dksX6_text_0 21 rfl rfl)
theorem dX6_text_22 : decode cX6_text 22 = .ok (.iload_n 2, 1) := dk_28 (dk_at dksX6_text_0 22 rfl rfl)
theorem dX6_text_23 : decode cX6_text 23 = .ok (.i2l, 1) := dk_133 (dk_at dksX6_text_0 23 rfl rfl)
theorem dX6_text_24 : decode cX6_text 24 = .ok (.lconst 0, 1) := dk_9 (dk_at dksX6_text_1 0 rfl rfl)
theorem dX6_text_25 : decode cX6_text 25 = .ok (.aload_n 0, 1) := dk_42 (dk_at dksX6_text_1 1 rfl rfl)
theorem dX6_text_26 : decode cX6_text 26 = .ok (.getfield 115, 3) := dk_180 0 115 (dk_at dksX6_text_1 2 rfl rfl)
theorem dX6_text_29 : decode cX6_text 29 = .ok (.i2l, 1) := dk_133 (dk_at dksX6_text_1 5 rfl rfl)
theorem dX6_text_30 : decode cX6_text 30 = .ok (.invokestatic 81, 3) := dk_184 0 81 (dk_at dksX6_text_1 6 rfl rfl)
theorem dX6_text_33 : decode cX6_text 33 = .ok (.ifCond .ne 10, 3) := dk_154 0 10 (dk_at dksX6_text_1 9 rfl rfl)
theorem dX6_text_36 : decode cX6_text 36 = .ok (.aload_n 0, 1) := dk_42 (dk_at dksX6_text_1 12 rfl rfl)
theorem dX6_text_37 : decode cX6_text 37 = .ok (.bipush (-3), 2) := dk_16 253 (dk_at dksX6_text_1 13 rfl rfl)
theorem dX6_text_39 : decode cX6_text 39 = .ok (.invokevirtual 85, 3) := dk_182 0 85 (dk_at dksX6_text_1 15 rfl rfl)
theorem dX6_text_42 : decode cX6_text 42 = .ok (.ireturn, 1) := dk_172 (dk_at dksX6_text_1 18 rfl rfl)
theorem dX6_text_43 : decode cX6_text 43 = .ok (.aload_n 0, 1) := dk_42 (dk_at dksX6_text_1 19 rfl rfl)
theorem dX6_text_44 : decode cX6_text 44 = .ok (.iload_n 2, 1) := dk_28 (dk_at dksX6_text_1 20 rfl rfl)
theorem dX6_text_45 : decode cX6_text 45 = .ok (.putfield 118, 3) := dk_181 0 118 (dk_at dksX6_text_1 21 rfl rfl)
theorem dX6_text_48 : decode cX6_text 48 = .ok (.aload_n 0, 1) := dk_42 (dk_at dksX6_text_2 0 rfl rfl)
theorem dX6_text_49 : decode cX6_text 49 = .ok (.iconst 0, 1) := dk_3 (dk_at dksX6_text_2 1 rfl rfl)
theorem dX6_text_50 : decode cX6_text 50 = .ok (.putfield 115, 3) := dk_181 0 115 (dk_at dksX6_text_2 2 rfl rfl)
theorem dX6_text_53 : decode cX6_text 53 = .ok (.aload_n 0, 1) := dk_42 (dk_at dksX6_text_2 5 rfl rfl)
theorem dX6_text_54 : decode cX6_text 54 = .ok (.iconst 0, 1) := dk_3 (dk_at dksX6_text_2 6 rfl rfl)
theorem dX6_text_55 : decode cX6_text 55 = .ok (.putfield 136, 3) := dk_181 0 136 (dk_at dksX6_text_2 7 rfl rfl)
theorem dX6_text_58 : decode cX6_text 58 = .ok (.aload_n 0, 1) := dk_42 (dk_at dksX6_text_2 10 rfl rfl)
theorem dX6_text_59 : decode cX6_text 59 = .ok (.iconst 0, 1) := dk_3 (dk_at dksX6_text_2 11 rfl rfl)
theorem dX6_text_60 : decode cX6_text 60 = .ok (.putfield 158, 3) := dk_181 0 158 (dk_at dksX6_text_2 12 rfl rfl)
theorem dX6_text_63 : decode cX6_text 63 = .ok (.aload_n 0, 1) := dk_42 (dk_at dksX6_text_2 15 rfl rfl)
theorem dX6_text_64 : decode cX6_text 64 = .ok (.iconst 0, 1) := dk_3 (dk_at dksX6_text_2 16 rfl rfl)
theorem dX6_text_65 : decode cX6_text 65 = .ok (.putfield 190, 3) := dk_181 0 190 (dk_at dksX6_text_2 17 rfl rfl)
theorem dX6_text_68 : decode cX6_text 68 = .ok (.aload_n 0, 1) := dk_42 (dk_at dksX6_text_2 20 rfl rfl)
theorem dX6_text_69 : decode cX6_text 69 = .ok (.iconst 0, 1) := dk_3 (dk_at dksX6_text_2 21 rfl rfl)
theorem dX6_text_70 : decode cX6_text 70 = .ok (.putfield 177, 3) := dk_181 0 177 (dk_at dksX6_text_3 0 rfl rfl)
theorem dX6_text_73 : decode cX6_text 73 = .ok (.aload_n 0, 1) := dk_42 (dk_at dksX6_text_3 3 rfl rfl)
theorem dX6_text_74 : decode cX6_text 74 = .ok (.getfield 31, 3) := dk_180 0 31 (dk_at dksX6_text_3 4 rfl rfl)
theorem dX6_text_77 : decode cX6_text 77 = .ok (.sipush 1935, 3) := dk_17 7 143 (dk_at dksX6_text_3 7 rfl rfl)
theorem dX6_text_80 : decode cX6_text 80 = .ok (.iconst 0, 1) := dk_3 (dk_at dksX6_text_3 10 rfl rfl)
theorem dX6_text_81 : decode cX6_text 81 = .ok (.iastore, 1) := dk_79 (dk_at dksX6_text_3 11 rfl rfl)
theorem dX6_text_82 : decode cX6_text 82 = .ok (.iconst 0, 1) := dk_3 (dk_at dksX6_text_3 12 rfl rfl)
theorem dX6_text_83 : decode cX6_text 83 = .ok (.istore_n 3, 1) := dk_62 (dk_at dksX6_text_3 13 rfl rfl)
theorem dX6_text_84 : decode cX6_text 84 = .ok (.iload_n 3, 1) := dk_29 (dk_at dksX6_text_3 14 rfl rfl)
theorem dX6_text_85 : decode cX6_text 85 = .ok (.bipush 29, 2) := dk_16 29 (dk_at dksX6_text_3 15 rfl rfl)
theorem dX6_text_87 : decode cX6_text 87 = .ok (.if_icmp .ge 19, 3) := dk_162 0 19 (dk_at dksX6_text_3 17 rfl rfl)
theorem dX6_text_90 : decode cX6_text 90 = .ok (.aload_n 0, 1) := dk_42 (dk_at dksX6_text_3 20 rfl rfl)
theorem dX6_text_91 : decode cX6_text 91 = .ok (.getfield 34, 3) := dk_180 0 34 (dk_at dksX6_text_3 21 rfl rfl)
theorem dX6_text_94 : decode cX6_text 94 = .ok (.bipush 87, 2) := dk_16 87 (dk_at dksX6_text_4 0 rfl rfl)
theorem dX6_text_96 : decode cX6_text 96 = .ok (.iload_n 3, 1) := dk_29 (dk_at dksX6_text_4 2 rfl rfl)
theorem dX6_text_97 : decode cX6_text 97 = .ok (.iadd, 1) := dk_96 (dk_at dksX6_text_4 3 rfl rfl)
theorem dX6_text_98 : decode cX6_text 98 = .ok (.iconst 0, 1) := dk_3 (dk_at dksX6_text_4 4 rfl rfl)
theorem dX6_text_99 : decode cX6_text 99 = .ok (.iastore, 1) := dk_79 (dk_at dksX6_text_4 5 rfl rfl)
theorem dX6_text_100 : decode cX6_text 100 = .ok (.iinc 3 1, 3) := dk_132 3 1 (dk_at dksX6_text_4 6 rfl rfl)
theorem dX6_text_103 : decode cX6_text 103 = .ok (.goto (-19), 3) := dk_167 255 237 (dk_at dksX6_text_4 9 rfl rfl)
theorem dX6_text_106 : decode cX6_text 106 = .ok (.aload_n 0, 1) := dk_42 (dk_at dksX6_text_4 12 rfl rfl)
theorem dX6_text_107 : decode cX6_text 107 = .ok (.invokevirtual 167, 3) := dk_182 0 167 (dk_at dksX6_text_4 13 rfl rfl)
theorem dX6_text_110 : decode cX6_text 110 = .ok (.aload_n 0, 1) := dk_42 (dk_at dksX6_text_4 16 rfl rfl)
theorem dX6_text_111 : decode cX6_text 111 = .ok (.getfield 158, 3) := dk_180 0 158 (dk_at dksX6_text_4 17 rfl rfl)
theorem dX6_text_114 : decode cX6_text 114 = .ok (.ifCond .ne 30, 3) := dk_154 0 30 (dk_at dksX6_text_4 20 rfl rfl)
theorem dX6_text_117 : decode cX6_text 117 = .ok (.aload_n 0, 1) := dk_42 (dk_at dksX6_text_4 23 rfl rfl)
theorem dX6_text_118 : decode cX6_text 118 = .ok (.getfield 142, 3) := dk_180 0 142 (dk_at dksX6_text_5 0 rfl rfl)
theorem dX6_text_121 : decode cX6_text 121 = .ok (.bipush 18, 2) := dk_16 18 (dk_at dksX6_text_5 3 rfl rfl)
theorem dX6_text_123 : decode cX6_text 123 = .ok (.if_icmp .eq 21, 3) := dk_159 0 21 (dk_at dksX6_text_5 5 rfl rfl)
theorem dX6_text_126 : decode cX6_text 126 = .ok (.iload_n 1, 1) := dk_27 (dk_at dksX6_text_5 8 rfl rfl)
theorem dX6_text_127 : decode cX6_text 127 = .ok (.ifCond .ne 10, 3) := dk_154 0 10 (dk_at dksX6_text_5 9 rfl rfl)
theorem dX6_text_130 : decode cX6_text 130 = .ok (.aload_n 0, 1) := dk_42 (dk_at dksX6_text_5 12 rfl rfl)
theorem dX6_text_131 : decode cX6_text 131 = .ok (.invokevirtual 211, 3) := dk_182 0 211 (dk_at dksX6_text_5 13 rfl rfl)
theorem dX6_text_134 : decode cX6_text 134 = .ok (.goto (-24), 3) := dk_167 255 232 (dk_at dksX6_text_5 16 rfl rfl)
theorem dX6_text_137 : decode cX6_text 137 = .ok (.aload_n 0, 1) := dk_42 (dk_at dksX6_text_5 19 rfl rfl)
theorem dX6_text_138 : decode cX6_text 138 = .ok (.invokevirtual 214, 3) := dk_182 0 214 (dk_at dksX6_text_5 20 rfl rfl)
theorem dX6_text_141 : decode cX6_text 141 = .ok (.goto (-31), 3) := dk_167 255 225 (dk_at dksX6_text_6 0 rfl rfl)
theorem dX6_text_144 : decode cX6_text 144 = .ok (.aload_n 0, 1) := dk_42 (dk_at dksX6_text_6 3 rfl rfl)
theorem dX6_text_145 : decode cX6_text 145 = .ok (.aload_n 0, 1) := dk_42 (dk_at dksX6_text_6 4 rfl rfl)
theorem dX6_text_146 : decode cX6_text 146 = .ok (.getfield 158, 3) := dk_180 0 158 (dk_at dksX6_text_6 5 rfl rfl)
theorem dX6_text_149 : decode cX6_text 149 = .ok (.putfield 217, 3) := dk_181 0 217 (dk_at dksX6_text_6 8 rfl rfl)
theorem dX6_text_152 : decode cX6_text 152 = .ok (.aload_n 0, 1) := dk_42 (dk_at dksX6_text_6 11 rfl rfl)
theorem dX6_text_153 : decode cX6_text 153 = .ok (.aload_n 0, 1) := dk_42 (dk_at dksX6_text_6 12 rfl rfl)
theorem dX6_text_154 : decode cX6_text 154 = .ok (.getfield 158, 3) := dk_180 0 158 (dk_at dksX6_text_6 13 rfl rfl)
theorem dX6_text_157 : decode cX6_text 157 = .ok (.ifCond .ne 7, 3) := dk_154 0 7 (dk_at dksX6_text_6 16 rfl rfl)
theorem dX6_text_160 : decode cX6_text 160 = .ok (.iconst (-1), 1) := dk_2 (dk_at dksX6_text_6 19 rfl rfl)
theorem dX6_text_161 : decode cX6_text 161 = .ok (.goto 7, 3) := dk_167 0 7 (dk_at dksX6_text_6 20 rfl rfl)
theorem dX6_text_164 : decode cX6_text 164 = .ok (.aload_n 0, 1) := dk_42 (dk_at dksX6_text_6 23 rfl rfl)
theorem dX6_text_165 : decode cX6_text 165 = .ok (.getfield 161, 3) := dk_180 0 161 (dk_at dksX6_text_7 0 rfl rfl)
theorem dX6_text_168 : decode cX6_text 168 = .ok (.putfield 40, 3) := dk_181 0 40 (dk_at dksX6_text_7 3 rfl rfl)
theorem dX6_text_171 : decode cX6_text 171 = .ok (.aload_n 0, 1) := dk_42 (dk_at dksX6_text_7 6 rfl rfl)
theorem dX6_text_172 : decode cX6_text 172 = .ok (.getfield 158, 3) := dk_180 0 158 (dk_at dksX6_text_7 7 rfl rfl)
theorem dX6_text_175 : decode cX6_text 175 = .ok (.ifCond .eq 21, 3) := dk_153 0 21 (dk_at dksX6_text_7 10 rfl rfl)
theorem dX6_text_178 : decode cX6_text 178 = .ok (.aload_n 0, 1) := dk_42 (dk_at dksX6_text_7 13 rfl rfl)
theorem dX6_text_179 : decode cX6_text 179 = .ok (.getfield 7, 3) := dk_180 0 7 (dk_at dksX6_text_7 14 rfl rfl)
theorem dX6_text_182 : decode cX6_text 182 = .ok (.iconst 1, 1) := dk_4 (dk_at dksX6_text_7 17 rfl rfl)
theorem dX6_text_183 : decode cX6_text 183 = .ok (.dup2, 1) := dk_92 (dk_at dksX6_text_7 18 rfl rfl)
theorem dX6_text_184 : decode cX6_text 184 = .ok (.iaload, 1) := dk_46 (dk_at dksX6_text_7 19 rfl rfl)
theorem dX6_text_185 : decode cX6_text 185 = .ok (.iconst 1, 1) := dk_4 (dk_at dksX6_text_7 20 rfl rfl)
theorem dX6_text_186 : decode cX6_text 186 = .ok (.iadd, 1) := dk_96 (dk_at dksX6_text_7 21 rfl rfl)
theorem dX6_text_187 : decode cX6_text 187 = .ok (.iastore, 1) := dk_79 (dk_at dksX6_text_7 22 rfl rfl)
theorem dX6_text_188 : decode cX6_text 188 = .ok (.bipush (-10), 2) := dk_16 246 (dk_at dksX6_text_8 0 rfl rfl)
theorem dX6_text_190 : decode cX6_text 190 = .ok (.aload_n 0, 1) := dk_42 (dk_at dksX6_text_8 2 rfl rfl)
theorem dX6_text_191 : decode cX6_text 191 = .ok (.getfield 158, 3) := dk_180 0 158 (dk_at dksX6_text_8 3 rfl rfl)
theorem dX6_text_194 : decode cX6_text 194 = .ok (.isub, 1) := dk_100 (dk_at dksX6_text_8 6 rfl rfl)
theorem dX6_text_195 : decode cX6_text 195 = .ok (.ireturn, 1) := dk_172 (dk_at dksX6_text_8 7 rfl rfl)
theorem dX6_text_196 : decode cX6_text 196 = .ok (.iload_n 1, 1) := dk_27 (dk_at dksX6_text_8 8 rfl rfl)
theorem dX6_text_197 : decode cX6_text 197 = .ok (.ifCond .ne 37, 3) := dk_154 0 37 (dk_at dksX6_text_8 9 rfl rfl)
theorem dX6_text_200 : decode cX6_text 200 = .ok (.iconst 0, 1) := dk_3 (dk_at dksX6_text_8 12 rfl rfl)
theorem dX6_text_201 : decode cX6_text 201 = .ok (.istore_n 3, 1) := dk_62 (dk_at dksX6_text_8 13 rfl rfl)
theorem dX6_text_202 : decode cX6_text 202 = .ok (.iload_n 3, 1) := dk_29 (dk_at dksX6_text_8 14 rfl rfl)
theorem dX6_text_203 : decode cX6_text 203 = .ok (.sipush 645, 3) := dk_17 2 133 (dk_at dksX6_text_8 15 rfl rfl)
theorem dX6_text_206 : decode cX6_text 206 = .ok (.if_icmp .ge 25, 3) := dk_162 0 25 (dk_at dksX6_text_8 18 rfl rfl)
theorem dX6_text_209 : decode cX6_text 209 = .ok (.aload_n 0, 1) := dk_42 (dk_at dksX6_text_8 21 rfl rfl)
theorem dX6_text_210 : decode cX6_text 210 = .ok (.getfield 31, 3) := dk_180 0 31 (dk_at dksX6_text_9 0 rfl rfl)
theorem dX6_text_213 : decode cX6_text 213 = .ok (.iload_n 3, 1) := dk_29 (dk_at dksX6_text_9 3 rfl rfl)
theorem dX6_text_214 : decode cX6_text 214 = .ok (.aload_n 0, 1) := dk_42 (dk_at dksX6_text_9 4 rfl rfl)
theorem dX6_text_215 : decode cX6_text 215 = .ok (.getfield 31, 3) := dk_180 0 31 (dk_at dksX6_text_9 5 rfl rfl)
theorem dX6_text_218 : decode cX6_text 218 = .ok (.sipush 1935, 3) := dk_17 7 143 (dk_at dksX6_text_9 8 rfl rfl)
theorem dX6_text_221 : decode cX6_text 221 = .ok (.iload_n 3, 1) := dk_29 (dk_at dksX6_text_9 11 rfl rfl)
theorem dX6_text_222 : decode cX6_text 222 = .ok (.iadd, 1) := dk_96 (dk_at dksX6_text_9 12 rfl rfl)
theorem dX6_text_223 : decode cX6_text 223 = .ok (.iaload, 1) := dk_46 (dk_at dksX6_text_9 13 rfl rfl)
theorem dX6_text_224 : decode cX6_text 224 = .ok (.iastore, 1) := dk_79 (dk_at dksX6_text_9 14 rfl rfl)
theorem dX6_text_225 : decode cX6_text 225 = .ok (.iinc 3 1, 3) := dk_132 3 1 (dk_at dksX6_text_9 15 rfl rfl)
theorem dX6_text_228 : decode cX6_text 228 = .ok (.goto (-26), 3) := dk_167 255 230 (dk_at dksX6_text_9 18 rfl rfl)
theorem dX6_text_231 : decode cX6_text 231 = .ok (.goto 32, 3) := dk_167 0 32 (dk_at dksX6_text_9 21 rfl rfl)
theorem dX6_text_234 : decode cX6_text 234 = .ok (.iconst 0, 1) := dk_3 (dk_at dksX6_text_10 0 rfl rfl)
theorem dX6_text_235 : decode cX6_text 235 = .ok (.istore_n 3, 1) := dk_62 (dk_at dksX6_text_10 1 rfl rfl)
theorem dX6_text_236 : decode cX6_text 236 = .ok (.iload_n 3, 1) := dk_29 (dk_at dksX6_text_10 2 rfl rfl)
theorem dX6_text_237 : decode cX6_text 237 = .ok (.bipush 29, 2) := dk_16 29 (dk_at dksX6_text_10 3 rfl rfl)
theorem dX6_text_239 : decode cX6_text 239 = .ok (.if_icmp .ge 24, 3) := dk_162 0 24 (dk_at dksX6_text_10 5 rfl rfl)
theorem dX6_text_242 : decode cX6_text 242 = .ok (.aload_n 0, 1) := dk_42 (dk_at dksX6_text_10 8 rfl rfl)
theorem dX6_text_243 : decode cX6_text 243 = .ok (.getfield 34, 3) := dk_180 0 34 (dk_at dksX6_text_10 9 rfl rfl)
theorem dX6_text_246 : decode cX6_text 246 = .ok (.iload_n 3, 1) := dk_29 (dk_at dksX6_text_10 12 rfl rfl)
theorem dX6_text_247 : decode cX6_text 247 = .ok (.aload_n 0, 1) := dk_42 (dk_at dksX6_text_10 13 rfl rfl)
theorem dX6_text_248 : decode cX6_text 248 = .ok (.getfield 34, 3) := dk_180 0 34 (dk_at dksX6_text_10 14 rfl rfl)
theorem dX6_text_251 : decode cX6_text 251 = .ok (.bipush 87, 2) := dk_16 87 (dk_at dksX6_text_10 17 rfl rfl)
theorem dX6_text_253 : decode cX6_text 253 = .ok (.iload_n 3, 1) := dk_29 (dk_at dksX6_text_10 19 rfl rfl)
theorem dX6_text_254 : decode cX6_text 254 = .ok (.iadd, 1) := dk_96 (dk_at dksX6_text_10 20 rfl rfl)
theorem dX6_text_255 : decode cX6_text 255 = .ok (.iaload, 1) := dk_46 (dk_at dksX6_text_10 21 rfl rfl)
theorem dX6_text_256 : decode cX6_text 256 = .ok (.iastore, 1) := dk_79 (dk_at dksX6_text_10 22 rfl rfl)
theorem dX6_text_257 : decode cX6_text 257 = .ok (.iinc 3 1, 3) := dk_132 3 1 (dk_at dksX6_text_11 0 rfl rfl)
theorem dX6_text_260 : decode cX6_text 260 = .ok (.goto (-24), 3) := dk_167 255 232 (dk_at dksX6_text_11 3 rfl rfl)
theorem dX6_text_263 : decode cX6_text 263 = .ok (.iload_n 1, 1) := dk_27 (dk_at dksX6_text_11 6 rfl rfl)
theorem dX6_text_264 : decode cX6_text 264 = .ok (.ifCond .ne 12, 3) := dk_154 0 12 (dk_at dksX6_text_11 7 rfl rfl)
theorem dX6_text_267 : decode cX6_text 267 = .ok (.aload_n 0, 1) := dk_42 (dk_at dksX6_text_11 10 rfl rfl)
theorem dX6_text_268 : decode cX6_text 268 = .ok (.getfield 31, 3) := dk_180 0 31 (dk_at dksX6_text_11 11 rfl rfl)
theorem dX6_text_271 : decode cX6_text 271 = .ok (.iconst 0, 1) := dk_3 (dk_at dksX6_text_11 14 rfl rfl)
theorem dX6_text_272 : decode cX6_text 272 = .ok (.iaload, 1) := dk_46 (dk_at dksX6_text_11 15 rfl rfl)
theorem dX6_text_273 : decode cX6_text 273 = .ok (.goto 9, 3) := dk_167 0 9 (dk_at dksX6_text_11 16 rfl rfl)
theorem dX6_text_276 : decode cX6_text 276 = .ok (.aload_n 0, 1) := dk_42 (dk_at dksX6_text_11 19 rfl rfl)
theorem dX6_text_277 : decode cX6_text 277 = .ok (.getfield 34, 3) := dk_180 0 34 (dk_at dksX6_text_11 20 rfl rfl)
theorem dX6_text_280 : decode cX6_text 280 = .ok (.iconst 0, 1) := dk_3 (dk_at dksX6_text_11 23 rfl rfl)
theorem dX6_text_281 : decode cX6_text 281 = .ok (.iaload, 1) := dk_46 (dk_at dksX6_text_12 0 rfl rfl)
theorem dX6_text_282 : decode cX6_text 282 = .ok (.ireturn, 1) := dk_172 (dk_at dksX6_text_12 1 rfl rfl)
abbrev cX6_next : ByteArray := prog_28_method_22_code
def yX6_next : MethodName := ⟨RX6, "next", "()V"⟩
def dkwX6_next_13 : List UInt8 := [16, 17, 167, 0, 5, 16, 19, 181, 0, 142, 177]
abbrev dktX6_next_13 : List UInt8 := dkwX6_next_13 ++ []
def dkwX6_next_12 : List UInt8 := [16, 40, 160, 0, 8, 16, 16, 167, 0, 23, 42, 42, 180, 0, 133, 182, 0, 139, 16, 41, 160, 0, 8]
abbrev dktX6_next_12 : List UInt8 := dkwX6_next_12 ++ dktX6_next_13
def dkwX6_next_11 : List UInt8 := [180, 0, 133, 182, 0, 139, 16, 59, 160, 0, 8, 16, 15, 167, 0, 41, 42, 42, 180, 0, 133, 182, 0, 139]
abbrev dktX6_next_11 : List UInt8 := dkwX6_next_11 ++ dktX6_next_12
def dkwX6_next_10 : List UInt8 := [167, 0, 5, 16, 14, 181, 0, 142, 167, 0, 73, 42, 89, 180, 0, 136, 4, 96, 181, 0, 136, 42, 42, 42]
abbrev dktX6_next_10 : List UInt8 := dkwX6_next_10 ++ dktX6_next_11
def dkwX6_next_9 : List UInt8 := [181, 0, 136, 167, 255, 196, 42, 42, 180, 0, 136, 42, 180, 0, 133, 100, 6, 164, 0, 8, 16, 19]
abbrev dktX6_next_9 : List UInt8 := dkwX6_next_9 ++ dktX6_next_10
def dkwX6_next_8 : List UInt8 := [42, 42, 180, 0, 136, 182, 0, 139, 96, 16, 48, 100, 181, 0, 155, 42, 89, 180, 0, 136, 4, 96]
abbrev dktX6_next_8 : List UInt8 := dkwX6_next_8 ++ dktX6_next_9
def dkwX6_next_7 : List UInt8 := [153, 0, 52, 42, 180, 0, 136, 42, 180, 0, 133, 100, 6, 162, 0, 26, 42, 16, 10, 42, 180, 0, 155, 104]
abbrev dktX6_next_7 : List UInt8 := dkwX6_next_7 ++ dktX6_next_8
def dkwX6_next_6 : List UInt8 := [184, 0, 152, 153, 0, 98, 42, 3, 181, 0, 155, 42, 42, 180, 0, 136, 182, 0, 139, 184, 0, 152]
abbrev dktX6_next_6 : List UInt8 := dkwX6_next_6 ++ dktX6_next_7
def dkwX6_next_5 : List UInt8 := [167, 255, 232, 42, 42, 182, 0, 149, 181, 0, 142, 167, 0, 182, 42, 42, 180, 0, 133, 182, 0, 139]
abbrev dktX6_next_5 : List UInt8 := dkwX6_next_5 ++ dktX6_next_6
def dkwX6_next_4 : List UInt8 := [180, 0, 136, 182, 0, 139, 184, 0, 145, 153, 0, 16, 42, 89, 180, 0, 136, 4, 96, 181, 0, 136]
abbrev dktX6_next_4 : List UInt8 := dkwX6_next_4 ++ dktX6_next_5
def dkwX6_next_3 : List UInt8 := [181, 0, 142, 167, 0, 234, 42, 42, 180, 0, 133, 182, 0, 139, 184, 0, 145, 153, 0, 41, 42, 42]
abbrev dktX6_next_3 : List UInt8 := dkwX6_next_3 ++ dktX6_next_4
def dkwX6_next_2 : List UInt8 := [42, 42, 180, 0, 133, 181, 0, 136, 42, 180, 0, 133, 42, 180, 0, 118, 161, 0, 12, 42, 16, 18]
abbrev dktX6_next_2 : List UInt8 := dkwX6_next_2 ++ dktX6_next_3
def dkwX6_next_1 : List UInt8 := [180, 0, 133, 182, 0, 139, 16, 32, 160, 0, 16, 42, 89, 180, 0, 133, 4, 96, 181, 0, 133, 167, 255, 220]
abbrev dktX6_next_1 : List UInt8 := dkwX6_next_1 ++ dktX6_next_2
def dkwX6_next_0 : List UInt8 := [42, 42, 180, 0, 136, 181, 0, 133, 42, 42, 180, 0, 133, 182, 0, 139, 16, 10, 159, 0, 16, 42, 42]
abbrev dktX6_next_0 : List UInt8 := dkwX6_next_0 ++ dktX6_next_1
theorem dksX6_next_0 : cX6_next.data.toList.drop 0 = dktX6_next_0 := by decide +kernel
theorem dksX6_next_1 : cX6_next.data.toList.drop 23 = dktX6_next_1 := dk_seg dksX6_next_0 23 rfl rfl
theorem dksX6_next_2 : cX6_next.data.toList.drop 47 = dktX6_next_2 := dk_seg dksX6_next_1 24 rfl rfl
theorem dksX6_next_3 : cX6_next.data.toList.drop 69 = dktX6_next_3 := dk_seg dksX6_next_2 22 rfl rfl
theorem dksX6_next_4 : cX6_next.data.toList.drop 91 = dktX6_next_4 := dk_seg dksX6_next_3 22 rfl rfl
theorem dksX6_next_5 : cX6_next.data.toList.drop 113 = dktX6_next_5 := dk_seg dksX6_next_4 22 rfl rfl
theorem dksX6_next_6 : cX6_next.data.toList.drop 135 = dktX6_next_6 := dk_seg dksX6_next_5 22 rfl rfl
theorem dksX6_next_7 : cX6_next.data.toList.drop 157 = dktX6_next_7 := dk_seg dksX6_next_6 22 rfl rfl
theorem dksX6_next_8 : cX6_next.data.toList.drop 181 = dktX6_next_8 := dk_seg dksX6_next_7 24 rfl rfl
theorem dksX6_next_9 : cX6_next.data.toList.drop 203 = dktX6_next_9 := dk_seg dksX6_next_8 22 rfl rfl
theorem dksX6_next_10 : cX6_next.data.toList.drop 225 = dktX6_next_10 := dk_seg dksX6_next_9 22 rfl rfl
theorem dksX6_next_11 : cX6_next.data.toList.drop 249 = dktX6_next_11 := dk_seg dksX6_next_10 24 rfl rfl
theorem dksX6_next_12 : cX6_next.data.toList.drop 273 = dktX6_next_12 := dk_seg dksX6_next_11 24 rfl rfl
theorem dksX6_next_13 : cX6_next.data.toList.drop 296 = dktX6_next_13 := dk_seg dksX6_next_12 23 rfl rfl
theorem dX6_next_0 : decode cX6_next 0 = .ok (.aload_n 0, 1) := dk_42 (dk_at dksX6_next_0 0 rfl rfl)
theorem dX6_next_1 : decode cX6_next 1 = .ok (.aload_n 0, 1) := dk_42 (dk_at dksX6_next_0 1 rfl rfl)
theorem dX6_next_2 : decode cX6_next 2 = .ok (.getfield 136, 3) := dk_180 0 136 (dk_at dksX6_next_0 2 rfl rfl)
theorem dX6_next_5 : decode cX6_next 5 = .ok (.putfield 133, 3) := dk_181 0 133 (dk_at dksX6_next_0 5 rfl rfl)
theorem dX6_next_8 : decode cX6_next 8 = .ok (.aload_n 0, 1) := dk_42 (dk_at dksX6_next_0 8 rfl rfl)
theorem dX6_next_9 : decode cX6_next 9 = .ok (.aload_n 0, 1) := dk_42 (dk_at dksX6_next_0 9 rfl rfl)
theorem dX6_next_10 : decode cX6_next 10 = .ok (.getfield 133, 3) := dk_180 0 133 (dk_at dksX6_next_0 10 rfl rfl)
theorem dX6_next_13 : decode cX6_next 13 = .ok (.invokevirtual 139, 3) := dk_182 0 139 (dk_at dksX6_next_0 13 rfl rfl)
theorem dX6_next_16 : decode cX6_next 16 = .ok (.bipush 10, 2) := dk_16 10 (dk_at dksX6_next_0 16 rfl rfl)
theorem dX6_next_18 : decode cX6_next 18 = .ok (.if_icmp .eq 16, 3) := dk_159 0 16 (dk_at dksX6_next_0 18 rfl rfl)
theorem dX6_next_21 : decode cX6_next 21 = .ok (.aload_n 0, 1) := dk_42 (dk_at dksX6_next_0 21 rfl rfl)
theorem dX6_next_22 : decode cX6_next 22 = .ok (.aload_n 0, 1) := dk_42 (dk_at dksX6_next_0 22 rfl rfl)
theorem dX6_next_23 : decode cX6_next 23 = .ok (.getfield 133, 3) := dk_180 0 133 (dk_at dksX6_next_1 0 rfl rfl)
theorem dX6_next_26 : decode cX6_next 26 = .ok (.invokevirtual 139, 3) := dk_182 0 139 (dk_at dksX6_next_1 3 rfl rfl)
theorem dX6_next_29 : decode cX6_next 29 = .ok (.bipush 32, 2) := dk_16 32 (dk_at dksX6_next_1 6 rfl rfl)
theorem dX6_next_31 : decode cX6_next 31 = .ok (.if_icmp .ne 16, 3) := dk_160 0 16 (dk_at dksX6_next_1 8 rfl rfl)
theorem dX6_next_34 : decode cX6_next 34 = .ok (.aload_n 0, 1) := dk_42 (dk_at dksX6_next_1 11 rfl rfl)
theorem dX6_next_35 : decode cX6_next 35 = .ok (.dup, 1) := dk_89 (dk_at dksX6_next_1 12 rfl rfl)
theorem dX6_next_36 : decode cX6_next 36 = .ok (.getfield 133, 3) := dk_180 0 133 (dk_at dksX6_next_1 13 rfl rfl)
theorem dX6_next_39 : decode cX6_next 39 = .ok (.iconst 1, 1) := dk_4 (dk_at dksX6_next_1 16 rfl rfl)
theorem dX6_next_40 : decode cX6_next 40 = .ok (.iadd, 1) := dk_96 (dk_at dksX6_next_1 17 rfl rfl)
theorem dX6_next_41 : decode cX6_next 41 = .ok (.putfield 133, 3) := dk_181 0 133 (dk_at dksX6_next_1 18 rfl rfl)
theorem dX6_next_44 : decode cX6_next 44 = .ok (.goto (-36), 3) := dk_167 255 220 (dk_at dksX6_next_1 21 rfl rfl)
theorem dX6_next_47 : decode cX6_next 47 = .ok (.aload_n 0, 1) := dk_42 (dk_at dksX6_next_2 0 rfl rfl)
theorem dX6_next_48 : decode cX6_next 48 = .ok (.aload_n 0, 1) := dk_42 (dk_at dksX6_next_2 1 rfl rfl)
theorem dX6_next_49 : decode cX6_next 49 = .ok (.getfield 133, 3) := dk_180 0 133 (dk_at dksX6_next_2 2 rfl rfl)
theorem dX6_next_52 : decode cX6_next 52 = .ok (.putfield 136, 3) := dk_181 0 136 (dk_at dksX6_next_2 5 rfl rfl)
theorem dX6_next_55 : decode cX6_next 55 = .ok (.aload_n 0, 1) := dk_42 (dk_at dksX6_next_2 8 rfl rfl)
theorem dX6_next_56 : decode cX6_next 56 = .ok (.getfield 133, 3) := dk_180 0 133 (dk_at dksX6_next_2 9 rfl rfl)
theorem dX6_next_59 : decode cX6_next 59 = .ok (.aload_n 0, 1) := dk_42 (dk_at dksX6_next_2 12 rfl rfl)
theorem dX6_next_60 : decode cX6_next 60 = .ok (.getfield 118, 3) := dk_180 0 118 (dk_at dksX6_next_2 13 rfl rfl)
theorem dX6_next_63 : decode cX6_next 63 = .ok (.if_icmp .lt 12, 3) := dk_161 0 12 (dk_at dksX6_next_2 16 rfl rfl)
theorem dX6_next_66 : decode cX6_next 66 = .ok (.aload_n 0, 1) := dk_42 (dk_at dksX6_next_2 19 rfl rfl)
theorem dX6_next_67 : decode cX6_next 67 = .ok (.bipush 18, 2) := dk_16 18 (dk_at dksX6_next_2 20 rfl rfl)
theorem dX6_next_69 : decode cX6_next 69 = .ok (.putfield 142, 3) := dk_181 0 142 (dk_at dksX6_next_3 0 rfl rfl)
theorem dX6_next_72 : decode cX6_next 72 = .ok (.goto 234, 3) := dk_167 0 234 (dk_at dksX6_next_3 3 rfl rfl)
theorem dX6_next_75 : decode cX6_next 75 = .ok (.aload_n 0, 1) := dk_42 (dk_at dksX6_next_3 6 rfl rfl)
theorem dX6_next_76 : decode cX6_next 76 = .ok (.aload_n 0, 1) := dk_42 (dk_at dksX6_next_3 7 rfl rfl)
theorem dX6_next_77 : decode cX6_next 77 = .ok (.getfield 133, 3) := dk_180 0 133 (dk_at dksX6_next_3 8 rfl rfl)
theorem dX6_next_80 : decode cX6_next 80 = .ok (.invokevirtual 139, 3) := dk_182 0 139 (dk_at dksX6_next_3 11 rfl rfl)
theorem dX6_next_83 : decode cX6_next 83 = .ok (.invokestatic 145, 3) := dk_184 0 145 (dk_at dksX6_next_3 14 rfl rfl)
theorem dX6_next_86 : decode cX6_next 86 = .ok (.ifCond .eq 41, 3) := dk_153 0 41 (dk_at dksX6_next_3 17 rfl rfl)
theorem dX6_next_89 : decode cX6_next 89 = .ok (.aload_n 0, 1) := dk_42 (dk_at dksX6_next_3 20 rfl rfl)
theorem dX6_next_90 : decode cX6_next 90 = .ok (.aload_n 0, 1) := dk_42 (dk_at dksX6_next_3 21 rfl rfl)
theorem dX6_next_91 : decode cX6_next 91 = .ok (.getfield 136, 3) := dk_180 0 136 (dk_at dksX6_next_4 0 rfl rfl)
theorem dX6_next_94 : decode cX6_next 94 = .ok (.invokevirtual 139, 3) := dk_182 0 139 (dk_at dksX6_next_4 3 rfl rfl)
theorem dX6_next_97 : decode cX6_next 97 = .ok (.invokestatic 145, 3) := dk_184 0 145 (dk_at dksX6_next_4 6 rfl rfl)
theorem dX6_next_100 : decode cX6_next 100 = .ok (.ifCond .eq 16, 3) := dk_153 0 16 (dk_at dksX6_next_4 9 rfl rfl)
theorem dX6_next_103 : decode cX6_next 103 = .ok (.aload_n 0, 1) := dk_42 (dk_at dksX6_next_4 12 rfl rfl)
theorem dX6_next_104 : decode cX6_next 104 = .ok (.dup, 1) := dk_89 (dk_at dksX6_next_4 13 rfl rfl)
theorem dX6_next_105 : decode cX6_next 105 = .ok (.getfield 136, 3) := dk_180 0 136 (dk_at dksX6_next_4 14 rfl rfl)
theorem dX6_next_108 : decode cX6_next 108 = .ok (.iconst 1, 1) := dk_4 (dk_at dksX6_next_4 17 rfl rfl)
theorem dX6_next_109 : decode cX6_next 109 = .ok (.iadd, 1) := dk_96 (dk_at dksX6_next_4 18 rfl rfl)
theorem dX6_next_110 : decode cX6_next 110 = .ok (.putfield 136, 3) := dk_181 0 136 (dk_at dksX6_next_4 19 rfl rfl)
theorem dX6_next_113 : decode cX6_next 113 = .ok (.goto (-24), 3) := dk_167 255 232 (dk_at dksX6_next_5 0 rfl rfl)
theorem dX6_next_116 : decode cX6_next 116 = .ok (.aload_n 0, 1) := dk_42 (dk_at dksX6_next_5 3 rfl rfl)
theorem dX6_next_117 : decode cX6_next 117 = .ok (.aload_n 0, 1) := dk_42 (dk_at dksX6_next_5 4 rfl rfl)
theorem dX6_next_118 : decode cX6_next 118 = .ok (.invokevirtual 149, 3) := dk_182 0 149 (dk_at dksX6_next_5 5 rfl rfl)
theorem dX6_next_121 : decode cX6_next 121 = .ok (.putfield 142, 3) := dk_181 0 142 (dk_at dksX6_next_5 8 rfl rfl)
theorem dX6_next_124 : decode cX6_next 124 = .ok (.goto 182, 3) := dk_167 0 182 (dk_at dksX6_next_5 11 rfl rfl)
theorem dX6_next_127 : decode cX6_next 127 = .ok (.aload_n 0, 1) := dk_42 (dk_at dksX6_next_5 14 rfl rfl)
theorem dX6_next_128 : decode cX6_next 128 = .ok (.aload_n 0, 1) := dk_42 (dk_at dksX6_next_5 15 rfl rfl)
theorem dX6_next_129 : decode cX6_next 129 = .ok (.getfield 133, 3) := dk_180 0 133 (dk_at dksX6_next_5 16 rfl rfl)
theorem dX6_next_132 : decode cX6_next 132 = .ok (.invokevirtual 139, 3) := dk_182 0 139 (dk_at dksX6_next_5 19 rfl rfl)
theorem dX6_next_135 : decode cX6_next 135 = .ok (.invokestatic 152, 3) := dk_184 0 152 (dk_at dksX6_next_6 0 rfl rfl)
theorem dX6_next_138 : decode cX6_next 138 = .ok (.ifCond .eq 98, 3) := dk_153 0 98 (dk_at dksX6_next_6 3 rfl rfl)
theorem dX6_next_141 : decode cX6_next 141 = .ok (.aload_n 0, 1) := dk_42 (dk_at dksX6_next_6 6 rfl rfl)
theorem dX6_next_142 : decode cX6_next 142 = .ok (.iconst 0, 1) := dk_3 (dk_at dksX6_next_6 7 rfl rfl)
theorem dX6_next_143 : decode cX6_next 143 = .ok (.putfield 155, 3) := dk_181 0 155 (dk_at dksX6_next_6 8 rfl rfl)
theorem dX6_next_146 : decode cX6_next 146 = .ok (.aload_n 0, 1) := dk_42 (dk_at dksX6_next_6 11 rfl rfl)
theorem dX6_next_147 : decode cX6_next 147 = .ok (.aload_n 0, 1) := dk_42 (dk_at dksX6_next_6 12 rfl rfl)
theorem dX6_next_148 : decode cX6_next 148 = .ok (.getfield 136, 3) := dk_180 0 136 (dk_at dksX6_next_6 13 rfl rfl)
theorem dX6_next_151 : decode cX6_next 151 = .ok (.invokevirtual 139, 3) := dk_182 0 139 (dk_at dksX6_next_6 16 rfl rfl)
theorem dX6_next_154 : decode cX6_next 154 = .ok (.invokestatic 152, 3) := dk_184 0 152 (dk_at dksX6_next_6 19 rfl rfl)
theorem dX6_next_157 : decode cX6_next 157 = .ok (.ifCond .eq 52, 3) := dk_153 0 52 (dk_at dksX6_next_7 0 rfl rfl)
theorem dX6_next_160 : decode cX6_next 160 = .ok (.aload_n 0, 1) := dk_42 (dk_at dksX6_next_7 3 rfl rfl)
theorem dX6_next_161 : decode cX6_next 161 = .ok (.getfield 136, 3) := dk_180 0 136 (dk_at dksX6_next_7 4 rfl rfl)
theorem dX6_next_164 : decode cX6_next 164 = .ok (.aload_n 0, 1) := dk_42 (dk_at dksX6_next_7 7 rfl rfl)
theorem dX6_next_165 : decode cX6_next 165 = .ok (.getfield 133, 3) := dk_180 0 133 (dk_at dksX6_next_7 8 rfl rfl)
theorem dX6_next_168 : decode cX6_next 168 = .ok (.isub, 1) := dk_100 (dk_at dksX6_next_7 11 rfl rfl)
theorem dX6_next_169 : decode cX6_next 169 = .ok (.iconst 3, 1) := dk_6 (dk_at dksX6_next_7 12 rfl rfl)
theorem dX6_next_170 : decode cX6_next 170 = .ok (.if_icmp .ge 26, 3) := dk_162 0 26 (dk_at dksX6_next_7 13 rfl rfl)
theorem dX6_next_173 : decode cX6_next 173 = .ok (.aload_n 0, 1) := dk_42 (dk_at dksX6_next_7 16 rfl rfl)
theorem dX6_next_174 : decode cX6_next 174 = .ok (.bipush 10, 2) := dk_16 10 (dk_at dksX6_next_7 17 rfl rfl)
theorem dX6_next_176 : decode cX6_next 176 = .ok (.aload_n 0, 1) := dk_42 (dk_at dksX6_next_7 19 rfl rfl)
theorem dX6_next_177 : decode cX6_next 177 = .ok (.getfield 155, 3) := dk_180 0 155 (dk_at dksX6_next_7 20 rfl rfl)
theorem dX6_next_180 : decode cX6_next 180 = .ok (.imul, 1) := dk_104 (dk_at dksX6_next_7 23 rfl rfl)
theorem dX6_next_181 : decode cX6_next 181 = .ok (.aload_n 0, 1) := dk_42 (dk_at dksX6_next_8 0 rfl rfl)
theorem dX6_next_182 : decode cX6_next 182 = .ok (.aload_n 0, 1) := dk_42 (dk_at dksX6_next_8 1 rfl rfl)
theorem dX6_next_183 : decode cX6_next 183 = .ok (.getfield 136, 3) := dk_180 0 136 (dk_at dksX6_next_8 2 rfl rfl)
theorem dX6_next_186 : decode cX6_next 186 = .ok (.invokevirtual 139, 3) := dk_182 0 139 (dk_at dksX6_next_8 5 rfl rfl)
theorem dX6_next_189 : decode cX6_next 189 = .ok (.iadd, 1) := dk_96 (dk_at dksX6_next_8 8 rfl rfl)
theorem dX6_next_190 : decode cX6_next 190 = .ok (.bipush 48, 2) := dk_16 48 (dk_at dksX6_next_8 9 rfl rfl)
theorem dX6_next_192 : decode cX6_next 192 = .ok (.isub, 1) := dk_100 (dk_at dksX6_next_8 11 rfl rfl)
theorem dX6_next_193 : decode cX6_next 193 = .ok (.putfield 155, 3) := dk_181 0 155 (dk_at dksX6_next_8 12 rfl rfl)
theorem dX6_next_196 : decode cX6_next 196 = .ok (.aload_n 0, 1) := dk_42 (dk_at dksX6_next_8 15 rfl rfl)
theorem dX6_next_197 : decode cX6_next 197 = .ok (.dup, 1) := dk_89 (dk_at dksX6_next_8 16 rfl rfl)
theorem dX6_next_198 : decode cX6_next 198 = .ok (.getfield 136, 3) := dk_180 0 136 (dk_at dksX6_next_8 17 rfl rfl)
theorem dX6_next_201 : decode cX6_next 201 = .ok (.iconst 1, 1) := dk_4 (dk_at dksX6_next_8 20 rfl rfl)
theorem dX6_next_202 : decode cX6_next 202 = .ok (.iadd, 1) := dk_96 (dk_at dksX6_next_8 21 rfl rfl)
theorem dX6_next_203 : decode cX6_next 203 = .ok (.putfield 136, 3) := dk_181 0 136 (dk_at dksX6_next_9 0 rfl rfl)
theorem dX6_next_206 : decode cX6_next 206 = .ok (.goto (-60), 3) := dk_167 255 196 (dk_at dksX6_next_9 3 rfl rfl)
theorem dX6_next_209 : decode cX6_next 209 = .ok (.aload_n 0, 1) := dk_42 (dk_at dksX6_next_9 6 rfl rfl)
theorem dX6_next_210 : decode cX6_next 210 = .ok (.aload_n 0, 1) := dk_42 (dk_at dksX6_next_9 7 rfl rfl)
theorem dX6_next_211 : decode cX6_next 211 = .ok (.getfield 136, 3) := dk_180 0 136 (dk_at dksX6_next_9 8 rfl rfl)
theorem dX6_next_214 : decode cX6_next 214 = .ok (.aload_n 0, 1) := dk_42 (dk_at dksX6_next_9 11 rfl rfl)
theorem dX6_next_215 : decode cX6_next 215 = .ok (.getfield 133, 3) := dk_180 0 133 (dk_at dksX6_next_9 12 rfl rfl)
theorem dX6_next_218 : decode cX6_next 218 = .ok (.isub, 1) := dk_100 (dk_at dksX6_next_9 15 rfl rfl)
theorem dX6_next_219 : decode cX6_next 219 = .ok (.iconst 3, 1) := dk_6 (dk_at dksX6_next_9 16 rfl rfl)
theorem dX6_next_220 : decode cX6_next 220 = .ok (.if_icmp .le 8, 3) := dk_164 0 8 (dk_at dksX6_next_9 17 rfl rfl)
theorem dX6_next_223 : decode cX6_next 223 = .ok (.bipush 19, 2) := dk_16 19 (dk_at dksX6_next_9 20 rfl rfl)
theorem dX6_next_225 : decode cX6_next 225 = .ok (.goto 5, 3) := dk_167 0 5 (dk_at dksX6_next_10 0 rfl rfl)
theorem dX6_next_228 : decode cX6_next 228 = .ok (.bipush 14, 2) := dk_16 14 (dk_at dksX6_next_10 3 rfl rfl)
theorem dX6_next_230 : decode cX6_next 230 = .ok (.putfield 142, 3) := dk_181 0 142 (dk_at dksX6_next_10 5 rfl rfl)
theorem dX6_next_233 : decode cX6_next 233 = .ok (.goto 73, 3) := dk_167 0 73 (dk_at dksX6_next_10 8 rfl rfl)
theorem dX6_next_236 : decode cX6_next 236 = .ok (.aload_n 0, 1) := dk_42 (dk_at dksX6_next_10 11 rfl rfl)
theorem dX6_next_237 : decode cX6_next 237 = .ok (.dup, 1) := dk_89 (dk_at dksX6_next_10 12 rfl rfl)
theorem dX6_next_238 : decode cX6_next 238 = .ok (.getfield 136, 3) := dk_180 0 136 (dk_at dksX6_next_10 13 rfl rfl)
theorem dX6_next_241 : decode cX6_next 241 = .ok (.iconst 1, 1) := dk_4 (dk_at dksX6_next_10 16 rfl rfl)
theorem dX6_next_242 : decode cX6_next 242 = .ok (.iadd, 1) := dk_96 (dk_at dksX6_next_10 17 rfl rfl)
theorem dX6_next_243 : decode cX6_next 243 = .ok (.putfield 136, 3) := dk_181 0 136 (dk_at dksX6_next_10 18 rfl rfl)
theorem dX6_next_246 : decode cX6_next 246 = .ok (.aload_n 0, 1) := dk_42 (dk_at dksX6_next_10 21 rfl rfl)
theorem dX6_next_247 : decode cX6_next 247 = .ok (.aload_n 0, 1) := dk_42 (dk_at dksX6_next_10 22 rfl rfl)
theorem dX6_next_248 : decode cX6_next 248 = .ok (.aload_n 0, 1) := dk_42 (dk_at dksX6_next_10 23 rfl rfl)
theorem dX6_next_249 : decode cX6_next 249 = .ok (.getfield 133, 3) := dk_180 0 133 (dk_at dksX6_next_11 0 rfl rfl)
theorem dX6_next_252 : decode cX6_next 252 = .ok (.invokevirtual 139, 3) := dk_182 0 139 (dk_at dksX6_next_11 3 rfl rfl)
theorem dX6_next_255 : decode cX6_next 255 = .ok (.bipush 59, 2) := dk_16 59 (dk_at dksX6_next_11 6 rfl rfl)
theorem dX6_next_257 : decode cX6_next 257 = .ok (.if_icmp .ne 8, 3) := dk_160 0 8 (dk_at dksX6_next_11 8 rfl rfl)
theorem dX6_next_260 : decode cX6_next 260 = .ok (.bipush 15, 2) := dk_16 15 (dk_at dksX6_next_11 11 rfl rfl)
theorem dX6_next_262 : decode cX6_next 262 = .ok (.goto 41, 3) := dk_167 0 41 (dk_at dksX6_next_11 13 rfl rfl)
theorem dX6_next_265 : decode cX6_next 265 = .ok (.aload_n 0, 1) := dk_42 (dk_at dksX6_next_11 16 rfl rfl)
theorem dX6_next_266 : decode cX6_next 266 = .ok (.aload_n 0, 1) := dk_42 (dk_at dksX6_next_11 17 rfl rfl)
theorem dX6_next_267 : decode cX6_next 267 = .ok (.getfield 133, 3) := dk_180 0 133 (dk_at dksX6_next_11 18 rfl rfl)
theorem dX6_next_270 : decode cX6_next 270 = .ok (.invokevirtual 139, 3) := dk_182 0 139 (dk_at dksX6_next_11 21 rfl rfl)
theorem dX6_next_273 : decode cX6_next 273 = .ok (.bipush 40, 2) := dk_16 40 (dk_at dksX6_next_12 0 rfl rfl)
theorem dX6_next_275 : decode cX6_next 275 = .ok (.if_icmp .ne 8, 3) := dk_160 0 8 (dk_at dksX6_next_12 2 rfl rfl)
theorem dX6_next_278 : decode cX6_next 278 = .ok (.bipush 16, 2) := dk_16 16 (dk_at dksX6_next_12 5 rfl rfl)
theorem dX6_next_280 : decode cX6_next 280 = .ok (.goto 23, 3) := dk_167 0 23 (dk_at dksX6_next_12 7 rfl rfl)
theorem dX6_next_283 : decode cX6_next 283 = .ok (.aload_n 0, 1) := dk_42 (dk_at dksX6_next_12 10 rfl rfl)
theorem dX6_next_284 : decode cX6_next 284 = .ok (.aload_n 0, 1) := dk_42 (dk_at dksX6_next_12 11 rfl rfl)
theorem dX6_next_285 : decode cX6_next 285 = .ok (.getfield 133, 3) := dk_180 0 133 (dk_at dksX6_next_12 12 rfl rfl)
theorem dX6_next_288 : decode cX6_next 288 = .ok (.invokevirtual 139, 3) := dk_182 0 139 (dk_at dksX6_next_12 15 rfl rfl)
theorem dX6_next_291 : decode cX6_next 291 = .ok (.bipush 41, 2) := dk_16 41 (dk_at dksX6_next_12 18 rfl rfl)
theorem dX6_next_293 : decode cX6_next 293 = .ok (.if_icmp .ne 8, 3) := dk_160 0 8 (dk_at dksX6_next_12 20 rfl rfl)
theorem dX6_next_296 : decode cX6_next 296 = .ok (.bipush 17, 2) := dk_16 17 (dk_at dksX6_next_13 0 rfl rfl)
theorem dX6_next_298 : decode cX6_next 298 = .ok (.goto 5, 3) := dk_167 0 5 (dk_at dksX6_next_13 2 rfl rfl)
theorem dX6_next_301 : decode cX6_next 301 = .ok (.bipush 19, 2) := dk_16 19 (dk_at dksX6_next_13 5 rfl rfl)
theorem dX6_next_303 : decode cX6_next 303 = .ok (.putfield 142, 3) := dk_181 0 142 (dk_at dksX6_next_13 7 rfl rfl)
theorem dX6_next_306 : decode cX6_next 306 = .ok (.return_, 1) := dk_177 (dk_at dksX6_next_13 10 rfl rfl)
abbrev cX6_see : ByteArray := prog_28_method_18_code
def yX6_see : MethodName := ⟨RX6, "see", "(I)I"⟩
def dkwX6_see_0 : List UInt8 := [27, 42, 180, 0, 118, 162, 0, 12, 42, 180, 0, 37, 27, 46, 167, 0, 4, 2, 172]
abbrev dktX6_see_0 : List UInt8 := dkwX6_see_0 ++ []
theorem dksX6_see_0 : cX6_see.data.toList.drop 0 = dktX6_see_0 := by decide +kernel
theorem dX6_see_0 : decode cX6_see 0 = .ok (.iload_n 1, 1) := dk_27 (dk_at dksX6_see_0 0 rfl rfl)
theorem dX6_see_1 : decode cX6_see 1 = .ok (.aload_n 0, 1) := dk_42 (dk_at dksX6_see_0 1 rfl rfl)
theorem dX6_see_2 : decode cX6_see 2 = .ok (.getfield 118, 3) := dk_180 0 118 (dk_at dksX6_see_0 2 rfl rfl)
theorem dX6_see_5 : decode cX6_see 5 = .ok (.if_icmp .ge 12, 3) := dk_162 0 12 (dk_at dksX6_see_0 5 rfl rfl)
theorem dX6_see_8 : decode cX6_see 8 = .ok (.aload_n 0, 1) := dk_42 (dk_at dksX6_see_0 8 rfl rfl)
theorem dX6_see_9 : decode cX6_see 9 = .ok (.getfield 37, 3) := dk_180 0 37 (dk_at dksX6_see_0 9 rfl rfl)
theorem dX6_see_12 : decode cX6_see 12 = .ok (.iload_n 1, 1) := dk_27 (dk_at dksX6_see_0 12 rfl rfl)
theorem dX6_see_13 : decode cX6_see 13 = .ok (.iaload, 1) := dk_46 (dk_at dksX6_see_0 13 rfl rfl)
theorem dX6_see_14 : decode cX6_see 14 = .ok (.goto 4, 3) := dk_167 0 4 (dk_at dksX6_see_0 14 rfl rfl)
theorem dX6_see_17 : decode cX6_see 17 = .ok (.iconst (-1), 1) := dk_2 (dk_at dksX6_see_0 17 rfl rfl)
theorem dX6_see_18 : decode cX6_see 18 = .ok (.ireturn, 1) := dk_172 (dk_at dksX6_see_0 18 rfl rfl)
abbrev cX6_isSmall : ByteArray := prog_28_method_19_code
def yX6_isSmall : MethodName := ⟨RX6, "isSmall", "(I)Z"⟩
def dkwX6_isSmall_0 : List UInt8 := [26, 16, 97, 161, 0, 13, 26, 16, 122, 163, 0, 7, 4, 167, 0, 4, 3, 172]
abbrev dktX6_isSmall_0 : List UInt8 := dkwX6_isSmall_0 ++ []
theorem dksX6_isSmall_0 : cX6_isSmall.data.toList.drop 0 = dktX6_isSmall_0 := by decide +kernel
theorem dX6_isSmall_0 : decode cX6_isSmall 0 = .ok (.iload_n 0, 1) := dk_26 (dk_at dksX6_isSmall_0 0 rfl rfl)
theorem dX6_isSmall_1 : decode cX6_isSmall 1 = .ok (.bipush 97, 2) := dk_16 97 (dk_at dksX6_isSmall_0 1 rfl rfl)
theorem dX6_isSmall_3 : decode cX6_isSmall 3 = .ok (.if_icmp .lt 13, 3) := dk_161 0 13 (dk_at dksX6_isSmall_0 3 rfl rfl)
theorem dX6_isSmall_6 : decode cX6_isSmall 6 = .ok (.iload_n 0, 1) := dk_26 (dk_at dksX6_isSmall_0 6 rfl rfl)
theorem dX6_isSmall_7 : decode cX6_isSmall 7 = .ok (.bipush 122, 2) := dk_16 122 (dk_at dksX6_isSmall_0 7 rfl rfl)
theorem dX6_isSmall_9 : decode cX6_isSmall 9 = .ok (.if_icmp .gt 7, 3) := dk_163 0 7 (dk_at dksX6_isSmall_0 9 rfl rfl)
theorem dX6_isSmall_12 : decode cX6_isSmall 12 = .ok (.iconst 1, 1) := dk_4 (dk_at dksX6_isSmall_0 12 rfl rfl)
theorem dX6_isSmall_13 : decode cX6_isSmall 13 = .ok (.goto 4, 3) := dk_167 0 4 (dk_at dksX6_isSmall_0 13 rfl rfl)
theorem dX6_isSmall_16 : decode cX6_isSmall 16 = .ok (.iconst 0, 1) := dk_3 (dk_at dksX6_isSmall_0 16 rfl rfl)
theorem dX6_isSmall_17 : decode cX6_isSmall 17 = .ok (.ireturn, 1) := dk_172 (dk_at dksX6_isSmall_0 17 rfl rfl)
abbrev cX6_keyAt : ByteArray := prog_28_method_21_code
def yX6_keyAt : MethodName := ⟨RX6, "keyAt", "()I"⟩
def dkwX6_keyAt_5 : List UInt8 := [132, 2, 1, 132, 1, 1, 167, 255, 140, 16, 13, 172]
abbrev dktX6_keyAt_5 : List UInt8 := dkwX6_keyAt_5 ++ []
def dkwX6_keyAt_4 : List UInt8 := [160, 0, 5, 27, 172, 18, 121, 28, 182, 0, 129, 16, 32, 159, 0, 9, 132, 2, 1, 167, 255, 242]
abbrev dktX6_keyAt_4 : List UInt8 := dkwX6_keyAt_4 ++ dktX6_keyAt_5
def dkwX6_keyAt_3 : List UInt8 := [18, 121, 28, 29, 96, 182, 0, 129, 16, 32, 160, 0, 18, 42, 180, 0, 133, 29, 96, 42, 180, 0, 136]
abbrev dktX6_keyAt_3 : List UInt8 := dkwX6_keyAt_3 ++ dktX6_keyAt_4
def dkwX6_keyAt_2 : List UInt8 := [180, 0, 133, 29, 96, 46, 18, 121, 28, 29, 96, 182, 0, 129, 160, 0, 9, 132, 3, 1, 167, 255, 205]
abbrev dktX6_keyAt_2 : List UInt8 := dkwX6_keyAt_2 ++ dktX6_keyAt_3
def dkwX6_keyAt_1 : List UInt8 := [16, 32, 159, 0, 44, 42, 180, 0, 133, 29, 96, 42, 180, 0, 136, 162, 0, 31, 42, 180, 0, 37, 42]
abbrev dktX6_keyAt_1 : List UInt8 := dkwX6_keyAt_1 ++ dktX6_keyAt_2
def dkwX6_keyAt_0 : List UInt8 := [3, 60, 4, 61, 28, 18, 121, 182, 0, 123, 162, 0, 113, 3, 62, 18, 121, 28, 29, 96, 182, 0, 129]
abbrev dktX6_keyAt_0 : List UInt8 := dkwX6_keyAt_0 ++ dktX6_keyAt_1
theorem dksX6_keyAt_0 : cX6_keyAt.data.toList.drop 0 = dktX6_keyAt_0 := by decide +kernel
theorem dksX6_keyAt_1 : cX6_keyAt.data.toList.drop 23 = dktX6_keyAt_1 := dk_seg dksX6_keyAt_0 23 rfl rfl
theorem dksX6_keyAt_2 : cX6_keyAt.data.toList.drop 46 = dktX6_keyAt_2 := dk_seg dksX6_keyAt_1 23 rfl rfl
theorem dksX6_keyAt_3 : cX6_keyAt.data.toList.drop 69 = dktX6_keyAt_3 := dk_seg dksX6_keyAt_2 23 rfl rfl
theorem dksX6_keyAt_4 : cX6_keyAt.data.toList.drop 92 = dktX6_keyAt_4 := dk_seg dksX6_keyAt_3 23 rfl rfl
theorem dksX6_keyAt_5 : cX6_keyAt.data.toList.drop 114 = dktX6_keyAt_5 := dk_seg dksX6_keyAt_4 22 rfl rfl
theorem dX6_keyAt_0 : decode cX6_keyAt 0 = .ok (.iconst 0, 1) := dk_3 (dk_at dksX6_keyAt_0 0 rfl rfl)
theorem dX6_keyAt_1 : decode cX6_keyAt 1 = .ok (.istore_n 1, 1) := dk_60 (dk_at dksX6_keyAt_0 1 rfl rfl)
theorem dX6_keyAt_2 : decode cX6_keyAt 2 = .ok (.iconst 1, 1) := dk_4 (dk_at dksX6_keyAt_0 2 rfl rfl)
theorem dX6_keyAt_3 : decode cX6_keyAt 3 = .ok (.istore_n 2, 1) := dk_61 (dk_at dksX6_keyAt_0 3 rfl rfl)
theorem dX6_keyAt_4 : decode cX6_keyAt 4 = .ok (.iload_n 2, 1) := dk_28 (dk_at dksX6_keyAt_0 4 rfl rfl)
theorem dX6_keyAt_5 : decode cX6_keyAt 5 = .ok (.ldc 121, 2) := dk_18 121 (dk_at dksX6_keyAt_0 5 rfl rfl)
theorem dX6_keyAt_7 : decode cX6_keyAt 7 = .ok (.invokevirtual 123, 3) := dk_182 0 123 (dk_at dksX6_keyAt_0 7 rfl rfl)
theorem dX6_keyAt_10 : decode cX6_keyAt 10 = .ok (.if_icmp .ge 113, 3) := dk_162 0 113 (dk_at dksX6_keyAt_0 10 rfl rfl)
theorem dX6_keyAt_13 : decode cX6_keyAt 13 = .ok (.iconst 0, 1) := dk_3 (dk_at dksX6_keyAt_0 13 rfl rfl)
theorem dX6_keyAt_14 : decode cX6_keyAt 14 = .ok (.istore_n 3, 1) := dk_62 (dk_at dksX6_keyAt_0 14 rfl rfl)
theorem dX6_keyAt_15 : decode cX6_keyAt 15 = .ok (.ldc 121, 2) := dk_18 121 (dk_at dksX6_keyAt_0 15 rfl rfl)
theorem dX6_keyAt_17 : decode cX6_keyAt 17 = .ok (.iload_n 2, 1) := dk_28 (dk_at dksX6_keyAt_0 17 rfl rfl)
theorem dX6_keyAt_18 : decode cX6_keyAt 18 = .ok (.iload_n 3, 1) := dk_29 (dk_at dksX6_keyAt_0 18 rfl rfl)
theorem dX6_keyAt_19 : decode cX6_keyAt 19 = .ok (.iadd, 1) := dk_96 (dk_at dksX6_keyAt_0 19 rfl rfl)
theorem dX6_keyAt_20 : decode cX6_keyAt 20 = .ok (.invokevirtual 129, 3) := dk_182 0 129 (dk_at dksX6_keyAt_0 20 rfl rfl)
theorem dX6_keyAt_23 : decode cX6_keyAt 23 = .ok (.bipush 32, 2) := dk_16 32 (dk_at dksX6_keyAt_1 0 rfl rfl)
theorem dX6_keyAt_25 : decode cX6_keyAt 25 = .ok (.if_icmp .eq 44, 3) := dk_159 0 44 (dk_at dksX6_keyAt_1 2 rfl rfl)
theorem dX6_keyAt_28 : decode cX6_keyAt 28 = .ok (.aload_n 0, 1) := dk_42 (dk_at dksX6_keyAt_1 5 rfl rfl)
theorem dX6_keyAt_29 : decode cX6_keyAt 29 = .ok (.getfield 133, 3) := dk_180 0 133 (dk_at dksX6_keyAt_1 6 rfl rfl)
theorem dX6_keyAt_32 : decode cX6_keyAt 32 = .ok (.iload_n 3, 1) := dk_29 (dk_at dksX6_keyAt_1 9 rfl rfl)
theorem dX6_keyAt_33 : decode cX6_keyAt 33 = .ok (.iadd, 1) := dk_96 (dk_at dksX6_keyAt_1 10 rfl rfl)
theorem dX6_keyAt_34 : decode cX6_keyAt 34 = .ok (.aload_n 0, 1) := dk_42 (dk_at dksX6_keyAt_1 11 rfl rfl)
theorem dX6_keyAt_35 : decode cX6_keyAt 35 = .ok (.getfield 136, 3) := dk_180 0 136 (dk_at dksX6_keyAt_1 12 rfl rfl)
theorem dX6_keyAt_38 : decode cX6_keyAt 38 = .ok (.if_icmp .ge 31, 3) := dk_162 0 31 (dk_at dksX6_keyAt_1 15 rfl rfl)
theorem dX6_keyAt_41 : decode cX6_keyAt 41 = .ok (.aload_n 0, 1) := dk_42 (dk_at dksX6_keyAt_1 18 rfl rfl)
theorem dX6_keyAt_42 : decode cX6_keyAt 42 = .ok (.getfield 37, 3) := dk_180 0 37 (dk_at dksX6_keyAt_1 19 rfl rfl)
theorem dX6_keyAt_45 : decode cX6_keyAt 45 = .ok (.aload_n 0, 1) := dk_42 (dk_at dksX6_keyAt_1 22 rfl rfl)
theorem dX6_keyAt_46 : decode cX6_keyAt 46 = .ok (.getfield 133, 3) := dk_180 0 133 (dk_at dksX6_keyAt_2 0 rfl rfl)
theorem dX6_keyAt_49 : decode cX6_keyAt 49 = .ok (.iload_n 3, 1) := dk_29 (dk_at dksX6_keyAt_2 3 rfl rfl)
theorem dX6_keyAt_50 : decode cX6_keyAt 50 = .ok (.iadd, 1) := dk_96 (dk_at dksX6_keyAt_2 4 rfl rfl)
theorem dX6_keyAt_51 : decode cX6_keyAt 51 = .ok (.iaload, 1) := dk_46 (dk_at dksX6_keyAt_2 5 rfl rfl)
theorem dX6_keyAt_52 : decode cX6_keyAt 52 = .ok (.ldc 121, 2) := dk_18 121 (dk_at dksX6_keyAt_2 6 rfl rfl)
theorem dX6_keyAt_54 : decode cX6_keyAt 54 = .ok (.iload_n 2, 1) := dk_28 (dk_at dksX6_keyAt_2 8 rfl rfl)
theorem dX6_keyAt_55 : decode cX6_keyAt 55 = .ok (.iload_n 3, 1) := dk_29 (dk_at dksX6_keyAt_2 9 rfl rfl)
theorem dX6_keyAt_56 : decode cX6_keyAt 56 = .ok (.iadd, 1) := dk_96 (dk_at dksX6_keyAt_2 10 rfl rfl)
theorem dX6_keyAt_57 : decode cX6_keyAt 57 = .ok (.invokevirtual 129, 3) := dk_182 0 129 (dk_at dksX6_keyAt_2 11 rfl rfl)
theorem dX6_keyAt_60 : decode cX6_keyAt 60 = .ok (.if_icmp .ne 9, 3) := dk_160 0 9 (dk_at dksX6_keyAt_2 14 rfl rfl)
theorem dX6_keyAt_63 : decode cX6_keyAt 63 = .ok (.iinc 3 1, 3) := dk_132 3 1 (dk_at dksX6_keyAt_2 17 rfl rfl)
theorem dX6_keyAt_66 : decode cX6_keyAt 66 = .ok (.goto (-51), 3) := dk_167 255 205 (dk_at dksX6_keyAt_2 20 rfl rfl)
theorem dX6_keyAt_69 : decode cX6_keyAt 69 = .ok (.ldc 121, 2) := dk_18 121 (dk_at dksX6_keyAt_3 0 rfl rfl)
theorem dX6_keyAt_71 : decode cX6_keyAt 71 = .ok (.iload_n 2, 1) := dk_28 (dk_at dksX6_keyAt_3 2 rfl rfl)
theorem dX6_keyAt_72 : decode cX6_keyAt 72 = .ok (.iload_n 3, 1) := dk_29 (dk_at dksX6_keyAt_3 3 rfl rfl)
theorem dX6_keyAt_73 : decode cX6_keyAt 73 = .ok (.iadd, 1) := dk_96 (dk_at dksX6_keyAt_3 4 rfl rfl)
theorem dX6_keyAt_74 : decode cX6_keyAt 74 = .ok (.invokevirtual 129, 3) := dk_182 0 129 (dk_at dksX6_keyAt_3 5 rfl rfl)
theorem dX6_keyAt_77 : decode cX6_keyAt 77 = .ok (.bipush 32, 2) := dk_16 32 (dk_at dksX6_keyAt_3 8 rfl rfl)
theorem dX6_keyAt_79 : decode cX6_keyAt 79 = .ok (.if_icmp .ne 18, 3) := dk_160 0 18 (dk_at dksX6_keyAt_3 10 rfl rfl)
theorem dX6_keyAt_82 : decode cX6_keyAt 82 = .ok (.aload_n 0, 1) := dk_42 (dk_at dksX6_keyAt_3 13 rfl rfl)
theorem dX6_keyAt_83 : decode cX6_keyAt 83 = .ok (.getfield 133, 3) := dk_180 0 133 (dk_at dksX6_keyAt_3 14 rfl rfl)
theorem dX6_keyAt_86 : decode cX6_keyAt 86 = .ok (.iload_n 3, 1) := dk_29 (dk_at dksX6_keyAt_3 17 rfl rfl)
theorem dX6_keyAt_87 : decode cX6_keyAt 87 = .ok (.iadd, 1) := dk_96 (dk_at dksX6_keyAt_3 18 rfl rfl)
theorem dX6_keyAt_88 : decode cX6_keyAt 88 = .ok (.aload_n 0, 1) := dk_42 (dk_at dksX6_keyAt_3 19 rfl rfl)
theorem dX6_keyAt_89 : decode cX6_keyAt 89 = .ok (.getfield 136, 3) := dk_180 0 136 (dk_at dksX6_keyAt_3 20 rfl rfl)
theorem dX6_keyAt_92 : decode cX6_keyAt 92 = .ok (.if_icmp .ne 5, 3) := dk_160 0 5 (dk_at dksX6_keyAt_4 0 rfl rfl)
theorem dX6_keyAt_95 : decode cX6_keyAt 95 = .ok (.iload_n 1, 1) := dk_27 (dk_at dksX6_keyAt_4 3 rfl rfl)
theorem dX6_keyAt_96 : decode cX6_keyAt 96 = .ok (.ireturn, 1) := dk_172 (dk_at dksX6_keyAt_4 4 rfl rfl)
theorem dX6_keyAt_97 : decode cX6_keyAt 97 = .ok (.ldc 121, 2) := dk_18 121 (dk_at dksX6_keyAt_4 5 rfl rfl)
theorem dX6_keyAt_99 : decode cX6_keyAt 99 = .ok (.iload_n 2, 1) := dk_28 (dk_at dksX6_keyAt_4 7 rfl rfl)
theorem dX6_keyAt_100 : decode cX6_keyAt 100 = .ok (.invokevirtual 129, 3) := dk_182 0 129 (dk_at dksX6_keyAt_4 8 rfl rfl)
theorem dX6_keyAt_103 : decode cX6_keyAt 103 = .ok (.bipush 32, 2) := dk_16 32 (dk_at dksX6_keyAt_4 11 rfl rfl)
theorem dX6_keyAt_105 : decode cX6_keyAt 105 = .ok (.if_icmp .eq 9, 3) := dk_159 0 9 (dk_at dksX6_keyAt_4 13 rfl rfl)
theorem dX6_keyAt_108 : decode cX6_keyAt 108 = .ok (.iinc 2 1, 3) := dk_132 2 1 (dk_at dksX6_keyAt_4 16 rfl rfl)
theorem dX6_keyAt_111 : decode cX6_keyAt 111 = .ok (.goto (-14), 3) := dk_167 255 242 (dk_at dksX6_keyAt_4 19 rfl rfl)
theorem dX6_keyAt_114 : decode cX6_keyAt 114 = .ok (.iinc 2 1, 3) := dk_132 2 1 (dk_at dksX6_keyAt_5 0 rfl rfl)
theorem dX6_keyAt_117 : decode cX6_keyAt 117 = .ok (.iinc 1 1, 3) := dk_132 1 1 (dk_at dksX6_keyAt_5 3 rfl rfl)
theorem dX6_keyAt_120 : decode cX6_keyAt 120 = .ok (.goto (-116), 3) := dk_167 255 140 (dk_at dksX6_keyAt_5 6 rfl rfl)
theorem dX6_keyAt_123 : decode cX6_keyAt 123 = .ok (.bipush 13, 2) := dk_16 13 (dk_at dksX6_keyAt_5 9 rfl rfl)
theorem dX6_keyAt_125 : decode cX6_keyAt 125 = .ok (.ireturn, 1) := dk_172 (dk_at dksX6_keyAt_5 11 rfl rfl)
abbrev cX6_isDigit : ByteArray := prog_28_method_20_code
def yX6_isDigit : MethodName := ⟨RX6, "isDigit", "(I)Z"⟩
def dkwX6_isDigit_0 : List UInt8 := [26, 16, 48, 161, 0, 13, 26, 16, 57, 163, 0, 7, 4, 167, 0, 4, 3, 172]
abbrev dktX6_isDigit_0 : List UInt8 := dkwX6_isDigit_0 ++ []
theorem dksX6_isDigit_0 : cX6_isDigit.data.toList.drop 0 = dktX6_isDigit_0 := by decide +kernel
theorem dX6_isDigit_0 : decode cX6_isDigit 0 = .ok (.iload_n 0, 1) := dk_26 (dk_at dksX6_isDigit_0 0 rfl rfl)
theorem dX6_isDigit_1 : decode cX6_isDigit 1 = .ok (.bipush 48, 2) := dk_16 48 (dk_at dksX6_isDigit_0 1 rfl rfl)
theorem dX6_isDigit_3 : decode cX6_isDigit 3 = .ok (.if_icmp .lt 13, 3) := dk_161 0 13 (dk_at dksX6_isDigit_0 3 rfl rfl)
theorem dX6_isDigit_6 : decode cX6_isDigit 6 = .ok (.iload_n 0, 1) := dk_26 (dk_at dksX6_isDigit_0 6 rfl rfl)
theorem dX6_isDigit_7 : decode cX6_isDigit 7 = .ok (.bipush 57, 2) := dk_16 57 (dk_at dksX6_isDigit_0 7 rfl rfl)
theorem dX6_isDigit_9 : decode cX6_isDigit 9 = .ok (.if_icmp .gt 7, 3) := dk_163 0 7 (dk_at dksX6_isDigit_0 9 rfl rfl)
theorem dX6_isDigit_12 : decode cX6_isDigit 12 = .ok (.iconst 1, 1) := dk_4 (dk_at dksX6_isDigit_0 12 rfl rfl)
theorem dX6_isDigit_13 : decode cX6_isDigit 13 = .ok (.goto 4, 3) := dk_167 0 4 (dk_at dksX6_isDigit_0 13 rfl rfl)
theorem dX6_isDigit_16 : decode cX6_isDigit 16 = .ok (.iconst 0, 1) := dk_3 (dk_at dksX6_isDigit_0 16 rfl rfl)
theorem dX6_isDigit_17 : decode cX6_isDigit 17 = .ok (.ireturn, 1) := dk_172 (dk_at dksX6_isDigit_0 17 rfl rfl)
abbrev cX6_readRule : ByteArray := prog_28_method_33_code
def yX6_readRule : MethodName := ⟨RX6, "readRule", "()V"⟩
def dkwX6_readRule_7 : List UInt8 := [4, 96, 79, 177]
abbrev dktX6_readRule_7 : List UInt8 := dkwX6_readRule_7 ++ []
def dkwX6_readRule_6 : List UInt8 := [17, 0, 133, 96, 28, 96, 42, 180, 0, 177, 79, 42, 16, 15, 182, 0, 196, 42, 180, 0, 31, 27, 92, 46]
abbrev dktX6_readRule_6 : List UInt8 := dkwX6_readRule_6 ++ dktX6_readRule_7
def dkwX6_readRule_5 : List UInt8 := [28, 96, 42, 180, 0, 177, 79, 42, 4, 182, 0, 170, 153, 0, 7, 42, 182, 0, 193, 42, 180, 0, 31, 27]
abbrev dktX6_readRule_5 : List UInt8 := dkwX6_readRule_5 ++ dktX6_readRule_6
def dkwX6_readRule_4 : List UInt8 := [21, 4, 79, 42, 180, 0, 31, 27, 16, 109, 96, 28, 96, 21, 5, 79, 42, 180, 0, 31, 27, 16, 121, 96]
abbrev dktX6_readRule_4 : List UInt8 := dkwX6_readRule_4 ++ dktX6_readRule_5
def dkwX6_readRule_3 : List UInt8 := [167, 0, 4, 3, 54, 5, 42, 180, 0, 158, 153, 0, 4, 177, 42, 180, 0, 31, 27, 16, 97, 96, 28, 96]
abbrev dktX6_readRule_3 : List UInt8 := dkwX6_readRule_3 ++ dktX6_readRule_4
def dkwX6_readRule_2 : List UInt8 := [182, 0, 196, 42, 180, 0, 158, 154, 0, 19, 42, 27, 16, 49, 96, 7, 28, 104, 96, 3, 182, 0, 203]
abbrev dktX6_readRule_2 : List UInt8 := dkwX6_readRule_2 ++ dktX6_readRule_3
def dkwX6_readRule_1 : List UInt8 := [27, 4, 96, 7, 29, 153, 0, 7, 3, 167, 0, 4, 28, 104, 96, 29, 182, 0, 203, 54, 4, 42, 3]
abbrev dktX6_readRule_1 : List UInt8 := dkwX6_readRule_1 ++ dktX6_readRule_2
def dkwX6_readRule_0 : List UInt8 := [17, 7, 143, 60, 42, 180, 0, 31, 27, 46, 61, 28, 16, 12, 160, 0, 7, 4, 167, 0, 4, 3, 62, 42]
abbrev dktX6_readRule_0 : List UInt8 := dkwX6_readRule_0 ++ dktX6_readRule_1
theorem dksX6_readRule_0 : cX6_readRule.data.toList.drop 0 = dktX6_readRule_0 := by decide +kernel
theorem dksX6_readRule_1 : cX6_readRule.data.toList.drop 24 = dktX6_readRule_1 := dk_seg dksX6_readRule_0 24 rfl rfl
theorem dksX6_readRule_2 : cX6_readRule.data.toList.drop 47 = dktX6_readRule_2 := dk_seg dksX6_readRule_1 23 rfl rfl
theorem dksX6_readRule_3 : cX6_readRule.data.toList.drop 70 = dktX6_readRule_3 := dk_seg dksX6_readRule_2 23 rfl rfl
theorem dksX6_readRule_4 : cX6_readRule.data.toList.drop 94 = dktX6_readRule_4 := dk_seg dksX6_readRule_3 24 rfl rfl
theorem dksX6_readRule_5 : cX6_readRule.data.toList.drop 118 = dktX6_readRule_5 := dk_seg dksX6_readRule_4 24 rfl rfl
theorem dksX6_readRule_6 : cX6_readRule.data.toList.drop 142 = dktX6_readRule_6 := dk_seg dksX6_readRule_5 24 rfl rfl
theorem dksX6_readRule_7 : cX6_readRule.data.toList.drop 166 = dktX6_readRule_7 := dk_seg dksX6_readRule_6 24 rfl rfl
theorem dX6_readRule_0 : decode cX6_readRule 0 = .ok (.sipush 1935, 3) := dk_17 7 143 (dk_at dksX6_readRule_0 0 rfl rfl)
theorem dX6_readRule_3 : decode cX6_readRule 3 = .ok (.istore_n 1, 1) := dk_60 (dk_at dksX6_readRule_0 3 rfl rfl)
theorem dX6_readRule_4 : decode cX6_readRule 4 = .ok (.aload_n 0, 1) := dk_42 (dk_at dksX6_readRule_0 4 rfl rfl)
theorem dX6_readRule_5 : decode cX6_readRule 5 = .ok (.getfield 31, 3) := dk_180 0 31 (dk_at dksX6_readRule_0 5 rfl rfl)
theorem dX6_readRule_8 : decode cX6_readRule 8 = .ok (.iload_n 1, 1) := dk_27 (dk_at dksX6_readRule_0 8 rfl rfl)
theorem dX6_readRule_9 : decode cX6_readRule 9 = .ok (.iaload, 1) := dk_46 (dk_at dksX6_readRule_0 9 rfl rfl)
theorem dX6_readRule_10 : decode cX6_readRule 10 = .ok (.istore_n 2, 1) := dk_61 (dk_at dksX6_readRule_0 10 rfl rfl)
theorem dX6_readRule_11 : decode cX6_readRule 11 = .ok (.iload_n 2, 1) := dk_28 (dk_at dksX6_readRule_0 11 rfl rfl)
theorem dX6_readRule_12 : decode cX6_readRule 12 = .ok (.bipush 12, 2) := dk_16 12 (dk_at dksX6_readRule_0 12 rfl rfl)
theorem dX6_readRule_14 : decode cX6_readRule 14 = .ok (.if_icmp .ne 7, 3) := dk_160 0 7 (dk_at dksX6_readRule_0 14 rfl rfl)
theorem dX6_readRule_17 : decode cX6_readRule 17 = .ok (.iconst 1, 1) := dk_4 (dk_at dksX6_readRule_0 17 rfl rfl)
theorem dX6_readRule_18 : decode cX6_readRule 18 = .ok (.goto 4, 3) := dk_167 0 4 (dk_at dksX6_readRule_0 18 rfl rfl)
theorem dX6_readRule_21 : decode cX6_readRule 21 = .ok (.iconst 0, 1) := dk_3 (dk_at dksX6_readRule_0 21 rfl rfl)
theorem dX6_readRule_22 : decode cX6_readRule 22 = .ok (.istore_n 3, 1) := dk_62 (dk_at dksX6_readRule_0 22 rfl rfl)
theorem dX6_readRule_23 : decode cX6_readRule 23 = .ok (.aload_n 0, 1) := dk_42 (dk_at dksX6_readRule_0 23 rfl rfl)
theorem dX6_readRule_24 : decode cX6_readRule 24 = .ok (.iload_n 1, 1) := dk_27 (dk_at dksX6_readRule_1 0 rfl rfl)
theorem dX6_readRule_25 : decode cX6_readRule 25 = .ok (.iconst 1, 1) := dk_4 (dk_at dksX6_readRule_1 1 rfl rfl)
theorem dX6_readRule_26 : decode cX6_readRule 26 = .ok (.iadd, 1) := dk_96 (dk_at dksX6_readRule_1 2 rfl rfl)
theorem dX6_readRule_27 : decode cX6_readRule 27 = .ok (.iconst 4, 1) := dk_7 (dk_at dksX6_readRule_1 3 rfl rfl)
theorem dX6_readRule_28 : decode cX6_readRule 28 = .ok (.iload_n 3, 1) := dk_29 (dk_at dksX6_readRule_1 4 rfl rfl)
theorem dX6_readRule_29 : decode cX6_readRule 29 = .ok (.ifCond .eq 7, 3) := dk_153 0 7 (dk_at dksX6_readRule_1 5 rfl rfl)
theorem dX6_readRule_32 : decode cX6_readRule 32 = .ok (.iconst 0, 1) := dk_3 (dk_at dksX6_readRule_1 8 rfl rfl)
theorem dX6_readRule_33 : decode cX6_readRule 33 = .ok (.goto 4, 3) := dk_167 0 4 (dk_at dksX6_readRule_1 9 rfl rfl)
theorem dX6_readRule_36 : decode cX6_readRule 36 = .ok (.iload_n 2, 1) := dk_28 (dk_at dksX6_readRule_1 12 rfl rfl)
theorem dX6_readRule_37 : decode cX6_readRule 37 = .ok (.imul, 1) := dk_104 (dk_at dksX6_readRule_1 13 rfl rfl)
theorem dX6_readRule_38 : decode cX6_readRule 38 = .ok (.iadd, 1) := dk_96 (dk_at dksX6_readRule_1 14 rfl rfl)
theorem dX6_readRule_39 : decode cX6_readRule 39 = .ok (.iload_n 3, 1) := dk_29 (dk_at dksX6_readRule_1 15 rfl rfl)
theorem dX6_readRule_40 : decode cX6_readRule 40 = .ok (.invokevirtual 203, 3) := dk_182 0 203 (dk_at dksX6_readRule_1 16 rfl rfl)
theorem dX6_readRule_43 : decode cX6_readRule 43 = .ok (.istore 4, 2) := dk_54 4 (dk_at dksX6_readRule_1 19 rfl rfl)
theorem dX6_readRule_45 : decode cX6_readRule 45 = .ok (.aload_n 0, 1) := dk_42 (dk_at dksX6_readRule_1 21 rfl rfl)
theorem dX6_readRule_46 : decode cX6_readRule 46 = .ok (.iconst 0, 1) := dk_3 (dk_at dksX6_readRule_1 22 rfl rfl)
theorem dX6_readRule_47 : decode cX6_readRule 47 = .ok (.invokevirtual 196, 3) := dk_182 0 196 (dk_at dksX6_readRule_2 0 rfl rfl)
theorem dX6_readRule_50 : decode cX6_readRule 50 = .ok (.aload_n 0, 1) := dk_42 (dk_at dksX6_readRule_2 3 rfl rfl)
theorem dX6_readRule_51 : decode cX6_readRule 51 = .ok (.getfield 158, 3) := dk_180 0 158 (dk_at dksX6_readRule_2 4 rfl rfl)
theorem dX6_readRule_54 : decode cX6_readRule 54 = .ok (.ifCond .ne 19, 3) := dk_154 0 19 (dk_at dksX6_readRule_2 7 rfl rfl)
theorem dX6_readRule_57 : decode cX6_readRule 57 = .ok (.aload_n 0, 1) := dk_42 (dk_at dksX6_readRule_2 10 rfl rfl)
theorem dX6_readRule_58 : decode cX6_readRule 58 = .ok (.iload_n 1, 1) := dk_27 (dk_at dksX6_readRule_2 11 rfl rfl)
theorem dX6_readRule_59 : decode cX6_readRule 59 = .ok (.bipush 49, 2) := dk_16 49 (dk_at dksX6_readRule_2 12 rfl rfl)
theorem dX6_readRule_61 : decode cX6_readRule 61 = .ok (.iadd, 1) := dk_96 (dk_at dksX6_readRule_2 14 rfl rfl)
theorem dX6_readRule_62 : decode cX6_readRule 62 = .ok (.iconst 4, 1) := dk_7 (dk_at dksX6_readRule_2 15 rfl rfl)
theorem dX6_readRule_63 : decode cX6_readRule 63 = .ok (.iload_n 2, 1) := dk_28 (dk_at dksX6_readRule_2 16 rfl rfl)
theorem dX6_readRule_64 : decode cX6_readRule 64 = .ok (.imul, 1) := dk_104 (dk_at dksX6_readRule_2 17 rfl rfl)
theorem dX6_readRule_65 : decode cX6_readRule 65 = .ok (.iadd, 1) := dk_96 (dk_at dksX6_readRule_2 18 rfl rfl)
theorem dX6_readRule_66 : decode cX6_readRule 66 = .ok (.iconst 0, 1) := dk_3 (dk_at dksX6_readRule_2 19 rfl rfl)
theorem dX6_readRule_67 : decode cX6_readRule 67 = .ok (.invokevirtual 203, 3) := dk_182 0 203 (dk_at dksX6_readRule_2 20 rfl rfl)
theorem dX6_readRule_70 : decode cX6_readRule 70 = .ok (.goto 4, 3) := dk_167 0 4 (dk_at dksX6_readRule_3 0 rfl rfl)
theorem dX6_readRule_73 : decode cX6_readRule 73 = .ok (.iconst 0, 1) := dk_3 (dk_at dksX6_readRule_3 3 rfl rfl)
theorem dX6_readRule_74 : decode cX6_readRule 74 = .ok (.istore 5, 2) := dk_54 5 (dk_at dksX6_readRule_3 4 rfl rfl)
theorem dX6_readRule_76 : decode cX6_readRule 76 = .ok (.aload_n 0, 1) := dk_42 (dk_at dksX6_readRule_3 6 rfl rfl)
theorem dX6_readRule_77 : decode cX6_readRule 77 = .ok (.getfield 158, 3) := dk_180 0 158 (dk_at dksX6_readRule_3 7 rfl rfl)
theorem dX6_readRule_80 : decode cX6_readRule 80 = .ok (.ifCond .eq 4, 3) := dk_153 0 4 (dk_at dksX6_readRule_3 10 rfl rfl)
theorem dX6_readRule_83 : decode cX6_readRule 83 = .ok (.return_, 1) := dk_177 (dk_at dksX6_readRule_3 13 rfl rfl)
theorem dX6_readRule_84 : decode cX6_readRule 84 = .ok (.aload_n 0, 1) := dk_42 (dk_at dksX6_readRule_3 14 rfl rfl)
theorem dX6_readRule_85 : decode cX6_readRule 85 = .ok (.getfield 31, 3) := dk_180 0 31 (dk_at dksX6_readRule_3 15 rfl rfl)
theorem dX6_readRule_88 : decode cX6_readRule 88 = .ok (.iload_n 1, 1) := dk_27 (dk_at dksX6_readRule_3 18 rfl rfl)
theorem dX6_readRule_89 : decode cX6_readRule 89 = .ok (.bipush 97, 2) := dk_16 97 (dk_at dksX6_readRule_3 19 rfl rfl)
theorem dX6_readRule_91 : decode cX6_readRule 91 = .ok (.iadd, 1) := dk_96 (dk_at dksX6_readRule_3 21 rfl rfl)
theorem dX6_readRule_92 : decode cX6_readRule 92 = .ok (.iload_n 2, 1) := dk_28 (dk_at dksX6_readRule_3 22 rfl rfl)
theorem dX6_readRule_93 : decode cX6_readRule 93 = .ok (.iadd, 1) := dk_96 (dk_at dksX6_readRule_3 23 rfl rfl)
theorem dX6_readRule_94 : decode cX6_readRule 94 = .ok (.iload 4, 2) := dk_21 4 (dk_at dksX6_readRule_4 0 rfl rfl)
theorem dX6_readRule_96 : decode cX6_readRule 96 = .ok (.iastore, 1) := dk_79 (dk_at dksX6_readRule_4 2 rfl rfl)
theorem dX6_readRule_97 : decode cX6_readRule 97 = .ok (.aload_n 0, 1) := dk_42 (dk_at dksX6_readRule_4 3 rfl rfl)
theorem dX6_readRule_98 : decode cX6_readRule 98 = .ok (.getfield 31, 3) := dk_180 0 31 (dk_at dksX6_readRule_4 4 rfl rfl)
theorem dX6_readRule_101 : decode cX6_readRule 101 = .ok (.iload_n 1, 1) := dk_27 (dk_at dksX6_readRule_4 7 rfl rfl)
theorem dX6_readRule_102 : decode cX6_readRule 102 = .ok (.bipush 109, 2) := dk_16 109 (dk_at dksX6_readRule_4 8 rfl rfl)
theorem dX6_readRule_104 : decode cX6_readRule 104 = .ok (.iadd, 1) := dk_96 (dk_at dksX6_readRule_4 10 rfl rfl)
theorem dX6_readRule_105 : decode cX6_readRule 105 = .ok (.iload_n 2, 1) := dk_28 (dk_at dksX6_readRule_4 11 rfl rfl)
theorem dX6_readRule_106 : decode cX6_readRule 106 = .ok (.iadd, 1) := dk_96 (dk_at dksX6_readRule_4 12 rfl rfl)
theorem dX6_readRule_107 : decode cX6_readRule 107 = .ok (.iload 5, 2) := dk_21 5 (dk_at dksX6_readRule_4 13 rfl rfl)
theorem dX6_readRule_109 : decode cX6_readRule 109 = .ok (.iastore, 1) := dk_79 (dk_at dksX6_readRule_4 15 rfl rfl)
theorem dX6_readRule_110 : decode cX6_readRule 110 = .ok (.aload_n 0, 1) := dk_42 (dk_at dksX6_readRule_4 16 rfl rfl)
theorem dX6_readRule_111 : decode cX6_readRule 111 = .ok (.getfield 31, 3) := dk_180 0 31 (dk_at dksX6_readRule_4 17 rfl rfl)
theorem dX6_readRule_114 : decode cX6_readRule 114 = .ok (.iload_n 1, 1) := dk_27 (dk_at dksX6_readRule_4 20 rfl rfl)
theorem dX6_readRule_115 : decode cX6_readRule 115 = .ok (.bipush 121, 2) := dk_16 121 (dk_at dksX6_readRule_4 21 rfl rfl)
theorem dX6_readRule_117 : decode cX6_readRule 117 = .ok (.iadd, 1) := dk_96 (dk_at dksX6_readRule_4 23 rfl rfl)
theorem dX6_readRule_118 : decode cX6_readRule 118 = .ok (.iload_n 2, 1) := dk_28 (dk_at dksX6_readRule_5 0 rfl rfl)
theorem dX6_readRule_119 : decode cX6_readRule 119 = .ok (.iadd, 1) := dk_96 (dk_at dksX6_readRule_5 1 rfl rfl)
theorem dX6_readRule_120 : decode cX6_readRule 120 = .ok (.aload_n 0, 1) := dk_42 (dk_at dksX6_readRule_5 2 rfl rfl)
theorem dX6_readRule_121 : decode cX6_readRule 121 = .ok (.getfield 177, 3) := dk_180 0 177 (dk_at dksX6_readRule_5 3 rfl rfl)
theorem dX6_readRule_124 : decode cX6_readRule 124 = .ok (.iastore, 1) := dk_79 (dk_at dksX6_readRule_5 6 rfl rfl)
theorem dX6_readRule_125 : decode cX6_readRule 125 = .ok (.aload_n 0, 1) := dk_42 (dk_at dksX6_readRule_5 7 rfl rfl)
theorem dX6_readRule_126 : decode cX6_readRule 126 = .ok (.iconst 1, 1) := dk_4 (dk_at dksX6_readRule_5 8 rfl rfl)
theorem dX6_readRule_127 : decode cX6_readRule 127 = .ok (.invokevirtual 170, 3) := dk_182 0 170 (dk_at dksX6_readRule_5 9 rfl rfl)
theorem dX6_readRule_130 : decode cX6_readRule 130 = .ok (.ifCond .eq 7, 3) := dk_153 0 7 (dk_at dksX6_readRule_5 12 rfl rfl)
theorem dX6_readRule_133 : decode cX6_readRule 133 = .ok (.aload_n 0, 1) := dk_42 (dk_at dksX6_readRule_5 15 rfl rfl)
theorem dX6_readRule_134 : decode cX6_readRule 134 = .ok (.invokevirtual 193, 3) := dk_182 0 193 (dk_at dksX6_readRule_5 16 rfl rfl)
theorem dX6_readRule_137 : decode cX6_readRule 137 = .ok (.aload_n 0, 1) := dk_42 (dk_at dksX6_readRule_5 19 rfl rfl)
theorem dX6_readRule_138 : decode cX6_readRule 138 = .ok (.getfield 31, 3) := dk_180 0 31 (dk_at dksX6_readRule_5 20 rfl rfl)
theorem dX6_readRule_141 : decode cX6_readRule 141 = .ok (.iload_n 1, 1) := dk_27 (dk_at dksX6_readRule_5 23 rfl rfl)
theorem dX6_readRule_142 : decode cX6_readRule 142 = .ok (.sipush 133, 3) := dk_17 0 133 (dk_at dksX6_readRule_6 0 rfl rfl)
theorem dX6_readRule_145 : decode cX6_readRule 145 = .ok (.iadd, 1) := dk_96 (dk_at dksX6_readRule_6 3 rfl rfl)
theorem dX6_readRule_146 : decode cX6_readRule 146 = .ok (.iload_n 2, 1) := dk_28 (dk_at dksX6_readRule_6 4 rfl rfl)
theorem dX6_readRule_147 : decode cX6_readRule 147 = .ok (.iadd, 1) := dk_96 (dk_at dksX6_readRule_6 5 rfl rfl)
theorem dX6_readRule_148 : decode cX6_readRule 148 = .ok (.aload_n 0, 1) := dk_42 (dk_at dksX6_readRule_6 6 rfl rfl)
theorem dX6_readRule_149 : decode cX6_readRule 149 = .ok (.getfield 177, 3) := dk_180 0 177 (dk_at dksX6_readRule_6 7 rfl rfl)
theorem dX6_readRule_152 : decode cX6_readRule 152 = .ok (.iastore, 1) := dk_79 (dk_at dksX6_readRule_6 10 rfl rfl)
theorem dX6_readRule_153 : decode cX6_readRule 153 = .ok (.aload_n 0, 1) := dk_42 (dk_at dksX6_readRule_6 11 rfl rfl)
theorem dX6_readRule_154 : decode cX6_readRule 154 = .ok (.bipush 15, 2) := dk_16 15 (dk_at dksX6_readRule_6 12 rfl rfl)
theorem dX6_readRule_156 : decode cX6_readRule 156 = .ok (.invokevirtual 196, 3) := dk_182 0 196 (dk_at dksX6_readRule_6 14 rfl rfl)
theorem dX6_readRule_159 : decode cX6_readRule 159 = .ok (.aload_n 0, 1) := dk_42 (dk_at dksX6_readRule_6 17 rfl rfl)
theorem dX6_readRule_160 : decode cX6_readRule 160 = .ok (.getfield 31, 3) := dk_180 0 31 (dk_at dksX6_readRule_6 18 rfl rfl)
theorem dX6_readRule_163 : decode cX6_readRule 163 = .ok (.iload_n 1, 1) := dk_27 (dk_at dksX6_readRule_6 21 rfl rfl)
theorem dX6_readRule_164 : decode cX6_readRule 164 = .ok (.dup2, 1) := dk_92 (dk_at dksX6_readRule_6 22 rfl rfl)
theorem dX6_readRule_165 : decode cX6_readRule 165 = .ok (.iaload, 1) := dk_46 (dk_at dksX6_readRule_6 23 rfl rfl)
theorem dX6_readRule_166 : decode cX6_readRule 166 = .ok (.iconst 1, 1) := dk_4 (dk_at dksX6_readRule_7 0 rfl rfl)
theorem dX6_readRule_167 : decode cX6_readRule 167 = .ok (.iadd, 1) := dk_96 (dk_at dksX6_readRule_7 1 rfl rfl)
theorem dX6_readRule_168 : decode cX6_readRule 168 = .ok (.iastore, 1) := dk_79 (dk_at dksX6_readRule_7 2 rfl rfl)
theorem dX6_readRule_169 : decode cX6_readRule 169 = .ok (.return_, 1) := dk_177 (dk_at dksX6_readRule_7 3 rfl rfl)
abbrev cX6_side : ByteArray := prog_28_method_32_code
def yX6_side : MethodName := ⟨RX6, "side", "(IZ)I"⟩
def dkwX6_side_3 : List UInt8 := [172]
abbrev dktX6_side_3 : List UInt8 := dkwX6_side_3 ++ []
def dkwX6_side_2 : List UInt8 := [180, 0, 31, 27, 29, 96, 21, 5, 79, 132, 3, 1, 42, 16, 14, 182, 0, 164, 54, 4, 167, 255, 195, 29]
abbrev dktX6_side_2 : List UInt8 := dkwX6_side_2 ++ dktX6_side_3
def dkwX6_side_1 : List UInt8 := [7, 160, 0, 7, 4, 167, 0, 4, 3, 182, 0, 199, 54, 5, 42, 180, 0, 158, 154, 0, 13, 42]
abbrev dktX6_side_1 : List UInt8 := dkwX6_side_1 ++ dktX6_side_2
def dkwX6_side_0 : List UInt8 := [3, 62, 4, 54, 4, 21, 4, 153, 0, 62, 42, 4, 17, 0, 255, 29, 154, 0, 7, 28, 167, 0, 13, 29]
abbrev dktX6_side_0 : List UInt8 := dkwX6_side_0 ++ dktX6_side_1
theorem dksX6_side_0 : cX6_side.data.toList.drop 0 = dktX6_side_0 := by decide +kernel
theorem dksX6_side_1 : cX6_side.data.toList.drop 24 = dktX6_side_1 := dk_seg dksX6_side_0 24 rfl rfl
theorem dksX6_side_2 : cX6_side.data.toList.drop 46 = dktX6_side_2 := dk_seg dksX6_side_1 22 rfl rfl
theorem dksX6_side_3 : cX6_side.data.toList.drop 70 = dktX6_side_3 := dk_seg dksX6_side_2 24 rfl rfl
theorem dX6_side_0 : decode cX6_side 0 = .ok (.iconst 0, 1) := dk_3 (dk_at dksX6_side_0 0 rfl rfl)
theorem dX6_side_1 : decode cX6_side 1 = .ok (.istore_n 3, 1) := dk_62 (dk_at dksX6_side_0 1 rfl rfl)
theorem dX6_side_2 : decode cX6_side 2 = .ok (.iconst 1, 1) := dk_4 (dk_at dksX6_side_0 2 rfl rfl)
theorem dX6_side_3 : decode cX6_side 3 = .ok (.istore 4, 2) := dk_54 4 (dk_at dksX6_side_0 3 rfl rfl)
theorem dX6_side_5 : decode cX6_side 5 = .ok (.iload 4, 2) := dk_21 4 (dk_at dksX6_side_0 5 rfl rfl)
theorem dX6_side_7 : decode cX6_side 7 = .ok (.ifCond .eq 62, 3) := dk_153 0 62 (dk_at dksX6_side_0 7 rfl rfl)
theorem dX6_side_10 : decode cX6_side 10 = .ok (.aload_n 0, 1) := dk_42 (dk_at dksX6_side_0 10 rfl rfl)
theorem dX6_side_11 : decode cX6_side 11 = .ok (.iconst 1, 1) := dk_4 (dk_at dksX6_side_0 11 rfl rfl)
theorem dX6_side_12 : decode cX6_side 12 = .ok (.sipush 255, 3) := dk_17 0 255 (dk_at dksX6_side_0 12 rfl rfl)
theorem dX6_side_15 : decode cX6_side 15 = .ok (.iload_n 3, 1) := dk_29 (dk_at dksX6_side_0 15 rfl rfl)
theorem dX6_side_16 : decode cX6_side 16 = .ok (.ifCond .ne 7, 3) := dk_154 0 7 (dk_at dksX6_side_0 16 rfl rfl)
theorem dX6_side_19 : decode cX6_side 19 = .ok (.iload_n 2, 1) := dk_28 (dk_at dksX6_side_0 19 rfl rfl)
theorem dX6_side_20 : decode cX6_side 20 = .ok (.goto 13, 3) := dk_167 0 13 (dk_at dksX6_side_0 20 rfl rfl)
theorem dX6_side_23 : decode cX6_side 23 = .ok (.iload_n 3, 1) := dk_29 (dk_at dksX6_side_0 23 rfl rfl)
theorem dX6_side_24 : decode cX6_side 24 = .ok (.iconst 4, 1) := dk_7 (dk_at dksX6_side_1 0 rfl rfl)
theorem dX6_side_25 : decode cX6_side 25 = .ok (.if_icmp .ne 7, 3) := dk_160 0 7 (dk_at dksX6_side_1 1 rfl rfl)
theorem dX6_side_28 : decode cX6_side 28 = .ok (.iconst 1, 1) := dk_4 (dk_at dksX6_side_1 4 rfl rfl)
theorem dX6_side_29 : decode cX6_side 29 = .ok (.goto 4, 3) := dk_167 0 4 (dk_at dksX6_side_1 5 rfl rfl)
theorem dX6_side_32 : decode cX6_side 32 = .ok (.iconst 0, 1) := dk_3 (dk_at dksX6_side_1 8 rfl rfl)
theorem dX6_side_33 : decode cX6_side 33 = .ok (.invokevirtual 199, 3) := dk_182 0 199 (dk_at dksX6_side_1 9 rfl rfl)
theorem dX6_side_36 : decode cX6_side 36 = .ok (.istore 5, 2) := dk_54 5 (dk_at dksX6_side_1 12 rfl rfl)
theorem dX6_side_38 : decode cX6_side 38 = .ok (.aload_n 0, 1) := dk_42 (dk_at dksX6_side_1 14 rfl rfl)
theorem dX6_side_39 : decode cX6_side 39 = .ok (.getfield 158, 3) := dk_180 0 158 (dk_at dksX6_side_1 15 rfl rfl)
theorem dX6_side_42 : decode cX6_side 42 = .ok (.ifCond .ne 13, 3) := dk_154 0 13 (dk_at dksX6_side_1 18 rfl rfl)
theorem dX6_side_45 : decode cX6_side 45 = .ok (.aload_n 0, 1) := dk_42 (dk_at dksX6_side_1 21 rfl rfl)
theorem dX6_side_46 : decode cX6_side 46 = .ok (.getfield 31, 3) := dk_180 0 31 (dk_at dksX6_side_2 0 rfl rfl)
theorem dX6_side_49 : decode cX6_side 49 = .ok (.iload_n 1, 1) := dk_27 (dk_at dksX6_side_2 3 rfl rfl)
theorem dX6_side_50 : decode cX6_side 50 = .ok (.iload_n 3, 1) := dk_29 (dk_at dksX6_side_2 4 rfl rfl)
theorem dX6_side_51 : decode cX6_side 51 = .ok (.iadd, 1) := dk_96 (dk_at dksX6_side_2 5 rfl rfl)
theorem dX6_side_52 : decode cX6_side 52 = .ok (.iload 5, 2) := dk_21 5 (dk_at dksX6_side_2 6 rfl rfl)
theorem dX6_side_54 : decode cX6_side 54 = .ok (.iastore, 1) := dk_79 (dk_at dksX6_side_2 8 rfl rfl)
theorem dX6_side_55 : decode cX6_side 55 = .ok (.iinc 3 1, 3) := dk_132 3 1 (dk_at dksX6_side_2 9 rfl rfl)
theorem dX6_side_58 : decode cX6_side 58 = .ok (.aload_n 0, 1) := dk_42 (dk_at dksX6_side_2 12 rfl rfl)
theorem dX6_side_59 : decode cX6_side 59 = .ok (.bipush 14, 2) := dk_16 14 (dk_at dksX6_side_2 13 rfl rfl)
theorem dX6_side_61 : decode cX6_side 61 = .ok (.invokevirtual 164, 3) := dk_182 0 164 (dk_at dksX6_side_2 15 rfl rfl)
theorem dX6_side_64 : decode cX6_side 64 = .ok (.istore 4, 2) := dk_54 4 (dk_at dksX6_side_2 18 rfl rfl)
theorem dX6_side_66 : decode cX6_side 66 = .ok (.goto (-61), 3) := dk_167 255 195 (dk_at dksX6_side_2 20 rfl rfl)
theorem dX6_side_69 : decode cX6_side 69 = .ok (.iload_n 3, 1) := dk_29 (dk_at dksX6_side_2 23 rfl rfl)
theorem dX6_side_70 : decode cX6_side 70 = .ok (.ireturn, 1) := dk_172 (dk_at dksX6_side_3 0 rfl rfl)
