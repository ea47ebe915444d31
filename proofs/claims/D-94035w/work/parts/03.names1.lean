set_option maxRecDepth 100000
/-! NobodysBard$Rule -/
set_option maxRecDepth 100000
def RX11 : String := "NobodysBard$Rule"
def TX11 : u_T := fun k => match k with
  | 0 => ("NobodysBard$Rule", "from", "LNobodysBard$Phrase;", true)
  | 1 => ("NobodysBard$Rule", "to", "LNobodysBard$Phrase;", true)
  | _ => ("NobodysBard$Rule", "test", "LNobodysBard$Test;", false)
def tyX11 : Nat → FieldType := fun k => match k with
  | 0 => .object "NobodysBard$Phrase"
  | 1 => .object "NobodysBard$Phrase"
  | _ => .object "NobodysBard$Test"
abbrev wsX110 : List Cond := u_ws RX11 TX11 3
theorem nmX11 : ∀ a, a < 3 → ∀ b, b < 3 → a ≠ b → (TX11 a).2.1 ≠ (TX11 b).2.1 := by decide +kernel
theorem tyX11_ok : ∀ k, k < 3 → parseFieldDescriptor (TX11 k).2.2.1 = some (tyX11 k) := by decide +kernel
abbrev cX11_init : ByteArray := prog_21_method_1_code
def yX11_init : MethodName := ⟨RX11, "<init>", "()V"⟩
def dkwX11_init_1 : List UInt8 := [181, 0, 18, 177]
abbrev dktX11_init_1 : List UInt8 := dkwX11_init_1 ++ []
def dkwX11_init_0 : List UInt8 := [42, 183, 0, 3, 42, 187, 0, 9, 89, 183, 0, 11, 181, 0, 12, 42, 187, 0, 9, 89, 183, 0, 11]
abbrev dktX11_init_0 : List UInt8 := dkwX11_init_0 ++ dktX11_init_1
theorem dksX11_init_0 : cX11_init.data.toList.drop 0 = dktX11_init_0 := by decide +kernel
theorem dksX11_init_1 : cX11_init.data.toList.drop 23 = dktX11_init_1 := dk_seg dksX11_init_0 23 rfl rfl
theorem dX11_init_0 : decode cX11_init 0 = .ok (.aload_n 0, 1) := dk_42 (dk_at dksX11_init_0 0 rfl rfl)
theorem dX11_init_1 : decode cX11_init 1 = .ok (.invokespecial 3, 3) := dk_183 0 3 (dk_at dksX11_init_0 1 rfl rfl)
theorem dX11_init_4 : decode cX11_init 4 = .ok (.aload_n 0, 1) := dk_42 (dk_at dksX11_init_0 4 rfl rfl)
theorem dX11_init_5 : decode cX11_init 5 = .ok (.new 9, 3) := dk_187 0 9 (dk_at dksX11_init_0 5 rfl rfl)
theorem dX11_init_8 : decode cX11_init 8 = .ok (.dup, 1) := dk_89 (dk_at dksX11_init_0 8 rfl rfl)
theorem dX11_init_9 : decode cX11_init 9 = .ok (.invokespecial 11, 3) := dk_183 0 11 (dk_at dksX11_init_0 9 rfl rfl)
theorem dX11_init_12 : decode cX11_init 12 = .ok (.putfield 12, 3) := dk_181 0 12 (dk_at dksX11_init_0 12 rfl rfl)
theorem dX11_init_15 : decode cX11_init 15 = .ok (.aload_n 0, 1) := dk_42 (dk_at dksX11_init_0 15 rfl rfl)
theorem dX11_init_16 : decode cX11_init 16 = .ok (.new 9, 3) := dk_187 0 9 (dk_at dksX11_init_0 16 rfl rfl)
theorem dX11_init_19 : decode cX11_init 19 = .ok (.dup, 1) := dk_89 (dk_at dksX11_init_0 19 rfl rfl)
theorem dX11_init_20 : decode cX11_init 20 = .ok (.invokespecial 11, 3) := dk_183 0 11 (dk_at dksX11_init_0 20 rfl rfl)
theorem dX11_init_23 : decode cX11_init 23 = .ok (.putfield 18, 3) := dk_181 0 18 (dk_at dksX11_init_1 0 rfl rfl)
theorem dX11_init_26 : decode cX11_init 26 = .ok (.return_, 1) := dk_177 (dk_at dksX11_init_1 3 rfl rfl)
abbrev cX11_done : ByteArray := prog_21_method_3_code
def yX11_done : MethodName := ⟨RX11, "done", "(LNobodysBard$Phrase;I)LNobodysBard$Phrase;"⟩
def dkwX11_done_9 : List UInt8 := [25, 5, 43, 180, 0, 25, 21, 6, 46, 182, 0, 46, 132, 6, 1, 167, 255, 232, 25, 5, 176]
abbrev dktX11_done_9 : List UInt8 := dkwX11_done_9 ++ []
def dkwX11_done_8 : List UInt8 := [167, 255, 226, 21, 4, 42, 180, 0, 12, 180, 0, 21, 96, 54, 6, 21, 6, 43, 180, 0, 21, 162, 0, 21]
abbrev dktX11_done_8 : List UInt8 := dkwX11_done_8 ++ dktX11_done_9
def dkwX11_done_7 : List UInt8 := [180, 0, 21, 162, 0, 24, 25, 5, 42, 180, 0, 18, 180, 0, 25, 21, 6, 46, 182, 0, 46, 132, 6, 1]
abbrev dktX11_done_7 : List UInt8 := dkwX11_done_7 ++ dktX11_done_8
def dkwX11_done_6 : List UInt8 := [180, 0, 25, 21, 6, 46, 182, 0, 46, 132, 6, 1, 167, 255, 234, 3, 54, 6, 21, 6, 42, 180, 0, 18]
abbrev dktX11_done_6 : List UInt8 := dkwX11_done_6 ++ dktX11_done_7
def dkwX11_done_5 : List UInt8 := [176, 187, 0, 9, 89, 183, 0, 11, 58, 5, 3, 54, 6, 21, 6, 21, 4, 162, 0, 21, 25, 5, 43]
abbrev dktX11_done_5 : List UInt8 := dkwX11_done_5 ++ dktX11_done_6
def dkwX11_done_4 : List UInt8 := [132, 4, 1, 167, 255, 226, 21, 4, 42, 180, 0, 12, 180, 0, 21, 96, 43, 180, 0, 21, 164, 0, 5, 1]
abbrev dktX11_done_4 : List UInt8 := dkwX11_done_4 ++ dktX11_done_5
def dkwX11_done_3 : List UInt8 := [180, 0, 12, 180, 0, 21, 96, 43, 180, 0, 21, 163, 0, 19, 42, 43, 21, 4, 182, 0, 43, 154, 0, 9]
abbrev dktX11_done_3 : List UInt8 := dkwX11_done_3 ++ dktX11_done_4
def dkwX11_done_2 : List UInt8 := [42, 180, 0, 33, 43, 28, 185, 0, 37, 3, 0, 154, 0, 5, 1, 176, 3, 54, 4, 21, 4, 42]
abbrev dktX11_done_2 : List UInt8 := dkwX11_done_2 ++ dktX11_done_3
def dkwX11_done_1 : List UInt8 := [163, 0, 38, 42, 180, 0, 12, 42, 180, 0, 18, 182, 0, 29, 154, 0, 24, 42, 180, 0, 33, 198, 0, 19]
abbrev dktX11_done_1 : List UInt8 := dkwX11_done_1 ++ dktX11_done_2
def dkwX11_done_0 : List UInt8 := [43, 180, 0, 21, 42, 180, 0, 12, 180, 0, 21, 100, 42, 180, 0, 18, 180, 0, 21, 96, 62, 29, 16, 8]
abbrev dktX11_done_0 : List UInt8 := dkwX11_done_0 ++ dktX11_done_1
theorem dksX11_done_0 : cX11_done.data.toList.drop 0 = dktX11_done_0 := by decide +kernel
theorem dksX11_done_1 : cX11_done.data.toList.drop 24 = dktX11_done_1 := dk_seg dksX11_done_0 24 rfl rfl
theorem dksX11_done_2 : cX11_done.data.toList.drop 48 = dktX11_done_2 := dk_seg dksX11_done_1 24 rfl rfl
theorem dksX11_done_3 : cX11_done.data.toList.drop 70 = dktX11_done_3 := dk_seg dksX11_done_2 22 rfl rfl
theorem dksX11_done_4 : cX11_done.data.toList.drop 94 = dktX11_done_4 := dk_seg dksX11_done_3 24 rfl rfl
theorem dksX11_done_5 : cX11_done.data.toList.drop 118 = dktX11_done_5 := dk_seg dksX11_done_4 24 rfl rfl
theorem dksX11_done_6 : cX11_done.data.toList.drop 141 = dktX11_done_6 := dk_seg dksX11_done_5 23 rfl rfl
theorem dksX11_done_7 : cX11_done.data.toList.drop 165 = dktX11_done_7 := dk_seg dksX11_done_6 24 rfl rfl
theorem dksX11_done_8 : cX11_done.data.toList.drop 189 = dktX11_done_8 := dk_seg dksX11_done_7 24 rfl rfl
theorem dksX11_done_9 : cX11_done.data.toList.drop 213 = dktX11_done_9 := dk_seg dksX11_done_8 24 rfl rfl
theorem dX11_done_0 : decode cX11_done 0 = .ok (.aload_n 1, 1) := dk_43 (dk_at dksX11_done_0 0 rfl rfl)
theorem dX11_done_1 : decode cX11_done 1 = .ok (.getfield 21, 3) := dk_180 0 21 (dk_at dksX11_done_0 1 rfl rfl)
theorem dX11_done_4 : decode cX11_done 4 = .ok (.aload_n 0, 1) := dk_42 (dk_at dksX11_done_0 4 rfl rfl)
theorem dX11_done_5 : decode cX11_done 5 = .ok (.getfield 12, 3) := dk_180 0 12 (dk_at dksX11_done_0 5 rfl rfl)
theorem dX11_done_8 : decode cX11_done 8 = .ok (.getfield 21, 3) := dk_180 0 21 (dk_at dksX11_done_0 8 rfl rfl)
theorem dX11_done_11 : decode cX11_done 11 = .ok (.isub, 1) := dk_100 (dk_at dksX11_done_0 11 rfl rfl)
theorem dX11_done_12 : decode cX11_done 12 = .ok (.aload_n 0, 1) := dk_42 (dk_at dksX11_done_0 12 rfl rfl)
theorem dX11_done_13 : decode cX11_done 13 = .ok (.getfield 18, 3) := dk_180 0 18 (dk_at dksX11_done_0 13 rfl rfl)
theorem dX11_done_16 : decode cX11_done 16 = .ok (.getfield 21, 3) := dk_180 0 21 (dk_at dksX11_done_0 16 rfl rfl)
theorem dX11_done_19 : decode cX11_done 19 = .ok (.iadd, 1) := dk_96 (dk_at dksX11_done_0 19 rfl rfl)
theorem dX11_done_20 : decode cX11_done 20 = .ok (.istore_n 3, 1) := dk_62 (dk_at dksX11_done_0 20 rfl rfl)
theorem dX11_done_21 : decode cX11_done 21 = .ok (.iload_n 3, 1) := dk_29 (dk_at dksX11_done_0 21 rfl rfl)
theorem dX11_done_22 : decode cX11_done 22 = .ok (.bipush 8, 2) := dk_16 8 (dk_at dksX11_done_0 22 rfl rfl)
theorem dX11_done_24 : decode cX11_done 24 = .ok (.if_icmp .gt 38, 3) := dk_163 0 38 (dk_at dksX11_done_1 0 rfl rfl)
theorem dX11_done_27 : decode cX11_done 27 = .ok (.aload_n 0, 1) := dk_42 (dk_at dksX11_done_1 3 rfl rfl)
theorem dX11_done_28 : decode cX11_done 28 = .ok (.getfield 12, 3) := dk_180 0 12 (dk_at dksX11_done_1 4 rfl rfl)
theorem dX11_done_31 : decode cX11_done 31 = .ok (.aload_n 0, 1) := dk_42 (dk_at dksX11_done_1 7 rfl rfl)
theorem dX11_done_32 : decode cX11_done 32 = .ok (.getfield 18, 3) := dk_180 0 18 (dk_at dksX11_done_1 8 rfl rfl)
theorem dX11_done_35 : decode cX11_done 35 = .ok (.invokevirtual 29, 3) := dk_182 0 29 (dk_at dksX11_done_1 11 rfl rfl)
theorem dX11_done_38 : decode cX11_done 38 = .ok (.ifCond .ne 24, 3) := dk_154 0 24 (dk_at dksX11_done_1 14 rfl rfl)
theorem dX11_done_41 : decode cX11_done 41 = .ok (.aload_n 0, 1) := dk_42 (dk_at dksX11_done_1 17 rfl rfl)
theorem dX11_done_42 : decode cX11_done 42 = .ok (.getfield 33, 3) := dk_180 0 33 (dk_at dksX11_done_1 18 rfl rfl)
theorem dX11_done_45 : decode cX11_done 45 = .ok (.ifnull 19, 3) := dk_198 0 19 (dk_at dksX11_done_1 21 rfl rfl)
theorem dX11_done_48 : decode cX11_done 48 = .ok (.aload_n 0, 1) := dk_42 (dk_at dksX11_done_2 0 rfl rfl)
theorem dX11_done_49 : decode cX11_done 49 = .ok (.getfield 33, 3) := dk_180 0 33 (dk_at dksX11_done_2 1 rfl rfl)
theorem dX11_done_52 : decode cX11_done 52 = .ok (.aload_n 1, 1) := dk_43 (dk_at dksX11_done_2 4 rfl rfl)
theorem dX11_done_53 : decode cX11_done 53 = .ok (.iload_n 2, 1) := dk_28 (dk_at dksX11_done_2 5 rfl rfl)
theorem dX11_done_54 : decode cX11_done 54 = .ok (.invokeinterface 37 3, 5) := by decide +kernel
theorem dX11_done_59 : decode cX11_done 59 = .ok (.ifCond .ne 5, 3) := dk_154 0 5 (dk_at dksX11_done_2 11 rfl rfl)
theorem dX11_done_62 : decode cX11_done 62 = .ok (.aconst_null, 1) := dk_1 (dk_at dksX11_done_2 14 rfl rfl)
theorem dX11_done_63 : decode cX11_done 63 = .ok (.areturn, 1) := dk_176 (dk_at dksX11_done_2 15 rfl rfl)
theorem dX11_done_64 : decode cX11_done 64 = .ok (.iconst 0, 1) := dk_3 (dk_at dksX11_done_2 16 rfl rfl)
theorem dX11_done_65 : decode cX11_done 65 = .ok (.istore 4, 2) := dk_54 4 (dk_at dksX11_done_2 17 rfl rfl)
theorem dX11_done_67 : decode cX11_done 67 = .ok (.iload 4, 2) := dk_21 4 (dk_at dksX11_done_2 19 rfl rfl)
theorem dX11_done_69 : decode cX11_done 69 = .ok (.aload_n 0, 1) := dk_42 (dk_at dksX11_done_2 21 rfl rfl)
theorem dX11_done_70 : decode cX11_done 70 = .ok (.getfield 12, 3) := dk_180 0 12 (dk_at dksX11_done_3 0 rfl rfl)
theorem dX11_done_73 : decode cX11_done 73 = .ok (.getfield 21, 3) := dk_180 0 21 (dk_at dksX11_done_3 3 rfl rfl)
theorem dX11_done_76 : decode cX11_done 76 = .ok (.iadd, 1) := dk_96 (dk_at dksX11_done_3 6 rfl rfl)
theorem dX11_done_77 : decode cX11_done 77 = .ok (.aload_n 1, 1) := dk_43 (dk_at dksX11_done_3 7 rfl rfl)
theorem dX11_done_78 : decode cX11_done 78 = .ok (.getfield 21, 3) := dk_180 0 21 (dk_at dksX11_done_3 8 rfl rfl)
theorem dX11_done_81 : decode cX11_done 81 = .ok (.if_icmp .gt 19, 3) := dk_163 0 19 (dk_at dksX11_done_3 11 rfl rfl)
theorem dX11_done_84 : decode cX11_done 84 = .ok (.aload_n 0, 1) := dk_42 (dk_at dksX11_done_3 14 rfl rfl)
theorem dX11_done_85 : decode cX11_done 85 = .ok (.aload_n 1, 1) := dk_43 (dk_at dksX11_done_3 15 rfl rfl)
theorem dX11_done_86 : decode cX11_done 86 = .ok (.iload 4, 2) := dk_21 4 (dk_at dksX11_done_3 16 rfl rfl)
theorem dX11_done_88 : decode cX11_done 88 = .ok (.invokevirtual 43, 3) := dk_182 0 43 (dk_at dksX11_done_3 18 rfl rfl)
theorem dX11_done_91 : decode cX11_done 91 = .ok (.ifCond .ne 9, 3) := dk_154 0 9 (dk_at dksX11_done_3 21 rfl rfl)
theorem dX11_done_94 : decode cX11_done 94 = .ok (.iinc 4 1, 3) := dk_132 4 1 (dk_at dksX11_done_4 0 rfl rfl)
theorem dX11_done_97 : decode cX11_done 97 = .ok (.goto (-30), 3) := dk_167 255 226 (dk_at dksX11_done_4 3 rfl rfl)
theorem dX11_done_100 : decode cX11_done 100 = .ok (.iload 4, 2) := dk_21 4 (dk_at dksX11_done_4 6 rfl rfl)
theorem dX11_done_102 : decode cX11_done 102 = .ok (.aload_n 0, 1) := dk_42 (dk_at dksX11_done_4 8 rfl rfl)
theorem dX11_done_103 : decode cX11_done 103 = .ok (.getfield 12, 3) := dk_180 0 12 (dk_at dksX11_done_4 9 rfl rfl)
theorem dX11_done_106 : decode cX11_done 106 = .ok (.getfield 21, 3) := dk_180 0 21 (dk_at dksX11_done_4 12 rfl rfl)
theorem dX11_done_109 : decode cX11_done 109 = .ok (.iadd, 1) := dk_96 (dk_at dksX11_done_4 15 rfl rfl)
theorem dX11_done_110 : decode cX11_done 110 = .ok (.aload_n 1, 1) := dk_43 (dk_at dksX11_done_4 16 rfl rfl)
theorem dX11_done_111 : decode cX11_done 111 = .ok (.getfield 21, 3) := dk_180 0 21 (dk_at dksX11_done_4 17 rfl rfl)
theorem dX11_done_114 : decode cX11_done 114 = .ok (.if_icmp .le 5, 3) := dk_164 0 5 (dk_at dksX11_done_4 20 rfl rfl)
theorem dX11_done_117 : decode cX11_done 117 = .ok (.aconst_null, 1) := dk_1 (dk_at dksX11_done_4 23 rfl rfl)
theorem dX11_done_118 : decode cX11_done 118 = .ok (.areturn, 1) := dk_176 (dk_at dksX11_done_5 0 rfl rfl)
theorem dX11_done_119 : decode cX11_done 119 = .ok (.new 9, 3) := dk_187 0 9 (dk_at dksX11_done_5 1 rfl rfl)
theorem dX11_done_122 : decode cX11_done 122 = .ok (.dup, 1) := dk_89 (dk_at dksX11_done_5 4 rfl rfl)
theorem dX11_done_123 : decode cX11_done 123 = .ok (.invokespecial 11, 3) := dk_183 0 11 (dk_at dksX11_done_5 5 rfl rfl)
theorem dX11_done_126 : decode cX11_done 126 = .ok (.astore 5, 2) := dk_58 5 (dk_at dksX11_done_5 8 rfl rfl)
theorem dX11_done_128 : decode cX11_done 128 = .ok (.iconst 0, 1) := dk_3 (dk_at dksX11_done_5 10 rfl rfl)
theorem dX11_done_129 : decode cX11_done 129 = .ok (.istore 6, 2) := dk_54 6 (dk_at dksX11_done_5 11 rfl rfl)
theorem dX11_done_131 : decode cX11_done 131 = .ok (.iload 6, 2) := dk_21 6 (dk_at dksX11_done_5 13 rfl rfl)
theorem dX11_done_133 : decode cX11_done 133 = .ok (.iload 4, 2) := dk_21 4 (dk_at dksX11_done_5 15 rfl rfl)
theorem dX11_done_135 : decode cX11_done 135 = .ok (.if_icmp .ge 21, 3) := dk_162 0 21 (dk_at dksX11_done_5 17 rfl rfl)
theorem dX11_done_138 : decode cX11_done 138 = .ok (.aload 5, 2) := dk_25 5 (dk_at dksX11_done_5 20 rfl rfl)
theorem dX11_done_140 : decode cX11_done 140 = .ok (.aload_n 1, 1) := dk_43 (dk_at dksX11_done_5 22 rfl rfl)
theorem dX11_done_141 : decode cX11_done 141 = .ok (.getfield 25, 3) := dk_180 0 25 (dk_at dksX11_done_6 0 rfl rfl)
theorem dX11_done_144 : decode cX11_done 144 = .ok (.iload 6, 2) := dk_21 6 (dk_at dksX11_done_6 3 rfl rfl)
theorem dX11_done_146 : decode cX11_done 146 = .ok (.iaload, 1) := dk_46 (dk_at dksX11_done_6 5 rfl rfl)
theorem dX11_done_147 : decode cX11_done 147 = .ok (.invokevirtual 46, 3) := dk_182 0 46 (dk_at dksX11_done_6 6 rfl rfl)
theorem dX11_done_150 : decode cX11_done 150 = .ok (.iinc 6 1, 3) := dk_132 6 1 (dk_at dksX11_done_6 9 rfl rfl)
theorem dX11_done_153 : decode cX11_done 153 = .ok (.goto (-22), 3) := dk_167 255 234 (dk_at dksX11_done_6 12 rfl rfl)
theorem dX11_done_156 : decode cX11_done 156 = .ok (.iconst 0, 1) := dk_3 (dk_at dksX11_done_6 15 rfl rfl)
theorem dX11_done_157 : decode cX11_done 157 = .ok (.istore 6, 2) := dk_54 6 (dk_at dksX11_done_6 16 rfl rfl)
theorem dX11_done_159 : decode cX11_done 159 = .ok (.iload 6, 2) := dk_21 6 (dk_at dksX11_done_6 18 rfl rfl)
theorem dX11_done_161 : decode cX11_done 161 = .ok (.aload_n 0, 1) := dk_42 (dk_at dksX11_done_6 20 rfl rfl)
theorem dX11_done_162 : decode cX11_done 162 = .ok (.getfield 18, 3) := dk_180 0 18 (dk_at dksX11_done_6 21 rfl rfl)
theorem dX11_done_165 : decode cX11_done 165 = .ok (.getfield 21, 3) := dk_180 0 21 (dk_at dksX11_done_7 0 rfl rfl)
theorem dX11_done_168 : decode cX11_done 168 = .ok (.if_icmp .ge 24, 3) := dk_162 0 24 (dk_at dksX11_done_7 3 rfl rfl)
theorem dX11_done_171 : decode cX11_done 171 = .ok (.aload 5, 2) := dk_25 5 (dk_at dksX11_done_7 6 rfl rfl)
theorem dX11_done_173 : decode cX11_done 173 = .ok (.aload_n 0, 1) := dk_42 (dk_at dksX11_done_7 8 rfl rfl)
theorem dX11_done_174 : decode cX11_done 174 = .ok (.getfield 18, 3) := dk_180 0 18 (dk_at dksX11_done_7 9 rfl rfl)
theorem dX11_done_177 : decode cX11_done 177 = .ok (.getfield 25, 3) := dk_180 0 25 (dk_at dksX11_done_7 12 rfl rfl)
theorem dX11_done_180 : decode cX11_done 180 = .ok (.iload 6, 2) := dk_21 6 (dk_at dksX11_done_7 15 rfl rfl)
theorem dX11_done_182 : decode cX11_done 182 = .ok (.iaload, 1) := dk_46 (dk_at dksX11_done_7 17 rfl rfl)
theorem dX11_done_183 : decode cX11_done 183 = .ok (.invokevirtual 46, 3) := dk_182 0 46 (dk_at dksX11_done_7 18 rfl rfl)
theorem dX11_done_186 : decode cX11_done 186 = .ok (.iinc 6 1, 3) := dk_132 6 1 (dk_at dksX11_done_7 21 rfl rfl)
theorem dX11_done_189 : decode cX11_done 189 = .ok (.goto (-30), 3) := dk_167 255 226 (dk_at dksX11_done_8 0 rfl rfl)
theorem dX11_done_192 : decode cX11_done 192 = .ok (.iload 4, 2) := dk_21 4 (dk_at dksX11_done_8 3 rfl rfl)
theorem dX11_done_194 : decode cX11_done 194 = .ok (.aload_n 0, 1) := dk_42 (dk_at dksX11_done_8 5 rfl rfl)
theorem dX11_done_195 : decode cX11_done 195 = .ok (.getfield 12, 3) := dk_180 0 12 (dk_at dksX11_done_8 6 rfl rfl)
theorem dX11_done_198 : decode cX11_done 198 = .ok (.getfield 21, 3) := dk_180 0 21 (dk_at dksX11_done_8 9 rfl rfl)
theorem dX11_done_201 : decode cX11_done 201 = .ok (.iadd, 1) := dk_96 (dk_at dksX11_done_8 12 rfl rfl)
theorem dX11_done_202 : decode cX11_done 202 = .ok (.istore 6, 2) := dk_54 6 (dk_at dksX11_done_8 13 rfl rfl)
theorem dX11_done_204 : decode cX11_done 204 = .ok (.iload 6, 2) := dk_21 6 (dk_at dksX11_done_8 15 rfl rfl)
theorem dX11_done_206 : decode cX11_done 206 = .ok (.aload_n 1, 1) := dk_43 (dk_at dksX11_done_8 17 rfl rfl)
theorem dX11_done_207 : decode cX11_done 207 = .ok (.getfield 21, 3) := dk_180 0 21 (dk_at dksX11_done_8 18 rfl rfl)
theorem dX11_done_210 : decode cX11_done 210 = .ok (.if_icmp .ge 21, 3) := dk_162 0 21 (dk_at dksX11_done_8 21 rfl rfl)
theorem dX11_done_213 : decode cX11_done 213 = .ok (.aload 5, 2) := dk_25 5 (dk_at dksX11_done_9 0 rfl rfl)
theorem dX11_done_215 : decode cX11_done 215 = .ok (.aload_n 1, 1) := dk_43 (dk_at dksX11_done_9 2 rfl rfl)
theorem dX11_done_216 : decode cX11_done 216 = .ok (.getfield 25, 3) := dk_180 0 25 (dk_at dksX11_done_9 3 rfl rfl)
theorem dX11_done_219 : decode cX11_done 219 = .ok (.iload 6, 2) := dk_21 6 (dk_at dksX11_done_9 6 rfl rfl)
theorem dX11_done_221 : decode cX11_done 221 = .ok (.iaload, 1) := dk_46 (dk_at dksX11_done_9 8 rfl rfl)
theorem dX11_done_222 : decode cX11_done 222 = .ok (.invokevirtual 46, 3) := dk_182 0 46 (dk_at dksX11_done_9 9 rfl rfl)
theorem dX11_done_225 : decode cX11_done 225 = .ok (.iinc 6 1, 3) := dk_132 6 1 (dk_at dksX11_done_9 12 rfl rfl)
theorem dX11_done_228 : decode cX11_done 228 = .ok (.goto (-24), 3) := dk_167 255 232 (dk_at dksX11_done_9 15 rfl rfl)
theorem dX11_done_231 : decode cX11_done 231 = .ok (.aload 5, 2) := dk_25 5 (dk_at dksX11_done_9 18 rfl rfl)
theorem dX11_done_233 : decode cX11_done 233 = .ok (.areturn, 1) := dk_176 (dk_at dksX11_done_9 20 rfl rfl)
abbrev cX11_standsAt : ByteArray := prog_21_method_2_code
def yX11_standsAt : MethodName := ⟨RX11, "standsAt", "(LNobodysBard$Phrase;I)Z"⟩
def dkwX11_standsAt_1 : List UInt8 := [180, 0, 12, 180, 0, 25, 29, 46, 159, 0, 5, 3, 172, 132, 3, 1, 167, 255, 220, 4, 172]
abbrev dktX11_standsAt_1 : List UInt8 := dkwX11_standsAt_1 ++ []
def dkwX11_standsAt_0 : List UInt8 := [3, 62, 29, 42, 180, 0, 12, 180, 0, 21, 162, 0, 31, 43, 180, 0, 25, 28, 29, 96, 46, 42]
abbrev dktX11_standsAt_0 : List UInt8 := dkwX11_standsAt_0 ++ dktX11_standsAt_1
theorem dksX11_standsAt_0 : cX11_standsAt.data.toList.drop 0 = dktX11_standsAt_0 := by decide +kernel
theorem dksX11_standsAt_1 : cX11_standsAt.data.toList.drop 22 = dktX11_standsAt_1 := dk_seg dksX11_standsAt_0 22 rfl rfl
theorem dX11_standsAt_0 : decode cX11_standsAt 0 = .ok (.iconst 0, 1) := dk_3 (dk_at dksX11_standsAt_0 0 rfl rfl)
theorem dX11_standsAt_1 : decode cX11_standsAt 1 = .ok (.istore_n 3, 1) := dk_62 (dk_at dksX11_standsAt_0 1 rfl rfl)
theorem dX11_standsAt_2 : decode cX11_standsAt 2 = .ok (.iload_n 3, 1) := dk_29 (dk_at dksX11_standsAt_0 2 rfl rfl)
theorem dX11_standsAt_3 : decode cX11_standsAt 3 = .ok (.aload_n 0, 1) := dk_42 (dk_at dksX11_standsAt_0 3 rfl rfl)
theorem dX11_standsAt_4 : decode cX11_standsAt 4 = .ok (.getfield 12, 3) := dk_180 0 12 (dk_at dksX11_standsAt_0 4 rfl rfl)
theorem dX11_standsAt_7 : decode cX11_standsAt 7 = .ok (.getfield 21, 3) := dk_180 0 21 (dk_at dksX11_standsAt_0 7 rfl rfl)
theorem dX11_standsAt_10 : decode cX11_standsAt 10 = .ok (.if_icmp .ge 31, 3) := dk_162 0 31 (dk_at dksX11_standsAt_0 10 rfl rfl)
theorem dX11_standsAt_13 : decode cX11_standsAt 13 = .ok (.aload_n 1, 1) := dk_43 (dk_at dksX11_standsAt_0 13 rfl rfl)
theorem dX11_standsAt_14 : decode cX11_standsAt 14 = .ok (.getfield 25, 3) := dk_180 0 25 (dk_at dksX11_standsAt_0 14 rfl rfl)
theorem dX11_standsAt_17 : decode cX11_standsAt 17 = .ok (.iload_n 2, 1) := dk_28 (dk_at dksX11_standsAt_0 17 rfl rfl)
theorem dX11_standsAt_18 : decode cX11_standsAt 18 = .ok (.iload_n 3, 1) := dk_29 (dk_at dksX11_standsAt_0 18 rfl rfl)
theorem dX11_standsAt_19 : decode cX11_standsAt 19 = .ok (.iadd, 1) := dk_96 (dk_at dksX11_standsAt_0 19 rfl rfl)
theorem dX11_standsAt_20 : decode cX11_standsAt 20 = .ok (.iaload, 1) := dk_46 (dk_at dksX11_standsAt_0 20 rfl rfl)
theorem dX11_standsAt_21 : decode cX11_standsAt 21 = .ok (.aload_n 0, 1) := dk_42 (dk_at dksX11_standsAt_0 21 rfl rfl)
theorem dX11_standsAt_22 : decode cX11_standsAt 22 = .ok (.getfield 12, 3) := dk_180 0 12 (dk_at dksX11_standsAt_1 0 rfl rfl)
theorem dX11_standsAt_25 : decode cX11_standsAt 25 = .ok (.getfield 25, 3) := dk_180 0 25 (dk_at dksX11_standsAt_1 3 rfl rfl)
theorem dX11_standsAt_28 : decode cX11_standsAt 28 = .ok (.iload_n 3, 1) := dk_29 (dk_at dksX11_standsAt_1 6 rfl rfl)
theorem dX11_standsAt_29 : decode cX11_standsAt 29 = .ok (.iaload, 1) := dk_46 (dk_at dksX11_standsAt_1 7 rfl rfl)
theorem dX11_standsAt_30 : decode cX11_standsAt 30 = .ok (.if_icmp .eq 5, 3) := dk_159 0 5 (dk_at dksX11_standsAt_1 8 rfl rfl)
theorem dX11_standsAt_33 : decode cX11_standsAt 33 = .ok (.iconst 0, 1) := dk_3 (dk_at dksX11_standsAt_1 11 rfl rfl)
theorem dX11_standsAt_34 : decode cX11_standsAt 34 = .ok (.ireturn, 1) := dk_172 (dk_at dksX11_standsAt_1 12 rfl rfl)
theorem dX11_standsAt_35 : decode cX11_standsAt 35 = .ok (.iinc 3 1, 3) := dk_132 3 1 (dk_at dksX11_standsAt_1 13 rfl rfl)
theorem dX11_standsAt_38 : decode cX11_standsAt 38 = .ok (.goto (-36), 3) := dk_167 255 220 (dk_at dksX11_standsAt_1 16 rfl rfl)
theorem dX11_standsAt_41 : decode cX11_standsAt 41 = .ok (.iconst 1, 1) := dk_4 (dk_at dksX11_standsAt_1 19 rfl rfl)
theorem dX11_standsAt_42 : decode cX11_standsAt 42 = .ok (.ireturn, 1) := dk_172 (dk_at dksX11_standsAt_1 20 rfl rfl)
theorem q124 : (Jvm.Cond.initialized "NobodysBard$Rule") ∈ lw_all := lw_g (lw_at lw_m1 21 rfl) rfl
theorem q498 : (Jvm.Cond.selects "NobodysBard$Rule" ({ cls := "java/lang/Object", name := "getClass", desc := "()Ljava/lang/Class;" } : Jvm.MethodName) ({ cls := "java/lang/Object", name := "getClass", desc := "()Ljava/lang/Class;" } : Jvm.MethodName)) ∈ lw_all := lw_g (lw_at lw_m2 155 rfl) rfl
theorem q546 : (Jvm.Cond.fieldLinkNest "NobodysBard$Rule" (25 : Nat) "NobodysBard$Phrase" "w" "[I" "NobodysBard") ∈ lw_tbl := lw_at lw_m2 203 rfl
theorem q550 : (Jvm.Cond.fieldLinkNest "NobodysBard$Rule" (21 : Nat) "NobodysBard$Phrase" "n" "I" "NobodysBard") ∈ lw_tbl := lw_at lw_m2 207 rfl
theorem q722 : (Jvm.Cond.instantiable "NobodysBard$Rule" (3 : Nat)) ∈ lw_all := lw_g (lw_at lw_m3 139 rfl) rfl
theorem q724 : (Jvm.Cond.instanceMethod ({ cls := "NobodysBard$Rule", name := "<init>", desc := "()V" } : Jvm.MethodName)) ∈ lw_all := lw_g (lw_at lw_m3 141 rfl) rfl
theorem q725 : (Jvm.Cond.code ({ cls := "NobodysBard$Rule", name := "<init>", desc := "()V" } : Jvm.MethodName) prog_21_method_1_code (1 : Nat) (Option.none : Option Jvm.ClassFile.FieldType)) ∈ lw_all := lw_g (lw_at lw_m3 142 rfl) rfl
theorem q726 : (Jvm.Cond.methodLink "NobodysBard$Rule" (3 : Nat) ({ cls := "java/lang/Object", name := "<init>", desc := "()V" } : Jvm.MethodName)) ∈ lw_all := lw_g (lw_at lw_m3 143 rfl) rfl
theorem q727 : (Jvm.Cond.classLink "NobodysBard$Rule" (9 : Nat) "NobodysBard$Phrase") ∈ lw_all := lw_g (lw_at lw_m3 144 rfl) rfl
theorem q728 : (Jvm.Cond.methodLinkNest "NobodysBard$Rule" (11 : Nat) ({ cls := "NobodysBard$Phrase", name := "<init>", desc := "()V" } : Jvm.MethodName) "NobodysBard") ∈ lw_tbl := lw_at lw_m3 145 rfl
theorem q729 : (Jvm.Cond.fieldLink "NobodysBard$Rule" (12 : Nat) "NobodysBard$Rule" "from" "LNobodysBard$Phrase;") ∈ lw_all := lw_g (lw_at lw_m3 146 rfl) rfl
theorem q731 : (Jvm.Cond.fieldLink "NobodysBard$Rule" (18 : Nat) "NobodysBard$Rule" "to" "LNobodysBard$Phrase;") ∈ lw_all := lw_g (lw_at lw_m3 148 rfl) rfl
theorem q733 : (Jvm.Cond.fieldLink "NobodysBard$Rule" (33 : Nat) "NobodysBard$Rule" "test" "LNobodysBard$Test;") ∈ lw_all := lw_g (lw_at lw_m3 150 rfl) rfl
theorem q735 : (Jvm.Cond.laysFinal "NobodysBard$Rule" "NobodysBard$Rule" "from" "LNobodysBard$Phrase;") ∈ lw_all := lw_g (lw_at lw_m3 152 rfl) rfl
theorem q736 : (Jvm.Cond.soleField "NobodysBard$Rule" "from") ∈ lw_all := lw_g (lw_at lw_m3 153 rfl) rfl
theorem q737 : (Jvm.Cond.laysFinal "NobodysBard$Rule" "NobodysBard$Rule" "to" "LNobodysBard$Phrase;") ∈ lw_all := lw_g (lw_at lw_m3 154 rfl) rfl
theorem q738 : (Jvm.Cond.soleField "NobodysBard$Rule" "to") ∈ lw_all := lw_g (lw_at lw_m3 155 rfl) rfl
theorem q739 : (Jvm.Cond.lays "NobodysBard$Rule" "NobodysBard$Rule" "test" "LNobodysBard$Test;") ∈ lw_all := lw_g (lw_at lw_m3 156 rfl) rfl
theorem q740 : (Jvm.Cond.soleField "NobodysBard$Rule" "test") ∈ lw_all := lw_g (lw_at lw_m3 157 rfl) rfl
theorem q741 : (Jvm.Cond.superclass "NobodysBard$Rule" "java/lang/Object") ∈ lw_all := lw_g (lw_at lw_m3 158 rfl) rfl
theorem q917 : (Jvm.Cond.instanceMethod ({ cls := "NobodysBard$Rule", name := "done", desc := "(LNobodysBard$Phrase;I)LNobodysBard$Phrase;" } : Jvm.MethodName)) ∈ lw_all := lw_g (lw_at lw_m4 94 rfl) rfl
theorem q918 : (Jvm.Cond.selects "NobodysBard$Rule" ({ cls := "NobodysBard$Rule", name := "done", desc := "(LNobodysBard$Phrase;I)LNobodysBard$Phrase;" } : Jvm.MethodName) ({ cls := "NobodysBard$Rule", name := "done", desc := "(LNobodysBard$Phrase;I)LNobodysBard$Phrase;" } : Jvm.MethodName)) ∈ lw_all := lw_g (lw_at lw_m4 95 rfl) rfl
theorem q919 : (Jvm.Cond.code ({ cls := "NobodysBard$Rule", name := "done", desc := "(LNobodysBard$Phrase;I)LNobodysBard$Phrase;" } : Jvm.MethodName) prog_21_method_3_code (7 : Nat) (Option.some (Jvm.ClassFile.FieldType.object "NobodysBard$Phrase"))) ∈ lw_all := lw_g (lw_at lw_m4 96 rfl) rfl
theorem q920 : (Jvm.Cond.methodLink "NobodysBard$Rule" (29 : Nat) ({ cls := "NobodysBard$Phrase", name := "isSame", desc := "(LNobodysBard$Phrase;)Z" } : Jvm.MethodName)) ∈ lw_all := lw_g (lw_at lw_m4 97 rfl) rfl
theorem q924 : (Jvm.Cond.interfaceEntry "NobodysBard$Rule" (37 : Nat)) ∈ lw_tbl := lw_at lw_m4 101 rfl
theorem q925 : (Jvm.Cond.methodLink "NobodysBard$Rule" (37 : Nat) ({ cls := "NobodysBard$Test", name := "is", desc := "(LNobodysBard$Phrase;I)Z" } : Jvm.MethodName)) ∈ lw_all := lw_g (lw_at lw_m4 102 rfl) rfl
theorem q966 : (Jvm.Cond.methodLink "NobodysBard$Rule" (43 : Nat) ({ cls := "NobodysBard$Rule", name := "standsAt", desc := "(LNobodysBard$Phrase;I)Z" } : Jvm.MethodName)) ∈ lw_all := lw_g (lw_at lw_m4 143 rfl) rfl
theorem q967 : (Jvm.Cond.privateMethod ({ cls := "NobodysBard$Rule", name := "standsAt", desc := "(LNobodysBard$Phrase;I)Z" } : Jvm.MethodName)) ∈ lw_tbl := lw_at lw_m4 144 rfl
theorem q968 : (Jvm.Cond.instanceMethod ({ cls := "NobodysBard$Rule", name := "standsAt", desc := "(LNobodysBard$Phrase;I)Z" } : Jvm.MethodName)) ∈ lw_all := lw_g (lw_at lw_m4 145 rfl) rfl
theorem q969 : (Jvm.Cond.code ({ cls := "NobodysBard$Rule", name := "standsAt", desc := "(LNobodysBard$Phrase;I)Z" } : Jvm.MethodName) prog_21_method_2_code (4 : Nat) (Option.some Jvm.ClassFile.FieldType.boolean)) ∈ lw_all := lw_g (lw_at lw_m4 146 rfl) rfl
theorem q970 : (Jvm.Cond.methodLink "NobodysBard$Rule" (46 : Nat) ({ cls := "NobodysBard$Phrase", name := "adds", desc := "(I)V" } : Jvm.MethodName)) ∈ lw_all := lw_g (lw_at lw_m4 147 rfl) rfl
theorem q2180 : (Jvm.Cond.castable "NobodysBard$Rule" "java/lang/Object") ∈ lw_tbl := lw_at lw_m9 157 rfl
theorem in_X11 : ∀ w ∈ wsX110, w ∈ lw_all := lw_in wsX110 [735, 737, 739] (by decide +kernel) (by decide +kernel)
/-! NobodysBard$Not -/
set_option maxRecDepth 100000
def RX12 : String := "NobodysBard$Not"
def TX12 : u_T := fun k => match k with
  | _ => ("NobodysBard$Not", "of", "LNobodysBard$Test;", true)
def tyX12 : Nat → FieldType := fun k => match k with
  | _ => .object "NobodysBard$Test"
abbrev wsX120 : List Cond := u_ws RX12 TX12 1
theorem nmX12 : ∀ a, a < 1 → ∀ b, b < 1 → a ≠ b → (TX12 a).2.1 ≠ (TX12 b).2.1 := by decide +kernel
theorem tyX12_ok : ∀ k, k < 1 → parseFieldDescriptor (TX12 k).2.2.1 = some (tyX12 k) := by decide +kernel
abbrev cX12_init : ByteArray := prog_12_method_1_code
def yX12_init : MethodName := ⟨RX12, "<init>", "(LNobodysBard$Test;)V"⟩
def dkwX12_init_0 : List UInt8 := [42, 183, 0, 1, 42, 43, 181, 0, 7, 177]
abbrev dktX12_init_0 : List UInt8 := dkwX12_init_0 ++ []
theorem dksX12_init_0 : cX12_init.data.toList.drop 0 = dktX12_init_0 := by decide +kernel
theorem dX12_init_0 : decode cX12_init 0 = .ok (.aload_n 0, 1) := dk_42 (dk_at dksX12_init_0 0 rfl rfl)
theorem dX12_init_1 : decode cX12_init 1 = .ok (.invokespecial 1, 3) := dk_183 0 1 (dk_at dksX12_init_0 1 rfl rfl)
theorem dX12_init_4 : decode cX12_init 4 = .ok (.aload_n 0, 1) := dk_42 (dk_at dksX12_init_0 4 rfl rfl)
theorem dX12_init_5 : decode cX12_init 5 = .ok (.aload_n 1, 1) := dk_43 (dk_at dksX12_init_0 5 rfl rfl)
theorem dX12_init_6 : decode cX12_init 6 = .ok (.putfield 7, 3) := dk_181 0 7 (dk_at dksX12_init_0 6 rfl rfl)
theorem dX12_init_9 : decode cX12_init 9 = .ok (.return_, 1) := dk_177 (dk_at dksX12_init_0 9 rfl rfl)
abbrev cX12_is : ByteArray := prog_12_method_2_code
def yX12_is : MethodName := ⟨RX12, "is", "(LNobodysBard$Phrase;I)Z"⟩
def dkwX12_is_0 : List UInt8 := [42, 180, 0, 7, 43, 28, 185, 0, 13, 3, 0, 154, 0, 7, 4, 167, 0, 4, 3, 172]
abbrev dktX12_is_0 : List UInt8 := dkwX12_is_0 ++ []
theorem dksX12_is_0 : cX12_is.data.toList.drop 0 = dktX12_is_0 := by decide +kernel
theorem dX12_is_0 : decode cX12_is 0 = .ok (.aload_n 0, 1) := dk_42 (dk_at dksX12_is_0 0 rfl rfl)
theorem dX12_is_1 : decode cX12_is 1 = .ok (.getfield 7, 3) := dk_180 0 7 (dk_at dksX12_is_0 1 rfl rfl)
theorem dX12_is_4 : decode cX12_is 4 = .ok (.aload_n 1, 1) := dk_43 (dk_at dksX12_is_0 4 rfl rfl)
theorem dX12_is_5 : decode cX12_is 5 = .ok (.iload_n 2, 1) := dk_28 (dk_at dksX12_is_0 5 rfl rfl)
theorem dX12_is_6 : decode cX12_is 6 = .ok (.invokeinterface 13 3, 5) := by decide +kernel
theorem dX12_is_11 : decode cX12_is 11 = .ok (.ifCond .ne 7, 3) := dk_154 0 7 (dk_at dksX12_is_0 11 rfl rfl)
theorem dX12_is_14 : decode cX12_is 14 = .ok (.iconst 1, 1) := dk_4 (dk_at dksX12_is_0 14 rfl rfl)
theorem dX12_is_15 : decode cX12_is 15 = .ok (.goto 4, 3) := dk_167 0 4 (dk_at dksX12_is_0 15 rfl rfl)
theorem dX12_is_18 : decode cX12_is 18 = .ok (.iconst 0, 1) := dk_3 (dk_at dksX12_is_0 18 rfl rfl)
theorem dX12_is_19 : decode cX12_is 19 = .ok (.ireturn, 1) := dk_172 (dk_at dksX12_is_0 19 rfl rfl)
theorem q128 : (Jvm.Cond.initialized "NobodysBard$Not") ∈ lw_all := lw_g (lw_at lw_m1 25 rfl) rfl
theorem q489 : (Jvm.Cond.selects "NobodysBard$Not" ({ cls := "java/lang/Object", name := "getClass", desc := "()Ljava/lang/Class;" } : Jvm.MethodName) ({ cls := "java/lang/Object", name := "getClass", desc := "()Ljava/lang/Class;" } : Jvm.MethodName)) ∈ lw_all := lw_g (lw_at lw_m2 146 rfl) rfl
theorem q825 : (Jvm.Cond.instantiable "NobodysBard$Not" (1 : Nat)) ∈ lw_all := lw_g (lw_at lw_m4 2 rfl) rfl
theorem q827 : (Jvm.Cond.instanceMethod ({ cls := "NobodysBard$Not", name := "<init>", desc := "(LNobodysBard$Test;)V" } : Jvm.MethodName)) ∈ lw_all := lw_g (lw_at lw_m4 4 rfl) rfl
theorem q828 : (Jvm.Cond.code ({ cls := "NobodysBard$Not", name := "<init>", desc := "(LNobodysBard$Test;)V" } : Jvm.MethodName) prog_12_method_1_code (2 : Nat) (Option.none : Option Jvm.ClassFile.FieldType)) ∈ lw_all := lw_g (lw_at lw_m4 5 rfl) rfl
theorem q829 : (Jvm.Cond.methodLink "NobodysBard$Not" (1 : Nat) ({ cls := "java/lang/Object", name := "<init>", desc := "()V" } : Jvm.MethodName)) ∈ lw_all := lw_g (lw_at lw_m4 6 rfl) rfl
theorem q830 : (Jvm.Cond.fieldLink "NobodysBard$Not" (7 : Nat) "NobodysBard$Not" "of" "LNobodysBard$Test;") ∈ lw_all := lw_g (lw_at lw_m4 7 rfl) rfl
theorem q831 : (Jvm.Cond.laysFinal "NobodysBard$Not" "NobodysBard$Not" "of" "LNobodysBard$Test;") ∈ lw_all := lw_g (lw_at lw_m4 8 rfl) rfl
theorem q832 : (Jvm.Cond.soleField "NobodysBard$Not" "of") ∈ lw_all := lw_g (lw_at lw_m4 9 rfl) rfl
theorem q833 : (Jvm.Cond.superclass "NobodysBard$Not" "java/lang/Object") ∈ lw_all := lw_g (lw_at lw_m4 10 rfl) rfl
theorem q952 : (Jvm.Cond.castable "NobodysBard$Not" "NobodysBard$Test") ∈ lw_tbl := lw_at lw_m4 129 rfl
theorem q953 : (Jvm.Cond.selects "NobodysBard$Not" ({ cls := "NobodysBard$Test", name := "is", desc := "(LNobodysBard$Phrase;I)Z" } : Jvm.MethodName) ({ cls := "NobodysBard$Not", name := "is", desc := "(LNobodysBard$Phrase;I)Z" } : Jvm.MethodName)) ∈ lw_all := lw_g (lw_at lw_m4 130 rfl) rfl
theorem q954 : (Jvm.Cond.unhidden "NobodysBard$Not" "is" "(LNobodysBard$Phrase;I)Z") ∈ lw_tbl := lw_at lw_m4 131 rfl
theorem q955 : (Jvm.Cond.instanceMethod ({ cls := "NobodysBard$Not", name := "is", desc := "(LNobodysBard$Phrase;I)Z" } : Jvm.MethodName)) ∈ lw_all := lw_g (lw_at lw_m4 132 rfl) rfl
theorem q956 : (Jvm.Cond.publicMethod ({ cls := "NobodysBard$Not", name := "is", desc := "(LNobodysBard$Phrase;I)Z" } : Jvm.MethodName)) ∈ lw_tbl := lw_at lw_m4 133 rfl
theorem q957 : (Jvm.Cond.code ({ cls := "NobodysBard$Not", name := "is", desc := "(LNobodysBard$Phrase;I)Z" } : Jvm.MethodName) prog_12_method_2_code (3 : Nat) (Option.some Jvm.ClassFile.FieldType.boolean)) ∈ lw_all := lw_g (lw_at lw_m4 134 rfl) rfl
theorem q958 : (Jvm.Cond.interfaceEntry "NobodysBard$Not" (13 : Nat)) ∈ lw_tbl := lw_at lw_m4 135 rfl
theorem q959 : (Jvm.Cond.methodLink "NobodysBard$Not" (13 : Nat) ({ cls := "NobodysBard$Test", name := "is", desc := "(LNobodysBard$Phrase;I)Z" } : Jvm.MethodName)) ∈ lw_all := lw_g (lw_at lw_m4 136 rfl) rfl
theorem q2181 : (Jvm.Cond.castable "NobodysBard$Not" "java/lang/Object") ∈ lw_tbl := lw_at lw_m9 158 rfl
theorem in_X12 : ∀ w ∈ wsX120, w ∈ lw_all := lw_in wsX120 [831] (by decide +kernel) (by decide +kernel)
/-! NobodysBard$Has -/
set_option maxRecDepth 100000
def RX13 : String := "NobodysBard$Has"
def TX13 : u_T := fun k => match k with
  | _ => ("NobodysBard$Has", "word", "I", true)
def tyX13 : Nat → FieldType := fun k => match k with
  | _ => .int
abbrev wsX130 : List Cond := u_ws RX13 TX13 1
theorem nmX13 : ∀ a, a < 1 → ∀ b, b < 1 → a ≠ b → (TX13 a).2.1 ≠ (TX13 b).2.1 := by decide +kernel
theorem tyX13_ok : ∀ k, k < 1 → parseFieldDescriptor (TX13 k).2.2.1 = some (tyX13 k) := by decide +kernel
abbrev cX13_init : ByteArray := prog_8_method_1_code
def yX13_init : MethodName := ⟨RX13, "<init>", "(I)V"⟩
def dkwX13_init_0 : List UInt8 := [42, 183, 0, 1, 42, 27, 181, 0, 7, 177]
abbrev dktX13_init_0 : List UInt8 := dkwX13_init_0 ++ []
theorem dksX13_init_0 : cX13_init.data.toList.drop 0 = dktX13_init_0 := by decide +kernel
theorem dX13_init_0 : decode cX13_init 0 = .ok (.aload_n 0, 1) := dk_42 (dk_at dksX13_init_0 0 rfl rfl)
theorem dX13_init_1 : decode cX13_init 1 = .ok (.invokespecial 1, 3) := dk_183 0 1 (dk_at dksX13_init_0 1 rfl rfl)
theorem dX13_init_4 : decode cX13_init 4 = .ok (.aload_n 0, 1) := dk_42 (dk_at dksX13_init_0 4 rfl rfl)
theorem dX13_init_5 : decode cX13_init 5 = .ok (.iload_n 1, 1) := dk_27 (dk_at dksX13_init_0 5 rfl rfl)
theorem dX13_init_6 : decode cX13_init 6 = .ok (.putfield 7, 3) := dk_181 0 7 (dk_at dksX13_init_0 6 rfl rfl)
theorem dX13_init_9 : decode cX13_init 9 = .ok (.return_, 1) := dk_177 (dk_at dksX13_init_0 9 rfl rfl)
abbrev cX13_is : ByteArray := prog_8_method_2_code
def yX13_is : MethodName := ⟨RX13, "is", "(LNobodysBard$Phrase;I)Z"⟩
def dkwX13_is_0 : List UInt8 := [43, 42, 180, 0, 7, 182, 0, 13, 172]
abbrev dktX13_is_0 : List UInt8 := dkwX13_is_0 ++ []
theorem dksX13_is_0 : cX13_is.data.toList.drop 0 = dktX13_is_0 := by decide +kernel
theorem dX13_is_0 : decode cX13_is 0 = .ok (.aload_n 1, 1) := dk_43 (dk_at dksX13_is_0 0 rfl rfl)
theorem dX13_is_1 : decode cX13_is 1 = .ok (.aload_n 0, 1) := dk_42 (dk_at dksX13_is_0 1 rfl rfl)
theorem dX13_is_2 : decode cX13_is 2 = .ok (.getfield 7, 3) := dk_180 0 7 (dk_at dksX13_is_0 2 rfl rfl)
theorem dX13_is_5 : decode cX13_is 5 = .ok (.invokevirtual 13, 3) := dk_182 0 13 (dk_at dksX13_is_0 5 rfl rfl)
theorem dX13_is_8 : decode cX13_is 8 = .ok (.ireturn, 1) := dk_172 (dk_at dksX13_is_0 8 rfl rfl)
theorem q129 : (Jvm.Cond.initialized "NobodysBard$Has") ∈ lw_all := lw_g (lw_at lw_m1 26 rfl) rfl
theorem q485 : (Jvm.Cond.selects "NobodysBard$Has" ({ cls := "java/lang/Object", name := "getClass", desc := "()Ljava/lang/Class;" } : Jvm.MethodName) ({ cls := "java/lang/Object", name := "getClass", desc := "()Ljava/lang/Class;" } : Jvm.MethodName)) ∈ lw_all := lw_g (lw_at lw_m2 142 rfl) rfl
theorem q836 : (Jvm.Cond.instantiable "NobodysBard$Has" (1 : Nat)) ∈ lw_all := lw_g (lw_at lw_m4 13 rfl) rfl
theorem q838 : (Jvm.Cond.instanceMethod ({ cls := "NobodysBard$Has", name := "<init>", desc := "(I)V" } : Jvm.MethodName)) ∈ lw_all := lw_g (lw_at lw_m4 15 rfl) rfl
theorem q839 : (Jvm.Cond.code ({ cls := "NobodysBard$Has", name := "<init>", desc := "(I)V" } : Jvm.MethodName) prog_8_method_1_code (2 : Nat) (Option.none : Option Jvm.ClassFile.FieldType)) ∈ lw_all := lw_g (lw_at lw_m4 16 rfl) rfl
theorem q840 : (Jvm.Cond.methodLink "NobodysBard$Has" (1 : Nat) ({ cls := "java/lang/Object", name := "<init>", desc := "()V" } : Jvm.MethodName)) ∈ lw_all := lw_g (lw_at lw_m4 17 rfl) rfl
theorem q841 : (Jvm.Cond.fieldLink "NobodysBard$Has" (7 : Nat) "NobodysBard$Has" "word" "I") ∈ lw_all := lw_g (lw_at lw_m4 18 rfl) rfl
theorem q842 : (Jvm.Cond.laysFinal "NobodysBard$Has" "NobodysBard$Has" "word" "I") ∈ lw_all := lw_g (lw_at lw_m4 19 rfl) rfl
theorem q843 : (Jvm.Cond.soleField "NobodysBard$Has" "word") ∈ lw_all := lw_g (lw_at lw_m4 20 rfl) rfl
theorem q844 : (Jvm.Cond.superclass "NobodysBard$Has" "java/lang/Object") ∈ lw_all := lw_g (lw_at lw_m4 21 rfl) rfl
theorem q942 : (Jvm.Cond.castable "NobodysBard$Has" "NobodysBard$Test") ∈ lw_tbl := lw_at lw_m4 119 rfl
theorem q943 : (Jvm.Cond.selects "NobodysBard$Has" ({ cls := "NobodysBard$Test", name := "is", desc := "(LNobodysBard$Phrase;I)Z" } : Jvm.MethodName) ({ cls := "NobodysBard$Has", name := "is", desc := "(LNobodysBard$Phrase;I)Z" } : Jvm.MethodName)) ∈ lw_all := lw_g (lw_at lw_m4 120 rfl) rfl
theorem q944 : (Jvm.Cond.unhidden "NobodysBard$Has" "is" "(LNobodysBard$Phrase;I)Z") ∈ lw_tbl := lw_at lw_m4 121 rfl
theorem q945 : (Jvm.Cond.instanceMethod ({ cls := "NobodysBard$Has", name := "is", desc := "(LNobodysBard$Phrase;I)Z" } : Jvm.MethodName)) ∈ lw_all := lw_g (lw_at lw_m4 122 rfl) rfl
theorem q946 : (Jvm.Cond.publicMethod ({ cls := "NobodysBard$Has", name := "is", desc := "(LNobodysBard$Phrase;I)Z" } : Jvm.MethodName)) ∈ lw_tbl := lw_at lw_m4 123 rfl
theorem q947 : (Jvm.Cond.code ({ cls := "NobodysBard$Has", name := "is", desc := "(LNobodysBard$Phrase;I)Z" } : Jvm.MethodName) prog_8_method_2_code (3 : Nat) (Option.some Jvm.ClassFile.FieldType.boolean)) ∈ lw_all := lw_g (lw_at lw_m4 124 rfl) rfl
theorem q948 : (Jvm.Cond.methodLink "NobodysBard$Has" (13 : Nat) ({ cls := "NobodysBard$Phrase", name := "has", desc := "(I)Z" } : Jvm.MethodName)) ∈ lw_all := lw_g (lw_at lw_m4 125 rfl) rfl
theorem q2182 : (Jvm.Cond.castable "NobodysBard$Has" "java/lang/Object") ∈ lw_tbl := lw_at lw_m9 159 rfl
theorem in_X13 : ∀ w ∈ wsX130, w ∈ lw_all := lw_in wsX130 [842] (by decide +kernel) (by decide +kernel)
/-! NobodysBard$AsLong -/
set_option maxRecDepth 100000
def RX14 : String := "NobodysBard$AsLong"
def TX14 : u_T := fun k => match k with
  | _ => ("NobodysBard$AsLong", "many", "I", true)
def tyX14 : Nat → FieldType := fun k => match k with
  | _ => .int
abbrev wsX140 : List Cond := u_ws RX14 TX14 1
theorem nmX14 : ∀ a, a < 1 → ∀ b, b < 1 → a ≠ b → (TX14 a).2.1 ≠ (TX14 b).2.1 := by decide +kernel
theorem tyX14_ok : ∀ k, k < 1 → parseFieldDescriptor (TX14 k).2.2.1 = some (tyX14 k) := by decide +kernel
abbrev cX14_init : ByteArray := prog_3_method_1_code
def yX14_init : MethodName := ⟨RX14, "<init>", "(I)V"⟩
def dkwX14_init_0 : List UInt8 := [42, 183, 0, 1, 42, 27, 181, 0, 7, 177]
abbrev dktX14_init_0 : List UInt8 := dkwX14_init_0 ++ []
theorem dksX14_init_0 : cX14_init.data.toList.drop 0 = dktX14_init_0 := by decide +kernel
theorem dX14_init_0 : decode cX14_init 0 = .ok (.aload_n 0, 1) := dk_42 (dk_at dksX14_init_0 0 rfl rfl)
theorem dX14_init_1 : decode cX14_init 1 = .ok (.invokespecial 1, 3) := dk_183 0 1 (dk_at dksX14_init_0 1 rfl rfl)
theorem dX14_init_4 : decode cX14_init 4 = .ok (.aload_n 0, 1) := dk_42 (dk_at dksX14_init_0 4 rfl rfl)
theorem dX14_init_5 : decode cX14_init 5 = .ok (.iload_n 1, 1) := dk_27 (dk_at dksX14_init_0 5 rfl rfl)
theorem dX14_init_6 : decode cX14_init 6 = .ok (.putfield 7, 3) := dk_181 0 7 (dk_at dksX14_init_0 6 rfl rfl)
theorem dX14_init_9 : decode cX14_init 9 = .ok (.return_, 1) := dk_177 (dk_at dksX14_init_0 9 rfl rfl)
abbrev cX14_is : ByteArray := prog_3_method_2_code
def yX14_is : MethodName := ⟨RX14, "is", "(LNobodysBard$Phrase;I)Z"⟩
def dkwX14_is_0 : List UInt8 := [43, 180, 0, 13, 42, 180, 0, 7, 161, 0, 7, 4, 167, 0, 4, 3, 172]
abbrev dktX14_is_0 : List UInt8 := dkwX14_is_0 ++ []
theorem dksX14_is_0 : cX14_is.data.toList.drop 0 = dktX14_is_0 := by decide +kernel
theorem dX14_is_0 : decode cX14_is 0 = .ok (.aload_n 1, 1) := dk_43 (dk_at dksX14_is_0 0 rfl rfl)
theorem dX14_is_1 : decode cX14_is 1 = .ok (.getfield 13, 3) := dk_180 0 13 (dk_at dksX14_is_0 1 rfl rfl)
theorem dX14_is_4 : decode cX14_is 4 = .ok (.aload_n 0, 1) := dk_42 (dk_at dksX14_is_0 4 rfl rfl)
theorem dX14_is_5 : decode cX14_is 5 = .ok (.getfield 7, 3) := dk_180 0 7 (dk_at dksX14_is_0 5 rfl rfl)
theorem dX14_is_8 : decode cX14_is 8 = .ok (.if_icmp .lt 7, 3) := dk_161 0 7 (dk_at dksX14_is_0 8 rfl rfl)
theorem dX14_is_11 : decode cX14_is 11 = .ok (.iconst 1, 1) := dk_4 (dk_at dksX14_is_0 11 rfl rfl)
theorem dX14_is_12 : decode cX14_is 12 = .ok (.goto 4, 3) := dk_167 0 4 (dk_at dksX14_is_0 12 rfl rfl)
theorem dX14_is_15 : decode cX14_is 15 = .ok (.iconst 0, 1) := dk_3 (dk_at dksX14_is_0 15 rfl rfl)
theorem dX14_is_16 : decode cX14_is 16 = .ok (.ireturn, 1) := dk_172 (dk_at dksX14_is_0 16 rfl rfl)
theorem q130 : (Jvm.Cond.initialized "NobodysBard$AsLong") ∈ lw_all := lw_g (lw_at lw_m1 27 rfl) rfl
theorem q481 : (Jvm.Cond.selects "NobodysBard$AsLong" ({ cls := "java/lang/Object", name := "getClass", desc := "()Ljava/lang/Class;" } : Jvm.MethodName) ({ cls := "java/lang/Object", name := "getClass", desc := "()Ljava/lang/Class;" } : Jvm.MethodName)) ∈ lw_all := lw_g (lw_at lw_m2 138 rfl) rfl
theorem q549 : (Jvm.Cond.fieldLinkNest "NobodysBard$AsLong" (13 : Nat) "NobodysBard$Phrase" "n" "I" "NobodysBard") ∈ lw_tbl := lw_at lw_m2 206 rfl
theorem q847 : (Jvm.Cond.instantiable "NobodysBard$AsLong" (1 : Nat)) ∈ lw_all := lw_g (lw_at lw_m4 24 rfl) rfl
theorem q849 : (Jvm.Cond.instanceMethod ({ cls := "NobodysBard$AsLong", name := "<init>", desc := "(I)V" } : Jvm.MethodName)) ∈ lw_all := lw_g (lw_at lw_m4 26 rfl) rfl
theorem q850 : (Jvm.Cond.code ({ cls := "NobodysBard$AsLong", name := "<init>", desc := "(I)V" } : Jvm.MethodName) prog_3_method_1_code (2 : Nat) (Option.none : Option Jvm.ClassFile.FieldType)) ∈ lw_all := lw_g (lw_at lw_m4 27 rfl) rfl
theorem q851 : (Jvm.Cond.methodLink "NobodysBard$AsLong" (1 : Nat) ({ cls := "java/lang/Object", name := "<init>", desc := "()V" } : Jvm.MethodName)) ∈ lw_all := lw_g (lw_at lw_m4 28 rfl) rfl
theorem q852 : (Jvm.Cond.fieldLink "NobodysBard$AsLong" (7 : Nat) "NobodysBard$AsLong" "many" "I") ∈ lw_all := lw_g (lw_at lw_m4 29 rfl) rfl
theorem q853 : (Jvm.Cond.laysFinal "NobodysBard$AsLong" "NobodysBard$AsLong" "many" "I") ∈ lw_all := lw_g (lw_at lw_m4 30 rfl) rfl
theorem q854 : (Jvm.Cond.soleField "NobodysBard$AsLong" "many") ∈ lw_all := lw_g (lw_at lw_m4 31 rfl) rfl
theorem q855 : (Jvm.Cond.superclass "NobodysBard$AsLong" "java/lang/Object") ∈ lw_all := lw_g (lw_at lw_m4 32 rfl) rfl
theorem q928 : (Jvm.Cond.castable "NobodysBard$AsLong" "NobodysBard$Test") ∈ lw_tbl := lw_at lw_m4 105 rfl
theorem q929 : (Jvm.Cond.selects "NobodysBard$AsLong" ({ cls := "NobodysBard$Test", name := "is", desc := "(LNobodysBard$Phrase;I)Z" } : Jvm.MethodName) ({ cls := "NobodysBard$AsLong", name := "is", desc := "(LNobodysBard$Phrase;I)Z" } : Jvm.MethodName)) ∈ lw_all := lw_g (lw_at lw_m4 106 rfl) rfl
theorem q930 : (Jvm.Cond.unhidden "NobodysBard$AsLong" "is" "(LNobodysBard$Phrase;I)Z") ∈ lw_tbl := lw_at lw_m4 107 rfl
theorem q931 : (Jvm.Cond.instanceMethod ({ cls := "NobodysBard$AsLong", name := "is", desc := "(LNobodysBard$Phrase;I)Z" } : Jvm.MethodName)) ∈ lw_all := lw_g (lw_at lw_m4 108 rfl) rfl
theorem q932 : (Jvm.Cond.publicMethod ({ cls := "NobodysBard$AsLong", name := "is", desc := "(LNobodysBard$Phrase;I)Z" } : Jvm.MethodName)) ∈ lw_tbl := lw_at lw_m4 109 rfl
theorem q933 : (Jvm.Cond.code ({ cls := "NobodysBard$AsLong", name := "is", desc := "(LNobodysBard$Phrase;I)Z" } : Jvm.MethodName) prog_3_method_2_code (3 : Nat) (Option.some Jvm.ClassFile.FieldType.boolean)) ∈ lw_all := lw_g (lw_at lw_m4 110 rfl) rfl
theorem q2183 : (Jvm.Cond.castable "NobodysBard$AsLong" "java/lang/Object") ∈ lw_tbl := lw_at lw_m9 160 rfl
theorem in_X14 : ∀ w ∈ wsX140, w ∈ lw_all := lw_in wsX140 [853] (by decide +kernel) (by decide +kernel)
/-! NobodysBard$OfTale -/
set_option maxRecDepth 100000
def RX15 : String := "NobodysBard$OfTale"
def TX15 : u_T := fun k => match k with
  | _ => ("NobodysBard$OfTale", "tale", "I", true)
def tyX15 : Nat → FieldType := fun k => match k with
  | _ => .int
abbrev wsX150 : List Cond := u_ws RX15 TX15 1
theorem nmX15 : ∀ a, a < 1 → ∀ b, b < 1 → a ≠ b → (TX15 a).2.1 ≠ (TX15 b).2.1 := by decide +kernel
theorem tyX15_ok : ∀ k, k < 1 → parseFieldDescriptor (TX15 k).2.2.1 = some (tyX15 k) := by decide +kernel
abbrev cX15_init : ByteArray := prog_13_method_1_code
def yX15_init : MethodName := ⟨RX15, "<init>", "(I)V"⟩
def dkwX15_init_0 : List UInt8 := [42, 183, 0, 1, 42, 27, 181, 0, 7, 177]
abbrev dktX15_init_0 : List UInt8 := dkwX15_init_0 ++ []
theorem dksX15_init_0 : cX15_init.data.toList.drop 0 = dktX15_init_0 := by decide +kernel
theorem dX15_init_0 : decode cX15_init 0 = .ok (.aload_n 0, 1) := dk_42 (dk_at dksX15_init_0 0 rfl rfl)
theorem dX15_init_1 : decode cX15_init 1 = .ok (.invokespecial 1, 3) := dk_183 0 1 (dk_at dksX15_init_0 1 rfl rfl)
theorem dX15_init_4 : decode cX15_init 4 = .ok (.aload_n 0, 1) := dk_42 (dk_at dksX15_init_0 4 rfl rfl)
theorem dX15_init_5 : decode cX15_init 5 = .ok (.iload_n 1, 1) := dk_27 (dk_at dksX15_init_0 5 rfl rfl)
theorem dX15_init_6 : decode cX15_init 6 = .ok (.putfield 7, 3) := dk_181 0 7 (dk_at dksX15_init_0 6 rfl rfl)
theorem dX15_init_9 : decode cX15_init 9 = .ok (.return_, 1) := dk_177 (dk_at dksX15_init_0 9 rfl rfl)
abbrev cX15_is : ByteArray := prog_13_method_2_code
def yX15_is : MethodName := ⟨RX15, "is", "(LNobodysBard$Phrase;I)Z"⟩
def dkwX15_is_0 : List UInt8 := [28, 42, 180, 0, 7, 160, 0, 7, 4, 167, 0, 4, 3, 172]
abbrev dktX15_is_0 : List UInt8 := dkwX15_is_0 ++ []
theorem dksX15_is_0 : cX15_is.data.toList.drop 0 = dktX15_is_0 := by decide +kernel
theorem dX15_is_0 : decode cX15_is 0 = .ok (.iload_n 2, 1) := dk_28 (dk_at dksX15_is_0 0 rfl rfl)
theorem dX15_is_1 : decode cX15_is 1 = .ok (.aload_n 0, 1) := dk_42 (dk_at dksX15_is_0 1 rfl rfl)
theorem dX15_is_2 : decode cX15_is 2 = .ok (.getfield 7, 3) := dk_180 0 7 (dk_at dksX15_is_0 2 rfl rfl)
theorem dX15_is_5 : decode cX15_is 5 = .ok (.if_icmp .ne 7, 3) := dk_160 0 7 (dk_at dksX15_is_0 5 rfl rfl)
theorem dX15_is_8 : decode cX15_is 8 = .ok (.iconst 1, 1) := dk_4 (dk_at dksX15_is_0 8 rfl rfl)
theorem dX15_is_9 : decode cX15_is 9 = .ok (.goto 4, 3) := dk_167 0 4 (dk_at dksX15_is_0 9 rfl rfl)
theorem dX15_is_12 : decode cX15_is 12 = .ok (.iconst 0, 1) := dk_3 (dk_at dksX15_is_0 12 rfl rfl)
theorem dX15_is_13 : decode cX15_is 13 = .ok (.ireturn, 1) := dk_172 (dk_at dksX15_is_0 13 rfl rfl)
theorem q131 : (Jvm.Cond.initialized "NobodysBard$OfTale") ∈ lw_all := lw_g (lw_at lw_m1 28 rfl) rfl
theorem q490 : (Jvm.Cond.selects "NobodysBard$OfTale" ({ cls := "java/lang/Object", name := "getClass", desc := "()Ljava/lang/Class;" } : Jvm.MethodName) ({ cls := "java/lang/Object", name := "getClass", desc := "()Ljava/lang/Class;" } : Jvm.MethodName)) ∈ lw_all := lw_g (lw_at lw_m2 147 rfl) rfl
theorem q858 : (Jvm.Cond.instantiable "NobodysBard$OfTale" (1 : Nat)) ∈ lw_all := lw_g (lw_at lw_m4 35 rfl) rfl
theorem q860 : (Jvm.Cond.instanceMethod ({ cls := "NobodysBard$OfTale", name := "<init>", desc := "(I)V" } : Jvm.MethodName)) ∈ lw_all := lw_g (lw_at lw_m4 37 rfl) rfl
theorem q861 : (Jvm.Cond.code ({ cls := "NobodysBard$OfTale", name := "<init>", desc := "(I)V" } : Jvm.MethodName) prog_13_method_1_code (2 : Nat) (Option.none : Option Jvm.ClassFile.FieldType)) ∈ lw_all := lw_g (lw_at lw_m4 38 rfl) rfl
theorem q862 : (Jvm.Cond.methodLink "NobodysBard$OfTale" (1 : Nat) ({ cls := "java/lang/Object", name := "<init>", desc := "()V" } : Jvm.MethodName)) ∈ lw_all := lw_g (lw_at lw_m4 39 rfl) rfl
theorem q863 : (Jvm.Cond.fieldLink "NobodysBard$OfTale" (7 : Nat) "NobodysBard$OfTale" "tale" "I") ∈ lw_all := lw_g (lw_at lw_m4 40 rfl) rfl
theorem q864 : (Jvm.Cond.laysFinal "NobodysBard$OfTale" "NobodysBard$OfTale" "tale" "I") ∈ lw_all := lw_g (lw_at lw_m4 41 rfl) rfl
theorem q865 : (Jvm.Cond.soleField "NobodysBard$OfTale" "tale") ∈ lw_all := lw_g (lw_at lw_m4 42 rfl) rfl
theorem q866 : (Jvm.Cond.superclass "NobodysBard$OfTale" "java/lang/Object") ∈ lw_all := lw_g (lw_at lw_m4 43 rfl) rfl
theorem q960 : (Jvm.Cond.castable "NobodysBard$OfTale" "NobodysBard$Test") ∈ lw_tbl := lw_at lw_m4 137 rfl
theorem q961 : (Jvm.Cond.selects "NobodysBard$OfTale" ({ cls := "NobodysBard$Test", name := "is", desc := "(LNobodysBard$Phrase;I)Z" } : Jvm.MethodName) ({ cls := "NobodysBard$OfTale", name := "is", desc := "(LNobodysBard$Phrase;I)Z" } : Jvm.MethodName)) ∈ lw_all := lw_g (lw_at lw_m4 138 rfl) rfl
theorem q962 : (Jvm.Cond.unhidden "NobodysBard$OfTale" "is" "(LNobodysBard$Phrase;I)Z") ∈ lw_tbl := lw_at lw_m4 139 rfl
theorem q963 : (Jvm.Cond.instanceMethod ({ cls := "NobodysBard$OfTale", name := "is", desc := "(LNobodysBard$Phrase;I)Z" } : Jvm.MethodName)) ∈ lw_all := lw_g (lw_at lw_m4 140 rfl) rfl
theorem q964 : (Jvm.Cond.publicMethod ({ cls := "NobodysBard$OfTale", name := "is", desc := "(LNobodysBard$Phrase;I)Z" } : Jvm.MethodName)) ∈ lw_tbl := lw_at lw_m4 141 rfl
theorem q965 : (Jvm.Cond.code ({ cls := "NobodysBard$OfTale", name := "is", desc := "(LNobodysBard$Phrase;I)Z" } : Jvm.MethodName) prog_13_method_2_code (3 : Nat) (Option.some Jvm.ClassFile.FieldType.boolean)) ∈ lw_all := lw_g (lw_at lw_m4 142 rfl) rfl
theorem q2184 : (Jvm.Cond.castable "NobodysBard$OfTale" "java/lang/Object") ∈ lw_tbl := lw_at lw_m9 161 rfl
theorem in_X15 : ∀ w ∈ wsX150, w ∈ lw_all := lw_in wsX150 [864] (by decide +kernel) (by decide +kernel)
/-! NobodysBard$Both -/
set_option maxRecDepth 100000
def RX16 : String := "NobodysBard$Both"
def TX16 : u_T := fun k => match k with
  | 0 => ("NobodysBard$Both", "isAnd", "Z", true)
  | 1 => ("NobodysBard$Both", "one", "LNobodysBard$Test;", true)
  | _ => ("NobodysBard$Both", "two", "LNobodysBard$Test;", true)
def tyX16 : Nat → FieldType := fun k => match k with
  | 0 => .boolean
  | 1 => .object "NobodysBard$Test"
  | _ => .object "NobodysBard$Test"
abbrev wsX160 : List Cond := u_ws RX16 TX16 3
theorem nmX16 : ∀ a, a < 3 → ∀ b, b < 3 → a ≠ b → (TX16 a).2.1 ≠ (TX16 b).2.1 := by decide +kernel
theorem tyX16_ok : ∀ k, k < 3 → parseFieldDescriptor (TX16 k).2.2.1 = some (tyX16 k) := by decide +kernel
abbrev cX16_init : ByteArray := prog_5_method_1_code
def yX16_init : MethodName := ⟨RX16, "<init>", "(ZLNobodysBard$Test;LNobodysBard$Test;)V"⟩
def dkwX16_init_0 : List UInt8 := [42, 183, 0, 1, 42, 27, 181, 0, 7, 42, 44, 181, 0, 13, 42, 45, 181, 0, 17, 177]
abbrev dktX16_init_0 : List UInt8 := dkwX16_init_0 ++ []
theorem dksX16_init_0 : cX16_init.data.toList.drop 0 = dktX16_init_0 := by decide +kernel
theorem dX16_init_0 : decode cX16_init 0 = .ok (.aload_n 0, 1) := dk_42 (dk_at dksX16_init_0 0 rfl rfl)
theorem dX16_init_1 : decode cX16_init 1 = .ok (.invokespecial 1, 3) := dk_183 0 1 (dk_at dksX16_init_0 1 rfl rfl)
theorem dX16_init_4 : decode cX16_init 4 = .ok (.aload_n 0, 1) := dk_42 (dk_at dksX16_init_0 4 rfl rfl)
theorem dX16_init_5 : decode cX16_init 5 = .ok (.iload_n 1, 1) := dk_27 (dk_at dksX16_init_0 5 rfl rfl)
theorem dX16_init_6 : decode cX16_init 6 = .ok (.putfield 7, 3) := dk_181 0 7 (dk_at dksX16_init_0 6 rfl rfl)
theorem dX16_init_9 : decode cX16_init 9 = .ok (.aload_n 0, 1) := dk_42 (dk_at dksX16_init_0 9 rfl rfl)
theorem dX16_init_10 : decode cX16_init 10 = .ok (.aload_n 2, 1) := dk_44 (dk_at dksX16_init_0 10 rfl rfl)
theorem dX16_init_11 : decode cX16_init 11 = .ok (.putfield 13, 3) := dk_181 0 13 (dk_at dksX16_init_0 11 rfl rfl)
theorem dX16_init_14 : decode cX16_init 14 = .ok (.aload_n 0, 1) := dk_42 (dk_at dksX16_init_0 14 rfl rfl)
theorem dX16_init_15 : decode cX16_init 15 = .ok (.aload_n 3, 1) := dk_45 (dk_at dksX16_init_0 15 rfl rfl)
theorem dX16_init_16 : decode cX16_init 16 = .ok (.putfield 17, 3) := dk_181 0 17 (dk_at dksX16_init_0 16 rfl rfl)
theorem dX16_init_19 : decode cX16_init 19 = .ok (.return_, 1) := dk_177 (dk_at dksX16_init_0 19 rfl rfl)
abbrev cX16_is : ByteArray := prog_5_method_2_code
def yX16_is : MethodName := ⟨RX16, "is", "(LNobodysBard$Phrase;I)Z"⟩
def dkwX16_is_3 : List UInt8 := [153, 0, 7, 4, 167, 0, 4, 3, 172]
abbrev dktX16_is_3 : List UInt8 := dkwX16_is_3 ++ []
def dkwX16_is_2 : List UInt8 := [180, 0, 13, 43, 28, 185, 0, 20, 3, 0, 154, 0, 17, 42, 180, 0, 17, 43, 28, 185, 0, 20, 3, 0]
abbrev dktX16_is_2 : List UInt8 := dkwX16_is_2 ++ dktX16_is_3
def dkwX16_is_1 : List UInt8 := [180, 0, 17, 43, 28, 185, 0, 20, 3, 0, 153, 0, 7, 4, 167, 0, 40, 3, 167, 0, 36, 42]
abbrev dktX16_is_1 : List UInt8 := dkwX16_is_1 ++ dktX16_is_2
def dkwX16_is_0 : List UInt8 := [42, 180, 0, 7, 153, 0, 39, 42, 180, 0, 13, 43, 28, 185, 0, 20, 3, 0, 153, 0, 21, 42]
abbrev dktX16_is_0 : List UInt8 := dkwX16_is_0 ++ dktX16_is_1
theorem dksX16_is_0 : cX16_is.data.toList.drop 0 = dktX16_is_0 := by decide +kernel
theorem dksX16_is_1 : cX16_is.data.toList.drop 22 = dktX16_is_1 := dk_seg dksX16_is_0 22 rfl rfl
theorem dksX16_is_2 : cX16_is.data.toList.drop 44 = dktX16_is_2 := dk_seg dksX16_is_1 22 rfl rfl
theorem dksX16_is_3 : cX16_is.data.toList.drop 68 = dktX16_is_3 := dk_seg dksX16_is_2 24 rfl rfl
theorem dX16_is_0 : decode cX16_is 0 = .ok (.aload_n 0, 1) := dk_42 (dk_at dksX16_is_0 0 rfl rfl)
theorem dX16_is_1 : decode cX16_is 1 = .ok (.getfield 7, 3) := dk_180 0 7 (dk_at dksX16_is_0 1 rfl rfl)
theorem dX16_is_4 : decode cX16_is 4 = .ok (.ifCond .eq 39, 3) := dk_153 0 39 (dk_at dksX16_is_0 4 rfl rfl)
theorem dX16_is_7 : decode cX16_is 7 = .ok (.aload_n 0, 1) := dk_42 (dk_at dksX16_is_0 7 rfl rfl)
theorem dX16_is_8 : decode cX16_is 8 = .ok (.getfield 13, 3) := dk_180 0 13 (dk_at dksX16_is_0 8 rfl rfl)
theorem dX16_is_11 : decode cX16_is 11 = .ok (.aload_n 1, 1) := dk_43 (dk_at dksX16_is_0 11 rfl rfl)
theorem dX16_is_12 : decode cX16_is 12 = .ok (.iload_n 2, 1) := dk_28 (dk_at dksX16_is_0 12 rfl rfl)
theorem dX16_is_13 : decode cX16_is 13 = .ok (.invokeinterface 20 3, 5) := by decide +kernel
theorem dX16_is_18 : decode cX16_is 18 = .ok (.ifCond .eq 21, 3) := dk_153 0 21 (dk_at dksX16_is_0 18 rfl rfl)
theorem dX16_is_21 : decode cX16_is 21 = .ok (.aload_n 0, 1) := dk_42 (dk_at dksX16_is_0 21 rfl rfl)
theorem dX16_is_22 : decode cX16_is 22 = .ok (.getfield 17, 3) := dk_180 0 17 (dk_at dksX16_is_1 0 rfl rfl)
theorem dX16_is_25 : decode cX16_is 25 = .ok (.aload_n 1, 1) := dk_43 (dk_at dksX16_is_1 3 rfl rfl)
theorem dX16_is_26 : decode cX16_is 26 = .ok (.iload_n 2, 1) := dk_28 (dk_at dksX16_is_1 4 rfl rfl)
theorem dX16_is_27 : decode cX16_is 27 = .ok (.invokeinterface 20 3, 5) := by decide +kernel
theorem dX16_is_32 : decode cX16_is 32 = .ok (.ifCond .eq 7, 3) := dk_153 0 7 (dk_at dksX16_is_1 10 rfl rfl)
theorem dX16_is_35 : decode cX16_is 35 = .ok (.iconst 1, 1) := dk_4 (dk_at dksX16_is_1 13 rfl rfl)
theorem dX16_is_36 : decode cX16_is 36 = .ok (.goto 40, 3) := dk_167 0 40 (dk_at dksX16_is_1 14 rfl rfl)
theorem dX16_is_39 : decode cX16_is 39 = .ok (.iconst 0, 1) := dk_3 (dk_at dksX16_is_1 17 rfl rfl)
theorem dX16_is_40 : decode cX16_is 40 = .ok (.goto 36, 3) := dk_167 0 36 (dk_at dksX16_is_1 18 rfl rfl)
theorem dX16_is_43 : decode cX16_is 43 = .ok (.aload_n 0, 1) := dk_42 (dk_at dksX16_is_1 21 rfl rfl)
theorem dX16_is_44 : decode cX16_is 44 = .ok (.getfield 13, 3) := dk_180 0 13 (dk_at dksX16_is_2 0 rfl rfl)
theorem dX16_is_47 : decode cX16_is 47 = .ok (.aload_n 1, 1) := dk_43 (dk_at dksX16_is_2 3 rfl rfl)
theorem dX16_is_48 : decode cX16_is 48 = .ok (.iload_n 2, 1) := dk_28 (dk_at dksX16_is_2 4 rfl rfl)
theorem dX16_is_49 : decode cX16_is 49 = .ok (.invokeinterface 20 3, 5) := by decide +kernel
theorem dX16_is_54 : decode cX16_is 54 = .ok (.ifCond .ne 17, 3) := dk_154 0 17 (dk_at dksX16_is_2 10 rfl rfl)
theorem dX16_is_57 : decode cX16_is 57 = .ok (.aload_n 0, 1) := dk_42 (dk_at dksX16_is_2 13 rfl rfl)
theorem dX16_is_58 : decode cX16_is 58 = .ok (.getfield 17, 3) := dk_180 0 17 (dk_at dksX16_is_2 14 rfl rfl)
theorem dX16_is_61 : decode cX16_is 61 = .ok (.aload_n 1, 1) := dk_43 (dk_at dksX16_is_2 17 rfl rfl)
theorem dX16_is_62 : decode cX16_is 62 = .ok (.iload_n 2, 1) := dk_28 (dk_at dksX16_is_2 18 rfl rfl)
theorem dX16_is_63 : decode cX16_is 63 = .ok (.invokeinterface 20 3, 5) := by decide +kernel
theorem dX16_is_68 : decode cX16_is 68 = .ok (.ifCond .eq 7, 3) := dk_153 0 7 (dk_at dksX16_is_3 0 rfl rfl)
theorem dX16_is_71 : decode cX16_is 71 = .ok (.iconst 1, 1) := dk_4 (dk_at dksX16_is_3 3 rfl rfl)
theorem dX16_is_72 : decode cX16_is 72 = .ok (.goto 4, 3) := dk_167 0 4 (dk_at dksX16_is_3 4 rfl rfl)
theorem dX16_is_75 : decode cX16_is 75 = .ok (.iconst 0, 1) := dk_3 (dk_at dksX16_is_3 7 rfl rfl)
theorem dX16_is_76 : decode cX16_is 76 = .ok (.ireturn, 1) := dk_172 (dk_at dksX16_is_3 8 rfl rfl)
theorem q132 : (Jvm.Cond.initialized "NobodysBard$Both") ∈ lw_all := lw_g (lw_at lw_m1 29 rfl) rfl
theorem q483 : (Jvm.Cond.selects "NobodysBard$Both" ({ cls := "java/lang/Object", name := "getClass", desc := "()Ljava/lang/Class;" } : Jvm.MethodName) ({ cls := "java/lang/Object", name := "getClass", desc := "()Ljava/lang/Class;" } : Jvm.MethodName)) ∈ lw_all := lw_g (lw_at lw_m2 140 rfl) rfl
theorem q869 : (Jvm.Cond.instantiable "NobodysBard$Both" (3 : Nat)) ∈ lw_all := lw_g (lw_at lw_m4 46 rfl) rfl
theorem q871 : (Jvm.Cond.instanceMethod ({ cls := "NobodysBard$Both", name := "<init>", desc := "(ZLNobodysBard$Test;LNobodysBard$Test;)V" } : Jvm.MethodName)) ∈ lw_all := lw_g (lw_at lw_m4 48 rfl) rfl
theorem q872 : (Jvm.Cond.code ({ cls := "NobodysBard$Both", name := "<init>", desc := "(ZLNobodysBard$Test;LNobodysBard$Test;)V" } : Jvm.MethodName) prog_5_method_1_code (4 : Nat) (Option.none : Option Jvm.ClassFile.FieldType)) ∈ lw_all := lw_g (lw_at lw_m4 49 rfl) rfl
theorem q873 : (Jvm.Cond.methodLink "NobodysBard$Both" (1 : Nat) ({ cls := "java/lang/Object", name := "<init>", desc := "()V" } : Jvm.MethodName)) ∈ lw_all := lw_g (lw_at lw_m4 50 rfl) rfl
theorem q874 : (Jvm.Cond.fieldLink "NobodysBard$Both" (7 : Nat) "NobodysBard$Both" "isAnd" "Z") ∈ lw_all := lw_g (lw_at lw_m4 51 rfl) rfl
theorem q875 : (Jvm.Cond.fieldLink "NobodysBard$Both" (13 : Nat) "NobodysBard$Both" "one" "LNobodysBard$Test;") ∈ lw_all := lw_g (lw_at lw_m4 52 rfl) rfl
theorem q876 : (Jvm.Cond.fieldLink "NobodysBard$Both" (17 : Nat) "NobodysBard$Both" "two" "LNobodysBard$Test;") ∈ lw_all := lw_g (lw_at lw_m4 53 rfl) rfl
theorem q877 : (Jvm.Cond.laysFinal "NobodysBard$Both" "NobodysBard$Both" "isAnd" "Z") ∈ lw_all := lw_g (lw_at lw_m4 54 rfl) rfl
theorem q878 : (Jvm.Cond.soleField "NobodysBard$Both" "isAnd") ∈ lw_all := lw_g (lw_at lw_m4 55 rfl) rfl
theorem q879 : (Jvm.Cond.laysFinal "NobodysBard$Both" "NobodysBard$Both" "one" "LNobodysBard$Test;") ∈ lw_all := lw_g (lw_at lw_m4 56 rfl) rfl
theorem q880 : (Jvm.Cond.soleField "NobodysBard$Both" "one") ∈ lw_all := lw_g (lw_at lw_m4 57 rfl) rfl
theorem q881 : (Jvm.Cond.laysFinal "NobodysBard$Both" "NobodysBard$Both" "two" "LNobodysBard$Test;") ∈ lw_all := lw_g (lw_at lw_m4 58 rfl) rfl
theorem q882 : (Jvm.Cond.soleField "NobodysBard$Both" "two") ∈ lw_all := lw_g (lw_at lw_m4 59 rfl) rfl
theorem q883 : (Jvm.Cond.superclass "NobodysBard$Both" "java/lang/Object") ∈ lw_all := lw_g (lw_at lw_m4 60 rfl) rfl
theorem q934 : (Jvm.Cond.castable "NobodysBard$Both" "NobodysBard$Test") ∈ lw_tbl := lw_at lw_m4 111 rfl
theorem q935 : (Jvm.Cond.selects "NobodysBard$Both" ({ cls := "NobodysBard$Test", name := "is", desc := "(LNobodysBard$Phrase;I)Z" } : Jvm.MethodName) ({ cls := "NobodysBard$Both", name := "is", desc := "(LNobodysBard$Phrase;I)Z" } : Jvm.MethodName)) ∈ lw_all := lw_g (lw_at lw_m4 112 rfl) rfl
theorem q936 : (Jvm.Cond.unhidden "NobodysBard$Both" "is" "(LNobodysBard$Phrase;I)Z") ∈ lw_tbl := lw_at lw_m4 113 rfl
theorem q937 : (Jvm.Cond.instanceMethod ({ cls := "NobodysBard$Both", name := "is", desc := "(LNobodysBard$Phrase;I)Z" } : Jvm.MethodName)) ∈ lw_all := lw_g (lw_at lw_m4 114 rfl) rfl
theorem q938 : (Jvm.Cond.publicMethod ({ cls := "NobodysBard$Both", name := "is", desc := "(LNobodysBard$Phrase;I)Z" } : Jvm.MethodName)) ∈ lw_tbl := lw_at lw_m4 115 rfl
theorem q939 : (Jvm.Cond.code ({ cls := "NobodysBard$Both", name := "is", desc := "(LNobodysBard$Phrase;I)Z" } : Jvm.MethodName) prog_5_method_2_code (3 : Nat) (Option.some Jvm.ClassFile.FieldType.boolean)) ∈ lw_all := lw_g (lw_at lw_m4 116 rfl) rfl
theorem q940 : (Jvm.Cond.interfaceEntry "NobodysBard$Both" (20 : Nat)) ∈ lw_tbl := lw_at lw_m4 117 rfl
theorem q941 : (Jvm.Cond.methodLink "NobodysBard$Both" (20 : Nat) ({ cls := "NobodysBard$Test", name := "is", desc := "(LNobodysBard$Phrase;I)Z" } : Jvm.MethodName)) ∈ lw_all := lw_g (lw_at lw_m4 118 rfl) rfl
theorem q2185 : (Jvm.Cond.castable "NobodysBard$Both" "java/lang/Object") ∈ lw_tbl := lw_at lw_m9 162 rfl
theorem in_X16 : ∀ w ∈ wsX160, w ∈ lw_all := lw_in wsX160 [877, 879, 881] (by decide +kernel) (by decide +kernel)
/-! NobodysBard$Whose -/
set_option maxRecDepth 100000
def RX17 : String := "NobodysBard$Whose"
abbrev cX17_init : ByteArray := prog_26_method_1_code
def yX17_init : MethodName := ⟨RX17, "<init>", "(II)V"⟩
def dkwX17_init_0 : List UInt8 := [42, 183, 0, 3, 42, 16, 100, 27, 104, 28, 96, 181, 0, 9, 177]
abbrev dktX17_init_0 : List UInt8 := dkwX17_init_0 ++ []
theorem dksX17_init_0 : cX17_init.data.toList.drop 0 = dktX17_init_0 := by decide +kernel
theorem dX17_init_0 : decode cX17_init 0 = .ok (.aload_n 0, 1) := dk_42 (dk_at dksX17_init_0 0 rfl rfl)
theorem dX17_init_1 : decode cX17_init 1 = .ok (.invokespecial 3, 3) := dk_183 0 3 (dk_at dksX17_init_0 1 rfl rfl)
theorem dX17_init_4 : decode cX17_init 4 = .ok (.aload_n 0, 1) := dk_42 (dk_at dksX17_init_0 4 rfl rfl)
theorem dX17_init_5 : decode cX17_init 5 = .ok (.bipush 100, 2) := dk_16 100 (dk_at dksX17_init_0 5 rfl rfl)
theorem dX17_init_7 : decode cX17_init 7 = .ok (.iload_n 1, 1) := dk_27 (dk_at dksX17_init_0 7 rfl rfl)
theorem dX17_init_8 : decode cX17_init 8 = .ok (.imul, 1) := dk_104 (dk_at dksX17_init_0 8 rfl rfl)
theorem dX17_init_9 : decode cX17_init 9 = .ok (.iload_n 2, 1) := dk_28 (dk_at dksX17_init_0 9 rfl rfl)
theorem dX17_init_10 : decode cX17_init 10 = .ok (.iadd, 1) := dk_96 (dk_at dksX17_init_0 10 rfl rfl)
theorem dX17_init_11 : decode cX17_init 11 = .ok (.putfield 9, 3) := dk_181 0 9 (dk_at dksX17_init_0 11 rfl rfl)
theorem dX17_init_14 : decode cX17_init 14 = .ok (.return_, 1) := dk_177 (dk_at dksX17_init_0 14 rfl rfl)
abbrev cX17_from : ByteArray := prog_26_method_2_code
def yX17_from : MethodName := ⟨RX17, "from", "()I"⟩
theorem dX17_from_0 : decode cX17_from 0 = .ok (.aload_n 0, 1) := by decide +kernel
theorem dX17_from_1 : decode cX17_from 1 = .ok (.getfield 9, 3) := by decide +kernel
theorem dX17_from_4 : decode cX17_from 4 = .ok (.ireturn, 1) := by decide +kernel
theorem q133 : (Jvm.Cond.initialized "NobodysBard$Whose") ∈ lw_all := lw_g (lw_at lw_m1 30 rfl) rfl
theorem q1037 : (Jvm.Cond.instanceMethod ({ cls := "NobodysBard$Whose", name := "<init>", desc := "(II)V" } : Jvm.MethodName)) ∈ lw_all := lw_g (lw_at lw_m4 214 rfl) rfl
theorem q1038 : (Jvm.Cond.code ({ cls := "NobodysBard$Whose", name := "<init>", desc := "(II)V" } : Jvm.MethodName) prog_26_method_1_code (3 : Nat) (Option.none : Option Jvm.ClassFile.FieldType)) ∈ lw_all := lw_g (lw_at lw_m4 215 rfl) rfl
theorem q1039 : (Jvm.Cond.methodLink "NobodysBard$Whose" (3 : Nat) ({ cls := "java/lang/Object", name := "<init>", desc := "()V" } : Jvm.MethodName)) ∈ lw_all := lw_g (lw_at lw_m4 216 rfl) rfl
theorem q1040 : (Jvm.Cond.fieldLink "NobodysBard$Whose" (9 : Nat) "NobodysBard$Whose" "from" "I") ∈ lw_all := lw_g (lw_at lw_m4 217 rfl) rfl
theorem q1042 : (Jvm.Cond.soleField "NobodysBard$Whose" "from") ∈ lw_all := lw_g (lw_at lw_m4 219 rfl) rfl
theorem q1118 : (Jvm.Cond.instanceMethod ({ cls := "NobodysBard$Whose", name := "from", desc := "()I" } : Jvm.MethodName)) ∈ lw_all := lw_g (lw_at lw_m5 55 rfl) rfl
theorem q1119 : (Jvm.Cond.publicMethod ({ cls := "NobodysBard$Whose", name := "from", desc := "()I" } : Jvm.MethodName)) ∈ lw_tbl := lw_at lw_m5 56 rfl
theorem q1120 : (Jvm.Cond.code ({ cls := "NobodysBard$Whose", name := "from", desc := "()I" } : Jvm.MethodName) prog_26_method_2_code (1 : Nat) (Option.some Jvm.ClassFile.FieldType.int)) ∈ lw_all := lw_g (lw_at lw_m5 57 rfl) rfl
/-! NobodysBard$Had -/
set_option maxRecDepth 100000
def RX18 : String := "NobodysBard$Had"
def TX18 : u_T := fun k => match k with
  | _ => ("NobodysBard$Whose", "from", "I", true)
def tyX18 : Nat → FieldType := fun k => match k with
  | _ => .int
abbrev wsX180 : List Cond := u_ws RX18 TX18 1
theorem nmX18 : ∀ a, a < 1 → ∀ b, b < 1 → a ≠ b → (TX18 a).2.1 ≠ (TX18 b).2.1 := by decide +kernel
theorem tyX18_ok : ∀ k, k < 1 → parseFieldDescriptor (TX18 k).2.2.1 = some (tyX18 k) := by decide +kernel
abbrev cX18_init : ByteArray := prog_7_method_1_code
def yX18_init : MethodName := ⟨RX18, "<init>", "(II)V"⟩
def dkwX18_init_0 : List UInt8 := [42, 27, 28, 183, 0, 1, 177]
abbrev dktX18_init_0 : List UInt8 := dkwX18_init_0 ++ []
theorem dksX18_init_0 : cX18_init.data.toList.drop 0 = dktX18_init_0 := by decide +kernel
theorem dX18_init_0 : decode cX18_init 0 = .ok (.aload_n 0, 1) := dk_42 (dk_at dksX18_init_0 0 rfl rfl)
theorem dX18_init_1 : decode cX18_init 1 = .ok (.iload_n 1, 1) := dk_27 (dk_at dksX18_init_0 1 rfl rfl)
theorem dX18_init_2 : decode cX18_init 2 = .ok (.iload_n 2, 1) := dk_28 (dk_at dksX18_init_0 2 rfl rfl)
theorem dX18_init_3 : decode cX18_init 3 = .ok (.invokespecial 1, 3) := dk_183 0 1 (dk_at dksX18_init_0 3 rfl rfl)
theorem dX18_init_6 : decode cX18_init 6 = .ok (.return_, 1) := dk_177 (dk_at dksX18_init_0 6 rfl rfl)
abbrev cX18_kind : ByteArray := prog_7_method_2_code
def yX18_kind : MethodName := ⟨RX18, "kind", "()I"⟩
theorem dX18_kind_0 : decode cX18_kind 0 = .ok (.iconst 0, 1) := by decide +kernel
theorem dX18_kind_1 : decode cX18_kind 1 = .ok (.ireturn, 1) := by decide +kernel
theorem q134 : (Jvm.Cond.initialized "NobodysBard$Had") ∈ lw_all := lw_g (lw_at lw_m1 31 rfl) rfl
theorem q484 : (Jvm.Cond.selects "NobodysBard$Had" ({ cls := "java/lang/Object", name := "getClass", desc := "()Ljava/lang/Class;" } : Jvm.MethodName) ({ cls := "java/lang/Object", name := "getClass", desc := "()Ljava/lang/Class;" } : Jvm.MethodName)) ∈ lw_all := lw_g (lw_at lw_m2 141 rfl) rfl
theorem q1032 : (Jvm.Cond.instantiable "NobodysBard$Had" (1 : Nat)) ∈ lw_all := lw_g (lw_at lw_m4 209 rfl) rfl
theorem q1034 : (Jvm.Cond.instanceMethod ({ cls := "NobodysBard$Had", name := "<init>", desc := "(II)V" } : Jvm.MethodName)) ∈ lw_all := lw_g (lw_at lw_m4 211 rfl) rfl
theorem q1035 : (Jvm.Cond.code ({ cls := "NobodysBard$Had", name := "<init>", desc := "(II)V" } : Jvm.MethodName) prog_7_method_1_code (3 : Nat) (Option.none : Option Jvm.ClassFile.FieldType)) ∈ lw_all := lw_g (lw_at lw_m4 212 rfl) rfl
theorem q1036 : (Jvm.Cond.methodLink "NobodysBard$Had" (1 : Nat) ({ cls := "NobodysBard$Whose", name := "<init>", desc := "(II)V" } : Jvm.MethodName)) ∈ lw_all := lw_g (lw_at lw_m4 213 rfl) rfl
theorem q1041 : (Jvm.Cond.laysFinal "NobodysBard$Had" "NobodysBard$Whose" "from" "I") ∈ lw_all := lw_g (lw_at lw_m4 218 rfl) rfl
theorem q1043 : (Jvm.Cond.superclass "NobodysBard$Had" "NobodysBard$Whose") ∈ lw_all := lw_g (lw_at lw_m4 220 rfl) rfl
theorem q1082 : (Jvm.Cond.castable "NobodysBard$Had" "NobodysBard$Comes") ∈ lw_tbl := lw_at lw_m5 19 rfl
theorem q1083 : (Jvm.Cond.selects "NobodysBard$Had" ({ cls := "NobodysBard$Comes", name := "kind", desc := "()I" } : Jvm.MethodName) ({ cls := "NobodysBard$Had", name := "kind", desc := "()I" } : Jvm.MethodName)) ∈ lw_all := lw_g (lw_at lw_m5 20 rfl) rfl
theorem q1084 : (Jvm.Cond.unhidden "NobodysBard$Had" "kind" "()I") ∈ lw_tbl := lw_at lw_m5 21 rfl
theorem q1085 : (Jvm.Cond.instanceMethod ({ cls := "NobodysBard$Had", name := "kind", desc := "()I" } : Jvm.MethodName)) ∈ lw_all := lw_g (lw_at lw_m5 22 rfl) rfl
theorem q1086 : (Jvm.Cond.publicMethod ({ cls := "NobodysBard$Had", name := "kind", desc := "()I" } : Jvm.MethodName)) ∈ lw_tbl := lw_at lw_m5 23 rfl
theorem q1087 : (Jvm.Cond.code ({ cls := "NobodysBard$Had", name := "kind", desc := "()I" } : Jvm.MethodName) prog_7_method_2_code (1 : Nat) (Option.some Jvm.ClassFile.FieldType.int)) ∈ lw_all := lw_g (lw_at lw_m5 24 rfl) rfl
theorem q1121 : (Jvm.Cond.selects "NobodysBard$Had" ({ cls := "NobodysBard$Comes", name := "from", desc := "()I" } : Jvm.MethodName) ({ cls := "NobodysBard$Whose", name := "from", desc := "()I" } : Jvm.MethodName)) ∈ lw_all := lw_g (lw_at lw_m5 58 rfl) rfl
theorem q1122 : (Jvm.Cond.unhidden "NobodysBard$Had" "from" "()I") ∈ lw_tbl := lw_at lw_m5 59 rfl
theorem q1555 : (Jvm.Cond.unhidden "NobodysBard$Had" "said" "()I") ∈ lw_tbl := lw_at lw_m7 12 rfl
theorem q2186 : (Jvm.Cond.castable "NobodysBard$Had" "java/lang/Object") ∈ lw_tbl := lw_at lw_m9 163 rfl
theorem in_X18 : ∀ w ∈ wsX180, w ∈ lw_all := lw_in wsX180 [1041] (by decide +kernel) (by decide +kernel)
/-! NobodysBard$Moved -/
set_option maxRecDepth 100000
def RX19 : String := "NobodysBard$Moved"
def TX19 : u_T := fun k => match k with
  | _ => ("NobodysBard$Whose", "from", "I", true)
def tyX19 : Nat → FieldType := fun k => match k with
  | _ => .int
abbrev wsX190 : List Cond := u_ws RX19 TX19 1
theorem nmX19 : ∀ a, a < 1 → ∀ b, b < 1 → a ≠ b → (TX19 a).2.1 ≠ (TX19 b).2.1 := by decide +kernel
theorem tyX19_ok : ∀ k, k < 1 → parseFieldDescriptor (TX19 k).2.2.1 = some (tyX19 k) := by decide +kernel
abbrev cX19_init : ByteArray := prog_11_method_1_code
def yX19_init : MethodName := ⟨RX19, "<init>", "(II)V"⟩
def dkwX19_init_0 : List UInt8 := [42, 27, 28, 183, 0, 1, 177]
abbrev dktX19_init_0 : List UInt8 := dkwX19_init_0 ++ []
theorem dksX19_init_0 : cX19_init.data.toList.drop 0 = dktX19_init_0 := by decide +kernel
theorem dX19_init_0 : decode cX19_init 0 = .ok (.aload_n 0, 1) := dk_42 (dk_at dksX19_init_0 0 rfl rfl)
theorem dX19_init_1 : decode cX19_init 1 = .ok (.iload_n 1, 1) := dk_27 (dk_at dksX19_init_0 1 rfl rfl)
theorem dX19_init_2 : decode cX19_init 2 = .ok (.iload_n 2, 1) := dk_28 (dk_at dksX19_init_0 2 rfl rfl)
theorem dX19_init_3 : decode cX19_init 3 = .ok (.invokespecial 1, 3) := dk_183 0 1 (dk_at dksX19_init_0 3 rfl rfl)
theorem dX19_init_6 : decode cX19_init 6 = .ok (.return_, 1) := dk_177 (dk_at dksX19_init_0 6 rfl rfl)
abbrev cX19_kind : ByteArray := prog_11_method_2_code
def yX19_kind : MethodName := ⟨RX19, "kind", "()I"⟩
theorem dX19_kind_0 : decode cX19_kind 0 = .ok (.iconst 1, 1) := by decide +kernel
theorem dX19_kind_1 : decode cX19_kind 1 = .ok (.ireturn, 1) := by decide +kernel
theorem q135 : (Jvm.Cond.initialized "NobodysBard$Moved") ∈ lw_all := lw_g (lw_at lw_m1 32 rfl) rfl
theorem q488 : (Jvm.Cond.selects "NobodysBard$Moved" ({ cls := "java/lang/Object", name := "getClass", desc := "()Ljava/lang/Class;" } : Jvm.MethodName) ({ cls := "java/lang/Object", name := "getClass", desc := "()Ljava/lang/Class;" } : Jvm.MethodName)) ∈ lw_all := lw_g (lw_at lw_m2 145 rfl) rfl
theorem q1045 : (Jvm.Cond.instantiable "NobodysBard$Moved" (1 : Nat)) ∈ lw_all := lw_g (lw_at lw_m4 222 rfl) rfl
theorem q1047 : (Jvm.Cond.instanceMethod ({ cls := "NobodysBard$Moved", name := "<init>", desc := "(II)V" } : Jvm.MethodName)) ∈ lw_all := lw_g (lw_at lw_m4 224 rfl) rfl
theorem q1048 : (Jvm.Cond.code ({ cls := "NobodysBard$Moved", name := "<init>", desc := "(II)V" } : Jvm.MethodName) prog_11_method_1_code (3 : Nat) (Option.none : Option Jvm.ClassFile.FieldType)) ∈ lw_all := lw_g (lw_at lw_m4 225 rfl) rfl
theorem q1049 : (Jvm.Cond.methodLink "NobodysBard$Moved" (1 : Nat) ({ cls := "NobodysBard$Had", name := "<init>", desc := "(II)V" } : Jvm.MethodName)) ∈ lw_all := lw_g (lw_at lw_m4 226 rfl) rfl
theorem q1050 : (Jvm.Cond.laysFinal "NobodysBard$Moved" "NobodysBard$Whose" "from" "I") ∈ lw_all := lw_g (lw_at lw_m4 227 rfl) rfl
theorem q1051 : (Jvm.Cond.superclass "NobodysBard$Moved" "NobodysBard$Had") ∈ lw_all := lw_g (lw_at lw_m4 228 rfl) rfl
theorem q1094 : (Jvm.Cond.castable "NobodysBard$Moved" "NobodysBard$Comes") ∈ lw_tbl := lw_at lw_m5 31 rfl
theorem q1095 : (Jvm.Cond.selects "NobodysBard$Moved" ({ cls := "NobodysBard$Comes", name := "kind", desc := "()I" } : Jvm.MethodName) ({ cls := "NobodysBard$Moved", name := "kind", desc := "()I" } : Jvm.MethodName)) ∈ lw_all := lw_g (lw_at lw_m5 32 rfl) rfl
theorem q1096 : (Jvm.Cond.unhidden "NobodysBard$Moved" "kind" "()I") ∈ lw_tbl := lw_at lw_m5 33 rfl
theorem q1097 : (Jvm.Cond.instanceMethod ({ cls := "NobodysBard$Moved", name := "kind", desc := "()I" } : Jvm.MethodName)) ∈ lw_all := lw_g (lw_at lw_m5 34 rfl) rfl
theorem q1098 : (Jvm.Cond.publicMethod ({ cls := "NobodysBard$Moved", name := "kind", desc := "()I" } : Jvm.MethodName)) ∈ lw_tbl := lw_at lw_m5 35 rfl
theorem q1099 : (Jvm.Cond.code ({ cls := "NobodysBard$Moved", name := "kind", desc := "()I" } : Jvm.MethodName) prog_11_method_2_code (1 : Nat) (Option.some Jvm.ClassFile.FieldType.int)) ∈ lw_all := lw_g (lw_at lw_m5 36 rfl) rfl
theorem q1127 : (Jvm.Cond.selects "NobodysBard$Moved" ({ cls := "NobodysBard$Comes", name := "from", desc := "()I" } : Jvm.MethodName) ({ cls := "NobodysBard$Whose", name := "from", desc := "()I" } : Jvm.MethodName)) ∈ lw_all := lw_g (lw_at lw_m5 64 rfl) rfl
theorem q1128 : (Jvm.Cond.unhidden "NobodysBard$Moved" "from" "()I") ∈ lw_tbl := lw_at lw_m5 65 rfl
theorem q1557 : (Jvm.Cond.unhidden "NobodysBard$Moved" "said" "()I") ∈ lw_tbl := lw_at lw_m7 14 rfl
theorem q2187 : (Jvm.Cond.castable "NobodysBard$Moved" "java/lang/Object") ∈ lw_tbl := lw_at lw_m9 164 rfl
theorem in_X19 : ∀ w ∈ wsX190, w ∈ lw_all := lw_in wsX190 [1050] (by decide +kernel) (by decide +kernel)
/-! NobodysBard$Law -/
set_option maxRecDepth 100000
def RX2 : String := "NobodysBard$Law"
def TX2 : u_T := fun k => match k with
  | 0 => ("NobodysBard$Law", "lose", "I", false)
  | 1 => ("NobodysBard$Law", "move", "I", false)
  | 2 => ("NobodysBard$Law", "smooth", "I", false)
  | 3 => ("NobodysBard$Law", "ways", "I", false)
  | _ => ("NobodysBard$Law", "said", "[I", true)
def tyX2 : Nat → FieldType := fun k => match k with
  | 0 => .int
  | 1 => .int
  | 2 => .int
  | 3 => .int
  | _ => .array .int
abbrev wsX20 : List Cond := u_ws RX2 TX2 5
theorem nmX2 : ∀ a, a < 5 → ∀ b, b < 5 → a ≠ b → (TX2 a).2.1 ≠ (TX2 b).2.1 := by decide +kernel
theorem tyX2_ok : ∀ k, k < 5 → parseFieldDescriptor (TX2 k).2.2.1 = some (tyX2 k) := by decide +kernel
abbrev cX2_init : ByteArray := prog_9_method_1_code
def yX2_init : MethodName := ⟨RX2, "<init>", "()V"⟩
def dkwX2_init_0 : List UInt8 := [42, 183, 0, 3, 42, 17, 1, 0, 188, 10, 181, 0, 9, 177]
abbrev dktX2_init_0 : List UInt8 := dkwX2_init_0 ++ []
theorem dksX2_init_0 : cX2_init.data.toList.drop 0 = dktX2_init_0 := by decide +kernel
theorem dX2_init_0 : decode cX2_init 0 = .ok (.aload_n 0, 1) := dk_42 (dk_at dksX2_init_0 0 rfl rfl)
theorem dX2_init_1 : decode cX2_init 1 = .ok (.invokespecial 3, 3) := dk_183 0 3 (dk_at dksX2_init_0 1 rfl rfl)
theorem dX2_init_4 : decode cX2_init 4 = .ok (.aload_n 0, 1) := dk_42 (dk_at dksX2_init_0 4 rfl rfl)
theorem dX2_init_5 : decode cX2_init 5 = .ok (.sipush 256, 3) := dk_17 1 0 (dk_at dksX2_init_0 5 rfl rfl)
theorem dX2_init_8 : decode cX2_init 8 = .ok (.newarray .int, 2) := dk_188_10 (dk_at dksX2_init_0 8 rfl rfl)
theorem dX2_init_10 : decode cX2_init 10 = .ok (.putfield 9, 3) := dk_181 0 9 (dk_at dksX2_init_0 10 rfl rfl)
theorem dX2_init_13 : decode cX2_init 13 = .ok (.return_, 1) := dk_177 (dk_at dksX2_init_0 13 rfl rfl)
theorem q109 : (Jvm.Cond.initialized "NobodysBard$Law") ∈ lw_all := lw_g (lw_at lw_m1 6 rfl) rfl
theorem q192 : (Jvm.Cond.instantiable "NobodysBard$Law" (5 : Nat)) ∈ lw_all := lw_g (lw_at lw_m1 89 rfl) rfl
theorem q194 : (Jvm.Cond.instanceMethod ({ cls := "NobodysBard$Law", name := "<init>", desc := "()V" } : Jvm.MethodName)) ∈ lw_all := lw_g (lw_at lw_m1 91 rfl) rfl
theorem q195 : (Jvm.Cond.code ({ cls := "NobodysBard$Law", name := "<init>", desc := "()V" } : Jvm.MethodName) prog_9_method_1_code (1 : Nat) (Option.none : Option Jvm.ClassFile.FieldType)) ∈ lw_all := lw_g (lw_at lw_m1 92 rfl) rfl
theorem q196 : (Jvm.Cond.methodLink "NobodysBard$Law" (3 : Nat) ({ cls := "java/lang/Object", name := "<init>", desc := "()V" } : Jvm.MethodName)) ∈ lw_all := lw_g (lw_at lw_m1 93 rfl) rfl
theorem q205 : (Jvm.Cond.fieldLink "NobodysBard$Law" (9 : Nat) "NobodysBard$Law" "said" "[I") ∈ lw_all := lw_g (lw_at lw_m1 102 rfl) rfl
theorem q208 : (Jvm.Cond.lays "NobodysBard$Law" "NobodysBard$Law" "lose" "I") ∈ lw_all := lw_g (lw_at lw_m1 105 rfl) rfl
theorem q209 : (Jvm.Cond.soleField "NobodysBard$Law" "lose") ∈ lw_all := lw_g (lw_at lw_m1 106 rfl) rfl
theorem q210 : (Jvm.Cond.lays "NobodysBard$Law" "NobodysBard$Law" "move" "I") ∈ lw_all := lw_g (lw_at lw_m1 107 rfl) rfl
theorem q211 : (Jvm.Cond.soleField "NobodysBard$Law" "move") ∈ lw_all := lw_g (lw_at lw_m1 108 rfl) rfl
theorem q212 : (Jvm.Cond.lays "NobodysBard$Law" "NobodysBard$Law" "smooth" "I") ∈ lw_all := lw_g (lw_at lw_m1 109 rfl) rfl
theorem q213 : (Jvm.Cond.soleField "NobodysBard$Law" "smooth") ∈ lw_all := lw_g (lw_at lw_m1 110 rfl) rfl
theorem q214 : (Jvm.Cond.lays "NobodysBard$Law" "NobodysBard$Law" "ways" "I") ∈ lw_all := lw_g (lw_at lw_m1 111 rfl) rfl
theorem q215 : (Jvm.Cond.soleField "NobodysBard$Law" "ways") ∈ lw_all := lw_g (lw_at lw_m1 112 rfl) rfl
theorem q216 : (Jvm.Cond.laysFinal "NobodysBard$Law" "NobodysBard$Law" "said" "[I") ∈ lw_all := lw_g (lw_at lw_m1 113 rfl) rfl
theorem q217 : (Jvm.Cond.soleField "NobodysBard$Law" "said") ∈ lw_all := lw_g (lw_at lw_m1 114 rfl) rfl
theorem q218 : (Jvm.Cond.superclass "NobodysBard$Law" "java/lang/Object") ∈ lw_all := lw_g (lw_at lw_m1 115 rfl) rfl
theorem q486 : (Jvm.Cond.selects "NobodysBard$Law" ({ cls := "java/lang/Object", name := "getClass", desc := "()Ljava/lang/Class;" } : Jvm.MethodName) ({ cls := "java/lang/Object", name := "getClass", desc := "()Ljava/lang/Class;" } : Jvm.MethodName)) ∈ lw_all := lw_g (lw_at lw_m2 143 rfl) rfl
theorem q2173 : (Jvm.Cond.castable "NobodysBard$Law" "java/lang/Object") ∈ lw_tbl := lw_at lw_m9 150 rfl
theorem in_X2 : ∀ w ∈ wsX20, w ∈ lw_all := lw_in wsX20 [208, 210, 212, 214, 216] (by decide +kernel) (by decide +kernel)
/-! NobodysBard$Smoothed -/
set_option maxRecDepth 100000
def RX20 : String := "NobodysBard$Smoothed"
def TX20 : u_T := fun k => match k with
  | _ => ("NobodysBard$Whose", "from", "I", true)
def tyX20 : Nat → FieldType := fun k => match k with
  | _ => .int
abbrev wsX200 : List Cond := u_ws RX20 TX20 1
theorem nmX20 : ∀ a, a < 1 → ∀ b, b < 1 → a ≠ b → (TX20 a).2.1 ≠ (TX20 b).2.1 := by decide +kernel
theorem tyX20_ok : ∀ k, k < 1 → parseFieldDescriptor (TX20 k).2.2.1 = some (tyX20 k) := by decide +kernel
abbrev cX20_init : ByteArray := prog_22_method_1_code
def yX20_init : MethodName := ⟨RX20, "<init>", "(II)V"⟩
def dkwX20_init_0 : List UInt8 := [42, 27, 28, 183, 0, 1, 177]
abbrev dktX20_init_0 : List UInt8 := dkwX20_init_0 ++ []
theorem dksX20_init_0 : cX20_init.data.toList.drop 0 = dktX20_init_0 := by decide +kernel
theorem dX20_init_0 : decode cX20_init 0 = .ok (.aload_n 0, 1) := dk_42 (dk_at dksX20_init_0 0 rfl rfl)
theorem dX20_init_1 : decode cX20_init 1 = .ok (.iload_n 1, 1) := dk_27 (dk_at dksX20_init_0 1 rfl rfl)
theorem dX20_init_2 : decode cX20_init 2 = .ok (.iload_n 2, 1) := dk_28 (dk_at dksX20_init_0 2 rfl rfl)
theorem dX20_init_3 : decode cX20_init 3 = .ok (.invokespecial 1, 3) := dk_183 0 1 (dk_at dksX20_init_0 3 rfl rfl)
theorem dX20_init_6 : decode cX20_init 6 = .ok (.return_, 1) := dk_177 (dk_at dksX20_init_0 6 rfl rfl)
abbrev cX20_kind : ByteArray := prog_22_method_2_code
def yX20_kind : MethodName := ⟨RX20, "kind", "()I"⟩
theorem dX20_kind_0 : decode cX20_kind 0 = .ok (.iconst 2, 1) := by decide +kernel
theorem dX20_kind_1 : decode cX20_kind 1 = .ok (.ireturn, 1) := by decide +kernel
theorem q136 : (Jvm.Cond.initialized "NobodysBard$Smoothed") ∈ lw_all := lw_g (lw_at lw_m1 33 rfl) rfl
theorem q499 : (Jvm.Cond.selects "NobodysBard$Smoothed" ({ cls := "java/lang/Object", name := "getClass", desc := "()Ljava/lang/Class;" } : Jvm.MethodName) ({ cls := "java/lang/Object", name := "getClass", desc := "()Ljava/lang/Class;" } : Jvm.MethodName)) ∈ lw_all := lw_g (lw_at lw_m2 156 rfl) rfl
theorem q1053 : (Jvm.Cond.instantiable "NobodysBard$Smoothed" (1 : Nat)) ∈ lw_all := lw_g (lw_at lw_m4 230 rfl) rfl
theorem q1055 : (Jvm.Cond.instanceMethod ({ cls := "NobodysBard$Smoothed", name := "<init>", desc := "(II)V" } : Jvm.MethodName)) ∈ lw_all := lw_g (lw_at lw_m4 232 rfl) rfl
theorem q1056 : (Jvm.Cond.code ({ cls := "NobodysBard$Smoothed", name := "<init>", desc := "(II)V" } : Jvm.MethodName) prog_22_method_1_code (3 : Nat) (Option.none : Option Jvm.ClassFile.FieldType)) ∈ lw_all := lw_g (lw_at lw_m4 233 rfl) rfl
theorem q1057 : (Jvm.Cond.methodLink "NobodysBard$Smoothed" (1 : Nat) ({ cls := "NobodysBard$Had", name := "<init>", desc := "(II)V" } : Jvm.MethodName)) ∈ lw_all := lw_g (lw_at lw_m4 234 rfl) rfl
theorem q1058 : (Jvm.Cond.laysFinal "NobodysBard$Smoothed" "NobodysBard$Whose" "from" "I") ∈ lw_all := lw_g (lw_at lw_m4 235 rfl) rfl
theorem q1059 : (Jvm.Cond.superclass "NobodysBard$Smoothed" "NobodysBard$Had") ∈ lw_all := lw_g (lw_at lw_m4 236 rfl) rfl
theorem q1106 : (Jvm.Cond.castable "NobodysBard$Smoothed" "NobodysBard$Comes") ∈ lw_tbl := lw_at lw_m5 43 rfl
theorem q1107 : (Jvm.Cond.selects "NobodysBard$Smoothed" ({ cls := "NobodysBard$Comes", name := "kind", desc := "()I" } : Jvm.MethodName) ({ cls := "NobodysBard$Smoothed", name := "kind", desc := "()I" } : Jvm.MethodName)) ∈ lw_all := lw_g (lw_at lw_m5 44 rfl) rfl
theorem q1108 : (Jvm.Cond.unhidden "NobodysBard$Smoothed" "kind" "()I") ∈ lw_tbl := lw_at lw_m5 45 rfl
theorem q1109 : (Jvm.Cond.instanceMethod ({ cls := "NobodysBard$Smoothed", name := "kind", desc := "()I" } : Jvm.MethodName)) ∈ lw_all := lw_g (lw_at lw_m5 46 rfl) rfl
theorem q1110 : (Jvm.Cond.publicMethod ({ cls := "NobodysBard$Smoothed", name := "kind", desc := "()I" } : Jvm.MethodName)) ∈ lw_tbl := lw_at lw_m5 47 rfl
theorem q1111 : (Jvm.Cond.code ({ cls := "NobodysBard$Smoothed", name := "kind", desc := "()I" } : Jvm.MethodName) prog_22_method_2_code (1 : Nat) (Option.some Jvm.ClassFile.FieldType.int)) ∈ lw_all := lw_g (lw_at lw_m5 48 rfl) rfl
theorem q1130 : (Jvm.Cond.selects "NobodysBard$Smoothed" ({ cls := "NobodysBard$Comes", name := "from", desc := "()I" } : Jvm.MethodName) ({ cls := "NobodysBard$Whose", name := "from", desc := "()I" } : Jvm.MethodName)) ∈ lw_all := lw_g (lw_at lw_m5 67 rfl) rfl
theorem q1131 : (Jvm.Cond.unhidden "NobodysBard$Smoothed" "from" "()I") ∈ lw_tbl := lw_at lw_m5 68 rfl
theorem q1559 : (Jvm.Cond.unhidden "NobodysBard$Smoothed" "said" "()I") ∈ lw_tbl := lw_at lw_m7 16 rfl
theorem q2188 : (Jvm.Cond.castable "NobodysBard$Smoothed" "java/lang/Object") ∈ lw_tbl := lw_at lw_m9 165 rfl
theorem in_X20 : ∀ w ∈ wsX200, w ∈ lw_all := lw_in wsX200 [1058] (by decide +kernel) (by decide +kernel)
/-! NobodysBard$Borrowed -/
set_option maxRecDepth 100000
def RX21 : String := "NobodysBard$Borrowed"
def TX21 : u_T := fun k => match k with
  | _ => ("NobodysBard$Whose", "from", "I", true)
def tyX21 : Nat → FieldType := fun k => match k with
  | _ => .int
abbrev wsX210 : List Cond := u_ws RX21 TX21 1
theorem nmX21 : ∀ a, a < 1 → ∀ b, b < 1 → a ≠ b → (TX21 a).2.1 ≠ (TX21 b).2.1 := by decide +kernel
theorem tyX21_ok : ∀ k, k < 1 → parseFieldDescriptor (TX21 k).2.2.1 = some (tyX21 k) := by decide +kernel
abbrev cX21_init : ByteArray := prog_4_method_1_code
def yX21_init : MethodName := ⟨RX21, "<init>", "(II)V"⟩
def dkwX21_init_0 : List UInt8 := [42, 27, 28, 183, 0, 1, 177]
abbrev dktX21_init_0 : List UInt8 := dkwX21_init_0 ++ []
theorem dksX21_init_0 : cX21_init.data.toList.drop 0 = dktX21_init_0 := by decide +kernel
theorem dX21_init_0 : decode cX21_init 0 = .ok (.aload_n 0, 1) := dk_42 (dk_at dksX21_init_0 0 rfl rfl)
theorem dX21_init_1 : decode cX21_init 1 = .ok (.iload_n 1, 1) := dk_27 (dk_at dksX21_init_0 1 rfl rfl)
theorem dX21_init_2 : decode cX21_init 2 = .ok (.iload_n 2, 1) := dk_28 (dk_at dksX21_init_0 2 rfl rfl)
theorem dX21_init_3 : decode cX21_init 3 = .ok (.invokespecial 1, 3) := dk_183 0 1 (dk_at dksX21_init_0 3 rfl rfl)
theorem dX21_init_6 : decode cX21_init 6 = .ok (.return_, 1) := dk_177 (dk_at dksX21_init_0 6 rfl rfl)
abbrev cX21_kind : ByteArray := prog_4_method_2_code
def yX21_kind : MethodName := ⟨RX21, "kind", "()I"⟩
theorem dX21_kind_0 : decode cX21_kind 0 = .ok (.iconst 3, 1) := by decide +kernel
theorem dX21_kind_1 : decode cX21_kind 1 = .ok (.ireturn, 1) := by decide +kernel
theorem q137 : (Jvm.Cond.initialized "NobodysBard$Borrowed") ∈ lw_all := lw_g (lw_at lw_m1 34 rfl) rfl
theorem q482 : (Jvm.Cond.selects "NobodysBard$Borrowed" ({ cls := "java/lang/Object", name := "getClass", desc := "()Ljava/lang/Class;" } : Jvm.MethodName) ({ cls := "java/lang/Object", name := "getClass", desc := "()Ljava/lang/Class;" } : Jvm.MethodName)) ∈ lw_all := lw_g (lw_at lw_m2 139 rfl) rfl
theorem q1065 : (Jvm.Cond.instantiable "NobodysBard$Borrowed" (1 : Nat)) ∈ lw_all := lw_g (lw_at lw_m5 2 rfl) rfl
theorem q1067 : (Jvm.Cond.instanceMethod ({ cls := "NobodysBard$Borrowed", name := "<init>", desc := "(II)V" } : Jvm.MethodName)) ∈ lw_all := lw_g (lw_at lw_m5 4 rfl) rfl
theorem q1068 : (Jvm.Cond.code ({ cls := "NobodysBard$Borrowed", name := "<init>", desc := "(II)V" } : Jvm.MethodName) prog_4_method_1_code (3 : Nat) (Option.none : Option Jvm.ClassFile.FieldType)) ∈ lw_all := lw_g (lw_at lw_m5 5 rfl) rfl
theorem q1069 : (Jvm.Cond.methodLink "NobodysBard$Borrowed" (1 : Nat) ({ cls := "NobodysBard$Whose", name := "<init>", desc := "(II)V" } : Jvm.MethodName)) ∈ lw_all := lw_g (lw_at lw_m5 6 rfl) rfl
theorem q1070 : (Jvm.Cond.laysFinal "NobodysBard$Borrowed" "NobodysBard$Whose" "from" "I") ∈ lw_all := lw_g (lw_at lw_m5 7 rfl) rfl
theorem q1071 : (Jvm.Cond.superclass "NobodysBard$Borrowed" "NobodysBard$Whose") ∈ lw_all := lw_g (lw_at lw_m5 8 rfl) rfl
theorem q1076 : (Jvm.Cond.castable "NobodysBard$Borrowed" "NobodysBard$Comes") ∈ lw_tbl := lw_at lw_m5 13 rfl
theorem q1077 : (Jvm.Cond.selects "NobodysBard$Borrowed" ({ cls := "NobodysBard$Comes", name := "kind", desc := "()I" } : Jvm.MethodName) ({ cls := "NobodysBard$Borrowed", name := "kind", desc := "()I" } : Jvm.MethodName)) ∈ lw_all := lw_g (lw_at lw_m5 14 rfl) rfl
theorem q1078 : (Jvm.Cond.unhidden "NobodysBard$Borrowed" "kind" "()I") ∈ lw_tbl := lw_at lw_m5 15 rfl
theorem q1079 : (Jvm.Cond.instanceMethod ({ cls := "NobodysBard$Borrowed", name := "kind", desc := "()I" } : Jvm.MethodName)) ∈ lw_all := lw_g (lw_at lw_m5 16 rfl) rfl
theorem q1080 : (Jvm.Cond.publicMethod ({ cls := "NobodysBard$Borrowed", name := "kind", desc := "()I" } : Jvm.MethodName)) ∈ lw_tbl := lw_at lw_m5 17 rfl
theorem q1081 : (Jvm.Cond.code ({ cls := "NobodysBard$Borrowed", name := "kind", desc := "()I" } : Jvm.MethodName) prog_4_method_2_code (1 : Nat) (Option.some Jvm.ClassFile.FieldType.int)) ∈ lw_all := lw_g (lw_at lw_m5 18 rfl) rfl
theorem q1116 : (Jvm.Cond.selects "NobodysBard$Borrowed" ({ cls := "NobodysBard$Comes", name := "from", desc := "()I" } : Jvm.MethodName) ({ cls := "NobodysBard$Whose", name := "from", desc := "()I" } : Jvm.MethodName)) ∈ lw_all := lw_g (lw_at lw_m5 53 rfl) rfl
theorem q1117 : (Jvm.Cond.unhidden "NobodysBard$Borrowed" "from" "()I") ∈ lw_tbl := lw_at lw_m5 54 rfl
theorem q1549 : (Jvm.Cond.unhidden "NobodysBard$Borrowed" "said" "()I") ∈ lw_tbl := lw_at lw_m7 6 rfl
theorem q2189 : (Jvm.Cond.castable "NobodysBard$Borrowed" "java/lang/Object") ∈ lw_tbl := lw_at lw_m9 166 rfl
theorem in_X21 : ∀ w ∈ wsX210, w ∈ lw_all := lw_in wsX210 [1070] (by decide +kernel) (by decide +kernel)
/-! NobodysBard$Version -/
set_option maxRecDepth 100000
def RX22 : String := "NobodysBard$Version"
def TX22 : u_T := fun k => match k with
  | 0 => ("NobodysBard$Version", "old", "LNobodysBard$Phrase;", true)
  | 1 => ("NobodysBard$Version", "young", "LNobodysBard$Phrase;", true)
  | 2 => ("NobodysBard$Version", "day", "I", true)
  | _ => ("NobodysBard$Version", "tale", "I", true)
def tyX22 : Nat → FieldType := fun k => match k with
  | 0 => .object "NobodysBard$Phrase"
  | 1 => .object "NobodysBard$Phrase"
  | 2 => .int
  | _ => .int
abbrev wsX220 : List Cond := u_ws RX22 TX22 4
theorem nmX22 : ∀ a, a < 4 → ∀ b, b < 4 → a ≠ b → (TX22 a).2.1 ≠ (TX22 b).2.1 := by decide +kernel
theorem tyX22_ok : ∀ k, k < 4 → parseFieldDescriptor (TX22 k).2.2.1 = some (tyX22 k) := by decide +kernel
abbrev cX22_init : ByteArray := prog_25_method_1_code
def yX22_init : MethodName := ⟨RX22, "<init>", "(LNobodysBard$Phrase;LNobodysBard$Phrase;II)V"⟩
def dkwX22_init_1 : List UInt8 := [181, 0, 20, 177]
abbrev dktX22_init_1 : List UInt8 := dkwX22_init_1 ++ []
def dkwX22_init_0 : List UInt8 := [42, 183, 0, 1, 42, 43, 181, 0, 7, 42, 44, 181, 0, 13, 42, 29, 181, 0, 16, 42, 21, 4]
abbrev dktX22_init_0 : List UInt8 := dkwX22_init_0 ++ dktX22_init_1
theorem dksX22_init_0 : cX22_init.data.toList.drop 0 = dktX22_init_0 := by decide +kernel
theorem dksX22_init_1 : cX22_init.data.toList.drop 22 = dktX22_init_1 := dk_seg dksX22_init_0 22 rfl rfl
theorem dX22_init_0 : decode cX22_init 0 = .ok (.aload_n 0, 1) := dk_42 (dk_at dksX22_init_0 0 rfl rfl)
theorem dX22_init_1 : decode cX22_init 1 = .ok (.invokespecial 1, 3) := dk_183 0 1 (dk_at dksX22_init_0 1 rfl rfl)
theorem dX22_init_4 : decode cX22_init 4 = .ok (.aload_n 0, 1) := dk_42 (dk_at dksX22_init_0 4 rfl rfl)
theorem dX22_init_5 : decode cX22_init 5 = .ok (.aload_n 1, 1) := dk_43 (dk_at dksX22_init_0 5 rfl rfl)
theorem dX22_init_6 : decode cX22_init 6 = .ok (.putfield 7, 3) := dk_181 0 7 (dk_at dksX22_init_0 6 rfl rfl)
theorem dX22_init_9 : decode cX22_init 9 = .ok (.aload_n 0, 1) := dk_42 (dk_at dksX22_init_0 9 rfl rfl)
theorem dX22_init_10 : decode cX22_init 10 = .ok (.aload_n 2, 1) := dk_44 (dk_at dksX22_init_0 10 rfl rfl)
theorem dX22_init_11 : decode cX22_init 11 = .ok (.putfield 13, 3) := dk_181 0 13 (dk_at dksX22_init_0 11 rfl rfl)
theorem dX22_init_14 : decode cX22_init 14 = .ok (.aload_n 0, 1) := dk_42 (dk_at dksX22_init_0 14 rfl rfl)
theorem dX22_init_15 : decode cX22_init 15 = .ok (.iload_n 3, 1) := dk_29 (dk_at dksX22_init_0 15 rfl rfl)
theorem dX22_init_16 : decode cX22_init 16 = .ok (.putfield 16, 3) := dk_181 0 16 (dk_at dksX22_init_0 16 rfl rfl)
theorem dX22_init_19 : decode cX22_init 19 = .ok (.aload_n 0, 1) := dk_42 (dk_at dksX22_init_0 19 rfl rfl)
theorem dX22_init_20 : decode cX22_init 20 = .ok (.iload 4, 2) := dk_21 4 (dk_at dksX22_init_0 20 rfl rfl)
theorem dX22_init_22 : decode cX22_init 22 = .ok (.putfield 20, 3) := dk_181 0 20 (dk_at dksX22_init_1 0 rfl rfl)
theorem dX22_init_25 : decode cX22_init 25 = .ok (.return_, 1) := dk_177 (dk_at dksX22_init_1 3 rfl rfl)
theorem q138 : (Jvm.Cond.initialized "NobodysBard$Version") ∈ lw_all := lw_g (lw_at lw_m1 35 rfl) rfl
theorem q501 : (Jvm.Cond.selects "NobodysBard$Version" ({ cls := "java/lang/Object", name := "getClass", desc := "()Ljava/lang/Class;" } : Jvm.MethodName) ({ cls := "java/lang/Object", name := "getClass", desc := "()Ljava/lang/Class;" } : Jvm.MethodName)) ∈ lw_all := lw_g (lw_at lw_m2 158 rfl) rfl
theorem q1210 : (Jvm.Cond.instantiable "NobodysBard$Version" (4 : Nat)) ∈ lw_all := lw_g (lw_at lw_m5 147 rfl) rfl
theorem q1212 : (Jvm.Cond.instanceMethod ({ cls := "NobodysBard$Version", name := "<init>", desc := "(LNobodysBard$Phrase;LNobodysBard$Phrase;II)V" } : Jvm.MethodName)) ∈ lw_all := lw_g (lw_at lw_m5 149 rfl) rfl
theorem q1213 : (Jvm.Cond.code ({ cls := "NobodysBard$Version", name := "<init>", desc := "(LNobodysBard$Phrase;LNobodysBard$Phrase;II)V" } : Jvm.MethodName) prog_25_method_1_code (5 : Nat) (Option.none : Option Jvm.ClassFile.FieldType)) ∈ lw_all := lw_g (lw_at lw_m5 150 rfl) rfl
theorem q1214 : (Jvm.Cond.methodLink "NobodysBard$Version" (1 : Nat) ({ cls := "java/lang/Object", name := "<init>", desc := "()V" } : Jvm.MethodName)) ∈ lw_all := lw_g (lw_at lw_m5 151 rfl) rfl
theorem q1215 : (Jvm.Cond.fieldLink "NobodysBard$Version" (7 : Nat) "NobodysBard$Version" "old" "LNobodysBard$Phrase;") ∈ lw_all := lw_g (lw_at lw_m5 152 rfl) rfl
theorem q1217 : (Jvm.Cond.fieldLink "NobodysBard$Version" (13 : Nat) "NobodysBard$Version" "young" "LNobodysBard$Phrase;") ∈ lw_all := lw_g (lw_at lw_m5 154 rfl) rfl
theorem q1219 : (Jvm.Cond.fieldLink "NobodysBard$Version" (16 : Nat) "NobodysBard$Version" "day" "I") ∈ lw_all := lw_g (lw_at lw_m5 156 rfl) rfl
theorem q1221 : (Jvm.Cond.fieldLink "NobodysBard$Version" (20 : Nat) "NobodysBard$Version" "tale" "I") ∈ lw_all := lw_g (lw_at lw_m5 158 rfl) rfl
theorem q1223 : (Jvm.Cond.laysFinal "NobodysBard$Version" "NobodysBard$Version" "old" "LNobodysBard$Phrase;") ∈ lw_all := lw_g (lw_at lw_m5 160 rfl) rfl
theorem q1224 : (Jvm.Cond.soleField "NobodysBard$Version" "old") ∈ lw_all := lw_g (lw_at lw_m5 161 rfl) rfl
theorem q1225 : (Jvm.Cond.laysFinal "NobodysBard$Version" "NobodysBard$Version" "young" "LNobodysBard$Phrase;") ∈ lw_all := lw_g (lw_at lw_m5 162 rfl) rfl
theorem q1226 : (Jvm.Cond.soleField "NobodysBard$Version" "young") ∈ lw_all := lw_g (lw_at lw_m5 163 rfl) rfl
theorem q1227 : (Jvm.Cond.laysFinal "NobodysBard$Version" "NobodysBard$Version" "day" "I") ∈ lw_all := lw_g (lw_at lw_m5 164 rfl) rfl
theorem q1228 : (Jvm.Cond.soleField "NobodysBard$Version" "day") ∈ lw_all := lw_g (lw_at lw_m5 165 rfl) rfl
theorem q1229 : (Jvm.Cond.laysFinal "NobodysBard$Version" "NobodysBard$Version" "tale" "I") ∈ lw_all := lw_g (lw_at lw_m5 166 rfl) rfl
theorem q1230 : (Jvm.Cond.soleField "NobodysBard$Version" "tale") ∈ lw_all := lw_g (lw_at lw_m5 167 rfl) rfl
theorem q1231 : (Jvm.Cond.superclass "NobodysBard$Version" "java/lang/Object") ∈ lw_all := lw_g (lw_at lw_m5 168 rfl) rfl
theorem q2190 : (Jvm.Cond.castable "NobodysBard$Version" "java/lang/Object") ∈ lw_tbl := lw_at lw_m9 167 rfl
theorem in_X22 : ∀ w ∈ wsX220, w ∈ lw_all := lw_in wsX220 [1223, 1225, 1227, 1229] (by decide +kernel) (by decide +kernel)
/-! NobodysBard$Answer -/
set_option maxRecDepth 100000
def RX23 : String := "NobodysBard$Answer"
def TX23 : u_T := fun k => match k with
  | 0 => ("NobodysBard$Answer", "glen", "I", true)
  | 1 => ("NobodysBard$Answer", "day", "I", true)
  | 2 => ("NobodysBard$Answer", "hope", "I", true)
  | 3 => ("NobodysBard$Answer", "first", "I", true)
  | 4 => ("NobodysBard$Answer", "second", "I", true)
  | _ => ("NobodysBard$Answer", "line", "LNobodysBard$Phrase;", true)
def tyX23 : Nat → FieldType := fun k => match k with
  | 0 => .int
  | 1 => .int
  | 2 => .int
  | 3 => .int
  | 4 => .int
  | _ => .object "NobodysBard$Phrase"
abbrev wsX230 : List Cond := u_ws RX23 TX23 6
theorem nmX23 : ∀ a, a < 6 → ∀ b, b < 6 → a ≠ b → (TX23 a).2.1 ≠ (TX23 b).2.1 := by decide +kernel
theorem tyX23_ok : ∀ k, k < 6 → parseFieldDescriptor (TX23 k).2.2.1 = some (tyX23 k) := by decide +kernel
abbrev cX23_init : ByteArray := prog_2_method_1_code
def yX23_init : MethodName := ⟨RX23, "<init>", "(IIIIILNobodysBard$Phrase;)V"⟩
def dkwX23_init_1 : List UInt8 := [181, 0, 19, 42, 21, 5, 181, 0, 22, 42, 25, 6, 181, 0, 25, 177]
abbrev dktX23_init_1 : List UInt8 := dkwX23_init_1 ++ []
def dkwX23_init_0 : List UInt8 := [42, 183, 0, 1, 42, 27, 181, 0, 7, 42, 28, 181, 0, 13, 42, 29, 181, 0, 16, 42, 21, 4]
abbrev dktX23_init_0 : List UInt8 := dkwX23_init_0 ++ dktX23_init_1
theorem dksX23_init_0 : cX23_init.data.toList.drop 0 = dktX23_init_0 := by decide +kernel
theorem dksX23_init_1 : cX23_init.data.toList.drop 22 = dktX23_init_1 := dk_seg dksX23_init_0 22 rfl rfl
theorem dX23_init_0 : decode cX23_init 0 = .ok (.aload_n 0, 1) := dk_42 (dk_at dksX23_init_0 0 rfl rfl)
theorem dX23_init_1 : decode cX23_init 1 = .ok (.invokespecial 1, 3) := dk_183 0 1 (dk_at dksX23_init_0 1 rfl rfl)
theorem dX23_init_4 : decode cX23_init 4 = .ok (.aload_n 0, 1) := dk_42 (dk_at dksX23_init_0 4 rfl rfl)
theorem dX23_init_5 : decode cX23_init 5 = .ok (.iload_n 1, 1) := dk_27 (dk_at dksX23_init_0 5 rfl rfl)
theorem dX23_init_6 : decode cX23_init 6 = .ok (.putfield 7, 3) := dk_181 0 7 (dk_at dksX23_init_0 6 rfl rfl)
theorem dX23_init_9 : decode cX23_init 9 = .ok (.aload_n 0, 1) := dk_42 (dk_at dksX23_init_0 9 rfl rfl)
theorem dX23_init_10 : decode cX23_init 10 = .ok (.iload_n 2, 1) := dk_28 (dk_at dksX23_init_0 10 rfl rfl)
theorem dX23_init_11 : decode cX23_init 11 = .ok (.putfield 13, 3) := dk_181 0 13 (dk_at dksX23_init_0 11 rfl rfl)
theorem dX23_init_14 : decode cX23_init 14 = .ok (.aload_n 0, 1) := dk_42 (dk_at dksX23_init_0 14 rfl rfl)
theorem dX23_init_15 : decode cX23_init 15 = .ok (.iload_n 3, 1) := dk_29 (dk_at dksX23_init_0 15 rfl rfl)
theorem dX23_init_16 : decode cX23_init 16 = .ok (.putfield 16, 3) := dk_181 0 16 (dk_at dksX23_init_0 16 rfl rfl)
theorem dX23_init_19 : decode cX23_init 19 = .ok (.aload_n 0, 1) := dk_42 (dk_at dksX23_init_0 19 rfl rfl)
theorem dX23_init_20 : decode cX23_init 20 = .ok (.iload 4, 2) := dk_21 4 (dk_at dksX23_init_0 20 rfl rfl)
theorem dX23_init_22 : decode cX23_init 22 = .ok (.putfield 19, 3) := dk_181 0 19 (dk_at dksX23_init_1 0 rfl rfl)
theorem dX23_init_25 : decode cX23_init 25 = .ok (.aload_n 0, 1) := dk_42 (dk_at dksX23_init_1 3 rfl rfl)
theorem dX23_init_26 : decode cX23_init 26 = .ok (.iload 5, 2) := dk_21 5 (dk_at dksX23_init_1 4 rfl rfl)
theorem dX23_init_28 : decode cX23_init 28 = .ok (.putfield 22, 3) := dk_181 0 22 (dk_at dksX23_init_1 6 rfl rfl)
theorem dX23_init_31 : decode cX23_init 31 = .ok (.aload_n 0, 1) := dk_42 (dk_at dksX23_init_1 9 rfl rfl)
theorem dX23_init_32 : decode cX23_init 32 = .ok (.aload 6, 2) := dk_25 6 (dk_at dksX23_init_1 10 rfl rfl)
theorem dX23_init_34 : decode cX23_init 34 = .ok (.putfield 25, 3) := dk_181 0 25 (dk_at dksX23_init_1 12 rfl rfl)
theorem dX23_init_37 : decode cX23_init 37 = .ok (.return_, 1) := dk_177 (dk_at dksX23_init_1 15 rfl rfl)
theorem q139 : (Jvm.Cond.initialized "NobodysBard$Answer") ∈ lw_all := lw_g (lw_at lw_m1 36 rfl) rfl
theorem q480 : (Jvm.Cond.selects "NobodysBard$Answer" ({ cls := "java/lang/Object", name := "getClass", desc := "()Ljava/lang/Class;" } : Jvm.MethodName) ({ cls := "java/lang/Object", name := "getClass", desc := "()Ljava/lang/Class;" } : Jvm.MethodName)) ∈ lw_all := lw_g (lw_at lw_m2 137 rfl) rfl
theorem q1245 : (Jvm.Cond.instantiable "NobodysBard$Answer" (6 : Nat)) ∈ lw_all := lw_g (lw_at lw_m5 182 rfl) rfl
theorem q1247 : (Jvm.Cond.instanceMethod ({ cls := "NobodysBard$Answer", name := "<init>", desc := "(IIIIILNobodysBard$Phrase;)V" } : Jvm.MethodName)) ∈ lw_all := lw_g (lw_at lw_m5 184 rfl) rfl
theorem q1248 : (Jvm.Cond.code ({ cls := "NobodysBard$Answer", name := "<init>", desc := "(IIIIILNobodysBard$Phrase;)V" } : Jvm.MethodName) prog_2_method_1_code (7 : Nat) (Option.none : Option Jvm.ClassFile.FieldType)) ∈ lw_all := lw_g (lw_at lw_m5 185 rfl) rfl
theorem q1249 : (Jvm.Cond.methodLink "NobodysBard$Answer" (1 : Nat) ({ cls := "java/lang/Object", name := "<init>", desc := "()V" } : Jvm.MethodName)) ∈ lw_all := lw_g (lw_at lw_m5 186 rfl) rfl
theorem q1250 : (Jvm.Cond.fieldLink "NobodysBard$Answer" (7 : Nat) "NobodysBard$Answer" "glen" "I") ∈ lw_all := lw_g (lw_at lw_m5 187 rfl) rfl
theorem q1252 : (Jvm.Cond.fieldLink "NobodysBard$Answer" (13 : Nat) "NobodysBard$Answer" "day" "I") ∈ lw_all := lw_g (lw_at lw_m5 189 rfl) rfl
theorem q1254 : (Jvm.Cond.fieldLink "NobodysBard$Answer" (16 : Nat) "NobodysBard$Answer" "hope" "I") ∈ lw_all := lw_g (lw_at lw_m5 191 rfl) rfl
theorem q1256 : (Jvm.Cond.fieldLink "NobodysBard$Answer" (19 : Nat) "NobodysBard$Answer" "first" "I") ∈ lw_all := lw_g (lw_at lw_m5 193 rfl) rfl
theorem q1258 : (Jvm.Cond.fieldLink "NobodysBard$Answer" (22 : Nat) "NobodysBard$Answer" "second" "I") ∈ lw_all := lw_g (lw_at lw_m5 195 rfl) rfl
theorem q1260 : (Jvm.Cond.fieldLink "NobodysBard$Answer" (25 : Nat) "NobodysBard$Answer" "line" "LNobodysBard$Phrase;") ∈ lw_all := lw_g (lw_at lw_m5 197 rfl) rfl
theorem q1262 : (Jvm.Cond.laysFinal "NobodysBard$Answer" "NobodysBard$Answer" "glen" "I") ∈ lw_all := lw_g (lw_at lw_m5 199 rfl) rfl
theorem q1263 : (Jvm.Cond.soleField "NobodysBard$Answer" "glen") ∈ lw_all := lw_g (lw_at lw_m5 200 rfl) rfl
theorem q1264 : (Jvm.Cond.laysFinal "NobodysBard$Answer" "NobodysBard$Answer" "day" "I") ∈ lw_all := lw_g (lw_at lw_m5 201 rfl) rfl
theorem q1265 : (Jvm.Cond.soleField "NobodysBard$Answer" "day") ∈ lw_all := lw_g (lw_at lw_m5 202 rfl) rfl
theorem q1266 : (Jvm.Cond.laysFinal "NobodysBard$Answer" "NobodysBard$Answer" "hope" "I") ∈ lw_all := lw_g (lw_at lw_m5 203 rfl) rfl
theorem q1267 : (Jvm.Cond.soleField "NobodysBard$Answer" "hope") ∈ lw_all := lw_g (lw_at lw_m5 204 rfl) rfl
theorem q1268 : (Jvm.Cond.laysFinal "NobodysBard$Answer" "NobodysBard$Answer" "first" "I") ∈ lw_all := lw_g (lw_at lw_m5 205 rfl) rfl
theorem q1269 : (Jvm.Cond.soleField "NobodysBard$Answer" "first") ∈ lw_all := lw_g (lw_at lw_m5 206 rfl) rfl
theorem q1270 : (Jvm.Cond.laysFinal "NobodysBard$Answer" "NobodysBard$Answer" "second" "I") ∈ lw_all := lw_g (lw_at lw_m5 207 rfl) rfl
theorem q1271 : (Jvm.Cond.soleField "NobodysBard$Answer" "second") ∈ lw_all := lw_g (lw_at lw_m5 208 rfl) rfl
theorem q1272 : (Jvm.Cond.laysFinal "NobodysBard$Answer" "NobodysBard$Answer" "line" "LNobodysBard$Phrase;") ∈ lw_all := lw_g (lw_at lw_m5 209 rfl) rfl
theorem q1273 : (Jvm.Cond.soleField "NobodysBard$Answer" "line") ∈ lw_all := lw_g (lw_at lw_m5 210 rfl) rfl
theorem q1274 : (Jvm.Cond.superclass "NobodysBard$Answer" "java/lang/Object") ∈ lw_all := lw_g (lw_at lw_m5 211 rfl) rfl
theorem q2191 : (Jvm.Cond.castable "NobodysBard$Answer" "java/lang/Object") ∈ lw_tbl := lw_at lw_m9 168 rfl
theorem in_X23 : ∀ w ∈ wsX230, w ∈ lw_all := lw_in wsX230 [1262, 1264, 1266, 1268, 1270, 1272] (by decide +kernel) (by decide +kernel)
/-! NobodysBard$Pair -/
set_option maxRecDepth 100000
def RX24 : String := "NobodysBard$Pair"
def TX24 : u_T := fun k => match k with
  | 0 => ("NobodysBard$Pair", "one", "I", true)
  | _ => ("NobodysBard$Pair", "two", "I", true)
def tyX24 : Nat → FieldType := fun k => match k with
  | 0 => .int
  | _ => .int
abbrev wsX240 : List Cond := u_ws RX24 TX24 2
theorem nmX24 : ∀ a, a < 2 → ∀ b, b < 2 → a ≠ b → (TX24 a).2.1 ≠ (TX24 b).2.1 := by decide +kernel
theorem tyX24_ok : ∀ k, k < 2 → parseFieldDescriptor (TX24 k).2.2.1 = some (tyX24 k) := by decide +kernel
abbrev cX24_init : ByteArray := prog_16_method_1_code
def yX24_init : MethodName := ⟨RX24, "<init>", "(II)V"⟩
def dkwX24_init_0 : List UInt8 := [42, 183, 0, 1, 42, 27, 181, 0, 7, 42, 28, 181, 0, 13, 177]
abbrev dktX24_init_0 : List UInt8 := dkwX24_init_0 ++ []
theorem dksX24_init_0 : cX24_init.data.toList.drop 0 = dktX24_init_0 := by decide +kernel
theorem dX24_init_0 : decode cX24_init 0 = .ok (.aload_n 0, 1) := dk_42 (dk_at dksX24_init_0 0 rfl rfl)
theorem dX24_init_1 : decode cX24_init 1 = .ok (.invokespecial 1, 3) := dk_183 0 1 (dk_at dksX24_init_0 1 rfl rfl)
theorem dX24_init_4 : decode cX24_init 4 = .ok (.aload_n 0, 1) := dk_42 (dk_at dksX24_init_0 4 rfl rfl)
theorem dX24_init_5 : decode cX24_init 5 = .ok (.iload_n 1, 1) := dk_27 (dk_at dksX24_init_0 5 rfl rfl)
theorem dX24_init_6 : decode cX24_init 6 = .ok (.putfield 7, 3) := dk_181 0 7 (dk_at dksX24_init_0 6 rfl rfl)
theorem dX24_init_9 : decode cX24_init 9 = .ok (.aload_n 0, 1) := dk_42 (dk_at dksX24_init_0 9 rfl rfl)
theorem dX24_init_10 : decode cX24_init 10 = .ok (.iload_n 2, 1) := dk_28 (dk_at dksX24_init_0 10 rfl rfl)
theorem dX24_init_11 : decode cX24_init 11 = .ok (.putfield 13, 3) := dk_181 0 13 (dk_at dksX24_init_0 11 rfl rfl)
theorem dX24_init_14 : decode cX24_init 14 = .ok (.return_, 1) := dk_177 (dk_at dksX24_init_0 14 rfl rfl)
theorem q140 : (Jvm.Cond.initialized "NobodysBard$Pair") ∈ lw_all := lw_g (lw_at lw_m1 37 rfl) rfl
theorem q493 : (Jvm.Cond.selects "NobodysBard$Pair" ({ cls := "java/lang/Object", name := "getClass", desc := "()Ljava/lang/Class;" } : Jvm.MethodName) ({ cls := "java/lang/Object", name := "getClass", desc := "()Ljava/lang/Class;" } : Jvm.MethodName)) ∈ lw_all := lw_g (lw_at lw_m2 150 rfl) rfl
theorem q1314 : (Jvm.Cond.instantiable "NobodysBard$Pair" (2 : Nat)) ∈ lw_all := lw_g (lw_at lw_m6 11 rfl) rfl
theorem q1316 : (Jvm.Cond.instanceMethod ({ cls := "NobodysBard$Pair", name := "<init>", desc := "(II)V" } : Jvm.MethodName)) ∈ lw_all := lw_g (lw_at lw_m6 13 rfl) rfl
theorem q1317 : (Jvm.Cond.code ({ cls := "NobodysBard$Pair", name := "<init>", desc := "(II)V" } : Jvm.MethodName) prog_16_method_1_code (3 : Nat) (Option.none : Option Jvm.ClassFile.FieldType)) ∈ lw_all := lw_g (lw_at lw_m6 14 rfl) rfl
theorem q1318 : (Jvm.Cond.methodLink "NobodysBard$Pair" (1 : Nat) ({ cls := "java/lang/Object", name := "<init>", desc := "()V" } : Jvm.MethodName)) ∈ lw_all := lw_g (lw_at lw_m6 15 rfl) rfl
theorem q1319 : (Jvm.Cond.fieldLink "NobodysBard$Pair" (7 : Nat) "NobodysBard$Pair" "one" "I") ∈ lw_all := lw_g (lw_at lw_m6 16 rfl) rfl
theorem q1321 : (Jvm.Cond.fieldLink "NobodysBard$Pair" (13 : Nat) "NobodysBard$Pair" "two" "I") ∈ lw_all := lw_g (lw_at lw_m6 18 rfl) rfl
theorem q1323 : (Jvm.Cond.laysFinal "NobodysBard$Pair" "NobodysBard$Pair" "one" "I") ∈ lw_all := lw_g (lw_at lw_m6 20 rfl) rfl
theorem q1324 : (Jvm.Cond.soleField "NobodysBard$Pair" "one") ∈ lw_all := lw_g (lw_at lw_m6 21 rfl) rfl
theorem q1325 : (Jvm.Cond.laysFinal "NobodysBard$Pair" "NobodysBard$Pair" "two" "I") ∈ lw_all := lw_g (lw_at lw_m6 22 rfl) rfl
theorem q1326 : (Jvm.Cond.soleField "NobodysBard$Pair" "two") ∈ lw_all := lw_g (lw_at lw_m6 23 rfl) rfl
theorem q1327 : (Jvm.Cond.superclass "NobodysBard$Pair" "java/lang/Object") ∈ lw_all := lw_g (lw_at lw_m6 24 rfl) rfl
theorem q2192 : (Jvm.Cond.castable "NobodysBard$Pair" "java/lang/Object") ∈ lw_tbl := lw_at lw_m9 169 rfl
theorem in_X24 : ∀ w ∈ wsX240, w ∈ lw_all := lw_in wsX240 [1323, 1325] (by decide +kernel) (by decide +kernel)
/-! NobodysBard$Comes -/
set_option maxRecDepth 100000
def RX25 : String := "NobodysBard$Comes"
abbrev cX25_from : ByteArray := prog_6_method_1_code
def yX25_from : MethodName := ⟨RX25, "from", "()I"⟩
theorem dX25_from_0 : decode cX25_from 0 = .ok (.iconst (-1), 1) := by decide +kernel
theorem dX25_from_1 : decode cX25_from 1 = .ok (.ireturn, 1) := by decide +kernel
abbrev cX25_said : ByteArray := prog_6_method_3_code
def yX25_said : MethodName := ⟨RX25, "said", "()I"⟩
def dkwX25_said_1 : List UInt8 := [42, 185, 0, 3, 1, 0, 167, 0, 5, 16, 6, 172]
abbrev dktX25_said_1 : List UInt8 := dkwX25_said_1 ++ []
def dkwX25_said_0 : List UInt8 := [42, 185, 0, 3, 1, 0, 5, 162, 0, 7, 4, 167, 0, 24, 42, 185, 0, 3, 1, 0, 8, 162, 0, 12]
abbrev dktX25_said_0 : List UInt8 := dkwX25_said_0 ++ dktX25_said_1
theorem dksX25_said_0 : cX25_said.data.toList.drop 0 = dktX25_said_0 := by decide +kernel
theorem dksX25_said_1 : cX25_said.data.toList.drop 24 = dktX25_said_1 := dk_seg dksX25_said_0 24 rfl rfl
theorem dX25_said_0 : decode cX25_said 0 = .ok (.aload_n 0, 1) := dk_42 (dk_at dksX25_said_0 0 rfl rfl)
theorem dX25_said_1 : decode cX25_said 1 = .ok (.invokeinterface 3 1, 5) := by decide +kernel
theorem dX25_said_6 : decode cX25_said 6 = .ok (.iconst 2, 1) := dk_5 (dk_at dksX25_said_0 6 rfl rfl)
theorem dX25_said_7 : decode cX25_said 7 = .ok (.if_icmp .ge 7, 3) := dk_162 0 7 (dk_at dksX25_said_0 7 rfl rfl)
theorem dX25_said_10 : decode cX25_said 10 = .ok (.iconst 1, 1) := dk_4 (dk_at dksX25_said_0 10 rfl rfl)
theorem dX25_said_11 : decode cX25_said 11 = .ok (.goto 24, 3) := dk_167 0 24 (dk_at dksX25_said_0 11 rfl rfl)
theorem dX25_said_14 : decode cX25_said 14 = .ok (.aload_n 0, 1) := dk_42 (dk_at dksX25_said_0 14 rfl rfl)
theorem dX25_said_15 : decode cX25_said 15 = .ok (.invokeinterface 3 1, 5) := by decide +kernel
theorem dX25_said_20 : decode cX25_said 20 = .ok (.iconst 5, 1) := dk_8 (dk_at dksX25_said_0 20 rfl rfl)
theorem dX25_said_21 : decode cX25_said 21 = .ok (.if_icmp .ge 12, 3) := dk_162 0 12 (dk_at dksX25_said_0 21 rfl rfl)
theorem dX25_said_24 : decode cX25_said 24 = .ok (.aload_n 0, 1) := dk_42 (dk_at dksX25_said_1 0 rfl rfl)
theorem dX25_said_25 : decode cX25_said 25 = .ok (.invokeinterface 3 1, 5) := by decide +kernel
theorem dX25_said_30 : decode cX25_said 30 = .ok (.goto 5, 3) := dk_167 0 5 (dk_at dksX25_said_1 6 rfl rfl)
theorem dX25_said_33 : decode cX25_said 33 = .ok (.bipush 6, 2) := dk_16 6 (dk_at dksX25_said_1 9 rfl rfl)
theorem dX25_said_35 : decode cX25_said 35 = .ok (.ireturn, 1) := dk_172 (dk_at dksX25_said_1 11 rfl rfl)
theorem q1074 : (Jvm.Cond.interfaceMethod "NobodysBard$Comes" "NobodysBard$Comes" "kind" "()I") ∈ lw_tbl := lw_at lw_m5 11 rfl
theorem q1075 : (Jvm.Cond.declares ({ cls := "NobodysBard$Comes", name := "kind", desc := "()I" } : Jvm.MethodName)) ∈ lw_tbl := lw_at lw_m5 12 rfl
theorem q1114 : (Jvm.Cond.interfaceMethod "NobodysBard$Comes" "NobodysBard$Comes" "from" "()I") ∈ lw_tbl := lw_at lw_m5 51 rfl
theorem q1115 : (Jvm.Cond.declares ({ cls := "NobodysBard$Comes", name := "from", desc := "()I" } : Jvm.MethodName)) ∈ lw_tbl := lw_at lw_m5 52 rfl
theorem q1124 : (Jvm.Cond.instanceMethod ({ cls := "NobodysBard$Comes", name := "from", desc := "()I" } : Jvm.MethodName)) ∈ lw_all := lw_g (lw_at lw_m5 61 rfl) rfl
theorem q1125 : (Jvm.Cond.publicMethod ({ cls := "NobodysBard$Comes", name := "from", desc := "()I" } : Jvm.MethodName)) ∈ lw_tbl := lw_at lw_m5 62 rfl
theorem q1126 : (Jvm.Cond.code ({ cls := "NobodysBard$Comes", name := "from", desc := "()I" } : Jvm.MethodName) prog_6_method_1_code (1 : Nat) (Option.some Jvm.ClassFile.FieldType.int)) ∈ lw_all := lw_g (lw_at lw_m5 63 rfl) rfl
theorem q1547 : (Jvm.Cond.interfaceMethod "NobodysBard$Comes" "NobodysBard$Comes" "said" "()I") ∈ lw_tbl := lw_at lw_m7 4 rfl
theorem q1548 : (Jvm.Cond.declares ({ cls := "NobodysBard$Comes", name := "said", desc := "()I" } : Jvm.MethodName)) ∈ lw_tbl := lw_at lw_m7 5 rfl
theorem q1550 : (Jvm.Cond.instanceMethod ({ cls := "NobodysBard$Comes", name := "said", desc := "()I" } : Jvm.MethodName)) ∈ lw_all := lw_g (lw_at lw_m7 7 rfl) rfl
theorem q1551 : (Jvm.Cond.publicMethod ({ cls := "NobodysBard$Comes", name := "said", desc := "()I" } : Jvm.MethodName)) ∈ lw_tbl := lw_at lw_m7 8 rfl
theorem q1552 : (Jvm.Cond.code ({ cls := "NobodysBard$Comes", name := "said", desc := "()I" } : Jvm.MethodName) prog_6_method_3_code (1 : Nat) (Option.some Jvm.ClassFile.FieldType.int)) ∈ lw_all := lw_g (lw_at lw_m7 9 rfl) rfl
theorem q1553 : (Jvm.Cond.interfaceEntry "NobodysBard$Comes" (3 : Nat)) ∈ lw_tbl := lw_at lw_m7 10 rfl
theorem q1554 : (Jvm.Cond.methodLink "NobodysBard$Comes" (3 : Nat) ({ cls := "NobodysBard$Comes", name := "kind", desc := "()I" } : Jvm.MethodName)) ∈ lw_all := lw_g (lw_at lw_m7 11 rfl) rfl
theorem q2167 : (Jvm.Cond.initialized "NobodysBard$Comes") ∈ lw_all := lw_g (lw_at lw_m9 144 rfl) rfl
/-! NobodysBard$MayBe -/
set_option maxRecDepth 100000
def RX3 : String := "NobodysBard$MayBe"
abbrev cX3_init : ByteArray := prog_10_method_1_code
def yX3_init : MethodName := ⟨RX3, "<init>", "()V"⟩
theorem dX3_init_0 : decode cX3_init 0 = .ok (.aload_n 0, 1) := by decide +kernel
theorem dX3_init_1 : decode cX3_init 1 = .ok (.invokespecial 1, 3) := by decide +kernel
theorem dX3_init_4 : decode cX3_init 4 = .ok (.return_, 1) := by decide +kernel
abbrev cX3_kind : ByteArray := prog_10_method_2_code
def yX3_kind : MethodName := ⟨RX3, "kind", "()I"⟩
theorem dX3_kind_0 : decode cX3_kind 0 = .ok (.iconst 4, 1) := by decide +kernel
theorem dX3_kind_1 : decode cX3_kind 1 = .ok (.ireturn, 1) := by decide +kernel
theorem q110 : (Jvm.Cond.initialized "NobodysBard$MayBe") ∈ lw_all := lw_g (lw_at lw_m1 7 rfl) rfl
theorem q290 : (Jvm.Cond.instantiable "NobodysBard$MayBe" (0 : Nat)) ∈ lw_all := lw_g (lw_at lw_m1 187 rfl) rfl
theorem q292 : (Jvm.Cond.instanceMethod ({ cls := "NobodysBard$MayBe", name := "<init>", desc := "()V" } : Jvm.MethodName)) ∈ lw_all := lw_g (lw_at lw_m1 189 rfl) rfl
theorem q293 : (Jvm.Cond.code ({ cls := "NobodysBard$MayBe", name := "<init>", desc := "()V" } : Jvm.MethodName) prog_10_method_1_code (1 : Nat) (Option.none : Option Jvm.ClassFile.FieldType)) ∈ lw_all := lw_g (lw_at lw_m1 190 rfl) rfl
theorem q294 : (Jvm.Cond.methodLink "NobodysBard$MayBe" (1 : Nat) ({ cls := "java/lang/Object", name := "<init>", desc := "()V" } : Jvm.MethodName)) ∈ lw_all := lw_g (lw_at lw_m1 191 rfl) rfl
theorem q295 : (Jvm.Cond.superclass "NobodysBard$MayBe" "java/lang/Object") ∈ lw_all := lw_g (lw_at lw_m1 192 rfl) rfl
theorem q487 : (Jvm.Cond.selects "NobodysBard$MayBe" ({ cls := "java/lang/Object", name := "getClass", desc := "()Ljava/lang/Class;" } : Jvm.MethodName) ({ cls := "java/lang/Object", name := "getClass", desc := "()Ljava/lang/Class;" } : Jvm.MethodName)) ∈ lw_all := lw_g (lw_at lw_m2 144 rfl) rfl
theorem q1088 : (Jvm.Cond.castable "NobodysBard$MayBe" "NobodysBard$Comes") ∈ lw_tbl := lw_at lw_m5 25 rfl
theorem q1089 : (Jvm.Cond.selects "NobodysBard$MayBe" ({ cls := "NobodysBard$Comes", name := "kind", desc := "()I" } : Jvm.MethodName) ({ cls := "NobodysBard$MayBe", name := "kind", desc := "()I" } : Jvm.MethodName)) ∈ lw_all := lw_g (lw_at lw_m5 26 rfl) rfl
theorem q1090 : (Jvm.Cond.unhidden "NobodysBard$MayBe" "kind" "()I") ∈ lw_tbl := lw_at lw_m5 27 rfl
theorem q1091 : (Jvm.Cond.instanceMethod ({ cls := "NobodysBard$MayBe", name := "kind", desc := "()I" } : Jvm.MethodName)) ∈ lw_all := lw_g (lw_at lw_m5 28 rfl) rfl
theorem q1092 : (Jvm.Cond.publicMethod ({ cls := "NobodysBard$MayBe", name := "kind", desc := "()I" } : Jvm.MethodName)) ∈ lw_tbl := lw_at lw_m5 29 rfl
theorem q1093 : (Jvm.Cond.code ({ cls := "NobodysBard$MayBe", name := "kind", desc := "()I" } : Jvm.MethodName) prog_10_method_2_code (1 : Nat) (Option.some Jvm.ClassFile.FieldType.int)) ∈ lw_all := lw_g (lw_at lw_m5 30 rfl) rfl
theorem q1123 : (Jvm.Cond.unhidden "NobodysBard$MayBe" "from" "()I") ∈ lw_tbl := lw_at lw_m5 60 rfl
theorem q1556 : (Jvm.Cond.unhidden "NobodysBard$MayBe" "said" "()I") ∈ lw_tbl := lw_at lw_m7 13 rfl
theorem q2174 : (Jvm.Cond.castable "NobodysBard$MayBe" "java/lang/Object") ∈ lw_tbl := lw_at lw_m9 151 rfl
/-! NobodysBard$Own -/
set_option maxRecDepth 100000
def RX4 : String := "NobodysBard$Own"
abbrev cX4_init : ByteArray := prog_14_method_1_code
def yX4_init : MethodName := ⟨RX4, "<init>", "()V"⟩
theorem dX4_init_0 : decode cX4_init 0 = .ok (.aload_n 0, 1) := by decide +kernel
theorem dX4_init_1 : decode cX4_init 1 = .ok (.invokespecial 1, 3) := by decide +kernel
theorem dX4_init_4 : decode cX4_init 4 = .ok (.return_, 1) := by decide +kernel
abbrev cX4_kind : ByteArray := prog_14_method_2_code
def yX4_kind : MethodName := ⟨RX4, "kind", "()I"⟩
theorem dX4_kind_0 : decode cX4_kind 0 = .ok (.iconst 5, 1) := by decide +kernel
theorem dX4_kind_1 : decode cX4_kind 1 = .ok (.ireturn, 1) := by decide +kernel
theorem q111 : (Jvm.Cond.initialized "NobodysBard$Own") ∈ lw_all := lw_g (lw_at lw_m1 8 rfl) rfl
theorem q298 : (Jvm.Cond.instantiable "NobodysBard$Own" (0 : Nat)) ∈ lw_all := lw_g (lw_at lw_m1 195 rfl) rfl
theorem q300 : (Jvm.Cond.instanceMethod ({ cls := "NobodysBard$Own", name := "<init>", desc := "()V" } : Jvm.MethodName)) ∈ lw_all := lw_g (lw_at lw_m1 197 rfl) rfl
theorem q301 : (Jvm.Cond.code ({ cls := "NobodysBard$Own", name := "<init>", desc := "()V" } : Jvm.MethodName) prog_14_method_1_code (1 : Nat) (Option.none : Option Jvm.ClassFile.FieldType)) ∈ lw_all := lw_g (lw_at lw_m1 198 rfl) rfl
theorem q302 : (Jvm.Cond.methodLink "NobodysBard$Own" (1 : Nat) ({ cls := "java/lang/Object", name := "<init>", desc := "()V" } : Jvm.MethodName)) ∈ lw_all := lw_g (lw_at lw_m1 199 rfl) rfl
theorem q303 : (Jvm.Cond.superclass "NobodysBard$Own" "java/lang/Object") ∈ lw_all := lw_g (lw_at lw_m1 200 rfl) rfl
theorem q491 : (Jvm.Cond.selects "NobodysBard$Own" ({ cls := "java/lang/Object", name := "getClass", desc := "()Ljava/lang/Class;" } : Jvm.MethodName) ({ cls := "java/lang/Object", name := "getClass", desc := "()Ljava/lang/Class;" } : Jvm.MethodName)) ∈ lw_all := lw_g (lw_at lw_m2 148 rfl) rfl
theorem q1100 : (Jvm.Cond.castable "NobodysBard$Own" "NobodysBard$Comes") ∈ lw_tbl := lw_at lw_m5 37 rfl
theorem q1101 : (Jvm.Cond.selects "NobodysBard$Own" ({ cls := "NobodysBard$Comes", name := "kind", desc := "()I" } : Jvm.MethodName) ({ cls := "NobodysBard$Own", name := "kind", desc := "()I" } : Jvm.MethodName)) ∈ lw_all := lw_g (lw_at lw_m5 38 rfl) rfl
theorem q1102 : (Jvm.Cond.unhidden "NobodysBard$Own" "kind" "()I") ∈ lw_tbl := lw_at lw_m5 39 rfl
theorem q1103 : (Jvm.Cond.instanceMethod ({ cls := "NobodysBard$Own", name := "kind", desc := "()I" } : Jvm.MethodName)) ∈ lw_all := lw_g (lw_at lw_m5 40 rfl) rfl
theorem q1104 : (Jvm.Cond.publicMethod ({ cls := "NobodysBard$Own", name := "kind", desc := "()I" } : Jvm.MethodName)) ∈ lw_tbl := lw_at lw_m5 41 rfl
theorem q1105 : (Jvm.Cond.code ({ cls := "NobodysBard$Own", name := "kind", desc := "()I" } : Jvm.MethodName) prog_14_method_2_code (1 : Nat) (Option.some Jvm.ClassFile.FieldType.int)) ∈ lw_all := lw_g (lw_at lw_m5 42 rfl) rfl
theorem q1129 : (Jvm.Cond.unhidden "NobodysBard$Own" "from" "()I") ∈ lw_tbl := lw_at lw_m5 66 rfl
theorem q1558 : (Jvm.Cond.unhidden "NobodysBard$Own" "said" "()I") ∈ lw_tbl := lw_at lw_m7 15 rfl
theorem q2175 : (Jvm.Cond.castable "NobodysBard$Own" "java/lang/Object") ∈ lw_tbl := lw_at lw_m9 152 rfl
/-! NobodysBard$Row -/
set_option maxRecDepth 100000
def RX5 : String := "NobodysBard$Row"
def TX5 : u_T := fun k => match k with
  | _ => ("NobodysBard$Row", "held", "Ljava/lang/Object;", false)
def tyX5 : Nat → FieldType := fun k => match k with
  | _ => .object "java/lang/Object"
abbrev wsX50 : List Cond := u_ws RX5 TX5 1
theorem nmX5 : ∀ a, a < 1 → ∀ b, b < 1 → a ≠ b → (TX5 a).2.1 ≠ (TX5 b).2.1 := by decide +kernel
theorem tyX5_ok : ∀ k, k < 1 → parseFieldDescriptor (TX5 k).2.2.1 = some (tyX5 k) := by decide +kernel
abbrev cX5_init : ByteArray := prog_20_method_1_code
def yX5_init : MethodName := ⟨RX5, "<init>", "()V"⟩
theorem dX5_init_0 : decode cX5_init 0 = .ok (.aload_n 0, 1) := by decide +kernel
theorem dX5_init_1 : decode cX5_init 1 = .ok (.invokespecial 1, 3) := by decide +kernel
theorem dX5_init_4 : decode cX5_init 4 = .ok (.return_, 1) := by decide +kernel
abbrev cX5_begins : ByteArray := prog_20_method_2_code
def yX5_begins : MethodName := ⟨RX5, "begins", "(II)Z"⟩
def dkwX5_begins_3 : List UInt8 := [181, 0, 7, 167, 0, 10, 42, 28, 188, 11, 181, 0, 7, 4, 172, 78, 3, 172]
abbrev dktX5_begins_3 : List UInt8 := dkwX5_begins_3 ++ []
def dkwX5_begins_2 : List UInt8 := [42, 28, 188, 8, 181, 0, 7, 167, 0, 30, 42, 28, 188, 9, 181, 0, 7, 167, 0, 20, 42, 28, 188, 10]
abbrev dktX5_begins_2 : List UInt8 := dkwX5_begins_2 ++ dktX5_begins_3
def dkwX5_begins_1 : List UInt8 := [170, 0, 0, 0, 0, 0, 57, 0, 0, 0, 0, 0, 0, 0, 2, 0, 0, 0, 27, 0, 0, 0, 37, 0, 0, 0, 47]
abbrev dktX5_begins_1 : List UInt8 := dkwX5_begins_1 ++ dktX5_begins_2
def dkwX5_begins_0 : List UInt8 := [27]
abbrev dktX5_begins_0 : List UInt8 := dkwX5_begins_0 ++ dktX5_begins_1
theorem dksX5_begins_0 : cX5_begins.data.toList.drop 0 = dktX5_begins_0 := by decide +kernel
theorem dksX5_begins_1 : cX5_begins.data.toList.drop 1 = dktX5_begins_1 := dk_seg dksX5_begins_0 1 rfl rfl
theorem dksX5_begins_2 : cX5_begins.data.toList.drop 28 = dktX5_begins_2 := dk_seg dksX5_begins_1 27 rfl rfl
theorem dksX5_begins_3 : cX5_begins.data.toList.drop 52 = dktX5_begins_3 := dk_seg dksX5_begins_2 24 rfl rfl
theorem dX5_begins_0 : decode cX5_begins 0 = .ok (.iload_n 1, 1) := dk_27 (dk_at dksX5_begins_0 0 rfl rfl)
theorem dX5_begins_1 : decode cX5_begins 1 = .ok (.tableswitch 57 0 2 #[27, 37, 47], 27) := by decide +kernel
theorem dX5_begins_28 : decode cX5_begins 28 = .ok (.aload_n 0, 1) := dk_42 (dk_at dksX5_begins_2 0 rfl rfl)
theorem dX5_begins_29 : decode cX5_begins 29 = .ok (.iload_n 2, 1) := dk_28 (dk_at dksX5_begins_2 1 rfl rfl)
theorem dX5_begins_30 : decode cX5_begins 30 = .ok (.newarray .byte, 2) := dk_188_8 (dk_at dksX5_begins_2 2 rfl rfl)
theorem dX5_begins_32 : decode cX5_begins 32 = .ok (.putfield 7, 3) := dk_181 0 7 (dk_at dksX5_begins_2 4 rfl rfl)
theorem dX5_begins_35 : decode cX5_begins 35 = .ok (.goto 30, 3) := dk_167 0 30 (dk_at dksX5_begins_2 7 rfl rfl)
theorem dX5_begins_38 : decode cX5_begins 38 = .ok (.aload_n 0, 1) := dk_42 (dk_at dksX5_begins_2 10 rfl rfl)
theorem dX5_begins_39 : decode cX5_begins 39 = .ok (.iload_n 2, 1) := dk_28 (dk_at dksX5_begins_2 11 rfl rfl)
theorem dX5_begins_40 : decode cX5_begins 40 = .ok (.newarray .short, 2) := dk_188_9 (dk_at dksX5_begins_2 12 rfl rfl)
theorem dX5_begins_42 : decode cX5_begins 42 = .ok (.putfield 7, 3) := dk_181 0 7 (dk_at dksX5_begins_2 14 rfl rfl)
theorem dX5_begins_45 : decode cX5_begins 45 = .ok (.goto 20, 3) := dk_167 0 20 (dk_at dksX5_begins_2 17 rfl rfl)
theorem dX5_begins_48 : decode cX5_begins 48 = .ok (.aload_n 0, 1) := dk_42 (dk_at dksX5_begins_2 20 rfl rfl)
theorem dX5_begins_49 : decode cX5_begins 49 = .ok (.iload_n 2, 1) := dk_28 (dk_at dksX5_begins_2 21 rfl rfl)
theorem dX5_begins_50 : decode cX5_begins 50 = .ok (.newarray .int, 2) := dk_188_10 (dk_at dksX5_begins_2 22 rfl rfl)
theorem dX5_begins_52 : decode cX5_begins 52 = .ok (.putfield 7, 3) := dk_181 0 7 (dk_at dksX5_begins_3 0 rfl rfl)
theorem dX5_begins_55 : decode cX5_begins 55 = .ok (.goto 10, 3) := dk_167 0 10 (dk_at dksX5_begins_3 3 rfl rfl)
theorem dX5_begins_58 : decode cX5_begins 58 = .ok (.aload_n 0, 1) := dk_42 (dk_at dksX5_begins_3 6 rfl rfl)
theorem dX5_begins_59 : decode cX5_begins 59 = .ok (.iload_n 2, 1) := dk_28 (dk_at dksX5_begins_3 7 rfl rfl)
theorem dX5_begins_60 : decode cX5_begins 60 = .ok (.newarray .long, 2) := dk_188_11 (dk_at dksX5_begins_3 8 rfl rfl)
theorem dX5_begins_62 : decode cX5_begins 62 = .ok (.putfield 7, 3) := dk_181 0 7 (dk_at dksX5_begins_3 10 rfl rfl)
theorem dX5_begins_65 : decode cX5_begins 65 = .ok (.iconst 1, 1) := dk_4 (dk_at dksX5_begins_3 13 rfl rfl)
theorem dX5_begins_66 : decode cX5_begins 66 = .ok (.ireturn, 1) := dk_172 (dk_at dksX5_begins_3 14 rfl rfl)
theorem dX5_begins_67 : decode cX5_begins 67 = .ok (.astore_n 3, 1) := dk_78 (dk_at dksX5_begins_3 15 rfl rfl)
theorem dX5_begins_68 : decode cX5_begins 68 = .ok (.iconst 0, 1) := dk_3 (dk_at dksX5_begins_3 16 rfl rfl)
theorem dX5_begins_69 : decode cX5_begins 69 = .ok (.ireturn, 1) := dk_172 (dk_at dksX5_begins_3 17 rfl rfl)
abbrev cX5_puts : ByteArray := prog_20_method_5_code
def yX5_puts : MethodName := ⟨RX5, "puts", "(IJ)V"⟩
def dkwX5_puts_3 : List UInt8 := [79, 167, 0, 13, 42, 180, 0, 7, 192, 0, 21, 27, 32, 80, 177]
abbrev dktX5_puts_3 : List UInt8 := dkwX5_puts_3 ++ []
def dkwX5_puts_2 : List UInt8 := [86, 167, 0, 37, 42, 180, 0, 7, 193, 0, 19, 153, 0, 17, 42, 180, 0, 7, 192, 0, 19, 27, 32, 136]
abbrev dktX5_puts_2 : List UInt8 := dkwX5_puts_2 ++ dktX5_puts_3
def dkwX5_puts_1 : List UInt8 := [167, 0, 62, 42, 180, 0, 7, 193, 0, 17, 153, 0, 18, 42, 180, 0, 7, 192, 0, 17, 27, 32, 136, 147]
abbrev dktX5_puts_1 : List UInt8 := dkwX5_puts_1 ++ dktX5_puts_2
def dkwX5_puts_0 : List UInt8 := [42, 180, 0, 7, 193, 0, 15, 153, 0, 18, 42, 180, 0, 7, 192, 0, 15, 27, 32, 136, 145, 84]
abbrev dktX5_puts_0 : List UInt8 := dkwX5_puts_0 ++ dktX5_puts_1
theorem dksX5_puts_0 : cX5_puts.data.toList.drop 0 = dktX5_puts_0 := by decide +kernel
theorem dksX5_puts_1 : cX5_puts.data.toList.drop 22 = dktX5_puts_1 := dk_seg dksX5_puts_0 22 rfl rfl
theorem dksX5_puts_2 : cX5_puts.data.toList.drop 46 = dktX5_puts_2 := dk_seg dksX5_puts_1 24 rfl rfl
theorem dksX5_puts_3 : cX5_puts.data.toList.drop 70 = dktX5_puts_3 := dk_seg dksX5_puts_2 24 rfl rfl
theorem dX5_puts_0 : decode cX5_puts 0 = .ok (.aload_n 0, 1) := dk_42 (dk_at dksX5_puts_0 0 rfl rfl)
theorem dX5_puts_1 : decode cX5_puts 1 = .ok (.getfield 7, 3) := dk_180 0 7 (dk_at dksX5_puts_0 1 rfl rfl)
theorem dX5_puts_4 : decode cX5_puts 4 = .ok (.instanceof 15, 3) := dk_193 0 15 (dk_at dksX5_puts_0 4 rfl rfl)
theorem dX5_puts_7 : decode cX5_puts 7 = .ok (.ifCond .eq 18, 3) := dk_153 0 18 (dk_at dksX5_puts_0 7 rfl rfl)
theorem dX5_puts_10 : decode cX5_puts 10 = .ok (.aload_n 0, 1) := dk_42 (dk_at dksX5_puts_0 10 rfl rfl)
theorem dX5_puts_11 : decode cX5_puts 11 = .ok (.getfield 7, 3) := dk_180 0 7 (dk_at dksX5_puts_0 11 rfl rfl)
theorem dX5_puts_14 : decode cX5_puts 14 = .ok (.checkcast 15, 3) := dk_192 0 15 (dk_at dksX5_puts_0 14 rfl rfl)
theorem dX5_puts_17 : decode cX5_puts 17 = .ok (.iload_n 1, 1) := dk_27 (dk_at dksX5_puts_0 17 rfl rfl)
theorem dX5_puts_18 : decode cX5_puts 18 = .ok (.lload_n 2, 1) := dk_32 (dk_at dksX5_puts_0 18 rfl rfl)
theorem dX5_puts_19 : decode cX5_puts 19 = .ok (.l2i, 1) := dk_136 (dk_at dksX5_puts_0 19 rfl rfl)
theorem dX5_puts_20 : decode cX5_puts 20 = .ok (.i2b, 1) := dk_145 (dk_at dksX5_puts_0 20 rfl rfl)
theorem dX5_puts_21 : decode cX5_puts 21 = .ok (.bastore, 1) := dk_84 (dk_at dksX5_puts_0 21 rfl rfl)
theorem dX5_puts_22 : decode cX5_puts 22 = .ok (.goto 62, 3) := dk_167 0 62 (dk_at dksX5_puts_1 0 rfl rfl)
theorem dX5_puts_25 : decode cX5_puts 25 = .ok (.aload_n 0, 1) := dk_42 (dk_at dksX5_puts_1 3 rfl rfl)
theorem dX5_puts_26 : decode cX5_puts 26 = .ok (.getfield 7, 3) := dk_180 0 7 (dk_at dksX5_puts_1 4 rfl rfl)
theorem dX5_puts_29 : decode cX5_puts 29 = .ok (.instanceof 17, 3) := dk_193 0 17 (dk_at dksX5_puts_1 7 rfl rfl)
theorem dX5_puts_32 : decode cX5_puts 32 = .ok (.ifCond .eq 18, 3) := dk_153 0 18 (dk_at dksX5_puts_1 10 rfl rfl)
theorem dX5_puts_35 : decode cX5_puts 35 = .ok (.aload_n 0, 1) := dk_42 (dk_at dksX5_puts_1 13 rfl rfl)
theorem dX5_puts_36 : decode cX5_puts 36 = .ok (.getfield 7, 3) := dk_180 0 7 (dk_at dksX5_puts_1 14 rfl rfl)
theorem dX5_puts_39 : decode cX5_puts 39 = .ok (.checkcast 17, 3) := dk_192 0 17 (dk_at dksX5_puts_1 17 rfl rfl)
theorem dX5_puts_42 : decode cX5_puts 42 = .ok (.iload_n 1, 1) := dk_27 (dk_at dksX5_puts_1 20 rfl rfl)
theorem dX5_puts_43 : decode cX5_puts 43 = .ok (.lload_n 2, 1) := dk_32 (dk_at dksX5_puts_1 21 rfl rfl)
theorem dX5_puts_44 : decode cX5_puts 44 = .ok (.l2i, 1) := dk_136 (dk_at dksX5_puts_1 22 rfl rfl)
theorem dX5_puts_45 : decode cX5_puts 45 = .ok (.i2s, 1) := dk_147 (dk_at dksX5_puts_1 23 rfl rfl)
theorem dX5_puts_46 : decode cX5_puts 46 = .ok (.sastore, 1) := dk_86 (dk_at dksX5_puts_2 0 rfl rfl)
theorem dX5_puts_47 : decode cX5_puts 47 = .ok (.goto 37, 3) := dk_167 0 37 (dk_at dksX5_puts_2 1 rfl rfl)
theorem dX5_puts_50 : decode cX5_puts 50 = .ok (.aload_n 0, 1) := dk_42 (dk_at dksX5_puts_2 4 rfl rfl)
theorem dX5_puts_51 : decode cX5_puts 51 = .ok (.getfield 7, 3) := dk_180 0 7 (dk_at dksX5_puts_2 5 rfl rfl)
theorem dX5_puts_54 : decode cX5_puts 54 = .ok (.instanceof 19, 3) := dk_193 0 19 (dk_at dksX5_puts_2 8 rfl rfl)
theorem dX5_puts_57 : decode cX5_puts 57 = .ok (.ifCond .eq 17, 3) := dk_153 0 17 (dk_at dksX5_puts_2 11 rfl rfl)
theorem dX5_puts_60 : decode cX5_puts 60 = .ok (.aload_n 0, 1) := dk_42 (dk_at dksX5_puts_2 14 rfl rfl)
theorem dX5_puts_61 : decode cX5_puts 61 = .ok (.getfield 7, 3) := dk_180 0 7 (dk_at dksX5_puts_2 15 rfl rfl)
theorem dX5_puts_64 : decode cX5_puts 64 = .ok (.checkcast 19, 3) := dk_192 0 19 (dk_at dksX5_puts_2 18 rfl rfl)
theorem dX5_puts_67 : decode cX5_puts 67 = .ok (.iload_n 1, 1) := dk_27 (dk_at dksX5_puts_2 21 rfl rfl)
theorem dX5_puts_68 : decode cX5_puts 68 = .ok (.lload_n 2, 1) := dk_32 (dk_at dksX5_puts_2 22 rfl rfl)
theorem dX5_puts_69 : decode cX5_puts 69 = .ok (.l2i, 1) := dk_136 (dk_at dksX5_puts_2 23 rfl rfl)
theorem dX5_puts_70 : decode cX5_puts 70 = .ok (.iastore, 1) := dk_79 (dk_at dksX5_puts_3 0 rfl rfl)
theorem dX5_puts_71 : decode cX5_puts 71 = .ok (.goto 13, 3) := dk_167 0 13 (dk_at dksX5_puts_3 1 rfl rfl)
theorem dX5_puts_74 : decode cX5_puts 74 = .ok (.aload_n 0, 1) := dk_42 (dk_at dksX5_puts_3 4 rfl rfl)
theorem dX5_puts_75 : decode cX5_puts 75 = .ok (.getfield 7, 3) := dk_180 0 7 (dk_at dksX5_puts_3 5 rfl rfl)
theorem dX5_puts_78 : decode cX5_puts 78 = .ok (.checkcast 21, 3) := dk_192 0 21 (dk_at dksX5_puts_3 8 rfl rfl)
theorem dX5_puts_81 : decode cX5_puts 81 = .ok (.iload_n 1, 1) := dk_27 (dk_at dksX5_puts_3 11 rfl rfl)
theorem dX5_puts_82 : decode cX5_puts 82 = .ok (.lload_n 2, 1) := dk_32 (dk_at dksX5_puts_3 12 rfl rfl)
theorem dX5_puts_83 : decode cX5_puts 83 = .ok (.lastore, 1) := dk_80 (dk_at dksX5_puts_3 13 rfl rfl)
theorem dX5_puts_84 : decode cX5_puts 84 = .ok (.return_, 1) := dk_177 (dk_at dksX5_puts_3 14 rfl rfl)
abbrev cX5_number : ByteArray := prog_20_method_4_code
def yX5_number : MethodName := ⟨RX5, "number", "(I)J"⟩
def dkwX5_number_3 : List UInt8 := [192, 0, 21, 27, 47, 173]
abbrev dktX5_number_3 : List UInt8 := dkwX5_number_3 ++ []
def dkwX5_number_2 : List UInt8 := [193, 0, 19, 153, 0, 16, 42, 180, 0, 7, 192, 0, 19, 27, 46, 133, 167, 0, 12, 42, 180, 0, 7]
abbrev dktX5_number_2 : List UInt8 := dkwX5_number_2 ++ dktX5_number_3
def dkwX5_number_1 : List UInt8 := [180, 0, 7, 193, 0, 17, 153, 0, 14, 42, 180, 0, 7, 192, 0, 17, 27, 53, 133, 173, 42, 180, 0, 7]
abbrev dktX5_number_1 : List UInt8 := dkwX5_number_1 ++ dktX5_number_2
def dkwX5_number_0 : List UInt8 := [42, 180, 0, 7, 193, 0, 15, 153, 0, 14, 42, 180, 0, 7, 192, 0, 15, 27, 51, 133, 173, 42]
abbrev dktX5_number_0 : List UInt8 := dkwX5_number_0 ++ dktX5_number_1
theorem dksX5_number_0 : cX5_number.data.toList.drop 0 = dktX5_number_0 := by decide +kernel
theorem dksX5_number_1 : cX5_number.data.toList.drop 22 = dktX5_number_1 := dk_seg dksX5_number_0 22 rfl rfl
theorem dksX5_number_2 : cX5_number.data.toList.drop 46 = dktX5_number_2 := dk_seg dksX5_number_1 24 rfl rfl
theorem dksX5_number_3 : cX5_number.data.toList.drop 69 = dktX5_number_3 := dk_seg dksX5_number_2 23 rfl rfl
theorem dX5_number_0 : decode cX5_number 0 = .ok (.aload_n 0, 1) := dk_42 (dk_at dksX5_number_0 0 rfl rfl)
theorem dX5_number_1 : decode cX5_number 1 = .ok (.getfield 7, 3) := dk_180 0 7 (dk_at dksX5_number_0 1 rfl rfl)
theorem dX5_number_4 : decode cX5_number 4 = .ok (.instanceof 15, 3) := dk_193 0 15 (dk_at dksX5_number_0 4 rfl rfl)
theorem dX5_number_7 : decode cX5_number 7 = .ok (.ifCond .eq 14, 3) := dk_153 0 14 (dk_at dksX5_number_0 7 rfl rfl)
theorem dX5_number_10 : decode cX5_number 10 = .ok (.aload_n 0, 1) := dk_42 (dk_at dksX5_number_0 10 rfl rfl)
theorem dX5_number_11 : decode cX5_number 11 = .ok (.getfield 7, 3) := dk_180 0 7 (dk_at dksX5_number_0 11 rfl rfl)
theorem dX5_number_14 : decode cX5_number 14 = .ok (.checkcast 15, 3) := dk_192 0 15 (dk_at dksX5_number_0 14 rfl rfl)
theorem dX5_number_17 : decode cX5_number 17 = .ok (.iload_n 1, 1) := dk_27 (dk_at dksX5_number_0 17 rfl rfl)
theorem dX5_number_18 : decode cX5_number 18 = .ok (.baload, 1) := dk_51 (dk_at dksX5_number_0 18 rfl rfl)
theorem dX5_number_19 : decode cX5_number 19 = .ok (.i2l, 1) := dk_133 (dk_at dksX5_number_0 19 rfl rfl)
theorem dX5_number_20 : decode cX5_number 20 = .ok (.lreturn, 1) := dk_173 (dk_at dksX5_number_0 20 rfl rfl)
theorem dX5_number_21 : decode cX5_number 21 = .ok (.aload_n 0, 1) := dk_42 (dk_at dksX5_number_0 21 rfl rfl)
theorem dX5_number_22 : decode cX5_number 22 = .ok (.getfield 7, 3) := dk_180 0 7 (dk_at dksX5_number_1 0 rfl rfl)
theorem dX5_number_25 : decode cX5_number 25 = .ok (.instanceof 17, 3) := dk_193 0 17 (dk_at dksX5_number_1 3 rfl rfl)
theorem dX5_number_28 : decode cX5_number 28 = .ok (.ifCond .eq 14, 3) := dk_153 0 14 (dk_at dksX5_number_1 6 rfl rfl)
theorem dX5_number_31 : decode cX5_number 31 = .ok (.aload_n 0, 1) := dk_42 (dk_at dksX5_number_1 9 rfl rfl)
theorem dX5_number_32 : decode cX5_number 32 = .ok (.getfield 7, 3) := dk_180 0 7 (dk_at dksX5_number_1 10 rfl rfl)
theorem dX5_number_35 : decode cX5_number 35 = .ok (.checkcast 17, 3) := dk_192 0 17 (dk_at dksX5_number_1 13 rfl rfl)
theorem dX5_number_38 : decode cX5_number 38 = .ok (.iload_n 1, 1) := dk_27 (dk_at dksX5_number_1 16 rfl rfl)
theorem dX5_number_39 : decode cX5_number 39 = .ok (.saload, 1) := dk_53 (dk_at dksX5_number_1 17 rfl rfl)
theorem dX5_number_40 : decode cX5_number 40 = .ok (.i2l, 1) := dk_133 (dk_at dksX5_number_1 18 rfl rfl)
theorem dX5_number_41 : decode cX5_number 41 = .ok (.lreturn, 1) := dk_173 (dk_at dksX5_number_1 19 rfl rfl)
theorem dX5_number_42 : decode cX5_number 42 = .ok (.aload_n 0, 1) := dk_42 (dk_at dksX5_number_1 20 rfl rfl)
theorem dX5_number_43 : decode cX5_number 43 = .ok (.getfield 7, 3) := dk_180 0 7 (dk_at dksX5_number_1 21 rfl rfl)
theorem dX5_number_46 : decode cX5_number 46 = .ok (.instanceof 19, 3) := dk_193 0 19 (dk_at dksX5_number_2 0 rfl rfl)
theorem dX5_number_49 : decode cX5_number 49 = .ok (.ifCond .eq 16, 3) := dk_153 0 16 (dk_at dksX5_number_2 3 rfl rfl)
theorem dX5_number_52 : decode cX5_number 52 = .ok (.aload_n 0, 1) := dk_42 (dk_at dksX5_number_2 6 rfl rfl)
theorem dX5_number_53 : decode cX5_number 53 = .ok (.getfield 7, 3) := dk_180 0 7 (dk_at dksX5_number_2 7 rfl rfl)
theorem dX5_number_56 : decode cX5_number 56 = .ok (.checkcast 19, 3) := dk_192 0 19 (dk_at dksX5_number_2 10 rfl rfl)
theorem dX5_number_59 : decode cX5_number 59 = .ok (.iload_n 1, 1) := dk_27 (dk_at dksX5_number_2 13 rfl rfl)
theorem dX5_number_60 : decode cX5_number 60 = .ok (.iaload, 1) := dk_46 (dk_at dksX5_number_2 14 rfl rfl)
theorem dX5_number_61 : decode cX5_number 61 = .ok (.i2l, 1) := dk_133 (dk_at dksX5_number_2 15 rfl rfl)
theorem dX5_number_62 : decode cX5_number 62 = .ok (.goto 12, 3) := dk_167 0 12 (dk_at dksX5_number_2 16 rfl rfl)
theorem dX5_number_65 : decode cX5_number 65 = .ok (.aload_n 0, 1) := dk_42 (dk_at dksX5_number_2 19 rfl rfl)
theorem dX5_number_66 : decode cX5_number 66 = .ok (.getfield 7, 3) := dk_180 0 7 (dk_at dksX5_number_2 20 rfl rfl)
theorem dX5_number_69 : decode cX5_number 69 = .ok (.checkcast 21, 3) := dk_192 0 21 (dk_at dksX5_number_3 0 rfl rfl)
theorem dX5_number_72 : decode cX5_number 72 = .ok (.iload_n 1, 1) := dk_27 (dk_at dksX5_number_3 3 rfl rfl)
theorem dX5_number_73 : decode cX5_number 73 = .ok (.laload, 1) := dk_47 (dk_at dksX5_number_3 4 rfl rfl)
theorem dX5_number_74 : decode cX5_number 74 = .ok (.lreturn, 1) := dk_173 (dk_at dksX5_number_3 5 rfl rfl)
abbrev cX5_many : ByteArray := prog_20_method_3_code
def yX5_many : MethodName := ⟨RX5, "many", "()I"⟩
def dkwX5_many_2 : List UInt8 := [153, 0, 14, 42, 180, 0, 7, 192, 0, 19, 190, 167, 0, 11, 42, 180, 0, 7, 192, 0, 21, 190, 172]
abbrev dktX5_many_2 : List UInt8 := dkwX5_many_2 ++ []
def dkwX5_many_1 : List UInt8 := [193, 0, 17, 153, 0, 12, 42, 180, 0, 7, 192, 0, 17, 190, 172, 42, 180, 0, 7, 193, 0, 19]
abbrev dktX5_many_1 : List UInt8 := dkwX5_many_1 ++ dktX5_many_2
def dkwX5_many_0 : List UInt8 := [42, 180, 0, 7, 193, 0, 15, 153, 0, 12, 42, 180, 0, 7, 192, 0, 15, 190, 172, 42, 180, 0, 7]
abbrev dktX5_many_0 : List UInt8 := dkwX5_many_0 ++ dktX5_many_1
theorem dksX5_many_0 : cX5_many.data.toList.drop 0 = dktX5_many_0 := by decide +kernel
theorem dksX5_many_1 : cX5_many.data.toList.drop 23 = dktX5_many_1 := dk_seg dksX5_many_0 23 rfl rfl
theorem dksX5_many_2 : cX5_many.data.toList.drop 45 = dktX5_many_2 := dk_seg dksX5_many_1 22 rfl rfl
theorem dX5_many_0 : decode cX5_many 0 = .ok (.aload_n 0, 1) := dk_42 (dk_at dksX5_many_0 0 rfl rfl)
theorem dX5_many_1 : decode cX5_many 1 = .ok (.getfield 7, 3) := dk_180 0 7 (dk_at dksX5_many_0 1 rfl rfl)
theorem dX5_many_4 : decode cX5_many 4 = .ok (.instanceof 15, 3) := dk_193 0 15 (dk_at dksX5_many_0 4 rfl rfl)
theorem dX5_many_7 : decode cX5_many 7 = .ok (.ifCond .eq 12, 3) := dk_153 0 12 (dk_at dksX5_many_0 7 rfl rfl)
theorem dX5_many_10 : decode cX5_many 10 = .ok (.aload_n 0, 1) := dk_42 (dk_at dksX5_many_0 10 rfl rfl)
theorem dX5_many_11 : decode cX5_many 11 = .ok (.getfield 7, 3) := dk_180 0 7 (dk_at dksX5_many_0 11 rfl rfl)
theorem dX5_many_14 : decode cX5_many 14 = .ok (.checkcast 15, 3) := dk_192 0 15 (dk_at dksX5_many_0 14 rfl rfl)
theorem dX5_many_17 : decode cX5_many 17 = .ok (.arraylength, 1) := dk_190 (dk_at dksX5_many_0 17 rfl rfl)
theorem dX5_many_18 : decode cX5_many 18 = .ok (.ireturn, 1) := dk_172 (dk_at dksX5_many_0 18 rfl rfl)
theorem dX5_many_19 : decode cX5_many 19 = .ok (.aload_n 0, 1) := dk_42 (dk_at dksX5_many_0 19 rfl rfl)
theorem dX5_many_20 : decode cX5_many 20 = .ok (.getfield 7, 3) := dk_180 0 7 (dk_at dksX5_many_0 20 rfl rfl)
theorem dX5_many_23 : decode cX5_many 23 = .ok (.instanceof 17, 3) := dk_193 0 17 (dk_at dksX5_many_1 0 rfl rfl)
theorem dX5_many_26 : decode cX5_many 26 = .ok (.ifCond .eq 12, 3) := dk_153 0 12 (dk_at dksX5_many_1 3 rfl rfl)
theorem dX5_many_29 : decode cX5_many 29 = .ok (.aload_n 0, 1) := dk_42 (dk_at dksX5_many_1 6 rfl rfl)
theorem dX5_many_30 : decode cX5_many 30 = .ok (.getfield 7, 3) := dk_180 0 7 (dk_at dksX5_many_1 7 rfl rfl)
theorem dX5_many_33 : decode cX5_many 33 = .ok (.checkcast 17, 3) := dk_192 0 17 (dk_at dksX5_many_1 10 rfl rfl)
theorem dX5_many_36 : decode cX5_many 36 = .ok (.arraylength, 1) := dk_190 (dk_at dksX5_many_1 13 rfl rfl)
theorem dX5_many_37 : decode cX5_many 37 = .ok (.ireturn, 1) := dk_172 (dk_at dksX5_many_1 14 rfl rfl)
theorem dX5_many_38 : decode cX5_many 38 = .ok (.aload_n 0, 1) := dk_42 (dk_at dksX5_many_1 15 rfl rfl)
theorem dX5_many_39 : decode cX5_many 39 = .ok (.getfield 7, 3) := dk_180 0 7 (dk_at dksX5_many_1 16 rfl rfl)
theorem dX5_many_42 : decode cX5_many 42 = .ok (.instanceof 19, 3) := dk_193 0 19 (dk_at dksX5_many_1 19 rfl rfl)
theorem dX5_many_45 : decode cX5_many 45 = .ok (.ifCond .eq 14, 3) := dk_153 0 14 (dk_at dksX5_many_2 0 rfl rfl)
theorem dX5_many_48 : decode cX5_many 48 = .ok (.aload_n 0, 1) := dk_42 (dk_at dksX5_many_2 3 rfl rfl)
theorem dX5_many_49 : decode cX5_many 49 = .ok (.getfield 7, 3) := dk_180 0 7 (dk_at dksX5_many_2 4 rfl rfl)
theorem dX5_many_52 : decode cX5_many 52 = .ok (.checkcast 19, 3) := dk_192 0 19 (dk_at dksX5_many_2 7 rfl rfl)
theorem dX5_many_55 : decode cX5_many 55 = .ok (.arraylength, 1) := dk_190 (dk_at dksX5_many_2 10 rfl rfl)
theorem dX5_many_56 : decode cX5_many 56 = .ok (.goto 11, 3) := dk_167 0 11 (dk_at dksX5_many_2 11 rfl rfl)
theorem dX5_many_59 : decode cX5_many 59 = .ok (.aload_n 0, 1) := dk_42 (dk_at dksX5_many_2 14 rfl rfl)
theorem dX5_many_60 : decode cX5_many 60 = .ok (.getfield 7, 3) := dk_180 0 7 (dk_at dksX5_many_2 15 rfl rfl)
theorem dX5_many_63 : decode cX5_many 63 = .ok (.checkcast 21, 3) := dk_192 0 21 (dk_at dksX5_many_2 18 rfl rfl)
theorem dX5_many_66 : decode cX5_many 66 = .ok (.arraylength, 1) := dk_190 (dk_at dksX5_many_2 21 rfl rfl)
theorem dX5_many_67 : decode cX5_many 67 = .ok (.ireturn, 1) := dk_172 (dk_at dksX5_many_2 22 rfl rfl)
theorem q112 : (Jvm.Cond.initialized "NobodysBard$Row") ∈ lw_all := lw_g (lw_at lw_m1 9 rfl) rfl
theorem q308 : (Jvm.Cond.instantiable "NobodysBard$Row" (1 : Nat)) ∈ lw_all := lw_g (lw_at lw_m1 205 rfl) rfl
theorem q310 : (Jvm.Cond.instanceMethod ({ cls := "NobodysBard$Row", name := "<init>", desc := "()V" } : Jvm.MethodName)) ∈ lw_all := lw_g (lw_at lw_m1 207 rfl) rfl
theorem q311 : (Jvm.Cond.code ({ cls := "NobodysBard$Row", name := "<init>", desc := "()V" } : Jvm.MethodName) prog_20_method_1_code (1 : Nat) (Option.none : Option Jvm.ClassFile.FieldType)) ∈ lw_all := lw_g (lw_at lw_m1 208 rfl) rfl
theorem q312 : (Jvm.Cond.methodLink "NobodysBard$Row" (1 : Nat) ({ cls := "java/lang/Object", name := "<init>", desc := "()V" } : Jvm.MethodName)) ∈ lw_all := lw_g (lw_at lw_m1 209 rfl) rfl
theorem q313 : (Jvm.Cond.fieldLink "NobodysBard$Row" (7 : Nat) "NobodysBard$Row" "held" "Ljava/lang/Object;") ∈ lw_all := lw_g (lw_at lw_m1 210 rfl) rfl
theorem q315 : (Jvm.Cond.lays "NobodysBard$Row" "NobodysBard$Row" "held" "Ljava/lang/Object;") ∈ lw_all := lw_g (lw_at lw_m1 212 rfl) rfl
theorem q316 : (Jvm.Cond.soleField "NobodysBard$Row" "held") ∈ lw_all := lw_g (lw_at lw_m1 213 rfl) rfl
theorem q317 : (Jvm.Cond.superclass "NobodysBard$Row" "java/lang/Object") ∈ lw_all := lw_g (lw_at lw_m1 214 rfl) rfl
theorem q497 : (Jvm.Cond.selects "NobodysBard$Row" ({ cls := "java/lang/Object", name := "getClass", desc := "()Ljava/lang/Class;" } : Jvm.MethodName) ({ cls := "java/lang/Object", name := "getClass", desc := "()Ljava/lang/Class;" } : Jvm.MethodName)) ∈ lw_all := lw_g (lw_at lw_m2 154 rfl) rfl
theorem q1381 : (Jvm.Cond.instanceMethod ({ cls := "NobodysBard$Row", name := "begins", desc := "(II)Z" } : Jvm.MethodName)) ∈ lw_all := lw_g (lw_at lw_m6 78 rfl) rfl
theorem q1382 : (Jvm.Cond.selects "NobodysBard$Row" ({ cls := "NobodysBard$Row", name := "begins", desc := "(II)Z" } : Jvm.MethodName) ({ cls := "NobodysBard$Row", name := "begins", desc := "(II)Z" } : Jvm.MethodName)) ∈ lw_all := lw_g (lw_at lw_m6 79 rfl) rfl
theorem q1383 : (Jvm.Cond.codeWith ({ cls := "NobodysBard$Row", name := "begins", desc := "(II)Z" } : Jvm.MethodName) prog_20_method_2_code (4 : Nat) (Option.some Jvm.ClassFile.FieldType.boolean) [((0 : Nat), (66 : Nat), (67 : Nat), (13 : Nat))]) ∈ lw_all := lw_g (lw_at lw_m6 80 rfl) rfl
theorem q1384 : (Jvm.Cond.classLink "NobodysBard$Row" (13 : Nat) "java/lang/NegativeArraySizeException") ∈ lw_all := lw_g (lw_at lw_m6 81 rfl) rfl
theorem q1518 : (Jvm.Cond.instanceMethod ({ cls := "NobodysBard$Row", name := "puts", desc := "(IJ)V" } : Jvm.MethodName)) ∈ lw_all := lw_g (lw_at lw_m6 215 rfl) rfl
theorem q1519 : (Jvm.Cond.selects "NobodysBard$Row" ({ cls := "NobodysBard$Row", name := "puts", desc := "(IJ)V" } : Jvm.MethodName) ({ cls := "NobodysBard$Row", name := "puts", desc := "(IJ)V" } : Jvm.MethodName)) ∈ lw_all := lw_g (lw_at lw_m6 216 rfl) rfl
theorem q1520 : (Jvm.Cond.code ({ cls := "NobodysBard$Row", name := "puts", desc := "(IJ)V" } : Jvm.MethodName) prog_20_method_5_code (4 : Nat) (Option.none : Option Jvm.ClassFile.FieldType)) ∈ lw_all := lw_g (lw_at lw_m6 217 rfl) rfl
theorem q1521 : (Jvm.Cond.classLink "NobodysBard$Row" (15 : Nat) "[B") ∈ lw_all := lw_g (lw_at lw_m6 218 rfl) rfl
theorem q1522 : (Jvm.Cond.classLink "NobodysBard$Row" (17 : Nat) "[S") ∈ lw_all := lw_g (lw_at lw_m6 219 rfl) rfl
theorem q1523 : (Jvm.Cond.classLink "NobodysBard$Row" (19 : Nat) "[I") ∈ lw_all := lw_g (lw_at lw_m6 220 rfl) rfl
theorem q1524 : (Jvm.Cond.classLink "NobodysBard$Row" (21 : Nat) "[J") ∈ lw_all := lw_g (lw_at lw_m6 221 rfl) rfl
theorem q1526 : (Jvm.Cond.instanceMethod ({ cls := "NobodysBard$Row", name := "number", desc := "(I)J" } : Jvm.MethodName)) ∈ lw_all := lw_g (lw_at lw_m6 223 rfl) rfl
theorem q1527 : (Jvm.Cond.selects "NobodysBard$Row" ({ cls := "NobodysBard$Row", name := "number", desc := "(I)J" } : Jvm.MethodName) ({ cls := "NobodysBard$Row", name := "number", desc := "(I)J" } : Jvm.MethodName)) ∈ lw_all := lw_g (lw_at lw_m6 224 rfl) rfl
theorem q1528 : (Jvm.Cond.code ({ cls := "NobodysBard$Row", name := "number", desc := "(I)J" } : Jvm.MethodName) prog_20_method_4_code (2 : Nat) (Option.some Jvm.ClassFile.FieldType.long)) ∈ lw_all := lw_g (lw_at lw_m6 225 rfl) rfl
theorem q1534 : (Jvm.Cond.instanceMethod ({ cls := "NobodysBard$Row", name := "many", desc := "()I" } : Jvm.MethodName)) ∈ lw_all := lw_g (lw_at lw_m6 231 rfl) rfl
theorem q1535 : (Jvm.Cond.selects "NobodysBard$Row" ({ cls := "NobodysBard$Row", name := "many", desc := "()I" } : Jvm.MethodName) ({ cls := "NobodysBard$Row", name := "many", desc := "()I" } : Jvm.MethodName)) ∈ lw_all := lw_g (lw_at lw_m6 232 rfl) rfl
theorem q1536 : (Jvm.Cond.code ({ cls := "NobodysBard$Row", name := "many", desc := "()I" } : Jvm.MethodName) prog_20_method_3_code (1 : Nat) (Option.some Jvm.ClassFile.FieldType.int)) ∈ lw_all := lw_g (lw_at lw_m6 233 rfl) rfl
theorem q2170 : (Jvm.Cond.castable "NobodysBard$Row" "java/lang/Object") ∈ lw_tbl := lw_at lw_m9 147 rfl
theorem in_X5 : ∀ w ∈ wsX50, w ∈ lw_all := lw_in wsX50 [315] (by decide +kernel) (by decide +kernel)
/-! NobodysBard$Owner -/
set_option maxRecDepth 100000
def RX7 : String := "NobodysBard$Owner"
def TX7 : u_T := fun k => match k with
  | 0 => ("NobodysBard$Owner", "sort", "I", true)
  | 1 => ("NobodysBard$Owner", "tale", "I", true)
  | 2 => ("NobodysBard$Owner", "glen", "I", true)
  | 3 => ("NobodysBard$Owner", "day", "I", true)
  | _ => ("NobodysBard$Owner", "lines", "Ljava/util/ArrayList;", true)
def tyX7 : Nat → FieldType := fun k => match k with
  | 0 => .int
  | 1 => .int
  | 2 => .int
  | 3 => .int
  | _ => .object "java/util/ArrayList"
abbrev wsX70 : List Cond := u_ws RX7 TX7 5
theorem nmX7 : ∀ a, a < 5 → ∀ b, b < 5 → a ≠ b → (TX7 a).2.1 ≠ (TX7 b).2.1 := by decide +kernel
theorem tyX7_ok : ∀ k, k < 5 → parseFieldDescriptor (TX7 k).2.2.1 = some (tyX7 k) := by decide +kernel
abbrev cX7_init : ByteArray := prog_15_method_1_code
def yX7_init : MethodName := ⟨RX7, "<init>", "(IIII)V"⟩
def dkwX7_init_1 : List UInt8 := [181, 0, 22, 42, 29, 181, 0, 25, 42, 21, 4, 181, 0, 28, 177]
abbrev dktX7_init_1 : List UInt8 := dkwX7_init_1 ++ []
def dkwX7_init_0 : List UInt8 := [42, 183, 0, 1, 42, 187, 0, 7, 89, 5, 183, 0, 9, 181, 0, 12, 42, 27, 181, 0, 18, 42, 28]
abbrev dktX7_init_0 : List UInt8 := dkwX7_init_0 ++ dktX7_init_1
theorem dksX7_init_0 : cX7_init.data.toList.drop 0 = dktX7_init_0 := by decide +kernel
theorem dksX7_init_1 : cX7_init.data.toList.drop 23 = dktX7_init_1 := dk_seg dksX7_init_0 23 rfl rfl
theorem dX7_init_0 : decode cX7_init 0 = .ok (.aload_n 0, 1) := dk_42 (dk_at dksX7_init_0 0 rfl rfl)
theorem dX7_init_1 : decode cX7_init 1 = .ok (.invokespecial 1, 3) := dk_183 0 1 (dk_at dksX7_init_0 1 rfl rfl)
theorem dX7_init_4 : decode cX7_init 4 = .ok (.aload_n 0, 1) := dk_42 (dk_at dksX7_init_0 4 rfl rfl)
theorem dX7_init_5 : decode cX7_init 5 = .ok (.new 7, 3) := dk_187 0 7 (dk_at dksX7_init_0 5 rfl rfl)
theorem dX7_init_8 : decode cX7_init 8 = .ok (.dup, 1) := dk_89 (dk_at dksX7_init_0 8 rfl rfl)
theorem dX7_init_9 : decode cX7_init 9 = .ok (.iconst 2, 1) := dk_5 (dk_at dksX7_init_0 9 rfl rfl)
theorem dX7_init_10 : decode cX7_init 10 = .ok (.invokespecial 9, 3) := dk_183 0 9 (dk_at dksX7_init_0 10 rfl rfl)
theorem dX7_init_13 : decode cX7_init 13 = .ok (.putfield 12, 3) := dk_181 0 12 (dk_at dksX7_init_0 13 rfl rfl)
theorem dX7_init_16 : decode cX7_init 16 = .ok (.aload_n 0, 1) := dk_42 (dk_at dksX7_init_0 16 rfl rfl)
theorem dX7_init_17 : decode cX7_init 17 = .ok (.iload_n 1, 1) := dk_27 (dk_at dksX7_init_0 17 rfl rfl)
theorem dX7_init_18 : decode cX7_init 18 = .ok (.putfield 18, 3) := dk_181 0 18 (dk_at dksX7_init_0 18 rfl rfl)
theorem dX7_init_21 : decode cX7_init 21 = .ok (.aload_n 0, 1) := dk_42 (dk_at dksX7_init_0 21 rfl rfl)
theorem dX7_init_22 : decode cX7_init 22 = .ok (.iload_n 2, 1) := dk_28 (dk_at dksX7_init_0 22 rfl rfl)
theorem dX7_init_23 : decode cX7_init 23 = .ok (.putfield 22, 3) := dk_181 0 22 (dk_at dksX7_init_1 0 rfl rfl)
theorem dX7_init_26 : decode cX7_init 26 = .ok (.aload_n 0, 1) := dk_42 (dk_at dksX7_init_1 3 rfl rfl)
theorem dX7_init_27 : decode cX7_init 27 = .ok (.iload_n 3, 1) := dk_29 (dk_at dksX7_init_1 4 rfl rfl)
theorem dX7_init_28 : decode cX7_init 28 = .ok (.putfield 25, 3) := dk_181 0 25 (dk_at dksX7_init_1 5 rfl rfl)
theorem dX7_init_31 : decode cX7_init 31 = .ok (.aload_n 0, 1) := dk_42 (dk_at dksX7_init_1 8 rfl rfl)
theorem dX7_init_32 : decode cX7_init 32 = .ok (.iload 4, 2) := dk_21 4 (dk_at dksX7_init_1 9 rfl rfl)
theorem dX7_init_34 : decode cX7_init 34 = .ok (.putfield 28, 3) := dk_181 0 28 (dk_at dksX7_init_1 11 rfl rfl)
theorem dX7_init_37 : decode cX7_init 37 = .ok (.return_, 1) := dk_177 (dk_at dksX7_init_1 14 rfl rfl)
abbrev cX7_copy : ByteArray := prog_15_method_2_code
def yX7_copy : MethodName := ⟨RX7, "copy", "()LNobodysBard$Owner;"⟩
def dkwX7_copy_2 : List UInt8 := [182, 0, 38, 192, 0, 42, 182, 0, 44, 87, 132, 2, 1, 167, 255, 223, 43, 176]
abbrev dktX7_copy_2 : List UInt8 := dkwX7_copy_2 ++ []
def dkwX7_copy_1 : List UInt8 := [3, 61, 28, 42, 180, 0, 12, 182, 0, 34, 162, 0, 28, 43, 180, 0, 12, 42, 180, 0, 12, 28]
abbrev dktX7_copy_1 : List UInt8 := dkwX7_copy_1 ++ dktX7_copy_2
def dkwX7_copy_0 : List UInt8 := [187, 0, 13, 89, 42, 180, 0, 18, 42, 180, 0, 22, 42, 180, 0, 25, 42, 180, 0, 28, 183, 0, 31, 76]
abbrev dktX7_copy_0 : List UInt8 := dkwX7_copy_0 ++ dktX7_copy_1
theorem dksX7_copy_0 : cX7_copy.data.toList.drop 0 = dktX7_copy_0 := by decide +kernel
theorem dksX7_copy_1 : cX7_copy.data.toList.drop 24 = dktX7_copy_1 := dk_seg dksX7_copy_0 24 rfl rfl
theorem dksX7_copy_2 : cX7_copy.data.toList.drop 46 = dktX7_copy_2 := dk_seg dksX7_copy_1 22 rfl rfl
theorem dX7_copy_0 : decode cX7_copy 0 = .ok (.new 13, 3) := dk_187 0 13 (dk_at dksX7_copy_0 0 rfl rfl)
theorem dX7_copy_3 : decode cX7_copy 3 = .ok (.dup, 1) := dk_89 (dk_at dksX7_copy_0 3 rfl rfl)
theorem dX7_copy_4 : decode cX7_copy 4 = .ok (.aload_n 0, 1) := dk_42 (dk_at dksX7_copy_0 4 rfl rfl)
theorem dX7_copy_5 : decode cX7_copy 5 = .ok (.getfield 18, 3) := dk_180 0 18 (dk_at dksX7_copy_0 5 rfl rfl)
theorem dX7_copy_8 : decode cX7_copy 8 = .ok (.aload_n 0, 1) := dk_42 (dk_at dksX7_copy_0 8 rfl rfl)
theorem dX7_copy_9 : decode cX7_copy 9 = .ok (.getfield 22, 3) := dk_180 0 22 (dk_at dksX7_copy_0 9 rfl rfl)
theorem dX7_copy_12 : decode cX7_copy 12 = .ok (.aload_n 0, 1) := dk_42 (dk_at dksX7_copy_0 12 rfl rfl)
theorem dX7_copy_13 : decode cX7_copy 13 = .ok (.getfield 25, 3) := dk_180 0 25 (dk_at dksX7_copy_0 13 rfl rfl)
theorem dX7_copy_16 : decode cX7_copy 16 = .ok (.aload_n 0, 1) := dk_42 (dk_at dksX7_copy_0 16 rfl rfl)
theorem dX7_copy_17 : decode cX7_copy 17 = .ok (.getfield 28, 3) := dk_180 0 28 (dk_at dksX7_copy_0 17 rfl rfl)
theorem dX7_copy_20 : decode cX7_copy 20 = .ok (.invokespecial 31, 3) := dk_183 0 31 (dk_at dksX7_copy_0 20 rfl rfl)
theorem dX7_copy_23 : decode cX7_copy 23 = .ok (.astore_n 1, 1) := dk_76 (dk_at dksX7_copy_0 23 rfl rfl)
theorem dX7_copy_24 : decode cX7_copy 24 = .ok (.iconst 0, 1) := dk_3 (dk_at dksX7_copy_1 0 rfl rfl)
theorem dX7_copy_25 : decode cX7_copy 25 = .ok (.istore_n 2, 1) := dk_61 (dk_at dksX7_copy_1 1 rfl rfl)
theorem dX7_copy_26 : decode cX7_copy 26 = .ok (.iload_n 2, 1) := dk_28 (dk_at dksX7_copy_1 2 rfl rfl)
theorem dX7_copy_27 : decode cX7_copy 27 = .ok (.aload_n 0, 1) := dk_42 (dk_at dksX7_copy_1 3 rfl rfl)
theorem dX7_copy_28 : decode cX7_copy 28 = .ok (.getfield 12, 3) := dk_180 0 12 (dk_at dksX7_copy_1 4 rfl rfl)
theorem dX7_copy_31 : decode cX7_copy 31 = .ok (.invokevirtual 34, 3) := dk_182 0 34 (dk_at dksX7_copy_1 7 rfl rfl)
theorem dX7_copy_34 : decode cX7_copy 34 = .ok (.if_icmp .ge 28, 3) := dk_162 0 28 (dk_at dksX7_copy_1 10 rfl rfl)
theorem dX7_copy_37 : decode cX7_copy 37 = .ok (.aload_n 1, 1) := dk_43 (dk_at dksX7_copy_1 13 rfl rfl)
theorem dX7_copy_38 : decode cX7_copy 38 = .ok (.getfield 12, 3) := dk_180 0 12 (dk_at dksX7_copy_1 14 rfl rfl)
theorem dX7_copy_41 : decode cX7_copy 41 = .ok (.aload_n 0, 1) := dk_42 (dk_at dksX7_copy_1 17 rfl rfl)
theorem dX7_copy_42 : decode cX7_copy 42 = .ok (.getfield 12, 3) := dk_180 0 12 (dk_at dksX7_copy_1 18 rfl rfl)
theorem dX7_copy_45 : decode cX7_copy 45 = .ok (.iload_n 2, 1) := dk_28 (dk_at dksX7_copy_1 21 rfl rfl)
theorem dX7_copy_46 : decode cX7_copy 46 = .ok (.invokevirtual 38, 3) := dk_182 0 38 (dk_at dksX7_copy_2 0 rfl rfl)
theorem dX7_copy_49 : decode cX7_copy 49 = .ok (.checkcast 42, 3) := dk_192 0 42 (dk_at dksX7_copy_2 3 rfl rfl)
theorem dX7_copy_52 : decode cX7_copy 52 = .ok (.invokevirtual 44, 3) := dk_182 0 44 (dk_at dksX7_copy_2 6 rfl rfl)
theorem dX7_copy_55 : decode cX7_copy 55 = .ok (.pop, 1) := dk_87 (dk_at dksX7_copy_2 9 rfl rfl)
theorem dX7_copy_56 : decode cX7_copy 56 = .ok (.iinc 2 1, 3) := dk_132 2 1 (dk_at dksX7_copy_2 10 rfl rfl)
theorem dX7_copy_59 : decode cX7_copy 59 = .ok (.goto (-33), 3) := dk_167 255 223 (dk_at dksX7_copy_2 13 rfl rfl)
theorem dX7_copy_62 : decode cX7_copy 62 = .ok (.aload_n 1, 1) := dk_43 (dk_at dksX7_copy_2 16 rfl rfl)
theorem dX7_copy_63 : decode cX7_copy 63 = .ok (.areturn, 1) := dk_176 (dk_at dksX7_copy_2 17 rfl rfl)
theorem q114 : (Jvm.Cond.initialized "NobodysBard$Owner") ∈ lw_all := lw_g (lw_at lw_m1 11 rfl) rfl
theorem q418 : (Jvm.Cond.instantiable "NobodysBard$Owner" (5 : Nat)) ∈ lw_all := lw_g (lw_at lw_m2 75 rfl) rfl
theorem q420 : (Jvm.Cond.instanceMethod ({ cls := "NobodysBard$Owner", name := "<init>", desc := "(IIII)V" } : Jvm.MethodName)) ∈ lw_all := lw_g (lw_at lw_m2 77 rfl) rfl
theorem q421 : (Jvm.Cond.code ({ cls := "NobodysBard$Owner", name := "<init>", desc := "(IIII)V" } : Jvm.MethodName) prog_15_method_1_code (5 : Nat) (Option.none : Option Jvm.ClassFile.FieldType)) ∈ lw_all := lw_g (lw_at lw_m2 78 rfl) rfl
theorem q422 : (Jvm.Cond.methodLink "NobodysBard$Owner" (1 : Nat) ({ cls := "java/lang/Object", name := "<init>", desc := "()V" } : Jvm.MethodName)) ∈ lw_all := lw_g (lw_at lw_m2 79 rfl) rfl
theorem q423 : (Jvm.Cond.classLink "NobodysBard$Owner" (7 : Nat) "java/util/ArrayList") ∈ lw_all := lw_g (lw_at lw_m2 80 rfl) rfl
theorem q424 : (Jvm.Cond.methodLink "NobodysBard$Owner" (9 : Nat) ({ cls := "java/util/ArrayList", name := "<init>", desc := "(I)V" } : Jvm.MethodName)) ∈ lw_all := lw_g (lw_at lw_m2 81 rfl) rfl
theorem q425 : (Jvm.Cond.fieldLink "NobodysBard$Owner" (18 : Nat) "NobodysBard$Owner" "sort" "I") ∈ lw_all := lw_g (lw_at lw_m2 82 rfl) rfl
theorem q427 : (Jvm.Cond.fieldLink "NobodysBard$Owner" (22 : Nat) "NobodysBard$Owner" "tale" "I") ∈ lw_all := lw_g (lw_at lw_m2 84 rfl) rfl
theorem q429 : (Jvm.Cond.fieldLink "NobodysBard$Owner" (25 : Nat) "NobodysBard$Owner" "glen" "I") ∈ lw_all := lw_g (lw_at lw_m2 86 rfl) rfl
theorem q430 : (Jvm.Cond.fieldLink "NobodysBard$Owner" (28 : Nat) "NobodysBard$Owner" "day" "I") ∈ lw_all := lw_g (lw_at lw_m2 87 rfl) rfl
theorem q432 : (Jvm.Cond.fieldLink "NobodysBard$Owner" (12 : Nat) "NobodysBard$Owner" "lines" "Ljava/util/ArrayList;") ∈ lw_all := lw_g (lw_at lw_m2 89 rfl) rfl
theorem q434 : (Jvm.Cond.laysFinal "NobodysBard$Owner" "NobodysBard$Owner" "sort" "I") ∈ lw_all := lw_g (lw_at lw_m2 91 rfl) rfl
theorem q435 : (Jvm.Cond.soleField "NobodysBard$Owner" "sort") ∈ lw_all := lw_g (lw_at lw_m2 92 rfl) rfl
theorem q436 : (Jvm.Cond.laysFinal "NobodysBard$Owner" "NobodysBard$Owner" "tale" "I") ∈ lw_all := lw_g (lw_at lw_m2 93 rfl) rfl
theorem q437 : (Jvm.Cond.soleField "NobodysBard$Owner" "tale") ∈ lw_all := lw_g (lw_at lw_m2 94 rfl) rfl
theorem q438 : (Jvm.Cond.laysFinal "NobodysBard$Owner" "NobodysBard$Owner" "glen" "I") ∈ lw_all := lw_g (lw_at lw_m2 95 rfl) rfl
theorem q439 : (Jvm.Cond.soleField "NobodysBard$Owner" "glen") ∈ lw_all := lw_g (lw_at lw_m2 96 rfl) rfl
theorem q440 : (Jvm.Cond.laysFinal "NobodysBard$Owner" "NobodysBard$Owner" "day" "I") ∈ lw_all := lw_g (lw_at lw_m2 97 rfl) rfl
theorem q441 : (Jvm.Cond.soleField "NobodysBard$Owner" "day") ∈ lw_all := lw_g (lw_at lw_m2 98 rfl) rfl
theorem q442 : (Jvm.Cond.laysFinal "NobodysBard$Owner" "NobodysBard$Owner" "lines" "Ljava/util/ArrayList;") ∈ lw_all := lw_g (lw_at lw_m2 99 rfl) rfl
theorem q443 : (Jvm.Cond.soleField "NobodysBard$Owner" "lines") ∈ lw_all := lw_g (lw_at lw_m2 100 rfl) rfl
theorem q444 : (Jvm.Cond.superclass "NobodysBard$Owner" "java/lang/Object") ∈ lw_all := lw_g (lw_at lw_m2 101 rfl) rfl
theorem q492 : (Jvm.Cond.selects "NobodysBard$Owner" ({ cls := "java/lang/Object", name := "getClass", desc := "()Ljava/lang/Class;" } : Jvm.MethodName) ({ cls := "java/lang/Object", name := "getClass", desc := "()Ljava/lang/Class;" } : Jvm.MethodName)) ∈ lw_all := lw_g (lw_at lw_m2 149 rfl) rfl
theorem q1577 : (Jvm.Cond.instanceMethod ({ cls := "NobodysBard$Owner", name := "copy", desc := "()LNobodysBard$Owner;" } : Jvm.MethodName)) ∈ lw_all := lw_g (lw_at lw_m7 34 rfl) rfl
theorem q1578 : (Jvm.Cond.selects "NobodysBard$Owner" ({ cls := "NobodysBard$Owner", name := "copy", desc := "()LNobodysBard$Owner;" } : Jvm.MethodName) ({ cls := "NobodysBard$Owner", name := "copy", desc := "()LNobodysBard$Owner;" } : Jvm.MethodName)) ∈ lw_all := lw_g (lw_at lw_m7 35 rfl) rfl
theorem q1579 : (Jvm.Cond.code ({ cls := "NobodysBard$Owner", name := "copy", desc := "()LNobodysBard$Owner;" } : Jvm.MethodName) prog_15_method_2_code (3 : Nat) (Option.some (Jvm.ClassFile.FieldType.object "NobodysBard$Owner"))) ∈ lw_all := lw_g (lw_at lw_m7 36 rfl) rfl
theorem q1580 : (Jvm.Cond.classLink "NobodysBard$Owner" (13 : Nat) "NobodysBard$Owner") ∈ lw_all := lw_g (lw_at lw_m7 37 rfl) rfl
theorem q1581 : (Jvm.Cond.methodLink "NobodysBard$Owner" (31 : Nat) ({ cls := "NobodysBard$Owner", name := "<init>", desc := "(IIII)V" } : Jvm.MethodName)) ∈ lw_all := lw_g (lw_at lw_m7 38 rfl) rfl
theorem q1582 : (Jvm.Cond.methodLink "NobodysBard$Owner" (34 : Nat) ({ cls := "java/util/ArrayList", name := "size", desc := "()I" } : Jvm.MethodName)) ∈ lw_all := lw_g (lw_at lw_m7 39 rfl) rfl
theorem q1583 : (Jvm.Cond.methodLink "NobodysBard$Owner" (38 : Nat) ({ cls := "java/util/ArrayList", name := "get", desc := "(I)Ljava/lang/Object;" } : Jvm.MethodName)) ∈ lw_all := lw_g (lw_at lw_m7 40 rfl) rfl
theorem q1584 : (Jvm.Cond.classLink "NobodysBard$Owner" (42 : Nat) "NobodysBard$Phrase") ∈ lw_all := lw_g (lw_at lw_m7 41 rfl) rfl
theorem q1585 : (Jvm.Cond.methodLink "NobodysBard$Owner" (44 : Nat) ({ cls := "java/util/ArrayList", name := "add", desc := "(Ljava/lang/Object;)Z" } : Jvm.MethodName)) ∈ lw_all := lw_g (lw_at lw_m7 42 rfl) rfl
theorem q2177 : (Jvm.Cond.castable "NobodysBard$Owner" "java/lang/Object") ∈ lw_tbl := lw_at lw_m9 154 rfl
theorem in_X7 : ∀ w ∈ wsX70, w ∈ lw_all := lw_in wsX70 [434, 436, 438, 440, 442] (by decide +kernel) (by decide +kernel)
/-! NobodysBard$Phrase -/
set_option maxRecDepth 100000
def RX8 : String := "NobodysBard$Phrase"
def TX8 : u_T := fun k => match k with
  | 0 => ("NobodysBard$Phrase", "w", "[I", true)
  | _ => ("NobodysBard$Phrase", "n", "I", false)
def tyX8 : Nat → FieldType := fun k => match k with
  | 0 => .array .int
  | _ => .int
abbrev wsX80 : List Cond := u_ws RX8 TX8 2
theorem nmX8 : ∀ a, a < 2 → ∀ b, b < 2 → a ≠ b → (TX8 a).2.1 ≠ (TX8 b).2.1 := by decide +kernel
theorem tyX8_ok : ∀ k, k < 2 → parseFieldDescriptor (TX8 k).2.2.1 = some (tyX8 k) := by decide +kernel
abbrev cX8_of : ByteArray := prog_17_method_2_code
def yX8_of : MethodName := ⟨RX8, "of", "(J)LNobodysBard$Phrase;"⟩
def dkwX8_of_1 : List UInt8 := [54, 4, 21, 4, 154, 0, 6, 167, 0, 15, 44, 21, 4, 182, 0, 16, 132, 3, 248, 167, 255, 225, 44, 176]
abbrev dktX8_of_1 : List UInt8 := dkwX8_of_1 ++ []
def dkwX8_of_0 : List UInt8 := [187, 0, 10, 89, 183, 0, 15, 77, 16, 56, 62, 29, 155, 0, 33, 30, 29, 125, 136, 17, 0, 255, 126]
abbrev dktX8_of_0 : List UInt8 := dkwX8_of_0 ++ dktX8_of_1
theorem dksX8_of_0 : cX8_of.data.toList.drop 0 = dktX8_of_0 := by decide +kernel
theorem dksX8_of_1 : cX8_of.data.toList.drop 23 = dktX8_of_1 := dk_seg dksX8_of_0 23 rfl rfl
theorem dX8_of_0 : decode cX8_of 0 = .ok (.new 10, 3) := dk_187 0 10 (dk_at dksX8_of_0 0 rfl rfl)
theorem dX8_of_3 : decode cX8_of 3 = .ok (.dup, 1) := dk_89 (dk_at dksX8_of_0 3 rfl rfl)
theorem dX8_of_4 : decode cX8_of 4 = .ok (.invokespecial 15, 3) := dk_183 0 15 (dk_at dksX8_of_0 4 rfl rfl)
theorem dX8_of_7 : decode cX8_of 7 = .ok (.astore_n 2, 1) := dk_77 (dk_at dksX8_of_0 7 rfl rfl)
theorem dX8_of_8 : decode cX8_of 8 = .ok (.bipush 56, 2) := dk_16 56 (dk_at dksX8_of_0 8 rfl rfl)
theorem dX8_of_10 : decode cX8_of 10 = .ok (.istore_n 3, 1) := dk_62 (dk_at dksX8_of_0 10 rfl rfl)
theorem dX8_of_11 : decode cX8_of 11 = .ok (.iload_n 3, 1) := dk_29 (dk_at dksX8_of_0 11 rfl rfl)
theorem dX8_of_12 : decode cX8_of 12 = .ok (.ifCond .lt 33, 3) := dk_155 0 33 (dk_at dksX8_of_0 12 rfl rfl)
theorem dX8_of_15 : decode cX8_of 15 = .ok (.lload_n 0, 1) := dk_30 (dk_at dksX8_of_0 15 rfl rfl)
theorem dX8_of_16 : decode cX8_of 16 = .ok (.iload_n 3, 1) := dk_29 (dk_at dksX8_of_0 16 rfl rfl)
theorem dX8_of_17 : decode cX8_of 17 = .ok (.lushr, 1) := dk_125 (dk_at dksX8_of_0 17 rfl rfl)
theorem dX8_of_18 : decode cX8_of 18 = .ok (.l2i, 1) := dk_136 (dk_at dksX8_of_0 18 rfl rfl)
theorem dX8_of_19 : decode cX8_of 19 = .ok (.sipush 255, 3) := dk_17 0 255 (dk_at dksX8_of_0 19 rfl rfl)
theorem dX8_of_22 : decode cX8_of 22 = .ok (.iand, 1) := dk_126 (dk_at dksX8_of_0 22 rfl rfl)
theorem dX8_of_23 : decode cX8_of 23 = .ok (.istore 4, 2) := dk_54 4 (dk_at dksX8_of_1 0 rfl rfl)
theorem dX8_of_25 : decode cX8_of 25 = .ok (.iload 4, 2) := dk_21 4 (dk_at dksX8_of_1 2 rfl rfl)
theorem dX8_of_27 : decode cX8_of 27 = .ok (.ifCond .ne 6, 3) := dk_154 0 6 (dk_at dksX8_of_1 4 rfl rfl)
theorem dX8_of_30 : decode cX8_of 30 = .ok (.goto 15, 3) := dk_167 0 15 (dk_at dksX8_of_1 7 rfl rfl)
theorem dX8_of_33 : decode cX8_of 33 = .ok (.aload_n 2, 1) := dk_44 (dk_at dksX8_of_1 10 rfl rfl)
theorem dX8_of_34 : decode cX8_of 34 = .ok (.iload 4, 2) := dk_21 4 (dk_at dksX8_of_1 11 rfl rfl)
theorem dX8_of_36 : decode cX8_of 36 = .ok (.invokevirtual 16, 3) := dk_182 0 16 (dk_at dksX8_of_1 13 rfl rfl)
theorem dX8_of_39 : decode cX8_of 39 = .ok (.iinc 3 (-8), 3) := dk_132 3 248 (dk_at dksX8_of_1 16 rfl rfl)
theorem dX8_of_42 : decode cX8_of 42 = .ok (.goto (-31), 3) := dk_167 255 225 (dk_at dksX8_of_1 19 rfl rfl)
theorem dX8_of_45 : decode cX8_of 45 = .ok (.aload_n 2, 1) := dk_44 (dk_at dksX8_of_1 22 rfl rfl)
theorem dX8_of_46 : decode cX8_of 46 = .ok (.areturn, 1) := dk_176 (dk_at dksX8_of_1 23 rfl rfl)
abbrev cX8_init : ByteArray := prog_17_method_1_code
def yX8_init : MethodName := ⟨RX8, "<init>", "()V"⟩
def dkwX8_init_0 : List UInt8 := [42, 183, 0, 3, 42, 16, 8, 188, 10, 181, 0, 9, 177]
abbrev dktX8_init_0 : List UInt8 := dkwX8_init_0 ++ []
theorem dksX8_init_0 : cX8_init.data.toList.drop 0 = dktX8_init_0 := by decide +kernel
theorem dX8_init_0 : decode cX8_init 0 = .ok (.aload_n 0, 1) := dk_42 (dk_at dksX8_init_0 0 rfl rfl)
theorem dX8_init_1 : decode cX8_init 1 = .ok (.invokespecial 3, 3) := dk_183 0 3 (dk_at dksX8_init_0 1 rfl rfl)
theorem dX8_init_4 : decode cX8_init 4 = .ok (.aload_n 0, 1) := dk_42 (dk_at dksX8_init_0 4 rfl rfl)
theorem dX8_init_5 : decode cX8_init 5 = .ok (.bipush 8, 2) := dk_16 8 (dk_at dksX8_init_0 5 rfl rfl)
theorem dX8_init_7 : decode cX8_init 7 = .ok (.newarray .int, 2) := dk_188_10 (dk_at dksX8_init_0 7 rfl rfl)
theorem dX8_init_9 : decode cX8_init 9 = .ok (.putfield 9, 3) := dk_181 0 9 (dk_at dksX8_init_0 9 rfl rfl)
theorem dX8_init_12 : decode cX8_init 12 = .ok (.return_, 1) := dk_177 (dk_at dksX8_init_0 12 rfl rfl)
abbrev cX8_adds : ByteArray := prog_17_method_3_code
def yX8_adds : MethodName := ⟨RX8, "adds", "(I)V"⟩
def dkwX8_adds_0 : List UInt8 := [42, 180, 0, 9, 42, 180, 0, 20, 27, 79, 42, 89, 180, 0, 20, 4, 96, 181, 0, 20, 177]
abbrev dktX8_adds_0 : List UInt8 := dkwX8_adds_0 ++ []
theorem dksX8_adds_0 : cX8_adds.data.toList.drop 0 = dktX8_adds_0 := by decide +kernel
theorem dX8_adds_0 : decode cX8_adds 0 = .ok (.aload_n 0, 1) := dk_42 (dk_at dksX8_adds_0 0 rfl rfl)
theorem dX8_adds_1 : decode cX8_adds 1 = .ok (.getfield 9, 3) := dk_180 0 9 (dk_at dksX8_adds_0 1 rfl rfl)
theorem dX8_adds_4 : decode cX8_adds 4 = .ok (.aload_n 0, 1) := dk_42 (dk_at dksX8_adds_0 4 rfl rfl)
theorem dX8_adds_5 : decode cX8_adds 5 = .ok (.getfield 20, 3) := dk_180 0 20 (dk_at dksX8_adds_0 5 rfl rfl)
theorem dX8_adds_8 : decode cX8_adds 8 = .ok (.iload_n 1, 1) := dk_27 (dk_at dksX8_adds_0 8 rfl rfl)
theorem dX8_adds_9 : decode cX8_adds 9 = .ok (.iastore, 1) := dk_79 (dk_at dksX8_adds_0 9 rfl rfl)
theorem dX8_adds_10 : decode cX8_adds 10 = .ok (.aload_n 0, 1) := dk_42 (dk_at dksX8_adds_0 10 rfl rfl)
theorem dX8_adds_11 : decode cX8_adds 11 = .ok (.dup, 1) := dk_89 (dk_at dksX8_adds_0 11 rfl rfl)
theorem dX8_adds_12 : decode cX8_adds 12 = .ok (.getfield 20, 3) := dk_180 0 20 (dk_at dksX8_adds_0 12 rfl rfl)
theorem dX8_adds_15 : decode cX8_adds 15 = .ok (.iconst 1, 1) := dk_4 (dk_at dksX8_adds_0 15 rfl rfl)
theorem dX8_adds_16 : decode cX8_adds 16 = .ok (.iadd, 1) := dk_96 (dk_at dksX8_adds_0 16 rfl rfl)
theorem dX8_adds_17 : decode cX8_adds 17 = .ok (.putfield 20, 3) := dk_181 0 20 (dk_at dksX8_adds_0 17 rfl rfl)
theorem dX8_adds_20 : decode cX8_adds 20 = .ok (.return_, 1) := dk_177 (dk_at dksX8_adds_0 20 rfl rfl)
abbrev cX8_told : ByteArray := prog_17_method_6_code
def yX8_told : MethodName := ⟨RX8, "told", "()J"⟩
def dkwX8_told_1 : List UInt8 := [180, 0, 9, 29, 46, 167, 0, 4, 3, 133, 129, 64, 132, 3, 1, 167, 255, 222, 31, 173]
abbrev dktX8_told_1 : List UInt8 := dkwX8_told_1 ++ []
def dkwX8_told_0 : List UInt8 := [9, 64, 3, 62, 29, 16, 8, 162, 0, 34, 31, 16, 8, 121, 29, 42, 180, 0, 20, 162, 0, 12, 42]
abbrev dktX8_told_0 : List UInt8 := dkwX8_told_0 ++ dktX8_told_1
theorem dksX8_told_0 : cX8_told.data.toList.drop 0 = dktX8_told_0 := by decide +kernel
theorem dksX8_told_1 : cX8_told.data.toList.drop 23 = dktX8_told_1 := dk_seg dksX8_told_0 23 rfl rfl
theorem dX8_told_0 : decode cX8_told 0 = .ok (.lconst 0, 1) := dk_9 (dk_at dksX8_told_0 0 rfl rfl)
theorem dX8_told_1 : decode cX8_told 1 = .ok (.lstore_n 1, 1) := dk_64 (dk_at dksX8_told_0 1 rfl rfl)
theorem dX8_told_2 : decode cX8_told 2 = .ok (.iconst 0, 1) := dk_3 (dk_at dksX8_told_0 2 rfl rfl)
theorem dX8_told_3 : decode cX8_told 3 = .ok (.istore_n 3, 1) := dk_62 (dk_at dksX8_told_0 3 rfl rfl)
theorem dX8_told_4 : decode cX8_told 4 = .ok (.iload_n 3, 1) := dk_29 (dk_at dksX8_told_0 4 rfl rfl)
theorem dX8_told_5 : decode cX8_told 5 = .ok (.bipush 8, 2) := dk_16 8 (dk_at dksX8_told_0 5 rfl rfl)
theorem dX8_told_7 : decode cX8_told 7 = .ok (.if_icmp .ge 34, 3) := dk_162 0 34 (dk_at dksX8_told_0 7 rfl rfl)
theorem dX8_told_10 : decode cX8_told 10 = .ok (.lload_n 1, 1) := dk_31 (dk_at dksX8_told_0 10 rfl rfl)
theorem dX8_told_11 : decode cX8_told 11 = .ok (.bipush 8, 2) := dk_16 8 (dk_at dksX8_told_0 11 rfl rfl)
theorem dX8_told_13 : decode cX8_told 13 = .ok (.lshl, 1) := dk_121 (dk_at dksX8_told_0 13 rfl rfl)
theorem dX8_told_14 : decode cX8_told 14 = .ok (.iload_n 3, 1) := dk_29 (dk_at dksX8_told_0 14 rfl rfl)
theorem dX8_told_15 : decode cX8_told 15 = .ok (.aload_n 0, 1) := dk_42 (dk_at dksX8_told_0 15 rfl rfl)
theorem dX8_told_16 : decode cX8_told 16 = .ok (.getfield 20, 3) := dk_180 0 20 (dk_at dksX8_told_0 16 rfl rfl)
theorem dX8_told_19 : decode cX8_told 19 = .ok (.if_icmp .ge 12, 3) := dk_162 0 12 (dk_at dksX8_told_0 19 rfl rfl)
theorem dX8_told_22 : decode cX8_told 22 = .ok (.aload_n 0, 1) := dk_42 (dk_at dksX8_told_0 22 rfl rfl)
theorem dX8_told_23 : decode cX8_told 23 = .ok (.getfield 9, 3) := dk_180 0 9 (dk_at dksX8_told_1 0 rfl rfl)
theorem dX8_told_26 : decode cX8_told 26 = .ok (.iload_n 3, 1) := dk_29 (dk_at dksX8_told_1 3 rfl rfl)
theorem dX8_told_27 : decode cX8_told 27 = .ok (.iaload, 1) := dk_46 (dk_at dksX8_told_1 4 rfl rfl)
theorem dX8_told_28 : decode cX8_told 28 = .ok (.goto 4, 3) := dk_167 0 4 (dk_at dksX8_told_1 5 rfl rfl)
theorem dX8_told_31 : decode cX8_told 31 = .ok (.iconst 0, 1) := dk_3 (dk_at dksX8_told_1 8 rfl rfl)
theorem dX8_told_32 : decode cX8_told 32 = .ok (.i2l, 1) := dk_133 (dk_at dksX8_told_1 9 rfl rfl)
theorem dX8_told_33 : decode cX8_told 33 = .ok (.lor, 1) := dk_129 (dk_at dksX8_told_1 10 rfl rfl)
theorem dX8_told_34 : decode cX8_told 34 = .ok (.lstore_n 1, 1) := dk_64 (dk_at dksX8_told_1 11 rfl rfl)
theorem dX8_told_35 : decode cX8_told 35 = .ok (.iinc 3 1, 3) := dk_132 3 1 (dk_at dksX8_told_1 12 rfl rfl)
theorem dX8_told_38 : decode cX8_told 38 = .ok (.goto (-34), 3) := dk_167 255 222 (dk_at dksX8_told_1 15 rfl rfl)
theorem dX8_told_41 : decode cX8_told 41 = .ok (.lload_n 1, 1) := dk_31 (dk_at dksX8_told_1 18 rfl rfl)
theorem dX8_told_42 : decode cX8_told 42 = .ok (.lreturn, 1) := dk_173 (dk_at dksX8_told_1 19 rfl rfl)
abbrev cX8_isSame : ByteArray := prog_17_method_4_code
def yX8_isSame : MethodName := ⟨RX8, "isSame", "(LNobodysBard$Phrase;)Z"⟩
def dkwX8_isSame_1 : List UInt8 := [180, 0, 9, 28, 46, 43, 180, 0, 9, 28, 46, 159, 0, 5, 3, 172, 132, 2, 1, 167, 255, 228, 4, 172]
abbrev dktX8_isSame_1 : List UInt8 := dkwX8_isSame_1 ++ []
def dkwX8_isSame_0 : List UInt8 := [42, 180, 0, 20, 43, 180, 0, 20, 159, 0, 5, 3, 172, 3, 61, 28, 42, 180, 0, 20, 162, 0, 26, 42]
abbrev dktX8_isSame_0 : List UInt8 := dkwX8_isSame_0 ++ dktX8_isSame_1
theorem dksX8_isSame_0 : cX8_isSame.data.toList.drop 0 = dktX8_isSame_0 := by decide +kernel
theorem dksX8_isSame_1 : cX8_isSame.data.toList.drop 24 = dktX8_isSame_1 := dk_seg dksX8_isSame_0 24 rfl rfl
theorem dX8_isSame_0 : decode cX8_isSame 0 = .ok (.aload_n 0, 1) := dk_42 (dk_at dksX8_isSame_0 0 rfl rfl)
theorem dX8_isSame_1 : decode cX8_isSame 1 = .ok (.getfield 20, 3) := dk_180 0 20 (dk_at dksX8_isSame_0 1 rfl rfl)
theorem dX8_isSame_4 : decode cX8_isSame 4 = .ok (.aload_n 1, 1) := dk_43 (dk_at dksX8_isSame_0 4 rfl rfl)
theorem dX8_isSame_5 : decode cX8_isSame 5 = .ok (.getfield 20, 3) := dk_180 0 20 (dk_at dksX8_isSame_0 5 rfl rfl)
theorem dX8_isSame_8 : decode cX8_isSame 8 = .ok (.if_icmp .eq 5, 3) := dk_159 0 5 (dk_at dksX8_isSame_0 8 rfl rfl)
theorem dX8_isSame_11 : decode cX8_isSame 11 = .ok (.iconst 0, 1) := dk_3 (dk_at dksX8_isSame_0 11 rfl rfl)
theorem dX8_isSame_12 : decode cX8_isSame 12 = .ok (.ireturn, 1) := dk_172 (dk_at dksX8_isSame_0 12 rfl rfl)
theorem dX8_isSame_13 : decode cX8_isSame 13 = .ok (.iconst 0, 1) := dk_3 (dk_at dksX8_isSame_0 13 rfl rfl)
theorem dX8_isSame_14 : decode cX8_isSame 14 = .ok (.istore_n 2, 1) := dk_61 (dk_at dksX8_isSame_0 14 rfl rfl)
theorem dX8_isSame_15 : decode cX8_isSame 15 = .ok (.iload_n 2, 1) := dk_28 (dk_at dksX8_isSame_0 15 rfl rfl)
theorem dX8_isSame_16 : decode cX8_isSame 16 = .ok (.aload_n 0, 1) := dk_42 (dk_at dksX8_isSame_0 16 rfl rfl)
theorem dX8_isSame_17 : decode cX8_isSame 17 = .ok (.getfield 20, 3) := dk_180 0 20 (dk_at dksX8_isSame_0 17 rfl rfl)
theorem dX8_isSame_20 : decode cX8_isSame 20 = .ok (.if_icmp .ge 26, 3) := dk_162 0 26 (dk_at dksX8_isSame_0 20 rfl rfl)
theorem dX8_isSame_23 : decode cX8_isSame 23 = .ok (.aload_n 0, 1) := dk_42 (dk_at dksX8_isSame_0 23 rfl rfl)
theorem dX8_isSame_24 : decode cX8_isSame 24 = .ok (.getfield 9, 3) := dk_180 0 9 (dk_at dksX8_isSame_1 0 rfl rfl)
theorem dX8_isSame_27 : decode cX8_isSame 27 = .ok (.iload_n 2, 1) := dk_28 (dk_at dksX8_isSame_1 3 rfl rfl)
theorem dX8_isSame_28 : decode cX8_isSame 28 = .ok (.iaload, 1) := dk_46 (dk_at dksX8_isSame_1 4 rfl rfl)
theorem dX8_isSame_29 : decode cX8_isSame 29 = .ok (.aload_n 1, 1) := dk_43 (dk_at dksX8_isSame_1 5 rfl rfl)
theorem dX8_isSame_30 : decode cX8_isSame 30 = .ok (.getfield 9, 3) := dk_180 0 9 (dk_at dksX8_isSame_1 6 rfl rfl)
theorem dX8_isSame_33 : decode cX8_isSame 33 = .ok (.iload_n 2, 1) := dk_28 (dk_at dksX8_isSame_1 9 rfl rfl)
theorem dX8_isSame_34 : decode cX8_isSame 34 = .ok (.iaload, 1) := dk_46 (dk_at dksX8_isSame_1 10 rfl rfl)
theorem dX8_isSame_35 : decode cX8_isSame 35 = .ok (.if_icmp .eq 5, 3) := dk_159 0 5 (dk_at dksX8_isSame_1 11 rfl rfl)
theorem dX8_isSame_38 : decode cX8_isSame 38 = .ok (.iconst 0, 1) := dk_3 (dk_at dksX8_isSame_1 14 rfl rfl)
theorem dX8_isSame_39 : decode cX8_isSame 39 = .ok (.ireturn, 1) := dk_172 (dk_at dksX8_isSame_1 15 rfl rfl)
theorem dX8_isSame_40 : decode cX8_isSame 40 = .ok (.iinc 2 1, 3) := dk_132 2 1 (dk_at dksX8_isSame_1 16 rfl rfl)
theorem dX8_isSame_43 : decode cX8_isSame 43 = .ok (.goto (-28), 3) := dk_167 255 228 (dk_at dksX8_isSame_1 19 rfl rfl)
theorem dX8_isSame_46 : decode cX8_isSame 46 = .ok (.iconst 1, 1) := dk_4 (dk_at dksX8_isSame_1 22 rfl rfl)
theorem dX8_isSame_47 : decode cX8_isSame 47 = .ok (.ireturn, 1) := dk_172 (dk_at dksX8_isSame_1 23 rfl rfl)
abbrev cX8_has : ByteArray := prog_17_method_5_code
def yX8_has : MethodName := ⟨RX8, "has", "(I)Z"⟩
def dkwX8_has_1 : List UInt8 := [132, 2, 1, 167, 255, 233, 3, 172]
abbrev dktX8_has_1 : List UInt8 := dkwX8_has_1 ++ []
def dkwX8_has_0 : List UInt8 := [3, 61, 28, 42, 180, 0, 20, 162, 0, 21, 42, 180, 0, 9, 28, 46, 27, 160, 0, 5, 4, 172]
abbrev dktX8_has_0 : List UInt8 := dkwX8_has_0 ++ dktX8_has_1
theorem dksX8_has_0 : cX8_has.data.toList.drop 0 = dktX8_has_0 := by decide +kernel
theorem dksX8_has_1 : cX8_has.data.toList.drop 22 = dktX8_has_1 := dk_seg dksX8_has_0 22 rfl rfl
theorem dX8_has_0 : decode cX8_has 0 = .ok (.iconst 0, 1) := dk_3 (dk_at dksX8_has_0 0 rfl rfl)
theorem dX8_has_1 : decode cX8_has 1 = .ok (.istore_n 2, 1) := dk_61 (dk_at dksX8_has_0 1 rfl rfl)
theorem dX8_has_2 : decode cX8_has 2 = .ok (.iload_n 2, 1) := dk_28 (dk_at dksX8_has_0 2 rfl rfl)
theorem dX8_has_3 : decode cX8_has 3 = .ok (.aload_n 0, 1) := dk_42 (dk_at dksX8_has_0 3 rfl rfl)
theorem dX8_has_4 : decode cX8_has 4 = .ok (.getfield 20, 3) := dk_180 0 20 (dk_at dksX8_has_0 4 rfl rfl)
theorem dX8_has_7 : decode cX8_has 7 = .ok (.if_icmp .ge 21, 3) := dk_162 0 21 (dk_at dksX8_has_0 7 rfl rfl)
theorem dX8_has_10 : decode cX8_has 10 = .ok (.aload_n 0, 1) := dk_42 (dk_at dksX8_has_0 10 rfl rfl)
theorem dX8_has_11 : decode cX8_has 11 = .ok (.getfield 9, 3) := dk_180 0 9 (dk_at dksX8_has_0 11 rfl rfl)
theorem dX8_has_14 : decode cX8_has 14 = .ok (.iload_n 2, 1) := dk_28 (dk_at dksX8_has_0 14 rfl rfl)
theorem dX8_has_15 : decode cX8_has 15 = .ok (.iaload, 1) := dk_46 (dk_at dksX8_has_0 15 rfl rfl)
theorem dX8_has_16 : decode cX8_has 16 = .ok (.iload_n 1, 1) := dk_27 (dk_at dksX8_has_0 16 rfl rfl)
theorem dX8_has_17 : decode cX8_has 17 = .ok (.if_icmp .ne 5, 3) := dk_160 0 5 (dk_at dksX8_has_0 17 rfl rfl)
theorem dX8_has_20 : decode cX8_has 20 = .ok (.iconst 1, 1) := dk_4 (dk_at dksX8_has_0 20 rfl rfl)
theorem dX8_has_21 : decode cX8_has 21 = .ok (.ireturn, 1) := dk_172 (dk_at dksX8_has_0 21 rfl rfl)
theorem dX8_has_22 : decode cX8_has 22 = .ok (.iinc 2 1, 3) := dk_132 2 1 (dk_at dksX8_has_1 0 rfl rfl)
theorem dX8_has_25 : decode cX8_has 25 = .ok (.goto (-23), 3) := dk_167 255 233 (dk_at dksX8_has_1 3 rfl rfl)
theorem dX8_has_28 : decode cX8_has 28 = .ok (.iconst 0, 1) := dk_3 (dk_at dksX8_has_1 6 rfl rfl)
theorem dX8_has_29 : decode cX8_has 29 = .ok (.ireturn, 1) := dk_172 (dk_at dksX8_has_1 7 rfl rfl)
theorem q119 : (Jvm.Cond.initialized "NobodysBard$Phrase") ∈ lw_all := lw_g (lw_at lw_m1 16 rfl) rfl
theorem q494 : (Jvm.Cond.selects "NobodysBard$Phrase" ({ cls := "java/lang/Object", name := "getClass", desc := "()Ljava/lang/Class;" } : Jvm.MethodName) ({ cls := "java/lang/Object", name := "getClass", desc := "()Ljava/lang/Class;" } : Jvm.MethodName)) ∈ lw_all := lw_g (lw_at lw_m2 151 rfl) rfl
theorem q537 : (Jvm.Cond.static ({ cls := "NobodysBard$Phrase", name := "of", desc := "(J)LNobodysBard$Phrase;" } : Jvm.MethodName)) ∈ lw_all := lw_g (lw_at lw_m2 194 rfl) rfl
theorem q538 : (Jvm.Cond.code ({ cls := "NobodysBard$Phrase", name := "of", desc := "(J)LNobodysBard$Phrase;" } : Jvm.MethodName) prog_17_method_2_code (5 : Nat) (Option.some (Jvm.ClassFile.FieldType.object "NobodysBard$Phrase"))) ∈ lw_all := lw_g (lw_at lw_m2 195 rfl) rfl
theorem q539 : (Jvm.Cond.classLink "NobodysBard$Phrase" (10 : Nat) "NobodysBard$Phrase") ∈ lw_all := lw_g (lw_at lw_m2 196 rfl) rfl
theorem q540 : (Jvm.Cond.instantiable "NobodysBard$Phrase" (2 : Nat)) ∈ lw_all := lw_g (lw_at lw_m2 197 rfl) rfl
theorem q541 : (Jvm.Cond.methodLink "NobodysBard$Phrase" (15 : Nat) ({ cls := "NobodysBard$Phrase", name := "<init>", desc := "()V" } : Jvm.MethodName)) ∈ lw_all := lw_g (lw_at lw_m2 198 rfl) rfl
theorem q542 : (Jvm.Cond.instanceMethod ({ cls := "NobodysBard$Phrase", name := "<init>", desc := "()V" } : Jvm.MethodName)) ∈ lw_all := lw_g (lw_at lw_m2 199 rfl) rfl
theorem q543 : (Jvm.Cond.code ({ cls := "NobodysBard$Phrase", name := "<init>", desc := "()V" } : Jvm.MethodName) prog_17_method_1_code (1 : Nat) (Option.none : Option Jvm.ClassFile.FieldType)) ∈ lw_all := lw_g (lw_at lw_m2 200 rfl) rfl
theorem q544 : (Jvm.Cond.methodLink "NobodysBard$Phrase" (3 : Nat) ({ cls := "java/lang/Object", name := "<init>", desc := "()V" } : Jvm.MethodName)) ∈ lw_all := lw_g (lw_at lw_m2 201 rfl) rfl
theorem q545 : (Jvm.Cond.fieldLink "NobodysBard$Phrase" (9 : Nat) "NobodysBard$Phrase" "w" "[I") ∈ lw_all := lw_g (lw_at lw_m2 202 rfl) rfl
theorem q551 : (Jvm.Cond.fieldLink "NobodysBard$Phrase" (20 : Nat) "NobodysBard$Phrase" "n" "I") ∈ lw_all := lw_g (lw_at lw_m2 208 rfl) rfl
theorem q553 : (Jvm.Cond.laysFinal "NobodysBard$Phrase" "NobodysBard$Phrase" "w" "[I") ∈ lw_all := lw_g (lw_at lw_m2 210 rfl) rfl
theorem q554 : (Jvm.Cond.soleField "NobodysBard$Phrase" "w") ∈ lw_all := lw_g (lw_at lw_m2 211 rfl) rfl
theorem q555 : (Jvm.Cond.lays "NobodysBard$Phrase" "NobodysBard$Phrase" "n" "I") ∈ lw_all := lw_g (lw_at lw_m2 212 rfl) rfl
theorem q556 : (Jvm.Cond.soleField "NobodysBard$Phrase" "n") ∈ lw_all := lw_g (lw_at lw_m2 213 rfl) rfl
theorem q557 : (Jvm.Cond.superclass "NobodysBard$Phrase" "java/lang/Object") ∈ lw_all := lw_g (lw_at lw_m2 214 rfl) rfl
theorem q558 : (Jvm.Cond.methodLink "NobodysBard$Phrase" (16 : Nat) ({ cls := "NobodysBard$Phrase", name := "adds", desc := "(I)V" } : Jvm.MethodName)) ∈ lw_all := lw_g (lw_at lw_m2 215 rfl) rfl
theorem q559 : (Jvm.Cond.instanceMethod ({ cls := "NobodysBard$Phrase", name := "adds", desc := "(I)V" } : Jvm.MethodName)) ∈ lw_all := lw_g (lw_at lw_m2 216 rfl) rfl
theorem q560 : (Jvm.Cond.selects "NobodysBard$Phrase" ({ cls := "NobodysBard$Phrase", name := "adds", desc := "(I)V" } : Jvm.MethodName) ({ cls := "NobodysBard$Phrase", name := "adds", desc := "(I)V" } : Jvm.MethodName)) ∈ lw_all := lw_g (lw_at lw_m2 217 rfl) rfl
theorem q561 : (Jvm.Cond.code ({ cls := "NobodysBard$Phrase", name := "adds", desc := "(I)V" } : Jvm.MethodName) prog_17_method_3_code (2 : Nat) (Option.none : Option Jvm.ClassFile.FieldType)) ∈ lw_all := lw_g (lw_at lw_m2 218 rfl) rfl
theorem q614 : (Jvm.Cond.instanceMethod ({ cls := "NobodysBard$Phrase", name := "told", desc := "()J" } : Jvm.MethodName)) ∈ lw_all := lw_g (lw_at lw_m3 31 rfl) rfl
theorem q615 : (Jvm.Cond.selects "NobodysBard$Phrase" ({ cls := "NobodysBard$Phrase", name := "told", desc := "()J" } : Jvm.MethodName) ({ cls := "NobodysBard$Phrase", name := "told", desc := "()J" } : Jvm.MethodName)) ∈ lw_all := lw_g (lw_at lw_m3 32 rfl) rfl
theorem q616 : (Jvm.Cond.code ({ cls := "NobodysBard$Phrase", name := "told", desc := "()J" } : Jvm.MethodName) prog_17_method_6_code (4 : Nat) (Option.some Jvm.ClassFile.FieldType.long)) ∈ lw_all := lw_g (lw_at lw_m3 33 rfl) rfl
theorem q921 : (Jvm.Cond.instanceMethod ({ cls := "NobodysBard$Phrase", name := "isSame", desc := "(LNobodysBard$Phrase;)Z" } : Jvm.MethodName)) ∈ lw_all := lw_g (lw_at lw_m4 98 rfl) rfl
theorem q922 : (Jvm.Cond.selects "NobodysBard$Phrase" ({ cls := "NobodysBard$Phrase", name := "isSame", desc := "(LNobodysBard$Phrase;)Z" } : Jvm.MethodName) ({ cls := "NobodysBard$Phrase", name := "isSame", desc := "(LNobodysBard$Phrase;)Z" } : Jvm.MethodName)) ∈ lw_all := lw_g (lw_at lw_m4 99 rfl) rfl
theorem q923 : (Jvm.Cond.code ({ cls := "NobodysBard$Phrase", name := "isSame", desc := "(LNobodysBard$Phrase;)Z" } : Jvm.MethodName) prog_17_method_4_code (3 : Nat) (Option.some Jvm.ClassFile.FieldType.boolean)) ∈ lw_all := lw_g (lw_at lw_m4 100 rfl) rfl
theorem q949 : (Jvm.Cond.instanceMethod ({ cls := "NobodysBard$Phrase", name := "has", desc := "(I)Z" } : Jvm.MethodName)) ∈ lw_all := lw_g (lw_at lw_m4 126 rfl) rfl
theorem q950 : (Jvm.Cond.selects "NobodysBard$Phrase" ({ cls := "NobodysBard$Phrase", name := "has", desc := "(I)Z" } : Jvm.MethodName) ({ cls := "NobodysBard$Phrase", name := "has", desc := "(I)Z" } : Jvm.MethodName)) ∈ lw_all := lw_g (lw_at lw_m4 127 rfl) rfl
theorem q951 : (Jvm.Cond.code ({ cls := "NobodysBard$Phrase", name := "has", desc := "(I)Z" } : Jvm.MethodName) prog_17_method_5_code (3 : Nat) (Option.some Jvm.ClassFile.FieldType.boolean)) ∈ lw_all := lw_g (lw_at lw_m4 128 rfl) rfl
theorem q2169 : (Jvm.Cond.castable "NobodysBard$Phrase" "java/lang/Object") ∈ lw_tbl := lw_at lw_m9 146 rfl
theorem in_X8 : ∀ w ∈ wsX80, w ∈ lw_all := lw_in wsX80 [553, 555] (by decide +kernel) (by decide +kernel)
/-! NobodysBard$Printed -/
set_option maxRecDepth 100000
def RX9 : String := "NobodysBard$Printed"
def TX9 : u_T := fun k => match k with
  | 0 => ("NobodysBard$Printed", "line", "LNobodysBard$Phrase;", true)
  | _ => ("NobodysBard$Printed", "tale", "I", true)
def tyX9 : Nat → FieldType := fun k => match k with
  | 0 => .object "NobodysBard$Phrase"
  | _ => .int
abbrev wsX90 : List Cond := u_ws RX9 TX9 2
theorem nmX9 : ∀ a, a < 2 → ∀ b, b < 2 → a ≠ b → (TX9 a).2.1 ≠ (TX9 b).2.1 := by decide +kernel
theorem tyX9_ok : ∀ k, k < 2 → parseFieldDescriptor (TX9 k).2.2.1 = some (tyX9 k) := by decide +kernel
abbrev cX9_init : ByteArray := prog_18_method_1_code
def yX9_init : MethodName := ⟨RX9, "<init>", "(LNobodysBard$Phrase;I)V"⟩
def dkwX9_init_0 : List UInt8 := [42, 183, 0, 1, 42, 43, 181, 0, 7, 42, 28, 181, 0, 13, 177]
abbrev dktX9_init_0 : List UInt8 := dkwX9_init_0 ++ []
theorem dksX9_init_0 : cX9_init.data.toList.drop 0 = dktX9_init_0 := by decide +kernel
theorem dX9_init_0 : decode cX9_init 0 = .ok (.aload_n 0, 1) := dk_42 (dk_at dksX9_init_0 0 rfl rfl)
theorem dX9_init_1 : decode cX9_init 1 = .ok (.invokespecial 1, 3) := dk_183 0 1 (dk_at dksX9_init_0 1 rfl rfl)
theorem dX9_init_4 : decode cX9_init 4 = .ok (.aload_n 0, 1) := dk_42 (dk_at dksX9_init_0 4 rfl rfl)
theorem dX9_init_5 : decode cX9_init 5 = .ok (.aload_n 1, 1) := dk_43 (dk_at dksX9_init_0 5 rfl rfl)
theorem dX9_init_6 : decode cX9_init 6 = .ok (.putfield 7, 3) := dk_181 0 7 (dk_at dksX9_init_0 6 rfl rfl)
theorem dX9_init_9 : decode cX9_init 9 = .ok (.aload_n 0, 1) := dk_42 (dk_at dksX9_init_0 9 rfl rfl)
theorem dX9_init_10 : decode cX9_init 10 = .ok (.iload_n 2, 1) := dk_28 (dk_at dksX9_init_0 10 rfl rfl)
theorem dX9_init_11 : decode cX9_init 11 = .ok (.putfield 13, 3) := dk_181 0 13 (dk_at dksX9_init_0 11 rfl rfl)
theorem dX9_init_14 : decode cX9_init 14 = .ok (.return_, 1) := dk_177 (dk_at dksX9_init_0 14 rfl rfl)
theorem q120 : (Jvm.Cond.initialized "NobodysBard$Printed") ∈ lw_all := lw_g (lw_at lw_m1 17 rfl) rfl
theorem q495 : (Jvm.Cond.selects "NobodysBard$Printed" ({ cls := "java/lang/Object", name := "getClass", desc := "()Ljava/lang/Class;" } : Jvm.MethodName) ({ cls := "java/lang/Object", name := "getClass", desc := "()Ljava/lang/Class;" } : Jvm.MethodName)) ∈ lw_all := lw_g (lw_at lw_m2 152 rfl) rfl
theorem q563 : (Jvm.Cond.instantiable "NobodysBard$Printed" (2 : Nat)) ∈ lw_all := lw_g (lw_at lw_m2 220 rfl) rfl
theorem q565 : (Jvm.Cond.instanceMethod ({ cls := "NobodysBard$Printed", name := "<init>", desc := "(LNobodysBard$Phrase;I)V" } : Jvm.MethodName)) ∈ lw_all := lw_g (lw_at lw_m2 222 rfl) rfl
theorem q566 : (Jvm.Cond.code ({ cls := "NobodysBard$Printed", name := "<init>", desc := "(LNobodysBard$Phrase;I)V" } : Jvm.MethodName) prog_18_method_1_code (3 : Nat) (Option.none : Option Jvm.ClassFile.FieldType)) ∈ lw_all := lw_g (lw_at lw_m2 223 rfl) rfl
theorem q567 : (Jvm.Cond.methodLink "NobodysBard$Printed" (1 : Nat) ({ cls := "java/lang/Object", name := "<init>", desc := "()V" } : Jvm.MethodName)) ∈ lw_all := lw_g (lw_at lw_m2 224 rfl) rfl
theorem q568 : (Jvm.Cond.fieldLink "NobodysBard$Printed" (7 : Nat) "NobodysBard$Printed" "line" "LNobodysBard$Phrase;") ∈ lw_all := lw_g (lw_at lw_m2 225 rfl) rfl
theorem q570 : (Jvm.Cond.fieldLink "NobodysBard$Printed" (13 : Nat) "NobodysBard$Printed" "tale" "I") ∈ lw_all := lw_g (lw_at lw_m2 227 rfl) rfl
theorem q572 : (Jvm.Cond.laysFinal "NobodysBard$Printed" "NobodysBard$Printed" "line" "LNobodysBard$Phrase;") ∈ lw_all := lw_g (lw_at lw_m2 229 rfl) rfl
theorem q573 : (Jvm.Cond.soleField "NobodysBard$Printed" "line") ∈ lw_all := lw_g (lw_at lw_m2 230 rfl) rfl
theorem q574 : (Jvm.Cond.laysFinal "NobodysBard$Printed" "NobodysBard$Printed" "tale" "I") ∈ lw_all := lw_g (lw_at lw_m2 231 rfl) rfl
theorem q575 : (Jvm.Cond.soleField "NobodysBard$Printed" "tale") ∈ lw_all := lw_g (lw_at lw_m2 232 rfl) rfl
theorem q576 : (Jvm.Cond.superclass "NobodysBard$Printed" "java/lang/Object") ∈ lw_all := lw_g (lw_at lw_m2 233 rfl) rfl
theorem q2178 : (Jvm.Cond.castable "NobodysBard$Printed" "java/lang/Object") ∈ lw_tbl := lw_at lw_m9 155 rfl
theorem in_X9 : ∀ w ∈ wsX90, w ∈ lw_all := lw_in wsX90 [572, 574] (by decide +kernel) (by decide +kernel)
theorem q103 : (Jvm.Cond.initialized "NobodysBardLaw") ∈ lw_all := lw_g (lw_at lw_m1 0 rfl) rfl
set_option maxRecDepth 100000
theorem q148 : (Jvm.Cond.classLink "NobodysBardLaw" (7 : Nat) "NobodysBard") ∈ lw_all := lw_g (lw_at lw_m1 45 rfl) rfl
theorem q150 : (Jvm.Cond.methodLink "NobodysBardLaw" (9 : Nat) ({ cls := "NobodysBard", name := "<init>", desc := "()V" } : Jvm.MethodName)) ∈ lw_all := lw_g (lw_at lw_m1 47 rfl) rfl
theorem q389 : (Jvm.Cond.methodLink "NobodysBardLaw" (13 : Nat) ({ cls := "NobodysBard", name := "open", desc := "(IIII)I" } : Jvm.MethodName)) ∈ lw_all := lw_g (lw_at lw_m2 46 rfl) rfl
theorem q520 : (Jvm.Cond.methodLink "NobodysBardLaw" (20 : Nat) ({ cls := "NobodysBard", name := "line", desc := "(IIIJ)I" } : Jvm.MethodName)) ∈ lw_all := lw_g (lw_at lw_m2 177 rfl) rfl
theorem q591 : (Jvm.Cond.methodLink "NobodysBardLaw" (25 : Nat) ({ cls := "NobodysBard", name := "print", desc := "(I)I" } : Jvm.MethodName)) ∈ lw_all := lw_g (lw_at lw_m3 8 rfl) rfl
theorem q595 : (Jvm.Cond.methodLink "NobodysBardLaw" (30 : Nat) ({ cls := "NobodysBard", name := "bounds", desc := "(II)I" } : Jvm.MethodName)) ∈ lw_all := lw_g (lw_at lw_m3 12 rfl) rfl
theorem q600 : (Jvm.Cond.methodLink "NobodysBardLaw" (35 : Nat) ({ cls := "NobodysBard", name := "words", desc := "(III)J" } : Jvm.MethodName)) ∈ lw_all := lw_g (lw_at lw_m3 17 rfl) rfl
theorem q617 : (Jvm.Cond.methodLink "NobodysBardLaw" (40 : Nat) ({ cls := "NobodysBard", name := "like", desc := "(JJ)I" } : Jvm.MethodName)) ∈ lw_all := lw_g (lw_at lw_m3 34 rfl) rfl
theorem q630 : (Jvm.Cond.methodLink "NobodysBardLaw" (45 : Nat) ({ cls := "NobodysBard", name := "feed", desc := "(IIIII)I" } : Jvm.MethodName)) ∈ lw_all := lw_g (lw_at lw_m3 47 rfl) rfl
theorem q638 : (Jvm.Cond.methodLink "NobodysBardLaw" (50 : Nat) ({ cls := "NobodysBard", name := "text", desc := "(II)I" } : Jvm.MethodName)) ∈ lw_all := lw_g (lw_at lw_m3 55 rfl) rfl
theorem q903 : (Jvm.Cond.methodLink "NobodysBardLaw" (54 : Nat) ({ cls := "NobodysBard", name := "fault", desc := "(I)I" } : Jvm.MethodName)) ∈ lw_all := lw_g (lw_at lw_m4 80 rfl) rfl
theorem q907 : (Jvm.Cond.methodLink "NobodysBardLaw" (58 : Nat) ({ cls := "NobodysBard", name := "smoothed", desc := "(JI)J" } : Jvm.MethodName)) ∈ lw_all := lw_g (lw_at lw_m4 84 rfl) rfl
theorem q971 : (Jvm.Cond.methodLink "NobodysBardLaw" (63 : Nat) ({ cls := "NobodysBard", name := "told", desc := "(IIII)I" } : Jvm.MethodName)) ∈ lw_all := lw_g (lw_at lw_m4 148 rfl) rfl
theorem q1007 : (Jvm.Cond.methodLink "NobodysBardLaw" (67 : Nat) ({ cls := "NobodysBard", name := "whose", desc := "(II)I" } : Jvm.MethodName)) ∈ lw_all := lw_g (lw_at lw_m4 184 rfl) rfl
theorem q1132 : (Jvm.Cond.methodLink "NobodysBardLaw" (71 : Nat) ({ cls := "NobodysBard", name := "late", desc := "(II)I" } : Jvm.MethodName)) ∈ lw_all := lw_g (lw_at lw_m5 69 rfl) rfl
theorem q1144 : (Jvm.Cond.methodLink "NobodysBardLaw" (75 : Nat) ({ cls := "NobodysBard", name := "share", desc := "(II)I" } : Jvm.MethodName)) ∈ lw_all := lw_g (lw_at lw_m5 81 rfl) rfl
theorem q1152 : (Jvm.Cond.methodLink "NobodysBardLaw" (79 : Nat) ({ cls := "NobodysBard", name := "span", desc := "(I)I" } : Jvm.MethodName)) ∈ lw_all := lw_g (lw_at lw_m5 89 rfl) rfl
theorem q1156 : (Jvm.Cond.methodLink "NobodysBardLaw" (83 : Nat) ({ cls := "NobodysBard", name := "chance", desc := "(II)I" } : Jvm.MethodName)) ∈ lw_all := lw_g (lw_at lw_m5 93 rfl) rfl
theorem q1173 : (Jvm.Cond.methodLink "NobodysBardLaw" (87 : Nat) ({ cls := "NobodysBard", name := "odds", desc := "(II)J" } : Jvm.MethodName)) ∈ lw_all := lw_g (lw_at lw_m5 110 rfl) rfl
theorem q1177 : (Jvm.Cond.methodLink "NobodysBardLaw" (92 : Nat) ({ cls := "NobodysBard", name := "matches", desc := "(II)I" } : Jvm.MethodName)) ∈ lw_all := lw_g (lw_at lw_m5 114 rfl) rfl
theorem q1185 : (Jvm.Cond.methodLink "NobodysBardLaw" (96 : Nat) ({ cls := "NobodysBard", name := "most", desc := "(II)I" } : Jvm.MethodName)) ∈ lw_all := lw_g (lw_at lw_m5 122 rfl) rfl
theorem q1189 : (Jvm.Cond.methodLink "NobodysBardLaw" (100 : Nat) ({ cls := "NobodysBard", name := "adds", desc := "(II)I" } : Jvm.MethodName)) ∈ lw_all := lw_g (lw_at lw_m5 126 rfl) rfl
theorem q1197 : (Jvm.Cond.methodLink "NobodysBardLaw" (104 : Nat) ({ cls := "NobodysBard", name := "added", desc := "(III)I" } : Jvm.MethodName)) ∈ lw_all := lw_g (lw_at lw_m5 134 rfl) rfl
theorem q1201 : (Jvm.Cond.methodLink "NobodysBardLaw" (109 : Nat) ({ cls := "NobodysBard", name := "year", desc := "(II)I" } : Jvm.MethodName)) ∈ lw_all := lw_g (lw_at lw_m5 138 rfl) rfl
theorem q1206 : (Jvm.Cond.methodLink "NobodysBardLaw" (113 : Nat) ({ cls := "NobodysBard", name := "version", desc := "(JJII)I" } : Jvm.MethodName)) ∈ lw_all := lw_g (lw_at lw_m5 143 rfl) rfl
theorem q1232 : (Jvm.Cond.methodLink "NobodysBardLaw" (118 : Nat) ({ cls := "NobodysBard", name := "which", desc := "(I)I" } : Jvm.MethodName)) ∈ lw_all := lw_g (lw_at lw_m5 169 rfl) rfl
theorem q1237 : (Jvm.Cond.methodLink "NobodysBardLaw" (122 : Nat) ({ cls := "NobodysBard", name := "answer", desc := "(IIIIIJ)I" } : Jvm.MethodName)) ∈ lw_all := lw_g (lw_at lw_m5 174 rfl) rfl
theorem q1275 : (Jvm.Cond.methodLink "NobodysBardLaw" (127 : Nat) ({ cls := "NobodysBard", name := "back", desc := "(I)I" } : Jvm.MethodName)) ∈ lw_all := lw_g (lw_at lw_m5 212 rfl) rfl
theorem q1287 : (Jvm.Cond.methodLink "NobodysBardLaw" (131 : Nat) ({ cls := "NobodysBard", name := "backOdds", desc := "(II)I" } : Jvm.MethodName)) ∈ lw_all := lw_g (lw_at lw_m5 224 rfl) rfl
theorem q1292 : (Jvm.Cond.methodLink "NobodysBardLaw" (135 : Nat) ({ cls := "NobodysBard", name := "parted", desc := "(IZ)I" } : Jvm.MethodName)) ∈ lw_all := lw_g (lw_at lw_m5 229 rfl) rfl
theorem q1299 : (Jvm.Cond.methodLink "NobodysBardLaw" (140 : Nat) ({ cls := "NobodysBard", name := "muddled", desc := "(I)I" } : Jvm.MethodName)) ∈ lw_all := lw_g (lw_at lw_m5 236 rfl) rfl
theorem q1303 : (Jvm.Cond.methodLink "NobodysBardLaw" (144 : Nat) ({ cls := "NobodysBard", name := "glen", desc := "(II)I" } : Jvm.MethodName)) ∈ lw_all := lw_g (lw_at lw_m6 0 rfl) rfl
theorem q1308 : (Jvm.Cond.methodLink "NobodysBardLaw" (148 : Nat) ({ cls := "NobodysBard", name := "paid", desc := "(II)I" } : Jvm.MethodName)) ∈ lw_all := lw_g (lw_at lw_m6 5 rfl) rfl
theorem q1328 : (Jvm.Cond.methodLink "NobodysBardLaw" (152 : Nat) ({ cls := "NobodysBard", name := "pages", desc := "(II)I" } : Jvm.MethodName)) ∈ lw_all := lw_g (lw_at lw_m6 25 rfl) rfl
theorem q1333 : (Jvm.Cond.methodLink "NobodysBardLaw" (156 : Nat) ({ cls := "NobodysBard", name := "more", desc := "(II)I" } : Jvm.MethodName)) ∈ lw_all := lw_g (lw_at lw_m6 30 rfl) rfl
theorem q1341 : (Jvm.Cond.methodLink "NobodysBardLaw" (160 : Nat) ({ cls := "NobodysBard", name := "free", desc := "(II)I" } : Jvm.MethodName)) ∈ lw_all := lw_g (lw_at lw_m6 38 rfl) rfl
theorem q1345 : (Jvm.Cond.methodLink "NobodysBardLaw" (164 : Nat) ({ cls := "NobodysBard", name := "rate", desc := "()I" } : Jvm.MethodName)) ∈ lw_all := lw_g (lw_at lw_m6 42 rfl) rfl
theorem q1353 : (Jvm.Cond.methodLink "NobodysBardLaw" (169 : Nat) ({ cls := "NobodysBard", name := "world", desc := "(I)I" } : Jvm.MethodName)) ∈ lw_all := lw_g (lw_at lw_m6 50 rfl) rfl
theorem q1357 : (Jvm.Cond.methodLink "NobodysBardLaw" (173 : Nat) ({ cls := "NobodysBard", name := "says", desc := "(III)I" } : Jvm.MethodName)) ∈ lw_all := lw_g (lw_at lw_m6 54 rfl) rfl
theorem q1361 : (Jvm.Cond.methodLink "NobodysBardLaw" (177 : Nat) ({ cls := "NobodysBard", name := "ask", desc := "(II)I" } : Jvm.MethodName)) ∈ lw_all := lw_g (lw_at lw_m6 58 rfl) rfl
theorem q1373 : (Jvm.Cond.methodLink "NobodysBardLaw" (181 : Nat) ({ cls := "NobodysBard", name := "row", desc := "(III)I" } : Jvm.MethodName)) ∈ lw_all := lw_g (lw_at lw_m6 70 rfl) rfl
theorem q1469 : (Jvm.Cond.methodLink "NobodysBardLaw" (185 : Nat) ({ cls := "NobodysBard", name := "write", desc := "(IIJ)J" } : Jvm.MethodName)) ∈ lw_all := lw_g (lw_at lw_m6 166 rfl) rfl
theorem q1529 : (Jvm.Cond.methodLink "NobodysBardLaw" (190 : Nat) ({ cls := "NobodysBard", name := "minister", desc := "(I)I" } : Jvm.MethodName)) ∈ lw_all := lw_g (lw_at lw_m6 226 rfl) rfl
theorem q1537 : (Jvm.Cond.methodLink "NobodysBardLaw" (194 : Nat) ({ cls := "NobodysBard", name := "say", desc := "(I)I" } : Jvm.MethodName)) ∈ lw_all := lw_g (lw_at lw_m6 234 rfl) rfl
theorem q1560 : (Jvm.Cond.methodLink "NobodysBardLaw" (198 : Nat) ({ cls := "NobodysBard", name := "image", desc := "(I)I" } : Jvm.MethodName)) ∈ lw_all := lw_g (lw_at lw_m7 17 rfl) rfl
theorem q1595 : (Jvm.Cond.methodLink "NobodysBardLaw" (202 : Nat) ({ cls := "NobodysBard", name := "restore", desc := "(I)I" } : Jvm.MethodName)) ∈ lw_all := lw_g (lw_at lw_m7 52 rfl) rfl
theorem q1599 : (Jvm.Cond.methodLink "NobodysBardLaw" (206 : Nat) ({ cls := "NobodysBard", name := "status", desc := "(I)I" } : Jvm.MethodName)) ∈ lw_all := lw_g (lw_at lw_m7 56 rfl) rfl
theorem q1604 : (Jvm.Cond.methodLink "NobodysBardLaw" (210 : Nat) ({ cls := "NobodysBard", name := "count", desc := "(I)I" } : Jvm.MethodName)) ∈ lw_all := lw_g (lw_at lw_m7 61 rfl) rfl
theorem q1608 : (Jvm.Cond.classLink "NobodysBardLaw" (10 : Nat) "NobodysBardModel") ∈ lw_all := lw_g (lw_at lw_m7 65 rfl) rfl
theorem q1610 : (Jvm.Cond.methodLink "NobodysBardLaw" (12 : Nat) ({ cls := "NobodysBardModel", name := "<init>", desc := "()V" } : Jvm.MethodName)) ∈ lw_all := lw_g (lw_at lw_m7 67 rfl) rfl
theorem q1730 : (Jvm.Cond.methodLink "NobodysBardLaw" (17 : Nat) ({ cls := "NobodysBardModel", name := "open", desc := "(IIII)I" } : Jvm.MethodName)) ∈ lw_all := lw_g (lw_at lw_m7 187 rfl) rfl
theorem q1749 : (Jvm.Cond.methodLink "NobodysBardLaw" (24 : Nat) ({ cls := "NobodysBardModel", name := "line", desc := "(IIIJ)I" } : Jvm.MethodName)) ∈ lw_all := lw_g (lw_at lw_m7 206 rfl) rfl
theorem q1762 : (Jvm.Cond.methodLink "NobodysBardLaw" (29 : Nat) ({ cls := "NobodysBardModel", name := "print", desc := "(I)I" } : Jvm.MethodName)) ∈ lw_all := lw_g (lw_at lw_m7 219 rfl) rfl
theorem q1766 : (Jvm.Cond.methodLink "NobodysBardLaw" (34 : Nat) ({ cls := "NobodysBardModel", name := "bounds", desc := "(II)I" } : Jvm.MethodName)) ∈ lw_all := lw_g (lw_at lw_m7 223 rfl) rfl
theorem q1771 : (Jvm.Cond.methodLink "NobodysBardLaw" (39 : Nat) ({ cls := "NobodysBardModel", name := "words", desc := "(III)J" } : Jvm.MethodName)) ∈ lw_all := lw_g (lw_at lw_m7 228 rfl) rfl
theorem q1779 : (Jvm.Cond.methodLink "NobodysBardLaw" (44 : Nat) ({ cls := "NobodysBardModel", name := "like", desc := "(JJ)I" } : Jvm.MethodName)) ∈ lw_all := lw_g (lw_at lw_m7 236 rfl) rfl
theorem q1787 : (Jvm.Cond.methodLink "NobodysBardLaw" (49 : Nat) ({ cls := "NobodysBardModel", name := "feed", desc := "(IIIII)I" } : Jvm.MethodName)) ∈ lw_all := lw_g (lw_at lw_m8 4 rfl) rfl
theorem q1791 : (Jvm.Cond.methodLink "NobodysBardLaw" (53 : Nat) ({ cls := "NobodysBardModel", name := "text", desc := "(II)I" } : Jvm.MethodName)) ∈ lw_all := lw_g (lw_at lw_m8 8 rfl) rfl
theorem q1866 : (Jvm.Cond.methodLink "NobodysBardLaw" (57 : Nat) ({ cls := "NobodysBardModel", name := "fault", desc := "(I)I" } : Jvm.MethodName)) ∈ lw_all := lw_g (lw_at lw_m8 83 rfl) rfl
theorem q1870 : (Jvm.Cond.methodLink "NobodysBardLaw" (62 : Nat) ({ cls := "NobodysBardModel", name := "smoothed", desc := "(JI)J" } : Jvm.MethodName)) ∈ lw_all := lw_g (lw_at lw_m8 87 rfl) rfl
theorem q1894 : (Jvm.Cond.methodLink "NobodysBardLaw" (66 : Nat) ({ cls := "NobodysBardModel", name := "told", desc := "(IIII)I" } : Jvm.MethodName)) ∈ lw_all := lw_g (lw_at lw_m8 111 rfl) rfl
theorem q1907 : (Jvm.Cond.methodLink "NobodysBardLaw" (70 : Nat) ({ cls := "NobodysBardModel", name := "whose", desc := "(II)I" } : Jvm.MethodName)) ∈ lw_all := lw_g (lw_at lw_m8 124 rfl) rfl
theorem q1931 : (Jvm.Cond.methodLink "NobodysBardLaw" (74 : Nat) ({ cls := "NobodysBardModel", name := "late", desc := "(II)I" } : Jvm.MethodName)) ∈ lw_all := lw_g (lw_at lw_m8 148 rfl) rfl
theorem q1943 : (Jvm.Cond.methodLink "NobodysBardLaw" (78 : Nat) ({ cls := "NobodysBardModel", name := "share", desc := "(II)I" } : Jvm.MethodName)) ∈ lw_all := lw_g (lw_at lw_m8 160 rfl) rfl
theorem q1951 : (Jvm.Cond.methodLink "NobodysBardLaw" (82 : Nat) ({ cls := "NobodysBardModel", name := "span", desc := "(I)I" } : Jvm.MethodName)) ∈ lw_all := lw_g (lw_at lw_m8 168 rfl) rfl
theorem q1955 : (Jvm.Cond.methodLink "NobodysBardLaw" (86 : Nat) ({ cls := "NobodysBardModel", name := "chance", desc := "(II)I" } : Jvm.MethodName)) ∈ lw_all := lw_g (lw_at lw_m8 172 rfl) rfl
theorem q1969 : (Jvm.Cond.methodLink "NobodysBardLaw" (91 : Nat) ({ cls := "NobodysBardModel", name := "odds", desc := "(II)J" } : Jvm.MethodName)) ∈ lw_all := lw_g (lw_at lw_m8 186 rfl) rfl
theorem q1973 : (Jvm.Cond.methodLink "NobodysBardLaw" (95 : Nat) ({ cls := "NobodysBardModel", name := "matches", desc := "(II)I" } : Jvm.MethodName)) ∈ lw_all := lw_g (lw_at lw_m8 190 rfl) rfl
theorem q1981 : (Jvm.Cond.methodLink "NobodysBardLaw" (99 : Nat) ({ cls := "NobodysBardModel", name := "most", desc := "(II)I" } : Jvm.MethodName)) ∈ lw_all := lw_g (lw_at lw_m8 198 rfl) rfl
theorem q1986 : (Jvm.Cond.methodLink "NobodysBardLaw" (103 : Nat) ({ cls := "NobodysBardModel", name := "adds", desc := "(II)I" } : Jvm.MethodName)) ∈ lw_all := lw_g (lw_at lw_m8 203 rfl) rfl
theorem q1994 : (Jvm.Cond.methodLink "NobodysBardLaw" (108 : Nat) ({ cls := "NobodysBardModel", name := "added", desc := "(III)I" } : Jvm.MethodName)) ∈ lw_all := lw_g (lw_at lw_m8 211 rfl) rfl
theorem q1998 : (Jvm.Cond.methodLink "NobodysBardLaw" (112 : Nat) ({ cls := "NobodysBardModel", name := "year", desc := "(II)I" } : Jvm.MethodName)) ∈ lw_all := lw_g (lw_at lw_m8 215 rfl) rfl
theorem q2003 : (Jvm.Cond.methodLink "NobodysBardLaw" (117 : Nat) ({ cls := "NobodysBardModel", name := "version", desc := "(JJII)I" } : Jvm.MethodName)) ∈ lw_all := lw_g (lw_at lw_m8 220 rfl) rfl
theorem q2007 : (Jvm.Cond.methodLink "NobodysBardLaw" (121 : Nat) ({ cls := "NobodysBardModel", name := "which", desc := "(I)I" } : Jvm.MethodName)) ∈ lw_all := lw_g (lw_at lw_m8 224 rfl) rfl
theorem q2011 : (Jvm.Cond.methodLink "NobodysBardLaw" (126 : Nat) ({ cls := "NobodysBardModel", name := "answer", desc := "(IIIIIJ)I" } : Jvm.MethodName)) ∈ lw_all := lw_g (lw_at lw_m8 228 rfl) rfl
theorem q2022 : (Jvm.Cond.methodLink "NobodysBardLaw" (130 : Nat) ({ cls := "NobodysBardModel", name := "back", desc := "(I)I" } : Jvm.MethodName)) ∈ lw_all := lw_g (lw_at lw_m8 239 rfl) rfl
theorem q2038 : (Jvm.Cond.methodLink "NobodysBardLaw" (134 : Nat) ({ cls := "NobodysBardModel", name := "backOdds", desc := "(II)I" } : Jvm.MethodName)) ∈ lw_all := lw_g (lw_at lw_m9 15 rfl) rfl
theorem q2043 : (Jvm.Cond.methodLink "NobodysBardLaw" (139 : Nat) ({ cls := "NobodysBardModel", name := "parted", desc := "(IZ)I" } : Jvm.MethodName)) ∈ lw_all := lw_g (lw_at lw_m9 20 rfl) rfl
theorem q2047 : (Jvm.Cond.methodLink "NobodysBardLaw" (143 : Nat) ({ cls := "NobodysBardModel", name := "muddled", desc := "(I)I" } : Jvm.MethodName)) ∈ lw_all := lw_g (lw_at lw_m9 24 rfl) rfl
theorem q2055 : (Jvm.Cond.methodLink "NobodysBardLaw" (147 : Nat) ({ cls := "NobodysBardModel", name := "glen", desc := "(II)I" } : Jvm.MethodName)) ∈ lw_all := lw_g (lw_at lw_m9 32 rfl) rfl
theorem q2060 : (Jvm.Cond.methodLink "NobodysBardLaw" (151 : Nat) ({ cls := "NobodysBardModel", name := "paid", desc := "(II)I" } : Jvm.MethodName)) ∈ lw_all := lw_g (lw_at lw_m9 37 rfl) rfl
theorem q2065 : (Jvm.Cond.methodLink "NobodysBardLaw" (155 : Nat) ({ cls := "NobodysBardModel", name := "pages", desc := "(II)I" } : Jvm.MethodName)) ∈ lw_all := lw_g (lw_at lw_m9 42 rfl) rfl
theorem q2070 : (Jvm.Cond.methodLink "NobodysBardLaw" (159 : Nat) ({ cls := "NobodysBardModel", name := "more", desc := "(II)I" } : Jvm.MethodName)) ∈ lw_all := lw_g (lw_at lw_m9 47 rfl) rfl
theorem q2078 : (Jvm.Cond.methodLink "NobodysBardLaw" (163 : Nat) ({ cls := "NobodysBardModel", name := "free", desc := "(II)I" } : Jvm.MethodName)) ∈ lw_all := lw_g (lw_at lw_m9 55 rfl) rfl
theorem q2082 : (Jvm.Cond.methodLink "NobodysBardLaw" (168 : Nat) ({ cls := "NobodysBardModel", name := "rate", desc := "()I" } : Jvm.MethodName)) ∈ lw_all := lw_g (lw_at lw_m9 59 rfl) rfl
theorem q2094 : (Jvm.Cond.methodLink "NobodysBardLaw" (172 : Nat) ({ cls := "NobodysBardModel", name := "world", desc := "(I)I" } : Jvm.MethodName)) ∈ lw_all := lw_g (lw_at lw_m9 71 rfl) rfl
theorem q2098 : (Jvm.Cond.methodLink "NobodysBardLaw" (176 : Nat) ({ cls := "NobodysBardModel", name := "says", desc := "(III)I" } : Jvm.MethodName)) ∈ lw_all := lw_g (lw_at lw_m9 75 rfl) rfl
theorem q2102 : (Jvm.Cond.methodLink "NobodysBardLaw" (180 : Nat) ({ cls := "NobodysBardModel", name := "ask", desc := "(II)I" } : Jvm.MethodName)) ∈ lw_all := lw_g (lw_at lw_m9 79 rfl) rfl
theorem q2118 : (Jvm.Cond.methodLink "NobodysBardLaw" (184 : Nat) ({ cls := "NobodysBardModel", name := "row", desc := "(III)I" } : Jvm.MethodName)) ∈ lw_all := lw_g (lw_at lw_m9 95 rfl) rfl
theorem q2123 : (Jvm.Cond.methodLink "NobodysBardLaw" (189 : Nat) ({ cls := "NobodysBardModel", name := "write", desc := "(IIJ)J" } : Jvm.MethodName)) ∈ lw_all := lw_g (lw_at lw_m9 100 rfl) rfl
theorem q2130 : (Jvm.Cond.methodLink "NobodysBardLaw" (193 : Nat) ({ cls := "NobodysBardModel", name := "minister", desc := "(I)I" } : Jvm.MethodName)) ∈ lw_all := lw_g (lw_at lw_m9 107 rfl) rfl
theorem q2134 : (Jvm.Cond.methodLink "NobodysBardLaw" (197 : Nat) ({ cls := "NobodysBardModel", name := "say", desc := "(I)I" } : Jvm.MethodName)) ∈ lw_all := lw_g (lw_at lw_m9 111 rfl) rfl
theorem q2142 : (Jvm.Cond.methodLink "NobodysBardLaw" (201 : Nat) ({ cls := "NobodysBardModel", name := "image", desc := "(I)I" } : Jvm.MethodName)) ∈ lw_all := lw_g (lw_at lw_m9 119 rfl) rfl
theorem q2150 : (Jvm.Cond.methodLink "NobodysBardLaw" (205 : Nat) ({ cls := "NobodysBardModel", name := "restore", desc := "(I)I" } : Jvm.MethodName)) ∈ lw_all := lw_g (lw_at lw_m9 127 rfl) rfl
theorem q2154 : (Jvm.Cond.methodLink "NobodysBardLaw" (209 : Nat) ({ cls := "NobodysBardModel", name := "status", desc := "(I)I" } : Jvm.MethodName)) ∈ lw_all := lw_g (lw_at lw_m9 131 rfl) rfl
theorem q2159 : (Jvm.Cond.methodLink "NobodysBardLaw" (213 : Nat) ({ cls := "NobodysBardModel", name := "count", desc := "(I)I" } : Jvm.MethodName)) ∈ lw_all := lw_g (lw_at lw_m9 136 rfl) rfl
theorem q2164 : (Jvm.Cond.constantLong "NobodysBardLaw" (18 : Nat) (4294967295 : Int64)) ∈ lw_all := lw_g (lw_at lw_m9 141 rfl) rfl
theorem q926 : (Jvm.Cond.interfaceMethod "NobodysBard$Test" "NobodysBard$Test" "is" "(LNobodysBard$Phrase;I)Z") ∈ lw_tbl := lw_at lw_m4 103 rfl
set_option maxRecDepth 100000
theorem q927 : (Jvm.Cond.declares ({ cls := "NobodysBard$Test", name := "is", desc := "(LNobodysBard$Phrase;I)Z" } : Jvm.MethodName)) ∈ lw_tbl := lw_at lw_m4 104 rfl
theorem q2204 : (Jvm.Cond.castable "[B" "java/lang/Object") ∈ lw_tbl := lw_at lw_m9 181 rfl
set_option maxRecDepth 100000
theorem q2202 : (Jvm.Cond.castable "[I" "java/lang/Object") ∈ lw_tbl := lw_at lw_m9 179 rfl
set_option maxRecDepth 100000
theorem q2208 : (Jvm.Cond.castable "[J" "java/lang/Object") ∈ lw_tbl := lw_at lw_m9 185 rfl
set_option maxRecDepth 100000
theorem q2205 : (Jvm.Cond.castable "[LNobodysBard$Phrase;" "java/lang/Object") ∈ lw_tbl := lw_at lw_m9 182 rfl
set_option maxRecDepth 100000
theorem q2206 : (Jvm.Cond.castable "[LNobodysBard$Row;" "java/lang/Object") ∈ lw_tbl := lw_at lw_m9 183 rfl
set_option maxRecDepth 100000
theorem q2203 : (Jvm.Cond.castable "[LNobodysBard$State;" "java/lang/Object") ∈ lw_tbl := lw_at lw_m9 180 rfl
set_option maxRecDepth 100000
theorem q2198 : (Jvm.Cond.sameMethod "[Ljava/lang/Object;" "java/lang/Object" "getClass" "()Ljava/lang/Class;") ∈ lw_all := lw_g (lw_at lw_m9 175 rfl) rfl
set_option maxRecDepth 100000
theorem q2199 : (Jvm.Cond.selects "[Ljava/lang/Object;" ({ cls := "java/lang/Object", name := "getClass", desc := "()Ljava/lang/Class;" } : Jvm.MethodName) ({ cls := "java/lang/Object", name := "getClass", desc := "()Ljava/lang/Class;" } : Jvm.MethodName)) ∈ lw_all := lw_g (lw_at lw_m9 176 rfl) rfl
theorem q2201 : (Jvm.Cond.castable "[Ljava/lang/Object;" "java/lang/Object") ∈ lw_tbl := lw_at lw_m9 178 rfl
theorem q2207 : (Jvm.Cond.castable "[S" "java/lang/Object") ∈ lw_tbl := lw_at lw_m9 184 rfl
set_option maxRecDepth 100000
theorem q2209 : (Jvm.Cond.castable "[Z" "java/lang/Object") ∈ lw_tbl := lw_at lw_m9 186 rfl
set_option maxRecDepth 100000
theorem q118 : (Jvm.Cond.initialized "java/lang/System") ∈ lw_all := lw_g (lw_at lw_m1 15 rfl) rfl
set_option maxRecDepth 100000
theorem q517 : (Jvm.Cond.static ({ cls := "java/lang/System", name := "arraycopy", desc := "(Ljava/lang/Object;ILjava/lang/Object;II)V" } : Jvm.MethodName)) ∈ lw_all := lw_g (lw_at lw_m2 174 rfl) rfl
theorem q518 : (Jvm.Cond.native ({ cls := "java/lang/System", name := "arraycopy", desc := "(Ljava/lang/Object;ILjava/lang/Object;II)V" } : Jvm.MethodName)) ∈ lw_all := lw_g (lw_at lw_m2 175 rfl) rfl
theorem q175 : (Jvm.Cond.arrayOver (Jvm.ClassFile.FieldType.object "java/lang/Object")) ∈ lw_tbl := lw_at lw_m1 72 rfl
set_option maxRecDepth 100000
theorem q190 : (Jvm.Cond.arrayClass Jvm.ClassFile.FieldType.int) ∈ lw_all := lw_g (lw_at lw_m1 87 rfl) rfl
theorem q288 : (Jvm.Cond.arrayOver (Jvm.ClassFile.FieldType.object "NobodysBard$State")) ∈ lw_tbl := lw_at lw_m1 185 rfl
theorem q296 : (Jvm.Cond.arrayClass Jvm.ClassFile.FieldType.byte) ∈ lw_all := lw_g (lw_at lw_m1 193 rfl) rfl
theorem q305 : (Jvm.Cond.arrayOver (Jvm.ClassFile.FieldType.object "NobodysBard$Phrase")) ∈ lw_tbl := lw_at lw_m1 202 rfl
theorem q307 : (Jvm.Cond.arrayOver (Jvm.ClassFile.FieldType.object "NobodysBard$Row")) ∈ lw_tbl := lw_at lw_m1 204 rfl
theorem q1467 : (Jvm.Cond.arrayClass Jvm.ClassFile.FieldType.short) ∈ lw_all := lw_g (lw_at lw_m6 164 rfl) rfl
theorem q1468 : (Jvm.Cond.arrayClass Jvm.ClassFile.FieldType.long) ∈ lw_all := lw_g (lw_at lw_m6 165 rfl) rfl
theorem q1729 : (Jvm.Cond.arrayClass Jvm.ClassFile.FieldType.boolean) ∈ lw_all := lw_g (lw_at lw_m7 186 rfl) rfl
