set_option maxRecDepth 100000
/-! java/util/AbstractCollection -/
set_option maxRecDepth 100000
def RJ0 : String := "java/util/AbstractCollection"
abbrev cJ0_init : ByteArray := prog_48_method_1_code
def yJ0_init : MethodName := ⟨RJ0, "<init>", "()V"⟩
theorem dJ0_init_0 : decode cJ0_init 0 = .ok (.aload_n 0, 1) := by decide +kernel
theorem dJ0_init_1 : decode cJ0_init 1 = .ok (.invokespecial 1, 3) := by decide +kernel
theorem dJ0_init_4 : decode cJ0_init 4 = .ok (.return_, 1) := by decide +kernel
theorem q106 : (Jvm.Cond.initialized "java/util/AbstractCollection") ∈ lw_all := lw_g (lw_at lw_m1 3 rfl) rfl
theorem q171 : (Jvm.Cond.instanceMethod ({ cls := "java/util/AbstractCollection", name := "<init>", desc := "()V" } : Jvm.MethodName)) ∈ lw_all := lw_g (lw_at lw_m1 68 rfl) rfl
theorem q172 : (Jvm.Cond.code ({ cls := "java/util/AbstractCollection", name := "<init>", desc := "()V" } : Jvm.MethodName) prog_48_method_1_code (1 : Nat) (Option.none : Option Jvm.ClassFile.FieldType)) ∈ lw_all := lw_g (lw_at lw_m1 69 rfl) rfl
theorem q173 : (Jvm.Cond.methodLink "java/util/AbstractCollection" (1 : Nat) ({ cls := "java/lang/Object", name := "<init>", desc := "()V" } : Jvm.MethodName)) ∈ lw_all := lw_g (lw_at lw_m1 70 rfl) rfl
/-! java/util/AbstractList -/
set_option maxRecDepth 100000
def RJ1 : String := "java/util/AbstractList"
abbrev cJ1_init : ByteArray := prog_49_method_1_code
def yJ1_init : MethodName := ⟨RJ1, "<init>", "()V"⟩
def dkwJ1_init_0 : List UInt8 := [42, 183, 0, 1, 42, 3, 181, 0, 7, 177]
abbrev dktJ1_init_0 : List UInt8 := dkwJ1_init_0 ++ []
theorem dksJ1_init_0 : cJ1_init.data.toList.drop 0 = dktJ1_init_0 := by decide +kernel
theorem dJ1_init_0 : decode cJ1_init 0 = .ok (.aload_n 0, 1) := dk_42 (dk_at dksJ1_init_0 0 rfl rfl)
theorem dJ1_init_1 : decode cJ1_init 1 = .ok (.invokespecial 1, 3) := dk_183 0 1 (dk_at dksJ1_init_0 1 rfl rfl)
theorem dJ1_init_4 : decode cJ1_init 4 = .ok (.aload_n 0, 1) := dk_42 (dk_at dksJ1_init_0 4 rfl rfl)
theorem dJ1_init_5 : decode cJ1_init 5 = .ok (.iconst 0, 1) := dk_3 (dk_at dksJ1_init_0 5 rfl rfl)
theorem dJ1_init_6 : decode cJ1_init 6 = .ok (.putfield 7, 3) := dk_181 0 7 (dk_at dksJ1_init_0 6 rfl rfl)
theorem dJ1_init_9 : decode cJ1_init 9 = .ok (.return_, 1) := dk_177 (dk_at dksJ1_init_0 9 rfl rfl)
theorem q107 : (Jvm.Cond.initialized "java/util/AbstractList") ∈ lw_all := lw_g (lw_at lw_m1 4 rfl) rfl
theorem q168 : (Jvm.Cond.instanceMethod ({ cls := "java/util/AbstractList", name := "<init>", desc := "()V" } : Jvm.MethodName)) ∈ lw_all := lw_g (lw_at lw_m1 65 rfl) rfl
theorem q169 : (Jvm.Cond.code ({ cls := "java/util/AbstractList", name := "<init>", desc := "()V" } : Jvm.MethodName) prog_49_method_1_code (1 : Nat) (Option.none : Option Jvm.ClassFile.FieldType)) ∈ lw_all := lw_g (lw_at lw_m1 66 rfl) rfl
theorem q170 : (Jvm.Cond.methodLink "java/util/AbstractList" (1 : Nat) ({ cls := "java/util/AbstractCollection", name := "<init>", desc := "()V" } : Jvm.MethodName)) ∈ lw_all := lw_g (lw_at lw_m1 67 rfl) rfl
theorem q180 : (Jvm.Cond.fieldLink "java/util/AbstractList" (7 : Nat) "java/util/AbstractList" "modCount" "I") ∈ lw_all := lw_g (lw_at lw_m1 77 rfl) rfl
theorem q188 : (Jvm.Cond.soleField "java/util/AbstractList" "modCount") ∈ lw_all := lw_g (lw_at lw_m1 85 rfl) rfl
/-! java/lang/StringUTF16 -/
set_option maxRecDepth 100000
def RJ10 : String := "java/lang/StringUTF16"
abbrev cJ10_charAt : ByteArray := prog_43_method_83_code
def yJ10_charAt : MethodName := ⟨RJ10, "charAt", "([BI)C"⟩
def dkwJ10_charAt_0 : List UInt8 := [27, 42, 184, 0, 67, 42, 27, 184, 0, 71, 172]
abbrev dktJ10_charAt_0 : List UInt8 := dkwJ10_charAt_0 ++ []
theorem dksJ10_charAt_0 : cJ10_charAt.data.toList.drop 0 = dktJ10_charAt_0 := by decide +kernel
theorem dJ10_charAt_0 : decode cJ10_charAt 0 = .ok (.iload_n 1, 1) := dk_27 (dk_at dksJ10_charAt_0 0 rfl rfl)
theorem dJ10_charAt_1 : decode cJ10_charAt 1 = .ok (.aload_n 0, 1) := dk_42 (dk_at dksJ10_charAt_0 1 rfl rfl)
theorem dJ10_charAt_2 : decode cJ10_charAt 2 = .ok (.invokestatic 67, 3) := dk_184 0 67 (dk_at dksJ10_charAt_0 2 rfl rfl)
theorem dJ10_charAt_5 : decode cJ10_charAt 5 = .ok (.aload_n 0, 1) := dk_42 (dk_at dksJ10_charAt_0 5 rfl rfl)
theorem dJ10_charAt_6 : decode cJ10_charAt 6 = .ok (.iload_n 1, 1) := dk_27 (dk_at dksJ10_charAt_0 6 rfl rfl)
theorem dJ10_charAt_7 : decode cJ10_charAt 7 = .ok (.invokestatic 71, 3) := dk_184 0 71 (dk_at dksJ10_charAt_0 7 rfl rfl)
theorem dJ10_charAt_10 : decode cJ10_charAt 10 = .ok (.ireturn, 1) := dk_172 (dk_at dksJ10_charAt_0 10 rfl rfl)
abbrev cJ10_checkIndex : ByteArray := prog_43_method_91_code
def yJ10_checkIndex : MethodName := ⟨RJ10, "checkIndex", "(I[B)V"⟩
def dkwJ10_checkIndex_0 : List UInt8 := [26, 43, 184, 0, 48, 184, 1, 158, 177]
abbrev dktJ10_checkIndex_0 : List UInt8 := dkwJ10_checkIndex_0 ++ []
theorem dksJ10_checkIndex_0 : cJ10_checkIndex.data.toList.drop 0 = dktJ10_checkIndex_0 := by decide +kernel
theorem dJ10_checkIndex_0 : decode cJ10_checkIndex 0 = .ok (.iload_n 0, 1) := dk_26 (dk_at dksJ10_checkIndex_0 0 rfl rfl)
theorem dJ10_checkIndex_1 : decode cJ10_checkIndex 1 = .ok (.aload_n 1, 1) := dk_43 (dk_at dksJ10_checkIndex_0 1 rfl rfl)
theorem dJ10_checkIndex_2 : decode cJ10_checkIndex 2 = .ok (.invokestatic 48, 3) := dk_184 0 48 (dk_at dksJ10_checkIndex_0 2 rfl rfl)
theorem dJ10_checkIndex_5 : decode cJ10_checkIndex 5 = .ok (.invokestatic 414, 3) := dk_184 1 158 (dk_at dksJ10_checkIndex_0 5 rfl rfl)
theorem dJ10_checkIndex_8 : decode cJ10_checkIndex 8 = .ok (.return_, 1) := dk_177 (dk_at dksJ10_checkIndex_0 8 rfl rfl)
abbrev cJ10_length : ByteArray := prog_43_method_6_code
def yJ10_length : MethodName := ⟨RJ10, "length", "([B)I"⟩
def dkwJ10_length_0 : List UInt8 := [42, 190, 4, 122, 172]
abbrev dktJ10_length_0 : List UInt8 := dkwJ10_length_0 ++ []
theorem dksJ10_length_0 : cJ10_length.data.toList.drop 0 = dktJ10_length_0 := by decide +kernel
theorem dJ10_length_0 : decode cJ10_length 0 = .ok (.aload_n 0, 1) := dk_42 (dk_at dksJ10_length_0 0 rfl rfl)
theorem dJ10_length_1 : decode cJ10_length 1 = .ok (.arraylength, 1) := dk_190 (dk_at dksJ10_length_0 1 rfl rfl)
theorem dJ10_length_2 : decode cJ10_length 2 = .ok (.iconst 1, 1) := dk_4 (dk_at dksJ10_length_0 2 rfl rfl)
theorem dJ10_length_3 : decode cJ10_length 3 = .ok (.ishr, 1) := dk_122 (dk_at dksJ10_length_0 3 rfl rfl)
theorem dJ10_length_4 : decode cJ10_length 4 = .ok (.ireturn, 1) := dk_172 (dk_at dksJ10_length_0 4 rfl rfl)
abbrev cJ10_getChar : ByteArray := prog_43_method_5_code
def yJ10_getChar : MethodName := ⟨RJ10, "getChar", "([BI)C"⟩
def dkwJ10_getChar_2 : List UInt8 := [51, 17, 0, 255, 126, 178, 0, 63, 120, 128, 146, 172]
abbrev dktJ10_getChar_2 : List UInt8 := dkwJ10_getChar_2 ++ []
def dkwJ10_getChar_1 : List UInt8 := [183, 0, 56, 191, 27, 4, 120, 60, 42, 27, 132, 1, 1, 51, 17, 0, 255, 126, 178, 0, 59, 120, 42, 27]
abbrev dktJ10_getChar_1 : List UInt8 := dkwJ10_getChar_1 ++ dktJ10_getChar_2
def dkwJ10_getChar_0 : List UInt8 := [178, 0, 44, 154, 0, 25, 27, 155, 0, 11, 27, 42, 184, 0, 48, 161, 0, 13, 187, 0, 52, 89, 18, 54]
abbrev dktJ10_getChar_0 : List UInt8 := dkwJ10_getChar_0 ++ dktJ10_getChar_1
theorem dksJ10_getChar_0 : cJ10_getChar.data.toList.drop 0 = dktJ10_getChar_0 := by decide +kernel
theorem dksJ10_getChar_1 : cJ10_getChar.data.toList.drop 24 = dktJ10_getChar_1 := dk_seg dksJ10_getChar_0 24 rfl rfl
theorem dksJ10_getChar_2 : cJ10_getChar.data.toList.drop 48 = dktJ10_getChar_2 := dk_seg dksJ10_getChar_1 24 rfl rfl
theorem dJ10_getChar_0 : decode cJ10_getChar 0 = .ok (.getstatic 44, 3) := dk_178 0 44 (dk_at dksJ10_getChar_0 0 rfl rfl)
theorem dJ10_getChar_3 : decode cJ10_getChar 3 = .ok (.ifCond .ne 25, 3) := dk_154 0 25 (dk_at dksJ10_getChar_0 3 rfl rfl)
theorem dJ10_getChar_6 : decode cJ10_getChar 6 = .ok (.iload_n 1, 1) := dk_27 (dk_at dksJ10_getChar_0 6 rfl rfl)
theorem dJ10_getChar_7 : decode cJ10_getChar 7 = .ok (.ifCond .lt 11, 3) := dk_155 0 11 (dk_at dksJ10_getChar_0 7 rfl rfl)
theorem dJ10_getChar_10 : decode cJ10_getChar 10 = .ok (.iload_n 1, 1) := dk_27 (dk_at dksJ10_getChar_0 10 rfl rfl)
theorem dJ10_getChar_11 : decode cJ10_getChar 11 = .ok (.aload_n 0, 1) := dk_42 (dk_at dksJ10_getChar_0 11 rfl rfl)
theorem dJ10_getChar_12 : decode cJ10_getChar 12 = .ok (.invokestatic 48, 3) := dk_184 0 48 (dk_at dksJ10_getChar_0 12 rfl rfl)
theorem dJ10_getChar_15 : decode cJ10_getChar 15 = .ok (.if_icmp .lt 13, 3) := dk_161 0 13 (dk_at dksJ10_getChar_0 15 rfl rfl)
theorem dJ10_getChar_18 : decode cJ10_getChar 18 = .ok (.new 52, 3) := dk_187 0 52 (dk_at dksJ10_getChar_0 18 rfl rfl)
theorem dJ10_getChar_21 : decode cJ10_getChar 21 = .ok (.dup, 1) := dk_89 (dk_at dksJ10_getChar_0 21 rfl rfl)
theorem dJ10_getChar_22 : decode cJ10_getChar 22 = .ok (.ldc 54, 2) := dk_18 54 (dk_at dksJ10_getChar_0 22 rfl rfl)
theorem dJ10_getChar_24 : decode cJ10_getChar 24 = .ok (.invokespecial 56, 3) := dk_183 0 56 (dk_at dksJ10_getChar_1 0 rfl rfl)
theorem dJ10_getChar_27 : decode cJ10_getChar 27 = .ok (.athrow, 1) := dk_191 (dk_at dksJ10_getChar_1 3 rfl rfl)
theorem dJ10_getChar_28 : decode cJ10_getChar 28 = .ok (.iload_n 1, 1) := dk_27 (dk_at dksJ10_getChar_1 4 rfl rfl)
theorem dJ10_getChar_29 : decode cJ10_getChar 29 = .ok (.iconst 1, 1) := dk_4 (dk_at dksJ10_getChar_1 5 rfl rfl)
theorem dJ10_getChar_30 : decode cJ10_getChar 30 = .ok (.ishl, 1) := dk_120 (dk_at dksJ10_getChar_1 6 rfl rfl)
theorem dJ10_getChar_31 : decode cJ10_getChar 31 = .ok (.istore_n 1, 1) := dk_60 (dk_at dksJ10_getChar_1 7 rfl rfl)
theorem dJ10_getChar_32 : decode cJ10_getChar 32 = .ok (.aload_n 0, 1) := dk_42 (dk_at dksJ10_getChar_1 8 rfl rfl)
theorem dJ10_getChar_33 : decode cJ10_getChar 33 = .ok (.iload_n 1, 1) := dk_27 (dk_at dksJ10_getChar_1 9 rfl rfl)
theorem dJ10_getChar_34 : decode cJ10_getChar 34 = .ok (.iinc 1 1, 3) := dk_132 1 1 (dk_at dksJ10_getChar_1 10 rfl rfl)
theorem dJ10_getChar_37 : decode cJ10_getChar 37 = .ok (.baload, 1) := dk_51 (dk_at dksJ10_getChar_1 13 rfl rfl)
theorem dJ10_getChar_38 : decode cJ10_getChar 38 = .ok (.sipush 255, 3) := dk_17 0 255 (dk_at dksJ10_getChar_1 14 rfl rfl)
theorem dJ10_getChar_41 : decode cJ10_getChar 41 = .ok (.iand, 1) := dk_126 (dk_at dksJ10_getChar_1 17 rfl rfl)
theorem dJ10_getChar_42 : decode cJ10_getChar 42 = .ok (.getstatic 59, 3) := dk_178 0 59 (dk_at dksJ10_getChar_1 18 rfl rfl)
theorem dJ10_getChar_45 : decode cJ10_getChar 45 = .ok (.ishl, 1) := dk_120 (dk_at dksJ10_getChar_1 21 rfl rfl)
theorem dJ10_getChar_46 : decode cJ10_getChar 46 = .ok (.aload_n 0, 1) := dk_42 (dk_at dksJ10_getChar_1 22 rfl rfl)
theorem dJ10_getChar_47 : decode cJ10_getChar 47 = .ok (.iload_n 1, 1) := dk_27 (dk_at dksJ10_getChar_1 23 rfl rfl)
theorem dJ10_getChar_48 : decode cJ10_getChar 48 = .ok (.baload, 1) := dk_51 (dk_at dksJ10_getChar_2 0 rfl rfl)
theorem dJ10_getChar_49 : decode cJ10_getChar 49 = .ok (.sipush 255, 3) := dk_17 0 255 (dk_at dksJ10_getChar_2 1 rfl rfl)
theorem dJ10_getChar_52 : decode cJ10_getChar 52 = .ok (.iand, 1) := dk_126 (dk_at dksJ10_getChar_2 4 rfl rfl)
theorem dJ10_getChar_53 : decode cJ10_getChar 53 = .ok (.getstatic 63, 3) := dk_178 0 63 (dk_at dksJ10_getChar_2 5 rfl rfl)
theorem dJ10_getChar_56 : decode cJ10_getChar 56 = .ok (.ishl, 1) := dk_120 (dk_at dksJ10_getChar_2 8 rfl rfl)
theorem dJ10_getChar_57 : decode cJ10_getChar 57 = .ok (.ior, 1) := dk_128 (dk_at dksJ10_getChar_2 9 rfl rfl)
theorem dJ10_getChar_58 : decode cJ10_getChar 58 = .ok (.i2c, 1) := dk_146 (dk_at dksJ10_getChar_2 10 rfl rfl)
theorem dJ10_getChar_59 : decode cJ10_getChar 59 = .ok (.ireturn, 1) := dk_172 (dk_at dksJ10_getChar_2 11 rfl rfl)
theorem q127 : (Jvm.Cond.initialized "java/lang/StringUTF16") ∈ lw_all := lw_g (lw_at lw_m1 24 rfl) rfl
theorem q788 : (Jvm.Cond.static ({ cls := "java/lang/StringUTF16", name := "charAt", desc := "([BI)C" } : Jvm.MethodName)) ∈ lw_all := lw_g (lw_at lw_m3 205 rfl) rfl
theorem q789 : (Jvm.Cond.code ({ cls := "java/lang/StringUTF16", name := "charAt", desc := "([BI)C" } : Jvm.MethodName) prog_43_method_83_code (2 : Nat) (Option.some Jvm.ClassFile.FieldType.char)) ∈ lw_all := lw_g (lw_at lw_m3 206 rfl) rfl
theorem q790 : (Jvm.Cond.methodLink "java/lang/StringUTF16" (67 : Nat) ({ cls := "java/lang/StringUTF16", name := "checkIndex", desc := "(I[B)V" } : Jvm.MethodName)) ∈ lw_all := lw_g (lw_at lw_m3 207 rfl) rfl
theorem q791 : (Jvm.Cond.static ({ cls := "java/lang/StringUTF16", name := "checkIndex", desc := "(I[B)V" } : Jvm.MethodName)) ∈ lw_all := lw_g (lw_at lw_m3 208 rfl) rfl
theorem q792 : (Jvm.Cond.code ({ cls := "java/lang/StringUTF16", name := "checkIndex", desc := "(I[B)V" } : Jvm.MethodName) prog_43_method_91_code (2 : Nat) (Option.none : Option Jvm.ClassFile.FieldType)) ∈ lw_all := lw_g (lw_at lw_m3 209 rfl) rfl
theorem q793 : (Jvm.Cond.methodLink "java/lang/StringUTF16" (48 : Nat) ({ cls := "java/lang/StringUTF16", name := "length", desc := "([B)I" } : Jvm.MethodName)) ∈ lw_all := lw_g (lw_at lw_m3 210 rfl) rfl
theorem q794 : (Jvm.Cond.static ({ cls := "java/lang/StringUTF16", name := "length", desc := "([B)I" } : Jvm.MethodName)) ∈ lw_all := lw_g (lw_at lw_m3 211 rfl) rfl
theorem q795 : (Jvm.Cond.code ({ cls := "java/lang/StringUTF16", name := "length", desc := "([B)I" } : Jvm.MethodName) prog_43_method_6_code (1 : Nat) (Option.some Jvm.ClassFile.FieldType.int)) ∈ lw_all := lw_g (lw_at lw_m3 212 rfl) rfl
theorem q796 : (Jvm.Cond.methodLink "java/lang/StringUTF16" (414 : Nat) ({ cls := "java/lang/String", name := "checkIndex", desc := "(II)V" } : Jvm.MethodName)) ∈ lw_all := lw_g (lw_at lw_m3 213 rfl) rfl
theorem q797 : (Jvm.Cond.methodLink "java/lang/StringUTF16" (71 : Nat) ({ cls := "java/lang/StringUTF16", name := "getChar", desc := "([BI)C" } : Jvm.MethodName)) ∈ lw_all := lw_g (lw_at lw_m3 214 rfl) rfl
theorem q798 : (Jvm.Cond.static ({ cls := "java/lang/StringUTF16", name := "getChar", desc := "([BI)C" } : Jvm.MethodName)) ∈ lw_all := lw_g (lw_at lw_m3 215 rfl) rfl
theorem q799 : (Jvm.Cond.code ({ cls := "java/lang/StringUTF16", name := "getChar", desc := "([BI)C" } : Jvm.MethodName) prog_43_method_5_code (2 : Nat) (Option.some Jvm.ClassFile.FieldType.char)) ∈ lw_all := lw_g (lw_at lw_m3 216 rfl) rfl
theorem q800 : (Jvm.Cond.fieldLink "java/lang/StringUTF16" (44 : Nat) "java/lang/StringUTF16" "$assertionsDisabled" "Z") ∈ lw_all := lw_g (lw_at lw_m3 217 rfl) rfl
theorem q801 : (Jvm.Cond.laysStatic "java/lang/StringUTF16" "$assertionsDisabled" "Z") ∈ lw_tbl := lw_at lw_m3 218 rfl
theorem q802 : (Jvm.Cond.fieldLink "java/lang/StringUTF16" (59 : Nat) "java/lang/StringUTF16" "HI_BYTE_SHIFT" "I") ∈ lw_all := lw_g (lw_at lw_m3 219 rfl) rfl
theorem q803 : (Jvm.Cond.laysStatic "java/lang/StringUTF16" "HI_BYTE_SHIFT" "I") ∈ lw_tbl := lw_at lw_m3 220 rfl
theorem q804 : (Jvm.Cond.fieldLink "java/lang/StringUTF16" (63 : Nat) "java/lang/StringUTF16" "LO_BYTE_SHIFT" "I") ∈ lw_all := lw_g (lw_at lw_m3 221 rfl) rfl
theorem q805 : (Jvm.Cond.laysStatic "java/lang/StringUTF16" "LO_BYTE_SHIFT" "I") ∈ lw_tbl := lw_at lw_m3 222 rfl
/-! java/lang/Throwable -/
set_option maxRecDepth 100000
def RJ11 : String := "java/lang/Throwable"
def TJ11 : u_T := fun k => match k with
  | 0 => ("java/lang/Throwable", "cause", "Ljava/lang/Throwable;", false)
  | 1 => ("java/lang/Throwable", "stackTrace", "[Ljava/lang/StackTraceElement;", false)
  | 2 => ("java/lang/Throwable", "suppressedExceptions", "Ljava/util/List;", false)
  | 3 => ("java/lang/Throwable", "detailMessage", "Ljava/lang/String;", false)
  | _ => ("java/lang/Throwable", "backtrace", "Ljava/lang/Object;", false)
def tyJ11 : Nat → FieldType := fun k => match k with
  | 0 => .object "java/lang/Throwable"
  | 1 => .array (.object "java/lang/StackTraceElement")
  | 2 => .object "java/util/List"
  | 3 => .object "java/lang/String"
  | _ => .object "java/lang/Object"
abbrev wsJ110 : List Cond := u_ws RJ11 TJ11 5
theorem nmJ11 : ∀ a, a < 5 → ∀ b, b < 5 → a ≠ b → (TJ11 a).2.1 ≠ (TJ11 b).2.1 := by decide +kernel
theorem tyJ11_ok : ∀ k, k < 5 → parseFieldDescriptor (TJ11 k).2.2.1 = some (tyJ11 k) := by decide +kernel
abbrev cJ11_init : ByteArray := prog_45_method_2_code
def yJ11_init : MethodName := ⟨RJ11, "<init>", "(Ljava/lang/String;)V"⟩
def dkwJ11_init_1 : List UInt8 := [182, 0, 27, 87, 42, 43, 181, 0, 31, 177]
abbrev dktJ11_init_1 : List UInt8 := dkwJ11_init_1 ++ []
def dkwJ11_init_0 : List UInt8 := [42, 183, 0, 1, 42, 42, 181, 0, 7, 42, 178, 0, 13, 181, 0, 17, 42, 178, 0, 20, 181, 0, 24, 42]
abbrev dktJ11_init_0 : List UInt8 := dkwJ11_init_0 ++ dktJ11_init_1
theorem dksJ11_init_0 : cJ11_init.data.toList.drop 0 = dktJ11_init_0 := by decide +kernel
theorem dksJ11_init_1 : cJ11_init.data.toList.drop 24 = dktJ11_init_1 := dk_seg dksJ11_init_0 24 rfl rfl
theorem dJ11_init_0 : decode cJ11_init 0 = .ok (.aload_n 0, 1) := dk_42 (dk_at dksJ11_init_0 0 rfl rfl)
theorem dJ11_init_1 : decode cJ11_init 1 = .ok (.invokespecial 1, 3) := dk_183 0 1 (dk_at dksJ11_init_0 1 rfl rfl)
theorem dJ11_init_4 : decode cJ11_init 4 = .ok (.aload_n 0, 1) := dk_42 (dk_at dksJ11_init_0 4 rfl rfl)
theorem dJ11_init_5 : decode cJ11_init 5 = .ok (.aload_n 0, 1) := dk_42 (dk_at dksJ11_init_0 5 rfl rfl)
theorem dJ11_init_6 : decode cJ11_init 6 = .ok (.putfield 7, 3) := dk_181 0 7 (dk_at dksJ11_init_0 6 rfl rfl)
theorem dJ11_init_9 : decode cJ11_init 9 = .ok (.aload_n 0, 1) := dk_42 (dk_at dksJ11_init_0 9 rfl rfl)
theorem dJ11_init_10 : decode cJ11_init 10 = .ok (.getstatic 13, 3) := dk_178 0 13 (dk_at dksJ11_init_0 10 rfl rfl)
theorem dJ11_init_13 : decode cJ11_init 13 = .ok (.putfield 17, 3) := dk_181 0 17 (dk_at dksJ11_init_0 13 rfl rfl)
theorem dJ11_init_16 : decode cJ11_init 16 = .ok (.aload_n 0, 1) := dk_42 (dk_at dksJ11_init_0 16 rfl rfl)
theorem dJ11_init_17 : decode cJ11_init 17 = .ok (.getstatic 20, 3) := dk_178 0 20 (dk_at dksJ11_init_0 17 rfl rfl)
theorem dJ11_init_20 : decode cJ11_init 20 = .ok (.putfield 24, 3) := dk_181 0 24 (dk_at dksJ11_init_0 20 rfl rfl)
theorem dJ11_init_23 : decode cJ11_init 23 = .ok (.aload_n 0, 1) := dk_42 (dk_at dksJ11_init_0 23 rfl rfl)
theorem dJ11_init_24 : decode cJ11_init 24 = .ok (.invokevirtual 27, 3) := dk_182 0 27 (dk_at dksJ11_init_1 0 rfl rfl)
theorem dJ11_init_27 : decode cJ11_init 27 = .ok (.pop, 1) := dk_87 (dk_at dksJ11_init_1 3 rfl rfl)
theorem dJ11_init_28 : decode cJ11_init 28 = .ok (.aload_n 0, 1) := dk_42 (dk_at dksJ11_init_1 4 rfl rfl)
theorem dJ11_init_29 : decode cJ11_init 29 = .ok (.aload_n 1, 1) := dk_43 (dk_at dksJ11_init_1 5 rfl rfl)
theorem dJ11_init_30 : decode cJ11_init 30 = .ok (.putfield 31, 3) := dk_181 0 31 (dk_at dksJ11_init_1 6 rfl rfl)
theorem dJ11_init_33 : decode cJ11_init 33 = .ok (.return_, 1) := dk_177 (dk_at dksJ11_init_1 9 rfl rfl)
abbrev cJ11_init_2 : ByteArray := prog_45_method_1_code
def yJ11_init_2 : MethodName := ⟨RJ11, "<init>", "()V"⟩
def dkwJ11_init_2_1 : List UInt8 := [182, 0, 27, 87, 177]
abbrev dktJ11_init_2_1 : List UInt8 := dkwJ11_init_2_1 ++ []
def dkwJ11_init_2_0 : List UInt8 := [42, 183, 0, 1, 42, 42, 181, 0, 7, 42, 178, 0, 13, 181, 0, 17, 42, 178, 0, 20, 181, 0, 24, 42]
abbrev dktJ11_init_2_0 : List UInt8 := dkwJ11_init_2_0 ++ dktJ11_init_2_1
theorem dksJ11_init_2_0 : cJ11_init_2.data.toList.drop 0 = dktJ11_init_2_0 := by decide +kernel
theorem dksJ11_init_2_1 : cJ11_init_2.data.toList.drop 24 = dktJ11_init_2_1 := dk_seg dksJ11_init_2_0 24 rfl rfl
theorem dJ11_init_2_0 : decode cJ11_init_2 0 = .ok (.aload_n 0, 1) := dk_42 (dk_at dksJ11_init_2_0 0 rfl rfl)
theorem dJ11_init_2_1 : decode cJ11_init_2 1 = .ok (.invokespecial 1, 3) := dk_183 0 1 (dk_at dksJ11_init_2_0 1 rfl rfl)
theorem dJ11_init_2_4 : decode cJ11_init_2 4 = .ok (.aload_n 0, 1) := dk_42 (dk_at dksJ11_init_2_0 4 rfl rfl)
theorem dJ11_init_2_5 : decode cJ11_init_2 5 = .ok (.aload_n 0, 1) := dk_42 (dk_at dksJ11_init_2_0 5 rfl rfl)
theorem dJ11_init_2_6 : decode cJ11_init_2 6 = .ok (.putfield 7, 3) := dk_181 0 7 (dk_at dksJ11_init_2_0 6 rfl rfl)
theorem dJ11_init_2_9 : decode cJ11_init_2 9 = .ok (.aload_n 0, 1) := dk_42 (dk_at dksJ11_init_2_0 9 rfl rfl)
theorem dJ11_init_2_10 : decode cJ11_init_2 10 = .ok (.getstatic 13, 3) := dk_178 0 13 (dk_at dksJ11_init_2_0 10 rfl rfl)
theorem dJ11_init_2_13 : decode cJ11_init_2 13 = .ok (.putfield 17, 3) := dk_181 0 17 (dk_at dksJ11_init_2_0 13 rfl rfl)
theorem dJ11_init_2_16 : decode cJ11_init_2 16 = .ok (.aload_n 0, 1) := dk_42 (dk_at dksJ11_init_2_0 16 rfl rfl)
theorem dJ11_init_2_17 : decode cJ11_init_2 17 = .ok (.getstatic 20, 3) := dk_178 0 20 (dk_at dksJ11_init_2_0 17 rfl rfl)
theorem dJ11_init_2_20 : decode cJ11_init_2 20 = .ok (.putfield 24, 3) := dk_181 0 24 (dk_at dksJ11_init_2_0 20 rfl rfl)
theorem dJ11_init_2_23 : decode cJ11_init_2 23 = .ok (.aload_n 0, 1) := dk_42 (dk_at dksJ11_init_2_0 23 rfl rfl)
theorem dJ11_init_2_24 : decode cJ11_init_2 24 = .ok (.invokevirtual 27, 3) := dk_182 0 27 (dk_at dksJ11_init_2_1 0 rfl rfl)
theorem dJ11_init_2_27 : decode cJ11_init_2 27 = .ok (.pop, 1) := dk_87 (dk_at dksJ11_init_2_1 3 rfl rfl)
theorem dJ11_init_2_28 : decode cJ11_init_2 28 = .ok (.return_, 1) := dk_177 (dk_at dksJ11_init_2_1 4 rfl rfl)
theorem q141 : (Jvm.Cond.initialized "java/lang/Throwable") ∈ lw_all := lw_g (lw_at lw_m1 38 rfl) rfl
theorem q1395 : (Jvm.Cond.instanceMethod ({ cls := "java/lang/Throwable", name := "<init>", desc := "(Ljava/lang/String;)V" } : Jvm.MethodName)) ∈ lw_all := lw_g (lw_at lw_m6 92 rfl) rfl
theorem q1396 : (Jvm.Cond.code ({ cls := "java/lang/Throwable", name := "<init>", desc := "(Ljava/lang/String;)V" } : Jvm.MethodName) prog_45_method_2_code (2 : Nat) (Option.none : Option Jvm.ClassFile.FieldType)) ∈ lw_all := lw_g (lw_at lw_m6 93 rfl) rfl
theorem q1397 : (Jvm.Cond.methodLink "java/lang/Throwable" (1 : Nat) ({ cls := "java/lang/Object", name := "<init>", desc := "()V" } : Jvm.MethodName)) ∈ lw_all := lw_g (lw_at lw_m6 94 rfl) rfl
theorem q1398 : (Jvm.Cond.fieldLink "java/lang/Throwable" (13 : Nat) "java/lang/Throwable" "UNASSIGNED_STACK" "[Ljava/lang/StackTraceElement;") ∈ lw_all := lw_g (lw_at lw_m6 95 rfl) rfl
theorem q1399 : (Jvm.Cond.laysStatic "java/lang/Throwable" "UNASSIGNED_STACK" "[Ljava/lang/StackTraceElement;") ∈ lw_tbl := lw_at lw_m6 96 rfl
theorem q1400 : (Jvm.Cond.fieldLink "java/lang/Throwable" (20 : Nat) "java/lang/Throwable" "SUPPRESSED_SENTINEL" "Ljava/util/List;") ∈ lw_all := lw_g (lw_at lw_m6 97 rfl) rfl
theorem q1401 : (Jvm.Cond.laysStatic "java/lang/Throwable" "SUPPRESSED_SENTINEL" "Ljava/util/List;") ∈ lw_tbl := lw_at lw_m6 98 rfl
theorem q1402 : (Jvm.Cond.methodLink "java/lang/Throwable" (27 : Nat) ({ cls := "java/lang/Throwable", name := "fillInStackTrace", desc := "()Ljava/lang/Throwable;" } : Jvm.MethodName)) ∈ lw_all := lw_g (lw_at lw_m6 99 rfl) rfl
theorem q1403 : (Jvm.Cond.instanceMethod ({ cls := "java/lang/Throwable", name := "fillInStackTrace", desc := "()Ljava/lang/Throwable;" } : Jvm.MethodName)) ∈ lw_all := lw_g (lw_at lw_m6 100 rfl) rfl
theorem q1404 : (Jvm.Cond.sameMethod "java/lang/Throwable" "java/lang/Throwable" "fillInStackTrace" "()Ljava/lang/Throwable;") ∈ lw_all := lw_g (lw_at lw_m6 101 rfl) rfl
theorem q1417 : (Jvm.Cond.declares ({ cls := "java/lang/Throwable", name := "fillInStackTrace", desc := "()Ljava/lang/Throwable;" } : Jvm.MethodName)) ∈ lw_tbl := lw_at lw_m6 114 rfl
theorem q1421 : (Jvm.Cond.codeSync ({ cls := "java/lang/Throwable", name := "fillInStackTrace", desc := "()Ljava/lang/Throwable;" } : Jvm.MethodName) prog_45_method_18_code (1 : Nat) (Option.some (Jvm.ClassFile.FieldType.object "java/lang/Throwable"))) ∈ lw_all := lw_g (lw_at lw_m6 118 rfl) rfl
theorem q1422 : (Jvm.Cond.methodLink "java/lang/Throwable" (202 : Nat) ({ cls := "java/lang/Throwable", name := "fillInStackTrace", desc := "(I)Ljava/lang/Throwable;" } : Jvm.MethodName)) ∈ lw_all := lw_g (lw_at lw_m6 119 rfl) rfl
theorem q1423 : (Jvm.Cond.privateMethod ({ cls := "java/lang/Throwable", name := "fillInStackTrace", desc := "(I)Ljava/lang/Throwable;" } : Jvm.MethodName)) ∈ lw_tbl := lw_at lw_m6 120 rfl
theorem q1424 : (Jvm.Cond.instanceMethod ({ cls := "java/lang/Throwable", name := "fillInStackTrace", desc := "(I)Ljava/lang/Throwable;" } : Jvm.MethodName)) ∈ lw_all := lw_g (lw_at lw_m6 121 rfl) rfl
theorem q1425 : (Jvm.Cond.instantiable "java/lang/Throwable" (6 : Nat)) ∈ lw_all := lw_g (lw_at lw_m6 122 rfl) rfl
theorem q1426 : (Jvm.Cond.native ({ cls := "java/lang/Throwable", name := "fillInStackTrace", desc := "(I)Ljava/lang/Throwable;" } : Jvm.MethodName)) ∈ lw_all := lw_g (lw_at lw_m6 123 rfl) rfl
theorem q1427 : (Jvm.Cond.fieldLink "java/lang/Throwable" (198 : Nat) "java/lang/Throwable" "backtrace" "Ljava/lang/Object;") ∈ lw_all := lw_g (lw_at lw_m6 124 rfl) rfl
theorem q1428 : (Jvm.Cond.fieldLink "java/lang/Throwable" (31 : Nat) "java/lang/Throwable" "detailMessage" "Ljava/lang/String;") ∈ lw_all := lw_g (lw_at lw_m6 125 rfl) rfl
theorem q1429 : (Jvm.Cond.fieldLink "java/lang/Throwable" (7 : Nat) "java/lang/Throwable" "cause" "Ljava/lang/Throwable;") ∈ lw_all := lw_g (lw_at lw_m6 126 rfl) rfl
theorem q1430 : (Jvm.Cond.fieldLink "java/lang/Throwable" (17 : Nat) "java/lang/Throwable" "stackTrace" "[Ljava/lang/StackTraceElement;") ∈ lw_all := lw_g (lw_at lw_m6 127 rfl) rfl
theorem q1431 : (Jvm.Cond.fieldLink "java/lang/Throwable" (24 : Nat) "java/lang/Throwable" "suppressedExceptions" "Ljava/util/List;") ∈ lw_all := lw_g (lw_at lw_m6 128 rfl) rfl
theorem q1433 : (Jvm.Cond.soleField "java/lang/Throwable" "backtrace") ∈ lw_all := lw_g (lw_at lw_m6 130 rfl) rfl
theorem q1435 : (Jvm.Cond.soleField "java/lang/Throwable" "detailMessage") ∈ lw_all := lw_g (lw_at lw_m6 132 rfl) rfl
theorem q1437 : (Jvm.Cond.soleField "java/lang/Throwable" "cause") ∈ lw_all := lw_g (lw_at lw_m6 134 rfl) rfl
theorem q1439 : (Jvm.Cond.soleField "java/lang/Throwable" "stackTrace") ∈ lw_all := lw_g (lw_at lw_m6 136 rfl) rfl
theorem q1441 : (Jvm.Cond.soleField "java/lang/Throwable" "depth") ∈ lw_all := lw_g (lw_at lw_m6 138 rfl) rfl
theorem q1443 : (Jvm.Cond.soleField "java/lang/Throwable" "suppressedExceptions") ∈ lw_all := lw_g (lw_at lw_m6 140 rfl) rfl
theorem q1450 : (Jvm.Cond.declares ({ cls := "java/lang/Throwable", name := "<init>", desc := "()V" } : Jvm.MethodName)) ∈ lw_tbl := lw_at lw_m6 147 rfl
theorem q1451 : (Jvm.Cond.declares ({ cls := "java/lang/Throwable", name := "<init>", desc := "(Ljava/lang/String;)V" } : Jvm.MethodName)) ∈ lw_tbl := lw_at lw_m6 148 rfl
theorem q1453 : (Jvm.Cond.lays "java/lang/Throwable" "java/lang/Throwable" "cause" "Ljava/lang/Throwable;") ∈ lw_all := lw_g (lw_at lw_m6 150 rfl) rfl
theorem q1454 : (Jvm.Cond.lays "java/lang/Throwable" "java/lang/Throwable" "stackTrace" "[Ljava/lang/StackTraceElement;") ∈ lw_all := lw_g (lw_at lw_m6 151 rfl) rfl
theorem q1455 : (Jvm.Cond.lays "java/lang/Throwable" "java/lang/Throwable" "suppressedExceptions" "Ljava/util/List;") ∈ lw_all := lw_g (lw_at lw_m6 152 rfl) rfl
theorem q1456 : (Jvm.Cond.lays "java/lang/Throwable" "java/lang/Throwable" "detailMessage" "Ljava/lang/String;") ∈ lw_all := lw_g (lw_at lw_m6 153 rfl) rfl
theorem q1457 : (Jvm.Cond.lays "java/lang/Throwable" "java/lang/Throwable" "backtrace" "Ljava/lang/Object;") ∈ lw_all := lw_g (lw_at lw_m6 154 rfl) rfl
theorem q1458 : (Jvm.Cond.fieldLink "java/lang/Throwable" (198 : Nat) "java/lang/Throwable" "backtrace" "Ljava/lang/Object;") ∈ lw_all := lw_g (lw_at lw_m6 155 rfl) rfl
theorem q1459 : (Jvm.Cond.superclass "java/lang/Throwable" "java/lang/Object") ∈ lw_all := lw_g (lw_at lw_m6 156 rfl) rfl
theorem q1460 : (Jvm.Cond.instanceMethod ({ cls := "java/lang/Throwable", name := "<init>", desc := "()V" } : Jvm.MethodName)) ∈ lw_all := lw_g (lw_at lw_m6 157 rfl) rfl
theorem q1461 : (Jvm.Cond.code ({ cls := "java/lang/Throwable", name := "<init>", desc := "()V" } : Jvm.MethodName) prog_45_method_1_code (1 : Nat) (Option.none : Option Jvm.ClassFile.FieldType)) ∈ lw_all := lw_g (lw_at lw_m6 158 rfl) rfl
theorem q2165 : (Jvm.Cond.sameMethod "java/lang/Throwable" "java/lang/Throwable" "fillInStackTrace" "(I)Ljava/lang/Throwable;") ∈ lw_all := lw_g (lw_at lw_m9 142 rfl) rfl
theorem q2196 : (Jvm.Cond.castable "java/lang/Throwable" "java/lang/Object") ∈ lw_tbl := lw_at lw_m9 173 rfl
theorem in_J11 : ∀ w ∈ wsJ110, w ∈ lw_all := lw_in wsJ110 [1453, 1454, 1455, 1456, 1457] (by decide +kernel) (by decide +kernel)
/-! java/lang/Exception -/
set_option maxRecDepth 100000
def RJ12 : String := "java/lang/Exception"
abbrev cJ12_init : ByteArray := prog_34_method_2_code
def yJ12_init : MethodName := ⟨RJ12, "<init>", "(Ljava/lang/String;)V"⟩
def dkwJ12_init_0 : List UInt8 := [42, 43, 183, 0, 7, 177]
abbrev dktJ12_init_0 : List UInt8 := dkwJ12_init_0 ++ []
theorem dksJ12_init_0 : cJ12_init.data.toList.drop 0 = dktJ12_init_0 := by decide +kernel
theorem dJ12_init_0 : decode cJ12_init 0 = .ok (.aload_n 0, 1) := dk_42 (dk_at dksJ12_init_0 0 rfl rfl)
theorem dJ12_init_1 : decode cJ12_init 1 = .ok (.aload_n 1, 1) := dk_43 (dk_at dksJ12_init_0 1 rfl rfl)
theorem dJ12_init_2 : decode cJ12_init 2 = .ok (.invokespecial 7, 3) := dk_183 0 7 (dk_at dksJ12_init_0 2 rfl rfl)
theorem dJ12_init_5 : decode cJ12_init 5 = .ok (.return_, 1) := dk_177 (dk_at dksJ12_init_0 5 rfl rfl)
abbrev cJ12_init_2 : ByteArray := prog_34_method_1_code
def yJ12_init_2 : MethodName := ⟨RJ12, "<init>", "()V"⟩
theorem dJ12_init_2_0 : decode cJ12_init_2 0 = .ok (.aload_n 0, 1) := by decide +kernel
theorem dJ12_init_2_1 : decode cJ12_init_2 1 = .ok (.invokespecial 1, 3) := by decide +kernel
theorem dJ12_init_2_4 : decode cJ12_init_2 4 = .ok (.return_, 1) := by decide +kernel
theorem q142 : (Jvm.Cond.initialized "java/lang/Exception") ∈ lw_all := lw_g (lw_at lw_m1 39 rfl) rfl
theorem q1392 : (Jvm.Cond.instanceMethod ({ cls := "java/lang/Exception", name := "<init>", desc := "(Ljava/lang/String;)V" } : Jvm.MethodName)) ∈ lw_all := lw_g (lw_at lw_m6 89 rfl) rfl
theorem q1393 : (Jvm.Cond.code ({ cls := "java/lang/Exception", name := "<init>", desc := "(Ljava/lang/String;)V" } : Jvm.MethodName) prog_34_method_2_code (2 : Nat) (Option.none : Option Jvm.ClassFile.FieldType)) ∈ lw_all := lw_g (lw_at lw_m6 90 rfl) rfl
theorem q1394 : (Jvm.Cond.methodLink "java/lang/Exception" (7 : Nat) ({ cls := "java/lang/Throwable", name := "<init>", desc := "(Ljava/lang/String;)V" } : Jvm.MethodName)) ∈ lw_all := lw_g (lw_at lw_m6 91 rfl) rfl
theorem q1420 : (Jvm.Cond.superclass "java/lang/Exception" "java/lang/Throwable") ∈ lw_all := lw_g (lw_at lw_m6 117 rfl) rfl
theorem q1448 : (Jvm.Cond.declares ({ cls := "java/lang/Exception", name := "<init>", desc := "()V" } : Jvm.MethodName)) ∈ lw_tbl := lw_at lw_m6 145 rfl
theorem q1449 : (Jvm.Cond.declares ({ cls := "java/lang/Exception", name := "<init>", desc := "(Ljava/lang/String;)V" } : Jvm.MethodName)) ∈ lw_tbl := lw_at lw_m6 146 rfl
theorem q1480 : (Jvm.Cond.instanceMethod ({ cls := "java/lang/Exception", name := "<init>", desc := "()V" } : Jvm.MethodName)) ∈ lw_all := lw_g (lw_at lw_m6 177 rfl) rfl
theorem q1481 : (Jvm.Cond.code ({ cls := "java/lang/Exception", name := "<init>", desc := "()V" } : Jvm.MethodName) prog_34_method_1_code (1 : Nat) (Option.none : Option Jvm.ClassFile.FieldType)) ∈ lw_all := lw_g (lw_at lw_m6 178 rfl) rfl
theorem q1482 : (Jvm.Cond.methodLink "java/lang/Exception" (1 : Nat) ({ cls := "java/lang/Throwable", name := "<init>", desc := "()V" } : Jvm.MethodName)) ∈ lw_all := lw_g (lw_at lw_m6 179 rfl) rfl
/-! java/lang/RuntimeException -/
set_option maxRecDepth 100000
def RJ13 : String := "java/lang/RuntimeException"
abbrev cJ13_init : ByteArray := prog_40_method_2_code
def yJ13_init : MethodName := ⟨RJ13, "<init>", "(Ljava/lang/String;)V"⟩
def dkwJ13_init_0 : List UInt8 := [42, 43, 183, 0, 7, 177]
abbrev dktJ13_init_0 : List UInt8 := dkwJ13_init_0 ++ []
theorem dksJ13_init_0 : cJ13_init.data.toList.drop 0 = dktJ13_init_0 := by decide +kernel
theorem dJ13_init_0 : decode cJ13_init 0 = .ok (.aload_n 0, 1) := dk_42 (dk_at dksJ13_init_0 0 rfl rfl)
theorem dJ13_init_1 : decode cJ13_init 1 = .ok (.aload_n 1, 1) := dk_43 (dk_at dksJ13_init_0 1 rfl rfl)
theorem dJ13_init_2 : decode cJ13_init 2 = .ok (.invokespecial 7, 3) := dk_183 0 7 (dk_at dksJ13_init_0 2 rfl rfl)
theorem dJ13_init_5 : decode cJ13_init 5 = .ok (.return_, 1) := dk_177 (dk_at dksJ13_init_0 5 rfl rfl)
abbrev cJ13_init_2 : ByteArray := prog_40_method_1_code
def yJ13_init_2 : MethodName := ⟨RJ13, "<init>", "()V"⟩
theorem dJ13_init_2_0 : decode cJ13_init_2 0 = .ok (.aload_n 0, 1) := by decide +kernel
theorem dJ13_init_2_1 : decode cJ13_init_2 1 = .ok (.invokespecial 1, 3) := by decide +kernel
theorem dJ13_init_2_4 : decode cJ13_init_2 4 = .ok (.return_, 1) := by decide +kernel
theorem q143 : (Jvm.Cond.initialized "java/lang/RuntimeException") ∈ lw_all := lw_g (lw_at lw_m1 40 rfl) rfl
theorem q1389 : (Jvm.Cond.instanceMethod ({ cls := "java/lang/RuntimeException", name := "<init>", desc := "(Ljava/lang/String;)V" } : Jvm.MethodName)) ∈ lw_all := lw_g (lw_at lw_m6 86 rfl) rfl
theorem q1390 : (Jvm.Cond.code ({ cls := "java/lang/RuntimeException", name := "<init>", desc := "(Ljava/lang/String;)V" } : Jvm.MethodName) prog_40_method_2_code (2 : Nat) (Option.none : Option Jvm.ClassFile.FieldType)) ∈ lw_all := lw_g (lw_at lw_m6 87 rfl) rfl
theorem q1391 : (Jvm.Cond.methodLink "java/lang/RuntimeException" (7 : Nat) ({ cls := "java/lang/Exception", name := "<init>", desc := "(Ljava/lang/String;)V" } : Jvm.MethodName)) ∈ lw_all := lw_g (lw_at lw_m6 88 rfl) rfl
theorem q1416 : (Jvm.Cond.sameMethod "java/lang/RuntimeException" "java/lang/Throwable" "fillInStackTrace" "()Ljava/lang/Throwable;") ∈ lw_all := lw_g (lw_at lw_m6 113 rfl) rfl
theorem q1419 : (Jvm.Cond.superclass "java/lang/RuntimeException" "java/lang/Exception") ∈ lw_all := lw_g (lw_at lw_m6 116 rfl) rfl
theorem q1446 : (Jvm.Cond.declares ({ cls := "java/lang/RuntimeException", name := "<init>", desc := "()V" } : Jvm.MethodName)) ∈ lw_tbl := lw_at lw_m6 143 rfl
theorem q1447 : (Jvm.Cond.declares ({ cls := "java/lang/RuntimeException", name := "<init>", desc := "(Ljava/lang/String;)V" } : Jvm.MethodName)) ∈ lw_tbl := lw_at lw_m6 144 rfl
theorem q1477 : (Jvm.Cond.instanceMethod ({ cls := "java/lang/RuntimeException", name := "<init>", desc := "()V" } : Jvm.MethodName)) ∈ lw_all := lw_g (lw_at lw_m6 174 rfl) rfl
theorem q1478 : (Jvm.Cond.code ({ cls := "java/lang/RuntimeException", name := "<init>", desc := "()V" } : Jvm.MethodName) prog_40_method_1_code (1 : Nat) (Option.none : Option Jvm.ClassFile.FieldType)) ∈ lw_all := lw_g (lw_at lw_m6 175 rfl) rfl
theorem q1479 : (Jvm.Cond.methodLink "java/lang/RuntimeException" (1 : Nat) ({ cls := "java/lang/Exception", name := "<init>", desc := "()V" } : Jvm.MethodName)) ∈ lw_all := lw_g (lw_at lw_m6 176 rfl) rfl
theorem q1497 : (Jvm.Cond.castable "java/lang/RuntimeException" "java/lang/Throwable") ∈ lw_tbl := lw_at lw_m6 194 rfl
/-! java/lang/NegativeArraySizeException -/
set_option maxRecDepth 100000
def RJ14 : String := "java/lang/NegativeArraySizeException"
def TJ14 : u_T := fun k => match k with
  | 0 => ("java/lang/Throwable", "backtrace", "Ljava/lang/Object;", false)
  | 1 => ("java/lang/Throwable", "detailMessage", "Ljava/lang/String;", false)
  | 2 => ("java/lang/Throwable", "cause", "Ljava/lang/Throwable;", false)
  | 3 => ("java/lang/Throwable", "stackTrace", "[Ljava/lang/StackTraceElement;", false)
  | 4 => ("java/lang/Throwable", "depth", "I", false)
  | _ => ("java/lang/Throwable", "suppressedExceptions", "Ljava/util/List;", false)
def tyJ14 : Nat → FieldType := fun k => match k with
  | 0 => .object "java/lang/Object"
  | 1 => .object "java/lang/String"
  | 2 => .object "java/lang/Throwable"
  | 3 => .array (.object "java/lang/StackTraceElement")
  | 4 => .int
  | _ => .object "java/util/List"
abbrev wsJ140 : List Cond := u_ws RJ14 TJ14 6
theorem nmJ14 : ∀ a, a < 6 → ∀ b, b < 6 → a ≠ b → (TJ14 a).2.1 ≠ (TJ14 b).2.1 := by decide +kernel
theorem tyJ14_ok : ∀ k, k < 6 → parseFieldDescriptor (TJ14 k).2.2.1 = some (tyJ14 k) := by decide +kernel
abbrev cJ14_init : ByteArray := prog_38_method_2_code
def yJ14_init : MethodName := ⟨RJ14, "<init>", "(Ljava/lang/String;)V"⟩
def dkwJ14_init_0 : List UInt8 := [42, 43, 183, 0, 7, 177]
abbrev dktJ14_init_0 : List UInt8 := dkwJ14_init_0 ++ []
theorem dksJ14_init_0 : cJ14_init.data.toList.drop 0 = dktJ14_init_0 := by decide +kernel
theorem dJ14_init_0 : decode cJ14_init 0 = .ok (.aload_n 0, 1) := dk_42 (dk_at dksJ14_init_0 0 rfl rfl)
theorem dJ14_init_1 : decode cJ14_init 1 = .ok (.aload_n 1, 1) := dk_43 (dk_at dksJ14_init_0 1 rfl rfl)
theorem dJ14_init_2 : decode cJ14_init 2 = .ok (.invokespecial 7, 3) := dk_183 0 7 (dk_at dksJ14_init_0 2 rfl rfl)
theorem dJ14_init_5 : decode cJ14_init 5 = .ok (.return_, 1) := dk_177 (dk_at dksJ14_init_0 5 rfl rfl)
theorem q144 : (Jvm.Cond.initialized "java/lang/NegativeArraySizeException") ∈ lw_all := lw_g (lw_at lw_m1 41 rfl) rfl
theorem q504 : (Jvm.Cond.selects "java/lang/NegativeArraySizeException" ({ cls := "java/lang/Object", name := "getClass", desc := "()Ljava/lang/Class;" } : Jvm.MethodName) ({ cls := "java/lang/Object", name := "getClass", desc := "()Ljava/lang/Class;" } : Jvm.MethodName)) ∈ lw_all := lw_g (lw_at lw_m2 161 rfl) rfl
theorem q1385 : (Jvm.Cond.instantiable "java/lang/NegativeArraySizeException" (6 : Nat)) ∈ lw_all := lw_g (lw_at lw_m6 82 rfl) rfl
theorem q1386 : (Jvm.Cond.instanceMethod ({ cls := "java/lang/NegativeArraySizeException", name := "<init>", desc := "(Ljava/lang/String;)V" } : Jvm.MethodName)) ∈ lw_all := lw_g (lw_at lw_m6 83 rfl) rfl
theorem q1387 : (Jvm.Cond.code ({ cls := "java/lang/NegativeArraySizeException", name := "<init>", desc := "(Ljava/lang/String;)V" } : Jvm.MethodName) prog_38_method_2_code (2 : Nat) (Option.none : Option Jvm.ClassFile.FieldType)) ∈ lw_all := lw_g (lw_at lw_m6 84 rfl) rfl
theorem q1388 : (Jvm.Cond.methodLink "java/lang/NegativeArraySizeException" (7 : Nat) ({ cls := "java/lang/RuntimeException", name := "<init>", desc := "(Ljava/lang/String;)V" } : Jvm.MethodName)) ∈ lw_all := lw_g (lw_at lw_m6 85 rfl) rfl
theorem q1406 : (Jvm.Cond.selects "java/lang/NegativeArraySizeException" ({ cls := "java/lang/Throwable", name := "fillInStackTrace", desc := "()Ljava/lang/Throwable;" } : Jvm.MethodName) ({ cls := "java/lang/Throwable", name := "fillInStackTrace", desc := "()Ljava/lang/Throwable;" } : Jvm.MethodName)) ∈ lw_all := lw_g (lw_at lw_m6 103 rfl) rfl
theorem q1432 : (Jvm.Cond.lays "java/lang/NegativeArraySizeException" "java/lang/Throwable" "backtrace" "Ljava/lang/Object;") ∈ lw_all := lw_g (lw_at lw_m6 129 rfl) rfl
theorem q1434 : (Jvm.Cond.lays "java/lang/NegativeArraySizeException" "java/lang/Throwable" "detailMessage" "Ljava/lang/String;") ∈ lw_all := lw_g (lw_at lw_m6 131 rfl) rfl
theorem q1436 : (Jvm.Cond.lays "java/lang/NegativeArraySizeException" "java/lang/Throwable" "cause" "Ljava/lang/Throwable;") ∈ lw_all := lw_g (lw_at lw_m6 133 rfl) rfl
theorem q1438 : (Jvm.Cond.lays "java/lang/NegativeArraySizeException" "java/lang/Throwable" "stackTrace" "[Ljava/lang/StackTraceElement;") ∈ lw_all := lw_g (lw_at lw_m6 135 rfl) rfl
theorem q1440 : (Jvm.Cond.lays "java/lang/NegativeArraySizeException" "java/lang/Throwable" "depth" "I") ∈ lw_all := lw_g (lw_at lw_m6 137 rfl) rfl
theorem q1442 : (Jvm.Cond.lays "java/lang/NegativeArraySizeException" "java/lang/Throwable" "suppressedExceptions" "Ljava/util/List;") ∈ lw_all := lw_g (lw_at lw_m6 139 rfl) rfl
theorem q1444 : (Jvm.Cond.superclass "java/lang/NegativeArraySizeException" "java/lang/RuntimeException") ∈ lw_all := lw_g (lw_at lw_m6 141 rfl) rfl
theorem q1445 : (Jvm.Cond.castable "java/lang/NegativeArraySizeException" "java/lang/NegativeArraySizeException") ∈ lw_tbl := lw_at lw_m6 142 rfl
theorem q1452 : (Jvm.Cond.selects "java/lang/NegativeArraySizeException" ({ cls := "java/lang/Throwable", name := "fillInStackTrace", desc := "(I)Ljava/lang/Throwable;" } : Jvm.MethodName) ({ cls := "java/lang/Throwable", name := "fillInStackTrace", desc := "(I)Ljava/lang/Throwable;" } : Jvm.MethodName)) ∈ lw_all := lw_g (lw_at lw_m6 149 rfl) rfl
theorem q2193 : (Jvm.Cond.castable "java/lang/NegativeArraySizeException" "java/lang/Object") ∈ lw_tbl := lw_at lw_m9 170 rfl
theorem in_J14 : ∀ w ∈ wsJ140, w ∈ lw_all := lw_in wsJ140 [1432, 1434, 1436, 1438, 1440, 1442] (by decide +kernel) (by decide +kernel)
/-! java/lang/NullPointerException -/
set_option maxRecDepth 100000
def RJ15 : String := "java/lang/NullPointerException"
def TJ15 : u_T := fun k => match k with
  | 0 => ("java/lang/Throwable", "backtrace", "Ljava/lang/Object;", false)
  | 1 => ("java/lang/Throwable", "detailMessage", "Ljava/lang/String;", false)
  | 2 => ("java/lang/Throwable", "cause", "Ljava/lang/Throwable;", false)
  | 3 => ("java/lang/Throwable", "stackTrace", "[Ljava/lang/StackTraceElement;", false)
  | 4 => ("java/lang/Throwable", "depth", "I", false)
  | 5 => ("java/lang/Throwable", "suppressedExceptions", "Ljava/util/List;", false)
  | 6 => ("java/lang/NullPointerException", "extendedMessageState", "I", false)
  | _ => ("java/lang/NullPointerException", "extendedMessage", "Ljava/lang/String;", false)
def tyJ15 : Nat → FieldType := fun k => match k with
  | 0 => .object "java/lang/Object"
  | 1 => .object "java/lang/String"
  | 2 => .object "java/lang/Throwable"
  | 3 => .array (.object "java/lang/StackTraceElement")
  | 4 => .int
  | 5 => .object "java/util/List"
  | 6 => .int
  | _ => .object "java/lang/String"
abbrev wsJ150 : List Cond := u_ws RJ15 TJ15 8
theorem nmJ15 : ∀ a, a < 8 → ∀ b, b < 8 → a ≠ b → (TJ15 a).2.1 ≠ (TJ15 b).2.1 := by decide +kernel
theorem tyJ15_ok : ∀ k, k < 8 → parseFieldDescriptor (TJ15 k).2.2.1 = some (tyJ15 k) := by decide +kernel
abbrev cJ15_init : ByteArray := prog_39_method_1_code
def yJ15_init : MethodName := ⟨RJ15, "<init>", "()V"⟩
theorem dJ15_init_0 : decode cJ15_init 0 = .ok (.aload_n 0, 1) := by decide +kernel
theorem dJ15_init_1 : decode cJ15_init 1 = .ok (.invokespecial 1, 3) := by decide +kernel
theorem dJ15_init_4 : decode cJ15_init 4 = .ok (.return_, 1) := by decide +kernel
theorem q145 : (Jvm.Cond.initialized "java/lang/NullPointerException") ∈ lw_all := lw_g (lw_at lw_m1 42 rfl) rfl
theorem q505 : (Jvm.Cond.selects "java/lang/NullPointerException" ({ cls := "java/lang/Object", name := "getClass", desc := "()Ljava/lang/Class;" } : Jvm.MethodName) ({ cls := "java/lang/Object", name := "getClass", desc := "()Ljava/lang/Class;" } : Jvm.MethodName)) ∈ lw_all := lw_g (lw_at lw_m2 162 rfl) rfl
theorem q1407 : (Jvm.Cond.selects "java/lang/NullPointerException" ({ cls := "java/lang/Throwable", name := "fillInStackTrace", desc := "()Ljava/lang/Throwable;" } : Jvm.MethodName) ({ cls := "java/lang/NullPointerException", name := "fillInStackTrace", desc := "()Ljava/lang/Throwable;" } : Jvm.MethodName)) ∈ lw_all := lw_g (lw_at lw_m6 104 rfl) rfl
theorem q1408 : (Jvm.Cond.instanceMethod ({ cls := "java/lang/NullPointerException", name := "fillInStackTrace", desc := "()Ljava/lang/Throwable;" } : Jvm.MethodName)) ∈ lw_all := lw_g (lw_at lw_m6 105 rfl) rfl
theorem q1409 : (Jvm.Cond.codeSync ({ cls := "java/lang/NullPointerException", name := "fillInStackTrace", desc := "()Ljava/lang/Throwable;" } : Jvm.MethodName) prog_39_method_3_code (1 : Nat) (Option.some (Jvm.ClassFile.FieldType.object "java/lang/Throwable"))) ∈ lw_all := lw_g (lw_at lw_m6 106 rfl) rfl
theorem q1410 : (Jvm.Cond.methodLink "java/lang/NullPointerException" (16 : Nat) ({ cls := "java/lang/NullPointerException", name := "getExtendedNPEMessage", desc := "()Ljava/lang/String;" } : Jvm.MethodName)) ∈ lw_all := lw_g (lw_at lw_m6 107 rfl) rfl
theorem q1411 : (Jvm.Cond.privateMethod ({ cls := "java/lang/NullPointerException", name := "getExtendedNPEMessage", desc := "()Ljava/lang/String;" } : Jvm.MethodName)) ∈ lw_tbl := lw_at lw_m6 108 rfl
theorem q1412 : (Jvm.Cond.instanceMethod ({ cls := "java/lang/NullPointerException", name := "getExtendedNPEMessage", desc := "()Ljava/lang/String;" } : Jvm.MethodName)) ∈ lw_all := lw_g (lw_at lw_m6 109 rfl) rfl
theorem q1413 : (Jvm.Cond.instantiable "java/lang/NullPointerException" (8 : Nat)) ∈ lw_all := lw_g (lw_at lw_m6 110 rfl) rfl
theorem q1414 : (Jvm.Cond.native ({ cls := "java/lang/NullPointerException", name := "getExtendedNPEMessage", desc := "()Ljava/lang/String;" } : Jvm.MethodName)) ∈ lw_all := lw_g (lw_at lw_m6 111 rfl) rfl
theorem q1415 : (Jvm.Cond.methodLink "java/lang/NullPointerException" (24 : Nat) ({ cls := "java/lang/RuntimeException", name := "fillInStackTrace", desc := "()Ljava/lang/Throwable;" } : Jvm.MethodName)) ∈ lw_all := lw_g (lw_at lw_m6 112 rfl) rfl
theorem q1418 : (Jvm.Cond.superclass "java/lang/NullPointerException" "java/lang/RuntimeException") ∈ lw_all := lw_g (lw_at lw_m6 115 rfl) rfl
theorem q1474 : (Jvm.Cond.instanceMethod ({ cls := "java/lang/NullPointerException", name := "<init>", desc := "()V" } : Jvm.MethodName)) ∈ lw_all := lw_g (lw_at lw_m6 171 rfl) rfl
theorem q1475 : (Jvm.Cond.code ({ cls := "java/lang/NullPointerException", name := "<init>", desc := "()V" } : Jvm.MethodName) prog_39_method_1_code (1 : Nat) (Option.none : Option Jvm.ClassFile.FieldType)) ∈ lw_all := lw_g (lw_at lw_m6 172 rfl) rfl
theorem q1476 : (Jvm.Cond.methodLink "java/lang/NullPointerException" (1 : Nat) ({ cls := "java/lang/RuntimeException", name := "<init>", desc := "()V" } : Jvm.MethodName)) ∈ lw_all := lw_g (lw_at lw_m6 173 rfl) rfl
theorem q1483 : (Jvm.Cond.fieldLink "java/lang/NullPointerException" (10 : Nat) "java/lang/NullPointerException" "extendedMessageState" "I") ∈ lw_all := lw_g (lw_at lw_m6 180 rfl) rfl
theorem q1484 : (Jvm.Cond.fieldLink "java/lang/NullPointerException" (20 : Nat) "java/lang/NullPointerException" "extendedMessage" "Ljava/lang/String;") ∈ lw_all := lw_g (lw_at lw_m6 181 rfl) rfl
theorem q1485 : (Jvm.Cond.lays "java/lang/NullPointerException" "java/lang/NullPointerException" "extendedMessageState" "I") ∈ lw_all := lw_g (lw_at lw_m6 182 rfl) rfl
theorem q1486 : (Jvm.Cond.soleField "java/lang/NullPointerException" "extendedMessageState") ∈ lw_all := lw_g (lw_at lw_m6 183 rfl) rfl
theorem q1487 : (Jvm.Cond.lays "java/lang/NullPointerException" "java/lang/NullPointerException" "extendedMessage" "Ljava/lang/String;") ∈ lw_all := lw_g (lw_at lw_m6 184 rfl) rfl
theorem q1488 : (Jvm.Cond.soleField "java/lang/NullPointerException" "extendedMessage") ∈ lw_all := lw_g (lw_at lw_m6 185 rfl) rfl
theorem q1489 : (Jvm.Cond.lays "java/lang/NullPointerException" "java/lang/Throwable" "backtrace" "Ljava/lang/Object;") ∈ lw_all := lw_g (lw_at lw_m6 186 rfl) rfl
theorem q1490 : (Jvm.Cond.lays "java/lang/NullPointerException" "java/lang/Throwable" "detailMessage" "Ljava/lang/String;") ∈ lw_all := lw_g (lw_at lw_m6 187 rfl) rfl
theorem q1491 : (Jvm.Cond.lays "java/lang/NullPointerException" "java/lang/Throwable" "cause" "Ljava/lang/Throwable;") ∈ lw_all := lw_g (lw_at lw_m6 188 rfl) rfl
theorem q1492 : (Jvm.Cond.lays "java/lang/NullPointerException" "java/lang/Throwable" "stackTrace" "[Ljava/lang/StackTraceElement;") ∈ lw_all := lw_g (lw_at lw_m6 189 rfl) rfl
theorem q1493 : (Jvm.Cond.lays "java/lang/NullPointerException" "java/lang/Throwable" "depth" "I") ∈ lw_all := lw_g (lw_at lw_m6 190 rfl) rfl
theorem q1494 : (Jvm.Cond.lays "java/lang/NullPointerException" "java/lang/Throwable" "suppressedExceptions" "Ljava/util/List;") ∈ lw_all := lw_g (lw_at lw_m6 191 rfl) rfl
theorem q1495 : (Jvm.Cond.castable "java/lang/NullPointerException" "java/lang/NullPointerException") ∈ lw_tbl := lw_at lw_m6 192 rfl
theorem q1496 : (Jvm.Cond.selects "java/lang/NullPointerException" ({ cls := "java/lang/Throwable", name := "fillInStackTrace", desc := "(I)Ljava/lang/Throwable;" } : Jvm.MethodName) ({ cls := "java/lang/Throwable", name := "fillInStackTrace", desc := "(I)Ljava/lang/Throwable;" } : Jvm.MethodName)) ∈ lw_all := lw_g (lw_at lw_m6 193 rfl) rfl
theorem q2194 : (Jvm.Cond.castable "java/lang/NullPointerException" "java/lang/Object") ∈ lw_tbl := lw_at lw_m9 171 rfl
theorem in_J15 : ∀ w ∈ wsJ150, w ∈ lw_all := lw_in wsJ150 [1489, 1490, 1491, 1492, 1493, 1494, 1485, 1487] (by decide +kernel) (by decide +kernel)
/-! java/lang/IndexOutOfBoundsException -/
set_option maxRecDepth 100000
def RJ16 : String := "java/lang/IndexOutOfBoundsException"
abbrev cJ16_init : ByteArray := prog_35_method_2_code
def yJ16_init : MethodName := ⟨RJ16, "<init>", "(Ljava/lang/String;)V"⟩
def dkwJ16_init_0 : List UInt8 := [42, 43, 183, 0, 7, 177]
abbrev dktJ16_init_0 : List UInt8 := dkwJ16_init_0 ++ []
theorem dksJ16_init_0 : cJ16_init.data.toList.drop 0 = dktJ16_init_0 := by decide +kernel
theorem dJ16_init_0 : decode cJ16_init 0 = .ok (.aload_n 0, 1) := dk_42 (dk_at dksJ16_init_0 0 rfl rfl)
theorem dJ16_init_1 : decode cJ16_init 1 = .ok (.aload_n 1, 1) := dk_43 (dk_at dksJ16_init_0 1 rfl rfl)
theorem dJ16_init_2 : decode cJ16_init 2 = .ok (.invokespecial 7, 3) := dk_183 0 7 (dk_at dksJ16_init_0 2 rfl rfl)
theorem dJ16_init_5 : decode cJ16_init 5 = .ok (.return_, 1) := dk_177 (dk_at dksJ16_init_0 5 rfl rfl)
theorem q146 : (Jvm.Cond.initialized "java/lang/IndexOutOfBoundsException") ∈ lw_all := lw_g (lw_at lw_m1 43 rfl) rfl
theorem q1503 : (Jvm.Cond.instanceMethod ({ cls := "java/lang/IndexOutOfBoundsException", name := "<init>", desc := "(Ljava/lang/String;)V" } : Jvm.MethodName)) ∈ lw_all := lw_g (lw_at lw_m6 200 rfl) rfl
theorem q1504 : (Jvm.Cond.code ({ cls := "java/lang/IndexOutOfBoundsException", name := "<init>", desc := "(Ljava/lang/String;)V" } : Jvm.MethodName) prog_35_method_2_code (2 : Nat) (Option.none : Option Jvm.ClassFile.FieldType)) ∈ lw_all := lw_g (lw_at lw_m6 201 rfl) rfl
theorem q1505 : (Jvm.Cond.methodLink "java/lang/IndexOutOfBoundsException" (7 : Nat) ({ cls := "java/lang/RuntimeException", name := "<init>", desc := "(Ljava/lang/String;)V" } : Jvm.MethodName)) ∈ lw_all := lw_g (lw_at lw_m6 202 rfl) rfl
theorem q1514 : (Jvm.Cond.declares ({ cls := "java/lang/IndexOutOfBoundsException", name := "<init>", desc := "()V" } : Jvm.MethodName)) ∈ lw_tbl := lw_at lw_m6 211 rfl
theorem q1515 : (Jvm.Cond.declares ({ cls := "java/lang/IndexOutOfBoundsException", name := "<init>", desc := "(Ljava/lang/String;)V" } : Jvm.MethodName)) ∈ lw_tbl := lw_at lw_m6 212 rfl
/-! java/lang/ArrayIndexOutOfBoundsException -/
set_option maxRecDepth 100000
def RJ17 : String := "java/lang/ArrayIndexOutOfBoundsException"
def TJ17 : u_T := fun k => match k with
  | 0 => ("java/lang/Throwable", "backtrace", "Ljava/lang/Object;", false)
  | 1 => ("java/lang/Throwable", "detailMessage", "Ljava/lang/String;", false)
  | 2 => ("java/lang/Throwable", "cause", "Ljava/lang/Throwable;", false)
  | 3 => ("java/lang/Throwable", "stackTrace", "[Ljava/lang/StackTraceElement;", false)
  | 4 => ("java/lang/Throwable", "depth", "I", false)
  | _ => ("java/lang/Throwable", "suppressedExceptions", "Ljava/util/List;", false)
def tyJ17 : Nat → FieldType := fun k => match k with
  | 0 => .object "java/lang/Object"
  | 1 => .object "java/lang/String"
  | 2 => .object "java/lang/Throwable"
  | 3 => .array (.object "java/lang/StackTraceElement")
  | 4 => .int
  | _ => .object "java/util/List"
abbrev wsJ170 : List Cond := u_ws RJ17 TJ17 6
theorem nmJ17 : ∀ a, a < 6 → ∀ b, b < 6 → a ≠ b → (TJ17 a).2.1 ≠ (TJ17 b).2.1 := by decide +kernel
theorem tyJ17_ok : ∀ k, k < 6 → parseFieldDescriptor (TJ17 k).2.2.1 = some (tyJ17 k) := by decide +kernel
abbrev cJ17_init : ByteArray := prog_30_method_2_code
def yJ17_init : MethodName := ⟨RJ17, "<init>", "(Ljava/lang/String;)V"⟩
def dkwJ17_init_0 : List UInt8 := [42, 43, 183, 0, 7, 177]
abbrev dktJ17_init_0 : List UInt8 := dkwJ17_init_0 ++ []
theorem dksJ17_init_0 : cJ17_init.data.toList.drop 0 = dktJ17_init_0 := by decide +kernel
theorem dJ17_init_0 : decode cJ17_init 0 = .ok (.aload_n 0, 1) := dk_42 (dk_at dksJ17_init_0 0 rfl rfl)
theorem dJ17_init_1 : decode cJ17_init 1 = .ok (.aload_n 1, 1) := dk_43 (dk_at dksJ17_init_0 1 rfl rfl)
theorem dJ17_init_2 : decode cJ17_init 2 = .ok (.invokespecial 7, 3) := dk_183 0 7 (dk_at dksJ17_init_0 2 rfl rfl)
theorem dJ17_init_5 : decode cJ17_init 5 = .ok (.return_, 1) := dk_177 (dk_at dksJ17_init_0 5 rfl rfl)
theorem q147 : (Jvm.Cond.initialized "java/lang/ArrayIndexOutOfBoundsException") ∈ lw_all := lw_g (lw_at lw_m1 44 rfl) rfl
theorem q503 : (Jvm.Cond.selects "java/lang/ArrayIndexOutOfBoundsException" ({ cls := "java/lang/Object", name := "getClass", desc := "()Ljava/lang/Class;" } : Jvm.MethodName) ({ cls := "java/lang/Object", name := "getClass", desc := "()Ljava/lang/Class;" } : Jvm.MethodName)) ∈ lw_all := lw_g (lw_at lw_m2 160 rfl) rfl
theorem q1405 : (Jvm.Cond.selects "java/lang/ArrayIndexOutOfBoundsException" ({ cls := "java/lang/Throwable", name := "fillInStackTrace", desc := "()Ljava/lang/Throwable;" } : Jvm.MethodName) ({ cls := "java/lang/Throwable", name := "fillInStackTrace", desc := "()Ljava/lang/Throwable;" } : Jvm.MethodName)) ∈ lw_all := lw_g (lw_at lw_m6 102 rfl) rfl
theorem q1499 : (Jvm.Cond.instantiable "java/lang/ArrayIndexOutOfBoundsException" (6 : Nat)) ∈ lw_all := lw_g (lw_at lw_m6 196 rfl) rfl
theorem q1500 : (Jvm.Cond.instanceMethod ({ cls := "java/lang/ArrayIndexOutOfBoundsException", name := "<init>", desc := "(Ljava/lang/String;)V" } : Jvm.MethodName)) ∈ lw_all := lw_g (lw_at lw_m6 197 rfl) rfl
theorem q1501 : (Jvm.Cond.code ({ cls := "java/lang/ArrayIndexOutOfBoundsException", name := "<init>", desc := "(Ljava/lang/String;)V" } : Jvm.MethodName) prog_30_method_2_code (2 : Nat) (Option.none : Option Jvm.ClassFile.FieldType)) ∈ lw_all := lw_g (lw_at lw_m6 198 rfl) rfl
theorem q1502 : (Jvm.Cond.methodLink "java/lang/ArrayIndexOutOfBoundsException" (7 : Nat) ({ cls := "java/lang/IndexOutOfBoundsException", name := "<init>", desc := "(Ljava/lang/String;)V" } : Jvm.MethodName)) ∈ lw_all := lw_g (lw_at lw_m6 199 rfl) rfl
theorem q1506 : (Jvm.Cond.lays "java/lang/ArrayIndexOutOfBoundsException" "java/lang/Throwable" "backtrace" "Ljava/lang/Object;") ∈ lw_all := lw_g (lw_at lw_m6 203 rfl) rfl
theorem q1507 : (Jvm.Cond.lays "java/lang/ArrayIndexOutOfBoundsException" "java/lang/Throwable" "detailMessage" "Ljava/lang/String;") ∈ lw_all := lw_g (lw_at lw_m6 204 rfl) rfl
theorem q1508 : (Jvm.Cond.lays "java/lang/ArrayIndexOutOfBoundsException" "java/lang/Throwable" "cause" "Ljava/lang/Throwable;") ∈ lw_all := lw_g (lw_at lw_m6 205 rfl) rfl
theorem q1509 : (Jvm.Cond.lays "java/lang/ArrayIndexOutOfBoundsException" "java/lang/Throwable" "stackTrace" "[Ljava/lang/StackTraceElement;") ∈ lw_all := lw_g (lw_at lw_m6 206 rfl) rfl
theorem q1510 : (Jvm.Cond.lays "java/lang/ArrayIndexOutOfBoundsException" "java/lang/Throwable" "depth" "I") ∈ lw_all := lw_g (lw_at lw_m6 207 rfl) rfl
theorem q1511 : (Jvm.Cond.lays "java/lang/ArrayIndexOutOfBoundsException" "java/lang/Throwable" "suppressedExceptions" "Ljava/util/List;") ∈ lw_all := lw_g (lw_at lw_m6 208 rfl) rfl
theorem q1512 : (Jvm.Cond.superclass "java/lang/ArrayIndexOutOfBoundsException" "java/lang/IndexOutOfBoundsException") ∈ lw_all := lw_g (lw_at lw_m6 209 rfl) rfl
theorem q1513 : (Jvm.Cond.castable "java/lang/ArrayIndexOutOfBoundsException" "java/lang/ArrayIndexOutOfBoundsException") ∈ lw_tbl := lw_at lw_m6 210 rfl
theorem q1516 : (Jvm.Cond.selects "java/lang/ArrayIndexOutOfBoundsException" ({ cls := "java/lang/Throwable", name := "fillInStackTrace", desc := "(I)Ljava/lang/Throwable;" } : Jvm.MethodName) ({ cls := "java/lang/Throwable", name := "fillInStackTrace", desc := "(I)Ljava/lang/Throwable;" } : Jvm.MethodName)) ∈ lw_all := lw_g (lw_at lw_m6 213 rfl) rfl
theorem q2195 : (Jvm.Cond.castable "java/lang/ArrayIndexOutOfBoundsException" "java/lang/Object") ∈ lw_tbl := lw_at lw_m9 172 rfl
theorem in_J17 : ∀ w ∈ wsJ170, w ∈ lw_all := lw_in wsJ170 [1506, 1507, 1508, 1509, 1510, 1511] (by decide +kernel) (by decide +kernel)
/-! java/lang/Object -/
set_option maxRecDepth 100000
def RJ18 : String := "java/lang/Object"
abbrev cJ18_init : ByteArray := object_method_1_code
def yJ18_init : MethodName := ⟨RJ18, "<init>", "()V"⟩
theorem dJ18_init_0 : decode cJ18_init 0 = .ok (.return_, 1) := by decide +kernel
theorem q154 : (Jvm.Cond.instanceMethod ({ cls := "java/lang/Object", name := "<init>", desc := "()V" } : Jvm.MethodName)) ∈ lw_all := lw_g (lw_at lw_m1 51 rfl) rfl
theorem q155 : (Jvm.Cond.code ({ cls := "java/lang/Object", name := "<init>", desc := "()V" } : Jvm.MethodName) object_method_1_code (1 : Nat) (Option.none : Option Jvm.ClassFile.FieldType)) ∈ lw_all := lw_g (lw_at lw_m1 52 rfl) rfl
theorem q477 : (Jvm.Cond.instanceMethod ({ cls := "java/lang/Object", name := "getClass", desc := "()Ljava/lang/Class;" } : Jvm.MethodName)) ∈ lw_all := lw_g (lw_at lw_m2 134 rfl) rfl
theorem q478 : (Jvm.Cond.sameMethod "java/lang/Object" "java/lang/Object" "getClass" "()Ljava/lang/Class;") ∈ lw_all := lw_g (lw_at lw_m2 135 rfl) rfl
theorem q507 : (Jvm.Cond.native ({ cls := "java/lang/Object", name := "getClass", desc := "()Ljava/lang/Class;" } : Jvm.MethodName)) ∈ lw_all := lw_g (lw_at lw_m2 164 rfl) rfl
theorem q2166 : (Jvm.Cond.initialized "java/lang/Object") ∈ lw_all := lw_g (lw_at lw_m9 143 rfl) rfl
theorem q2200 : (Jvm.Cond.declares ({ cls := "java/lang/Object", name := "getClass", desc := "()Ljava/lang/Class;" } : Jvm.MethodName)) ∈ lw_tbl := lw_at lw_m9 177 rfl
/-! java/util/ArrayList -/
set_option maxRecDepth 100000
def RJ2 : String := "java/util/ArrayList"
def TJ2 : u_T := fun k => match k with
  | 0 => ("java/util/AbstractList", "modCount", "I", false)
  | 1 => ("java/util/ArrayList", "elementData", "[Ljava/lang/Object;", false)
  | _ => ("java/util/ArrayList", "size", "I", false)
def tyJ2 : Nat → FieldType := fun k => match k with
  | 0 => .int
  | 1 => .array (.object "java/lang/Object")
  | _ => .int
abbrev wsJ20 : List Cond := u_ws RJ2 TJ2 3
theorem nmJ2 : ∀ a, a < 3 → ∀ b, b < 3 → a ≠ b → (TJ2 a).2.1 ≠ (TJ2 b).2.1 := by decide +kernel
theorem tyJ2_ok : ∀ k, k < 3 → parseFieldDescriptor (TJ2 k).2.2.1 = some (tyJ2 k) := by decide +kernel
abbrev cJ2_init : ByteArray := prog_50_method_1_code
def yJ2_init : MethodName := ⟨RJ2, "<init>", "(I)V"⟩
def dkwJ2_init_2 : List UInt8 := [182, 0, 25, 27, 182, 0, 29, 182, 0, 32, 183, 0, 36, 191, 177]
abbrev dktJ2_init_2 : List UInt8 := dkwJ2_init_2 ++ []
def dkwJ2_init_1 : List UInt8 := [178, 0, 15, 181, 0, 9, 167, 0, 30, 187, 0, 18, 89, 187, 0, 20, 89, 183, 0, 22, 18, 23]
abbrev dktJ2_init_1 : List UInt8 := dkwJ2_init_1 ++ dktJ2_init_2
def dkwJ2_init_0 : List UInt8 := [42, 183, 0, 1, 27, 158, 0, 14, 42, 27, 189, 0, 7, 181, 0, 9, 167, 0, 44, 27, 154, 0, 13, 42]
abbrev dktJ2_init_0 : List UInt8 := dkwJ2_init_0 ++ dktJ2_init_1
theorem dksJ2_init_0 : cJ2_init.data.toList.drop 0 = dktJ2_init_0 := by decide +kernel
theorem dksJ2_init_1 : cJ2_init.data.toList.drop 24 = dktJ2_init_1 := dk_seg dksJ2_init_0 24 rfl rfl
theorem dksJ2_init_2 : cJ2_init.data.toList.drop 46 = dktJ2_init_2 := dk_seg dksJ2_init_1 22 rfl rfl
theorem dJ2_init_0 : decode cJ2_init 0 = .ok (.aload_n 0, 1) := dk_42 (dk_at dksJ2_init_0 0 rfl rfl)
theorem dJ2_init_1 : decode cJ2_init 1 = .ok (.invokespecial 1, 3) := dk_183 0 1 (dk_at dksJ2_init_0 1 rfl rfl)
theorem dJ2_init_4 : decode cJ2_init 4 = .ok (.iload_n 1, 1) := dk_27 (dk_at dksJ2_init_0 4 rfl rfl)
theorem dJ2_init_5 : decode cJ2_init 5 = .ok (.ifCond .le 14, 3) := dk_158 0 14 (dk_at dksJ2_init_0 5 rfl rfl)
theorem dJ2_init_8 : decode cJ2_init 8 = .ok (.aload_n 0, 1) := dk_42 (dk_at dksJ2_init_0 8 rfl rfl)
theorem dJ2_init_9 : decode cJ2_init 9 = .ok (.iload_n 1, 1) := dk_27 (dk_at dksJ2_init_0 9 rfl rfl)
theorem dJ2_init_10 : decode cJ2_init 10 = .ok (.anewarray 7, 3) := dk_189 0 7 (dk_at dksJ2_init_0 10 rfl rfl)
theorem dJ2_init_13 : decode cJ2_init 13 = .ok (.putfield 9, 3) := dk_181 0 9 (dk_at dksJ2_init_0 13 rfl rfl)
theorem dJ2_init_16 : decode cJ2_init 16 = .ok (.goto 44, 3) := dk_167 0 44 (dk_at dksJ2_init_0 16 rfl rfl)
theorem dJ2_init_19 : decode cJ2_init 19 = .ok (.iload_n 1, 1) := dk_27 (dk_at dksJ2_init_0 19 rfl rfl)
theorem dJ2_init_20 : decode cJ2_init 20 = .ok (.ifCond .ne 13, 3) := dk_154 0 13 (dk_at dksJ2_init_0 20 rfl rfl)
theorem dJ2_init_23 : decode cJ2_init 23 = .ok (.aload_n 0, 1) := dk_42 (dk_at dksJ2_init_0 23 rfl rfl)
theorem dJ2_init_24 : decode cJ2_init 24 = .ok (.getstatic 15, 3) := dk_178 0 15 (dk_at dksJ2_init_1 0 rfl rfl)
theorem dJ2_init_27 : decode cJ2_init 27 = .ok (.putfield 9, 3) := dk_181 0 9 (dk_at dksJ2_init_1 3 rfl rfl)
theorem dJ2_init_30 : decode cJ2_init 30 = .ok (.goto 30, 3) := dk_167 0 30 (dk_at dksJ2_init_1 6 rfl rfl)
theorem dJ2_init_33 : decode cJ2_init 33 = .ok (.new 18, 3) := dk_187 0 18 (dk_at dksJ2_init_1 9 rfl rfl)
theorem dJ2_init_36 : decode cJ2_init 36 = .ok (.dup, 1) := dk_89 (dk_at dksJ2_init_1 12 rfl rfl)
theorem dJ2_init_37 : decode cJ2_init 37 = .ok (.new 20, 3) := dk_187 0 20 (dk_at dksJ2_init_1 13 rfl rfl)
theorem dJ2_init_40 : decode cJ2_init 40 = .ok (.dup, 1) := dk_89 (dk_at dksJ2_init_1 16 rfl rfl)
theorem dJ2_init_41 : decode cJ2_init 41 = .ok (.invokespecial 22, 3) := dk_183 0 22 (dk_at dksJ2_init_1 17 rfl rfl)
theorem dJ2_init_44 : decode cJ2_init 44 = .ok (.ldc 23, 2) := dk_18 23 (dk_at dksJ2_init_1 20 rfl rfl)
theorem dJ2_init_46 : decode cJ2_init 46 = .ok (.invokevirtual 25, 3) := dk_182 0 25 (dk_at dksJ2_init_2 0 rfl rfl)
theorem dJ2_init_49 : decode cJ2_init 49 = .ok (.iload_n 1, 1) := dk_27 (dk_at dksJ2_init_2 3 rfl rfl)
theorem dJ2_init_50 : decode cJ2_init 50 = .ok (.invokevirtual 29, 3) := dk_182 0 29 (dk_at dksJ2_init_2 4 rfl rfl)
theorem dJ2_init_53 : decode cJ2_init 53 = .ok (.invokevirtual 32, 3) := dk_182 0 32 (dk_at dksJ2_init_2 7 rfl rfl)
theorem dJ2_init_56 : decode cJ2_init 56 = .ok (.invokespecial 36, 3) := dk_183 0 36 (dk_at dksJ2_init_2 10 rfl rfl)
theorem dJ2_init_59 : decode cJ2_init 59 = .ok (.athrow, 1) := dk_191 (dk_at dksJ2_init_2 13 rfl rfl)
theorem dJ2_init_60 : decode cJ2_init 60 = .ok (.return_, 1) := dk_177 (dk_at dksJ2_init_2 14 rfl rfl)
abbrev cJ2_size : ByteArray := prog_50_method_8_code
def yJ2_size : MethodName := ⟨RJ2, "size", "()I"⟩
theorem dJ2_size_0 : decode cJ2_size 0 = .ok (.aload_n 0, 1) := by decide +kernel
theorem dJ2_size_1 : decode cJ2_size 1 = .ok (.getfield 48, 3) := by decide +kernel
theorem dJ2_size_4 : decode cJ2_size 4 = .ok (.ireturn, 1) := by decide +kernel
abbrev cJ2_add : ByteArray := prog_50_method_25_code
def yJ2_add : MethodName := ⟨RJ2, "add", "(Ljava/lang/Object;)Z"⟩
def dkwJ2_add_1 : List UInt8 := [172]
abbrev dktJ2_add_1 : List UInt8 := dkwJ2_add_1 ++ []
def dkwJ2_add_0 : List UInt8 := [42, 89, 180, 0, 63, 4, 96, 181, 0, 63, 42, 43, 42, 180, 0, 9, 42, 180, 0, 48, 182, 0, 131, 4]
abbrev dktJ2_add_0 : List UInt8 := dkwJ2_add_0 ++ dktJ2_add_1
theorem dksJ2_add_0 : cJ2_add.data.toList.drop 0 = dktJ2_add_0 := by decide +kernel
theorem dksJ2_add_1 : cJ2_add.data.toList.drop 24 = dktJ2_add_1 := dk_seg dksJ2_add_0 24 rfl rfl
theorem dJ2_add_0 : decode cJ2_add 0 = .ok (.aload_n 0, 1) := dk_42 (dk_at dksJ2_add_0 0 rfl rfl)
theorem dJ2_add_1 : decode cJ2_add 1 = .ok (.dup, 1) := dk_89 (dk_at dksJ2_add_0 1 rfl rfl)
theorem dJ2_add_2 : decode cJ2_add 2 = .ok (.getfield 63, 3) := dk_180 0 63 (dk_at dksJ2_add_0 2 rfl rfl)
theorem dJ2_add_5 : decode cJ2_add 5 = .ok (.iconst 1, 1) := dk_4 (dk_at dksJ2_add_0 5 rfl rfl)
theorem dJ2_add_6 : decode cJ2_add 6 = .ok (.iadd, 1) := dk_96 (dk_at dksJ2_add_0 6 rfl rfl)
theorem dJ2_add_7 : decode cJ2_add 7 = .ok (.putfield 63, 3) := dk_181 0 63 (dk_at dksJ2_add_0 7 rfl rfl)
theorem dJ2_add_10 : decode cJ2_add 10 = .ok (.aload_n 0, 1) := dk_42 (dk_at dksJ2_add_0 10 rfl rfl)
theorem dJ2_add_11 : decode cJ2_add 11 = .ok (.aload_n 1, 1) := dk_43 (dk_at dksJ2_add_0 11 rfl rfl)
theorem dJ2_add_12 : decode cJ2_add 12 = .ok (.aload_n 0, 1) := dk_42 (dk_at dksJ2_add_0 12 rfl rfl)
theorem dJ2_add_13 : decode cJ2_add 13 = .ok (.getfield 9, 3) := dk_180 0 9 (dk_at dksJ2_add_0 13 rfl rfl)
theorem dJ2_add_16 : decode cJ2_add 16 = .ok (.aload_n 0, 1) := dk_42 (dk_at dksJ2_add_0 16 rfl rfl)
theorem dJ2_add_17 : decode cJ2_add 17 = .ok (.getfield 48, 3) := dk_180 0 48 (dk_at dksJ2_add_0 17 rfl rfl)
theorem dJ2_add_20 : decode cJ2_add 20 = .ok (.invokevirtual 131, 3) := dk_182 0 131 (dk_at dksJ2_add_0 20 rfl rfl)
theorem dJ2_add_23 : decode cJ2_add 23 = .ok (.iconst 1, 1) := dk_4 (dk_at dksJ2_add_0 23 rfl rfl)
theorem dJ2_add_24 : decode cJ2_add 24 = .ok (.ireturn, 1) := dk_172 (dk_at dksJ2_add_1 0 rfl rfl)
abbrev cJ2_add_2 : ByteArray := prog_50_method_24_code
def yJ2_add_2 : MethodName := ⟨RJ2, "add", "(Ljava/lang/Object;[Ljava/lang/Object;I)V"⟩
def dkwJ2_add_2_0 : List UInt8 := [29, 44, 190, 160, 0, 8, 42, 182, 0, 129, 77, 44, 29, 43, 83, 42, 29, 4, 96, 181, 0, 48, 177]
abbrev dktJ2_add_2_0 : List UInt8 := dkwJ2_add_2_0 ++ []
theorem dksJ2_add_2_0 : cJ2_add_2.data.toList.drop 0 = dktJ2_add_2_0 := by decide +kernel
theorem dJ2_add_2_0 : decode cJ2_add_2 0 = .ok (.iload_n 3, 1) := dk_29 (dk_at dksJ2_add_2_0 0 rfl rfl)
theorem dJ2_add_2_1 : decode cJ2_add_2 1 = .ok (.aload_n 2, 1) := dk_44 (dk_at dksJ2_add_2_0 1 rfl rfl)
theorem dJ2_add_2_2 : decode cJ2_add_2 2 = .ok (.arraylength, 1) := dk_190 (dk_at dksJ2_add_2_0 2 rfl rfl)
theorem dJ2_add_2_3 : decode cJ2_add_2 3 = .ok (.if_icmp .ne 8, 3) := dk_160 0 8 (dk_at dksJ2_add_2_0 3 rfl rfl)
theorem dJ2_add_2_6 : decode cJ2_add_2 6 = .ok (.aload_n 0, 1) := dk_42 (dk_at dksJ2_add_2_0 6 rfl rfl)
theorem dJ2_add_2_7 : decode cJ2_add_2 7 = .ok (.invokevirtual 129, 3) := dk_182 0 129 (dk_at dksJ2_add_2_0 7 rfl rfl)
theorem dJ2_add_2_10 : decode cJ2_add_2 10 = .ok (.astore_n 2, 1) := dk_77 (dk_at dksJ2_add_2_0 10 rfl rfl)
theorem dJ2_add_2_11 : decode cJ2_add_2 11 = .ok (.aload_n 2, 1) := dk_44 (dk_at dksJ2_add_2_0 11 rfl rfl)
theorem dJ2_add_2_12 : decode cJ2_add_2 12 = .ok (.iload_n 3, 1) := dk_29 (dk_at dksJ2_add_2_0 12 rfl rfl)
theorem dJ2_add_2_13 : decode cJ2_add_2 13 = .ok (.aload_n 1, 1) := dk_43 (dk_at dksJ2_add_2_0 13 rfl rfl)
theorem dJ2_add_2_14 : decode cJ2_add_2 14 = .ok (.aastore, 1) := dk_83 (dk_at dksJ2_add_2_0 14 rfl rfl)
theorem dJ2_add_2_15 : decode cJ2_add_2 15 = .ok (.aload_n 0, 1) := dk_42 (dk_at dksJ2_add_2_0 15 rfl rfl)
theorem dJ2_add_2_16 : decode cJ2_add_2 16 = .ok (.iload_n 3, 1) := dk_29 (dk_at dksJ2_add_2_0 16 rfl rfl)
theorem dJ2_add_2_17 : decode cJ2_add_2 17 = .ok (.iconst 1, 1) := dk_4 (dk_at dksJ2_add_2_0 17 rfl rfl)
theorem dJ2_add_2_18 : decode cJ2_add_2 18 = .ok (.iadd, 1) := dk_96 (dk_at dksJ2_add_2_0 18 rfl rfl)
theorem dJ2_add_2_19 : decode cJ2_add_2 19 = .ok (.putfield 48, 3) := dk_181 0 48 (dk_at dksJ2_add_2_0 19 rfl rfl)
theorem dJ2_add_2_22 : decode cJ2_add_2 22 = .ok (.return_, 1) := dk_177 (dk_at dksJ2_add_2_0 22 rfl rfl)
abbrev cJ2_grow : ByteArray := prog_50_method_7_code
def yJ2_grow : MethodName := ⟨RJ2, "grow", "()[Ljava/lang/Object;"⟩
def dkwJ2_grow_0 : List UInt8 := [42, 42, 180, 0, 48, 4, 96, 182, 0, 69, 176]
abbrev dktJ2_grow_0 : List UInt8 := dkwJ2_grow_0 ++ []
theorem dksJ2_grow_0 : cJ2_grow.data.toList.drop 0 = dktJ2_grow_0 := by decide +kernel
theorem dJ2_grow_0 : decode cJ2_grow 0 = .ok (.aload_n 0, 1) := dk_42 (dk_at dksJ2_grow_0 0 rfl rfl)
theorem dJ2_grow_1 : decode cJ2_grow 1 = .ok (.aload_n 0, 1) := dk_42 (dk_at dksJ2_grow_0 1 rfl rfl)
theorem dJ2_grow_2 : decode cJ2_grow 2 = .ok (.getfield 48, 3) := dk_180 0 48 (dk_at dksJ2_grow_0 2 rfl rfl)
theorem dJ2_grow_5 : decode cJ2_grow 5 = .ok (.iconst 1, 1) := dk_4 (dk_at dksJ2_grow_0 5 rfl rfl)
theorem dJ2_grow_6 : decode cJ2_grow 6 = .ok (.iadd, 1) := dk_96 (dk_at dksJ2_grow_0 6 rfl rfl)
theorem dJ2_grow_7 : decode cJ2_grow 7 = .ok (.invokevirtual 69, 3) := dk_182 0 69 (dk_at dksJ2_grow_0 7 rfl rfl)
theorem dJ2_grow_10 : decode cJ2_grow 10 = .ok (.areturn, 1) := dk_176 (dk_at dksJ2_grow_0 10 rfl rfl)
abbrev cJ2_grow_2 : ByteArray := prog_50_method_6_code
def yJ2_grow_2 : MethodName := ⟨RJ2, "grow", "(I)[Ljava/lang/Object;"⟩
def dkwJ2_grow_2_2 : List UInt8 := [27, 184, 0, 79, 189, 0, 7, 90, 181, 0, 9, 176]
abbrev dktJ2_grow_2_2 : List UInt8 := dkwJ2_grow_2_2 ++ []
def dkwJ2_grow_2_1 : List UInt8 := [28, 4, 122, 184, 0, 73, 62, 42, 42, 180, 0, 9, 29, 184, 0, 66, 90, 181, 0, 9, 176, 42, 16, 10]
abbrev dktJ2_grow_2_1 : List UInt8 := dkwJ2_grow_2_1 ++ dktJ2_grow_2_2
def dkwJ2_grow_2_0 : List UInt8 := [42, 180, 0, 9, 190, 61, 28, 157, 0, 13, 42, 180, 0, 9, 178, 0, 39, 165, 0, 28, 28, 27, 28, 100]
abbrev dktJ2_grow_2_0 : List UInt8 := dkwJ2_grow_2_0 ++ dktJ2_grow_2_1
theorem dksJ2_grow_2_0 : cJ2_grow_2.data.toList.drop 0 = dktJ2_grow_2_0 := by decide +kernel
theorem dksJ2_grow_2_1 : cJ2_grow_2.data.toList.drop 24 = dktJ2_grow_2_1 := dk_seg dksJ2_grow_2_0 24 rfl rfl
theorem dksJ2_grow_2_2 : cJ2_grow_2.data.toList.drop 48 = dktJ2_grow_2_2 := dk_seg dksJ2_grow_2_1 24 rfl rfl
theorem dJ2_grow_2_0 : decode cJ2_grow_2 0 = .ok (.aload_n 0, 1) := dk_42 (dk_at dksJ2_grow_2_0 0 rfl rfl)
theorem dJ2_grow_2_1 : decode cJ2_grow_2 1 = .ok (.getfield 9, 3) := dk_180 0 9 (dk_at dksJ2_grow_2_0 1 rfl rfl)
theorem dJ2_grow_2_4 : decode cJ2_grow_2 4 = .ok (.arraylength, 1) := dk_190 (dk_at dksJ2_grow_2_0 4 rfl rfl)
theorem dJ2_grow_2_5 : decode cJ2_grow_2 5 = .ok (.istore_n 2, 1) := dk_61 (dk_at dksJ2_grow_2_0 5 rfl rfl)
theorem dJ2_grow_2_6 : decode cJ2_grow_2 6 = .ok (.iload_n 2, 1) := dk_28 (dk_at dksJ2_grow_2_0 6 rfl rfl)
theorem dJ2_grow_2_7 : decode cJ2_grow_2 7 = .ok (.ifCond .gt 13, 3) := dk_157 0 13 (dk_at dksJ2_grow_2_0 7 rfl rfl)
theorem dJ2_grow_2_10 : decode cJ2_grow_2 10 = .ok (.aload_n 0, 1) := dk_42 (dk_at dksJ2_grow_2_0 10 rfl rfl)
theorem dJ2_grow_2_11 : decode cJ2_grow_2 11 = .ok (.getfield 9, 3) := dk_180 0 9 (dk_at dksJ2_grow_2_0 11 rfl rfl)
theorem dJ2_grow_2_14 : decode cJ2_grow_2 14 = .ok (.getstatic 39, 3) := dk_178 0 39 (dk_at dksJ2_grow_2_0 14 rfl rfl)
theorem dJ2_grow_2_17 : decode cJ2_grow_2 17 = .ok (.if_acmp .eq 28, 3) := dk_165 0 28 (dk_at dksJ2_grow_2_0 17 rfl rfl)
theorem dJ2_grow_2_20 : decode cJ2_grow_2 20 = .ok (.iload_n 2, 1) := dk_28 (dk_at dksJ2_grow_2_0 20 rfl rfl)
theorem dJ2_grow_2_21 : decode cJ2_grow_2 21 = .ok (.iload_n 1, 1) := dk_27 (dk_at dksJ2_grow_2_0 21 rfl rfl)
theorem dJ2_grow_2_22 : decode cJ2_grow_2 22 = .ok (.iload_n 2, 1) := dk_28 (dk_at dksJ2_grow_2_0 22 rfl rfl)
theorem dJ2_grow_2_23 : decode cJ2_grow_2 23 = .ok (.isub, 1) := dk_100 (dk_at dksJ2_grow_2_0 23 rfl rfl)
theorem dJ2_grow_2_24 : decode cJ2_grow_2 24 = .ok (.iload_n 2, 1) := dk_28 (dk_at dksJ2_grow_2_1 0 rfl rfl)
theorem dJ2_grow_2_25 : decode cJ2_grow_2 25 = .ok (.iconst 1, 1) := dk_4 (dk_at dksJ2_grow_2_1 1 rfl rfl)
theorem dJ2_grow_2_26 : decode cJ2_grow_2 26 = .ok (.ishr, 1) := dk_122 (dk_at dksJ2_grow_2_1 2 rfl rfl)
theorem dJ2_grow_2_27 : decode cJ2_grow_2 27 = .ok (.invokestatic 73, 3) := dk_184 0 73 (dk_at dksJ2_grow_2_1 3 rfl rfl)
theorem dJ2_grow_2_30 : decode cJ2_grow_2 30 = .ok (.istore_n 3, 1) := dk_62 (dk_at dksJ2_grow_2_1 6 rfl rfl)
theorem dJ2_grow_2_31 : decode cJ2_grow_2 31 = .ok (.aload_n 0, 1) := dk_42 (dk_at dksJ2_grow_2_1 7 rfl rfl)
theorem dJ2_grow_2_32 : decode cJ2_grow_2 32 = .ok (.aload_n 0, 1) := dk_42 (dk_at dksJ2_grow_2_1 8 rfl rfl)
theorem dJ2_grow_2_33 : decode cJ2_grow_2 33 = .ok (.getfield 9, 3) := dk_180 0 9 (dk_at dksJ2_grow_2_1 9 rfl rfl)
theorem dJ2_grow_2_36 : decode cJ2_grow_2 36 = .ok (.iload_n 3, 1) := dk_29 (dk_at dksJ2_grow_2_1 12 rfl rfl)
theorem dJ2_grow_2_37 : decode cJ2_grow_2 37 = .ok (.invokestatic 66, 3) := dk_184 0 66 (dk_at dksJ2_grow_2_1 13 rfl rfl)
theorem dJ2_grow_2_40 : decode cJ2_grow_2 40 = .ok (.dup_x1, 1) := dk_90 (dk_at dksJ2_grow_2_1 16 rfl rfl)
theorem dJ2_grow_2_41 : decode cJ2_grow_2 41 = .ok (.putfield 9, 3) := dk_181 0 9 (dk_at dksJ2_grow_2_1 17 rfl rfl)
theorem dJ2_grow_2_44 : decode cJ2_grow_2 44 = .ok (.areturn, 1) := dk_176 (dk_at dksJ2_grow_2_1 20 rfl rfl)
theorem dJ2_grow_2_45 : decode cJ2_grow_2 45 = .ok (.aload_n 0, 1) := dk_42 (dk_at dksJ2_grow_2_1 21 rfl rfl)
theorem dJ2_grow_2_46 : decode cJ2_grow_2 46 = .ok (.bipush 10, 2) := dk_16 10 (dk_at dksJ2_grow_2_1 22 rfl rfl)
theorem dJ2_grow_2_48 : decode cJ2_grow_2 48 = .ok (.iload_n 1, 1) := dk_27 (dk_at dksJ2_grow_2_2 0 rfl rfl)
theorem dJ2_grow_2_49 : decode cJ2_grow_2 49 = .ok (.invokestatic 79, 3) := dk_184 0 79 (dk_at dksJ2_grow_2_2 1 rfl rfl)
theorem dJ2_grow_2_52 : decode cJ2_grow_2 52 = .ok (.anewarray 7, 3) := dk_189 0 7 (dk_at dksJ2_grow_2_2 4 rfl rfl)
theorem dJ2_grow_2_55 : decode cJ2_grow_2 55 = .ok (.dup_x1, 1) := dk_90 (dk_at dksJ2_grow_2_2 7 rfl rfl)
theorem dJ2_grow_2_56 : decode cJ2_grow_2 56 = .ok (.putfield 9, 3) := dk_181 0 9 (dk_at dksJ2_grow_2_2 8 rfl rfl)
theorem dJ2_grow_2_59 : decode cJ2_grow_2 59 = .ok (.areturn, 1) := dk_176 (dk_at dksJ2_grow_2_2 11 rfl rfl)
abbrev cJ2_get : ByteArray := prog_50_method_20_code
def yJ2_get : MethodName := ⟨RJ2, "get", "(I)Ljava/lang/Object;"⟩
def dkwJ2_get_0 : List UInt8 := [27, 42, 180, 0, 48, 184, 0, 118, 87, 42, 27, 182, 0, 123, 176]
abbrev dktJ2_get_0 : List UInt8 := dkwJ2_get_0 ++ []
theorem dksJ2_get_0 : cJ2_get.data.toList.drop 0 = dktJ2_get_0 := by decide +kernel
theorem dJ2_get_0 : decode cJ2_get 0 = .ok (.iload_n 1, 1) := dk_27 (dk_at dksJ2_get_0 0 rfl rfl)
theorem dJ2_get_1 : decode cJ2_get 1 = .ok (.aload_n 0, 1) := dk_42 (dk_at dksJ2_get_0 1 rfl rfl)
theorem dJ2_get_2 : decode cJ2_get 2 = .ok (.getfield 48, 3) := dk_180 0 48 (dk_at dksJ2_get_0 2 rfl rfl)
theorem dJ2_get_5 : decode cJ2_get 5 = .ok (.invokestatic 118, 3) := dk_184 0 118 (dk_at dksJ2_get_0 5 rfl rfl)
theorem dJ2_get_8 : decode cJ2_get 8 = .ok (.pop, 1) := dk_87 (dk_at dksJ2_get_0 8 rfl rfl)
theorem dJ2_get_9 : decode cJ2_get 9 = .ok (.aload_n 0, 1) := dk_42 (dk_at dksJ2_get_0 9 rfl rfl)
theorem dJ2_get_10 : decode cJ2_get 10 = .ok (.iload_n 1, 1) := dk_27 (dk_at dksJ2_get_0 10 rfl rfl)
theorem dJ2_get_11 : decode cJ2_get 11 = .ok (.invokevirtual 123, 3) := dk_182 0 123 (dk_at dksJ2_get_0 11 rfl rfl)
theorem dJ2_get_14 : decode cJ2_get 14 = .ok (.areturn, 1) := dk_176 (dk_at dksJ2_get_0 14 rfl rfl)
abbrev cJ2_elementData : ByteArray := prog_50_method_18_code
def yJ2_elementData : MethodName := ⟨RJ2, "elementData", "(I)Ljava/lang/Object;"⟩
def dkwJ2_elementData_0 : List UInt8 := [42, 180, 0, 9, 27, 50, 176]
abbrev dktJ2_elementData_0 : List UInt8 := dkwJ2_elementData_0 ++ []
theorem dksJ2_elementData_0 : cJ2_elementData.data.toList.drop 0 = dktJ2_elementData_0 := by decide +kernel
theorem dJ2_elementData_0 : decode cJ2_elementData 0 = .ok (.aload_n 0, 1) := dk_42 (dk_at dksJ2_elementData_0 0 rfl rfl)
theorem dJ2_elementData_1 : decode cJ2_elementData 1 = .ok (.getfield 9, 3) := dk_180 0 9 (dk_at dksJ2_elementData_0 1 rfl rfl)
theorem dJ2_elementData_4 : decode cJ2_elementData 4 = .ok (.iload_n 1, 1) := dk_27 (dk_at dksJ2_elementData_0 4 rfl rfl)
theorem dJ2_elementData_5 : decode cJ2_elementData 5 = .ok (.aaload, 1) := dk_50 (dk_at dksJ2_elementData_0 5 rfl rfl)
theorem dJ2_elementData_6 : decode cJ2_elementData 6 = .ok (.areturn, 1) := dk_176 (dk_at dksJ2_elementData_0 6 rfl rfl)
abbrev cJ2_isEmpty : ByteArray := prog_50_method_9_code
def yJ2_isEmpty : MethodName := ⟨RJ2, "isEmpty", "()Z"⟩
def dkwJ2_isEmpty_0 : List UInt8 := [42, 180, 0, 48, 154, 0, 7, 4, 167, 0, 4, 3, 172]
abbrev dktJ2_isEmpty_0 : List UInt8 := dkwJ2_isEmpty_0 ++ []
theorem dksJ2_isEmpty_0 : cJ2_isEmpty.data.toList.drop 0 = dktJ2_isEmpty_0 := by decide +kernel
theorem dJ2_isEmpty_0 : decode cJ2_isEmpty 0 = .ok (.aload_n 0, 1) := dk_42 (dk_at dksJ2_isEmpty_0 0 rfl rfl)
theorem dJ2_isEmpty_1 : decode cJ2_isEmpty 1 = .ok (.getfield 48, 3) := dk_180 0 48 (dk_at dksJ2_isEmpty_0 1 rfl rfl)
theorem dJ2_isEmpty_4 : decode cJ2_isEmpty 4 = .ok (.ifCond .ne 7, 3) := dk_154 0 7 (dk_at dksJ2_isEmpty_0 4 rfl rfl)
theorem dJ2_isEmpty_7 : decode cJ2_isEmpty 7 = .ok (.iconst 1, 1) := dk_4 (dk_at dksJ2_isEmpty_0 7 rfl rfl)
theorem dJ2_isEmpty_8 : decode cJ2_isEmpty 8 = .ok (.goto 4, 3) := dk_167 0 4 (dk_at dksJ2_isEmpty_0 8 rfl rfl)
theorem dJ2_isEmpty_11 : decode cJ2_isEmpty 11 = .ok (.iconst 0, 1) := dk_3 (dk_at dksJ2_isEmpty_0 11 rfl rfl)
theorem dJ2_isEmpty_12 : decode cJ2_isEmpty 12 = .ok (.ireturn, 1) := dk_172 (dk_at dksJ2_isEmpty_0 12 rfl rfl)
abbrev cJ2_remove : ByteArray := prog_50_method_29_code
def yJ2_remove : MethodName := ⟨RJ2, "remove", "(I)Ljava/lang/Object;"⟩
def dkwJ2_remove_1 : List UInt8 := [45, 176]
abbrev dktJ2_remove_1 : List UInt8 := dkwJ2_remove_1 ++ []
def dkwJ2_remove_0 : List UInt8 := [27, 42, 180, 0, 48, 184, 0, 118, 87, 42, 180, 0, 9, 77, 44, 27, 50, 78, 42, 44, 27, 182, 0, 144]
abbrev dktJ2_remove_0 : List UInt8 := dkwJ2_remove_0 ++ dktJ2_remove_1
theorem dksJ2_remove_0 : cJ2_remove.data.toList.drop 0 = dktJ2_remove_0 := by decide +kernel
theorem dksJ2_remove_1 : cJ2_remove.data.toList.drop 24 = dktJ2_remove_1 := dk_seg dksJ2_remove_0 24 rfl rfl
theorem dJ2_remove_0 : decode cJ2_remove 0 = .ok (.iload_n 1, 1) := dk_27 (dk_at dksJ2_remove_0 0 rfl rfl)
theorem dJ2_remove_1 : decode cJ2_remove 1 = .ok (.aload_n 0, 1) := dk_42 (dk_at dksJ2_remove_0 1 rfl rfl)
theorem dJ2_remove_2 : decode cJ2_remove 2 = .ok (.getfield 48, 3) := dk_180 0 48 (dk_at dksJ2_remove_0 2 rfl rfl)
theorem dJ2_remove_5 : decode cJ2_remove 5 = .ok (.invokestatic 118, 3) := dk_184 0 118 (dk_at dksJ2_remove_0 5 rfl rfl)
theorem dJ2_remove_8 : decode cJ2_remove 8 = .ok (.pop, 1) := dk_87 (dk_at dksJ2_remove_0 8 rfl rfl)
theorem dJ2_remove_9 : decode cJ2_remove 9 = .ok (.aload_n 0, 1) := dk_42 (dk_at dksJ2_remove_0 9 rfl rfl)
theorem dJ2_remove_10 : decode cJ2_remove 10 = .ok (.getfield 9, 3) := dk_180 0 9 (dk_at dksJ2_remove_0 10 rfl rfl)
theorem dJ2_remove_13 : decode cJ2_remove 13 = .ok (.astore_n 2, 1) := dk_77 (dk_at dksJ2_remove_0 13 rfl rfl)
theorem dJ2_remove_14 : decode cJ2_remove 14 = .ok (.aload_n 2, 1) := dk_44 (dk_at dksJ2_remove_0 14 rfl rfl)
theorem dJ2_remove_15 : decode cJ2_remove 15 = .ok (.iload_n 1, 1) := dk_27 (dk_at dksJ2_remove_0 15 rfl rfl)
theorem dJ2_remove_16 : decode cJ2_remove 16 = .ok (.aaload, 1) := dk_50 (dk_at dksJ2_remove_0 16 rfl rfl)
theorem dJ2_remove_17 : decode cJ2_remove 17 = .ok (.astore_n 3, 1) := dk_78 (dk_at dksJ2_remove_0 17 rfl rfl)
theorem dJ2_remove_18 : decode cJ2_remove 18 = .ok (.aload_n 0, 1) := dk_42 (dk_at dksJ2_remove_0 18 rfl rfl)
theorem dJ2_remove_19 : decode cJ2_remove 19 = .ok (.aload_n 2, 1) := dk_44 (dk_at dksJ2_remove_0 19 rfl rfl)
theorem dJ2_remove_20 : decode cJ2_remove 20 = .ok (.iload_n 1, 1) := dk_27 (dk_at dksJ2_remove_0 20 rfl rfl)
theorem dJ2_remove_21 : decode cJ2_remove 21 = .ok (.invokevirtual 144, 3) := dk_182 0 144 (dk_at dksJ2_remove_0 21 rfl rfl)
theorem dJ2_remove_24 : decode cJ2_remove 24 = .ok (.aload_n 3, 1) := dk_45 (dk_at dksJ2_remove_1 0 rfl rfl)
theorem dJ2_remove_25 : decode cJ2_remove 25 = .ok (.areturn, 1) := dk_176 (dk_at dksJ2_remove_1 1 rfl rfl)
abbrev cJ2_fastRemove : ByteArray := prog_50_method_39_code
def yJ2_fastRemove : MethodName := ⟨RJ2, "fastRemove", "([Ljava/lang/Object;I)V"⟩
def dkwJ2_fastRemove_1 : List UInt8 := [4, 96, 43, 28, 29, 28, 100, 184, 0, 112, 43, 42, 29, 90, 181, 0, 48, 1, 83, 177]
abbrev dktJ2_fastRemove_1 : List UInt8 := dkwJ2_fastRemove_1 ++ []
def dkwJ2_fastRemove_0 : List UInt8 := [42, 89, 180, 0, 63, 4, 96, 181, 0, 63, 42, 180, 0, 48, 4, 100, 89, 62, 28, 164, 0, 15, 43, 28]
abbrev dktJ2_fastRemove_0 : List UInt8 := dkwJ2_fastRemove_0 ++ dktJ2_fastRemove_1
theorem dksJ2_fastRemove_0 : cJ2_fastRemove.data.toList.drop 0 = dktJ2_fastRemove_0 := by decide +kernel
theorem dksJ2_fastRemove_1 : cJ2_fastRemove.data.toList.drop 24 = dktJ2_fastRemove_1 := dk_seg dksJ2_fastRemove_0 24 rfl rfl
theorem dJ2_fastRemove_0 : decode cJ2_fastRemove 0 = .ok (.aload_n 0, 1) := dk_42 (dk_at dksJ2_fastRemove_0 0 rfl rfl)
theorem dJ2_fastRemove_1 : decode cJ2_fastRemove 1 = .ok (.dup, 1) := dk_89 (dk_at dksJ2_fastRemove_0 1 rfl rfl)
theorem dJ2_fastRemove_2 : decode cJ2_fastRemove 2 = .ok (.getfield 63, 3) := dk_180 0 63 (dk_at dksJ2_fastRemove_0 2 rfl rfl)
theorem dJ2_fastRemove_5 : decode cJ2_fastRemove 5 = .ok (.iconst 1, 1) := dk_4 (dk_at dksJ2_fastRemove_0 5 rfl rfl)
theorem dJ2_fastRemove_6 : decode cJ2_fastRemove 6 = .ok (.iadd, 1) := dk_96 (dk_at dksJ2_fastRemove_0 6 rfl rfl)
theorem dJ2_fastRemove_7 : decode cJ2_fastRemove 7 = .ok (.putfield 63, 3) := dk_181 0 63 (dk_at dksJ2_fastRemove_0 7 rfl rfl)
theorem dJ2_fastRemove_10 : decode cJ2_fastRemove 10 = .ok (.aload_n 0, 1) := dk_42 (dk_at dksJ2_fastRemove_0 10 rfl rfl)
theorem dJ2_fastRemove_11 : decode cJ2_fastRemove 11 = .ok (.getfield 48, 3) := dk_180 0 48 (dk_at dksJ2_fastRemove_0 11 rfl rfl)
theorem dJ2_fastRemove_14 : decode cJ2_fastRemove 14 = .ok (.iconst 1, 1) := dk_4 (dk_at dksJ2_fastRemove_0 14 rfl rfl)
theorem dJ2_fastRemove_15 : decode cJ2_fastRemove 15 = .ok (.isub, 1) := dk_100 (dk_at dksJ2_fastRemove_0 15 rfl rfl)
theorem dJ2_fastRemove_16 : decode cJ2_fastRemove 16 = .ok (.dup, 1) := dk_89 (dk_at dksJ2_fastRemove_0 16 rfl rfl)
theorem dJ2_fastRemove_17 : decode cJ2_fastRemove 17 = .ok (.istore_n 3, 1) := dk_62 (dk_at dksJ2_fastRemove_0 17 rfl rfl)
theorem dJ2_fastRemove_18 : decode cJ2_fastRemove 18 = .ok (.iload_n 2, 1) := dk_28 (dk_at dksJ2_fastRemove_0 18 rfl rfl)
theorem dJ2_fastRemove_19 : decode cJ2_fastRemove 19 = .ok (.if_icmp .le 15, 3) := dk_164 0 15 (dk_at dksJ2_fastRemove_0 19 rfl rfl)
theorem dJ2_fastRemove_22 : decode cJ2_fastRemove 22 = .ok (.aload_n 1, 1) := dk_43 (dk_at dksJ2_fastRemove_0 22 rfl rfl)
theorem dJ2_fastRemove_23 : decode cJ2_fastRemove 23 = .ok (.iload_n 2, 1) := dk_28 (dk_at dksJ2_fastRemove_0 23 rfl rfl)
theorem dJ2_fastRemove_24 : decode cJ2_fastRemove 24 = .ok (.iconst 1, 1) := dk_4 (dk_at dksJ2_fastRemove_1 0 rfl rfl)
theorem dJ2_fastRemove_25 : decode cJ2_fastRemove 25 = .ok (.iadd, 1) := dk_96 (dk_at dksJ2_fastRemove_1 1 rfl rfl)
theorem dJ2_fastRemove_26 : decode cJ2_fastRemove 26 = .ok (.aload_n 1, 1) := dk_43 (dk_at dksJ2_fastRemove_1 2 rfl rfl)
theorem dJ2_fastRemove_27 : decode cJ2_fastRemove 27 = .ok (.iload_n 2, 1) := dk_28 (dk_at dksJ2_fastRemove_1 3 rfl rfl)
theorem dJ2_fastRemove_28 : decode cJ2_fastRemove 28 = .ok (.iload_n 3, 1) := dk_29 (dk_at dksJ2_fastRemove_1 4 rfl rfl)
theorem dJ2_fastRemove_29 : decode cJ2_fastRemove 29 = .ok (.iload_n 2, 1) := dk_28 (dk_at dksJ2_fastRemove_1 5 rfl rfl)
theorem dJ2_fastRemove_30 : decode cJ2_fastRemove 30 = .ok (.isub, 1) := dk_100 (dk_at dksJ2_fastRemove_1 6 rfl rfl)
theorem dJ2_fastRemove_31 : decode cJ2_fastRemove 31 = .ok (.invokestatic 112, 3) := dk_184 0 112 (dk_at dksJ2_fastRemove_1 7 rfl rfl)
theorem dJ2_fastRemove_34 : decode cJ2_fastRemove 34 = .ok (.aload_n 1, 1) := dk_43 (dk_at dksJ2_fastRemove_1 10 rfl rfl)
theorem dJ2_fastRemove_35 : decode cJ2_fastRemove 35 = .ok (.aload_n 0, 1) := dk_42 (dk_at dksJ2_fastRemove_1 11 rfl rfl)
theorem dJ2_fastRemove_36 : decode cJ2_fastRemove 36 = .ok (.iload_n 3, 1) := dk_29 (dk_at dksJ2_fastRemove_1 12 rfl rfl)
theorem dJ2_fastRemove_37 : decode cJ2_fastRemove 37 = .ok (.dup_x1, 1) := dk_90 (dk_at dksJ2_fastRemove_1 13 rfl rfl)
theorem dJ2_fastRemove_38 : decode cJ2_fastRemove 38 = .ok (.putfield 48, 3) := dk_181 0 48 (dk_at dksJ2_fastRemove_1 14 rfl rfl)
theorem dJ2_fastRemove_41 : decode cJ2_fastRemove 41 = .ok (.aconst_null, 1) := dk_1 (dk_at dksJ2_fastRemove_1 17 rfl rfl)
theorem dJ2_fastRemove_42 : decode cJ2_fastRemove 42 = .ok (.aastore, 1) := dk_83 (dk_at dksJ2_fastRemove_1 18 rfl rfl)
theorem dJ2_fastRemove_43 : decode cJ2_fastRemove 43 = .ok (.return_, 1) := dk_177 (dk_at dksJ2_fastRemove_1 19 rfl rfl)
abbrev cJ2_add_3 : ByteArray := prog_50_method_26_code
def yJ2_add_3 : MethodName := ⟨RJ2, "add", "(ILjava/lang/Object;)V"⟩
def dkwJ2_add_3_2 : List UInt8 := [29, 27, 100, 184, 0, 112, 25, 4, 27, 44, 83, 42, 29, 4, 96, 181, 0, 48, 177]
abbrev dktJ2_add_3_2 : List UInt8 := dkwJ2_add_3_2 ++ []
def dkwJ2_add_3_1 : List UInt8 := [180, 0, 9, 89, 58, 4, 190, 160, 0, 9, 42, 182, 0, 129, 58, 4, 25, 4, 27, 25, 4, 27, 4, 96]
abbrev dktJ2_add_3_1 : List UInt8 := dkwJ2_add_3_1 ++ dktJ2_add_3_2
def dkwJ2_add_3_0 : List UInt8 := [42, 27, 182, 0, 135, 42, 89, 180, 0, 63, 4, 96, 181, 0, 63, 42, 180, 0, 48, 89, 62, 42]
abbrev dktJ2_add_3_0 : List UInt8 := dkwJ2_add_3_0 ++ dktJ2_add_3_1
theorem dksJ2_add_3_0 : cJ2_add_3.data.toList.drop 0 = dktJ2_add_3_0 := by decide +kernel
theorem dksJ2_add_3_1 : cJ2_add_3.data.toList.drop 22 = dktJ2_add_3_1 := dk_seg dksJ2_add_3_0 22 rfl rfl
theorem dksJ2_add_3_2 : cJ2_add_3.data.toList.drop 46 = dktJ2_add_3_2 := dk_seg dksJ2_add_3_1 24 rfl rfl
theorem dJ2_add_3_0 : decode cJ2_add_3 0 = .ok (.aload_n 0, 1) := dk_42 (dk_at dksJ2_add_3_0 0 rfl rfl)
theorem dJ2_add_3_1 : decode cJ2_add_3 1 = .ok (.iload_n 1, 1) := dk_27 (dk_at dksJ2_add_3_0 1 rfl rfl)
theorem dJ2_add_3_2 : decode cJ2_add_3 2 = .ok (.invokevirtual 135, 3) := dk_182 0 135 (dk_at dksJ2_add_3_0 2 rfl rfl)
theorem dJ2_add_3_5 : decode cJ2_add_3 5 = .ok (.aload_n 0, 1) := dk_42 (dk_at dksJ2_add_3_0 5 rfl rfl)
theorem dJ2_add_3_6 : decode cJ2_add_3 6 = .ok (.dup, 1) := dk_89 (dk_at dksJ2_add_3_0 6 rfl rfl)
theorem dJ2_add_3_7 : decode cJ2_add_3 7 = .ok (.getfield 63, 3) := dk_180 0 63 (dk_at dksJ2_add_3_0 7 rfl rfl)
theorem dJ2_add_3_10 : decode cJ2_add_3 10 = .ok (.iconst 1, 1) := dk_4 (dk_at dksJ2_add_3_0 10 rfl rfl)
theorem dJ2_add_3_11 : decode cJ2_add_3 11 = .ok (.iadd, 1) := dk_96 (dk_at dksJ2_add_3_0 11 rfl rfl)
theorem dJ2_add_3_12 : decode cJ2_add_3 12 = .ok (.putfield 63, 3) := dk_181 0 63 (dk_at dksJ2_add_3_0 12 rfl rfl)
theorem dJ2_add_3_15 : decode cJ2_add_3 15 = .ok (.aload_n 0, 1) := dk_42 (dk_at dksJ2_add_3_0 15 rfl rfl)
theorem dJ2_add_3_16 : decode cJ2_add_3 16 = .ok (.getfield 48, 3) := dk_180 0 48 (dk_at dksJ2_add_3_0 16 rfl rfl)
theorem dJ2_add_3_19 : decode cJ2_add_3 19 = .ok (.dup, 1) := dk_89 (dk_at dksJ2_add_3_0 19 rfl rfl)
theorem dJ2_add_3_20 : decode cJ2_add_3 20 = .ok (.istore_n 3, 1) := dk_62 (dk_at dksJ2_add_3_0 20 rfl rfl)
theorem dJ2_add_3_21 : decode cJ2_add_3 21 = .ok (.aload_n 0, 1) := dk_42 (dk_at dksJ2_add_3_0 21 rfl rfl)
theorem dJ2_add_3_22 : decode cJ2_add_3 22 = .ok (.getfield 9, 3) := dk_180 0 9 (dk_at dksJ2_add_3_1 0 rfl rfl)
theorem dJ2_add_3_25 : decode cJ2_add_3 25 = .ok (.dup, 1) := dk_89 (dk_at dksJ2_add_3_1 3 rfl rfl)
theorem dJ2_add_3_26 : decode cJ2_add_3 26 = .ok (.astore 4, 2) := dk_58 4 (dk_at dksJ2_add_3_1 4 rfl rfl)
theorem dJ2_add_3_28 : decode cJ2_add_3 28 = .ok (.arraylength, 1) := dk_190 (dk_at dksJ2_add_3_1 6 rfl rfl)
theorem dJ2_add_3_29 : decode cJ2_add_3 29 = .ok (.if_icmp .ne 9, 3) := dk_160 0 9 (dk_at dksJ2_add_3_1 7 rfl rfl)
theorem dJ2_add_3_32 : decode cJ2_add_3 32 = .ok (.aload_n 0, 1) := dk_42 (dk_at dksJ2_add_3_1 10 rfl rfl)
theorem dJ2_add_3_33 : decode cJ2_add_3 33 = .ok (.invokevirtual 129, 3) := dk_182 0 129 (dk_at dksJ2_add_3_1 11 rfl rfl)
theorem dJ2_add_3_36 : decode cJ2_add_3 36 = .ok (.astore 4, 2) := dk_58 4 (dk_at dksJ2_add_3_1 14 rfl rfl)
theorem dJ2_add_3_38 : decode cJ2_add_3 38 = .ok (.aload 4, 2) := dk_25 4 (dk_at dksJ2_add_3_1 16 rfl rfl)
theorem dJ2_add_3_40 : decode cJ2_add_3 40 = .ok (.iload_n 1, 1) := dk_27 (dk_at dksJ2_add_3_1 18 rfl rfl)
theorem dJ2_add_3_41 : decode cJ2_add_3 41 = .ok (.aload 4, 2) := dk_25 4 (dk_at dksJ2_add_3_1 19 rfl rfl)
theorem dJ2_add_3_43 : decode cJ2_add_3 43 = .ok (.iload_n 1, 1) := dk_27 (dk_at dksJ2_add_3_1 21 rfl rfl)
theorem dJ2_add_3_44 : decode cJ2_add_3 44 = .ok (.iconst 1, 1) := dk_4 (dk_at dksJ2_add_3_1 22 rfl rfl)
theorem dJ2_add_3_45 : decode cJ2_add_3 45 = .ok (.iadd, 1) := dk_96 (dk_at dksJ2_add_3_1 23 rfl rfl)
theorem dJ2_add_3_46 : decode cJ2_add_3 46 = .ok (.iload_n 3, 1) := dk_29 (dk_at dksJ2_add_3_2 0 rfl rfl)
theorem dJ2_add_3_47 : decode cJ2_add_3 47 = .ok (.iload_n 1, 1) := dk_27 (dk_at dksJ2_add_3_2 1 rfl rfl)
theorem dJ2_add_3_48 : decode cJ2_add_3 48 = .ok (.isub, 1) := dk_100 (dk_at dksJ2_add_3_2 2 rfl rfl)
theorem dJ2_add_3_49 : decode cJ2_add_3 49 = .ok (.invokestatic 112, 3) := dk_184 0 112 (dk_at dksJ2_add_3_2 3 rfl rfl)
theorem dJ2_add_3_52 : decode cJ2_add_3 52 = .ok (.aload 4, 2) := dk_25 4 (dk_at dksJ2_add_3_2 6 rfl rfl)
theorem dJ2_add_3_54 : decode cJ2_add_3 54 = .ok (.iload_n 1, 1) := dk_27 (dk_at dksJ2_add_3_2 8 rfl rfl)
theorem dJ2_add_3_55 : decode cJ2_add_3 55 = .ok (.aload_n 2, 1) := dk_44 (dk_at dksJ2_add_3_2 9 rfl rfl)
theorem dJ2_add_3_56 : decode cJ2_add_3 56 = .ok (.aastore, 1) := dk_83 (dk_at dksJ2_add_3_2 10 rfl rfl)
theorem dJ2_add_3_57 : decode cJ2_add_3 57 = .ok (.aload_n 0, 1) := dk_42 (dk_at dksJ2_add_3_2 11 rfl rfl)
theorem dJ2_add_3_58 : decode cJ2_add_3 58 = .ok (.iload_n 3, 1) := dk_29 (dk_at dksJ2_add_3_2 12 rfl rfl)
theorem dJ2_add_3_59 : decode cJ2_add_3 59 = .ok (.iconst 1, 1) := dk_4 (dk_at dksJ2_add_3_2 13 rfl rfl)
theorem dJ2_add_3_60 : decode cJ2_add_3 60 = .ok (.iadd, 1) := dk_96 (dk_at dksJ2_add_3_2 14 rfl rfl)
theorem dJ2_add_3_61 : decode cJ2_add_3 61 = .ok (.putfield 48, 3) := dk_181 0 48 (dk_at dksJ2_add_3_2 15 rfl rfl)
theorem dJ2_add_3_64 : decode cJ2_add_3 64 = .ok (.return_, 1) := dk_177 (dk_at dksJ2_add_3_2 18 rfl rfl)
abbrev cJ2_rangeCheckForAdd : ByteArray := prog_50_method_45_code
def yJ2_rangeCheckForAdd : MethodName := ⟨RJ2, "rangeCheckForAdd", "(I)V"⟩
def dkwJ2_rangeCheckForAdd_1 : List UInt8 := [191, 177]
abbrev dktJ2_rangeCheckForAdd_1 : List UInt8 := dkwJ2_rangeCheckForAdd_1 ++ []
def dkwJ2_rangeCheckForAdd_0 : List UInt8 := [27, 42, 180, 0, 48, 163, 0, 7, 27, 156, 0, 16, 187, 0, 187, 89, 42, 27, 182, 0, 198, 183, 0, 193]
abbrev dktJ2_rangeCheckForAdd_0 : List UInt8 := dkwJ2_rangeCheckForAdd_0 ++ dktJ2_rangeCheckForAdd_1
theorem dksJ2_rangeCheckForAdd_0 : cJ2_rangeCheckForAdd.data.toList.drop 0 = dktJ2_rangeCheckForAdd_0 := by decide +kernel
theorem dksJ2_rangeCheckForAdd_1 : cJ2_rangeCheckForAdd.data.toList.drop 24 = dktJ2_rangeCheckForAdd_1 := dk_seg dksJ2_rangeCheckForAdd_0 24 rfl rfl
theorem dJ2_rangeCheckForAdd_0 : decode cJ2_rangeCheckForAdd 0 = .ok (.iload_n 1, 1) := dk_27 (dk_at dksJ2_rangeCheckForAdd_0 0 rfl rfl)
theorem dJ2_rangeCheckForAdd_1 : decode cJ2_rangeCheckForAdd 1 = .ok (.aload_n 0, 1) := dk_42 (dk_at dksJ2_rangeCheckForAdd_0 1 rfl rfl)
theorem dJ2_rangeCheckForAdd_2 : decode cJ2_rangeCheckForAdd 2 = .ok (.getfield 48, 3) := dk_180 0 48 (dk_at dksJ2_rangeCheckForAdd_0 2 rfl rfl)
theorem dJ2_rangeCheckForAdd_5 : decode cJ2_rangeCheckForAdd 5 = .ok (.if_icmp .gt 7, 3) := dk_163 0 7 (dk_at dksJ2_rangeCheckForAdd_0 5 rfl rfl)
theorem dJ2_rangeCheckForAdd_8 : decode cJ2_rangeCheckForAdd 8 = .ok (.iload_n 1, 1) := dk_27 (dk_at dksJ2_rangeCheckForAdd_0 8 rfl rfl)
theorem dJ2_rangeCheckForAdd_9 : decode cJ2_rangeCheckForAdd 9 = .ok (.ifCond .ge 16, 3) := dk_156 0 16 (dk_at dksJ2_rangeCheckForAdd_0 9 rfl rfl)
theorem dJ2_rangeCheckForAdd_12 : decode cJ2_rangeCheckForAdd 12 = .ok (.new 187, 3) := dk_187 0 187 (dk_at dksJ2_rangeCheckForAdd_0 12 rfl rfl)
theorem dJ2_rangeCheckForAdd_15 : decode cJ2_rangeCheckForAdd 15 = .ok (.dup, 1) := dk_89 (dk_at dksJ2_rangeCheckForAdd_0 15 rfl rfl)
theorem dJ2_rangeCheckForAdd_16 : decode cJ2_rangeCheckForAdd 16 = .ok (.aload_n 0, 1) := dk_42 (dk_at dksJ2_rangeCheckForAdd_0 16 rfl rfl)
theorem dJ2_rangeCheckForAdd_17 : decode cJ2_rangeCheckForAdd 17 = .ok (.iload_n 1, 1) := dk_27 (dk_at dksJ2_rangeCheckForAdd_0 17 rfl rfl)
theorem dJ2_rangeCheckForAdd_18 : decode cJ2_rangeCheckForAdd 18 = .ok (.invokevirtual 198, 3) := dk_182 0 198 (dk_at dksJ2_rangeCheckForAdd_0 18 rfl rfl)
theorem dJ2_rangeCheckForAdd_21 : decode cJ2_rangeCheckForAdd 21 = .ok (.invokespecial 193, 3) := dk_183 0 193 (dk_at dksJ2_rangeCheckForAdd_0 21 rfl rfl)
theorem dJ2_rangeCheckForAdd_24 : decode cJ2_rangeCheckForAdd 24 = .ok (.athrow, 1) := dk_191 (dk_at dksJ2_rangeCheckForAdd_1 0 rfl rfl)
theorem dJ2_rangeCheckForAdd_25 : decode cJ2_rangeCheckForAdd 25 = .ok (.return_, 1) := dk_177 (dk_at dksJ2_rangeCheckForAdd_1 1 rfl rfl)
theorem q108 : (Jvm.Cond.initialized "java/util/ArrayList") ∈ lw_all := lw_g (lw_at lw_m1 5 rfl) rfl
theorem q163 : (Jvm.Cond.instantiable "java/util/ArrayList" (3 : Nat)) ∈ lw_all := lw_g (lw_at lw_m1 60 rfl) rfl
theorem q165 : (Jvm.Cond.instanceMethod ({ cls := "java/util/ArrayList", name := "<init>", desc := "(I)V" } : Jvm.MethodName)) ∈ lw_all := lw_g (lw_at lw_m1 62 rfl) rfl
theorem q166 : (Jvm.Cond.code ({ cls := "java/util/ArrayList", name := "<init>", desc := "(I)V" } : Jvm.MethodName) prog_50_method_1_code (2 : Nat) (Option.none : Option Jvm.ClassFile.FieldType)) ∈ lw_all := lw_g (lw_at lw_m1 63 rfl) rfl
theorem q167 : (Jvm.Cond.methodLink "java/util/ArrayList" (1 : Nat) ({ cls := "java/util/AbstractList", name := "<init>", desc := "()V" } : Jvm.MethodName)) ∈ lw_all := lw_g (lw_at lw_m1 64 rfl) rfl
theorem q174 : (Jvm.Cond.classLink "java/util/ArrayList" (7 : Nat) "java/lang/Object") ∈ lw_all := lw_g (lw_at lw_m1 71 rfl) rfl
theorem q176 : (Jvm.Cond.fieldLink "java/util/ArrayList" (15 : Nat) "java/util/ArrayList" "EMPTY_ELEMENTDATA" "[Ljava/lang/Object;") ∈ lw_all := lw_g (lw_at lw_m1 73 rfl) rfl
theorem q177 : (Jvm.Cond.laysStatic "java/util/ArrayList" "EMPTY_ELEMENTDATA" "[Ljava/lang/Object;") ∈ lw_tbl := lw_at lw_m1 74 rfl
theorem q178 : (Jvm.Cond.fieldLink "java/util/ArrayList" (9 : Nat) "java/util/ArrayList" "elementData" "[Ljava/lang/Object;") ∈ lw_all := lw_g (lw_at lw_m1 75 rfl) rfl
theorem q179 : (Jvm.Cond.fieldLink "java/util/ArrayList" (48 : Nat) "java/util/ArrayList" "size" "I") ∈ lw_all := lw_g (lw_at lw_m1 76 rfl) rfl
theorem q181 : (Jvm.Cond.fieldLink "java/util/ArrayList" (63 : Nat) "java/util/ArrayList" "modCount" "I") ∈ lw_all := lw_g (lw_at lw_m1 78 rfl) rfl
theorem q182 : (Jvm.Cond.sameField "java/util/ArrayList" "java/util/AbstractList" "modCount" "I") ∈ lw_all := lw_g (lw_at lw_m1 79 rfl) rfl
theorem q183 : (Jvm.Cond.lays "java/util/ArrayList" "java/util/ArrayList" "elementData" "[Ljava/lang/Object;") ∈ lw_all := lw_g (lw_at lw_m1 80 rfl) rfl
theorem q184 : (Jvm.Cond.soleField "java/util/ArrayList" "elementData") ∈ lw_all := lw_g (lw_at lw_m1 81 rfl) rfl
theorem q185 : (Jvm.Cond.lays "java/util/ArrayList" "java/util/ArrayList" "size" "I") ∈ lw_all := lw_g (lw_at lw_m1 82 rfl) rfl
theorem q186 : (Jvm.Cond.soleField "java/util/ArrayList" "size") ∈ lw_all := lw_g (lw_at lw_m1 83 rfl) rfl
theorem q187 : (Jvm.Cond.lays "java/util/ArrayList" "java/util/AbstractList" "modCount" "I") ∈ lw_all := lw_g (lw_at lw_m1 84 rfl) rfl
theorem q189 : (Jvm.Cond.superclass "java/util/ArrayList" "java/util/AbstractList") ∈ lw_all := lw_g (lw_at lw_m1 86 rfl) rfl
theorem q414 : (Jvm.Cond.instanceMethod ({ cls := "java/util/ArrayList", name := "size", desc := "()I" } : Jvm.MethodName)) ∈ lw_all := lw_g (lw_at lw_m2 71 rfl) rfl
theorem q415 : (Jvm.Cond.selects "java/util/ArrayList" ({ cls := "java/util/ArrayList", name := "size", desc := "()I" } : Jvm.MethodName) ({ cls := "java/util/ArrayList", name := "size", desc := "()I" } : Jvm.MethodName)) ∈ lw_all := lw_g (lw_at lw_m2 72 rfl) rfl
theorem q416 : (Jvm.Cond.code ({ cls := "java/util/ArrayList", name := "size", desc := "()I" } : Jvm.MethodName) prog_50_method_8_code (1 : Nat) (Option.some Jvm.ClassFile.FieldType.int)) ∈ lw_all := lw_g (lw_at lw_m2 73 rfl) rfl
theorem q446 : (Jvm.Cond.instanceMethod ({ cls := "java/util/ArrayList", name := "add", desc := "(Ljava/lang/Object;)Z" } : Jvm.MethodName)) ∈ lw_all := lw_g (lw_at lw_m2 103 rfl) rfl
theorem q447 : (Jvm.Cond.selects "java/util/ArrayList" ({ cls := "java/util/ArrayList", name := "add", desc := "(Ljava/lang/Object;)Z" } : Jvm.MethodName) ({ cls := "java/util/ArrayList", name := "add", desc := "(Ljava/lang/Object;)Z" } : Jvm.MethodName)) ∈ lw_all := lw_g (lw_at lw_m2 104 rfl) rfl
theorem q448 : (Jvm.Cond.code ({ cls := "java/util/ArrayList", name := "add", desc := "(Ljava/lang/Object;)Z" } : Jvm.MethodName) prog_50_method_25_code (2 : Nat) (Option.some Jvm.ClassFile.FieldType.boolean)) ∈ lw_all := lw_g (lw_at lw_m2 105 rfl) rfl
theorem q449 : (Jvm.Cond.methodLink "java/util/ArrayList" (131 : Nat) ({ cls := "java/util/ArrayList", name := "add", desc := "(Ljava/lang/Object;[Ljava/lang/Object;I)V" } : Jvm.MethodName)) ∈ lw_all := lw_g (lw_at lw_m2 106 rfl) rfl
theorem q450 : (Jvm.Cond.privateMethod ({ cls := "java/util/ArrayList", name := "add", desc := "(Ljava/lang/Object;[Ljava/lang/Object;I)V" } : Jvm.MethodName)) ∈ lw_tbl := lw_at lw_m2 107 rfl
theorem q451 : (Jvm.Cond.instanceMethod ({ cls := "java/util/ArrayList", name := "add", desc := "(Ljava/lang/Object;[Ljava/lang/Object;I)V" } : Jvm.MethodName)) ∈ lw_all := lw_g (lw_at lw_m2 108 rfl) rfl
theorem q452 : (Jvm.Cond.code ({ cls := "java/util/ArrayList", name := "add", desc := "(Ljava/lang/Object;[Ljava/lang/Object;I)V" } : Jvm.MethodName) prog_50_method_24_code (4 : Nat) (Option.none : Option Jvm.ClassFile.FieldType)) ∈ lw_all := lw_g (lw_at lw_m2 109 rfl) rfl
theorem q453 : (Jvm.Cond.methodLink "java/util/ArrayList" (129 : Nat) ({ cls := "java/util/ArrayList", name := "grow", desc := "()[Ljava/lang/Object;" } : Jvm.MethodName)) ∈ lw_all := lw_g (lw_at lw_m2 110 rfl) rfl
theorem q454 : (Jvm.Cond.privateMethod ({ cls := "java/util/ArrayList", name := "grow", desc := "()[Ljava/lang/Object;" } : Jvm.MethodName)) ∈ lw_tbl := lw_at lw_m2 111 rfl
theorem q455 : (Jvm.Cond.instanceMethod ({ cls := "java/util/ArrayList", name := "grow", desc := "()[Ljava/lang/Object;" } : Jvm.MethodName)) ∈ lw_all := lw_g (lw_at lw_m2 112 rfl) rfl
theorem q456 : (Jvm.Cond.code ({ cls := "java/util/ArrayList", name := "grow", desc := "()[Ljava/lang/Object;" } : Jvm.MethodName) prog_50_method_7_code (1 : Nat) (Option.some (Jvm.ClassFile.FieldType.array (Jvm.ClassFile.FieldType.object "java/lang/Object")))) ∈ lw_all := lw_g (lw_at lw_m2 113 rfl) rfl
theorem q457 : (Jvm.Cond.methodLink "java/util/ArrayList" (69 : Nat) ({ cls := "java/util/ArrayList", name := "grow", desc := "(I)[Ljava/lang/Object;" } : Jvm.MethodName)) ∈ lw_all := lw_g (lw_at lw_m2 114 rfl) rfl
theorem q458 : (Jvm.Cond.privateMethod ({ cls := "java/util/ArrayList", name := "grow", desc := "(I)[Ljava/lang/Object;" } : Jvm.MethodName)) ∈ lw_tbl := lw_at lw_m2 115 rfl
theorem q459 : (Jvm.Cond.instanceMethod ({ cls := "java/util/ArrayList", name := "grow", desc := "(I)[Ljava/lang/Object;" } : Jvm.MethodName)) ∈ lw_all := lw_g (lw_at lw_m2 116 rfl) rfl
theorem q460 : (Jvm.Cond.code ({ cls := "java/util/ArrayList", name := "grow", desc := "(I)[Ljava/lang/Object;" } : Jvm.MethodName) prog_50_method_6_code (4 : Nat) (Option.some (Jvm.ClassFile.FieldType.array (Jvm.ClassFile.FieldType.object "java/lang/Object")))) ∈ lw_all := lw_g (lw_at lw_m2 117 rfl) rfl
theorem q461 : (Jvm.Cond.fieldLink "java/util/ArrayList" (39 : Nat) "java/util/ArrayList" "DEFAULTCAPACITY_EMPTY_ELEMENTDATA" "[Ljava/lang/Object;") ∈ lw_all := lw_g (lw_at lw_m2 118 rfl) rfl
theorem q462 : (Jvm.Cond.laysStatic "java/util/ArrayList" "DEFAULTCAPACITY_EMPTY_ELEMENTDATA" "[Ljava/lang/Object;") ∈ lw_tbl := lw_at lw_m2 119 rfl
theorem q463 : (Jvm.Cond.methodLink "java/util/ArrayList" (73 : Nat) ({ cls := "jdk/internal/util/ArraysSupport", name := "newLength", desc := "(III)I" } : Jvm.MethodName)) ∈ lw_all := lw_g (lw_at lw_m2 120 rfl) rfl
theorem q473 : (Jvm.Cond.methodLink "java/util/ArrayList" (66 : Nat) ({ cls := "java/util/Arrays", name := "copyOf", desc := "([Ljava/lang/Object;I)[Ljava/lang/Object;" } : Jvm.MethodName)) ∈ lw_all := lw_g (lw_at lw_m2 130 rfl) rfl
theorem q506 : (Jvm.Cond.selects "java/util/ArrayList" ({ cls := "java/lang/Object", name := "getClass", desc := "()Ljava/lang/Class;" } : Jvm.MethodName) ({ cls := "java/lang/Object", name := "getClass", desc := "()Ljava/lang/Class;" } : Jvm.MethodName)) ∈ lw_all := lw_g (lw_at lw_m2 163 rfl) rfl
theorem q519 : (Jvm.Cond.methodLink "java/util/ArrayList" (79 : Nat) ({ cls := "java/lang/Math", name := "max", desc := "(II)I" } : Jvm.MethodName)) ∈ lw_all := lw_g (lw_at lw_m2 176 rfl) rfl
theorem q578 : (Jvm.Cond.instanceMethod ({ cls := "java/util/ArrayList", name := "get", desc := "(I)Ljava/lang/Object;" } : Jvm.MethodName)) ∈ lw_all := lw_g (lw_at lw_m2 235 rfl) rfl
theorem q579 : (Jvm.Cond.selects "java/util/ArrayList" ({ cls := "java/util/ArrayList", name := "get", desc := "(I)Ljava/lang/Object;" } : Jvm.MethodName) ({ cls := "java/util/ArrayList", name := "get", desc := "(I)Ljava/lang/Object;" } : Jvm.MethodName)) ∈ lw_all := lw_g (lw_at lw_m2 236 rfl) rfl
theorem q580 : (Jvm.Cond.code ({ cls := "java/util/ArrayList", name := "get", desc := "(I)Ljava/lang/Object;" } : Jvm.MethodName) prog_50_method_20_code (2 : Nat) (Option.some (Jvm.ClassFile.FieldType.object "java/lang/Object"))) ∈ lw_all := lw_g (lw_at lw_m2 237 rfl) rfl
theorem q581 : (Jvm.Cond.methodLink "java/util/ArrayList" (118 : Nat) ({ cls := "java/util/Objects", name := "checkIndex", desc := "(II)I" } : Jvm.MethodName)) ∈ lw_all := lw_g (lw_at lw_m2 238 rfl) rfl
theorem q587 : (Jvm.Cond.methodLink "java/util/ArrayList" (123 : Nat) ({ cls := "java/util/ArrayList", name := "elementData", desc := "(I)Ljava/lang/Object;" } : Jvm.MethodName)) ∈ lw_all := lw_g (lw_at lw_m3 4 rfl) rfl
theorem q588 : (Jvm.Cond.instanceMethod ({ cls := "java/util/ArrayList", name := "elementData", desc := "(I)Ljava/lang/Object;" } : Jvm.MethodName)) ∈ lw_all := lw_g (lw_at lw_m3 5 rfl) rfl
theorem q589 : (Jvm.Cond.selects "java/util/ArrayList" ({ cls := "java/util/ArrayList", name := "elementData", desc := "(I)Ljava/lang/Object;" } : Jvm.MethodName) ({ cls := "java/util/ArrayList", name := "elementData", desc := "(I)Ljava/lang/Object;" } : Jvm.MethodName)) ∈ lw_all := lw_g (lw_at lw_m3 6 rfl) rfl
theorem q590 : (Jvm.Cond.code ({ cls := "java/util/ArrayList", name := "elementData", desc := "(I)Ljava/lang/Object;" } : Jvm.MethodName) prog_50_method_18_code (2 : Nat) (Option.some (Jvm.ClassFile.FieldType.object "java/lang/Object"))) ∈ lw_all := lw_g (lw_at lw_m3 7 rfl) rfl
theorem q987 : (Jvm.Cond.instanceMethod ({ cls := "java/util/ArrayList", name := "isEmpty", desc := "()Z" } : Jvm.MethodName)) ∈ lw_all := lw_g (lw_at lw_m4 164 rfl) rfl
theorem q988 : (Jvm.Cond.selects "java/util/ArrayList" ({ cls := "java/util/ArrayList", name := "isEmpty", desc := "()Z" } : Jvm.MethodName) ({ cls := "java/util/ArrayList", name := "isEmpty", desc := "()Z" } : Jvm.MethodName)) ∈ lw_all := lw_g (lw_at lw_m4 165 rfl) rfl
theorem q989 : (Jvm.Cond.code ({ cls := "java/util/ArrayList", name := "isEmpty", desc := "()Z" } : Jvm.MethodName) prog_50_method_9_code (1 : Nat) (Option.some Jvm.ClassFile.FieldType.boolean)) ∈ lw_all := lw_g (lw_at lw_m4 166 rfl) rfl
theorem q991 : (Jvm.Cond.instanceMethod ({ cls := "java/util/ArrayList", name := "remove", desc := "(I)Ljava/lang/Object;" } : Jvm.MethodName)) ∈ lw_all := lw_g (lw_at lw_m4 168 rfl) rfl
theorem q992 : (Jvm.Cond.selects "java/util/ArrayList" ({ cls := "java/util/ArrayList", name := "remove", desc := "(I)Ljava/lang/Object;" } : Jvm.MethodName) ({ cls := "java/util/ArrayList", name := "remove", desc := "(I)Ljava/lang/Object;" } : Jvm.MethodName)) ∈ lw_all := lw_g (lw_at lw_m4 169 rfl) rfl
theorem q993 : (Jvm.Cond.code ({ cls := "java/util/ArrayList", name := "remove", desc := "(I)Ljava/lang/Object;" } : Jvm.MethodName) prog_50_method_29_code (4 : Nat) (Option.some (Jvm.ClassFile.FieldType.object "java/lang/Object"))) ∈ lw_all := lw_g (lw_at lw_m4 170 rfl) rfl
theorem q994 : (Jvm.Cond.methodLink "java/util/ArrayList" (144 : Nat) ({ cls := "java/util/ArrayList", name := "fastRemove", desc := "([Ljava/lang/Object;I)V" } : Jvm.MethodName)) ∈ lw_all := lw_g (lw_at lw_m4 171 rfl) rfl
theorem q995 : (Jvm.Cond.privateMethod ({ cls := "java/util/ArrayList", name := "fastRemove", desc := "([Ljava/lang/Object;I)V" } : Jvm.MethodName)) ∈ lw_tbl := lw_at lw_m4 172 rfl
theorem q996 : (Jvm.Cond.instanceMethod ({ cls := "java/util/ArrayList", name := "fastRemove", desc := "([Ljava/lang/Object;I)V" } : Jvm.MethodName)) ∈ lw_all := lw_g (lw_at lw_m4 173 rfl) rfl
theorem q997 : (Jvm.Cond.code ({ cls := "java/util/ArrayList", name := "fastRemove", desc := "([Ljava/lang/Object;I)V" } : Jvm.MethodName) prog_50_method_39_code (4 : Nat) (Option.none : Option Jvm.ClassFile.FieldType)) ∈ lw_all := lw_g (lw_at lw_m4 174 rfl) rfl
theorem q998 : (Jvm.Cond.methodLink "java/util/ArrayList" (112 : Nat) ({ cls := "java/lang/System", name := "arraycopy", desc := "(Ljava/lang/Object;ILjava/lang/Object;II)V" } : Jvm.MethodName)) ∈ lw_all := lw_g (lw_at lw_m4 175 rfl) rfl
theorem q1000 : (Jvm.Cond.instanceMethod ({ cls := "java/util/ArrayList", name := "add", desc := "(ILjava/lang/Object;)V" } : Jvm.MethodName)) ∈ lw_all := lw_g (lw_at lw_m4 177 rfl) rfl
theorem q1001 : (Jvm.Cond.selects "java/util/ArrayList" ({ cls := "java/util/ArrayList", name := "add", desc := "(ILjava/lang/Object;)V" } : Jvm.MethodName) ({ cls := "java/util/ArrayList", name := "add", desc := "(ILjava/lang/Object;)V" } : Jvm.MethodName)) ∈ lw_all := lw_g (lw_at lw_m4 178 rfl) rfl
theorem q1002 : (Jvm.Cond.code ({ cls := "java/util/ArrayList", name := "add", desc := "(ILjava/lang/Object;)V" } : Jvm.MethodName) prog_50_method_26_code (5 : Nat) (Option.none : Option Jvm.ClassFile.FieldType)) ∈ lw_all := lw_g (lw_at lw_m4 179 rfl) rfl
theorem q1003 : (Jvm.Cond.methodLink "java/util/ArrayList" (135 : Nat) ({ cls := "java/util/ArrayList", name := "rangeCheckForAdd", desc := "(I)V" } : Jvm.MethodName)) ∈ lw_all := lw_g (lw_at lw_m4 180 rfl) rfl
theorem q1004 : (Jvm.Cond.privateMethod ({ cls := "java/util/ArrayList", name := "rangeCheckForAdd", desc := "(I)V" } : Jvm.MethodName)) ∈ lw_tbl := lw_at lw_m4 181 rfl
theorem q1005 : (Jvm.Cond.instanceMethod ({ cls := "java/util/ArrayList", name := "rangeCheckForAdd", desc := "(I)V" } : Jvm.MethodName)) ∈ lw_all := lw_g (lw_at lw_m4 182 rfl) rfl
theorem q1006 : (Jvm.Cond.code ({ cls := "java/util/ArrayList", name := "rangeCheckForAdd", desc := "(I)V" } : Jvm.MethodName) prog_50_method_45_code (2 : Nat) (Option.none : Option Jvm.ClassFile.FieldType)) ∈ lw_all := lw_g (lw_at lw_m4 183 rfl) rfl
theorem q2172 : (Jvm.Cond.castable "java/util/ArrayList" "java/lang/Object") ∈ lw_tbl := lw_at lw_m9 149 rfl
theorem in_J2 : ∀ w ∈ wsJ20, w ∈ lw_all := lw_in wsJ20 [187, 183, 185] (by decide +kernel) (by decide +kernel)
/-! jdk/internal/util/ArraysSupport -/
set_option maxRecDepth 100000
def RJ3 : String := "jdk/internal/util/ArraysSupport"
abbrev cJ3_newLength : ByteArray := prog_57_method_27_code
def yJ3_newLength : MethodName := ⟨RJ3, "newLength", "(III)I"⟩
def dkwJ3_newLength_1 : List UInt8 := [184, 0, 201, 172]
abbrev dktJ3_newLength_1 : List UInt8 := dkwJ3_newLength_1 ++ []
def dkwJ3_newLength_0 : List UInt8 := [26, 27, 28, 184, 0, 194, 96, 62, 3, 29, 162, 0, 11, 29, 18, 200, 163, 0, 5, 29, 172, 26, 27]
abbrev dktJ3_newLength_0 : List UInt8 := dkwJ3_newLength_0 ++ dktJ3_newLength_1
theorem dksJ3_newLength_0 : cJ3_newLength.data.toList.drop 0 = dktJ3_newLength_0 := by decide +kernel
theorem dksJ3_newLength_1 : cJ3_newLength.data.toList.drop 23 = dktJ3_newLength_1 := dk_seg dksJ3_newLength_0 23 rfl rfl
theorem dJ3_newLength_0 : decode cJ3_newLength 0 = .ok (.iload_n 0, 1) := dk_26 (dk_at dksJ3_newLength_0 0 rfl rfl)
theorem dJ3_newLength_1 : decode cJ3_newLength 1 = .ok (.iload_n 1, 1) := dk_27 (dk_at dksJ3_newLength_0 1 rfl rfl)
theorem dJ3_newLength_2 : decode cJ3_newLength 2 = .ok (.iload_n 2, 1) := dk_28 (dk_at dksJ3_newLength_0 2 rfl rfl)
theorem dJ3_newLength_3 : decode cJ3_newLength 3 = .ok (.invokestatic 194, 3) := dk_184 0 194 (dk_at dksJ3_newLength_0 3 rfl rfl)
theorem dJ3_newLength_6 : decode cJ3_newLength 6 = .ok (.iadd, 1) := dk_96 (dk_at dksJ3_newLength_0 6 rfl rfl)
theorem dJ3_newLength_7 : decode cJ3_newLength 7 = .ok (.istore_n 3, 1) := dk_62 (dk_at dksJ3_newLength_0 7 rfl rfl)
theorem dJ3_newLength_8 : decode cJ3_newLength 8 = .ok (.iconst 0, 1) := dk_3 (dk_at dksJ3_newLength_0 8 rfl rfl)
theorem dJ3_newLength_9 : decode cJ3_newLength 9 = .ok (.iload_n 3, 1) := dk_29 (dk_at dksJ3_newLength_0 9 rfl rfl)
theorem dJ3_newLength_10 : decode cJ3_newLength 10 = .ok (.if_icmp .ge 11, 3) := dk_162 0 11 (dk_at dksJ3_newLength_0 10 rfl rfl)
theorem dJ3_newLength_13 : decode cJ3_newLength 13 = .ok (.iload_n 3, 1) := dk_29 (dk_at dksJ3_newLength_0 13 rfl rfl)
theorem dJ3_newLength_14 : decode cJ3_newLength 14 = .ok (.ldc 200, 2) := dk_18 200 (dk_at dksJ3_newLength_0 14 rfl rfl)
theorem dJ3_newLength_16 : decode cJ3_newLength 16 = .ok (.if_icmp .gt 5, 3) := dk_163 0 5 (dk_at dksJ3_newLength_0 16 rfl rfl)
theorem dJ3_newLength_19 : decode cJ3_newLength 19 = .ok (.iload_n 3, 1) := dk_29 (dk_at dksJ3_newLength_0 19 rfl rfl)
theorem dJ3_newLength_20 : decode cJ3_newLength 20 = .ok (.ireturn, 1) := dk_172 (dk_at dksJ3_newLength_0 20 rfl rfl)
theorem dJ3_newLength_21 : decode cJ3_newLength 21 = .ok (.iload_n 0, 1) := dk_26 (dk_at dksJ3_newLength_0 21 rfl rfl)
theorem dJ3_newLength_22 : decode cJ3_newLength 22 = .ok (.iload_n 1, 1) := dk_27 (dk_at dksJ3_newLength_0 22 rfl rfl)
theorem dJ3_newLength_23 : decode cJ3_newLength 23 = .ok (.invokestatic 201, 3) := dk_184 0 201 (dk_at dksJ3_newLength_1 0 rfl rfl)
theorem dJ3_newLength_26 : decode cJ3_newLength 26 = .ok (.ireturn, 1) := dk_172 (dk_at dksJ3_newLength_1 3 rfl rfl)
abbrev cJ3_hugeLength : ByteArray := prog_57_method_28_code
def yJ3_hugeLength : MethodName := ⟨RJ3, "hugeLength", "(II)I"⟩
def dkwJ3_hugeLength_2 : List UInt8 := [191, 28, 18, 200, 163, 0, 6, 18, 200, 172, 28, 172]
abbrev dktJ3_hugeLength_2 : List UInt8 := dkwJ3_hugeLength_2 ++ []
def dkwJ3_hugeLength_1 : List UInt8 := [26, 182, 0, 98, 18, 208, 182, 0, 94, 27, 182, 0, 98, 18, 210, 182, 0, 94, 182, 0, 101, 183, 0, 212]
abbrev dktJ3_hugeLength_1 : List UInt8 := dkwJ3_hugeLength_1 ++ dktJ3_hugeLength_2
def dkwJ3_hugeLength_0 : List UInt8 := [26, 27, 96, 61, 28, 156, 0, 44, 187, 0, 204, 89, 187, 0, 89, 89, 183, 0, 91, 18, 206, 182, 0, 94]
abbrev dktJ3_hugeLength_0 : List UInt8 := dkwJ3_hugeLength_0 ++ dktJ3_hugeLength_1
theorem dksJ3_hugeLength_0 : cJ3_hugeLength.data.toList.drop 0 = dktJ3_hugeLength_0 := by decide +kernel
theorem dksJ3_hugeLength_1 : cJ3_hugeLength.data.toList.drop 24 = dktJ3_hugeLength_1 := dk_seg dksJ3_hugeLength_0 24 rfl rfl
theorem dksJ3_hugeLength_2 : cJ3_hugeLength.data.toList.drop 48 = dktJ3_hugeLength_2 := dk_seg dksJ3_hugeLength_1 24 rfl rfl
theorem dJ3_hugeLength_0 : decode cJ3_hugeLength 0 = .ok (.iload_n 0, 1) := dk_26 (dk_at dksJ3_hugeLength_0 0 rfl rfl)
theorem dJ3_hugeLength_1 : decode cJ3_hugeLength 1 = .ok (.iload_n 1, 1) := dk_27 (dk_at dksJ3_hugeLength_0 1 rfl rfl)
theorem dJ3_hugeLength_2 : decode cJ3_hugeLength 2 = .ok (.iadd, 1) := dk_96 (dk_at dksJ3_hugeLength_0 2 rfl rfl)
theorem dJ3_hugeLength_3 : decode cJ3_hugeLength 3 = .ok (.istore_n 2, 1) := dk_61 (dk_at dksJ3_hugeLength_0 3 rfl rfl)
theorem dJ3_hugeLength_4 : decode cJ3_hugeLength 4 = .ok (.iload_n 2, 1) := dk_28 (dk_at dksJ3_hugeLength_0 4 rfl rfl)
theorem dJ3_hugeLength_5 : decode cJ3_hugeLength 5 = .ok (.ifCond .ge 44, 3) := dk_156 0 44 (dk_at dksJ3_hugeLength_0 5 rfl rfl)
theorem dJ3_hugeLength_8 : decode cJ3_hugeLength 8 = .ok (.new 204, 3) := dk_187 0 204 (dk_at dksJ3_hugeLength_0 8 rfl rfl)
theorem dJ3_hugeLength_11 : decode cJ3_hugeLength 11 = .ok (.dup, 1) := dk_89 (dk_at dksJ3_hugeLength_0 11 rfl rfl)
theorem dJ3_hugeLength_12 : decode cJ3_hugeLength 12 = .ok (.new 89, 3) := dk_187 0 89 (dk_at dksJ3_hugeLength_0 12 rfl rfl)
theorem dJ3_hugeLength_15 : decode cJ3_hugeLength 15 = .ok (.dup, 1) := dk_89 (dk_at dksJ3_hugeLength_0 15 rfl rfl)
theorem dJ3_hugeLength_16 : decode cJ3_hugeLength 16 = .ok (.invokespecial 91, 3) := dk_183 0 91 (dk_at dksJ3_hugeLength_0 16 rfl rfl)
theorem dJ3_hugeLength_19 : decode cJ3_hugeLength 19 = .ok (.ldc 206, 2) := dk_18 206 (dk_at dksJ3_hugeLength_0 19 rfl rfl)
theorem dJ3_hugeLength_21 : decode cJ3_hugeLength 21 = .ok (.invokevirtual 94, 3) := dk_182 0 94 (dk_at dksJ3_hugeLength_0 21 rfl rfl)
theorem dJ3_hugeLength_24 : decode cJ3_hugeLength 24 = .ok (.iload_n 0, 1) := dk_26 (dk_at dksJ3_hugeLength_1 0 rfl rfl)
theorem dJ3_hugeLength_25 : decode cJ3_hugeLength 25 = .ok (.invokevirtual 98, 3) := dk_182 0 98 (dk_at dksJ3_hugeLength_1 1 rfl rfl)
theorem dJ3_hugeLength_28 : decode cJ3_hugeLength 28 = .ok (.ldc 208, 2) := dk_18 208 (dk_at dksJ3_hugeLength_1 4 rfl rfl)
theorem dJ3_hugeLength_30 : decode cJ3_hugeLength 30 = .ok (.invokevirtual 94, 3) := dk_182 0 94 (dk_at dksJ3_hugeLength_1 6 rfl rfl)
theorem dJ3_hugeLength_33 : decode cJ3_hugeLength 33 = .ok (.iload_n 1, 1) := dk_27 (dk_at dksJ3_hugeLength_1 9 rfl rfl)
theorem dJ3_hugeLength_34 : decode cJ3_hugeLength 34 = .ok (.invokevirtual 98, 3) := dk_182 0 98 (dk_at dksJ3_hugeLength_1 10 rfl rfl)
theorem dJ3_hugeLength_37 : decode cJ3_hugeLength 37 = .ok (.ldc 210, 2) := dk_18 210 (dk_at dksJ3_hugeLength_1 13 rfl rfl)
theorem dJ3_hugeLength_39 : decode cJ3_hugeLength 39 = .ok (.invokevirtual 94, 3) := dk_182 0 94 (dk_at dksJ3_hugeLength_1 15 rfl rfl)
theorem dJ3_hugeLength_42 : decode cJ3_hugeLength 42 = .ok (.invokevirtual 101, 3) := dk_182 0 101 (dk_at dksJ3_hugeLength_1 18 rfl rfl)
theorem dJ3_hugeLength_45 : decode cJ3_hugeLength 45 = .ok (.invokespecial 212, 3) := dk_183 0 212 (dk_at dksJ3_hugeLength_1 21 rfl rfl)
theorem dJ3_hugeLength_48 : decode cJ3_hugeLength 48 = .ok (.athrow, 1) := dk_191 (dk_at dksJ3_hugeLength_2 0 rfl rfl)
theorem dJ3_hugeLength_49 : decode cJ3_hugeLength 49 = .ok (.iload_n 2, 1) := dk_28 (dk_at dksJ3_hugeLength_2 1 rfl rfl)
theorem dJ3_hugeLength_50 : decode cJ3_hugeLength 50 = .ok (.ldc 200, 2) := dk_18 200 (dk_at dksJ3_hugeLength_2 2 rfl rfl)
theorem dJ3_hugeLength_52 : decode cJ3_hugeLength 52 = .ok (.if_icmp .gt 6, 3) := dk_163 0 6 (dk_at dksJ3_hugeLength_2 4 rfl rfl)
theorem dJ3_hugeLength_55 : decode cJ3_hugeLength 55 = .ok (.ldc 200, 2) := dk_18 200 (dk_at dksJ3_hugeLength_2 7 rfl rfl)
theorem dJ3_hugeLength_57 : decode cJ3_hugeLength 57 = .ok (.ireturn, 1) := dk_172 (dk_at dksJ3_hugeLength_2 9 rfl rfl)
theorem dJ3_hugeLength_58 : decode cJ3_hugeLength 58 = .ok (.iload_n 2, 1) := dk_28 (dk_at dksJ3_hugeLength_2 10 rfl rfl)
theorem dJ3_hugeLength_59 : decode cJ3_hugeLength 59 = .ok (.ireturn, 1) := dk_172 (dk_at dksJ3_hugeLength_2 11 rfl rfl)
theorem q115 : (Jvm.Cond.initialized "jdk/internal/util/ArraysSupport") ∈ lw_all := lw_g (lw_at lw_m1 12 rfl) rfl
theorem q464 : (Jvm.Cond.static ({ cls := "jdk/internal/util/ArraysSupport", name := "newLength", desc := "(III)I" } : Jvm.MethodName)) ∈ lw_all := lw_g (lw_at lw_m2 121 rfl) rfl
theorem q465 : (Jvm.Cond.code ({ cls := "jdk/internal/util/ArraysSupport", name := "newLength", desc := "(III)I" } : Jvm.MethodName) prog_57_method_27_code (4 : Nat) (Option.some Jvm.ClassFile.FieldType.int)) ∈ lw_all := lw_g (lw_at lw_m2 122 rfl) rfl
theorem q466 : (Jvm.Cond.methodLink "jdk/internal/util/ArraysSupport" (194 : Nat) ({ cls := "java/lang/Math", name := "max", desc := "(II)I" } : Jvm.MethodName)) ∈ lw_all := lw_g (lw_at lw_m2 123 rfl) rfl
theorem q469 : (Jvm.Cond.constant "jdk/internal/util/ArraysSupport" (200 : Nat) (2147483639 : Int32)) ∈ lw_all := lw_g (lw_at lw_m2 126 rfl) rfl
theorem q470 : (Jvm.Cond.methodLink "jdk/internal/util/ArraysSupport" (201 : Nat) ({ cls := "jdk/internal/util/ArraysSupport", name := "hugeLength", desc := "(II)I" } : Jvm.MethodName)) ∈ lw_all := lw_g (lw_at lw_m2 127 rfl) rfl
theorem q471 : (Jvm.Cond.static ({ cls := "jdk/internal/util/ArraysSupport", name := "hugeLength", desc := "(II)I" } : Jvm.MethodName)) ∈ lw_all := lw_g (lw_at lw_m2 128 rfl) rfl
theorem q472 : (Jvm.Cond.code ({ cls := "jdk/internal/util/ArraysSupport", name := "hugeLength", desc := "(II)I" } : Jvm.MethodName) prog_57_method_28_code (3 : Nat) (Option.some Jvm.ClassFile.FieldType.int)) ∈ lw_all := lw_g (lw_at lw_m2 129 rfl) rfl
/-! java/lang/Math -/
set_option maxRecDepth 100000
def RJ4 : String := "java/lang/Math"
abbrev cJ4_max : ByteArray := prog_37_method_65_code
def yJ4_max : MethodName := ⟨RJ4, "max", "(II)I"⟩
def dkwJ4_max_0 : List UInt8 := [26, 27, 161, 0, 7, 26, 167, 0, 4, 27, 172]
abbrev dktJ4_max_0 : List UInt8 := dkwJ4_max_0 ++ []
theorem dksJ4_max_0 : cJ4_max.data.toList.drop 0 = dktJ4_max_0 := by decide +kernel
theorem dJ4_max_0 : decode cJ4_max 0 = .ok (.iload_n 0, 1) := dk_26 (dk_at dksJ4_max_0 0 rfl rfl)
theorem dJ4_max_1 : decode cJ4_max 1 = .ok (.iload_n 1, 1) := dk_27 (dk_at dksJ4_max_0 1 rfl rfl)
theorem dJ4_max_2 : decode cJ4_max 2 = .ok (.if_icmp .lt 7, 3) := dk_161 0 7 (dk_at dksJ4_max_0 2 rfl rfl)
theorem dJ4_max_5 : decode cJ4_max 5 = .ok (.iload_n 0, 1) := dk_26 (dk_at dksJ4_max_0 5 rfl rfl)
theorem dJ4_max_6 : decode cJ4_max 6 = .ok (.goto 4, 3) := dk_167 0 4 (dk_at dksJ4_max_0 6 rfl rfl)
theorem dJ4_max_9 : decode cJ4_max 9 = .ok (.iload_n 1, 1) := dk_27 (dk_at dksJ4_max_0 9 rfl rfl)
theorem dJ4_max_10 : decode cJ4_max 10 = .ok (.ireturn, 1) := dk_172 (dk_at dksJ4_max_0 10 rfl rfl)
abbrev cJ4_min : ByteArray := prog_37_method_69_code
def yJ4_min : MethodName := ⟨RJ4, "min", "(II)I"⟩
def dkwJ4_min_0 : List UInt8 := [26, 27, 163, 0, 7, 26, 167, 0, 4, 27, 172]
abbrev dktJ4_min_0 : List UInt8 := dkwJ4_min_0 ++ []
theorem dksJ4_min_0 : cJ4_min.data.toList.drop 0 = dktJ4_min_0 := by decide +kernel
theorem dJ4_min_0 : decode cJ4_min 0 = .ok (.iload_n 0, 1) := dk_26 (dk_at dksJ4_min_0 0 rfl rfl)
theorem dJ4_min_1 : decode cJ4_min 1 = .ok (.iload_n 1, 1) := dk_27 (dk_at dksJ4_min_0 1 rfl rfl)
theorem dJ4_min_2 : decode cJ4_min 2 = .ok (.if_icmp .gt 7, 3) := dk_163 0 7 (dk_at dksJ4_min_0 2 rfl rfl)
theorem dJ4_min_5 : decode cJ4_min 5 = .ok (.iload_n 0, 1) := dk_26 (dk_at dksJ4_min_0 5 rfl rfl)
theorem dJ4_min_6 : decode cJ4_min 6 = .ok (.goto 4, 3) := dk_167 0 4 (dk_at dksJ4_min_0 6 rfl rfl)
theorem dJ4_min_9 : decode cJ4_min 9 = .ok (.iload_n 1, 1) := dk_27 (dk_at dksJ4_min_0 9 rfl rfl)
theorem dJ4_min_10 : decode cJ4_min 10 = .ok (.ireturn, 1) := dk_172 (dk_at dksJ4_min_0 10 rfl rfl)
theorem q116 : (Jvm.Cond.initialized "java/lang/Math") ∈ lw_all := lw_g (lw_at lw_m1 13 rfl) rfl
theorem q467 : (Jvm.Cond.static ({ cls := "java/lang/Math", name := "max", desc := "(II)I" } : Jvm.MethodName)) ∈ lw_all := lw_g (lw_at lw_m2 124 rfl) rfl
theorem q468 : (Jvm.Cond.code ({ cls := "java/lang/Math", name := "max", desc := "(II)I" } : Jvm.MethodName) prog_37_method_65_code (2 : Nat) (Option.some Jvm.ClassFile.FieldType.int)) ∈ lw_all := lw_g (lw_at lw_m2 125 rfl) rfl
theorem q514 : (Jvm.Cond.static ({ cls := "java/lang/Math", name := "min", desc := "(II)I" } : Jvm.MethodName)) ∈ lw_all := lw_g (lw_at lw_m2 171 rfl) rfl
theorem q515 : (Jvm.Cond.code ({ cls := "java/lang/Math", name := "min", desc := "(II)I" } : Jvm.MethodName) prog_37_method_69_code (2 : Nat) (Option.some Jvm.ClassFile.FieldType.int)) ∈ lw_all := lw_g (lw_at lw_m2 172 rfl) rfl
/-! java/util/Arrays -/
set_option maxRecDepth 100000
def RJ5 : String := "java/util/Arrays"
abbrev cJ5_copyOf : ByteArray := prog_51_method_119_code
def yJ5_copyOf : MethodName := ⟨RJ5, "copyOf", "([Ljava/lang/Object;I)[Ljava/lang/Object;"⟩
def dkwJ5_copyOf_0 : List UInt8 := [42, 27, 42, 182, 0, 86, 184, 1, 44, 176]
abbrev dktJ5_copyOf_0 : List UInt8 := dkwJ5_copyOf_0 ++ []
theorem dksJ5_copyOf_0 : cJ5_copyOf.data.toList.drop 0 = dktJ5_copyOf_0 := by decide +kernel
theorem dJ5_copyOf_0 : decode cJ5_copyOf 0 = .ok (.aload_n 0, 1) := dk_42 (dk_at dksJ5_copyOf_0 0 rfl rfl)
theorem dJ5_copyOf_1 : decode cJ5_copyOf 1 = .ok (.iload_n 1, 1) := dk_27 (dk_at dksJ5_copyOf_0 1 rfl rfl)
theorem dJ5_copyOf_2 : decode cJ5_copyOf 2 = .ok (.aload_n 0, 1) := dk_42 (dk_at dksJ5_copyOf_0 2 rfl rfl)
theorem dJ5_copyOf_3 : decode cJ5_copyOf 3 = .ok (.invokevirtual 86, 3) := dk_182 0 86 (dk_at dksJ5_copyOf_0 3 rfl rfl)
theorem dJ5_copyOf_6 : decode cJ5_copyOf 6 = .ok (.invokestatic 300, 3) := dk_184 1 44 (dk_at dksJ5_copyOf_0 6 rfl rfl)
theorem dJ5_copyOf_9 : decode cJ5_copyOf 9 = .ok (.areturn, 1) := dk_176 (dk_at dksJ5_copyOf_0 9 rfl rfl)
abbrev cJ5_copyOf_2 : ByteArray := prog_51_method_120_code
def yJ5_copyOf_2 : MethodName := ⟨RJ5, "copyOf", "([Ljava/lang/Object;ILjava/lang/Class;)[Ljava/lang/Object;"⟩
def dkwJ5_copyOf_2_1 : List UInt8 := [78, 42, 3, 45, 3, 42, 190, 27, 184, 1, 48, 184, 0, 150, 45, 176]
abbrev dktJ5_copyOf_2_1 : List UInt8 := dkwJ5_copyOf_2_1 ++ []
def dkwJ5_copyOf_2_0 : List UInt8 := [44, 18, 110, 166, 0, 10, 27, 189, 0, 2, 167, 0, 14, 44, 182, 0, 90, 27, 184, 0, 95, 192, 0, 110]
abbrev dktJ5_copyOf_2_0 : List UInt8 := dkwJ5_copyOf_2_0 ++ dktJ5_copyOf_2_1
theorem dksJ5_copyOf_2_0 : cJ5_copyOf_2.data.toList.drop 0 = dktJ5_copyOf_2_0 := by decide +kernel
theorem dksJ5_copyOf_2_1 : cJ5_copyOf_2.data.toList.drop 24 = dktJ5_copyOf_2_1 := dk_seg dksJ5_copyOf_2_0 24 rfl rfl
theorem dJ5_copyOf_2_0 : decode cJ5_copyOf_2 0 = .ok (.aload_n 2, 1) := dk_44 (dk_at dksJ5_copyOf_2_0 0 rfl rfl)
theorem dJ5_copyOf_2_1 : decode cJ5_copyOf_2 1 = .ok (.ldc 110, 2) := dk_18 110 (dk_at dksJ5_copyOf_2_0 1 rfl rfl)
theorem dJ5_copyOf_2_3 : decode cJ5_copyOf_2 3 = .ok (.if_acmp .ne 10, 3) := dk_166 0 10 (dk_at dksJ5_copyOf_2_0 3 rfl rfl)
theorem dJ5_copyOf_2_6 : decode cJ5_copyOf_2 6 = .ok (.iload_n 1, 1) := dk_27 (dk_at dksJ5_copyOf_2_0 6 rfl rfl)
theorem dJ5_copyOf_2_7 : decode cJ5_copyOf_2 7 = .ok (.anewarray 2, 3) := dk_189 0 2 (dk_at dksJ5_copyOf_2_0 7 rfl rfl)
theorem dJ5_copyOf_2_10 : decode cJ5_copyOf_2 10 = .ok (.goto 14, 3) := dk_167 0 14 (dk_at dksJ5_copyOf_2_0 10 rfl rfl)
theorem dJ5_copyOf_2_13 : decode cJ5_copyOf_2 13 = .ok (.aload_n 2, 1) := dk_44 (dk_at dksJ5_copyOf_2_0 13 rfl rfl)
theorem dJ5_copyOf_2_14 : decode cJ5_copyOf_2 14 = .ok (.invokevirtual 90, 3) := dk_182 0 90 (dk_at dksJ5_copyOf_2_0 14 rfl rfl)
theorem dJ5_copyOf_2_17 : decode cJ5_copyOf_2 17 = .ok (.iload_n 1, 1) := dk_27 (dk_at dksJ5_copyOf_2_0 17 rfl rfl)
theorem dJ5_copyOf_2_18 : decode cJ5_copyOf_2 18 = .ok (.invokestatic 95, 3) := dk_184 0 95 (dk_at dksJ5_copyOf_2_0 18 rfl rfl)
theorem dJ5_copyOf_2_21 : decode cJ5_copyOf_2 21 = .ok (.checkcast 110, 3) := dk_192 0 110 (dk_at dksJ5_copyOf_2_0 21 rfl rfl)
theorem dJ5_copyOf_2_24 : decode cJ5_copyOf_2 24 = .ok (.astore_n 3, 1) := dk_78 (dk_at dksJ5_copyOf_2_1 0 rfl rfl)
theorem dJ5_copyOf_2_25 : decode cJ5_copyOf_2 25 = .ok (.aload_n 0, 1) := dk_42 (dk_at dksJ5_copyOf_2_1 1 rfl rfl)
theorem dJ5_copyOf_2_26 : decode cJ5_copyOf_2 26 = .ok (.iconst 0, 1) := dk_3 (dk_at dksJ5_copyOf_2_1 2 rfl rfl)
theorem dJ5_copyOf_2_27 : decode cJ5_copyOf_2 27 = .ok (.aload_n 3, 1) := dk_45 (dk_at dksJ5_copyOf_2_1 3 rfl rfl)
theorem dJ5_copyOf_2_28 : decode cJ5_copyOf_2 28 = .ok (.iconst 0, 1) := dk_3 (dk_at dksJ5_copyOf_2_1 4 rfl rfl)
theorem dJ5_copyOf_2_29 : decode cJ5_copyOf_2 29 = .ok (.aload_n 0, 1) := dk_42 (dk_at dksJ5_copyOf_2_1 5 rfl rfl)
theorem dJ5_copyOf_2_30 : decode cJ5_copyOf_2 30 = .ok (.arraylength, 1) := dk_190 (dk_at dksJ5_copyOf_2_1 6 rfl rfl)
theorem dJ5_copyOf_2_31 : decode cJ5_copyOf_2 31 = .ok (.iload_n 1, 1) := dk_27 (dk_at dksJ5_copyOf_2_1 7 rfl rfl)
theorem dJ5_copyOf_2_32 : decode cJ5_copyOf_2 32 = .ok (.invokestatic 304, 3) := dk_184 1 48 (dk_at dksJ5_copyOf_2_1 8 rfl rfl)
theorem dJ5_copyOf_2_35 : decode cJ5_copyOf_2 35 = .ok (.invokestatic 150, 3) := dk_184 0 150 (dk_at dksJ5_copyOf_2_1 11 rfl rfl)
theorem dJ5_copyOf_2_38 : decode cJ5_copyOf_2 38 = .ok (.aload_n 3, 1) := dk_45 (dk_at dksJ5_copyOf_2_1 14 rfl rfl)
theorem dJ5_copyOf_2_39 : decode cJ5_copyOf_2 39 = .ok (.areturn, 1) := dk_176 (dk_at dksJ5_copyOf_2_1 15 rfl rfl)
theorem q117 : (Jvm.Cond.initialized "java/util/Arrays") ∈ lw_all := lw_g (lw_at lw_m1 14 rfl) rfl
theorem q474 : (Jvm.Cond.static ({ cls := "java/util/Arrays", name := "copyOf", desc := "([Ljava/lang/Object;I)[Ljava/lang/Object;" } : Jvm.MethodName)) ∈ lw_all := lw_g (lw_at lw_m2 131 rfl) rfl
theorem q475 : (Jvm.Cond.code ({ cls := "java/util/Arrays", name := "copyOf", desc := "([Ljava/lang/Object;I)[Ljava/lang/Object;" } : Jvm.MethodName) prog_51_method_119_code (2 : Nat) (Option.some (Jvm.ClassFile.FieldType.array (Jvm.ClassFile.FieldType.object "java/lang/Object")))) ∈ lw_all := lw_g (lw_at lw_m2 132 rfl) rfl
theorem q476 : (Jvm.Cond.methodLink "java/util/Arrays" (86 : Nat) ({ cls := "java/lang/Object", name := "getClass", desc := "()Ljava/lang/Class;" } : Jvm.MethodName)) ∈ lw_all := lw_g (lw_at lw_m2 133 rfl) rfl
theorem q508 : (Jvm.Cond.methodLink "java/util/Arrays" (300 : Nat) ({ cls := "java/util/Arrays", name := "copyOf", desc := "([Ljava/lang/Object;ILjava/lang/Class;)[Ljava/lang/Object;" } : Jvm.MethodName)) ∈ lw_all := lw_g (lw_at lw_m2 165 rfl) rfl
theorem q509 : (Jvm.Cond.static ({ cls := "java/util/Arrays", name := "copyOf", desc := "([Ljava/lang/Object;ILjava/lang/Class;)[Ljava/lang/Object;" } : Jvm.MethodName)) ∈ lw_all := lw_g (lw_at lw_m2 166 rfl) rfl
theorem q510 : (Jvm.Cond.code ({ cls := "java/util/Arrays", name := "copyOf", desc := "([Ljava/lang/Object;ILjava/lang/Class;)[Ljava/lang/Object;" } : Jvm.MethodName) prog_51_method_120_code (4 : Nat) (Option.some (Jvm.ClassFile.FieldType.array (Jvm.ClassFile.FieldType.object "java/lang/Object")))) ∈ lw_all := lw_g (lw_at lw_m2 167 rfl) rfl
theorem q511 : (Jvm.Cond.classLink "java/util/Arrays" (110 : Nat) "[Ljava/lang/Object;") ∈ lw_all := lw_g (lw_at lw_m2 168 rfl) rfl
theorem q512 : (Jvm.Cond.classLink "java/util/Arrays" (2 : Nat) "java/lang/Object") ∈ lw_all := lw_g (lw_at lw_m2 169 rfl) rfl
theorem q513 : (Jvm.Cond.methodLink "java/util/Arrays" (304 : Nat) ({ cls := "java/lang/Math", name := "min", desc := "(II)I" } : Jvm.MethodName)) ∈ lw_all := lw_g (lw_at lw_m2 170 rfl) rfl
theorem q516 : (Jvm.Cond.methodLink "java/util/Arrays" (150 : Nat) ({ cls := "java/lang/System", name := "arraycopy", desc := "(Ljava/lang/Object;ILjava/lang/Object;II)V" } : Jvm.MethodName)) ∈ lw_all := lw_g (lw_at lw_m2 173 rfl) rfl
/-! java/util/Objects -/
set_option maxRecDepth 100000
def RJ6 : String := "java/util/Objects"
abbrev cJ6_checkIndex : ByteArray := prog_54_method_17_code
def yJ6_checkIndex : MethodName := ⟨RJ6, "checkIndex", "(II)I"⟩
def dkwJ6_checkIndex_0 : List UInt8 := [26, 27, 1, 184, 0, 105, 172]
abbrev dktJ6_checkIndex_0 : List UInt8 := dkwJ6_checkIndex_0 ++ []
theorem dksJ6_checkIndex_0 : cJ6_checkIndex.data.toList.drop 0 = dktJ6_checkIndex_0 := by decide +kernel
theorem dJ6_checkIndex_0 : decode cJ6_checkIndex 0 = .ok (.iload_n 0, 1) := dk_26 (dk_at dksJ6_checkIndex_0 0 rfl rfl)
theorem dJ6_checkIndex_1 : decode cJ6_checkIndex 1 = .ok (.iload_n 1, 1) := dk_27 (dk_at dksJ6_checkIndex_0 1 rfl rfl)
theorem dJ6_checkIndex_2 : decode cJ6_checkIndex 2 = .ok (.aconst_null, 1) := dk_1 (dk_at dksJ6_checkIndex_0 2 rfl rfl)
theorem dJ6_checkIndex_3 : decode cJ6_checkIndex 3 = .ok (.invokestatic 105, 3) := dk_184 0 105 (dk_at dksJ6_checkIndex_0 3 rfl rfl)
theorem dJ6_checkIndex_6 : decode cJ6_checkIndex 6 = .ok (.ireturn, 1) := dk_172 (dk_at dksJ6_checkIndex_0 6 rfl rfl)
theorem q121 : (Jvm.Cond.initialized "java/util/Objects") ∈ lw_all := lw_g (lw_at lw_m1 18 rfl) rfl
theorem q582 : (Jvm.Cond.static ({ cls := "java/util/Objects", name := "checkIndex", desc := "(II)I" } : Jvm.MethodName)) ∈ lw_all := lw_g (lw_at lw_m2 239 rfl) rfl
theorem q583 : (Jvm.Cond.code ({ cls := "java/util/Objects", name := "checkIndex", desc := "(II)I" } : Jvm.MethodName) prog_54_method_17_code (2 : Nat) (Option.some Jvm.ClassFile.FieldType.int)) ∈ lw_all := lw_g (lw_at lw_m3 0 rfl) rfl
theorem q584 : (Jvm.Cond.methodLink "java/util/Objects" (105 : Nat) ({ cls := "jdk/internal/util/Preconditions", name := "checkIndex", desc := "(IILjava/util/function/BiFunction;)I" } : Jvm.MethodName)) ∈ lw_all := lw_g (lw_at lw_m3 1 rfl) rfl
/-! jdk/internal/util/Preconditions -/
set_option maxRecDepth 100000
def RJ7 : String := "jdk/internal/util/Preconditions"
abbrev cJ7_checkIndex : ByteArray := prog_58_method_11_code
def yJ7_checkIndex : MethodName := ⟨RJ7, "checkIndex", "(IILjava/util/function/BiFunction;)I"⟩
def dkwJ7_checkIndex_0 : List UInt8 := [26, 155, 0, 8, 26, 27, 161, 0, 10, 44, 26, 27, 184, 0, 95, 191, 26, 172]
abbrev dktJ7_checkIndex_0 : List UInt8 := dkwJ7_checkIndex_0 ++ []
theorem dksJ7_checkIndex_0 : cJ7_checkIndex.data.toList.drop 0 = dktJ7_checkIndex_0 := by decide +kernel
theorem dJ7_checkIndex_0 : decode cJ7_checkIndex 0 = .ok (.iload_n 0, 1) := dk_26 (dk_at dksJ7_checkIndex_0 0 rfl rfl)
theorem dJ7_checkIndex_1 : decode cJ7_checkIndex 1 = .ok (.ifCond .lt 8, 3) := dk_155 0 8 (dk_at dksJ7_checkIndex_0 1 rfl rfl)
theorem dJ7_checkIndex_4 : decode cJ7_checkIndex 4 = .ok (.iload_n 0, 1) := dk_26 (dk_at dksJ7_checkIndex_0 4 rfl rfl)
theorem dJ7_checkIndex_5 : decode cJ7_checkIndex 5 = .ok (.iload_n 1, 1) := dk_27 (dk_at dksJ7_checkIndex_0 5 rfl rfl)
theorem dJ7_checkIndex_6 : decode cJ7_checkIndex 6 = .ok (.if_icmp .lt 10, 3) := dk_161 0 10 (dk_at dksJ7_checkIndex_0 6 rfl rfl)
theorem dJ7_checkIndex_9 : decode cJ7_checkIndex 9 = .ok (.aload_n 2, 1) := dk_44 (dk_at dksJ7_checkIndex_0 9 rfl rfl)
theorem dJ7_checkIndex_10 : decode cJ7_checkIndex 10 = .ok (.iload_n 0, 1) := dk_26 (dk_at dksJ7_checkIndex_0 10 rfl rfl)
theorem dJ7_checkIndex_11 : decode cJ7_checkIndex 11 = .ok (.iload_n 1, 1) := dk_27 (dk_at dksJ7_checkIndex_0 11 rfl rfl)
theorem dJ7_checkIndex_12 : decode cJ7_checkIndex 12 = .ok (.invokestatic 95, 3) := dk_184 0 95 (dk_at dksJ7_checkIndex_0 12 rfl rfl)
theorem dJ7_checkIndex_15 : decode cJ7_checkIndex 15 = .ok (.athrow, 1) := dk_191 (dk_at dksJ7_checkIndex_0 15 rfl rfl)
theorem dJ7_checkIndex_16 : decode cJ7_checkIndex 16 = .ok (.iload_n 0, 1) := dk_26 (dk_at dksJ7_checkIndex_0 16 rfl rfl)
theorem dJ7_checkIndex_17 : decode cJ7_checkIndex 17 = .ok (.ireturn, 1) := dk_172 (dk_at dksJ7_checkIndex_0 17 rfl rfl)
theorem q122 : (Jvm.Cond.initialized "jdk/internal/util/Preconditions") ∈ lw_all := lw_g (lw_at lw_m1 19 rfl) rfl
theorem q585 : (Jvm.Cond.static ({ cls := "jdk/internal/util/Preconditions", name := "checkIndex", desc := "(IILjava/util/function/BiFunction;)I" } : Jvm.MethodName)) ∈ lw_all := lw_g (lw_at lw_m3 2 rfl) rfl
theorem q586 : (Jvm.Cond.code ({ cls := "jdk/internal/util/Preconditions", name := "checkIndex", desc := "(IILjava/util/function/BiFunction;)I" } : Jvm.MethodName) prog_58_method_11_code (3 : Nat) (Option.some Jvm.ClassFile.FieldType.int)) ∈ lw_all := lw_g (lw_at lw_m3 3 rfl) rfl
theorem q785 : (Jvm.Cond.laysStatic "jdk/internal/util/Preconditions" "SIOOBE_FORMATTER" "Ljava/util/function/BiFunction;") ∈ lw_tbl := lw_at lw_m3 202 rfl
/-! java/lang/String -/
set_option maxRecDepth 100000
def RJ8 : String := "java/lang/String"
def TJ8 : u_T := fun k => match k with
  | 0 => ("java/lang/String", "value", "[B", true)
  | _ => ("java/lang/String", "coder", "B", true)
def tyJ8 : Nat → FieldType := fun k => match k with
  | 0 => .array .byte
  | _ => .byte
abbrev wsJ80 : List Cond := u_ws RJ8 TJ8 2
theorem nmJ8 : ∀ a, a < 2 → ∀ b, b < 2 → a ≠ b → (TJ8 a).2.1 ≠ (TJ8 b).2.1 := by decide +kernel
theorem tyJ8_ok : ∀ k, k < 2 → parseFieldDescriptor (TJ8 k).2.2.1 = some (tyJ8 k) := by decide +kernel
abbrev cJ8_length : ByteArray := prog_41_method_54_code
def yJ8_length : MethodName := ⟨RJ8, "length", "()I"⟩
def dkwJ8_length_0 : List UInt8 := [42, 180, 0, 9, 190, 42, 182, 1, 79, 122, 172]
abbrev dktJ8_length_0 : List UInt8 := dkwJ8_length_0 ++ []
theorem dksJ8_length_0 : cJ8_length.data.toList.drop 0 = dktJ8_length_0 := by decide +kernel
theorem dJ8_length_0 : decode cJ8_length 0 = .ok (.aload_n 0, 1) := dk_42 (dk_at dksJ8_length_0 0 rfl rfl)
theorem dJ8_length_1 : decode cJ8_length 1 = .ok (.getfield 9, 3) := dk_180 0 9 (dk_at dksJ8_length_0 1 rfl rfl)
theorem dJ8_length_4 : decode cJ8_length 4 = .ok (.arraylength, 1) := dk_190 (dk_at dksJ8_length_0 4 rfl rfl)
theorem dJ8_length_5 : decode cJ8_length 5 = .ok (.aload_n 0, 1) := dk_42 (dk_at dksJ8_length_0 5 rfl rfl)
theorem dJ8_length_6 : decode cJ8_length 6 = .ok (.invokevirtual 335, 3) := dk_182 1 79 (dk_at dksJ8_length_0 6 rfl rfl)
theorem dJ8_length_9 : decode cJ8_length 9 = .ok (.ishr, 1) := dk_122 (dk_at dksJ8_length_0 9 rfl rfl)
theorem dJ8_length_10 : decode cJ8_length 10 = .ok (.ireturn, 1) := dk_172 (dk_at dksJ8_length_0 10 rfl rfl)
abbrev cJ8_coder : ByteArray := prog_41_method_152_code
def yJ8_coder : MethodName := ⟨RJ8, "coder", "()B"⟩
def dkwJ8_coder_0 : List UInt8 := [178, 0, 38, 153, 0, 10, 42, 180, 0, 15, 167, 0, 4, 4, 172]
abbrev dktJ8_coder_0 : List UInt8 := dkwJ8_coder_0 ++ []
theorem dksJ8_coder_0 : cJ8_coder.data.toList.drop 0 = dktJ8_coder_0 := by decide +kernel
theorem dJ8_coder_0 : decode cJ8_coder 0 = .ok (.getstatic 38, 3) := dk_178 0 38 (dk_at dksJ8_coder_0 0 rfl rfl)
theorem dJ8_coder_3 : decode cJ8_coder 3 = .ok (.ifCond .eq 10, 3) := dk_153 0 10 (dk_at dksJ8_coder_0 3 rfl rfl)
theorem dJ8_coder_6 : decode cJ8_coder 6 = .ok (.aload_n 0, 1) := dk_42 (dk_at dksJ8_coder_0 6 rfl rfl)
theorem dJ8_coder_7 : decode cJ8_coder 7 = .ok (.getfield 15, 3) := dk_180 0 15 (dk_at dksJ8_coder_0 7 rfl rfl)
theorem dJ8_coder_10 : decode cJ8_coder 10 = .ok (.goto 4, 3) := dk_167 0 4 (dk_at dksJ8_coder_0 10 rfl rfl)
theorem dJ8_coder_13 : decode cJ8_coder 13 = .ok (.iconst 1, 1) := dk_4 (dk_at dksJ8_coder_0 13 rfl rfl)
theorem dJ8_coder_14 : decode cJ8_coder 14 = .ok (.ireturn, 1) := dk_172 (dk_at dksJ8_coder_0 14 rfl rfl)
abbrev cJ8_charAt : ByteArray := prog_41_method_56_code
def yJ8_charAt : MethodName := ⟨RJ8, "charAt", "(I)C"⟩
def dkwJ8_charAt_1 : List UInt8 := [172]
abbrev dktJ8_charAt_1 : List UInt8 := dkwJ8_charAt_1 ++ []
def dkwJ8_charAt_0 : List UInt8 := [42, 182, 1, 236, 153, 0, 12, 42, 180, 0, 9, 27, 184, 1, 239, 172, 42, 180, 0, 9, 27, 184, 1, 242]
abbrev dktJ8_charAt_0 : List UInt8 := dkwJ8_charAt_0 ++ dktJ8_charAt_1
theorem dksJ8_charAt_0 : cJ8_charAt.data.toList.drop 0 = dktJ8_charAt_0 := by decide +kernel
theorem dksJ8_charAt_1 : cJ8_charAt.data.toList.drop 24 = dktJ8_charAt_1 := dk_seg dksJ8_charAt_0 24 rfl rfl
theorem dJ8_charAt_0 : decode cJ8_charAt 0 = .ok (.aload_n 0, 1) := dk_42 (dk_at dksJ8_charAt_0 0 rfl rfl)
theorem dJ8_charAt_1 : decode cJ8_charAt 1 = .ok (.invokevirtual 492, 3) := dk_182 1 236 (dk_at dksJ8_charAt_0 1 rfl rfl)
theorem dJ8_charAt_4 : decode cJ8_charAt 4 = .ok (.ifCond .eq 12, 3) := dk_153 0 12 (dk_at dksJ8_charAt_0 4 rfl rfl)
theorem dJ8_charAt_7 : decode cJ8_charAt 7 = .ok (.aload_n 0, 1) := dk_42 (dk_at dksJ8_charAt_0 7 rfl rfl)
theorem dJ8_charAt_8 : decode cJ8_charAt 8 = .ok (.getfield 9, 3) := dk_180 0 9 (dk_at dksJ8_charAt_0 8 rfl rfl)
theorem dJ8_charAt_11 : decode cJ8_charAt 11 = .ok (.iload_n 1, 1) := dk_27 (dk_at dksJ8_charAt_0 11 rfl rfl)
theorem dJ8_charAt_12 : decode cJ8_charAt 12 = .ok (.invokestatic 495, 3) := dk_184 1 239 (dk_at dksJ8_charAt_0 12 rfl rfl)
theorem dJ8_charAt_15 : decode cJ8_charAt 15 = .ok (.ireturn, 1) := dk_172 (dk_at dksJ8_charAt_0 15 rfl rfl)
theorem dJ8_charAt_16 : decode cJ8_charAt 16 = .ok (.aload_n 0, 1) := dk_42 (dk_at dksJ8_charAt_0 16 rfl rfl)
theorem dJ8_charAt_17 : decode cJ8_charAt 17 = .ok (.getfield 9, 3) := dk_180 0 9 (dk_at dksJ8_charAt_0 17 rfl rfl)
theorem dJ8_charAt_20 : decode cJ8_charAt 20 = .ok (.iload_n 1, 1) := dk_27 (dk_at dksJ8_charAt_0 20 rfl rfl)
theorem dJ8_charAt_21 : decode cJ8_charAt 21 = .ok (.invokestatic 498, 3) := dk_184 1 242 (dk_at dksJ8_charAt_0 21 rfl rfl)
theorem dJ8_charAt_24 : decode cJ8_charAt 24 = .ok (.ireturn, 1) := dk_172 (dk_at dksJ8_charAt_1 0 rfl rfl)
abbrev cJ8_isLatin1 : ByteArray := prog_41_method_154_code
def yJ8_isLatin1 : MethodName := ⟨RJ8, "isLatin1", "()Z"⟩
def dkwJ8_isLatin1_0 : List UInt8 := [178, 0, 38, 153, 0, 14, 42, 180, 0, 15, 154, 0, 7, 4, 167, 0, 4, 3, 172]
abbrev dktJ8_isLatin1_0 : List UInt8 := dkwJ8_isLatin1_0 ++ []
theorem dksJ8_isLatin1_0 : cJ8_isLatin1.data.toList.drop 0 = dktJ8_isLatin1_0 := by decide +kernel
theorem dJ8_isLatin1_0 : decode cJ8_isLatin1 0 = .ok (.getstatic 38, 3) := dk_178 0 38 (dk_at dksJ8_isLatin1_0 0 rfl rfl)
theorem dJ8_isLatin1_3 : decode cJ8_isLatin1 3 = .ok (.ifCond .eq 14, 3) := dk_153 0 14 (dk_at dksJ8_isLatin1_0 3 rfl rfl)
theorem dJ8_isLatin1_6 : decode cJ8_isLatin1 6 = .ok (.aload_n 0, 1) := dk_42 (dk_at dksJ8_isLatin1_0 6 rfl rfl)
theorem dJ8_isLatin1_7 : decode cJ8_isLatin1 7 = .ok (.getfield 15, 3) := dk_180 0 15 (dk_at dksJ8_isLatin1_0 7 rfl rfl)
theorem dJ8_isLatin1_10 : decode cJ8_isLatin1 10 = .ok (.ifCond .ne 7, 3) := dk_154 0 7 (dk_at dksJ8_isLatin1_0 10 rfl rfl)
theorem dJ8_isLatin1_13 : decode cJ8_isLatin1 13 = .ok (.iconst 1, 1) := dk_4 (dk_at dksJ8_isLatin1_0 13 rfl rfl)
theorem dJ8_isLatin1_14 : decode cJ8_isLatin1 14 = .ok (.goto 4, 3) := dk_167 0 4 (dk_at dksJ8_isLatin1_0 14 rfl rfl)
theorem dJ8_isLatin1_17 : decode cJ8_isLatin1 17 = .ok (.iconst 0, 1) := dk_3 (dk_at dksJ8_isLatin1_0 17 rfl rfl)
theorem dJ8_isLatin1_18 : decode cJ8_isLatin1 18 = .ok (.ireturn, 1) := dk_172 (dk_at dksJ8_isLatin1_0 18 rfl rfl)
abbrev cJ8_checkIndex : ByteArray := prog_41_method_155_code
def yJ8_checkIndex : MethodName := ⟨RJ8, "checkIndex", "(II)V"⟩
def dkwJ8_checkIndex_0 : List UInt8 := [26, 27, 178, 4, 29, 184, 4, 35, 87, 177]
abbrev dktJ8_checkIndex_0 : List UInt8 := dkwJ8_checkIndex_0 ++ []
theorem dksJ8_checkIndex_0 : cJ8_checkIndex.data.toList.drop 0 = dktJ8_checkIndex_0 := by decide +kernel
theorem dJ8_checkIndex_0 : decode cJ8_checkIndex 0 = .ok (.iload_n 0, 1) := dk_26 (dk_at dksJ8_checkIndex_0 0 rfl rfl)
theorem dJ8_checkIndex_1 : decode cJ8_checkIndex 1 = .ok (.iload_n 1, 1) := dk_27 (dk_at dksJ8_checkIndex_0 1 rfl rfl)
theorem dJ8_checkIndex_2 : decode cJ8_checkIndex 2 = .ok (.getstatic 1053, 3) := dk_178 4 29 (dk_at dksJ8_checkIndex_0 2 rfl rfl)
theorem dJ8_checkIndex_5 : decode cJ8_checkIndex 5 = .ok (.invokestatic 1059, 3) := dk_184 4 35 (dk_at dksJ8_checkIndex_0 5 rfl rfl)
theorem dJ8_checkIndex_8 : decode cJ8_checkIndex 8 = .ok (.pop, 1) := dk_87 (dk_at dksJ8_checkIndex_0 8 rfl rfl)
theorem dJ8_checkIndex_9 : decode cJ8_checkIndex 9 = .ok (.return_, 1) := dk_177 (dk_at dksJ8_checkIndex_0 9 rfl rfl)
theorem q125 : (Jvm.Cond.initialized "java/lang/String") ∈ lw_all := lw_g (lw_at lw_m1 22 rfl) rfl
theorem q761 : (Jvm.Cond.instanceMethod ({ cls := "java/lang/String", name := "length", desc := "()I" } : Jvm.MethodName)) ∈ lw_all := lw_g (lw_at lw_m3 178 rfl) rfl
theorem q762 : (Jvm.Cond.selects "java/lang/String" ({ cls := "java/lang/String", name := "length", desc := "()I" } : Jvm.MethodName) ({ cls := "java/lang/String", name := "length", desc := "()I" } : Jvm.MethodName)) ∈ lw_all := lw_g (lw_at lw_m3 179 rfl) rfl
theorem q763 : (Jvm.Cond.code ({ cls := "java/lang/String", name := "length", desc := "()I" } : Jvm.MethodName) prog_41_method_54_code (1 : Nat) (Option.some Jvm.ClassFile.FieldType.int)) ∈ lw_all := lw_g (lw_at lw_m3 180 rfl) rfl
theorem q764 : (Jvm.Cond.methodLink "java/lang/String" (335 : Nat) ({ cls := "java/lang/String", name := "coder", desc := "()B" } : Jvm.MethodName)) ∈ lw_all := lw_g (lw_at lw_m3 181 rfl) rfl
theorem q765 : (Jvm.Cond.instanceMethod ({ cls := "java/lang/String", name := "coder", desc := "()B" } : Jvm.MethodName)) ∈ lw_all := lw_g (lw_at lw_m3 182 rfl) rfl
theorem q766 : (Jvm.Cond.selects "java/lang/String" ({ cls := "java/lang/String", name := "coder", desc := "()B" } : Jvm.MethodName) ({ cls := "java/lang/String", name := "coder", desc := "()B" } : Jvm.MethodName)) ∈ lw_all := lw_g (lw_at lw_m3 183 rfl) rfl
theorem q767 : (Jvm.Cond.code ({ cls := "java/lang/String", name := "coder", desc := "()B" } : Jvm.MethodName) prog_41_method_152_code (1 : Nat) (Option.some Jvm.ClassFile.FieldType.byte)) ∈ lw_all := lw_g (lw_at lw_m3 184 rfl) rfl
theorem q768 : (Jvm.Cond.fieldLink "java/lang/String" (38 : Nat) "java/lang/String" "COMPACT_STRINGS" "Z") ∈ lw_all := lw_g (lw_at lw_m3 185 rfl) rfl
theorem q769 : (Jvm.Cond.laysStatic "java/lang/String" "COMPACT_STRINGS" "Z") ∈ lw_tbl := lw_at lw_m3 186 rfl
theorem q771 : (Jvm.Cond.instanceMethod ({ cls := "java/lang/String", name := "charAt", desc := "(I)C" } : Jvm.MethodName)) ∈ lw_all := lw_g (lw_at lw_m3 188 rfl) rfl
theorem q772 : (Jvm.Cond.selects "java/lang/String" ({ cls := "java/lang/String", name := "charAt", desc := "(I)C" } : Jvm.MethodName) ({ cls := "java/lang/String", name := "charAt", desc := "(I)C" } : Jvm.MethodName)) ∈ lw_all := lw_g (lw_at lw_m3 189 rfl) rfl
theorem q773 : (Jvm.Cond.code ({ cls := "java/lang/String", name := "charAt", desc := "(I)C" } : Jvm.MethodName) prog_41_method_56_code (2 : Nat) (Option.some Jvm.ClassFile.FieldType.char)) ∈ lw_all := lw_g (lw_at lw_m3 190 rfl) rfl
theorem q774 : (Jvm.Cond.methodLink "java/lang/String" (492 : Nat) ({ cls := "java/lang/String", name := "isLatin1", desc := "()Z" } : Jvm.MethodName)) ∈ lw_all := lw_g (lw_at lw_m3 191 rfl) rfl
theorem q775 : (Jvm.Cond.instanceMethod ({ cls := "java/lang/String", name := "isLatin1", desc := "()Z" } : Jvm.MethodName)) ∈ lw_all := lw_g (lw_at lw_m3 192 rfl) rfl
theorem q776 : (Jvm.Cond.selects "java/lang/String" ({ cls := "java/lang/String", name := "isLatin1", desc := "()Z" } : Jvm.MethodName) ({ cls := "java/lang/String", name := "isLatin1", desc := "()Z" } : Jvm.MethodName)) ∈ lw_all := lw_g (lw_at lw_m3 193 rfl) rfl
theorem q777 : (Jvm.Cond.code ({ cls := "java/lang/String", name := "isLatin1", desc := "()Z" } : Jvm.MethodName) prog_41_method_154_code (1 : Nat) (Option.some Jvm.ClassFile.FieldType.boolean)) ∈ lw_all := lw_g (lw_at lw_m3 194 rfl) rfl
theorem q778 : (Jvm.Cond.methodLink "java/lang/String" (495 : Nat) ({ cls := "java/lang/StringLatin1", name := "charAt", desc := "([BI)C" } : Jvm.MethodName)) ∈ lw_all := lw_g (lw_at lw_m3 195 rfl) rfl
theorem q782 : (Jvm.Cond.static ({ cls := "java/lang/String", name := "checkIndex", desc := "(II)V" } : Jvm.MethodName)) ∈ lw_all := lw_g (lw_at lw_m3 199 rfl) rfl
theorem q783 : (Jvm.Cond.code ({ cls := "java/lang/String", name := "checkIndex", desc := "(II)V" } : Jvm.MethodName) prog_41_method_155_code (2 : Nat) (Option.none : Option Jvm.ClassFile.FieldType)) ∈ lw_all := lw_g (lw_at lw_m3 200 rfl) rfl
theorem q784 : (Jvm.Cond.fieldLink "java/lang/String" (1053 : Nat) "jdk/internal/util/Preconditions" "SIOOBE_FORMATTER" "Ljava/util/function/BiFunction;") ∈ lw_all := lw_g (lw_at lw_m3 201 rfl) rfl
theorem q786 : (Jvm.Cond.methodLink "java/lang/String" (1059 : Nat) ({ cls := "jdk/internal/util/Preconditions", name := "checkIndex", desc := "(IILjava/util/function/BiFunction;)I" } : Jvm.MethodName)) ∈ lw_all := lw_g (lw_at lw_m3 203 rfl) rfl
theorem q787 : (Jvm.Cond.methodLink "java/lang/String" (498 : Nat) ({ cls := "java/lang/StringUTF16", name := "charAt", desc := "([BI)C" } : Jvm.MethodName)) ∈ lw_all := lw_g (lw_at lw_m3 204 rfl) rfl
theorem q1462 : (Jvm.Cond.instantiable "java/lang/String" (4 : Nat)) ∈ lw_all := lw_g (lw_at lw_m6 159 rfl) rfl
theorem q1463 : (Jvm.Cond.laysFinal "java/lang/String" "java/lang/String" "value" "[B") ∈ lw_all := lw_g (lw_at lw_m6 160 rfl) rfl
theorem q1464 : (Jvm.Cond.soleField "java/lang/String" "value") ∈ lw_all := lw_g (lw_at lw_m6 161 rfl) rfl
theorem q1465 : (Jvm.Cond.laysFinal "java/lang/String" "java/lang/String" "coder" "B") ∈ lw_all := lw_g (lw_at lw_m6 162 rfl) rfl
theorem q1466 : (Jvm.Cond.soleField "java/lang/String" "coder") ∈ lw_all := lw_g (lw_at lw_m6 163 rfl) rfl
theorem q2197 : (Jvm.Cond.castable "java/lang/String" "java/lang/Object") ∈ lw_tbl := lw_at lw_m9 174 rfl
theorem q2210 : (Jvm.Cond.fieldLink "java/lang/String" (9 : Nat) "java/lang/String" "value" "[B") ∈ lw_all := lw_g (lw_at lw_m9 187 rfl) rfl
theorem q2211 : (Jvm.Cond.fieldLink "java/lang/String" (15 : Nat) "java/lang/String" "coder" "B") ∈ lw_all := lw_g (lw_at lw_m9 188 rfl) rfl
theorem in_J8 : ∀ w ∈ wsJ80, w ∈ lw_all := lw_in wsJ80 [1463, 1465] (by decide +kernel) (by decide +kernel)
/-! java/lang/StringLatin1 -/
set_option maxRecDepth 100000
def RJ9 : String := "java/lang/StringLatin1"
abbrev cJ9_charAt : ByteArray := prog_42_method_2_code
def yJ9_charAt : MethodName := ⟨RJ9, "charAt", "([BI)C"⟩
def dkwJ9_charAt_0 : List UInt8 := [27, 42, 190, 184, 0, 9, 42, 27, 51, 17, 0, 255, 126, 146, 172]
abbrev dktJ9_charAt_0 : List UInt8 := dkwJ9_charAt_0 ++ []
theorem dksJ9_charAt_0 : cJ9_charAt.data.toList.drop 0 = dktJ9_charAt_0 := by decide +kernel
theorem dJ9_charAt_0 : decode cJ9_charAt 0 = .ok (.iload_n 1, 1) := dk_27 (dk_at dksJ9_charAt_0 0 rfl rfl)
theorem dJ9_charAt_1 : decode cJ9_charAt 1 = .ok (.aload_n 0, 1) := dk_42 (dk_at dksJ9_charAt_0 1 rfl rfl)
theorem dJ9_charAt_2 : decode cJ9_charAt 2 = .ok (.arraylength, 1) := dk_190 (dk_at dksJ9_charAt_0 2 rfl rfl)
theorem dJ9_charAt_3 : decode cJ9_charAt 3 = .ok (.invokestatic 9, 3) := dk_184 0 9 (dk_at dksJ9_charAt_0 3 rfl rfl)
theorem dJ9_charAt_6 : decode cJ9_charAt 6 = .ok (.aload_n 0, 1) := dk_42 (dk_at dksJ9_charAt_0 6 rfl rfl)
theorem dJ9_charAt_7 : decode cJ9_charAt 7 = .ok (.iload_n 1, 1) := dk_27 (dk_at dksJ9_charAt_0 7 rfl rfl)
theorem dJ9_charAt_8 : decode cJ9_charAt 8 = .ok (.baload, 1) := dk_51 (dk_at dksJ9_charAt_0 8 rfl rfl)
theorem dJ9_charAt_9 : decode cJ9_charAt 9 = .ok (.sipush 255, 3) := dk_17 0 255 (dk_at dksJ9_charAt_0 9 rfl rfl)
theorem dJ9_charAt_12 : decode cJ9_charAt 12 = .ok (.iand, 1) := dk_126 (dk_at dksJ9_charAt_0 12 rfl rfl)
theorem dJ9_charAt_13 : decode cJ9_charAt 13 = .ok (.i2c, 1) := dk_146 (dk_at dksJ9_charAt_0 13 rfl rfl)
theorem dJ9_charAt_14 : decode cJ9_charAt 14 = .ok (.ireturn, 1) := dk_172 (dk_at dksJ9_charAt_0 14 rfl rfl)
theorem q126 : (Jvm.Cond.initialized "java/lang/StringLatin1") ∈ lw_all := lw_g (lw_at lw_m1 23 rfl) rfl
theorem q779 : (Jvm.Cond.static ({ cls := "java/lang/StringLatin1", name := "charAt", desc := "([BI)C" } : Jvm.MethodName)) ∈ lw_all := lw_g (lw_at lw_m3 196 rfl) rfl
theorem q780 : (Jvm.Cond.code ({ cls := "java/lang/StringLatin1", name := "charAt", desc := "([BI)C" } : Jvm.MethodName) prog_42_method_2_code (2 : Nat) (Option.some Jvm.ClassFile.FieldType.char)) ∈ lw_all := lw_g (lw_at lw_m3 197 rfl) rfl
theorem q781 : (Jvm.Cond.methodLink "java/lang/StringLatin1" (9 : Nat) ({ cls := "java/lang/String", name := "checkIndex", desc := "(II)V" } : Jvm.MethodName)) ∈ lw_all := lw_g (lw_at lw_m3 198 rfl) rfl
/-! NobodysBard$State -/
set_option maxRecDepth 100000
def RX1 : String := "NobodysBard$State"
def TX1 : u_T := fun k => match k with
  | 0 => ("NobodysBard$State", "printDay", "I", false)
  | 1 => ("NobodysBard$State", "high", "I", false)
  | 2 => ("NobodysBard$State", "low", "I", false)
  | 3 => ("NobodysBard$State", "songs", "Ljava/util/ArrayList;", true)
  | 4 => ("NobodysBard$State", "books", "Ljava/util/ArrayList;", true)
  | 5 => ("NobodysBard$State", "print", "Ljava/util/ArrayList;", true)
  | 6 => ("NobodysBard$State", "versions", "Ljava/util/ArrayList;", true)
  | 7 => ("NobodysBard$State", "answers", "Ljava/util/ArrayList;", true)
  | 8 => ("NobodysBard$State", "paid", "Ljava/util/ArrayList;", true)
  | 9 => ("NobodysBard$State", "pages", "Ljava/util/ArrayList;", true)
  | 10 => ("NobodysBard$State", "free", "Ljava/util/ArrayList;", true)
  | 11 => ("NobodysBard$State", "years", "[I", true)
  | 12 => ("NobodysBard$State", "weights", "[I", true)
  | 13 => ("NobodysBard$State", "says", "[I", true)
  | 14 => ("NobodysBard$State", "worlds", "I", false)
  | 15 => ("NobodysBard$State", "rules", "Ljava/util/ArrayList;", false)
  | _ => ("NobodysBard$State", "law", "LNobodysBard$Law;", false)
def tyX1 : Nat → FieldType := fun k => match k with
  | 0 => .int
  | 1 => .int
  | 2 => .int
  | 3 => .object "java/util/ArrayList"
  | 4 => .object "java/util/ArrayList"
  | 5 => .object "java/util/ArrayList"
  | 6 => .object "java/util/ArrayList"
  | 7 => .object "java/util/ArrayList"
  | 8 => .object "java/util/ArrayList"
  | 9 => .object "java/util/ArrayList"
  | 10 => .object "java/util/ArrayList"
  | 11 => .array .int
  | 12 => .array .int
  | 13 => .array .int
  | 14 => .int
  | 15 => .object "java/util/ArrayList"
  | _ => .object "NobodysBard$Law"
abbrev wsX10 : List Cond := u_ws RX1 TX1 17
set_option maxRecDepth 100000 in
theorem nmX1 : ∀ a, a < 17 → ∀ b, b < 17 → a ≠ b → (TX1 a).2.1 ≠ (TX1 b).2.1 := by decide +kernel
set_option maxRecDepth 100000 in
theorem tyX1_ok : ∀ k, k < 17 → parseFieldDescriptor (TX1 k).2.2.1 = some (tyX1 k) := by decide +kernel
abbrev cX1_init : ByteArray := prog_23_method_1_code
def yX1_init : MethodName := ⟨RX1, "<init>", "()V"⟩
def dkwX1_init_7 : List UInt8 := [181, 0, 67, 177]
abbrev dktX1_init_7 : List UInt8 := dkwX1_init_7 ++ []
def dkwX1_init_6 : List UInt8 := [181, 0, 58, 42, 187, 0, 21, 89, 5, 183, 0, 23, 181, 0, 61, 42, 187, 0, 64, 89, 183, 0, 66]
abbrev dktX1_init_6 : List UInt8 := dkwX1_init_6 ++ dktX1_init_7
def dkwX1_init_5 : List UInt8 := [17, 1, 0, 188, 10, 181, 0, 51, 42, 16, 8, 188, 10, 181, 0, 55, 42, 17, 0, 128, 188, 10]
abbrev dktX1_init_5 : List UInt8 := dkwX1_init_5 ++ dktX1_init_6
def dkwX1_init_4 : List UInt8 := [187, 0, 21, 89, 5, 183, 0, 23, 181, 0, 45, 42, 187, 0, 21, 89, 5, 183, 0, 23, 181, 0, 48, 42]
abbrev dktX1_init_4 : List UInt8 := dkwX1_init_4 ++ dktX1_init_5
def dkwX1_init_3 : List UInt8 := [187, 0, 21, 89, 5, 183, 0, 23, 181, 0, 39, 42, 187, 0, 21, 89, 5, 183, 0, 23, 181, 0, 42, 42]
abbrev dktX1_init_3 : List UInt8 := dkwX1_init_3 ++ dktX1_init_4
def dkwX1_init_2 : List UInt8 := [187, 0, 21, 89, 5, 183, 0, 23, 181, 0, 33, 42, 187, 0, 21, 89, 5, 183, 0, 23, 181, 0, 36, 42]
abbrev dktX1_init_2 : List UInt8 := dkwX1_init_2 ++ dktX1_init_3
def dkwX1_init_1 : List UInt8 := [187, 0, 21, 89, 5, 183, 0, 23, 181, 0, 26, 42, 187, 0, 21, 89, 5, 183, 0, 23, 181, 0, 30, 42]
abbrev dktX1_init_1 : List UInt8 := dkwX1_init_1 ++ dktX1_init_2
def dkwX1_init_0 : List UInt8 := [42, 183, 0, 3, 42, 17, 19, 136, 181, 0, 9, 42, 16, 80, 181, 0, 15, 42, 16, 50, 181, 0, 18, 42]
abbrev dktX1_init_0 : List UInt8 := dkwX1_init_0 ++ dktX1_init_1
theorem dksX1_init_0 : cX1_init.data.toList.drop 0 = dktX1_init_0 := by decide +kernel
theorem dksX1_init_1 : cX1_init.data.toList.drop 24 = dktX1_init_1 := dk_seg dksX1_init_0 24 rfl rfl
theorem dksX1_init_2 : cX1_init.data.toList.drop 48 = dktX1_init_2 := dk_seg dksX1_init_1 24 rfl rfl
theorem dksX1_init_3 : cX1_init.data.toList.drop 72 = dktX1_init_3 := dk_seg dksX1_init_2 24 rfl rfl
theorem dksX1_init_4 : cX1_init.data.toList.drop 96 = dktX1_init_4 := dk_seg dksX1_init_3 24 rfl rfl
theorem dksX1_init_5 : cX1_init.data.toList.drop 120 = dktX1_init_5 := dk_seg dksX1_init_4 24 rfl rfl
theorem dksX1_init_6 : cX1_init.data.toList.drop 142 = dktX1_init_6 := dk_seg dksX1_init_5 22 rfl rfl
theorem dksX1_init_7 : cX1_init.data.toList.drop 165 = dktX1_init_7 := dk_seg dksX1_init_6 23 rfl rfl
theorem dX1_init_0 : decode cX1_init 0 = .ok (.aload_n 0, 1) := dk_42 (dk_at dksX1_init_0 0 rfl rfl)
theorem dX1_init_1 : decode cX1_init 1 = .ok (.invokespecial 3, 3) := dk_183 0 3 (dk_at dksX1_init_0 1 rfl rfl)
theorem dX1_init_4 : decode cX1_init 4 = .ok (.aload_n 0, 1) := dk_42 (dk_at dksX1_init_0 4 rfl rfl)
theorem dX1_init_5 : decode cX1_init 5 = .ok (.sipush 5000, 3) := dk_17 19 136 (dk_at dksX1_init_0 5 rfl rfl)
theorem dX1_init_8 : decode cX1_init 8 = .ok (.putfield 9, 3) := dk_181 0 9 (dk_at dksX1_init_0 8 rfl rfl)
theorem dX1_init_11 : decode cX1_init 11 = .ok (.aload_n 0, 1) := dk_42 (dk_at dksX1_init_0 11 rfl rfl)
theorem dX1_init_12 : decode cX1_init 12 = .ok (.bipush 80, 2) := dk_16 80 (dk_at dksX1_init_0 12 rfl rfl)
theorem dX1_init_14 : decode cX1_init 14 = .ok (.putfield 15, 3) := dk_181 0 15 (dk_at dksX1_init_0 14 rfl rfl)
theorem dX1_init_17 : decode cX1_init 17 = .ok (.aload_n 0, 1) := dk_42 (dk_at dksX1_init_0 17 rfl rfl)
theorem dX1_init_18 : decode cX1_init 18 = .ok (.bipush 50, 2) := dk_16 50 (dk_at dksX1_init_0 18 rfl rfl)
theorem dX1_init_20 : decode cX1_init 20 = .ok (.putfield 18, 3) := dk_181 0 18 (dk_at dksX1_init_0 20 rfl rfl)
theorem dX1_init_23 : decode cX1_init 23 = .ok (.aload_n 0, 1) := dk_42 (dk_at dksX1_init_0 23 rfl rfl)
theorem dX1_init_24 : decode cX1_init 24 = .ok (.new 21, 3) := dk_187 0 21 (dk_at dksX1_init_1 0 rfl rfl)
theorem dX1_init_27 : decode cX1_init 27 = .ok (.dup, 1) := dk_89 (dk_at dksX1_init_1 3 rfl rfl)
theorem dX1_init_28 : decode cX1_init 28 = .ok (.iconst 2, 1) := dk_5 (dk_at dksX1_init_1 4 rfl rfl)
theorem dX1_init_29 : decode cX1_init 29 = .ok (.invokespecial 23, 3) := dk_183 0 23 (dk_at dksX1_init_1 5 rfl rfl)
theorem dX1_init_32 : decode cX1_init 32 = .ok (.putfield 26, 3) := dk_181 0 26 (dk_at dksX1_init_1 8 rfl rfl)
theorem dX1_init_35 : decode cX1_init 35 = .ok (.aload_n 0, 1) := dk_42 (dk_at dksX1_init_1 11 rfl rfl)
theorem dX1_init_36 : decode cX1_init 36 = .ok (.new 21, 3) := dk_187 0 21 (dk_at dksX1_init_1 12 rfl rfl)
theorem dX1_init_39 : decode cX1_init 39 = .ok (.dup, 1) := dk_89 (dk_at dksX1_init_1 15 rfl rfl)
theorem dX1_init_40 : decode cX1_init 40 = .ok (.iconst 2, 1) := dk_5 (dk_at dksX1_init_1 16 rfl rfl)
theorem dX1_init_41 : decode cX1_init 41 = .ok (.invokespecial 23, 3) := dk_183 0 23 (dk_at dksX1_init_1 17 rfl rfl)
theorem dX1_init_44 : decode cX1_init 44 = .ok (.putfield 30, 3) := dk_181 0 30 (dk_at dksX1_init_1 20 rfl rfl)
theorem dX1_init_47 : decode cX1_init 47 = .ok (.aload_n 0, 1) := dk_42 (dk_at dksX1_init_1 23 rfl rfl)
theorem dX1_init_48 : decode cX1_init 48 = .ok (.new 21, 3) := dk_187 0 21 (dk_at dksX1_init_2 0 rfl rfl)
theorem dX1_init_51 : decode cX1_init 51 = .ok (.dup, 1) := dk_89 (dk_at dksX1_init_2 3 rfl rfl)
theorem dX1_init_52 : decode cX1_init 52 = .ok (.iconst 2, 1) := dk_5 (dk_at dksX1_init_2 4 rfl rfl)
theorem dX1_init_53 : decode cX1_init 53 = .ok (.invokespecial 23, 3) := dk_183 0 23 (dk_at dksX1_init_2 5 rfl rfl)
theorem dX1_init_56 : decode cX1_init 56 = .ok (.putfield 33, 3) := dk_181 0 33 (dk_at dksX1_init_2 8 rfl rfl)
theorem dX1_init_59 : decode cX1_init 59 = .ok (.aload_n 0, 1) := dk_42 (dk_at dksX1_init_2 11 rfl rfl)
theorem dX1_init_60 : decode cX1_init 60 = .ok (.new 21, 3) := dk_187 0 21 (dk_at dksX1_init_2 12 rfl rfl)
theorem dX1_init_63 : decode cX1_init 63 = .ok (.dup, 1) := dk_89 (dk_at dksX1_init_2 15 rfl rfl)
theorem dX1_init_64 : decode cX1_init 64 = .ok (.iconst 2, 1) := dk_5 (dk_at dksX1_init_2 16 rfl rfl)
theorem dX1_init_65 : decode cX1_init 65 = .ok (.invokespecial 23, 3) := dk_183 0 23 (dk_at dksX1_init_2 17 rfl rfl)
theorem dX1_init_68 : decode cX1_init 68 = .ok (.putfield 36, 3) := dk_181 0 36 (dk_at dksX1_init_2 20 rfl rfl)
theorem dX1_init_71 : decode cX1_init 71 = .ok (.aload_n 0, 1) := dk_42 (dk_at dksX1_init_2 23 rfl rfl)
theorem dX1_init_72 : decode cX1_init 72 = .ok (.new 21, 3) := dk_187 0 21 (dk_at dksX1_init_3 0 rfl rfl)
theorem dX1_init_75 : decode cX1_init 75 = .ok (.dup, 1) := dk_89 (dk_at dksX1_init_3 3 rfl rfl)
theorem dX1_init_76 : decode cX1_init 76 = .ok (.iconst 2, 1) := dk_5 (dk_at dksX1_init_3 4 rfl rfl)
theorem dX1_init_77 : decode cX1_init 77 = .ok (.invokespecial 23, 3) := dk_183 0 23 (dk_at dksX1_init_3 5 rfl rfl)
theorem dX1_init_80 : decode cX1_init 80 = .ok (.putfield 39, 3) := dk_181 0 39 (dk_at dksX1_init_3 8 rfl rfl)
theorem dX1_init_83 : decode cX1_init 83 = .ok (.aload_n 0, 1) := dk_42 (dk_at dksX1_init_3 11 rfl rfl)
theorem dX1_init_84 : decode cX1_init 84 = .ok (.new 21, 3) := dk_187 0 21 (dk_at dksX1_init_3 12 rfl rfl)
theorem dX1_init_87 : decode cX1_init 87 = .ok (.dup, 1) := dk_89 (dk_at dksX1_init_3 15 rfl rfl)
theorem dX1_init_88 : decode cX1_init 88 = .ok (.iconst 2, 1) := dk_5 (dk_at dksX1_init_3 16 rfl rfl)
theorem dX1_init_89 : decode cX1_init 89 = .ok (.invokespecial 23, 3) := dk_183 0 23 (dk_at dksX1_init_3 17 rfl rfl)
theorem dX1_init_92 : decode cX1_init 92 = .ok (.putfield 42, 3) := dk_181 0 42 (dk_at dksX1_init_3 20 rfl rfl)
theorem dX1_init_95 : decode cX1_init 95 = .ok (.aload_n 0, 1) := dk_42 (dk_at dksX1_init_3 23 rfl rfl)
theorem dX1_init_96 : decode cX1_init 96 = .ok (.new 21, 3) := dk_187 0 21 (dk_at dksX1_init_4 0 rfl rfl)
theorem dX1_init_99 : decode cX1_init 99 = .ok (.dup, 1) := dk_89 (dk_at dksX1_init_4 3 rfl rfl)
theorem dX1_init_100 : decode cX1_init 100 = .ok (.iconst 2, 1) := dk_5 (dk_at dksX1_init_4 4 rfl rfl)
theorem dX1_init_101 : decode cX1_init 101 = .ok (.invokespecial 23, 3) := dk_183 0 23 (dk_at dksX1_init_4 5 rfl rfl)
theorem dX1_init_104 : decode cX1_init 104 = .ok (.putfield 45, 3) := dk_181 0 45 (dk_at dksX1_init_4 8 rfl rfl)
theorem dX1_init_107 : decode cX1_init 107 = .ok (.aload_n 0, 1) := dk_42 (dk_at dksX1_init_4 11 rfl rfl)
theorem dX1_init_108 : decode cX1_init 108 = .ok (.new 21, 3) := dk_187 0 21 (dk_at dksX1_init_4 12 rfl rfl)
theorem dX1_init_111 : decode cX1_init 111 = .ok (.dup, 1) := dk_89 (dk_at dksX1_init_4 15 rfl rfl)
theorem dX1_init_112 : decode cX1_init 112 = .ok (.iconst 2, 1) := dk_5 (dk_at dksX1_init_4 16 rfl rfl)
theorem dX1_init_113 : decode cX1_init 113 = .ok (.invokespecial 23, 3) := dk_183 0 23 (dk_at dksX1_init_4 17 rfl rfl)
theorem dX1_init_116 : decode cX1_init 116 = .ok (.putfield 48, 3) := dk_181 0 48 (dk_at dksX1_init_4 20 rfl rfl)
theorem dX1_init_119 : decode cX1_init 119 = .ok (.aload_n 0, 1) := dk_42 (dk_at dksX1_init_4 23 rfl rfl)
theorem dX1_init_120 : decode cX1_init 120 = .ok (.sipush 256, 3) := dk_17 1 0 (dk_at dksX1_init_5 0 rfl rfl)
theorem dX1_init_123 : decode cX1_init 123 = .ok (.newarray .int, 2) := dk_188_10 (dk_at dksX1_init_5 3 rfl rfl)
theorem dX1_init_125 : decode cX1_init 125 = .ok (.putfield 51, 3) := dk_181 0 51 (dk_at dksX1_init_5 5 rfl rfl)
theorem dX1_init_128 : decode cX1_init 128 = .ok (.aload_n 0, 1) := dk_42 (dk_at dksX1_init_5 8 rfl rfl)
theorem dX1_init_129 : decode cX1_init 129 = .ok (.bipush 8, 2) := dk_16 8 (dk_at dksX1_init_5 9 rfl rfl)
theorem dX1_init_131 : decode cX1_init 131 = .ok (.newarray .int, 2) := dk_188_10 (dk_at dksX1_init_5 11 rfl rfl)
theorem dX1_init_133 : decode cX1_init 133 = .ok (.putfield 55, 3) := dk_181 0 55 (dk_at dksX1_init_5 13 rfl rfl)
theorem dX1_init_136 : decode cX1_init 136 = .ok (.aload_n 0, 1) := dk_42 (dk_at dksX1_init_5 16 rfl rfl)
theorem dX1_init_137 : decode cX1_init 137 = .ok (.sipush 128, 3) := dk_17 0 128 (dk_at dksX1_init_5 17 rfl rfl)
theorem dX1_init_140 : decode cX1_init 140 = .ok (.newarray .int, 2) := dk_188_10 (dk_at dksX1_init_5 20 rfl rfl)
theorem dX1_init_142 : decode cX1_init 142 = .ok (.putfield 58, 3) := dk_181 0 58 (dk_at dksX1_init_6 0 rfl rfl)
theorem dX1_init_145 : decode cX1_init 145 = .ok (.aload_n 0, 1) := dk_42 (dk_at dksX1_init_6 3 rfl rfl)
theorem dX1_init_146 : decode cX1_init 146 = .ok (.new 21, 3) := dk_187 0 21 (dk_at dksX1_init_6 4 rfl rfl)
theorem dX1_init_149 : decode cX1_init 149 = .ok (.dup, 1) := dk_89 (dk_at dksX1_init_6 7 rfl rfl)
theorem dX1_init_150 : decode cX1_init 150 = .ok (.iconst 2, 1) := dk_5 (dk_at dksX1_init_6 8 rfl rfl)
theorem dX1_init_151 : decode cX1_init 151 = .ok (.invokespecial 23, 3) := dk_183 0 23 (dk_at dksX1_init_6 9 rfl rfl)
theorem dX1_init_154 : decode cX1_init 154 = .ok (.putfield 61, 3) := dk_181 0 61 (dk_at dksX1_init_6 12 rfl rfl)
theorem dX1_init_157 : decode cX1_init 157 = .ok (.aload_n 0, 1) := dk_42 (dk_at dksX1_init_6 15 rfl rfl)
theorem dX1_init_158 : decode cX1_init 158 = .ok (.new 64, 3) := dk_187 0 64 (dk_at dksX1_init_6 16 rfl rfl)
theorem dX1_init_161 : decode cX1_init 161 = .ok (.dup, 1) := dk_89 (dk_at dksX1_init_6 19 rfl rfl)
theorem dX1_init_162 : decode cX1_init 162 = .ok (.invokespecial 66, 3) := dk_183 0 66 (dk_at dksX1_init_6 20 rfl rfl)
theorem dX1_init_165 : decode cX1_init 165 = .ok (.putfield 67, 3) := dk_181 0 67 (dk_at dksX1_init_7 0 rfl rfl)
theorem dX1_init_168 : decode cX1_init 168 = .ok (.return_, 1) := dk_177 (dk_at dksX1_init_7 3 rfl rfl)
abbrev cX1_copy : ByteArray := prog_23_method_4_code
def yX1_copy : MethodName := ⟨RX1, "copy", "()LNobodysBard$State;"⟩
def dkwX1_copy_11 : List UInt8 := [181, 0, 61, 43, 42, 180, 0, 67, 181, 0, 67, 43, 176]
abbrev dktX1_copy_11 : List UInt8 := dkwX1_copy_11 ++ []
def dkwX1_copy_10 : List UInt8 := [180, 0, 58, 3, 17, 0, 128, 184, 0, 105, 43, 42, 180, 0, 111, 181, 0, 111, 43, 42, 180, 0, 61]
abbrev dktX1_copy_10 : List UInt8 := dkwX1_copy_10 ++ dktX1_copy_11
def dkwX1_copy_9 : List UInt8 := [184, 0, 105, 42, 180, 0, 55, 3, 43, 180, 0, 55, 3, 16, 8, 184, 0, 105, 42, 180, 0, 58, 3, 43]
abbrev dktX1_copy_9 : List UInt8 := dkwX1_copy_9 ++ dktX1_copy_10
def dkwX1_copy_8 : List UInt8 := [180, 0, 48, 43, 180, 0, 48, 184, 0, 102, 42, 180, 0, 51, 3, 43, 180, 0, 51, 3, 17, 1, 0]
abbrev dktX1_copy_8 : List UInt8 := dkwX1_copy_8 ++ dktX1_copy_9
def dkwX1_copy_7 : List UInt8 := [42, 180, 0, 42, 43, 180, 0, 42, 184, 0, 102, 42, 180, 0, 45, 43, 180, 0, 45, 184, 0, 102, 42]
abbrev dktX1_copy_7 : List UInt8 := dkwX1_copy_7 ++ dktX1_copy_8
def dkwX1_copy_6 : List UInt8 := [180, 0, 39, 42, 180, 0, 39, 28, 182, 0, 75, 192, 0, 100, 182, 0, 85, 87, 132, 2, 1, 167, 255, 223]
abbrev dktX1_copy_6 : List UInt8 := dkwX1_copy_6 ++ dktX1_copy_7
def dkwX1_copy_5 : List UInt8 := [182, 0, 85, 87, 132, 2, 1, 167, 255, 223, 3, 61, 28, 42, 180, 0, 39, 182, 0, 71, 162, 0, 28, 43]
abbrev dktX1_copy_5 : List UInt8 := dkwX1_copy_5 ++ dktX1_copy_6
def dkwX1_copy_4 : List UInt8 := [180, 0, 36, 182, 0, 71, 162, 0, 28, 43, 180, 0, 36, 42, 180, 0, 36, 28, 182, 0, 75, 192, 0, 98]
abbrev dktX1_copy_4 : List UInt8 := dkwX1_copy_4 ++ dktX1_copy_5
def dkwX1_copy_3 : List UInt8 := [180, 0, 33, 28, 182, 0, 75, 192, 0, 96, 182, 0, 85, 87, 132, 2, 1, 167, 255, 223, 3, 61, 28, 42]
abbrev dktX1_copy_3 : List UInt8 := dkwX1_copy_3 ++ dktX1_copy_4
def dkwX1_copy_2 : List UInt8 := [180, 0, 30, 184, 0, 92, 3, 61, 28, 42, 180, 0, 33, 182, 0, 71, 162, 0, 28, 43, 180, 0, 33, 42]
abbrev dktX1_copy_2 : List UInt8 := dkwX1_copy_2 ++ dktX1_copy_3
def dkwX1_copy_1 : List UInt8 := [43, 42, 180, 0, 18, 181, 0, 18, 42, 180, 0, 26, 43, 180, 0, 26, 184, 0, 92, 42, 180, 0, 30, 43]
abbrev dktX1_copy_1 : List UInt8 := dkwX1_copy_1 ++ dktX1_copy_2
def dkwX1_copy_0 : List UInt8 := [187, 0, 10, 89, 183, 0, 91, 76, 43, 42, 180, 0, 9, 181, 0, 9, 43, 42, 180, 0, 15, 181, 0, 15]
abbrev dktX1_copy_0 : List UInt8 := dkwX1_copy_0 ++ dktX1_copy_1
theorem dksX1_copy_0 : cX1_copy.data.toList.drop 0 = dktX1_copy_0 := by decide +kernel
theorem dksX1_copy_1 : cX1_copy.data.toList.drop 24 = dktX1_copy_1 := dk_seg dksX1_copy_0 24 rfl rfl
theorem dksX1_copy_2 : cX1_copy.data.toList.drop 48 = dktX1_copy_2 := dk_seg dksX1_copy_1 24 rfl rfl
theorem dksX1_copy_3 : cX1_copy.data.toList.drop 72 = dktX1_copy_3 := dk_seg dksX1_copy_2 24 rfl rfl
theorem dksX1_copy_4 : cX1_copy.data.toList.drop 96 = dktX1_copy_4 := dk_seg dksX1_copy_3 24 rfl rfl
theorem dksX1_copy_5 : cX1_copy.data.toList.drop 120 = dktX1_copy_5 := dk_seg dksX1_copy_4 24 rfl rfl
theorem dksX1_copy_6 : cX1_copy.data.toList.drop 144 = dktX1_copy_6 := dk_seg dksX1_copy_5 24 rfl rfl
theorem dksX1_copy_7 : cX1_copy.data.toList.drop 168 = dktX1_copy_7 := dk_seg dksX1_copy_6 24 rfl rfl
theorem dksX1_copy_8 : cX1_copy.data.toList.drop 191 = dktX1_copy_8 := dk_seg dksX1_copy_7 23 rfl rfl
theorem dksX1_copy_9 : cX1_copy.data.toList.drop 214 = dktX1_copy_9 := dk_seg dksX1_copy_8 23 rfl rfl
theorem dksX1_copy_10 : cX1_copy.data.toList.drop 238 = dktX1_copy_10 := dk_seg dksX1_copy_9 24 rfl rfl
theorem dksX1_copy_11 : cX1_copy.data.toList.drop 261 = dktX1_copy_11 := dk_seg dksX1_copy_10 23 rfl rfl
theorem dX1_copy_0 : decode cX1_copy 0 = .ok (.new 10, 3) := dk_187 0 10 (dk_at dksX1_copy_0 0 rfl rfl)
theorem dX1_copy_3 : decode cX1_copy 3 = .ok (.dup, 1) := dk_89 (dk_at dksX1_copy_0 3 rfl rfl)
theorem dX1_copy_4 : decode cX1_copy 4 = .ok (.invokespecial 91, 3) := dk_183 0 91 (dk_at dksX1_copy_0 4 rfl rfl)
theorem dX1_copy_7 : decode cX1_copy 7 = .ok (.astore_n 1, 1) := dk_76 (dk_at dksX1_copy_0 7 rfl rfl)
theorem dX1_copy_8 : decode cX1_copy 8 = .ok (.aload_n 1, 1) := dk_43 (dk_at dksX1_copy_0 8 rfl rfl)
theorem dX1_copy_9 : decode cX1_copy 9 = .ok (.aload_n 0, 1) := dk_42 (dk_at dksX1_copy_0 9 rfl rfl)
theorem dX1_copy_10 : decode cX1_copy 10 = .ok (.getfield 9, 3) := dk_180 0 9 (dk_at dksX1_copy_0 10 rfl rfl)
theorem dX1_copy_13 : decode cX1_copy 13 = .ok (.putfield 9, 3) := dk_181 0 9 (dk_at dksX1_copy_0 13 rfl rfl)
theorem dX1_copy_16 : decode cX1_copy 16 = .ok (.aload_n 1, 1) := dk_43 (dk_at dksX1_copy_0 16 rfl rfl)
theorem dX1_copy_17 : decode cX1_copy 17 = .ok (.aload_n 0, 1) := dk_42 (dk_at dksX1_copy_0 17 rfl rfl)
theorem dX1_copy_18 : decode cX1_copy 18 = .ok (.getfield 15, 3) := dk_180 0 15 (dk_at dksX1_copy_0 18 rfl rfl)
theorem dX1_copy_21 : decode cX1_copy 21 = .ok (.putfield 15, 3) := dk_181 0 15 (dk_at dksX1_copy_0 21 rfl rfl)
theorem dX1_copy_24 : decode cX1_copy 24 = .ok (.aload_n 1, 1) := dk_43 (dk_at dksX1_copy_1 0 rfl rfl)
theorem dX1_copy_25 : decode cX1_copy 25 = .ok (.aload_n 0, 1) := dk_42 (dk_at dksX1_copy_1 1 rfl rfl)
theorem dX1_copy_26 : decode cX1_copy 26 = .ok (.getfield 18, 3) := dk_180 0 18 (dk_at dksX1_copy_1 2 rfl rfl)
theorem dX1_copy_29 : decode cX1_copy 29 = .ok (.putfield 18, 3) := dk_181 0 18 (dk_at dksX1_copy_1 5 rfl rfl)
theorem dX1_copy_32 : decode cX1_copy 32 = .ok (.aload_n 0, 1) := dk_42 (dk_at dksX1_copy_1 8 rfl rfl)
theorem dX1_copy_33 : decode cX1_copy 33 = .ok (.getfield 26, 3) := dk_180 0 26 (dk_at dksX1_copy_1 9 rfl rfl)
theorem dX1_copy_36 : decode cX1_copy 36 = .ok (.aload_n 1, 1) := dk_43 (dk_at dksX1_copy_1 12 rfl rfl)
theorem dX1_copy_37 : decode cX1_copy 37 = .ok (.getfield 26, 3) := dk_180 0 26 (dk_at dksX1_copy_1 13 rfl rfl)
theorem dX1_copy_40 : decode cX1_copy 40 = .ok (.invokestatic 92, 3) := dk_184 0 92 (dk_at dksX1_copy_1 16 rfl rfl)
theorem dX1_copy_43 : decode cX1_copy 43 = .ok (.aload_n 0, 1) := dk_42 (dk_at dksX1_copy_1 19 rfl rfl)
theorem dX1_copy_44 : decode cX1_copy 44 = .ok (.getfield 30, 3) := dk_180 0 30 (dk_at dksX1_copy_1 20 rfl rfl)
theorem dX1_copy_47 : decode cX1_copy 47 = .ok (.aload_n 1, 1) := dk_43 (dk_at dksX1_copy_1 23 rfl rfl)
theorem dX1_copy_48 : decode cX1_copy 48 = .ok (.getfield 30, 3) := dk_180 0 30 (dk_at dksX1_copy_2 0 rfl rfl)
theorem dX1_copy_51 : decode cX1_copy 51 = .ok (.invokestatic 92, 3) := dk_184 0 92 (dk_at dksX1_copy_2 3 rfl rfl)
theorem dX1_copy_54 : decode cX1_copy 54 = .ok (.iconst 0, 1) := dk_3 (dk_at dksX1_copy_2 6 rfl rfl)
theorem dX1_copy_55 : decode cX1_copy 55 = .ok (.istore_n 2, 1) := dk_61 (dk_at dksX1_copy_2 7 rfl rfl)
theorem dX1_copy_56 : decode cX1_copy 56 = .ok (.iload_n 2, 1) := dk_28 (dk_at dksX1_copy_2 8 rfl rfl)
theorem dX1_copy_57 : decode cX1_copy 57 = .ok (.aload_n 0, 1) := dk_42 (dk_at dksX1_copy_2 9 rfl rfl)
theorem dX1_copy_58 : decode cX1_copy 58 = .ok (.getfield 33, 3) := dk_180 0 33 (dk_at dksX1_copy_2 10 rfl rfl)
theorem dX1_copy_61 : decode cX1_copy 61 = .ok (.invokevirtual 71, 3) := dk_182 0 71 (dk_at dksX1_copy_2 13 rfl rfl)
theorem dX1_copy_64 : decode cX1_copy 64 = .ok (.if_icmp .ge 28, 3) := dk_162 0 28 (dk_at dksX1_copy_2 16 rfl rfl)
theorem dX1_copy_67 : decode cX1_copy 67 = .ok (.aload_n 1, 1) := dk_43 (dk_at dksX1_copy_2 19 rfl rfl)
theorem dX1_copy_68 : decode cX1_copy 68 = .ok (.getfield 33, 3) := dk_180 0 33 (dk_at dksX1_copy_2 20 rfl rfl)
theorem dX1_copy_71 : decode cX1_copy 71 = .ok (.aload_n 0, 1) := dk_42 (dk_at dksX1_copy_2 23 rfl rfl)
theorem dX1_copy_72 : decode cX1_copy 72 = .ok (.getfield 33, 3) := dk_180 0 33 (dk_at dksX1_copy_3 0 rfl rfl)
theorem dX1_copy_75 : decode cX1_copy 75 = .ok (.iload_n 2, 1) := dk_28 (dk_at dksX1_copy_3 3 rfl rfl)
theorem dX1_copy_76 : decode cX1_copy 76 = .ok (.invokevirtual 75, 3) := dk_182 0 75 (dk_at dksX1_copy_3 4 rfl rfl)
theorem dX1_copy_79 : decode cX1_copy 79 = .ok (.checkcast 96, 3) := dk_192 0 96 (dk_at dksX1_copy_3 7 rfl rfl)
theorem dX1_copy_82 : decode cX1_copy 82 = .ok (.invokevirtual 85, 3) := dk_182 0 85 (dk_at dksX1_copy_3 10 rfl rfl)
theorem dX1_copy_85 : decode cX1_copy 85 = .ok (.pop, 1) := dk_87 (dk_at dksX1_copy_3 13 rfl rfl)
theorem dX1_copy_86 : decode cX1_copy 86 = .ok (.iinc 2 1, 3) := dk_132 2 1 (dk_at dksX1_copy_3 14 rfl rfl)
theorem dX1_copy_89 : decode cX1_copy 89 = .ok (.goto (-33), 3) := dk_167 255 223 (dk_at dksX1_copy_3 17 rfl rfl)
theorem dX1_copy_92 : decode cX1_copy 92 = .ok (.iconst 0, 1) := dk_3 (dk_at dksX1_copy_3 20 rfl rfl)
theorem dX1_copy_93 : decode cX1_copy 93 = .ok (.istore_n 2, 1) := dk_61 (dk_at dksX1_copy_3 21 rfl rfl)
theorem dX1_copy_94 : decode cX1_copy 94 = .ok (.iload_n 2, 1) := dk_28 (dk_at dksX1_copy_3 22 rfl rfl)
theorem dX1_copy_95 : decode cX1_copy 95 = .ok (.aload_n 0, 1) := dk_42 (dk_at dksX1_copy_3 23 rfl rfl)
theorem dX1_copy_96 : decode cX1_copy 96 = .ok (.getfield 36, 3) := dk_180 0 36 (dk_at dksX1_copy_4 0 rfl rfl)
theorem dX1_copy_99 : decode cX1_copy 99 = .ok (.invokevirtual 71, 3) := dk_182 0 71 (dk_at dksX1_copy_4 3 rfl rfl)
theorem dX1_copy_102 : decode cX1_copy 102 = .ok (.if_icmp .ge 28, 3) := dk_162 0 28 (dk_at dksX1_copy_4 6 rfl rfl)
theorem dX1_copy_105 : decode cX1_copy 105 = .ok (.aload_n 1, 1) := dk_43 (dk_at dksX1_copy_4 9 rfl rfl)
theorem dX1_copy_106 : decode cX1_copy 106 = .ok (.getfield 36, 3) := dk_180 0 36 (dk_at dksX1_copy_4 10 rfl rfl)
theorem dX1_copy_109 : decode cX1_copy 109 = .ok (.aload_n 0, 1) := dk_42 (dk_at dksX1_copy_4 13 rfl rfl)
theorem dX1_copy_110 : decode cX1_copy 110 = .ok (.getfield 36, 3) := dk_180 0 36 (dk_at dksX1_copy_4 14 rfl rfl)
theorem dX1_copy_113 : decode cX1_copy 113 = .ok (.iload_n 2, 1) := dk_28 (dk_at dksX1_copy_4 17 rfl rfl)
theorem dX1_copy_114 : decode cX1_copy 114 = .ok (.invokevirtual 75, 3) := dk_182 0 75 (dk_at dksX1_copy_4 18 rfl rfl)
theorem dX1_copy_117 : decode cX1_copy 117 = .ok (.checkcast 98, 3) := dk_192 0 98 (dk_at dksX1_copy_4 21 rfl rfl)
theorem dX1_copy_120 : decode cX1_copy 120 = .ok (.invokevirtual 85, 3) := dk_182 0 85 (dk_at dksX1_copy_5 0 rfl rfl)
theorem dX1_copy_123 : decode cX1_copy 123 = .ok (.pop, 1) := dk_87 (dk_at dksX1_copy_5 3 rfl rfl)
theorem dX1_copy_124 : decode cX1_copy 124 = .ok (.iinc 2 1, 3) := dk_132 2 1 (dk_at dksX1_copy_5 4 rfl rfl)
theorem dX1_copy_127 : decode cX1_copy 127 = .ok (.goto (-33), 3) := dk_167 255 223 (dk_at dksX1_copy_5 7 rfl rfl)
theorem dX1_copy_130 : decode cX1_copy 130 = .ok (.iconst 0, 1) := dk_3 (dk_at dksX1_copy_5 10 rfl rfl)
theorem dX1_copy_131 : decode cX1_copy 131 = .ok (.istore_n 2, 1) := dk_61 (dk_at dksX1_copy_5 11 rfl rfl)
theorem dX1_copy_132 : decode cX1_copy 132 = .ok (.iload_n 2, 1) := dk_28 (dk_at dksX1_copy_5 12 rfl rfl)
theorem dX1_copy_133 : decode cX1_copy 133 = .ok (.aload_n 0, 1) := dk_42 (dk_at dksX1_copy_5 13 rfl rfl)
theorem dX1_copy_134 : decode cX1_copy 134 = .ok (.getfield 39, 3) := dk_180 0 39 (dk_at dksX1_copy_5 14 rfl rfl)
theorem dX1_copy_137 : decode cX1_copy 137 = .ok (.invokevirtual 71, 3) := dk_182 0 71 (dk_at dksX1_copy_5 17 rfl rfl)
theorem dX1_copy_140 : decode cX1_copy 140 = .ok (.if_icmp .ge 28, 3) := dk_162 0 28 (dk_at dksX1_copy_5 20 rfl rfl)
theorem dX1_copy_143 : decode cX1_copy 143 = .ok (.aload_n 1, 1) := dk_43 (dk_at dksX1_copy_5 23 rfl rfl)
theorem dX1_copy_144 : decode cX1_copy 144 = .ok (.getfield 39, 3) := dk_180 0 39 (dk_at dksX1_copy_6 0 rfl rfl)
theorem dX1_copy_147 : decode cX1_copy 147 = .ok (.aload_n 0, 1) := dk_42 (dk_at dksX1_copy_6 3 rfl rfl)
theorem dX1_copy_148 : decode cX1_copy 148 = .ok (.getfield 39, 3) := dk_180 0 39 (dk_at dksX1_copy_6 4 rfl rfl)
theorem dX1_copy_151 : decode cX1_copy 151 = .ok (.iload_n 2, 1) := dk_28 (dk_at dksX1_copy_6 7 rfl rfl)
theorem dX1_copy_152 : decode cX1_copy 152 = .ok (.invokevirtual 75, 3) := dk_182 0 75 (dk_at dksX1_copy_6 8 rfl rfl)
theorem dX1_copy_155 : decode cX1_copy 155 = .ok (.checkcast 100, 3) := dk_192 0 100 (dk_at dksX1_copy_6 11 rfl rfl)
theorem dX1_copy_158 : decode cX1_copy 158 = .ok (.invokevirtual 85, 3) := dk_182 0 85 (dk_at dksX1_copy_6 14 rfl rfl)
theorem dX1_copy_161 : decode cX1_copy 161 = .ok (.pop, 1) := dk_87 (dk_at dksX1_copy_6 17 rfl rfl)
theorem dX1_copy_162 : decode cX1_copy 162 = .ok (.iinc 2 1, 3) := dk_132 2 1 (dk_at dksX1_copy_6 18 rfl rfl)
theorem dX1_copy_165 : decode cX1_copy 165 = .ok (.goto (-33), 3) := dk_167 255 223 (dk_at dksX1_copy_6 21 rfl rfl)
theorem dX1_copy_168 : decode cX1_copy 168 = .ok (.aload_n 0, 1) := dk_42 (dk_at dksX1_copy_7 0 rfl rfl)
theorem dX1_copy_169 : decode cX1_copy 169 = .ok (.getfield 42, 3) := dk_180 0 42 (dk_at dksX1_copy_7 1 rfl rfl)
theorem dX1_copy_172 : decode cX1_copy 172 = .ok (.aload_n 1, 1) := dk_43 (dk_at dksX1_copy_7 4 rfl rfl)
theorem dX1_copy_173 : decode cX1_copy 173 = .ok (.getfield 42, 3) := dk_180 0 42 (dk_at dksX1_copy_7 5 rfl rfl)
theorem dX1_copy_176 : decode cX1_copy 176 = .ok (.invokestatic 102, 3) := dk_184 0 102 (dk_at dksX1_copy_7 8 rfl rfl)
theorem dX1_copy_179 : decode cX1_copy 179 = .ok (.aload_n 0, 1) := dk_42 (dk_at dksX1_copy_7 11 rfl rfl)
theorem dX1_copy_180 : decode cX1_copy 180 = .ok (.getfield 45, 3) := dk_180 0 45 (dk_at dksX1_copy_7 12 rfl rfl)
theorem dX1_copy_183 : decode cX1_copy 183 = .ok (.aload_n 1, 1) := dk_43 (dk_at dksX1_copy_7 15 rfl rfl)
theorem dX1_copy_184 : decode cX1_copy 184 = .ok (.getfield 45, 3) := dk_180 0 45 (dk_at dksX1_copy_7 16 rfl rfl)
theorem dX1_copy_187 : decode cX1_copy 187 = .ok (.invokestatic 102, 3) := dk_184 0 102 (dk_at dksX1_copy_7 19 rfl rfl)
theorem dX1_copy_190 : decode cX1_copy 190 = .ok (.aload_n 0, 1) := dk_42 (dk_at dksX1_copy_7 22 rfl rfl)
theorem dX1_copy_191 : decode cX1_copy 191 = .ok (.getfield 48, 3) := dk_180 0 48 (dk_at dksX1_copy_8 0 rfl rfl)
theorem dX1_copy_194 : decode cX1_copy 194 = .ok (.aload_n 1, 1) := dk_43 (dk_at dksX1_copy_8 3 rfl rfl)
theorem dX1_copy_195 : decode cX1_copy 195 = .ok (.getfield 48, 3) := dk_180 0 48 (dk_at dksX1_copy_8 4 rfl rfl)
theorem dX1_copy_198 : decode cX1_copy 198 = .ok (.invokestatic 102, 3) := dk_184 0 102 (dk_at dksX1_copy_8 7 rfl rfl)
theorem dX1_copy_201 : decode cX1_copy 201 = .ok (.aload_n 0, 1) := dk_42 (dk_at dksX1_copy_8 10 rfl rfl)
theorem dX1_copy_202 : decode cX1_copy 202 = .ok (.getfield 51, 3) := dk_180 0 51 (dk_at dksX1_copy_8 11 rfl rfl)
theorem dX1_copy_205 : decode cX1_copy 205 = .ok (.iconst 0, 1) := dk_3 (dk_at dksX1_copy_8 14 rfl rfl)
theorem dX1_copy_206 : decode cX1_copy 206 = .ok (.aload_n 1, 1) := dk_43 (dk_at dksX1_copy_8 15 rfl rfl)
theorem dX1_copy_207 : decode cX1_copy 207 = .ok (.getfield 51, 3) := dk_180 0 51 (dk_at dksX1_copy_8 16 rfl rfl)
theorem dX1_copy_210 : decode cX1_copy 210 = .ok (.iconst 0, 1) := dk_3 (dk_at dksX1_copy_8 19 rfl rfl)
theorem dX1_copy_211 : decode cX1_copy 211 = .ok (.sipush 256, 3) := dk_17 1 0 (dk_at dksX1_copy_8 20 rfl rfl)
theorem dX1_copy_214 : decode cX1_copy 214 = .ok (.invokestatic 105, 3) := dk_184 0 105 (dk_at dksX1_copy_9 0 rfl rfl)
theorem dX1_copy_217 : decode cX1_copy 217 = .ok (.aload_n 0, 1) := dk_42 (dk_at dksX1_copy_9 3 rfl rfl)
theorem dX1_copy_218 : decode cX1_copy 218 = .ok (.getfield 55, 3) := dk_180 0 55 (dk_at dksX1_copy_9 4 rfl rfl)
theorem dX1_copy_221 : decode cX1_copy 221 = .ok (.iconst 0, 1) := dk_3 (dk_at dksX1_copy_9 7 rfl rfl)
theorem dX1_copy_222 : decode cX1_copy 222 = .ok (.aload_n 1, 1) := dk_43 (dk_at dksX1_copy_9 8 rfl rfl)
theorem dX1_copy_223 : decode cX1_copy 223 = .ok (.getfield 55, 3) := dk_180 0 55 (dk_at dksX1_copy_9 9 rfl rfl)
theorem dX1_copy_226 : decode cX1_copy 226 = .ok (.iconst 0, 1) := dk_3 (dk_at dksX1_copy_9 12 rfl rfl)
theorem dX1_copy_227 : decode cX1_copy 227 = .ok (.bipush 8, 2) := dk_16 8 (dk_at dksX1_copy_9 13 rfl rfl)
theorem dX1_copy_229 : decode cX1_copy 229 = .ok (.invokestatic 105, 3) := dk_184 0 105 (dk_at dksX1_copy_9 15 rfl rfl)
theorem dX1_copy_232 : decode cX1_copy 232 = .ok (.aload_n 0, 1) := dk_42 (dk_at dksX1_copy_9 18 rfl rfl)
theorem dX1_copy_233 : decode cX1_copy 233 = .ok (.getfield 58, 3) := dk_180 0 58 (dk_at dksX1_copy_9 19 rfl rfl)
theorem dX1_copy_236 : decode cX1_copy 236 = .ok (.iconst 0, 1) := dk_3 (dk_at dksX1_copy_9 22 rfl rfl)
theorem dX1_copy_237 : decode cX1_copy 237 = .ok (.aload_n 1, 1) := dk_43 (dk_at dksX1_copy_9 23 rfl rfl)
theorem dX1_copy_238 : decode cX1_copy 238 = .ok (.getfield 58, 3) := dk_180 0 58 (dk_at dksX1_copy_10 0 rfl rfl)
theorem dX1_copy_241 : decode cX1_copy 241 = .ok (.iconst 0, 1) := dk_3 (dk_at dksX1_copy_10 3 rfl rfl)
theorem dX1_copy_242 : decode cX1_copy 242 = .ok (.sipush 128, 3) := dk_17 0 128 (dk_at dksX1_copy_10 4 rfl rfl)
theorem dX1_copy_245 : decode cX1_copy 245 = .ok (.invokestatic 105, 3) := dk_184 0 105 (dk_at dksX1_copy_10 7 rfl rfl)
theorem dX1_copy_248 : decode cX1_copy 248 = .ok (.aload_n 1, 1) := dk_43 (dk_at dksX1_copy_10 10 rfl rfl)
theorem dX1_copy_249 : decode cX1_copy 249 = .ok (.aload_n 0, 1) := dk_42 (dk_at dksX1_copy_10 11 rfl rfl)
theorem dX1_copy_250 : decode cX1_copy 250 = .ok (.getfield 111, 3) := dk_180 0 111 (dk_at dksX1_copy_10 12 rfl rfl)
theorem dX1_copy_253 : decode cX1_copy 253 = .ok (.putfield 111, 3) := dk_181 0 111 (dk_at dksX1_copy_10 15 rfl rfl)
theorem dX1_copy_256 : decode cX1_copy 256 = .ok (.aload_n 1, 1) := dk_43 (dk_at dksX1_copy_10 18 rfl rfl)
theorem dX1_copy_257 : decode cX1_copy 257 = .ok (.aload_n 0, 1) := dk_42 (dk_at dksX1_copy_10 19 rfl rfl)
theorem dX1_copy_258 : decode cX1_copy 258 = .ok (.getfield 61, 3) := dk_180 0 61 (dk_at dksX1_copy_10 20 rfl rfl)
theorem dX1_copy_261 : decode cX1_copy 261 = .ok (.putfield 61, 3) := dk_181 0 61 (dk_at dksX1_copy_11 0 rfl rfl)
theorem dX1_copy_264 : decode cX1_copy 264 = .ok (.aload_n 1, 1) := dk_43 (dk_at dksX1_copy_11 3 rfl rfl)
theorem dX1_copy_265 : decode cX1_copy 265 = .ok (.aload_n 0, 1) := dk_42 (dk_at dksX1_copy_11 4 rfl rfl)
theorem dX1_copy_266 : decode cX1_copy 266 = .ok (.getfield 67, 3) := dk_180 0 67 (dk_at dksX1_copy_11 5 rfl rfl)
theorem dX1_copy_269 : decode cX1_copy 269 = .ok (.putfield 67, 3) := dk_181 0 67 (dk_at dksX1_copy_11 8 rfl rfl)
theorem dX1_copy_272 : decode cX1_copy 272 = .ok (.aload_n 1, 1) := dk_43 (dk_at dksX1_copy_11 11 rfl rfl)
theorem dX1_copy_273 : decode cX1_copy 273 = .ok (.areturn, 1) := dk_176 (dk_at dksX1_copy_11 12 rfl rfl)
abbrev cX1_copies : ByteArray := prog_23_method_2_code
def yX1_copies : MethodName := ⟨RX1, "copies", "(Ljava/util/ArrayList;Ljava/util/ArrayList;)V"⟩
def dkwX1_copies_1 : List UInt8 := [182, 0, 85, 87, 132, 2, 1, 167, 255, 229, 177]
abbrev dktX1_copies_1 : List UInt8 := dkwX1_copies_1 ++ []
def dkwX1_copies_0 : List UInt8 := [3, 61, 28, 42, 182, 0, 71, 162, 0, 25, 43, 42, 28, 182, 0, 75, 192, 0, 79, 182, 0, 81]
abbrev dktX1_copies_0 : List UInt8 := dkwX1_copies_0 ++ dktX1_copies_1
theorem dksX1_copies_0 : cX1_copies.data.toList.drop 0 = dktX1_copies_0 := by decide +kernel
theorem dksX1_copies_1 : cX1_copies.data.toList.drop 22 = dktX1_copies_1 := dk_seg dksX1_copies_0 22 rfl rfl
theorem dX1_copies_0 : decode cX1_copies 0 = .ok (.iconst 0, 1) := dk_3 (dk_at dksX1_copies_0 0 rfl rfl)
theorem dX1_copies_1 : decode cX1_copies 1 = .ok (.istore_n 2, 1) := dk_61 (dk_at dksX1_copies_0 1 rfl rfl)
theorem dX1_copies_2 : decode cX1_copies 2 = .ok (.iload_n 2, 1) := dk_28 (dk_at dksX1_copies_0 2 rfl rfl)
theorem dX1_copies_3 : decode cX1_copies 3 = .ok (.aload_n 0, 1) := dk_42 (dk_at dksX1_copies_0 3 rfl rfl)
theorem dX1_copies_4 : decode cX1_copies 4 = .ok (.invokevirtual 71, 3) := dk_182 0 71 (dk_at dksX1_copies_0 4 rfl rfl)
theorem dX1_copies_7 : decode cX1_copies 7 = .ok (.if_icmp .ge 25, 3) := dk_162 0 25 (dk_at dksX1_copies_0 7 rfl rfl)
theorem dX1_copies_10 : decode cX1_copies 10 = .ok (.aload_n 1, 1) := dk_43 (dk_at dksX1_copies_0 10 rfl rfl)
theorem dX1_copies_11 : decode cX1_copies 11 = .ok (.aload_n 0, 1) := dk_42 (dk_at dksX1_copies_0 11 rfl rfl)
theorem dX1_copies_12 : decode cX1_copies 12 = .ok (.iload_n 2, 1) := dk_28 (dk_at dksX1_copies_0 12 rfl rfl)
theorem dX1_copies_13 : decode cX1_copies 13 = .ok (.invokevirtual 75, 3) := dk_182 0 75 (dk_at dksX1_copies_0 13 rfl rfl)
theorem dX1_copies_16 : decode cX1_copies 16 = .ok (.checkcast 79, 3) := dk_192 0 79 (dk_at dksX1_copies_0 16 rfl rfl)
theorem dX1_copies_19 : decode cX1_copies 19 = .ok (.invokevirtual 81, 3) := dk_182 0 81 (dk_at dksX1_copies_0 19 rfl rfl)
theorem dX1_copies_22 : decode cX1_copies 22 = .ok (.invokevirtual 85, 3) := dk_182 0 85 (dk_at dksX1_copies_1 0 rfl rfl)
theorem dX1_copies_25 : decode cX1_copies 25 = .ok (.pop, 1) := dk_87 (dk_at dksX1_copies_1 3 rfl rfl)
theorem dX1_copies_26 : decode cX1_copies 26 = .ok (.iinc 2 1, 3) := dk_132 2 1 (dk_at dksX1_copies_1 4 rfl rfl)
theorem dX1_copies_29 : decode cX1_copies 29 = .ok (.goto (-27), 3) := dk_167 255 229 (dk_at dksX1_copies_1 7 rfl rfl)
theorem dX1_copies_32 : decode cX1_copies 32 = .ok (.return_, 1) := dk_177 (dk_at dksX1_copies_1 10 rfl rfl)
abbrev cX1_same : ByteArray := prog_23_method_3_code
def yX1_same : MethodName := ⟨RX1, "same", "(Ljava/util/ArrayList;Ljava/util/ArrayList;)V"⟩
def dkwX1_same_1 : List UInt8 := [132, 2, 1, 167, 255, 232, 177]
abbrev dktX1_same_1 : List UInt8 := dkwX1_same_1 ++ []
def dkwX1_same_0 : List UInt8 := [3, 61, 28, 42, 182, 0, 71, 162, 0, 22, 43, 42, 28, 182, 0, 75, 192, 0, 89, 182, 0, 85, 87]
abbrev dktX1_same_0 : List UInt8 := dkwX1_same_0 ++ dktX1_same_1
theorem dksX1_same_0 : cX1_same.data.toList.drop 0 = dktX1_same_0 := by decide +kernel
theorem dksX1_same_1 : cX1_same.data.toList.drop 23 = dktX1_same_1 := dk_seg dksX1_same_0 23 rfl rfl
theorem dX1_same_0 : decode cX1_same 0 = .ok (.iconst 0, 1) := dk_3 (dk_at dksX1_same_0 0 rfl rfl)
theorem dX1_same_1 : decode cX1_same 1 = .ok (.istore_n 2, 1) := dk_61 (dk_at dksX1_same_0 1 rfl rfl)
theorem dX1_same_2 : decode cX1_same 2 = .ok (.iload_n 2, 1) := dk_28 (dk_at dksX1_same_0 2 rfl rfl)
theorem dX1_same_3 : decode cX1_same 3 = .ok (.aload_n 0, 1) := dk_42 (dk_at dksX1_same_0 3 rfl rfl)
theorem dX1_same_4 : decode cX1_same 4 = .ok (.invokevirtual 71, 3) := dk_182 0 71 (dk_at dksX1_same_0 4 rfl rfl)
theorem dX1_same_7 : decode cX1_same 7 = .ok (.if_icmp .ge 22, 3) := dk_162 0 22 (dk_at dksX1_same_0 7 rfl rfl)
theorem dX1_same_10 : decode cX1_same 10 = .ok (.aload_n 1, 1) := dk_43 (dk_at dksX1_same_0 10 rfl rfl)
theorem dX1_same_11 : decode cX1_same 11 = .ok (.aload_n 0, 1) := dk_42 (dk_at dksX1_same_0 11 rfl rfl)
theorem dX1_same_12 : decode cX1_same 12 = .ok (.iload_n 2, 1) := dk_28 (dk_at dksX1_same_0 12 rfl rfl)
theorem dX1_same_13 : decode cX1_same 13 = .ok (.invokevirtual 75, 3) := dk_182 0 75 (dk_at dksX1_same_0 13 rfl rfl)
theorem dX1_same_16 : decode cX1_same 16 = .ok (.checkcast 89, 3) := dk_192 0 89 (dk_at dksX1_same_0 16 rfl rfl)
theorem dX1_same_19 : decode cX1_same 19 = .ok (.invokevirtual 85, 3) := dk_182 0 85 (dk_at dksX1_same_0 19 rfl rfl)
theorem dX1_same_22 : decode cX1_same 22 = .ok (.pop, 1) := dk_87 (dk_at dksX1_same_0 22 rfl rfl)
theorem dX1_same_23 : decode cX1_same 23 = .ok (.iinc 2 1, 3) := dk_132 2 1 (dk_at dksX1_same_1 0 rfl rfl)
theorem dX1_same_26 : decode cX1_same 26 = .ok (.goto (-24), 3) := dk_167 255 232 (dk_at dksX1_same_1 3 rfl rfl)
theorem dX1_same_29 : decode cX1_same 29 = .ok (.return_, 1) := dk_177 (dk_at dksX1_same_1 6 rfl rfl)
theorem q105 : (Jvm.Cond.initialized "NobodysBard$State") ∈ lw_all := lw_g (lw_at lw_m1 2 rfl) rfl
theorem q157 : (Jvm.Cond.instantiable "NobodysBard$State" (17 : Nat)) ∈ lw_all := lw_g (lw_at lw_m1 54 rfl) rfl
theorem q159 : (Jvm.Cond.instanceMethod ({ cls := "NobodysBard$State", name := "<init>", desc := "()V" } : Jvm.MethodName)) ∈ lw_all := lw_g (lw_at lw_m1 56 rfl) rfl
theorem q160 : (Jvm.Cond.code ({ cls := "NobodysBard$State", name := "<init>", desc := "()V" } : Jvm.MethodName) prog_23_method_1_code (1 : Nat) (Option.none : Option Jvm.ClassFile.FieldType)) ∈ lw_all := lw_g (lw_at lw_m1 57 rfl) rfl
theorem q161 : (Jvm.Cond.methodLink "NobodysBard$State" (3 : Nat) ({ cls := "java/lang/Object", name := "<init>", desc := "()V" } : Jvm.MethodName)) ∈ lw_all := lw_g (lw_at lw_m1 58 rfl) rfl
theorem q162 : (Jvm.Cond.classLink "NobodysBard$State" (21 : Nat) "java/util/ArrayList") ∈ lw_all := lw_g (lw_at lw_m1 59 rfl) rfl
theorem q164 : (Jvm.Cond.methodLink "NobodysBard$State" (23 : Nat) ({ cls := "java/util/ArrayList", name := "<init>", desc := "(I)V" } : Jvm.MethodName)) ∈ lw_all := lw_g (lw_at lw_m1 61 rfl) rfl
theorem q191 : (Jvm.Cond.classLink "NobodysBard$State" (64 : Nat) "NobodysBard$Law") ∈ lw_all := lw_g (lw_at lw_m1 88 rfl) rfl
theorem q193 : (Jvm.Cond.methodLinkNest "NobodysBard$State" (66 : Nat) ({ cls := "NobodysBard$Law", name := "<init>", desc := "()V" } : Jvm.MethodName) "NobodysBard") ∈ lw_tbl := lw_at lw_m1 90 rfl
theorem q219 : (Jvm.Cond.fieldLink "NobodysBard$State" (9 : Nat) "NobodysBard$State" "printDay" "I") ∈ lw_all := lw_g (lw_at lw_m1 116 rfl) rfl
theorem q221 : (Jvm.Cond.fieldLink "NobodysBard$State" (15 : Nat) "NobodysBard$State" "high" "I") ∈ lw_all := lw_g (lw_at lw_m1 118 rfl) rfl
theorem q223 : (Jvm.Cond.fieldLink "NobodysBard$State" (18 : Nat) "NobodysBard$State" "low" "I") ∈ lw_all := lw_g (lw_at lw_m1 120 rfl) rfl
theorem q225 : (Jvm.Cond.fieldLink "NobodysBard$State" (26 : Nat) "NobodysBard$State" "songs" "Ljava/util/ArrayList;") ∈ lw_all := lw_g (lw_at lw_m1 122 rfl) rfl
theorem q227 : (Jvm.Cond.fieldLink "NobodysBard$State" (30 : Nat) "NobodysBard$State" "books" "Ljava/util/ArrayList;") ∈ lw_all := lw_g (lw_at lw_m1 124 rfl) rfl
theorem q229 : (Jvm.Cond.fieldLink "NobodysBard$State" (33 : Nat) "NobodysBard$State" "print" "Ljava/util/ArrayList;") ∈ lw_all := lw_g (lw_at lw_m1 126 rfl) rfl
theorem q231 : (Jvm.Cond.fieldLink "NobodysBard$State" (36 : Nat) "NobodysBard$State" "versions" "Ljava/util/ArrayList;") ∈ lw_all := lw_g (lw_at lw_m1 128 rfl) rfl
theorem q233 : (Jvm.Cond.fieldLink "NobodysBard$State" (39 : Nat) "NobodysBard$State" "answers" "Ljava/util/ArrayList;") ∈ lw_all := lw_g (lw_at lw_m1 130 rfl) rfl
theorem q235 : (Jvm.Cond.fieldLink "NobodysBard$State" (42 : Nat) "NobodysBard$State" "paid" "Ljava/util/ArrayList;") ∈ lw_all := lw_g (lw_at lw_m1 132 rfl) rfl
theorem q237 : (Jvm.Cond.fieldLink "NobodysBard$State" (45 : Nat) "NobodysBard$State" "pages" "Ljava/util/ArrayList;") ∈ lw_all := lw_g (lw_at lw_m1 134 rfl) rfl
theorem q239 : (Jvm.Cond.fieldLink "NobodysBard$State" (48 : Nat) "NobodysBard$State" "free" "Ljava/util/ArrayList;") ∈ lw_all := lw_g (lw_at lw_m1 136 rfl) rfl
theorem q241 : (Jvm.Cond.fieldLink "NobodysBard$State" (51 : Nat) "NobodysBard$State" "years" "[I") ∈ lw_all := lw_g (lw_at lw_m1 138 rfl) rfl
theorem q243 : (Jvm.Cond.fieldLink "NobodysBard$State" (55 : Nat) "NobodysBard$State" "weights" "[I") ∈ lw_all := lw_g (lw_at lw_m1 140 rfl) rfl
theorem q245 : (Jvm.Cond.fieldLink "NobodysBard$State" (58 : Nat) "NobodysBard$State" "says" "[I") ∈ lw_all := lw_g (lw_at lw_m1 142 rfl) rfl
theorem q247 : (Jvm.Cond.fieldLink "NobodysBard$State" (111 : Nat) "NobodysBard$State" "worlds" "I") ∈ lw_all := lw_g (lw_at lw_m1 144 rfl) rfl
theorem q249 : (Jvm.Cond.fieldLink "NobodysBard$State" (61 : Nat) "NobodysBard$State" "rules" "Ljava/util/ArrayList;") ∈ lw_all := lw_g (lw_at lw_m1 146 rfl) rfl
theorem q251 : (Jvm.Cond.fieldLink "NobodysBard$State" (67 : Nat) "NobodysBard$State" "law" "LNobodysBard$Law;") ∈ lw_all := lw_g (lw_at lw_m1 148 rfl) rfl
theorem q253 : (Jvm.Cond.lays "NobodysBard$State" "NobodysBard$State" "printDay" "I") ∈ lw_all := lw_g (lw_at lw_m1 150 rfl) rfl
theorem q254 : (Jvm.Cond.soleField "NobodysBard$State" "printDay") ∈ lw_all := lw_g (lw_at lw_m1 151 rfl) rfl
theorem q255 : (Jvm.Cond.lays "NobodysBard$State" "NobodysBard$State" "high" "I") ∈ lw_all := lw_g (lw_at lw_m1 152 rfl) rfl
theorem q256 : (Jvm.Cond.soleField "NobodysBard$State" "high") ∈ lw_all := lw_g (lw_at lw_m1 153 rfl) rfl
theorem q257 : (Jvm.Cond.lays "NobodysBard$State" "NobodysBard$State" "low" "I") ∈ lw_all := lw_g (lw_at lw_m1 154 rfl) rfl
theorem q258 : (Jvm.Cond.soleField "NobodysBard$State" "low") ∈ lw_all := lw_g (lw_at lw_m1 155 rfl) rfl
theorem q259 : (Jvm.Cond.laysFinal "NobodysBard$State" "NobodysBard$State" "songs" "Ljava/util/ArrayList;") ∈ lw_all := lw_g (lw_at lw_m1 156 rfl) rfl
theorem q260 : (Jvm.Cond.soleField "NobodysBard$State" "songs") ∈ lw_all := lw_g (lw_at lw_m1 157 rfl) rfl
theorem q261 : (Jvm.Cond.laysFinal "NobodysBard$State" "NobodysBard$State" "books" "Ljava/util/ArrayList;") ∈ lw_all := lw_g (lw_at lw_m1 158 rfl) rfl
theorem q262 : (Jvm.Cond.soleField "NobodysBard$State" "books") ∈ lw_all := lw_g (lw_at lw_m1 159 rfl) rfl
theorem q263 : (Jvm.Cond.laysFinal "NobodysBard$State" "NobodysBard$State" "print" "Ljava/util/ArrayList;") ∈ lw_all := lw_g (lw_at lw_m1 160 rfl) rfl
theorem q264 : (Jvm.Cond.soleField "NobodysBard$State" "print") ∈ lw_all := lw_g (lw_at lw_m1 161 rfl) rfl
theorem q265 : (Jvm.Cond.laysFinal "NobodysBard$State" "NobodysBard$State" "versions" "Ljava/util/ArrayList;") ∈ lw_all := lw_g (lw_at lw_m1 162 rfl) rfl
theorem q266 : (Jvm.Cond.soleField "NobodysBard$State" "versions") ∈ lw_all := lw_g (lw_at lw_m1 163 rfl) rfl
theorem q267 : (Jvm.Cond.laysFinal "NobodysBard$State" "NobodysBard$State" "answers" "Ljava/util/ArrayList;") ∈ lw_all := lw_g (lw_at lw_m1 164 rfl) rfl
theorem q268 : (Jvm.Cond.soleField "NobodysBard$State" "answers") ∈ lw_all := lw_g (lw_at lw_m1 165 rfl) rfl
theorem q269 : (Jvm.Cond.laysFinal "NobodysBard$State" "NobodysBard$State" "paid" "Ljava/util/ArrayList;") ∈ lw_all := lw_g (lw_at lw_m1 166 rfl) rfl
theorem q270 : (Jvm.Cond.soleField "NobodysBard$State" "paid") ∈ lw_all := lw_g (lw_at lw_m1 167 rfl) rfl
theorem q271 : (Jvm.Cond.laysFinal "NobodysBard$State" "NobodysBard$State" "pages" "Ljava/util/ArrayList;") ∈ lw_all := lw_g (lw_at lw_m1 168 rfl) rfl
theorem q272 : (Jvm.Cond.soleField "NobodysBard$State" "pages") ∈ lw_all := lw_g (lw_at lw_m1 169 rfl) rfl
theorem q273 : (Jvm.Cond.laysFinal "NobodysBard$State" "NobodysBard$State" "free" "Ljava/util/ArrayList;") ∈ lw_all := lw_g (lw_at lw_m1 170 rfl) rfl
theorem q274 : (Jvm.Cond.soleField "NobodysBard$State" "free") ∈ lw_all := lw_g (lw_at lw_m1 171 rfl) rfl
theorem q275 : (Jvm.Cond.laysFinal "NobodysBard$State" "NobodysBard$State" "years" "[I") ∈ lw_all := lw_g (lw_at lw_m1 172 rfl) rfl
theorem q276 : (Jvm.Cond.soleField "NobodysBard$State" "years") ∈ lw_all := lw_g (lw_at lw_m1 173 rfl) rfl
theorem q277 : (Jvm.Cond.laysFinal "NobodysBard$State" "NobodysBard$State" "weights" "[I") ∈ lw_all := lw_g (lw_at lw_m1 174 rfl) rfl
theorem q278 : (Jvm.Cond.soleField "NobodysBard$State" "weights") ∈ lw_all := lw_g (lw_at lw_m1 175 rfl) rfl
theorem q279 : (Jvm.Cond.laysFinal "NobodysBard$State" "NobodysBard$State" "says" "[I") ∈ lw_all := lw_g (lw_at lw_m1 176 rfl) rfl
theorem q280 : (Jvm.Cond.soleField "NobodysBard$State" "says") ∈ lw_all := lw_g (lw_at lw_m1 177 rfl) rfl
theorem q281 : (Jvm.Cond.lays "NobodysBard$State" "NobodysBard$State" "worlds" "I") ∈ lw_all := lw_g (lw_at lw_m1 178 rfl) rfl
theorem q282 : (Jvm.Cond.soleField "NobodysBard$State" "worlds") ∈ lw_all := lw_g (lw_at lw_m1 179 rfl) rfl
theorem q283 : (Jvm.Cond.lays "NobodysBard$State" "NobodysBard$State" "rules" "Ljava/util/ArrayList;") ∈ lw_all := lw_g (lw_at lw_m1 180 rfl) rfl
theorem q284 : (Jvm.Cond.soleField "NobodysBard$State" "rules") ∈ lw_all := lw_g (lw_at lw_m1 181 rfl) rfl
theorem q285 : (Jvm.Cond.lays "NobodysBard$State" "NobodysBard$State" "law" "LNobodysBard$Law;") ∈ lw_all := lw_g (lw_at lw_m1 182 rfl) rfl
theorem q286 : (Jvm.Cond.soleField "NobodysBard$State" "law") ∈ lw_all := lw_g (lw_at lw_m1 183 rfl) rfl
theorem q287 : (Jvm.Cond.superclass "NobodysBard$State" "java/lang/Object") ∈ lw_all := lw_g (lw_at lw_m1 184 rfl) rfl
theorem q500 : (Jvm.Cond.selects "NobodysBard$State" ({ cls := "java/lang/Object", name := "getClass", desc := "()Ljava/lang/Class;" } : Jvm.MethodName) ({ cls := "java/lang/Object", name := "getClass", desc := "()Ljava/lang/Class;" } : Jvm.MethodName)) ∈ lw_all := lw_g (lw_at lw_m2 157 rfl) rfl
theorem q1565 : (Jvm.Cond.instanceMethod ({ cls := "NobodysBard$State", name := "copy", desc := "()LNobodysBard$State;" } : Jvm.MethodName)) ∈ lw_all := lw_g (lw_at lw_m7 22 rfl) rfl
theorem q1566 : (Jvm.Cond.selects "NobodysBard$State" ({ cls := "NobodysBard$State", name := "copy", desc := "()LNobodysBard$State;" } : Jvm.MethodName) ({ cls := "NobodysBard$State", name := "copy", desc := "()LNobodysBard$State;" } : Jvm.MethodName)) ∈ lw_all := lw_g (lw_at lw_m7 23 rfl) rfl
theorem q1567 : (Jvm.Cond.code ({ cls := "NobodysBard$State", name := "copy", desc := "()LNobodysBard$State;" } : Jvm.MethodName) prog_23_method_4_code (3 : Nat) (Option.some (Jvm.ClassFile.FieldType.object "NobodysBard$State"))) ∈ lw_all := lw_g (lw_at lw_m7 24 rfl) rfl
theorem q1568 : (Jvm.Cond.classLink "NobodysBard$State" (10 : Nat) "NobodysBard$State") ∈ lw_all := lw_g (lw_at lw_m7 25 rfl) rfl
theorem q1569 : (Jvm.Cond.methodLink "NobodysBard$State" (91 : Nat) ({ cls := "NobodysBard$State", name := "<init>", desc := "()V" } : Jvm.MethodName)) ∈ lw_all := lw_g (lw_at lw_m7 26 rfl) rfl
theorem q1570 : (Jvm.Cond.methodLink "NobodysBard$State" (92 : Nat) ({ cls := "NobodysBard$State", name := "copies", desc := "(Ljava/util/ArrayList;Ljava/util/ArrayList;)V" } : Jvm.MethodName)) ∈ lw_all := lw_g (lw_at lw_m7 27 rfl) rfl
theorem q1571 : (Jvm.Cond.static ({ cls := "NobodysBard$State", name := "copies", desc := "(Ljava/util/ArrayList;Ljava/util/ArrayList;)V" } : Jvm.MethodName)) ∈ lw_all := lw_g (lw_at lw_m7 28 rfl) rfl
theorem q1572 : (Jvm.Cond.code ({ cls := "NobodysBard$State", name := "copies", desc := "(Ljava/util/ArrayList;Ljava/util/ArrayList;)V" } : Jvm.MethodName) prog_23_method_2_code (3 : Nat) (Option.none : Option Jvm.ClassFile.FieldType)) ∈ lw_all := lw_g (lw_at lw_m7 29 rfl) rfl
theorem q1573 : (Jvm.Cond.methodLink "NobodysBard$State" (71 : Nat) ({ cls := "java/util/ArrayList", name := "size", desc := "()I" } : Jvm.MethodName)) ∈ lw_all := lw_g (lw_at lw_m7 30 rfl) rfl
theorem q1574 : (Jvm.Cond.methodLink "NobodysBard$State" (75 : Nat) ({ cls := "java/util/ArrayList", name := "get", desc := "(I)Ljava/lang/Object;" } : Jvm.MethodName)) ∈ lw_all := lw_g (lw_at lw_m7 31 rfl) rfl
theorem q1575 : (Jvm.Cond.classLink "NobodysBard$State" (79 : Nat) "NobodysBard$Owner") ∈ lw_all := lw_g (lw_at lw_m7 32 rfl) rfl
theorem q1576 : (Jvm.Cond.methodLink "NobodysBard$State" (81 : Nat) ({ cls := "NobodysBard$Owner", name := "copy", desc := "()LNobodysBard$Owner;" } : Jvm.MethodName)) ∈ lw_all := lw_g (lw_at lw_m7 33 rfl) rfl
theorem q1586 : (Jvm.Cond.methodLink "NobodysBard$State" (85 : Nat) ({ cls := "java/util/ArrayList", name := "add", desc := "(Ljava/lang/Object;)Z" } : Jvm.MethodName)) ∈ lw_all := lw_g (lw_at lw_m7 43 rfl) rfl
theorem q1587 : (Jvm.Cond.classLink "NobodysBard$State" (96 : Nat) "NobodysBard$Printed") ∈ lw_all := lw_g (lw_at lw_m7 44 rfl) rfl
theorem q1588 : (Jvm.Cond.classLink "NobodysBard$State" (98 : Nat) "NobodysBard$Version") ∈ lw_all := lw_g (lw_at lw_m7 45 rfl) rfl
theorem q1589 : (Jvm.Cond.classLink "NobodysBard$State" (100 : Nat) "NobodysBard$Answer") ∈ lw_all := lw_g (lw_at lw_m7 46 rfl) rfl
theorem q1590 : (Jvm.Cond.methodLink "NobodysBard$State" (102 : Nat) ({ cls := "NobodysBard$State", name := "same", desc := "(Ljava/util/ArrayList;Ljava/util/ArrayList;)V" } : Jvm.MethodName)) ∈ lw_all := lw_g (lw_at lw_m7 47 rfl) rfl
theorem q1591 : (Jvm.Cond.static ({ cls := "NobodysBard$State", name := "same", desc := "(Ljava/util/ArrayList;Ljava/util/ArrayList;)V" } : Jvm.MethodName)) ∈ lw_all := lw_g (lw_at lw_m7 48 rfl) rfl
theorem q1592 : (Jvm.Cond.code ({ cls := "NobodysBard$State", name := "same", desc := "(Ljava/util/ArrayList;Ljava/util/ArrayList;)V" } : Jvm.MethodName) prog_23_method_3_code (3 : Nat) (Option.none : Option Jvm.ClassFile.FieldType)) ∈ lw_all := lw_g (lw_at lw_m7 49 rfl) rfl
theorem q1593 : (Jvm.Cond.classLink "NobodysBard$State" (89 : Nat) "NobodysBard$Pair") ∈ lw_all := lw_g (lw_at lw_m7 50 rfl) rfl
theorem q1594 : (Jvm.Cond.methodLink "NobodysBard$State" (105 : Nat) ({ cls := "java/lang/System", name := "arraycopy", desc := "(Ljava/lang/Object;ILjava/lang/Object;II)V" } : Jvm.MethodName)) ∈ lw_all := lw_g (lw_at lw_m7 51 rfl) rfl
theorem q2168 : (Jvm.Cond.castable "NobodysBard$State" "java/lang/Object") ∈ lw_tbl := lw_at lw_m9 145 rfl
theorem in_X1 : ∀ w ∈ wsX10, w ∈ lw_all := lw_in wsX10 [253, 255, 257, 259, 261, 263, 265, 267, 269, 271, 273, 275, 277, 279, 281, 283, 285] (by decide +kernel) (by decide +kernel)
/-! NobodysBard$Reader -/
set_option maxRecDepth 100000
def RX10 : String := "NobodysBard$Reader"
def TX10 : u_T := fun k => match k with
  | 0 => ("NobodysBard$Reader", "size", "I", true)
  | 1 => ("NobodysBard$Reader", "rules", "Ljava/util/ArrayList;", true)
  | 2 => ("NobodysBard$Reader", "law", "LNobodysBard$Law;", true)
  | 3 => ("NobodysBard$Reader", "at", "I", false)
  | 4 => ("NobodysBard$Reader", "begin", "I", false)
  | 5 => ("NobodysBard$Reader", "token", "I", false)
  | 6 => ("NobodysBard$Reader", "value", "I", false)
  | 7 => ("NobodysBard$Reader", "open", "I", false)
  | 8 => ("NobodysBard$Reader", "fault", "I", false)
  | 9 => ("NobodysBard$Reader", "place", "I", false)
  | _ => ("NobodysBard$Reader", "this$0", "LNobodysBard;", true)
def tyX10 : Nat → FieldType := fun k => match k with
  | 0 => .int
  | 1 => .object "java/util/ArrayList"
  | 2 => .object "NobodysBard$Law"
  | 3 => .int
  | 4 => .int
  | 5 => .int
  | 6 => .int
  | 7 => .int
  | 8 => .int
  | 9 => .int
  | _ => .object "NobodysBard"
abbrev wsX100 : List Cond := u_ws RX10 TX10 11
theorem nmX10 : ∀ a, a < 11 → ∀ b, b < 11 → a ≠ b → (TX10 a).2.1 ≠ (TX10 b).2.1 := by decide +kernel
theorem tyX10_ok : ∀ k, k < 11 → parseFieldDescriptor (TX10 k).2.2.1 = some (tyX10 k) := by decide +kernel
abbrev cX10_init : ByteArray := prog_19_method_1_code
def yX10_init : MethodName := ⟨RX10, "<init>", "(LNobodysBard;I)V"⟩
def dkwX10_init_1 : List UInt8 := [187, 0, 24, 89, 183, 0, 26, 181, 0, 27, 42, 2, 181, 0, 31, 42, 28, 181, 0, 35, 177]
abbrev dktX10_init_1 : List UInt8 := dkwX10_init_1 ++ []
def dkwX10_init_0 : List UInt8 := [42, 43, 181, 0, 3, 42, 183, 0, 9, 42, 187, 0, 15, 89, 5, 183, 0, 17, 181, 0, 20, 42]
abbrev dktX10_init_0 : List UInt8 := dkwX10_init_0 ++ dktX10_init_1
theorem dksX10_init_0 : cX10_init.data.toList.drop 0 = dktX10_init_0 := by decide +kernel
theorem dksX10_init_1 : cX10_init.data.toList.drop 22 = dktX10_init_1 := dk_seg dksX10_init_0 22 rfl rfl
theorem dX10_init_0 : decode cX10_init 0 = .ok (.aload_n 0, 1) := dk_42 (dk_at dksX10_init_0 0 rfl rfl)
theorem dX10_init_1 : decode cX10_init 1 = .ok (.aload_n 1, 1) := dk_43 (dk_at dksX10_init_0 1 rfl rfl)
theorem dX10_init_2 : decode cX10_init 2 = .ok (.putfield 3, 3) := dk_181 0 3 (dk_at dksX10_init_0 2 rfl rfl)
theorem dX10_init_5 : decode cX10_init 5 = .ok (.aload_n 0, 1) := dk_42 (dk_at dksX10_init_0 5 rfl rfl)
theorem dX10_init_6 : decode cX10_init 6 = .ok (.invokespecial 9, 3) := dk_183 0 9 (dk_at dksX10_init_0 6 rfl rfl)
theorem dX10_init_9 : decode cX10_init 9 = .ok (.aload_n 0, 1) := dk_42 (dk_at dksX10_init_0 9 rfl rfl)
theorem dX10_init_10 : decode cX10_init 10 = .ok (.new 15, 3) := dk_187 0 15 (dk_at dksX10_init_0 10 rfl rfl)
theorem dX10_init_13 : decode cX10_init 13 = .ok (.dup, 1) := dk_89 (dk_at dksX10_init_0 13 rfl rfl)
theorem dX10_init_14 : decode cX10_init 14 = .ok (.iconst 2, 1) := dk_5 (dk_at dksX10_init_0 14 rfl rfl)
theorem dX10_init_15 : decode cX10_init 15 = .ok (.invokespecial 17, 3) := dk_183 0 17 (dk_at dksX10_init_0 15 rfl rfl)
theorem dX10_init_18 : decode cX10_init 18 = .ok (.putfield 20, 3) := dk_181 0 20 (dk_at dksX10_init_0 18 rfl rfl)
theorem dX10_init_21 : decode cX10_init 21 = .ok (.aload_n 0, 1) := dk_42 (dk_at dksX10_init_0 21 rfl rfl)
theorem dX10_init_22 : decode cX10_init 22 = .ok (.new 24, 3) := dk_187 0 24 (dk_at dksX10_init_1 0 rfl rfl)
theorem dX10_init_25 : decode cX10_init 25 = .ok (.dup, 1) := dk_89 (dk_at dksX10_init_1 3 rfl rfl)
theorem dX10_init_26 : decode cX10_init 26 = .ok (.invokespecial 26, 3) := dk_183 0 26 (dk_at dksX10_init_1 4 rfl rfl)
theorem dX10_init_29 : decode cX10_init 29 = .ok (.putfield 27, 3) := dk_181 0 27 (dk_at dksX10_init_1 7 rfl rfl)
theorem dX10_init_32 : decode cX10_init 32 = .ok (.aload_n 0, 1) := dk_42 (dk_at dksX10_init_1 10 rfl rfl)
theorem dX10_init_33 : decode cX10_init 33 = .ok (.iconst (-1), 1) := dk_2 (dk_at dksX10_init_1 11 rfl rfl)
theorem dX10_init_34 : decode cX10_init 34 = .ok (.putfield 31, 3) := dk_181 0 31 (dk_at dksX10_init_1 12 rfl rfl)
theorem dX10_init_37 : decode cX10_init 37 = .ok (.aload_n 0, 1) := dk_42 (dk_at dksX10_init_1 15 rfl rfl)
theorem dX10_init_38 : decode cX10_init 38 = .ok (.iload_n 2, 1) := dk_28 (dk_at dksX10_init_1 16 rfl rfl)
theorem dX10_init_39 : decode cX10_init 39 = .ok (.putfield 35, 3) := dk_181 0 35 (dk_at dksX10_init_1 17 rfl rfl)
theorem dX10_init_42 : decode cX10_init 42 = .ok (.return_, 1) := dk_177 (dk_at dksX10_init_1 20 rfl rfl)
abbrev cX10_fashion : ByteArray := prog_19_method_11_code
def yX10_fashion : MethodName := ⟨RX10, "fashion", "()V"⟩
def dkwX10_fashion_7 : List UInt8 := [182, 0, 136, 87, 167, 255, 94, 177]
abbrev dktX10_fashion_7 : List UInt8 := dkwX10_fashion_7 ++ []
def dkwX10_fashion_6 : List UInt8 := [153, 0, 15, 42, 182, 0, 93, 43, 42, 182, 0, 126, 181, 0, 130, 42, 182, 0, 133, 42, 180, 0, 20, 43]
abbrev dktX10_fashion_6 : List UInt8 := dkwX10_fashion_6 ++ dktX10_fashion_7
def dkwX10_fashion_5 : List UInt8 := [159, 0, 8, 42, 5, 182, 0, 90, 42, 43, 180, 0, 121, 182, 0, 111, 42, 18, 124, 182, 0, 96]
abbrev dktX10_fashion_5 : List UInt8 := dkwX10_fashion_5 ++ dktX10_fashion_6
def dkwX10_fashion_4 : List UInt8 := [180, 0, 107, 182, 0, 111, 42, 18, 115, 182, 0, 117, 42, 180, 0, 77, 154, 0, 16, 42, 180, 0, 64, 5]
abbrev dktX10_fashion_4 : List UInt8 := dkwX10_fashion_4 ++ dktX10_fashion_5
def dkwX10_fashion_3 : List UInt8 := [7, 182, 0, 90, 42, 180, 0, 77, 153, 0, 4, 177, 187, 0, 104, 89, 183, 0, 106, 76, 42, 43]
abbrev dktX10_fashion_3 : List UInt8 := dkwX10_fashion_3 ++ dktX10_fashion_4
def dkwX10_fashion_2 : List UInt8 := [154, 0, 11, 42, 6, 182, 0, 90, 167, 0, 20, 42, 180, 0, 20, 182, 0, 102, 16, 12, 160, 0, 8, 42]
abbrev dktX10_fashion_2 : List UInt8 := dkwX10_fashion_2 ++ dktX10_fashion_3
def dkwX10_fashion_1 : List UInt8 := [159, 0, 11, 42, 5, 182, 0, 90, 167, 0, 43, 42, 180, 0, 74, 133, 10, 20, 0, 100, 184, 0, 50]
abbrev dktX10_fashion_1 : List UInt8 := dkwX10_fashion_1 ++ dktX10_fashion_2
def dkwX10_fashion_0 : List UInt8 := [42, 182, 0, 93, 42, 180, 0, 77, 154, 0, 161, 42, 180, 0, 64, 153, 0, 154, 42, 180, 0, 64, 5]
abbrev dktX10_fashion_0 : List UInt8 := dkwX10_fashion_0 ++ dktX10_fashion_1
theorem dksX10_fashion_0 : cX10_fashion.data.toList.drop 0 = dktX10_fashion_0 := by decide +kernel
theorem dksX10_fashion_1 : cX10_fashion.data.toList.drop 23 = dktX10_fashion_1 := dk_seg dksX10_fashion_0 23 rfl rfl
theorem dksX10_fashion_2 : cX10_fashion.data.toList.drop 46 = dktX10_fashion_2 := dk_seg dksX10_fashion_1 23 rfl rfl
theorem dksX10_fashion_3 : cX10_fashion.data.toList.drop 70 = dktX10_fashion_3 := dk_seg dksX10_fashion_2 24 rfl rfl
theorem dksX10_fashion_4 : cX10_fashion.data.toList.drop 92 = dktX10_fashion_4 := dk_seg dksX10_fashion_3 22 rfl rfl
theorem dksX10_fashion_5 : cX10_fashion.data.toList.drop 116 = dktX10_fashion_5 := dk_seg dksX10_fashion_4 24 rfl rfl
theorem dksX10_fashion_6 : cX10_fashion.data.toList.drop 138 = dktX10_fashion_6 := dk_seg dksX10_fashion_5 22 rfl rfl
theorem dksX10_fashion_7 : cX10_fashion.data.toList.drop 162 = dktX10_fashion_7 := dk_seg dksX10_fashion_6 24 rfl rfl
theorem dX10_fashion_0 : decode cX10_fashion 0 = .ok (.aload_n 0, 1) := dk_42 (dk_at dksX10_fashion_0 0 rfl rfl)
theorem dX10_fashion_1 : decode cX10_fashion 1 = .ok (.invokevirtual 93, 3) := dk_182 0 93 (dk_at dksX10_fashion_0 1 rfl rfl)
theorem dX10_fashion_4 : decode cX10_fashion 4 = .ok (.aload_n 0, 1) := dk_42 (dk_at dksX10_fashion_0 4 rfl rfl)
theorem dX10_fashion_5 : decode cX10_fashion 5 = .ok (.getfield 77, 3) := dk_180 0 77 (dk_at dksX10_fashion_0 5 rfl rfl)
theorem dX10_fashion_8 : decode cX10_fashion 8 = .ok (.ifCond .ne 161, 3) := dk_154 0 161 (dk_at dksX10_fashion_0 8 rfl rfl)
theorem dX10_fashion_11 : decode cX10_fashion 11 = .ok (.aload_n 0, 1) := dk_42 (dk_at dksX10_fashion_0 11 rfl rfl)
theorem dX10_fashion_12 : decode cX10_fashion 12 = .ok (.getfield 64, 3) := dk_180 0 64 (dk_at dksX10_fashion_0 12 rfl rfl)
theorem dX10_fashion_15 : decode cX10_fashion 15 = .ok (.ifCond .eq 154, 3) := dk_153 0 154 (dk_at dksX10_fashion_0 15 rfl rfl)
theorem dX10_fashion_18 : decode cX10_fashion 18 = .ok (.aload_n 0, 1) := dk_42 (dk_at dksX10_fashion_0 18 rfl rfl)
theorem dX10_fashion_19 : decode cX10_fashion 19 = .ok (.getfield 64, 3) := dk_180 0 64 (dk_at dksX10_fashion_0 19 rfl rfl)
theorem dX10_fashion_22 : decode cX10_fashion 22 = .ok (.iconst 2, 1) := dk_5 (dk_at dksX10_fashion_0 22 rfl rfl)
theorem dX10_fashion_23 : decode cX10_fashion 23 = .ok (.if_icmp .eq 11, 3) := dk_159 0 11 (dk_at dksX10_fashion_1 0 rfl rfl)
theorem dX10_fashion_26 : decode cX10_fashion 26 = .ok (.aload_n 0, 1) := dk_42 (dk_at dksX10_fashion_1 3 rfl rfl)
theorem dX10_fashion_27 : decode cX10_fashion 27 = .ok (.iconst 2, 1) := dk_5 (dk_at dksX10_fashion_1 4 rfl rfl)
theorem dX10_fashion_28 : decode cX10_fashion 28 = .ok (.invokevirtual 90, 3) := dk_182 0 90 (dk_at dksX10_fashion_1 5 rfl rfl)
theorem dX10_fashion_31 : decode cX10_fashion 31 = .ok (.goto 43, 3) := dk_167 0 43 (dk_at dksX10_fashion_1 8 rfl rfl)
theorem dX10_fashion_34 : decode cX10_fashion 34 = .ok (.aload_n 0, 1) := dk_42 (dk_at dksX10_fashion_1 11 rfl rfl)
theorem dX10_fashion_35 : decode cX10_fashion 35 = .ok (.getfield 74, 3) := dk_180 0 74 (dk_at dksX10_fashion_1 12 rfl rfl)
theorem dX10_fashion_38 : decode cX10_fashion 38 = .ok (.i2l, 1) := dk_133 (dk_at dksX10_fashion_1 15 rfl rfl)
theorem dX10_fashion_39 : decode cX10_fashion 39 = .ok (.lconst 1, 1) := dk_10 (dk_at dksX10_fashion_1 16 rfl rfl)
theorem dX10_fashion_40 : decode cX10_fashion 40 = .ok (.ldc2_w 100, 3) := dk_20 0 100 (dk_at dksX10_fashion_1 17 rfl rfl)
theorem dX10_fashion_43 : decode cX10_fashion 43 = .ok (.invokestatic 50, 3) := dk_184 0 50 (dk_at dksX10_fashion_1 20 rfl rfl)
theorem dX10_fashion_46 : decode cX10_fashion 46 = .ok (.ifCond .ne 11, 3) := dk_154 0 11 (dk_at dksX10_fashion_2 0 rfl rfl)
theorem dX10_fashion_49 : decode cX10_fashion 49 = .ok (.aload_n 0, 1) := dk_42 (dk_at dksX10_fashion_2 3 rfl rfl)
theorem dX10_fashion_50 : decode cX10_fashion 50 = .ok (.iconst 3, 1) := dk_6 (dk_at dksX10_fashion_2 4 rfl rfl)
theorem dX10_fashion_51 : decode cX10_fashion 51 = .ok (.invokevirtual 90, 3) := dk_182 0 90 (dk_at dksX10_fashion_2 5 rfl rfl)
theorem dX10_fashion_54 : decode cX10_fashion 54 = .ok (.goto 20, 3) := dk_167 0 20 (dk_at dksX10_fashion_2 8 rfl rfl)
theorem dX10_fashion_57 : decode cX10_fashion 57 = .ok (.aload_n 0, 1) := dk_42 (dk_at dksX10_fashion_2 11 rfl rfl)
theorem dX10_fashion_58 : decode cX10_fashion 58 = .ok (.getfield 20, 3) := dk_180 0 20 (dk_at dksX10_fashion_2 12 rfl rfl)
theorem dX10_fashion_61 : decode cX10_fashion 61 = .ok (.invokevirtual 102, 3) := dk_182 0 102 (dk_at dksX10_fashion_2 15 rfl rfl)
theorem dX10_fashion_64 : decode cX10_fashion 64 = .ok (.bipush 12, 2) := dk_16 12 (dk_at dksX10_fashion_2 18 rfl rfl)
theorem dX10_fashion_66 : decode cX10_fashion 66 = .ok (.if_icmp .ne 8, 3) := dk_160 0 8 (dk_at dksX10_fashion_2 20 rfl rfl)
theorem dX10_fashion_69 : decode cX10_fashion 69 = .ok (.aload_n 0, 1) := dk_42 (dk_at dksX10_fashion_2 23 rfl rfl)
theorem dX10_fashion_70 : decode cX10_fashion 70 = .ok (.iconst 4, 1) := dk_7 (dk_at dksX10_fashion_3 0 rfl rfl)
theorem dX10_fashion_71 : decode cX10_fashion 71 = .ok (.invokevirtual 90, 3) := dk_182 0 90 (dk_at dksX10_fashion_3 1 rfl rfl)
theorem dX10_fashion_74 : decode cX10_fashion 74 = .ok (.aload_n 0, 1) := dk_42 (dk_at dksX10_fashion_3 4 rfl rfl)
theorem dX10_fashion_75 : decode cX10_fashion 75 = .ok (.getfield 77, 3) := dk_180 0 77 (dk_at dksX10_fashion_3 5 rfl rfl)
theorem dX10_fashion_78 : decode cX10_fashion 78 = .ok (.ifCond .eq 4, 3) := dk_153 0 4 (dk_at dksX10_fashion_3 8 rfl rfl)
theorem dX10_fashion_81 : decode cX10_fashion 81 = .ok (.return_, 1) := dk_177 (dk_at dksX10_fashion_3 11 rfl rfl)
theorem dX10_fashion_82 : decode cX10_fashion 82 = .ok (.new 104, 3) := dk_187 0 104 (dk_at dksX10_fashion_3 12 rfl rfl)
theorem dX10_fashion_85 : decode cX10_fashion 85 = .ok (.dup, 1) := dk_89 (dk_at dksX10_fashion_3 15 rfl rfl)
theorem dX10_fashion_86 : decode cX10_fashion 86 = .ok (.invokespecial 106, 3) := dk_183 0 106 (dk_at dksX10_fashion_3 16 rfl rfl)
theorem dX10_fashion_89 : decode cX10_fashion 89 = .ok (.astore_n 1, 1) := dk_76 (dk_at dksX10_fashion_3 19 rfl rfl)
theorem dX10_fashion_90 : decode cX10_fashion 90 = .ok (.aload_n 0, 1) := dk_42 (dk_at dksX10_fashion_3 20 rfl rfl)
theorem dX10_fashion_91 : decode cX10_fashion 91 = .ok (.aload_n 1, 1) := dk_43 (dk_at dksX10_fashion_3 21 rfl rfl)
theorem dX10_fashion_92 : decode cX10_fashion 92 = .ok (.getfield 107, 3) := dk_180 0 107 (dk_at dksX10_fashion_4 0 rfl rfl)
theorem dX10_fashion_95 : decode cX10_fashion 95 = .ok (.invokevirtual 111, 3) := dk_182 0 111 (dk_at dksX10_fashion_4 3 rfl rfl)
theorem dX10_fashion_98 : decode cX10_fashion 98 = .ok (.aload_n 0, 1) := dk_42 (dk_at dksX10_fashion_4 6 rfl rfl)
theorem dX10_fashion_99 : decode cX10_fashion 99 = .ok (.ldc 115, 2) := dk_18 115 (dk_at dksX10_fashion_4 7 rfl rfl)
theorem dX10_fashion_101 : decode cX10_fashion 101 = .ok (.invokevirtual 117, 3) := dk_182 0 117 (dk_at dksX10_fashion_4 9 rfl rfl)
theorem dX10_fashion_104 : decode cX10_fashion 104 = .ok (.aload_n 0, 1) := dk_42 (dk_at dksX10_fashion_4 12 rfl rfl)
theorem dX10_fashion_105 : decode cX10_fashion 105 = .ok (.getfield 77, 3) := dk_180 0 77 (dk_at dksX10_fashion_4 13 rfl rfl)
theorem dX10_fashion_108 : decode cX10_fashion 108 = .ok (.ifCond .ne 16, 3) := dk_154 0 16 (dk_at dksX10_fashion_4 16 rfl rfl)
theorem dX10_fashion_111 : decode cX10_fashion 111 = .ok (.aload_n 0, 1) := dk_42 (dk_at dksX10_fashion_4 19 rfl rfl)
theorem dX10_fashion_112 : decode cX10_fashion 112 = .ok (.getfield 64, 3) := dk_180 0 64 (dk_at dksX10_fashion_4 20 rfl rfl)
theorem dX10_fashion_115 : decode cX10_fashion 115 = .ok (.iconst 2, 1) := dk_5 (dk_at dksX10_fashion_4 23 rfl rfl)
theorem dX10_fashion_116 : decode cX10_fashion 116 = .ok (.if_icmp .eq 8, 3) := dk_159 0 8 (dk_at dksX10_fashion_5 0 rfl rfl)
theorem dX10_fashion_119 : decode cX10_fashion 119 = .ok (.aload_n 0, 1) := dk_42 (dk_at dksX10_fashion_5 3 rfl rfl)
theorem dX10_fashion_120 : decode cX10_fashion 120 = .ok (.iconst 2, 1) := dk_5 (dk_at dksX10_fashion_5 4 rfl rfl)
theorem dX10_fashion_121 : decode cX10_fashion 121 = .ok (.invokevirtual 90, 3) := dk_182 0 90 (dk_at dksX10_fashion_5 5 rfl rfl)
theorem dX10_fashion_124 : decode cX10_fashion 124 = .ok (.aload_n 0, 1) := dk_42 (dk_at dksX10_fashion_5 8 rfl rfl)
theorem dX10_fashion_125 : decode cX10_fashion 125 = .ok (.aload_n 1, 1) := dk_43 (dk_at dksX10_fashion_5 9 rfl rfl)
theorem dX10_fashion_126 : decode cX10_fashion 126 = .ok (.getfield 121, 3) := dk_180 0 121 (dk_at dksX10_fashion_5 10 rfl rfl)
theorem dX10_fashion_129 : decode cX10_fashion 129 = .ok (.invokevirtual 111, 3) := dk_182 0 111 (dk_at dksX10_fashion_5 13 rfl rfl)
theorem dX10_fashion_132 : decode cX10_fashion 132 = .ok (.aload_n 0, 1) := dk_42 (dk_at dksX10_fashion_5 16 rfl rfl)
theorem dX10_fashion_133 : decode cX10_fashion 133 = .ok (.ldc 124, 2) := dk_18 124 (dk_at dksX10_fashion_5 17 rfl rfl)
theorem dX10_fashion_135 : decode cX10_fashion 135 = .ok (.invokevirtual 96, 3) := dk_182 0 96 (dk_at dksX10_fashion_5 19 rfl rfl)
theorem dX10_fashion_138 : decode cX10_fashion 138 = .ok (.ifCond .eq 15, 3) := dk_153 0 15 (dk_at dksX10_fashion_6 0 rfl rfl)
theorem dX10_fashion_141 : decode cX10_fashion 141 = .ok (.aload_n 0, 1) := dk_42 (dk_at dksX10_fashion_6 3 rfl rfl)
theorem dX10_fashion_142 : decode cX10_fashion 142 = .ok (.invokevirtual 93, 3) := dk_182 0 93 (dk_at dksX10_fashion_6 4 rfl rfl)
theorem dX10_fashion_145 : decode cX10_fashion 145 = .ok (.aload_n 1, 1) := dk_43 (dk_at dksX10_fashion_6 7 rfl rfl)
theorem dX10_fashion_146 : decode cX10_fashion 146 = .ok (.aload_n 0, 1) := dk_42 (dk_at dksX10_fashion_6 8 rfl rfl)
theorem dX10_fashion_147 : decode cX10_fashion 147 = .ok (.invokevirtual 126, 3) := dk_182 0 126 (dk_at dksX10_fashion_6 9 rfl rfl)
theorem dX10_fashion_150 : decode cX10_fashion 150 = .ok (.putfield 130, 3) := dk_181 0 130 (dk_at dksX10_fashion_6 12 rfl rfl)
theorem dX10_fashion_153 : decode cX10_fashion 153 = .ok (.aload_n 0, 1) := dk_42 (dk_at dksX10_fashion_6 15 rfl rfl)
theorem dX10_fashion_154 : decode cX10_fashion 154 = .ok (.invokevirtual 133, 3) := dk_182 0 133 (dk_at dksX10_fashion_6 16 rfl rfl)
theorem dX10_fashion_157 : decode cX10_fashion 157 = .ok (.aload_n 0, 1) := dk_42 (dk_at dksX10_fashion_6 19 rfl rfl)
theorem dX10_fashion_158 : decode cX10_fashion 158 = .ok (.getfield 20, 3) := dk_180 0 20 (dk_at dksX10_fashion_6 20 rfl rfl)
theorem dX10_fashion_161 : decode cX10_fashion 161 = .ok (.aload_n 1, 1) := dk_43 (dk_at dksX10_fashion_6 23 rfl rfl)
theorem dX10_fashion_162 : decode cX10_fashion 162 = .ok (.invokevirtual 136, 3) := dk_182 0 136 (dk_at dksX10_fashion_7 0 rfl rfl)
theorem dX10_fashion_165 : decode cX10_fashion 165 = .ok (.pop, 1) := dk_87 (dk_at dksX10_fashion_7 3 rfl rfl)
theorem dX10_fashion_166 : decode cX10_fashion 166 = .ok (.goto (-162), 3) := dk_167 255 94 (dk_at dksX10_fashion_7 4 rfl rfl)
theorem dX10_fashion_169 : decode cX10_fashion 169 = .ok (.return_, 1) := dk_177 (dk_at dksX10_fashion_7 7 rfl rfl)
abbrev cX10_next : ByteArray := prog_19_method_5_code
def yX10_next : MethodName := ⟨RX10, "next", "()V"⟩
def dkwX10_next_11 : List UInt8 := [27, 167, 0, 4, 6, 181, 0, 64, 177]
abbrev dktX10_next_11 : List UInt8 := dkwX10_next_11 ++ []
def dkwX10_next_10 : List UInt8 := [4, 96, 181, 0, 58, 42, 27, 16, 59, 159, 0, 15, 27, 16, 40, 159, 0, 9, 27, 16, 41, 160, 0, 7]
abbrev dktX10_next_10 : List UInt8 := dkwX10_next_10 ++ dktX10_next_11
def dkwX10_next_9 : List UInt8 := [167, 0, 4, 5, 181, 0, 64, 167, 0, 49, 42, 42, 180, 0, 58, 182, 0, 42, 60, 42, 89, 180, 0, 58]
abbrev dktX10_next_9 : List UInt8 := dkwX10_next_9 ++ dktX10_next_10
def dkwX10_next_8 : List UInt8 := [4, 96, 181, 0, 58, 167, 255, 199, 42, 42, 180, 0, 58, 42, 180, 0, 61, 100, 6, 164, 0, 7, 6]
abbrev dktX10_next_8 : List UInt8 := dkwX10_next_8 ++ dktX10_next_9
def dkwX10_next_7 : List UInt8 := [180, 0, 74, 104, 42, 42, 180, 0, 58, 182, 0, 42, 96, 16, 48, 100, 181, 0, 74, 42, 89, 180, 0, 58]
abbrev dktX10_next_7 : List UInt8 := dkwX10_next_7 ++ dktX10_next_8
def dkwX10_next_6 : List UInt8 := [182, 0, 71, 153, 0, 52, 42, 180, 0, 58, 42, 180, 0, 61, 100, 6, 162, 0, 26, 42, 16, 10, 42]
abbrev dktX10_next_6 : List UInt8 := dkwX10_next_6 ++ dktX10_next_7
def dkwX10_next_5 : List UInt8 := [167, 0, 150, 42, 42, 180, 0, 58, 182, 0, 71, 153, 0, 93, 42, 3, 181, 0, 74, 42, 42, 180, 0, 58]
abbrev dktX10_next_5 : List UInt8 := dkwX10_next_5 ++ dktX10_next_6
def dkwX10_next_4 : List UInt8 := [182, 0, 67, 153, 0, 16, 42, 89, 180, 0, 58, 4, 96, 181, 0, 58, 167, 255, 235, 42, 4, 181, 0, 64]
abbrev dktX10_next_4 : List UInt8 := dkwX10_next_4 ++ dktX10_next_5
def dkwX10_next_3 : List UInt8 := [181, 0, 64, 167, 0, 193, 42, 42, 180, 0, 58, 182, 0, 67, 153, 0, 35, 42, 42, 180, 0, 58]
abbrev dktX10_next_3 : List UInt8 := dkwX10_next_3 ++ dktX10_next_4
def dkwX10_next_2 : List UInt8 := [167, 255, 209, 42, 42, 180, 0, 58, 181, 0, 61, 42, 180, 0, 58, 42, 180, 0, 35, 161, 0, 11, 42, 3]
abbrev dktX10_next_2 : List UInt8 := dkwX10_next_2 ++ dktX10_next_3
def dkwX10_next_1 : List UInt8 := [42, 42, 180, 0, 58, 182, 0, 42, 16, 10, 160, 0, 16, 42, 89, 180, 0, 58, 4, 96, 181, 0, 58]
abbrev dktX10_next_1 : List UInt8 := dkwX10_next_1 ++ dktX10_next_2
def dkwX10_next_0 : List UInt8 := [42, 180, 0, 58, 42, 180, 0, 35, 162, 0, 42, 42, 42, 180, 0, 58, 182, 0, 42, 16, 32, 159, 0, 16]
abbrev dktX10_next_0 : List UInt8 := dkwX10_next_0 ++ dktX10_next_1
theorem dksX10_next_0 : cX10_next.data.toList.drop 0 = dktX10_next_0 := by decide +kernel
theorem dksX10_next_1 : cX10_next.data.toList.drop 24 = dktX10_next_1 := dk_seg dksX10_next_0 24 rfl rfl
theorem dksX10_next_2 : cX10_next.data.toList.drop 47 = dktX10_next_2 := dk_seg dksX10_next_1 23 rfl rfl
theorem dksX10_next_3 : cX10_next.data.toList.drop 71 = dktX10_next_3 := dk_seg dksX10_next_2 24 rfl rfl
theorem dksX10_next_4 : cX10_next.data.toList.drop 93 = dktX10_next_4 := dk_seg dksX10_next_3 22 rfl rfl
theorem dksX10_next_5 : cX10_next.data.toList.drop 117 = dktX10_next_5 := dk_seg dksX10_next_4 24 rfl rfl
theorem dksX10_next_6 : cX10_next.data.toList.drop 141 = dktX10_next_6 := dk_seg dksX10_next_5 24 rfl rfl
theorem dksX10_next_7 : cX10_next.data.toList.drop 164 = dktX10_next_7 := dk_seg dksX10_next_6 23 rfl rfl
theorem dksX10_next_8 : cX10_next.data.toList.drop 188 = dktX10_next_8 := dk_seg dksX10_next_7 24 rfl rfl
theorem dksX10_next_9 : cX10_next.data.toList.drop 211 = dktX10_next_9 := dk_seg dksX10_next_8 23 rfl rfl
theorem dksX10_next_10 : cX10_next.data.toList.drop 235 = dktX10_next_10 := dk_seg dksX10_next_9 24 rfl rfl
theorem dksX10_next_11 : cX10_next.data.toList.drop 259 = dktX10_next_11 := dk_seg dksX10_next_10 24 rfl rfl
theorem dX10_next_0 : decode cX10_next 0 = .ok (.aload_n 0, 1) := dk_42 (dk_at dksX10_next_0 0 rfl rfl)
theorem dX10_next_1 : decode cX10_next 1 = .ok (.getfield 58, 3) := dk_180 0 58 (dk_at dksX10_next_0 1 rfl rfl)
theorem dX10_next_4 : decode cX10_next 4 = .ok (.aload_n 0, 1) := dk_42 (dk_at dksX10_next_0 4 rfl rfl)
theorem dX10_next_5 : decode cX10_next 5 = .ok (.getfield 35, 3) := dk_180 0 35 (dk_at dksX10_next_0 5 rfl rfl)
theorem dX10_next_8 : decode cX10_next 8 = .ok (.if_icmp .ge 42, 3) := dk_162 0 42 (dk_at dksX10_next_0 8 rfl rfl)
theorem dX10_next_11 : decode cX10_next 11 = .ok (.aload_n 0, 1) := dk_42 (dk_at dksX10_next_0 11 rfl rfl)
theorem dX10_next_12 : decode cX10_next 12 = .ok (.aload_n 0, 1) := dk_42 (dk_at dksX10_next_0 12 rfl rfl)
theorem dX10_next_13 : decode cX10_next 13 = .ok (.getfield 58, 3) := dk_180 0 58 (dk_at dksX10_next_0 13 rfl rfl)
theorem dX10_next_16 : decode cX10_next 16 = .ok (.invokevirtual 42, 3) := dk_182 0 42 (dk_at dksX10_next_0 16 rfl rfl)
theorem dX10_next_19 : decode cX10_next 19 = .ok (.bipush 32, 2) := dk_16 32 (dk_at dksX10_next_0 19 rfl rfl)
theorem dX10_next_21 : decode cX10_next 21 = .ok (.if_icmp .eq 16, 3) := dk_159 0 16 (dk_at dksX10_next_0 21 rfl rfl)
theorem dX10_next_24 : decode cX10_next 24 = .ok (.aload_n 0, 1) := dk_42 (dk_at dksX10_next_1 0 rfl rfl)
theorem dX10_next_25 : decode cX10_next 25 = .ok (.aload_n 0, 1) := dk_42 (dk_at dksX10_next_1 1 rfl rfl)
theorem dX10_next_26 : decode cX10_next 26 = .ok (.getfield 58, 3) := dk_180 0 58 (dk_at dksX10_next_1 2 rfl rfl)
theorem dX10_next_29 : decode cX10_next 29 = .ok (.invokevirtual 42, 3) := dk_182 0 42 (dk_at dksX10_next_1 5 rfl rfl)
theorem dX10_next_32 : decode cX10_next 32 = .ok (.bipush 10, 2) := dk_16 10 (dk_at dksX10_next_1 8 rfl rfl)
theorem dX10_next_34 : decode cX10_next 34 = .ok (.if_icmp .ne 16, 3) := dk_160 0 16 (dk_at dksX10_next_1 10 rfl rfl)
theorem dX10_next_37 : decode cX10_next 37 = .ok (.aload_n 0, 1) := dk_42 (dk_at dksX10_next_1 13 rfl rfl)
theorem dX10_next_38 : decode cX10_next 38 = .ok (.dup, 1) := dk_89 (dk_at dksX10_next_1 14 rfl rfl)
theorem dX10_next_39 : decode cX10_next 39 = .ok (.getfield 58, 3) := dk_180 0 58 (dk_at dksX10_next_1 15 rfl rfl)
theorem dX10_next_42 : decode cX10_next 42 = .ok (.iconst 1, 1) := dk_4 (dk_at dksX10_next_1 18 rfl rfl)
theorem dX10_next_43 : decode cX10_next 43 = .ok (.iadd, 1) := dk_96 (dk_at dksX10_next_1 19 rfl rfl)
theorem dX10_next_44 : decode cX10_next 44 = .ok (.putfield 58, 3) := dk_181 0 58 (dk_at dksX10_next_1 20 rfl rfl)
theorem dX10_next_47 : decode cX10_next 47 = .ok (.goto (-47), 3) := dk_167 255 209 (dk_at dksX10_next_2 0 rfl rfl)
theorem dX10_next_50 : decode cX10_next 50 = .ok (.aload_n 0, 1) := dk_42 (dk_at dksX10_next_2 3 rfl rfl)
theorem dX10_next_51 : decode cX10_next 51 = .ok (.aload_n 0, 1) := dk_42 (dk_at dksX10_next_2 4 rfl rfl)
theorem dX10_next_52 : decode cX10_next 52 = .ok (.getfield 58, 3) := dk_180 0 58 (dk_at dksX10_next_2 5 rfl rfl)
theorem dX10_next_55 : decode cX10_next 55 = .ok (.putfield 61, 3) := dk_181 0 61 (dk_at dksX10_next_2 8 rfl rfl)
theorem dX10_next_58 : decode cX10_next 58 = .ok (.aload_n 0, 1) := dk_42 (dk_at dksX10_next_2 11 rfl rfl)
theorem dX10_next_59 : decode cX10_next 59 = .ok (.getfield 58, 3) := dk_180 0 58 (dk_at dksX10_next_2 12 rfl rfl)
theorem dX10_next_62 : decode cX10_next 62 = .ok (.aload_n 0, 1) := dk_42 (dk_at dksX10_next_2 15 rfl rfl)
theorem dX10_next_63 : decode cX10_next 63 = .ok (.getfield 35, 3) := dk_180 0 35 (dk_at dksX10_next_2 16 rfl rfl)
theorem dX10_next_66 : decode cX10_next 66 = .ok (.if_icmp .lt 11, 3) := dk_161 0 11 (dk_at dksX10_next_2 19 rfl rfl)
theorem dX10_next_69 : decode cX10_next 69 = .ok (.aload_n 0, 1) := dk_42 (dk_at dksX10_next_2 22 rfl rfl)
theorem dX10_next_70 : decode cX10_next 70 = .ok (.iconst 0, 1) := dk_3 (dk_at dksX10_next_2 23 rfl rfl)
theorem dX10_next_71 : decode cX10_next 71 = .ok (.putfield 64, 3) := dk_181 0 64 (dk_at dksX10_next_3 0 rfl rfl)
theorem dX10_next_74 : decode cX10_next 74 = .ok (.goto 193, 3) := dk_167 0 193 (dk_at dksX10_next_3 3 rfl rfl)
theorem dX10_next_77 : decode cX10_next 77 = .ok (.aload_n 0, 1) := dk_42 (dk_at dksX10_next_3 6 rfl rfl)
theorem dX10_next_78 : decode cX10_next 78 = .ok (.aload_n 0, 1) := dk_42 (dk_at dksX10_next_3 7 rfl rfl)
theorem dX10_next_79 : decode cX10_next 79 = .ok (.getfield 58, 3) := dk_180 0 58 (dk_at dksX10_next_3 8 rfl rfl)
theorem dX10_next_82 : decode cX10_next 82 = .ok (.invokevirtual 67, 3) := dk_182 0 67 (dk_at dksX10_next_3 11 rfl rfl)
theorem dX10_next_85 : decode cX10_next 85 = .ok (.ifCond .eq 35, 3) := dk_153 0 35 (dk_at dksX10_next_3 14 rfl rfl)
theorem dX10_next_88 : decode cX10_next 88 = .ok (.aload_n 0, 1) := dk_42 (dk_at dksX10_next_3 17 rfl rfl)
theorem dX10_next_89 : decode cX10_next 89 = .ok (.aload_n 0, 1) := dk_42 (dk_at dksX10_next_3 18 rfl rfl)
theorem dX10_next_90 : decode cX10_next 90 = .ok (.getfield 58, 3) := dk_180 0 58 (dk_at dksX10_next_3 19 rfl rfl)
theorem dX10_next_93 : decode cX10_next 93 = .ok (.invokevirtual 67, 3) := dk_182 0 67 (dk_at dksX10_next_4 0 rfl rfl)
theorem dX10_next_96 : decode cX10_next 96 = .ok (.ifCond .eq 16, 3) := dk_153 0 16 (dk_at dksX10_next_4 3 rfl rfl)
theorem dX10_next_99 : decode cX10_next 99 = .ok (.aload_n 0, 1) := dk_42 (dk_at dksX10_next_4 6 rfl rfl)
theorem dX10_next_100 : decode cX10_next 100 = .ok (.dup, 1) := dk_89 (dk_at dksX10_next_4 7 rfl rfl)
theorem dX10_next_101 : decode cX10_next 101 = .ok (.getfield 58, 3) := dk_180 0 58 (dk_at dksX10_next_4 8 rfl rfl)
theorem dX10_next_104 : decode cX10_next 104 = .ok (.iconst 1, 1) := dk_4 (dk_at dksX10_next_4 11 rfl rfl)
theorem dX10_next_105 : decode cX10_next 105 = .ok (.iadd, 1) := dk_96 (dk_at dksX10_next_4 12 rfl rfl)
theorem dX10_next_106 : decode cX10_next 106 = .ok (.putfield 58, 3) := dk_181 0 58 (dk_at dksX10_next_4 13 rfl rfl)
theorem dX10_next_109 : decode cX10_next 109 = .ok (.goto (-21), 3) := dk_167 255 235 (dk_at dksX10_next_4 16 rfl rfl)
theorem dX10_next_112 : decode cX10_next 112 = .ok (.aload_n 0, 1) := dk_42 (dk_at dksX10_next_4 19 rfl rfl)
theorem dX10_next_113 : decode cX10_next 113 = .ok (.iconst 1, 1) := dk_4 (dk_at dksX10_next_4 20 rfl rfl)
theorem dX10_next_114 : decode cX10_next 114 = .ok (.putfield 64, 3) := dk_181 0 64 (dk_at dksX10_next_4 21 rfl rfl)
theorem dX10_next_117 : decode cX10_next 117 = .ok (.goto 150, 3) := dk_167 0 150 (dk_at dksX10_next_5 0 rfl rfl)
theorem dX10_next_120 : decode cX10_next 120 = .ok (.aload_n 0, 1) := dk_42 (dk_at dksX10_next_5 3 rfl rfl)
theorem dX10_next_121 : decode cX10_next 121 = .ok (.aload_n 0, 1) := dk_42 (dk_at dksX10_next_5 4 rfl rfl)
theorem dX10_next_122 : decode cX10_next 122 = .ok (.getfield 58, 3) := dk_180 0 58 (dk_at dksX10_next_5 5 rfl rfl)
theorem dX10_next_125 : decode cX10_next 125 = .ok (.invokevirtual 71, 3) := dk_182 0 71 (dk_at dksX10_next_5 8 rfl rfl)
theorem dX10_next_128 : decode cX10_next 128 = .ok (.ifCond .eq 93, 3) := dk_153 0 93 (dk_at dksX10_next_5 11 rfl rfl)
theorem dX10_next_131 : decode cX10_next 131 = .ok (.aload_n 0, 1) := dk_42 (dk_at dksX10_next_5 14 rfl rfl)
theorem dX10_next_132 : decode cX10_next 132 = .ok (.iconst 0, 1) := dk_3 (dk_at dksX10_next_5 15 rfl rfl)
theorem dX10_next_133 : decode cX10_next 133 = .ok (.putfield 74, 3) := dk_181 0 74 (dk_at dksX10_next_5 16 rfl rfl)
theorem dX10_next_136 : decode cX10_next 136 = .ok (.aload_n 0, 1) := dk_42 (dk_at dksX10_next_5 19 rfl rfl)
theorem dX10_next_137 : decode cX10_next 137 = .ok (.aload_n 0, 1) := dk_42 (dk_at dksX10_next_5 20 rfl rfl)
theorem dX10_next_138 : decode cX10_next 138 = .ok (.getfield 58, 3) := dk_180 0 58 (dk_at dksX10_next_5 21 rfl rfl)
theorem dX10_next_141 : decode cX10_next 141 = .ok (.invokevirtual 71, 3) := dk_182 0 71 (dk_at dksX10_next_6 0 rfl rfl)
theorem dX10_next_144 : decode cX10_next 144 = .ok (.ifCond .eq 52, 3) := dk_153 0 52 (dk_at dksX10_next_6 3 rfl rfl)
theorem dX10_next_147 : decode cX10_next 147 = .ok (.aload_n 0, 1) := dk_42 (dk_at dksX10_next_6 6 rfl rfl)
theorem dX10_next_148 : decode cX10_next 148 = .ok (.getfield 58, 3) := dk_180 0 58 (dk_at dksX10_next_6 7 rfl rfl)
theorem dX10_next_151 : decode cX10_next 151 = .ok (.aload_n 0, 1) := dk_42 (dk_at dksX10_next_6 10 rfl rfl)
theorem dX10_next_152 : decode cX10_next 152 = .ok (.getfield 61, 3) := dk_180 0 61 (dk_at dksX10_next_6 11 rfl rfl)
theorem dX10_next_155 : decode cX10_next 155 = .ok (.isub, 1) := dk_100 (dk_at dksX10_next_6 14 rfl rfl)
theorem dX10_next_156 : decode cX10_next 156 = .ok (.iconst 3, 1) := dk_6 (dk_at dksX10_next_6 15 rfl rfl)
theorem dX10_next_157 : decode cX10_next 157 = .ok (.if_icmp .ge 26, 3) := dk_162 0 26 (dk_at dksX10_next_6 16 rfl rfl)
theorem dX10_next_160 : decode cX10_next 160 = .ok (.aload_n 0, 1) := dk_42 (dk_at dksX10_next_6 19 rfl rfl)
theorem dX10_next_161 : decode cX10_next 161 = .ok (.bipush 10, 2) := dk_16 10 (dk_at dksX10_next_6 20 rfl rfl)
theorem dX10_next_163 : decode cX10_next 163 = .ok (.aload_n 0, 1) := dk_42 (dk_at dksX10_next_6 22 rfl rfl)
theorem dX10_next_164 : decode cX10_next 164 = .ok (.getfield 74, 3) := dk_180 0 74 (dk_at dksX10_next_7 0 rfl rfl)
theorem dX10_next_167 : decode cX10_next 167 = .ok (.imul, 1) := dk_104 (dk_at dksX10_next_7 3 rfl rfl)
theorem dX10_next_168 : decode cX10_next 168 = .ok (.aload_n 0, 1) := dk_42 (dk_at dksX10_next_7 4 rfl rfl)
theorem dX10_next_169 : decode cX10_next 169 = .ok (.aload_n 0, 1) := dk_42 (dk_at dksX10_next_7 5 rfl rfl)
theorem dX10_next_170 : decode cX10_next 170 = .ok (.getfield 58, 3) := dk_180 0 58 (dk_at dksX10_next_7 6 rfl rfl)
theorem dX10_next_173 : decode cX10_next 173 = .ok (.invokevirtual 42, 3) := dk_182 0 42 (dk_at dksX10_next_7 9 rfl rfl)
theorem dX10_next_176 : decode cX10_next 176 = .ok (.iadd, 1) := dk_96 (dk_at dksX10_next_7 12 rfl rfl)
theorem dX10_next_177 : decode cX10_next 177 = .ok (.bipush 48, 2) := dk_16 48 (dk_at dksX10_next_7 13 rfl rfl)
theorem dX10_next_179 : decode cX10_next 179 = .ok (.isub, 1) := dk_100 (dk_at dksX10_next_7 15 rfl rfl)
theorem dX10_next_180 : decode cX10_next 180 = .ok (.putfield 74, 3) := dk_181 0 74 (dk_at dksX10_next_7 16 rfl rfl)
theorem dX10_next_183 : decode cX10_next 183 = .ok (.aload_n 0, 1) := dk_42 (dk_at dksX10_next_7 19 rfl rfl)
theorem dX10_next_184 : decode cX10_next 184 = .ok (.dup, 1) := dk_89 (dk_at dksX10_next_7 20 rfl rfl)
theorem dX10_next_185 : decode cX10_next 185 = .ok (.getfield 58, 3) := dk_180 0 58 (dk_at dksX10_next_7 21 rfl rfl)
theorem dX10_next_188 : decode cX10_next 188 = .ok (.iconst 1, 1) := dk_4 (dk_at dksX10_next_8 0 rfl rfl)
theorem dX10_next_189 : decode cX10_next 189 = .ok (.iadd, 1) := dk_96 (dk_at dksX10_next_8 1 rfl rfl)
theorem dX10_next_190 : decode cX10_next 190 = .ok (.putfield 58, 3) := dk_181 0 58 (dk_at dksX10_next_8 2 rfl rfl)
theorem dX10_next_193 : decode cX10_next 193 = .ok (.goto (-57), 3) := dk_167 255 199 (dk_at dksX10_next_8 5 rfl rfl)
theorem dX10_next_196 : decode cX10_next 196 = .ok (.aload_n 0, 1) := dk_42 (dk_at dksX10_next_8 8 rfl rfl)
theorem dX10_next_197 : decode cX10_next 197 = .ok (.aload_n 0, 1) := dk_42 (dk_at dksX10_next_8 9 rfl rfl)
theorem dX10_next_198 : decode cX10_next 198 = .ok (.getfield 58, 3) := dk_180 0 58 (dk_at dksX10_next_8 10 rfl rfl)
theorem dX10_next_201 : decode cX10_next 201 = .ok (.aload_n 0, 1) := dk_42 (dk_at dksX10_next_8 13 rfl rfl)
theorem dX10_next_202 : decode cX10_next 202 = .ok (.getfield 61, 3) := dk_180 0 61 (dk_at dksX10_next_8 14 rfl rfl)
theorem dX10_next_205 : decode cX10_next 205 = .ok (.isub, 1) := dk_100 (dk_at dksX10_next_8 17 rfl rfl)
theorem dX10_next_206 : decode cX10_next 206 = .ok (.iconst 3, 1) := dk_6 (dk_at dksX10_next_8 18 rfl rfl)
theorem dX10_next_207 : decode cX10_next 207 = .ok (.if_icmp .le 7, 3) := dk_164 0 7 (dk_at dksX10_next_8 19 rfl rfl)
theorem dX10_next_210 : decode cX10_next 210 = .ok (.iconst 3, 1) := dk_6 (dk_at dksX10_next_8 22 rfl rfl)
theorem dX10_next_211 : decode cX10_next 211 = .ok (.goto 4, 3) := dk_167 0 4 (dk_at dksX10_next_9 0 rfl rfl)
theorem dX10_next_214 : decode cX10_next 214 = .ok (.iconst 2, 1) := dk_5 (dk_at dksX10_next_9 3 rfl rfl)
theorem dX10_next_215 : decode cX10_next 215 = .ok (.putfield 64, 3) := dk_181 0 64 (dk_at dksX10_next_9 4 rfl rfl)
theorem dX10_next_218 : decode cX10_next 218 = .ok (.goto 49, 3) := dk_167 0 49 (dk_at dksX10_next_9 7 rfl rfl)
theorem dX10_next_221 : decode cX10_next 221 = .ok (.aload_n 0, 1) := dk_42 (dk_at dksX10_next_9 10 rfl rfl)
theorem dX10_next_222 : decode cX10_next 222 = .ok (.aload_n 0, 1) := dk_42 (dk_at dksX10_next_9 11 rfl rfl)
theorem dX10_next_223 : decode cX10_next 223 = .ok (.getfield 58, 3) := dk_180 0 58 (dk_at dksX10_next_9 12 rfl rfl)
theorem dX10_next_226 : decode cX10_next 226 = .ok (.invokevirtual 42, 3) := dk_182 0 42 (dk_at dksX10_next_9 15 rfl rfl)
theorem dX10_next_229 : decode cX10_next 229 = .ok (.istore_n 1, 1) := dk_60 (dk_at dksX10_next_9 18 rfl rfl)
theorem dX10_next_230 : decode cX10_next 230 = .ok (.aload_n 0, 1) := dk_42 (dk_at dksX10_next_9 19 rfl rfl)
theorem dX10_next_231 : decode cX10_next 231 = .ok (.dup, 1) := dk_89 (dk_at dksX10_next_9 20 rfl rfl)
theorem dX10_next_232 : decode cX10_next 232 = .ok (.getfield 58, 3) := dk_180 0 58 (dk_at dksX10_next_9 21 rfl rfl)
theorem dX10_next_235 : decode cX10_next 235 = .ok (.iconst 1, 1) := dk_4 (dk_at dksX10_next_10 0 rfl rfl)
theorem dX10_next_236 : decode cX10_next 236 = .ok (.iadd, 1) := dk_96 (dk_at dksX10_next_10 1 rfl rfl)
theorem dX10_next_237 : decode cX10_next 237 = .ok (.putfield 58, 3) := dk_181 0 58 (dk_at dksX10_next_10 2 rfl rfl)
theorem dX10_next_240 : decode cX10_next 240 = .ok (.aload_n 0, 1) := dk_42 (dk_at dksX10_next_10 5 rfl rfl)
theorem dX10_next_241 : decode cX10_next 241 = .ok (.iload_n 1, 1) := dk_27 (dk_at dksX10_next_10 6 rfl rfl)
theorem dX10_next_242 : decode cX10_next 242 = .ok (.bipush 59, 2) := dk_16 59 (dk_at dksX10_next_10 7 rfl rfl)
theorem dX10_next_244 : decode cX10_next 244 = .ok (.if_icmp .eq 15, 3) := dk_159 0 15 (dk_at dksX10_next_10 9 rfl rfl)
theorem dX10_next_247 : decode cX10_next 247 = .ok (.iload_n 1, 1) := dk_27 (dk_at dksX10_next_10 12 rfl rfl)
theorem dX10_next_248 : decode cX10_next 248 = .ok (.bipush 40, 2) := dk_16 40 (dk_at dksX10_next_10 13 rfl rfl)
theorem dX10_next_250 : decode cX10_next 250 = .ok (.if_icmp .eq 9, 3) := dk_159 0 9 (dk_at dksX10_next_10 15 rfl rfl)
theorem dX10_next_253 : decode cX10_next 253 = .ok (.iload_n 1, 1) := dk_27 (dk_at dksX10_next_10 18 rfl rfl)
theorem dX10_next_254 : decode cX10_next 254 = .ok (.bipush 41, 2) := dk_16 41 (dk_at dksX10_next_10 19 rfl rfl)
theorem dX10_next_256 : decode cX10_next 256 = .ok (.if_icmp .ne 7, 3) := dk_160 0 7 (dk_at dksX10_next_10 21 rfl rfl)
theorem dX10_next_259 : decode cX10_next 259 = .ok (.iload_n 1, 1) := dk_27 (dk_at dksX10_next_11 0 rfl rfl)
theorem dX10_next_260 : decode cX10_next 260 = .ok (.goto 4, 3) := dk_167 0 4 (dk_at dksX10_next_11 1 rfl rfl)
theorem dX10_next_263 : decode cX10_next 263 = .ok (.iconst 3, 1) := dk_6 (dk_at dksX10_next_11 4 rfl rfl)
theorem dX10_next_264 : decode cX10_next 264 = .ok (.putfield 64, 3) := dk_181 0 64 (dk_at dksX10_next_11 5 rfl rfl)
theorem dX10_next_267 : decode cX10_next 267 = .ok (.return_, 1) := dk_177 (dk_at dksX10_next_11 8 rfl rfl)
abbrev cX10_see : ByteArray := prog_19_method_2_code
def yX10_see : MethodName := ⟨RX10, "see", "(I)I"⟩
def dkwX10_see_1 : List UInt8 := [3, 172]
abbrev dktX10_see_1 : List UInt8 := dkwX10_see_1 ++ []
def dkwX10_see_0 : List UInt8 := [27, 42, 180, 0, 35, 162, 0, 19, 42, 180, 0, 3, 180, 0, 38, 27, 51, 17, 0, 255, 126, 167, 0, 4]
abbrev dktX10_see_0 : List UInt8 := dkwX10_see_0 ++ dktX10_see_1
theorem dksX10_see_0 : cX10_see.data.toList.drop 0 = dktX10_see_0 := by decide +kernel
theorem dksX10_see_1 : cX10_see.data.toList.drop 24 = dktX10_see_1 := dk_seg dksX10_see_0 24 rfl rfl
theorem dX10_see_0 : decode cX10_see 0 = .ok (.iload_n 1, 1) := dk_27 (dk_at dksX10_see_0 0 rfl rfl)
theorem dX10_see_1 : decode cX10_see 1 = .ok (.aload_n 0, 1) := dk_42 (dk_at dksX10_see_0 1 rfl rfl)
theorem dX10_see_2 : decode cX10_see 2 = .ok (.getfield 35, 3) := dk_180 0 35 (dk_at dksX10_see_0 2 rfl rfl)
theorem dX10_see_5 : decode cX10_see 5 = .ok (.if_icmp .ge 19, 3) := dk_162 0 19 (dk_at dksX10_see_0 5 rfl rfl)
theorem dX10_see_8 : decode cX10_see 8 = .ok (.aload_n 0, 1) := dk_42 (dk_at dksX10_see_0 8 rfl rfl)
theorem dX10_see_9 : decode cX10_see 9 = .ok (.getfield 3, 3) := dk_180 0 3 (dk_at dksX10_see_0 9 rfl rfl)
theorem dX10_see_12 : decode cX10_see 12 = .ok (.getfield 38, 3) := dk_180 0 38 (dk_at dksX10_see_0 12 rfl rfl)
theorem dX10_see_15 : decode cX10_see 15 = .ok (.iload_n 1, 1) := dk_27 (dk_at dksX10_see_0 15 rfl rfl)
theorem dX10_see_16 : decode cX10_see 16 = .ok (.baload, 1) := dk_51 (dk_at dksX10_see_0 16 rfl rfl)
theorem dX10_see_17 : decode cX10_see 17 = .ok (.sipush 255, 3) := dk_17 0 255 (dk_at dksX10_see_0 17 rfl rfl)
theorem dX10_see_20 : decode cX10_see 20 = .ok (.iand, 1) := dk_126 (dk_at dksX10_see_0 20 rfl rfl)
theorem dX10_see_21 : decode cX10_see 21 = .ok (.goto 4, 3) := dk_167 0 4 (dk_at dksX10_see_0 21 rfl rfl)
theorem dX10_see_24 : decode cX10_see 24 = .ok (.iconst 0, 1) := dk_3 (dk_at dksX10_see_1 0 rfl rfl)
theorem dX10_see_25 : decode cX10_see 25 = .ok (.ireturn, 1) := dk_172 (dk_at dksX10_see_1 1 rfl rfl)
abbrev cX10_isSmall : ByteArray := prog_19_method_3_code
def yX10_isSmall : MethodName := ⟨RX10, "isSmall", "(I)Z"⟩
def dkwX10_isSmall_0 : List UInt8 := [42, 27, 182, 0, 42, 133, 20, 0, 46, 20, 0, 48, 184, 0, 50, 172]
abbrev dktX10_isSmall_0 : List UInt8 := dkwX10_isSmall_0 ++ []
theorem dksX10_isSmall_0 : cX10_isSmall.data.toList.drop 0 = dktX10_isSmall_0 := by decide +kernel
theorem dX10_isSmall_0 : decode cX10_isSmall 0 = .ok (.aload_n 0, 1) := dk_42 (dk_at dksX10_isSmall_0 0 rfl rfl)
theorem dX10_isSmall_1 : decode cX10_isSmall 1 = .ok (.iload_n 1, 1) := dk_27 (dk_at dksX10_isSmall_0 1 rfl rfl)
theorem dX10_isSmall_2 : decode cX10_isSmall 2 = .ok (.invokevirtual 42, 3) := dk_182 0 42 (dk_at dksX10_isSmall_0 2 rfl rfl)
theorem dX10_isSmall_5 : decode cX10_isSmall 5 = .ok (.i2l, 1) := dk_133 (dk_at dksX10_isSmall_0 5 rfl rfl)
theorem dX10_isSmall_6 : decode cX10_isSmall 6 = .ok (.ldc2_w 46, 3) := dk_20 0 46 (dk_at dksX10_isSmall_0 6 rfl rfl)
theorem dX10_isSmall_9 : decode cX10_isSmall 9 = .ok (.ldc2_w 48, 3) := dk_20 0 48 (dk_at dksX10_isSmall_0 9 rfl rfl)
theorem dX10_isSmall_12 : decode cX10_isSmall 12 = .ok (.invokestatic 50, 3) := dk_184 0 50 (dk_at dksX10_isSmall_0 12 rfl rfl)
theorem dX10_isSmall_15 : decode cX10_isSmall 15 = .ok (.ireturn, 1) := dk_172 (dk_at dksX10_isSmall_0 15 rfl rfl)
abbrev cX10_isDigit : ByteArray := prog_19_method_4_code
def yX10_isDigit : MethodName := ⟨RX10, "isDigit", "(I)Z"⟩
def dkwX10_isDigit_0 : List UInt8 := [42, 27, 182, 0, 42, 133, 20, 0, 54, 20, 0, 56, 184, 0, 50, 172]
abbrev dktX10_isDigit_0 : List UInt8 := dkwX10_isDigit_0 ++ []
theorem dksX10_isDigit_0 : cX10_isDigit.data.toList.drop 0 = dktX10_isDigit_0 := by decide +kernel
theorem dX10_isDigit_0 : decode cX10_isDigit 0 = .ok (.aload_n 0, 1) := dk_42 (dk_at dksX10_isDigit_0 0 rfl rfl)
theorem dX10_isDigit_1 : decode cX10_isDigit 1 = .ok (.iload_n 1, 1) := dk_27 (dk_at dksX10_isDigit_0 1 rfl rfl)
theorem dX10_isDigit_2 : decode cX10_isDigit 2 = .ok (.invokevirtual 42, 3) := dk_182 0 42 (dk_at dksX10_isDigit_0 2 rfl rfl)
theorem dX10_isDigit_5 : decode cX10_isDigit 5 = .ok (.i2l, 1) := dk_133 (dk_at dksX10_isDigit_0 5 rfl rfl)
theorem dX10_isDigit_6 : decode cX10_isDigit 6 = .ok (.ldc2_w 54, 3) := dk_20 0 54 (dk_at dksX10_isDigit_0 6 rfl rfl)
theorem dX10_isDigit_9 : decode cX10_isDigit 9 = .ok (.ldc2_w 56, 3) := dk_20 0 56 (dk_at dksX10_isDigit_0 9 rfl rfl)
theorem dX10_isDigit_12 : decode cX10_isDigit 12 = .ok (.invokestatic 50, 3) := dk_184 0 50 (dk_at dksX10_isDigit_0 12 rfl rfl)
theorem dX10_isDigit_15 : decode cX10_isDigit 15 = .ok (.ireturn, 1) := dk_172 (dk_at dksX10_isDigit_0 15 rfl rfl)
abbrev cX10_wrong : ByteArray := prog_19_method_6_code
def yX10_wrong : MethodName := ⟨RX10, "wrong", "(I)V"⟩
def dkwX10_wrong_1 : List UInt8 := [181, 0, 77, 42, 42, 180, 0, 61, 181, 0, 31, 177]
abbrev dktX10_wrong_1 : List UInt8 := dkwX10_wrong_1 ++ []
def dkwX10_wrong_0 : List UInt8 := [42, 180, 0, 77, 153, 0, 4, 177, 42, 42, 180, 0, 64, 6, 160, 0, 7, 4, 167, 0, 4, 27]
abbrev dktX10_wrong_0 : List UInt8 := dkwX10_wrong_0 ++ dktX10_wrong_1
theorem dksX10_wrong_0 : cX10_wrong.data.toList.drop 0 = dktX10_wrong_0 := by decide +kernel
theorem dksX10_wrong_1 : cX10_wrong.data.toList.drop 22 = dktX10_wrong_1 := dk_seg dksX10_wrong_0 22 rfl rfl
theorem dX10_wrong_0 : decode cX10_wrong 0 = .ok (.aload_n 0, 1) := dk_42 (dk_at dksX10_wrong_0 0 rfl rfl)
theorem dX10_wrong_1 : decode cX10_wrong 1 = .ok (.getfield 77, 3) := dk_180 0 77 (dk_at dksX10_wrong_0 1 rfl rfl)
theorem dX10_wrong_4 : decode cX10_wrong 4 = .ok (.ifCond .eq 4, 3) := dk_153 0 4 (dk_at dksX10_wrong_0 4 rfl rfl)
theorem dX10_wrong_7 : decode cX10_wrong 7 = .ok (.return_, 1) := dk_177 (dk_at dksX10_wrong_0 7 rfl rfl)
theorem dX10_wrong_8 : decode cX10_wrong 8 = .ok (.aload_n 0, 1) := dk_42 (dk_at dksX10_wrong_0 8 rfl rfl)
theorem dX10_wrong_9 : decode cX10_wrong 9 = .ok (.aload_n 0, 1) := dk_42 (dk_at dksX10_wrong_0 9 rfl rfl)
theorem dX10_wrong_10 : decode cX10_wrong 10 = .ok (.getfield 64, 3) := dk_180 0 64 (dk_at dksX10_wrong_0 10 rfl rfl)
theorem dX10_wrong_13 : decode cX10_wrong 13 = .ok (.iconst 3, 1) := dk_6 (dk_at dksX10_wrong_0 13 rfl rfl)
theorem dX10_wrong_14 : decode cX10_wrong 14 = .ok (.if_icmp .ne 7, 3) := dk_160 0 7 (dk_at dksX10_wrong_0 14 rfl rfl)
theorem dX10_wrong_17 : decode cX10_wrong 17 = .ok (.iconst 1, 1) := dk_4 (dk_at dksX10_wrong_0 17 rfl rfl)
theorem dX10_wrong_18 : decode cX10_wrong 18 = .ok (.goto 4, 3) := dk_167 0 4 (dk_at dksX10_wrong_0 18 rfl rfl)
theorem dX10_wrong_21 : decode cX10_wrong 21 = .ok (.iload_n 1, 1) := dk_27 (dk_at dksX10_wrong_0 21 rfl rfl)
theorem dX10_wrong_22 : decode cX10_wrong 22 = .ok (.putfield 77, 3) := dk_181 0 77 (dk_at dksX10_wrong_1 0 rfl rfl)
theorem dX10_wrong_25 : decode cX10_wrong 25 = .ok (.aload_n 0, 1) := dk_42 (dk_at dksX10_wrong_1 3 rfl rfl)
theorem dX10_wrong_26 : decode cX10_wrong 26 = .ok (.aload_n 0, 1) := dk_42 (dk_at dksX10_wrong_1 4 rfl rfl)
theorem dX10_wrong_27 : decode cX10_wrong 27 = .ok (.getfield 61, 3) := dk_180 0 61 (dk_at dksX10_wrong_1 5 rfl rfl)
theorem dX10_wrong_30 : decode cX10_wrong 30 = .ok (.putfield 31, 3) := dk_181 0 31 (dk_at dksX10_wrong_1 8 rfl rfl)
theorem dX10_wrong_33 : decode cX10_wrong 33 = .ok (.return_, 1) := dk_177 (dk_at dksX10_wrong_1 11 rfl rfl)
abbrev cX10_side : ByteArray := prog_19_method_12_code
def yX10_side : MethodName := ⟨RX10, "side", "(LNobodysBard$Phrase;)V"⟩
def dkwX10_side_3 : List UInt8 := [167, 255, 186, 177]
abbrev dktX10_side_3 : List UInt8 := dkwX10_side_3 ++ []
def dkwX10_side_2 : List UInt8 := [182, 0, 90, 42, 180, 0, 77, 154, 255, 201, 43, 42, 4, 17, 0, 255, 182, 0, 145, 182, 0, 149]
abbrev dktX10_side_2 : List UInt8 := dkwX10_side_2 ++ dktX10_side_3
def dkwX10_side_1 : List UInt8 := [184, 0, 50, 154, 0, 11, 42, 6, 182, 0, 90, 167, 0, 16, 43, 180, 0, 140, 7, 160, 0, 8, 42, 7]
abbrev dktX10_side_1 : List UInt8 := dkwX10_side_1 ++ dktX10_side_2
def dkwX10_side_0 : List UInt8 := [42, 180, 0, 77, 154, 0, 69, 42, 180, 0, 64, 5, 160, 0, 61, 42, 180, 0, 74, 133, 10, 20, 0, 100]
abbrev dktX10_side_0 : List UInt8 := dkwX10_side_0 ++ dktX10_side_1
theorem dksX10_side_0 : cX10_side.data.toList.drop 0 = dktX10_side_0 := by decide +kernel
theorem dksX10_side_1 : cX10_side.data.toList.drop 24 = dktX10_side_1 := dk_seg dksX10_side_0 24 rfl rfl
theorem dksX10_side_2 : cX10_side.data.toList.drop 48 = dktX10_side_2 := dk_seg dksX10_side_1 24 rfl rfl
theorem dksX10_side_3 : cX10_side.data.toList.drop 70 = dktX10_side_3 := dk_seg dksX10_side_2 22 rfl rfl
theorem dX10_side_0 : decode cX10_side 0 = .ok (.aload_n 0, 1) := dk_42 (dk_at dksX10_side_0 0 rfl rfl)
theorem dX10_side_1 : decode cX10_side 1 = .ok (.getfield 77, 3) := dk_180 0 77 (dk_at dksX10_side_0 1 rfl rfl)
theorem dX10_side_4 : decode cX10_side 4 = .ok (.ifCond .ne 69, 3) := dk_154 0 69 (dk_at dksX10_side_0 4 rfl rfl)
theorem dX10_side_7 : decode cX10_side 7 = .ok (.aload_n 0, 1) := dk_42 (dk_at dksX10_side_0 7 rfl rfl)
theorem dX10_side_8 : decode cX10_side 8 = .ok (.getfield 64, 3) := dk_180 0 64 (dk_at dksX10_side_0 8 rfl rfl)
theorem dX10_side_11 : decode cX10_side 11 = .ok (.iconst 2, 1) := dk_5 (dk_at dksX10_side_0 11 rfl rfl)
theorem dX10_side_12 : decode cX10_side 12 = .ok (.if_icmp .ne 61, 3) := dk_160 0 61 (dk_at dksX10_side_0 12 rfl rfl)
theorem dX10_side_15 : decode cX10_side 15 = .ok (.aload_n 0, 1) := dk_42 (dk_at dksX10_side_0 15 rfl rfl)
theorem dX10_side_16 : decode cX10_side 16 = .ok (.getfield 74, 3) := dk_180 0 74 (dk_at dksX10_side_0 16 rfl rfl)
theorem dX10_side_19 : decode cX10_side 19 = .ok (.i2l, 1) := dk_133 (dk_at dksX10_side_0 19 rfl rfl)
theorem dX10_side_20 : decode cX10_side 20 = .ok (.lconst 1, 1) := dk_10 (dk_at dksX10_side_0 20 rfl rfl)
theorem dX10_side_21 : decode cX10_side 21 = .ok (.ldc2_w 100, 3) := dk_20 0 100 (dk_at dksX10_side_0 21 rfl rfl)
theorem dX10_side_24 : decode cX10_side 24 = .ok (.invokestatic 50, 3) := dk_184 0 50 (dk_at dksX10_side_1 0 rfl rfl)
theorem dX10_side_27 : decode cX10_side 27 = .ok (.ifCond .ne 11, 3) := dk_154 0 11 (dk_at dksX10_side_1 3 rfl rfl)
theorem dX10_side_30 : decode cX10_side 30 = .ok (.aload_n 0, 1) := dk_42 (dk_at dksX10_side_1 6 rfl rfl)
theorem dX10_side_31 : decode cX10_side 31 = .ok (.iconst 3, 1) := dk_6 (dk_at dksX10_side_1 7 rfl rfl)
theorem dX10_side_32 : decode cX10_side 32 = .ok (.invokevirtual 90, 3) := dk_182 0 90 (dk_at dksX10_side_1 8 rfl rfl)
theorem dX10_side_35 : decode cX10_side 35 = .ok (.goto 16, 3) := dk_167 0 16 (dk_at dksX10_side_1 11 rfl rfl)
theorem dX10_side_38 : decode cX10_side 38 = .ok (.aload_n 1, 1) := dk_43 (dk_at dksX10_side_1 14 rfl rfl)
theorem dX10_side_39 : decode cX10_side 39 = .ok (.getfield 140, 3) := dk_180 0 140 (dk_at dksX10_side_1 15 rfl rfl)
theorem dX10_side_42 : decode cX10_side 42 = .ok (.iconst 4, 1) := dk_7 (dk_at dksX10_side_1 18 rfl rfl)
theorem dX10_side_43 : decode cX10_side 43 = .ok (.if_icmp .ne 8, 3) := dk_160 0 8 (dk_at dksX10_side_1 19 rfl rfl)
theorem dX10_side_46 : decode cX10_side 46 = .ok (.aload_n 0, 1) := dk_42 (dk_at dksX10_side_1 22 rfl rfl)
theorem dX10_side_47 : decode cX10_side 47 = .ok (.iconst 4, 1) := dk_7 (dk_at dksX10_side_1 23 rfl rfl)
theorem dX10_side_48 : decode cX10_side 48 = .ok (.invokevirtual 90, 3) := dk_182 0 90 (dk_at dksX10_side_2 0 rfl rfl)
theorem dX10_side_51 : decode cX10_side 51 = .ok (.aload_n 0, 1) := dk_42 (dk_at dksX10_side_2 3 rfl rfl)
theorem dX10_side_52 : decode cX10_side 52 = .ok (.getfield 77, 3) := dk_180 0 77 (dk_at dksX10_side_2 4 rfl rfl)
theorem dX10_side_55 : decode cX10_side 55 = .ok (.ifCond .ne (-55), 3) := dk_154 255 201 (dk_at dksX10_side_2 7 rfl rfl)
theorem dX10_side_58 : decode cX10_side 58 = .ok (.aload_n 1, 1) := dk_43 (dk_at dksX10_side_2 10 rfl rfl)
theorem dX10_side_59 : decode cX10_side 59 = .ok (.aload_n 0, 1) := dk_42 (dk_at dksX10_side_2 11 rfl rfl)
theorem dX10_side_60 : decode cX10_side 60 = .ok (.iconst 1, 1) := dk_4 (dk_at dksX10_side_2 12 rfl rfl)
theorem dX10_side_61 : decode cX10_side 61 = .ok (.sipush 255, 3) := dk_17 0 255 (dk_at dksX10_side_2 13 rfl rfl)
theorem dX10_side_64 : decode cX10_side 64 = .ok (.invokevirtual 145, 3) := dk_182 0 145 (dk_at dksX10_side_2 16 rfl rfl)
theorem dX10_side_67 : decode cX10_side 67 = .ok (.invokevirtual 149, 3) := dk_182 0 149 (dk_at dksX10_side_2 19 rfl rfl)
theorem dX10_side_70 : decode cX10_side 70 = .ok (.goto (-70), 3) := dk_167 255 186 (dk_at dksX10_side_3 0 rfl rfl)
theorem dX10_side_73 : decode cX10_side 73 = .ok (.return_, 1) := dk_177 (dk_at dksX10_side_3 3 rfl rfl)
abbrev cX10_number : ByteArray := prog_19_method_8_code
def yX10_number : MethodName := ⟨RX10, "number", "(II)I"⟩
def dkwX10_number_2 : List UInt8 := [180, 0, 74, 62, 42, 180, 0, 77, 153, 0, 5, 3, 172, 42, 182, 0, 93, 29, 172]
abbrev dktX10_number_2 : List UInt8 := dkwX10_number_2 ++ []
def dkwX10_number_1 : List UInt8 := [154, 0, 23, 42, 180, 0, 74, 133, 27, 133, 28, 133, 184, 0, 50, 154, 0, 8, 42, 6, 182, 0, 90, 42]
abbrev dktX10_number_1 : List UInt8 := dkwX10_number_1 ++ dktX10_number_2
def dkwX10_number_0 : List UInt8 := [42, 180, 0, 77, 154, 0, 16, 42, 180, 0, 64, 5, 159, 0, 8, 42, 5, 182, 0, 90, 42, 180, 0, 77]
abbrev dktX10_number_0 : List UInt8 := dkwX10_number_0 ++ dktX10_number_1
theorem dksX10_number_0 : cX10_number.data.toList.drop 0 = dktX10_number_0 := by decide +kernel
theorem dksX10_number_1 : cX10_number.data.toList.drop 24 = dktX10_number_1 := dk_seg dksX10_number_0 24 rfl rfl
theorem dksX10_number_2 : cX10_number.data.toList.drop 48 = dktX10_number_2 := dk_seg dksX10_number_1 24 rfl rfl
theorem dX10_number_0 : decode cX10_number 0 = .ok (.aload_n 0, 1) := dk_42 (dk_at dksX10_number_0 0 rfl rfl)
theorem dX10_number_1 : decode cX10_number 1 = .ok (.getfield 77, 3) := dk_180 0 77 (dk_at dksX10_number_0 1 rfl rfl)
theorem dX10_number_4 : decode cX10_number 4 = .ok (.ifCond .ne 16, 3) := dk_154 0 16 (dk_at dksX10_number_0 4 rfl rfl)
theorem dX10_number_7 : decode cX10_number 7 = .ok (.aload_n 0, 1) := dk_42 (dk_at dksX10_number_0 7 rfl rfl)
theorem dX10_number_8 : decode cX10_number 8 = .ok (.getfield 64, 3) := dk_180 0 64 (dk_at dksX10_number_0 8 rfl rfl)
theorem dX10_number_11 : decode cX10_number 11 = .ok (.iconst 2, 1) := dk_5 (dk_at dksX10_number_0 11 rfl rfl)
theorem dX10_number_12 : decode cX10_number 12 = .ok (.if_icmp .eq 8, 3) := dk_159 0 8 (dk_at dksX10_number_0 12 rfl rfl)
theorem dX10_number_15 : decode cX10_number 15 = .ok (.aload_n 0, 1) := dk_42 (dk_at dksX10_number_0 15 rfl rfl)
theorem dX10_number_16 : decode cX10_number 16 = .ok (.iconst 2, 1) := dk_5 (dk_at dksX10_number_0 16 rfl rfl)
theorem dX10_number_17 : decode cX10_number 17 = .ok (.invokevirtual 90, 3) := dk_182 0 90 (dk_at dksX10_number_0 17 rfl rfl)
theorem dX10_number_20 : decode cX10_number 20 = .ok (.aload_n 0, 1) := dk_42 (dk_at dksX10_number_0 20 rfl rfl)
theorem dX10_number_21 : decode cX10_number 21 = .ok (.getfield 77, 3) := dk_180 0 77 (dk_at dksX10_number_0 21 rfl rfl)
theorem dX10_number_24 : decode cX10_number 24 = .ok (.ifCond .ne 23, 3) := dk_154 0 23 (dk_at dksX10_number_1 0 rfl rfl)
theorem dX10_number_27 : decode cX10_number 27 = .ok (.aload_n 0, 1) := dk_42 (dk_at dksX10_number_1 3 rfl rfl)
theorem dX10_number_28 : decode cX10_number 28 = .ok (.getfield 74, 3) := dk_180 0 74 (dk_at dksX10_number_1 4 rfl rfl)
theorem dX10_number_31 : decode cX10_number 31 = .ok (.i2l, 1) := dk_133 (dk_at dksX10_number_1 7 rfl rfl)
theorem dX10_number_32 : decode cX10_number 32 = .ok (.iload_n 1, 1) := dk_27 (dk_at dksX10_number_1 8 rfl rfl)
theorem dX10_number_33 : decode cX10_number 33 = .ok (.i2l, 1) := dk_133 (dk_at dksX10_number_1 9 rfl rfl)
theorem dX10_number_34 : decode cX10_number 34 = .ok (.iload_n 2, 1) := dk_28 (dk_at dksX10_number_1 10 rfl rfl)
theorem dX10_number_35 : decode cX10_number 35 = .ok (.i2l, 1) := dk_133 (dk_at dksX10_number_1 11 rfl rfl)
theorem dX10_number_36 : decode cX10_number 36 = .ok (.invokestatic 50, 3) := dk_184 0 50 (dk_at dksX10_number_1 12 rfl rfl)
theorem dX10_number_39 : decode cX10_number 39 = .ok (.ifCond .ne 8, 3) := dk_154 0 8 (dk_at dksX10_number_1 15 rfl rfl)
theorem dX10_number_42 : decode cX10_number 42 = .ok (.aload_n 0, 1) := dk_42 (dk_at dksX10_number_1 18 rfl rfl)
theorem dX10_number_43 : decode cX10_number 43 = .ok (.iconst 3, 1) := dk_6 (dk_at dksX10_number_1 19 rfl rfl)
theorem dX10_number_44 : decode cX10_number 44 = .ok (.invokevirtual 90, 3) := dk_182 0 90 (dk_at dksX10_number_1 20 rfl rfl)
theorem dX10_number_47 : decode cX10_number 47 = .ok (.aload_n 0, 1) := dk_42 (dk_at dksX10_number_1 23 rfl rfl)
theorem dX10_number_48 : decode cX10_number 48 = .ok (.getfield 74, 3) := dk_180 0 74 (dk_at dksX10_number_2 0 rfl rfl)
theorem dX10_number_51 : decode cX10_number 51 = .ok (.istore_n 3, 1) := dk_62 (dk_at dksX10_number_2 3 rfl rfl)
theorem dX10_number_52 : decode cX10_number 52 = .ok (.aload_n 0, 1) := dk_42 (dk_at dksX10_number_2 4 rfl rfl)
theorem dX10_number_53 : decode cX10_number 53 = .ok (.getfield 77, 3) := dk_180 0 77 (dk_at dksX10_number_2 5 rfl rfl)
theorem dX10_number_56 : decode cX10_number 56 = .ok (.ifCond .eq 5, 3) := dk_153 0 5 (dk_at dksX10_number_2 8 rfl rfl)
theorem dX10_number_59 : decode cX10_number 59 = .ok (.iconst 0, 1) := dk_3 (dk_at dksX10_number_2 11 rfl rfl)
theorem dX10_number_60 : decode cX10_number 60 = .ok (.ireturn, 1) := dk_172 (dk_at dksX10_number_2 12 rfl rfl)
theorem dX10_number_61 : decode cX10_number 61 = .ok (.aload_n 0, 1) := dk_42 (dk_at dksX10_number_2 13 rfl rfl)
theorem dX10_number_62 : decode cX10_number 62 = .ok (.invokevirtual 93, 3) := dk_182 0 93 (dk_at dksX10_number_2 14 rfl rfl)
theorem dX10_number_65 : decode cX10_number 65 = .ok (.iload_n 3, 1) := dk_29 (dk_at dksX10_number_2 17 rfl rfl)
theorem dX10_number_66 : decode cX10_number 66 = .ok (.ireturn, 1) := dk_172 (dk_at dksX10_number_2 18 rfl rfl)
abbrev cX10_takes : ByteArray := prog_19_method_9_code
def yX10_takes : MethodName := ⟨RX10, "takes", "(Ljava/lang/String;)V"⟩
def dkwX10_takes_1 : List UInt8 := [177]
abbrev dktX10_takes_1 : List UInt8 := dkwX10_takes_1 ++ []
def dkwX10_takes_0 : List UInt8 := [42, 43, 182, 0, 96, 154, 0, 8, 42, 5, 182, 0, 90, 42, 180, 0, 77, 154, 0, 7, 42, 182, 0, 93]
abbrev dktX10_takes_0 : List UInt8 := dkwX10_takes_0 ++ dktX10_takes_1
theorem dksX10_takes_0 : cX10_takes.data.toList.drop 0 = dktX10_takes_0 := by decide +kernel
theorem dksX10_takes_1 : cX10_takes.data.toList.drop 24 = dktX10_takes_1 := dk_seg dksX10_takes_0 24 rfl rfl
theorem dX10_takes_0 : decode cX10_takes 0 = .ok (.aload_n 0, 1) := dk_42 (dk_at dksX10_takes_0 0 rfl rfl)
theorem dX10_takes_1 : decode cX10_takes 1 = .ok (.aload_n 1, 1) := dk_43 (dk_at dksX10_takes_0 1 rfl rfl)
theorem dX10_takes_2 : decode cX10_takes 2 = .ok (.invokevirtual 96, 3) := dk_182 0 96 (dk_at dksX10_takes_0 2 rfl rfl)
theorem dX10_takes_5 : decode cX10_takes 5 = .ok (.ifCond .ne 8, 3) := dk_154 0 8 (dk_at dksX10_takes_0 5 rfl rfl)
theorem dX10_takes_8 : decode cX10_takes 8 = .ok (.aload_n 0, 1) := dk_42 (dk_at dksX10_takes_0 8 rfl rfl)
theorem dX10_takes_9 : decode cX10_takes 9 = .ok (.iconst 2, 1) := dk_5 (dk_at dksX10_takes_0 9 rfl rfl)
theorem dX10_takes_10 : decode cX10_takes 10 = .ok (.invokevirtual 90, 3) := dk_182 0 90 (dk_at dksX10_takes_0 10 rfl rfl)
theorem dX10_takes_13 : decode cX10_takes 13 = .ok (.aload_n 0, 1) := dk_42 (dk_at dksX10_takes_0 13 rfl rfl)
theorem dX10_takes_14 : decode cX10_takes 14 = .ok (.getfield 77, 3) := dk_180 0 77 (dk_at dksX10_takes_0 14 rfl rfl)
theorem dX10_takes_17 : decode cX10_takes 17 = .ok (.ifCond .ne 7, 3) := dk_154 0 7 (dk_at dksX10_takes_0 17 rfl rfl)
theorem dX10_takes_20 : decode cX10_takes 20 = .ok (.aload_n 0, 1) := dk_42 (dk_at dksX10_takes_0 20 rfl rfl)
theorem dX10_takes_21 : decode cX10_takes 21 = .ok (.invokevirtual 93, 3) := dk_182 0 93 (dk_at dksX10_takes_0 21 rfl rfl)
theorem dX10_takes_24 : decode cX10_takes 24 = .ok (.return_, 1) := dk_177 (dk_at dksX10_takes_1 0 rfl rfl)
abbrev cX10_is : ByteArray := prog_19_method_7_code
def yX10_is : MethodName := ⟨RX10, "is", "(Ljava/lang/String;)Z"⟩
def dkwX10_is_2 : List UInt8 := [28, 96, 182, 0, 42, 43, 28, 182, 0, 86, 159, 0, 5, 3, 172, 132, 2, 1, 167, 255, 225, 4, 172]
abbrev dktX10_is_2 : List UInt8 := dkwX10_is_2 ++ []
def dkwX10_is_1 : List UInt8 := [43, 182, 0, 80, 159, 0, 5, 3, 172, 3, 61, 28, 43, 182, 0, 80, 162, 0, 29, 42, 42, 180, 0, 61]
abbrev dktX10_is_1 : List UInt8 := dkwX10_is_1 ++ dktX10_is_2
def dkwX10_is_0 : List UInt8 := [42, 180, 0, 77, 154, 0, 27, 42, 180, 0, 64, 4, 160, 0, 19, 42, 180, 0, 58, 42, 180, 0, 61, 100]
abbrev dktX10_is_0 : List UInt8 := dkwX10_is_0 ++ dktX10_is_1
theorem dksX10_is_0 : cX10_is.data.toList.drop 0 = dktX10_is_0 := by decide +kernel
theorem dksX10_is_1 : cX10_is.data.toList.drop 24 = dktX10_is_1 := dk_seg dksX10_is_0 24 rfl rfl
theorem dksX10_is_2 : cX10_is.data.toList.drop 48 = dktX10_is_2 := dk_seg dksX10_is_1 24 rfl rfl
theorem dX10_is_0 : decode cX10_is 0 = .ok (.aload_n 0, 1) := dk_42 (dk_at dksX10_is_0 0 rfl rfl)
theorem dX10_is_1 : decode cX10_is 1 = .ok (.getfield 77, 3) := dk_180 0 77 (dk_at dksX10_is_0 1 rfl rfl)
theorem dX10_is_4 : decode cX10_is 4 = .ok (.ifCond .ne 27, 3) := dk_154 0 27 (dk_at dksX10_is_0 4 rfl rfl)
theorem dX10_is_7 : decode cX10_is 7 = .ok (.aload_n 0, 1) := dk_42 (dk_at dksX10_is_0 7 rfl rfl)
theorem dX10_is_8 : decode cX10_is 8 = .ok (.getfield 64, 3) := dk_180 0 64 (dk_at dksX10_is_0 8 rfl rfl)
theorem dX10_is_11 : decode cX10_is 11 = .ok (.iconst 1, 1) := dk_4 (dk_at dksX10_is_0 11 rfl rfl)
theorem dX10_is_12 : decode cX10_is 12 = .ok (.if_icmp .ne 19, 3) := dk_160 0 19 (dk_at dksX10_is_0 12 rfl rfl)
theorem dX10_is_15 : decode cX10_is 15 = .ok (.aload_n 0, 1) := dk_42 (dk_at dksX10_is_0 15 rfl rfl)
theorem dX10_is_16 : decode cX10_is 16 = .ok (.getfield 58, 3) := dk_180 0 58 (dk_at dksX10_is_0 16 rfl rfl)
theorem dX10_is_19 : decode cX10_is 19 = .ok (.aload_n 0, 1) := dk_42 (dk_at dksX10_is_0 19 rfl rfl)
theorem dX10_is_20 : decode cX10_is 20 = .ok (.getfield 61, 3) := dk_180 0 61 (dk_at dksX10_is_0 20 rfl rfl)
theorem dX10_is_23 : decode cX10_is 23 = .ok (.isub, 1) := dk_100 (dk_at dksX10_is_0 23 rfl rfl)
theorem dX10_is_24 : decode cX10_is 24 = .ok (.aload_n 1, 1) := dk_43 (dk_at dksX10_is_1 0 rfl rfl)
theorem dX10_is_25 : decode cX10_is 25 = .ok (.invokevirtual 80, 3) := dk_182 0 80 (dk_at dksX10_is_1 1 rfl rfl)
theorem dX10_is_28 : decode cX10_is 28 = .ok (.if_icmp .eq 5, 3) := dk_159 0 5 (dk_at dksX10_is_1 4 rfl rfl)
theorem dX10_is_31 : decode cX10_is 31 = .ok (.iconst 0, 1) := dk_3 (dk_at dksX10_is_1 7 rfl rfl)
theorem dX10_is_32 : decode cX10_is 32 = .ok (.ireturn, 1) := dk_172 (dk_at dksX10_is_1 8 rfl rfl)
theorem dX10_is_33 : decode cX10_is 33 = .ok (.iconst 0, 1) := dk_3 (dk_at dksX10_is_1 9 rfl rfl)
theorem dX10_is_34 : decode cX10_is 34 = .ok (.istore_n 2, 1) := dk_61 (dk_at dksX10_is_1 10 rfl rfl)
theorem dX10_is_35 : decode cX10_is 35 = .ok (.iload_n 2, 1) := dk_28 (dk_at dksX10_is_1 11 rfl rfl)
theorem dX10_is_36 : decode cX10_is 36 = .ok (.aload_n 1, 1) := dk_43 (dk_at dksX10_is_1 12 rfl rfl)
theorem dX10_is_37 : decode cX10_is 37 = .ok (.invokevirtual 80, 3) := dk_182 0 80 (dk_at dksX10_is_1 13 rfl rfl)
theorem dX10_is_40 : decode cX10_is 40 = .ok (.if_icmp .ge 29, 3) := dk_162 0 29 (dk_at dksX10_is_1 16 rfl rfl)
theorem dX10_is_43 : decode cX10_is 43 = .ok (.aload_n 0, 1) := dk_42 (dk_at dksX10_is_1 19 rfl rfl)
theorem dX10_is_44 : decode cX10_is 44 = .ok (.aload_n 0, 1) := dk_42 (dk_at dksX10_is_1 20 rfl rfl)
theorem dX10_is_45 : decode cX10_is 45 = .ok (.getfield 61, 3) := dk_180 0 61 (dk_at dksX10_is_1 21 rfl rfl)
theorem dX10_is_48 : decode cX10_is 48 = .ok (.iload_n 2, 1) := dk_28 (dk_at dksX10_is_2 0 rfl rfl)
theorem dX10_is_49 : decode cX10_is 49 = .ok (.iadd, 1) := dk_96 (dk_at dksX10_is_2 1 rfl rfl)
theorem dX10_is_50 : decode cX10_is 50 = .ok (.invokevirtual 42, 3) := dk_182 0 42 (dk_at dksX10_is_2 2 rfl rfl)
theorem dX10_is_53 : decode cX10_is 53 = .ok (.aload_n 1, 1) := dk_43 (dk_at dksX10_is_2 5 rfl rfl)
theorem dX10_is_54 : decode cX10_is 54 = .ok (.iload_n 2, 1) := dk_28 (dk_at dksX10_is_2 6 rfl rfl)
theorem dX10_is_55 : decode cX10_is 55 = .ok (.invokevirtual 86, 3) := dk_182 0 86 (dk_at dksX10_is_2 7 rfl rfl)
theorem dX10_is_58 : decode cX10_is 58 = .ok (.if_icmp .eq 5, 3) := dk_159 0 5 (dk_at dksX10_is_2 10 rfl rfl)
theorem dX10_is_61 : decode cX10_is 61 = .ok (.iconst 0, 1) := dk_3 (dk_at dksX10_is_2 13 rfl rfl)
theorem dX10_is_62 : decode cX10_is 62 = .ok (.ireturn, 1) := dk_172 (dk_at dksX10_is_2 14 rfl rfl)
theorem dX10_is_63 : decode cX10_is 63 = .ok (.iinc 2 1, 3) := dk_132 2 1 (dk_at dksX10_is_2 15 rfl rfl)
theorem dX10_is_66 : decode cX10_is 66 = .ok (.goto (-31), 3) := dk_167 255 225 (dk_at dksX10_is_2 18 rfl rfl)
theorem dX10_is_69 : decode cX10_is 69 = .ok (.iconst 1, 1) := dk_4 (dk_at dksX10_is_2 21 rfl rfl)
theorem dX10_is_70 : decode cX10_is 70 = .ok (.ireturn, 1) := dk_172 (dk_at dksX10_is_2 22 rfl rfl)
abbrev cX10_test : ByteArray := prog_19_method_13_code
def yX10_test : MethodName := ⟨RX10, "test", "()LNobodysBard$Test;"⟩
def dkwX10_test_1 : List UInt8 := [42, 182, 0, 152, 183, 0, 159, 76, 167, 255, 229, 43, 176]
abbrev dktX10_test_1 : List UInt8 := dkwX10_test_1 ++ []
def dkwX10_test_0 : List UInt8 := [42, 182, 0, 152, 76, 42, 18, 155, 182, 0, 96, 153, 0, 24, 42, 182, 0, 93, 187, 0, 157, 89, 3, 43]
abbrev dktX10_test_0 : List UInt8 := dkwX10_test_0 ++ dktX10_test_1
theorem dksX10_test_0 : cX10_test.data.toList.drop 0 = dktX10_test_0 := by decide +kernel
theorem dksX10_test_1 : cX10_test.data.toList.drop 24 = dktX10_test_1 := dk_seg dksX10_test_0 24 rfl rfl
theorem dX10_test_0 : decode cX10_test 0 = .ok (.aload_n 0, 1) := dk_42 (dk_at dksX10_test_0 0 rfl rfl)
theorem dX10_test_1 : decode cX10_test 1 = .ok (.invokevirtual 152, 3) := dk_182 0 152 (dk_at dksX10_test_0 1 rfl rfl)
theorem dX10_test_4 : decode cX10_test 4 = .ok (.astore_n 1, 1) := dk_76 (dk_at dksX10_test_0 4 rfl rfl)
theorem dX10_test_5 : decode cX10_test 5 = .ok (.aload_n 0, 1) := dk_42 (dk_at dksX10_test_0 5 rfl rfl)
theorem dX10_test_6 : decode cX10_test 6 = .ok (.ldc 155, 2) := dk_18 155 (dk_at dksX10_test_0 6 rfl rfl)
theorem dX10_test_8 : decode cX10_test 8 = .ok (.invokevirtual 96, 3) := dk_182 0 96 (dk_at dksX10_test_0 8 rfl rfl)
theorem dX10_test_11 : decode cX10_test 11 = .ok (.ifCond .eq 24, 3) := dk_153 0 24 (dk_at dksX10_test_0 11 rfl rfl)
theorem dX10_test_14 : decode cX10_test 14 = .ok (.aload_n 0, 1) := dk_42 (dk_at dksX10_test_0 14 rfl rfl)
theorem dX10_test_15 : decode cX10_test 15 = .ok (.invokevirtual 93, 3) := dk_182 0 93 (dk_at dksX10_test_0 15 rfl rfl)
theorem dX10_test_18 : decode cX10_test 18 = .ok (.new 157, 3) := dk_187 0 157 (dk_at dksX10_test_0 18 rfl rfl)
theorem dX10_test_21 : decode cX10_test 21 = .ok (.dup, 1) := dk_89 (dk_at dksX10_test_0 21 rfl rfl)
theorem dX10_test_22 : decode cX10_test 22 = .ok (.iconst 0, 1) := dk_3 (dk_at dksX10_test_0 22 rfl rfl)
theorem dX10_test_23 : decode cX10_test 23 = .ok (.aload_n 1, 1) := dk_43 (dk_at dksX10_test_0 23 rfl rfl)
theorem dX10_test_24 : decode cX10_test 24 = .ok (.aload_n 0, 1) := dk_42 (dk_at dksX10_test_1 0 rfl rfl)
theorem dX10_test_25 : decode cX10_test 25 = .ok (.invokevirtual 152, 3) := dk_182 0 152 (dk_at dksX10_test_1 1 rfl rfl)
theorem dX10_test_28 : decode cX10_test 28 = .ok (.invokespecial 159, 3) := dk_183 0 159 (dk_at dksX10_test_1 4 rfl rfl)
theorem dX10_test_31 : decode cX10_test 31 = .ok (.astore_n 1, 1) := dk_76 (dk_at dksX10_test_1 7 rfl rfl)
theorem dX10_test_32 : decode cX10_test 32 = .ok (.goto (-27), 3) := dk_167 255 229 (dk_at dksX10_test_1 8 rfl rfl)
theorem dX10_test_35 : decode cX10_test 35 = .ok (.aload_n 1, 1) := dk_43 (dk_at dksX10_test_1 11 rfl rfl)
theorem dX10_test_36 : decode cX10_test 36 = .ok (.areturn, 1) := dk_176 (dk_at dksX10_test_1 12 rfl rfl)
abbrev cX10_part : ByteArray := prog_19_method_14_code
def yX10_part : MethodName := ⟨RX10, "part", "()LNobodysBard$Test;"⟩
def dkwX10_part_1 : List UInt8 := [42, 182, 0, 162, 183, 0, 159, 76, 167, 255, 229, 43, 176]
abbrev dktX10_part_1 : List UInt8 := dkwX10_part_1 ++ []
def dkwX10_part_0 : List UInt8 := [42, 182, 0, 162, 76, 42, 18, 165, 182, 0, 96, 153, 0, 24, 42, 182, 0, 93, 187, 0, 157, 89, 4, 43]
abbrev dktX10_part_0 : List UInt8 := dkwX10_part_0 ++ dktX10_part_1
theorem dksX10_part_0 : cX10_part.data.toList.drop 0 = dktX10_part_0 := by decide +kernel
theorem dksX10_part_1 : cX10_part.data.toList.drop 24 = dktX10_part_1 := dk_seg dksX10_part_0 24 rfl rfl
theorem dX10_part_0 : decode cX10_part 0 = .ok (.aload_n 0, 1) := dk_42 (dk_at dksX10_part_0 0 rfl rfl)
theorem dX10_part_1 : decode cX10_part 1 = .ok (.invokevirtual 162, 3) := dk_182 0 162 (dk_at dksX10_part_0 1 rfl rfl)
theorem dX10_part_4 : decode cX10_part 4 = .ok (.astore_n 1, 1) := dk_76 (dk_at dksX10_part_0 4 rfl rfl)
theorem dX10_part_5 : decode cX10_part 5 = .ok (.aload_n 0, 1) := dk_42 (dk_at dksX10_part_0 5 rfl rfl)
theorem dX10_part_6 : decode cX10_part 6 = .ok (.ldc 165, 2) := dk_18 165 (dk_at dksX10_part_0 6 rfl rfl)
theorem dX10_part_8 : decode cX10_part 8 = .ok (.invokevirtual 96, 3) := dk_182 0 96 (dk_at dksX10_part_0 8 rfl rfl)
theorem dX10_part_11 : decode cX10_part 11 = .ok (.ifCond .eq 24, 3) := dk_153 0 24 (dk_at dksX10_part_0 11 rfl rfl)
theorem dX10_part_14 : decode cX10_part 14 = .ok (.aload_n 0, 1) := dk_42 (dk_at dksX10_part_0 14 rfl rfl)
theorem dX10_part_15 : decode cX10_part 15 = .ok (.invokevirtual 93, 3) := dk_182 0 93 (dk_at dksX10_part_0 15 rfl rfl)
theorem dX10_part_18 : decode cX10_part 18 = .ok (.new 157, 3) := dk_187 0 157 (dk_at dksX10_part_0 18 rfl rfl)
theorem dX10_part_21 : decode cX10_part 21 = .ok (.dup, 1) := dk_89 (dk_at dksX10_part_0 21 rfl rfl)
theorem dX10_part_22 : decode cX10_part 22 = .ok (.iconst 1, 1) := dk_4 (dk_at dksX10_part_0 22 rfl rfl)
theorem dX10_part_23 : decode cX10_part 23 = .ok (.aload_n 1, 1) := dk_43 (dk_at dksX10_part_0 23 rfl rfl)
theorem dX10_part_24 : decode cX10_part 24 = .ok (.aload_n 0, 1) := dk_42 (dk_at dksX10_part_1 0 rfl rfl)
theorem dX10_part_25 : decode cX10_part 25 = .ok (.invokevirtual 162, 3) := dk_182 0 162 (dk_at dksX10_part_1 1 rfl rfl)
theorem dX10_part_28 : decode cX10_part 28 = .ok (.invokespecial 159, 3) := dk_183 0 159 (dk_at dksX10_part_1 4 rfl rfl)
theorem dX10_part_31 : decode cX10_part 31 = .ok (.astore_n 1, 1) := dk_76 (dk_at dksX10_part_1 7 rfl rfl)
theorem dX10_part_32 : decode cX10_part 32 = .ok (.goto (-27), 3) := dk_167 255 229 (dk_at dksX10_part_1 8 rfl rfl)
theorem dX10_part_35 : decode cX10_part 35 = .ok (.aload_n 1, 1) := dk_43 (dk_at dksX10_part_1 11 rfl rfl)
theorem dX10_part_36 : decode cX10_part 36 = .ok (.areturn, 1) := dk_176 (dk_at dksX10_part_1 12 rfl rfl)
abbrev cX10_fact : ByteArray := prog_19_method_16_code
def yX10_fact : MethodName := ⟨RX10, "fact", "()LNobodysBard$Test;"⟩
def dkwX10_fact_8 : List UInt8 := [18, 190, 182, 0, 117, 187, 0, 192, 89, 42, 3, 16, 9, 182, 0, 145, 183, 0, 194, 176]
abbrev dktX10_fact_8 : List UInt8 := dkwX10_fact_8 ++ []
def dkwX10_fact_7 : List UInt8 := [153, 0, 22, 42, 182, 0, 93, 187, 0, 187, 89, 42, 4, 16, 8, 182, 0, 145, 183, 0, 189, 176, 42]
abbrev dktX10_fact_7 : List UInt8 := dkwX10_fact_7 ++ dktX10_fact_8
def dkwX10_fact_6 : List UInt8 := [187, 0, 182, 89, 42, 4, 17, 0, 255, 182, 0, 145, 183, 0, 184, 176, 42, 18, 185, 182, 0, 96]
abbrev dktX10_fact_6 : List UInt8 := dkwX10_fact_6 ++ dktX10_fact_7
def dkwX10_fact_5 : List UInt8 := [180, 0, 167, 4, 100, 181, 0, 167, 43, 176, 42, 18, 180, 182, 0, 96, 153, 0, 23, 42, 182, 0, 93]
abbrev dktX10_fact_5 : List UInt8 := dkwX10_fact_5 ++ dktX10_fact_6
def dkwX10_fact_4 : List UInt8 := [16, 41, 159, 0, 8, 42, 5, 182, 0, 90, 42, 180, 0, 77, 154, 0, 7, 42, 182, 0, 93, 42, 89]
abbrev dktX10_fact_4 : List UInt8 := dkwX10_fact_4 ++ dktX10_fact_5
def dkwX10_fact_3 : List UInt8 := [154, 0, 10, 42, 182, 0, 126, 167, 0, 4, 1, 76, 42, 180, 0, 77, 154, 0, 17, 42, 180, 0, 64]
abbrev dktX10_fact_3 : List UInt8 := dkwX10_fact_3 ++ dktX10_fact_4
def dkwX10_fact_2 : List UInt8 := [42, 180, 0, 77, 154, 0, 76, 42, 180, 0, 64, 16, 40, 160, 0, 67, 42, 182, 0, 172, 42, 180, 0, 77]
abbrev dktX10_fact_2 : List UInt8 := dkwX10_fact_2 ++ dktX10_fact_3
def dkwX10_fact_1 : List UInt8 := [42, 182, 0, 162, 183, 0, 177, 167, 0, 4, 1, 76, 42, 89, 180, 0, 167, 4, 100, 181, 0, 167, 43, 176]
abbrev dktX10_fact_1 : List UInt8 := dkwX10_fact_1 ++ dktX10_fact_2
def dkwX10_fact_0 : List UInt8 := [42, 18, 170, 182, 0, 96, 153, 0, 42, 42, 182, 0, 172, 42, 180, 0, 77, 154, 0, 17, 187, 0, 175, 89]
abbrev dktX10_fact_0 : List UInt8 := dkwX10_fact_0 ++ dktX10_fact_1
theorem dksX10_fact_0 : cX10_fact.data.toList.drop 0 = dktX10_fact_0 := by decide +kernel
theorem dksX10_fact_1 : cX10_fact.data.toList.drop 24 = dktX10_fact_1 := dk_seg dksX10_fact_0 24 rfl rfl
theorem dksX10_fact_2 : cX10_fact.data.toList.drop 48 = dktX10_fact_2 := dk_seg dksX10_fact_1 24 rfl rfl
theorem dksX10_fact_3 : cX10_fact.data.toList.drop 72 = dktX10_fact_3 := dk_seg dksX10_fact_2 24 rfl rfl
theorem dksX10_fact_4 : cX10_fact.data.toList.drop 95 = dktX10_fact_4 := dk_seg dksX10_fact_3 23 rfl rfl
theorem dksX10_fact_5 : cX10_fact.data.toList.drop 118 = dktX10_fact_5 := dk_seg dksX10_fact_4 23 rfl rfl
theorem dksX10_fact_6 : cX10_fact.data.toList.drop 141 = dktX10_fact_6 := dk_seg dksX10_fact_5 23 rfl rfl
theorem dksX10_fact_7 : cX10_fact.data.toList.drop 163 = dktX10_fact_7 := dk_seg dksX10_fact_6 22 rfl rfl
theorem dksX10_fact_8 : cX10_fact.data.toList.drop 186 = dktX10_fact_8 := dk_seg dksX10_fact_7 23 rfl rfl
theorem dX10_fact_0 : decode cX10_fact 0 = .ok (.aload_n 0, 1) := dk_42 (dk_at dksX10_fact_0 0 rfl rfl)
theorem dX10_fact_1 : decode cX10_fact 1 = .ok (.ldc 170, 2) := dk_18 170 (dk_at dksX10_fact_0 1 rfl rfl)
theorem dX10_fact_3 : decode cX10_fact 3 = .ok (.invokevirtual 96, 3) := dk_182 0 96 (dk_at dksX10_fact_0 3 rfl rfl)
theorem dX10_fact_6 : decode cX10_fact 6 = .ok (.ifCond .eq 42, 3) := dk_153 0 42 (dk_at dksX10_fact_0 6 rfl rfl)
theorem dX10_fact_9 : decode cX10_fact 9 = .ok (.aload_n 0, 1) := dk_42 (dk_at dksX10_fact_0 9 rfl rfl)
theorem dX10_fact_10 : decode cX10_fact 10 = .ok (.invokevirtual 172, 3) := dk_182 0 172 (dk_at dksX10_fact_0 10 rfl rfl)
theorem dX10_fact_13 : decode cX10_fact 13 = .ok (.aload_n 0, 1) := dk_42 (dk_at dksX10_fact_0 13 rfl rfl)
theorem dX10_fact_14 : decode cX10_fact 14 = .ok (.getfield 77, 3) := dk_180 0 77 (dk_at dksX10_fact_0 14 rfl rfl)
theorem dX10_fact_17 : decode cX10_fact 17 = .ok (.ifCond .ne 17, 3) := dk_154 0 17 (dk_at dksX10_fact_0 17 rfl rfl)
theorem dX10_fact_20 : decode cX10_fact 20 = .ok (.new 175, 3) := dk_187 0 175 (dk_at dksX10_fact_0 20 rfl rfl)
theorem dX10_fact_23 : decode cX10_fact 23 = .ok (.dup, 1) := dk_89 (dk_at dksX10_fact_0 23 rfl rfl)
theorem dX10_fact_24 : decode cX10_fact 24 = .ok (.aload_n 0, 1) := dk_42 (dk_at dksX10_fact_1 0 rfl rfl)
theorem dX10_fact_25 : decode cX10_fact 25 = .ok (.invokevirtual 162, 3) := dk_182 0 162 (dk_at dksX10_fact_1 1 rfl rfl)
theorem dX10_fact_28 : decode cX10_fact 28 = .ok (.invokespecial 177, 3) := dk_183 0 177 (dk_at dksX10_fact_1 4 rfl rfl)
theorem dX10_fact_31 : decode cX10_fact 31 = .ok (.goto 4, 3) := dk_167 0 4 (dk_at dksX10_fact_1 7 rfl rfl)
theorem dX10_fact_34 : decode cX10_fact 34 = .ok (.aconst_null, 1) := dk_1 (dk_at dksX10_fact_1 10 rfl rfl)
theorem dX10_fact_35 : decode cX10_fact 35 = .ok (.astore_n 1, 1) := dk_76 (dk_at dksX10_fact_1 11 rfl rfl)
theorem dX10_fact_36 : decode cX10_fact 36 = .ok (.aload_n 0, 1) := dk_42 (dk_at dksX10_fact_1 12 rfl rfl)
theorem dX10_fact_37 : decode cX10_fact 37 = .ok (.dup, 1) := dk_89 (dk_at dksX10_fact_1 13 rfl rfl)
theorem dX10_fact_38 : decode cX10_fact 38 = .ok (.getfield 167, 3) := dk_180 0 167 (dk_at dksX10_fact_1 14 rfl rfl)
theorem dX10_fact_41 : decode cX10_fact 41 = .ok (.iconst 1, 1) := dk_4 (dk_at dksX10_fact_1 17 rfl rfl)
theorem dX10_fact_42 : decode cX10_fact 42 = .ok (.isub, 1) := dk_100 (dk_at dksX10_fact_1 18 rfl rfl)
theorem dX10_fact_43 : decode cX10_fact 43 = .ok (.putfield 167, 3) := dk_181 0 167 (dk_at dksX10_fact_1 19 rfl rfl)
theorem dX10_fact_46 : decode cX10_fact 46 = .ok (.aload_n 1, 1) := dk_43 (dk_at dksX10_fact_1 22 rfl rfl)
theorem dX10_fact_47 : decode cX10_fact 47 = .ok (.areturn, 1) := dk_176 (dk_at dksX10_fact_1 23 rfl rfl)
theorem dX10_fact_48 : decode cX10_fact 48 = .ok (.aload_n 0, 1) := dk_42 (dk_at dksX10_fact_2 0 rfl rfl)
theorem dX10_fact_49 : decode cX10_fact 49 = .ok (.getfield 77, 3) := dk_180 0 77 (dk_at dksX10_fact_2 1 rfl rfl)
theorem dX10_fact_52 : decode cX10_fact 52 = .ok (.ifCond .ne 76, 3) := dk_154 0 76 (dk_at dksX10_fact_2 4 rfl rfl)
theorem dX10_fact_55 : decode cX10_fact 55 = .ok (.aload_n 0, 1) := dk_42 (dk_at dksX10_fact_2 7 rfl rfl)
theorem dX10_fact_56 : decode cX10_fact 56 = .ok (.getfield 64, 3) := dk_180 0 64 (dk_at dksX10_fact_2 8 rfl rfl)
theorem dX10_fact_59 : decode cX10_fact 59 = .ok (.bipush 40, 2) := dk_16 40 (dk_at dksX10_fact_2 11 rfl rfl)
theorem dX10_fact_61 : decode cX10_fact 61 = .ok (.if_icmp .ne 67, 3) := dk_160 0 67 (dk_at dksX10_fact_2 13 rfl rfl)
theorem dX10_fact_64 : decode cX10_fact 64 = .ok (.aload_n 0, 1) := dk_42 (dk_at dksX10_fact_2 16 rfl rfl)
theorem dX10_fact_65 : decode cX10_fact 65 = .ok (.invokevirtual 172, 3) := dk_182 0 172 (dk_at dksX10_fact_2 17 rfl rfl)
theorem dX10_fact_68 : decode cX10_fact 68 = .ok (.aload_n 0, 1) := dk_42 (dk_at dksX10_fact_2 20 rfl rfl)
theorem dX10_fact_69 : decode cX10_fact 69 = .ok (.getfield 77, 3) := dk_180 0 77 (dk_at dksX10_fact_2 21 rfl rfl)
theorem dX10_fact_72 : decode cX10_fact 72 = .ok (.ifCond .ne 10, 3) := dk_154 0 10 (dk_at dksX10_fact_3 0 rfl rfl)
theorem dX10_fact_75 : decode cX10_fact 75 = .ok (.aload_n 0, 1) := dk_42 (dk_at dksX10_fact_3 3 rfl rfl)
theorem dX10_fact_76 : decode cX10_fact 76 = .ok (.invokevirtual 126, 3) := dk_182 0 126 (dk_at dksX10_fact_3 4 rfl rfl)
theorem dX10_fact_79 : decode cX10_fact 79 = .ok (.goto 4, 3) := dk_167 0 4 (dk_at dksX10_fact_3 7 rfl rfl)
theorem dX10_fact_82 : decode cX10_fact 82 = .ok (.aconst_null, 1) := dk_1 (dk_at dksX10_fact_3 10 rfl rfl)
theorem dX10_fact_83 : decode cX10_fact 83 = .ok (.astore_n 1, 1) := dk_76 (dk_at dksX10_fact_3 11 rfl rfl)
theorem dX10_fact_84 : decode cX10_fact 84 = .ok (.aload_n 0, 1) := dk_42 (dk_at dksX10_fact_3 12 rfl rfl)
theorem dX10_fact_85 : decode cX10_fact 85 = .ok (.getfield 77, 3) := dk_180 0 77 (dk_at dksX10_fact_3 13 rfl rfl)
theorem dX10_fact_88 : decode cX10_fact 88 = .ok (.ifCond .ne 17, 3) := dk_154 0 17 (dk_at dksX10_fact_3 16 rfl rfl)
theorem dX10_fact_91 : decode cX10_fact 91 = .ok (.aload_n 0, 1) := dk_42 (dk_at dksX10_fact_3 19 rfl rfl)
theorem dX10_fact_92 : decode cX10_fact 92 = .ok (.getfield 64, 3) := dk_180 0 64 (dk_at dksX10_fact_3 20 rfl rfl)
theorem dX10_fact_95 : decode cX10_fact 95 = .ok (.bipush 41, 2) := dk_16 41 (dk_at dksX10_fact_4 0 rfl rfl)
theorem dX10_fact_97 : decode cX10_fact 97 = .ok (.if_icmp .eq 8, 3) := dk_159 0 8 (dk_at dksX10_fact_4 2 rfl rfl)
theorem dX10_fact_100 : decode cX10_fact 100 = .ok (.aload_n 0, 1) := dk_42 (dk_at dksX10_fact_4 5 rfl rfl)
theorem dX10_fact_101 : decode cX10_fact 101 = .ok (.iconst 2, 1) := dk_5 (dk_at dksX10_fact_4 6 rfl rfl)
theorem dX10_fact_102 : decode cX10_fact 102 = .ok (.invokevirtual 90, 3) := dk_182 0 90 (dk_at dksX10_fact_4 7 rfl rfl)
theorem dX10_fact_105 : decode cX10_fact 105 = .ok (.aload_n 0, 1) := dk_42 (dk_at dksX10_fact_4 10 rfl rfl)
theorem dX10_fact_106 : decode cX10_fact 106 = .ok (.getfield 77, 3) := dk_180 0 77 (dk_at dksX10_fact_4 11 rfl rfl)
theorem dX10_fact_109 : decode cX10_fact 109 = .ok (.ifCond .ne 7, 3) := dk_154 0 7 (dk_at dksX10_fact_4 14 rfl rfl)
theorem dX10_fact_112 : decode cX10_fact 112 = .ok (.aload_n 0, 1) := dk_42 (dk_at dksX10_fact_4 17 rfl rfl)
theorem dX10_fact_113 : decode cX10_fact 113 = .ok (.invokevirtual 93, 3) := dk_182 0 93 (dk_at dksX10_fact_4 18 rfl rfl)
theorem dX10_fact_116 : decode cX10_fact 116 = .ok (.aload_n 0, 1) := dk_42 (dk_at dksX10_fact_4 21 rfl rfl)
theorem dX10_fact_117 : decode cX10_fact 117 = .ok (.dup, 1) := dk_89 (dk_at dksX10_fact_4 22 rfl rfl)
theorem dX10_fact_118 : decode cX10_fact 118 = .ok (.getfield 167, 3) := dk_180 0 167 (dk_at dksX10_fact_5 0 rfl rfl)
theorem dX10_fact_121 : decode cX10_fact 121 = .ok (.iconst 1, 1) := dk_4 (dk_at dksX10_fact_5 3 rfl rfl)
theorem dX10_fact_122 : decode cX10_fact 122 = .ok (.isub, 1) := dk_100 (dk_at dksX10_fact_5 4 rfl rfl)
theorem dX10_fact_123 : decode cX10_fact 123 = .ok (.putfield 167, 3) := dk_181 0 167 (dk_at dksX10_fact_5 5 rfl rfl)
theorem dX10_fact_126 : decode cX10_fact 126 = .ok (.aload_n 1, 1) := dk_43 (dk_at dksX10_fact_5 8 rfl rfl)
theorem dX10_fact_127 : decode cX10_fact 127 = .ok (.areturn, 1) := dk_176 (dk_at dksX10_fact_5 9 rfl rfl)
theorem dX10_fact_128 : decode cX10_fact 128 = .ok (.aload_n 0, 1) := dk_42 (dk_at dksX10_fact_5 10 rfl rfl)
theorem dX10_fact_129 : decode cX10_fact 129 = .ok (.ldc 180, 2) := dk_18 180 (dk_at dksX10_fact_5 11 rfl rfl)
theorem dX10_fact_131 : decode cX10_fact 131 = .ok (.invokevirtual 96, 3) := dk_182 0 96 (dk_at dksX10_fact_5 13 rfl rfl)
theorem dX10_fact_134 : decode cX10_fact 134 = .ok (.ifCond .eq 23, 3) := dk_153 0 23 (dk_at dksX10_fact_5 16 rfl rfl)
theorem dX10_fact_137 : decode cX10_fact 137 = .ok (.aload_n 0, 1) := dk_42 (dk_at dksX10_fact_5 19 rfl rfl)
theorem dX10_fact_138 : decode cX10_fact 138 = .ok (.invokevirtual 93, 3) := dk_182 0 93 (dk_at dksX10_fact_5 20 rfl rfl)
theorem dX10_fact_141 : decode cX10_fact 141 = .ok (.new 182, 3) := dk_187 0 182 (dk_at dksX10_fact_6 0 rfl rfl)
theorem dX10_fact_144 : decode cX10_fact 144 = .ok (.dup, 1) := dk_89 (dk_at dksX10_fact_6 3 rfl rfl)
theorem dX10_fact_145 : decode cX10_fact 145 = .ok (.aload_n 0, 1) := dk_42 (dk_at dksX10_fact_6 4 rfl rfl)
theorem dX10_fact_146 : decode cX10_fact 146 = .ok (.iconst 1, 1) := dk_4 (dk_at dksX10_fact_6 5 rfl rfl)
theorem dX10_fact_147 : decode cX10_fact 147 = .ok (.sipush 255, 3) := dk_17 0 255 (dk_at dksX10_fact_6 6 rfl rfl)
theorem dX10_fact_150 : decode cX10_fact 150 = .ok (.invokevirtual 145, 3) := dk_182 0 145 (dk_at dksX10_fact_6 9 rfl rfl)
theorem dX10_fact_153 : decode cX10_fact 153 = .ok (.invokespecial 184, 3) := dk_183 0 184 (dk_at dksX10_fact_6 12 rfl rfl)
theorem dX10_fact_156 : decode cX10_fact 156 = .ok (.areturn, 1) := dk_176 (dk_at dksX10_fact_6 15 rfl rfl)
theorem dX10_fact_157 : decode cX10_fact 157 = .ok (.aload_n 0, 1) := dk_42 (dk_at dksX10_fact_6 16 rfl rfl)
theorem dX10_fact_158 : decode cX10_fact 158 = .ok (.ldc 185, 2) := dk_18 185 (dk_at dksX10_fact_6 17 rfl rfl)
theorem dX10_fact_160 : decode cX10_fact 160 = .ok (.invokevirtual 96, 3) := dk_182 0 96 (dk_at dksX10_fact_6 19 rfl rfl)
theorem dX10_fact_163 : decode cX10_fact 163 = .ok (.ifCond .eq 22, 3) := dk_153 0 22 (dk_at dksX10_fact_7 0 rfl rfl)
theorem dX10_fact_166 : decode cX10_fact 166 = .ok (.aload_n 0, 1) := dk_42 (dk_at dksX10_fact_7 3 rfl rfl)
theorem dX10_fact_167 : decode cX10_fact 167 = .ok (.invokevirtual 93, 3) := dk_182 0 93 (dk_at dksX10_fact_7 4 rfl rfl)
theorem dX10_fact_170 : decode cX10_fact 170 = .ok (.new 187, 3) := dk_187 0 187 (dk_at dksX10_fact_7 7 rfl rfl)
theorem dX10_fact_173 : decode cX10_fact 173 = .ok (.dup, 1) := dk_89 (dk_at dksX10_fact_7 10 rfl rfl)
theorem dX10_fact_174 : decode cX10_fact 174 = .ok (.aload_n 0, 1) := dk_42 (dk_at dksX10_fact_7 11 rfl rfl)
theorem dX10_fact_175 : decode cX10_fact 175 = .ok (.iconst 1, 1) := dk_4 (dk_at dksX10_fact_7 12 rfl rfl)
theorem dX10_fact_176 : decode cX10_fact 176 = .ok (.bipush 8, 2) := dk_16 8 (dk_at dksX10_fact_7 13 rfl rfl)
theorem dX10_fact_178 : decode cX10_fact 178 = .ok (.invokevirtual 145, 3) := dk_182 0 145 (dk_at dksX10_fact_7 15 rfl rfl)
theorem dX10_fact_181 : decode cX10_fact 181 = .ok (.invokespecial 189, 3) := dk_183 0 189 (dk_at dksX10_fact_7 18 rfl rfl)
theorem dX10_fact_184 : decode cX10_fact 184 = .ok (.areturn, 1) := dk_176 (dk_at dksX10_fact_7 21 rfl rfl)
theorem dX10_fact_185 : decode cX10_fact 185 = .ok (.aload_n 0, 1) := dk_42 (dk_at dksX10_fact_7 22 rfl rfl)
theorem dX10_fact_186 : decode cX10_fact 186 = .ok (.ldc 190, 2) := dk_18 190 (dk_at dksX10_fact_8 0 rfl rfl)
theorem dX10_fact_188 : decode cX10_fact 188 = .ok (.invokevirtual 117, 3) := dk_182 0 117 (dk_at dksX10_fact_8 2 rfl rfl)
theorem dX10_fact_191 : decode cX10_fact 191 = .ok (.new 192, 3) := dk_187 0 192 (dk_at dksX10_fact_8 5 rfl rfl)
theorem dX10_fact_194 : decode cX10_fact 194 = .ok (.dup, 1) := dk_89 (dk_at dksX10_fact_8 8 rfl rfl)
theorem dX10_fact_195 : decode cX10_fact 195 = .ok (.aload_n 0, 1) := dk_42 (dk_at dksX10_fact_8 9 rfl rfl)
theorem dX10_fact_196 : decode cX10_fact 196 = .ok (.iconst 0, 1) := dk_3 (dk_at dksX10_fact_8 10 rfl rfl)
theorem dX10_fact_197 : decode cX10_fact 197 = .ok (.bipush 9, 2) := dk_16 9 (dk_at dksX10_fact_8 11 rfl rfl)
theorem dX10_fact_199 : decode cX10_fact 199 = .ok (.invokevirtual 145, 3) := dk_182 0 145 (dk_at dksX10_fact_8 13 rfl rfl)
theorem dX10_fact_202 : decode cX10_fact 202 = .ok (.invokespecial 194, 3) := dk_183 0 194 (dk_at dksX10_fact_8 16 rfl rfl)
theorem dX10_fact_205 : decode cX10_fact 205 = .ok (.areturn, 1) := dk_176 (dk_at dksX10_fact_8 19 rfl rfl)
abbrev cX10_opens : ByteArray := prog_19_method_15_code
def yX10_opens : MethodName := ⟨RX10, "opens", "()V"⟩
def dkwX10_opens_1 : List UInt8 := [42, 180, 0, 77, 154, 0, 7, 42, 182, 0, 93, 177]
abbrev dktX10_opens_1 : List UInt8 := dkwX10_opens_1 ++ []
def dkwX10_opens_0 : List UInt8 := [42, 180, 0, 167, 16, 8, 160, 0, 8, 42, 8, 182, 0, 90, 42, 89, 180, 0, 167, 4, 96, 181, 0, 167]
abbrev dktX10_opens_0 : List UInt8 := dkwX10_opens_0 ++ dktX10_opens_1
theorem dksX10_opens_0 : cX10_opens.data.toList.drop 0 = dktX10_opens_0 := by decide +kernel
theorem dksX10_opens_1 : cX10_opens.data.toList.drop 24 = dktX10_opens_1 := dk_seg dksX10_opens_0 24 rfl rfl
theorem dX10_opens_0 : decode cX10_opens 0 = .ok (.aload_n 0, 1) := dk_42 (dk_at dksX10_opens_0 0 rfl rfl)
theorem dX10_opens_1 : decode cX10_opens 1 = .ok (.getfield 167, 3) := dk_180 0 167 (dk_at dksX10_opens_0 1 rfl rfl)
theorem dX10_opens_4 : decode cX10_opens 4 = .ok (.bipush 8, 2) := dk_16 8 (dk_at dksX10_opens_0 4 rfl rfl)
theorem dX10_opens_6 : decode cX10_opens 6 = .ok (.if_icmp .ne 8, 3) := dk_160 0 8 (dk_at dksX10_opens_0 6 rfl rfl)
theorem dX10_opens_9 : decode cX10_opens 9 = .ok (.aload_n 0, 1) := dk_42 (dk_at dksX10_opens_0 9 rfl rfl)
theorem dX10_opens_10 : decode cX10_opens 10 = .ok (.iconst 5, 1) := dk_8 (dk_at dksX10_opens_0 10 rfl rfl)
theorem dX10_opens_11 : decode cX10_opens 11 = .ok (.invokevirtual 90, 3) := dk_182 0 90 (dk_at dksX10_opens_0 11 rfl rfl)
theorem dX10_opens_14 : decode cX10_opens 14 = .ok (.aload_n 0, 1) := dk_42 (dk_at dksX10_opens_0 14 rfl rfl)
theorem dX10_opens_15 : decode cX10_opens 15 = .ok (.dup, 1) := dk_89 (dk_at dksX10_opens_0 15 rfl rfl)
theorem dX10_opens_16 : decode cX10_opens 16 = .ok (.getfield 167, 3) := dk_180 0 167 (dk_at dksX10_opens_0 16 rfl rfl)
theorem dX10_opens_19 : decode cX10_opens 19 = .ok (.iconst 1, 1) := dk_4 (dk_at dksX10_opens_0 19 rfl rfl)
theorem dX10_opens_20 : decode cX10_opens 20 = .ok (.iadd, 1) := dk_96 (dk_at dksX10_opens_0 20 rfl rfl)
theorem dX10_opens_21 : decode cX10_opens 21 = .ok (.putfield 167, 3) := dk_181 0 167 (dk_at dksX10_opens_0 21 rfl rfl)
theorem dX10_opens_24 : decode cX10_opens 24 = .ok (.aload_n 0, 1) := dk_42 (dk_at dksX10_opens_1 0 rfl rfl)
theorem dX10_opens_25 : decode cX10_opens 25 = .ok (.getfield 77, 3) := dk_180 0 77 (dk_at dksX10_opens_1 1 rfl rfl)
theorem dX10_opens_28 : decode cX10_opens 28 = .ok (.ifCond .ne 7, 3) := dk_154 0 7 (dk_at dksX10_opens_1 4 rfl rfl)
theorem dX10_opens_31 : decode cX10_opens 31 = .ok (.aload_n 0, 1) := dk_42 (dk_at dksX10_opens_1 7 rfl rfl)
theorem dX10_opens_32 : decode cX10_opens 32 = .ok (.invokevirtual 93, 3) := dk_182 0 93 (dk_at dksX10_opens_1 8 rfl rfl)
theorem dX10_opens_35 : decode cX10_opens 35 = .ok (.return_, 1) := dk_177 (dk_at dksX10_opens_1 11 rfl rfl)
abbrev cX10_over : ByteArray := prog_19_method_10_code
def yX10_over : MethodName := ⟨RX10, "over", "()V"⟩
def dkwX10_over_1 : List UInt8 := [180, 0, 77, 154, 0, 7, 42, 182, 0, 93, 177]
abbrev dktX10_over_1 : List UInt8 := dkwX10_over_1 ++ []
def dkwX10_over_0 : List UInt8 := [42, 180, 0, 77, 154, 0, 17, 42, 180, 0, 64, 16, 59, 159, 0, 8, 42, 5, 182, 0, 90, 42]
abbrev dktX10_over_0 : List UInt8 := dkwX10_over_0 ++ dktX10_over_1
theorem dksX10_over_0 : cX10_over.data.toList.drop 0 = dktX10_over_0 := by decide +kernel
theorem dksX10_over_1 : cX10_over.data.toList.drop 22 = dktX10_over_1 := dk_seg dksX10_over_0 22 rfl rfl
theorem dX10_over_0 : decode cX10_over 0 = .ok (.aload_n 0, 1) := dk_42 (dk_at dksX10_over_0 0 rfl rfl)
theorem dX10_over_1 : decode cX10_over 1 = .ok (.getfield 77, 3) := dk_180 0 77 (dk_at dksX10_over_0 1 rfl rfl)
theorem dX10_over_4 : decode cX10_over 4 = .ok (.ifCond .ne 17, 3) := dk_154 0 17 (dk_at dksX10_over_0 4 rfl rfl)
theorem dX10_over_7 : decode cX10_over 7 = .ok (.aload_n 0, 1) := dk_42 (dk_at dksX10_over_0 7 rfl rfl)
theorem dX10_over_8 : decode cX10_over 8 = .ok (.getfield 64, 3) := dk_180 0 64 (dk_at dksX10_over_0 8 rfl rfl)
theorem dX10_over_11 : decode cX10_over 11 = .ok (.bipush 59, 2) := dk_16 59 (dk_at dksX10_over_0 11 rfl rfl)
theorem dX10_over_13 : decode cX10_over 13 = .ok (.if_icmp .eq 8, 3) := dk_159 0 8 (dk_at dksX10_over_0 13 rfl rfl)
theorem dX10_over_16 : decode cX10_over 16 = .ok (.aload_n 0, 1) := dk_42 (dk_at dksX10_over_0 16 rfl rfl)
theorem dX10_over_17 : decode cX10_over 17 = .ok (.iconst 2, 1) := dk_5 (dk_at dksX10_over_0 17 rfl rfl)
theorem dX10_over_18 : decode cX10_over 18 = .ok (.invokevirtual 90, 3) := dk_182 0 90 (dk_at dksX10_over_0 18 rfl rfl)
theorem dX10_over_21 : decode cX10_over 21 = .ok (.aload_n 0, 1) := dk_42 (dk_at dksX10_over_0 21 rfl rfl)
theorem dX10_over_22 : decode cX10_over 22 = .ok (.getfield 77, 3) := dk_180 0 77 (dk_at dksX10_over_1 0 rfl rfl)
theorem dX10_over_25 : decode cX10_over 25 = .ok (.ifCond .ne 7, 3) := dk_154 0 7 (dk_at dksX10_over_1 3 rfl rfl)
theorem dX10_over_28 : decode cX10_over 28 = .ok (.aload_n 0, 1) := dk_42 (dk_at dksX10_over_1 6 rfl rfl)
theorem dX10_over_29 : decode cX10_over 29 = .ok (.invokevirtual 93, 3) := dk_182 0 93 (dk_at dksX10_over_1 7 rfl rfl)
theorem dX10_over_32 : decode cX10_over 32 = .ok (.return_, 1) := dk_177 (dk_at dksX10_over_1 10 rfl rfl)
abbrev cX10_law : ByteArray := prog_19_method_17_code
def yX10_law : MethodName := ⟨RX10, "law", "()V"⟩
def dkwX10_law_5 : List UInt8 := [177]
abbrev dktX10_law_5 : List UInt8 := dkwX10_law_5 ++ []
def dkwX10_law_4 : List UInt8 := [42, 182, 0, 206, 42, 182, 0, 133, 42, 180, 0, 27, 89, 180, 0, 203, 4, 96, 181, 0, 203, 167, 255, 143]
abbrev dktX10_law_4 : List UInt8 := dkwX10_law_4 ++ dktX10_law_5
def dkwX10_law_3 : List UInt8 := [42, 180, 0, 27, 180, 0, 203, 16, 12, 160, 0, 8, 42, 7, 182, 0, 90, 42, 180, 0, 77, 154, 0, 7]
abbrev dktX10_law_3 : List UInt8 := dkwX10_law_3 ++ dktX10_law_4
def dkwX10_law_2 : List UInt8 := [182, 0, 96, 153, 0, 7, 4, 167, 0, 4, 3, 60, 27, 154, 0, 11, 42, 5, 182, 0, 90, 167, 0, 20]
abbrev dktX10_law_2 : List UInt8 := dkwX10_law_2 ++ dktX10_law_3
def dkwX10_law_1 : List UInt8 := [154, 0, 30, 42, 18, 197, 182, 0, 96, 154, 0, 21, 42, 18, 199, 182, 0, 96, 154, 0, 12, 42, 18, 201]
abbrev dktX10_law_1 : List UInt8 := dkwX10_law_1 ++ dktX10_law_2
def dkwX10_law_0 : List UInt8 := [42, 182, 0, 93, 42, 180, 0, 77, 154, 0, 112, 42, 180, 0, 64, 153, 0, 105, 42, 18, 195, 182, 0, 96]
abbrev dktX10_law_0 : List UInt8 := dkwX10_law_0 ++ dktX10_law_1
theorem dksX10_law_0 : cX10_law.data.toList.drop 0 = dktX10_law_0 := by decide +kernel
theorem dksX10_law_1 : cX10_law.data.toList.drop 24 = dktX10_law_1 := dk_seg dksX10_law_0 24 rfl rfl
theorem dksX10_law_2 : cX10_law.data.toList.drop 48 = dktX10_law_2 := dk_seg dksX10_law_1 24 rfl rfl
theorem dksX10_law_3 : cX10_law.data.toList.drop 72 = dktX10_law_3 := dk_seg dksX10_law_2 24 rfl rfl
theorem dksX10_law_4 : cX10_law.data.toList.drop 96 = dktX10_law_4 := dk_seg dksX10_law_3 24 rfl rfl
theorem dksX10_law_5 : cX10_law.data.toList.drop 120 = dktX10_law_5 := dk_seg dksX10_law_4 24 rfl rfl
theorem dX10_law_0 : decode cX10_law 0 = .ok (.aload_n 0, 1) := dk_42 (dk_at dksX10_law_0 0 rfl rfl)
theorem dX10_law_1 : decode cX10_law 1 = .ok (.invokevirtual 93, 3) := dk_182 0 93 (dk_at dksX10_law_0 1 rfl rfl)
theorem dX10_law_4 : decode cX10_law 4 = .ok (.aload_n 0, 1) := dk_42 (dk_at dksX10_law_0 4 rfl rfl)
theorem dX10_law_5 : decode cX10_law 5 = .ok (.getfield 77, 3) := dk_180 0 77 (dk_at dksX10_law_0 5 rfl rfl)
theorem dX10_law_8 : decode cX10_law 8 = .ok (.ifCond .ne 112, 3) := dk_154 0 112 (dk_at dksX10_law_0 8 rfl rfl)
theorem dX10_law_11 : decode cX10_law 11 = .ok (.aload_n 0, 1) := dk_42 (dk_at dksX10_law_0 11 rfl rfl)
theorem dX10_law_12 : decode cX10_law 12 = .ok (.getfield 64, 3) := dk_180 0 64 (dk_at dksX10_law_0 12 rfl rfl)
theorem dX10_law_15 : decode cX10_law 15 = .ok (.ifCond .eq 105, 3) := dk_153 0 105 (dk_at dksX10_law_0 15 rfl rfl)
theorem dX10_law_18 : decode cX10_law 18 = .ok (.aload_n 0, 1) := dk_42 (dk_at dksX10_law_0 18 rfl rfl)
theorem dX10_law_19 : decode cX10_law 19 = .ok (.ldc 195, 2) := dk_18 195 (dk_at dksX10_law_0 19 rfl rfl)
theorem dX10_law_21 : decode cX10_law 21 = .ok (.invokevirtual 96, 3) := dk_182 0 96 (dk_at dksX10_law_0 21 rfl rfl)
theorem dX10_law_24 : decode cX10_law 24 = .ok (.ifCond .ne 30, 3) := dk_154 0 30 (dk_at dksX10_law_1 0 rfl rfl)
theorem dX10_law_27 : decode cX10_law 27 = .ok (.aload_n 0, 1) := dk_42 (dk_at dksX10_law_1 3 rfl rfl)
theorem dX10_law_28 : decode cX10_law 28 = .ok (.ldc 197, 2) := dk_18 197 (dk_at dksX10_law_1 4 rfl rfl)
theorem dX10_law_30 : decode cX10_law 30 = .ok (.invokevirtual 96, 3) := dk_182 0 96 (dk_at dksX10_law_1 6 rfl rfl)
theorem dX10_law_33 : decode cX10_law 33 = .ok (.ifCond .ne 21, 3) := dk_154 0 21 (dk_at dksX10_law_1 9 rfl rfl)
theorem dX10_law_36 : decode cX10_law 36 = .ok (.aload_n 0, 1) := dk_42 (dk_at dksX10_law_1 12 rfl rfl)
theorem dX10_law_37 : decode cX10_law 37 = .ok (.ldc 199, 2) := dk_18 199 (dk_at dksX10_law_1 13 rfl rfl)
theorem dX10_law_39 : decode cX10_law 39 = .ok (.invokevirtual 96, 3) := dk_182 0 96 (dk_at dksX10_law_1 15 rfl rfl)
theorem dX10_law_42 : decode cX10_law 42 = .ok (.ifCond .ne 12, 3) := dk_154 0 12 (dk_at dksX10_law_1 18 rfl rfl)
theorem dX10_law_45 : decode cX10_law 45 = .ok (.aload_n 0, 1) := dk_42 (dk_at dksX10_law_1 21 rfl rfl)
theorem dX10_law_46 : decode cX10_law 46 = .ok (.ldc 201, 2) := dk_18 201 (dk_at dksX10_law_1 22 rfl rfl)
theorem dX10_law_48 : decode cX10_law 48 = .ok (.invokevirtual 96, 3) := dk_182 0 96 (dk_at dksX10_law_2 0 rfl rfl)
theorem dX10_law_51 : decode cX10_law 51 = .ok (.ifCond .eq 7, 3) := dk_153 0 7 (dk_at dksX10_law_2 3 rfl rfl)
theorem dX10_law_54 : decode cX10_law 54 = .ok (.iconst 1, 1) := dk_4 (dk_at dksX10_law_2 6 rfl rfl)
theorem dX10_law_55 : decode cX10_law 55 = .ok (.goto 4, 3) := dk_167 0 4 (dk_at dksX10_law_2 7 rfl rfl)
theorem dX10_law_58 : decode cX10_law 58 = .ok (.iconst 0, 1) := dk_3 (dk_at dksX10_law_2 10 rfl rfl)
theorem dX10_law_59 : decode cX10_law 59 = .ok (.istore_n 1, 1) := dk_60 (dk_at dksX10_law_2 11 rfl rfl)
theorem dX10_law_60 : decode cX10_law 60 = .ok (.iload_n 1, 1) := dk_27 (dk_at dksX10_law_2 12 rfl rfl)
theorem dX10_law_61 : decode cX10_law 61 = .ok (.ifCond .ne 11, 3) := dk_154 0 11 (dk_at dksX10_law_2 13 rfl rfl)
theorem dX10_law_64 : decode cX10_law 64 = .ok (.aload_n 0, 1) := dk_42 (dk_at dksX10_law_2 16 rfl rfl)
theorem dX10_law_65 : decode cX10_law 65 = .ok (.iconst 2, 1) := dk_5 (dk_at dksX10_law_2 17 rfl rfl)
theorem dX10_law_66 : decode cX10_law 66 = .ok (.invokevirtual 90, 3) := dk_182 0 90 (dk_at dksX10_law_2 18 rfl rfl)
theorem dX10_law_69 : decode cX10_law 69 = .ok (.goto 20, 3) := dk_167 0 20 (dk_at dksX10_law_2 21 rfl rfl)
theorem dX10_law_72 : decode cX10_law 72 = .ok (.aload_n 0, 1) := dk_42 (dk_at dksX10_law_3 0 rfl rfl)
theorem dX10_law_73 : decode cX10_law 73 = .ok (.getfield 27, 3) := dk_180 0 27 (dk_at dksX10_law_3 1 rfl rfl)
theorem dX10_law_76 : decode cX10_law 76 = .ok (.getfield 203, 3) := dk_180 0 203 (dk_at dksX10_law_3 4 rfl rfl)
theorem dX10_law_79 : decode cX10_law 79 = .ok (.bipush 12, 2) := dk_16 12 (dk_at dksX10_law_3 7 rfl rfl)
theorem dX10_law_81 : decode cX10_law 81 = .ok (.if_icmp .ne 8, 3) := dk_160 0 8 (dk_at dksX10_law_3 9 rfl rfl)
theorem dX10_law_84 : decode cX10_law 84 = .ok (.aload_n 0, 1) := dk_42 (dk_at dksX10_law_3 12 rfl rfl)
theorem dX10_law_85 : decode cX10_law 85 = .ok (.iconst 4, 1) := dk_7 (dk_at dksX10_law_3 13 rfl rfl)
theorem dX10_law_86 : decode cX10_law 86 = .ok (.invokevirtual 90, 3) := dk_182 0 90 (dk_at dksX10_law_3 14 rfl rfl)
theorem dX10_law_89 : decode cX10_law 89 = .ok (.aload_n 0, 1) := dk_42 (dk_at dksX10_law_3 17 rfl rfl)
theorem dX10_law_90 : decode cX10_law 90 = .ok (.getfield 77, 3) := dk_180 0 77 (dk_at dksX10_law_3 18 rfl rfl)
theorem dX10_law_93 : decode cX10_law 93 = .ok (.ifCond .ne 7, 3) := dk_154 0 7 (dk_at dksX10_law_3 21 rfl rfl)
theorem dX10_law_96 : decode cX10_law 96 = .ok (.aload_n 0, 1) := dk_42 (dk_at dksX10_law_4 0 rfl rfl)
theorem dX10_law_97 : decode cX10_law 97 = .ok (.invokevirtual 206, 3) := dk_182 0 206 (dk_at dksX10_law_4 1 rfl rfl)
theorem dX10_law_100 : decode cX10_law 100 = .ok (.aload_n 0, 1) := dk_42 (dk_at dksX10_law_4 4 rfl rfl)
theorem dX10_law_101 : decode cX10_law 101 = .ok (.invokevirtual 133, 3) := dk_182 0 133 (dk_at dksX10_law_4 5 rfl rfl)
theorem dX10_law_104 : decode cX10_law 104 = .ok (.aload_n 0, 1) := dk_42 (dk_at dksX10_law_4 8 rfl rfl)
theorem dX10_law_105 : decode cX10_law 105 = .ok (.getfield 27, 3) := dk_180 0 27 (dk_at dksX10_law_4 9 rfl rfl)
theorem dX10_law_108 : decode cX10_law 108 = .ok (.dup, 1) := dk_89 (dk_at dksX10_law_4 12 rfl rfl)
theorem dX10_law_109 : decode cX10_law 109 = .ok (.getfield 203, 3) := dk_180 0 203 (dk_at dksX10_law_4 13 rfl rfl)
theorem dX10_law_112 : decode cX10_law 112 = .ok (.iconst 1, 1) := dk_4 (dk_at dksX10_law_4 16 rfl rfl)
theorem dX10_law_113 : decode cX10_law 113 = .ok (.iadd, 1) := dk_96 (dk_at dksX10_law_4 17 rfl rfl)
theorem dX10_law_114 : decode cX10_law 114 = .ok (.putfield 203, 3) := dk_181 0 203 (dk_at dksX10_law_4 18 rfl rfl)
theorem dX10_law_117 : decode cX10_law 117 = .ok (.goto (-113), 3) := dk_167 255 143 (dk_at dksX10_law_4 21 rfl rfl)
theorem dX10_law_120 : decode cX10_law 120 = .ok (.return_, 1) := dk_177 (dk_at dksX10_law_5 0 rfl rfl)
abbrev cX10_way : ByteArray := prog_19_method_18_code
def yX10_way : MethodName := ⟨RX10, "way", "()V"⟩
def dkwX10_way_6 : List UInt8 := [180, 0, 217, 21, 5, 21, 4, 79, 177]
abbrev dktX10_way_6 : List UInt8 := dkwX10_way_6 ++ []
def dkwX10_way_5 : List UInt8 := [42, 180, 0, 77, 154, 0, 28, 42, 180, 0, 27, 180, 0, 217, 21, 5, 46, 154, 0, 15, 42, 180, 0, 27]
abbrev dktX10_way_5 : List UInt8 := dkwX10_way_5 ++ dktX10_way_6
def dkwX10_way_4 : List UInt8 := [17, 0, 255, 182, 0, 145, 54, 4, 42, 18, 215, 182, 0, 117, 42, 4, 17, 0, 255, 182, 0, 145, 54, 5]
abbrev dktX10_way_4 : List UInt8 := dkwX10_way_4 ++ dktX10_way_5
def dkwX10_way_3 : List UInt8 := [153, 0, 20, 42, 180, 0, 27, 42, 3, 16, 99, 182, 0, 145, 181, 0, 213, 167, 0, 61, 42, 4]
abbrev dktX10_way_3 : List UInt8 := dkwX10_way_3 ++ dktX10_way_4
def dkwX10_way_2 : List UInt8 := [28, 153, 0, 20, 42, 180, 0, 27, 42, 3, 16, 99, 182, 0, 145, 181, 0, 211, 167, 0, 82, 29]
abbrev dktX10_way_2 : List UInt8 := dkwX10_way_2 ++ dktX10_way_3
def dkwX10_way_1 : List UInt8 := [182, 0, 93, 27, 153, 0, 20, 42, 180, 0, 27, 42, 3, 16, 99, 182, 0, 145, 181, 0, 209, 167, 0, 103]
abbrev dktX10_way_1 : List UInt8 := dkwX10_way_1 ++ dktX10_way_2
def dkwX10_way_0 : List UInt8 := [42, 18, 195, 182, 0, 96, 60, 42, 18, 197, 182, 0, 96, 61, 42, 18, 199, 182, 0, 96, 62, 42]
abbrev dktX10_way_0 : List UInt8 := dkwX10_way_0 ++ dktX10_way_1
theorem dksX10_way_0 : cX10_way.data.toList.drop 0 = dktX10_way_0 := by decide +kernel
theorem dksX10_way_1 : cX10_way.data.toList.drop 22 = dktX10_way_1 := dk_seg dksX10_way_0 22 rfl rfl
theorem dksX10_way_2 : cX10_way.data.toList.drop 46 = dktX10_way_2 := dk_seg dksX10_way_1 24 rfl rfl
theorem dksX10_way_3 : cX10_way.data.toList.drop 68 = dktX10_way_3 := dk_seg dksX10_way_2 22 rfl rfl
theorem dksX10_way_4 : cX10_way.data.toList.drop 90 = dktX10_way_4 := dk_seg dksX10_way_3 22 rfl rfl
theorem dksX10_way_5 : cX10_way.data.toList.drop 114 = dktX10_way_5 := dk_seg dksX10_way_4 24 rfl rfl
theorem dksX10_way_6 : cX10_way.data.toList.drop 138 = dktX10_way_6 := dk_seg dksX10_way_5 24 rfl rfl
theorem dX10_way_0 : decode cX10_way 0 = .ok (.aload_n 0, 1) := dk_42 (dk_at dksX10_way_0 0 rfl rfl)
theorem dX10_way_1 : decode cX10_way 1 = .ok (.ldc 195, 2) := dk_18 195 (dk_at dksX10_way_0 1 rfl rfl)
theorem dX10_way_3 : decode cX10_way 3 = .ok (.invokevirtual 96, 3) := dk_182 0 96 (dk_at dksX10_way_0 3 rfl rfl)
theorem dX10_way_6 : decode cX10_way 6 = .ok (.istore_n 1, 1) := dk_60 (dk_at dksX10_way_0 6 rfl rfl)
theorem dX10_way_7 : decode cX10_way 7 = .ok (.aload_n 0, 1) := dk_42 (dk_at dksX10_way_0 7 rfl rfl)
theorem dX10_way_8 : decode cX10_way 8 = .ok (.ldc 197, 2) := dk_18 197 (dk_at dksX10_way_0 8 rfl rfl)
theorem dX10_way_10 : decode cX10_way 10 = .ok (.invokevirtual 96, 3) := dk_182 0 96 (dk_at dksX10_way_0 10 rfl rfl)
theorem dX10_way_13 : decode cX10_way 13 = .ok (.istore_n 2, 1) := dk_61 (dk_at dksX10_way_0 13 rfl rfl)
theorem dX10_way_14 : decode cX10_way 14 = .ok (.aload_n 0, 1) := dk_42 (dk_at dksX10_way_0 14 rfl rfl)
theorem dX10_way_15 : decode cX10_way 15 = .ok (.ldc 199, 2) := dk_18 199 (dk_at dksX10_way_0 15 rfl rfl)
theorem dX10_way_17 : decode cX10_way 17 = .ok (.invokevirtual 96, 3) := dk_182 0 96 (dk_at dksX10_way_0 17 rfl rfl)
theorem dX10_way_20 : decode cX10_way 20 = .ok (.istore_n 3, 1) := dk_62 (dk_at dksX10_way_0 20 rfl rfl)
theorem dX10_way_21 : decode cX10_way 21 = .ok (.aload_n 0, 1) := dk_42 (dk_at dksX10_way_0 21 rfl rfl)
theorem dX10_way_22 : decode cX10_way 22 = .ok (.invokevirtual 93, 3) := dk_182 0 93 (dk_at dksX10_way_1 0 rfl rfl)
theorem dX10_way_25 : decode cX10_way 25 = .ok (.iload_n 1, 1) := dk_27 (dk_at dksX10_way_1 3 rfl rfl)
theorem dX10_way_26 : decode cX10_way 26 = .ok (.ifCond .eq 20, 3) := dk_153 0 20 (dk_at dksX10_way_1 4 rfl rfl)
theorem dX10_way_29 : decode cX10_way 29 = .ok (.aload_n 0, 1) := dk_42 (dk_at dksX10_way_1 7 rfl rfl)
theorem dX10_way_30 : decode cX10_way 30 = .ok (.getfield 27, 3) := dk_180 0 27 (dk_at dksX10_way_1 8 rfl rfl)
theorem dX10_way_33 : decode cX10_way 33 = .ok (.aload_n 0, 1) := dk_42 (dk_at dksX10_way_1 11 rfl rfl)
theorem dX10_way_34 : decode cX10_way 34 = .ok (.iconst 0, 1) := dk_3 (dk_at dksX10_way_1 12 rfl rfl)
theorem dX10_way_35 : decode cX10_way 35 = .ok (.bipush 99, 2) := dk_16 99 (dk_at dksX10_way_1 13 rfl rfl)
theorem dX10_way_37 : decode cX10_way 37 = .ok (.invokevirtual 145, 3) := dk_182 0 145 (dk_at dksX10_way_1 15 rfl rfl)
theorem dX10_way_40 : decode cX10_way 40 = .ok (.putfield 209, 3) := dk_181 0 209 (dk_at dksX10_way_1 18 rfl rfl)
theorem dX10_way_43 : decode cX10_way 43 = .ok (.goto 103, 3) := dk_167 0 103 (dk_at dksX10_way_1 21 rfl rfl)
theorem dX10_way_46 : decode cX10_way 46 = .ok (.iload_n 2, 1) := dk_28 (dk_at dksX10_way_2 0 rfl rfl)
theorem dX10_way_47 : decode cX10_way 47 = .ok (.ifCond .eq 20, 3) := dk_153 0 20 (dk_at dksX10_way_2 1 rfl rfl)
theorem dX10_way_50 : decode cX10_way 50 = .ok (.aload_n 0, 1) := dk_42 (dk_at dksX10_way_2 4 rfl rfl)
theorem dX10_way_51 : decode cX10_way 51 = .ok (.getfield 27, 3) := dk_180 0 27 (dk_at dksX10_way_2 5 rfl rfl)
theorem dX10_way_54 : decode cX10_way 54 = .ok (.aload_n 0, 1) := dk_42 (dk_at dksX10_way_2 8 rfl rfl)
theorem dX10_way_55 : decode cX10_way 55 = .ok (.iconst 0, 1) := dk_3 (dk_at dksX10_way_2 9 rfl rfl)
theorem dX10_way_56 : decode cX10_way 56 = .ok (.bipush 99, 2) := dk_16 99 (dk_at dksX10_way_2 10 rfl rfl)
theorem dX10_way_58 : decode cX10_way 58 = .ok (.invokevirtual 145, 3) := dk_182 0 145 (dk_at dksX10_way_2 12 rfl rfl)
theorem dX10_way_61 : decode cX10_way 61 = .ok (.putfield 211, 3) := dk_181 0 211 (dk_at dksX10_way_2 15 rfl rfl)
theorem dX10_way_64 : decode cX10_way 64 = .ok (.goto 82, 3) := dk_167 0 82 (dk_at dksX10_way_2 18 rfl rfl)
theorem dX10_way_67 : decode cX10_way 67 = .ok (.iload_n 3, 1) := dk_29 (dk_at dksX10_way_2 21 rfl rfl)
theorem dX10_way_68 : decode cX10_way 68 = .ok (.ifCond .eq 20, 3) := dk_153 0 20 (dk_at dksX10_way_3 0 rfl rfl)
theorem dX10_way_71 : decode cX10_way 71 = .ok (.aload_n 0, 1) := dk_42 (dk_at dksX10_way_3 3 rfl rfl)
theorem dX10_way_72 : decode cX10_way 72 = .ok (.getfield 27, 3) := dk_180 0 27 (dk_at dksX10_way_3 4 rfl rfl)
theorem dX10_way_75 : decode cX10_way 75 = .ok (.aload_n 0, 1) := dk_42 (dk_at dksX10_way_3 7 rfl rfl)
theorem dX10_way_76 : decode cX10_way 76 = .ok (.iconst 0, 1) := dk_3 (dk_at dksX10_way_3 8 rfl rfl)
theorem dX10_way_77 : decode cX10_way 77 = .ok (.bipush 99, 2) := dk_16 99 (dk_at dksX10_way_3 9 rfl rfl)
theorem dX10_way_79 : decode cX10_way 79 = .ok (.invokevirtual 145, 3) := dk_182 0 145 (dk_at dksX10_way_3 11 rfl rfl)
theorem dX10_way_82 : decode cX10_way 82 = .ok (.putfield 213, 3) := dk_181 0 213 (dk_at dksX10_way_3 14 rfl rfl)
theorem dX10_way_85 : decode cX10_way 85 = .ok (.goto 61, 3) := dk_167 0 61 (dk_at dksX10_way_3 17 rfl rfl)
theorem dX10_way_88 : decode cX10_way 88 = .ok (.aload_n 0, 1) := dk_42 (dk_at dksX10_way_3 20 rfl rfl)
theorem dX10_way_89 : decode cX10_way 89 = .ok (.iconst 1, 1) := dk_4 (dk_at dksX10_way_3 21 rfl rfl)
theorem dX10_way_90 : decode cX10_way 90 = .ok (.sipush 255, 3) := dk_17 0 255 (dk_at dksX10_way_4 0 rfl rfl)
theorem dX10_way_93 : decode cX10_way 93 = .ok (.invokevirtual 145, 3) := dk_182 0 145 (dk_at dksX10_way_4 3 rfl rfl)
theorem dX10_way_96 : decode cX10_way 96 = .ok (.istore 4, 2) := dk_54 4 (dk_at dksX10_way_4 6 rfl rfl)
theorem dX10_way_98 : decode cX10_way 98 = .ok (.aload_n 0, 1) := dk_42 (dk_at dksX10_way_4 8 rfl rfl)
theorem dX10_way_99 : decode cX10_way 99 = .ok (.ldc 215, 2) := dk_18 215 (dk_at dksX10_way_4 9 rfl rfl)
theorem dX10_way_101 : decode cX10_way 101 = .ok (.invokevirtual 117, 3) := dk_182 0 117 (dk_at dksX10_way_4 11 rfl rfl)
theorem dX10_way_104 : decode cX10_way 104 = .ok (.aload_n 0, 1) := dk_42 (dk_at dksX10_way_4 14 rfl rfl)
theorem dX10_way_105 : decode cX10_way 105 = .ok (.iconst 1, 1) := dk_4 (dk_at dksX10_way_4 15 rfl rfl)
theorem dX10_way_106 : decode cX10_way 106 = .ok (.sipush 255, 3) := dk_17 0 255 (dk_at dksX10_way_4 16 rfl rfl)
theorem dX10_way_109 : decode cX10_way 109 = .ok (.invokevirtual 145, 3) := dk_182 0 145 (dk_at dksX10_way_4 19 rfl rfl)
theorem dX10_way_112 : decode cX10_way 112 = .ok (.istore 5, 2) := dk_54 5 (dk_at dksX10_way_4 22 rfl rfl)
theorem dX10_way_114 : decode cX10_way 114 = .ok (.aload_n 0, 1) := dk_42 (dk_at dksX10_way_5 0 rfl rfl)
theorem dX10_way_115 : decode cX10_way 115 = .ok (.getfield 77, 3) := dk_180 0 77 (dk_at dksX10_way_5 1 rfl rfl)
theorem dX10_way_118 : decode cX10_way 118 = .ok (.ifCond .ne 28, 3) := dk_154 0 28 (dk_at dksX10_way_5 4 rfl rfl)
theorem dX10_way_121 : decode cX10_way 121 = .ok (.aload_n 0, 1) := dk_42 (dk_at dksX10_way_5 7 rfl rfl)
theorem dX10_way_122 : decode cX10_way 122 = .ok (.getfield 27, 3) := dk_180 0 27 (dk_at dksX10_way_5 8 rfl rfl)
theorem dX10_way_125 : decode cX10_way 125 = .ok (.getfield 217, 3) := dk_180 0 217 (dk_at dksX10_way_5 11 rfl rfl)
theorem dX10_way_128 : decode cX10_way 128 = .ok (.iload 5, 2) := dk_21 5 (dk_at dksX10_way_5 14 rfl rfl)
theorem dX10_way_130 : decode cX10_way 130 = .ok (.iaload, 1) := dk_46 (dk_at dksX10_way_5 16 rfl rfl)
theorem dX10_way_131 : decode cX10_way 131 = .ok (.ifCond .ne 15, 3) := dk_154 0 15 (dk_at dksX10_way_5 17 rfl rfl)
theorem dX10_way_134 : decode cX10_way 134 = .ok (.aload_n 0, 1) := dk_42 (dk_at dksX10_way_5 20 rfl rfl)
theorem dX10_way_135 : decode cX10_way 135 = .ok (.getfield 27, 3) := dk_180 0 27 (dk_at dksX10_way_5 21 rfl rfl)
theorem dX10_way_138 : decode cX10_way 138 = .ok (.getfield 217, 3) := dk_180 0 217 (dk_at dksX10_way_6 0 rfl rfl)
theorem dX10_way_141 : decode cX10_way 141 = .ok (.iload 5, 2) := dk_21 5 (dk_at dksX10_way_6 3 rfl rfl)
theorem dX10_way_143 : decode cX10_way 143 = .ok (.iload 4, 2) := dk_21 4 (dk_at dksX10_way_6 5 rfl rfl)
theorem dX10_way_145 : decode cX10_way 145 = .ok (.iastore, 1) := dk_79 (dk_at dksX10_way_6 7 rfl rfl)
theorem dX10_way_146 : decode cX10_way 146 = .ok (.return_, 1) := dk_177 (dk_at dksX10_way_6 8 rfl rfl)
theorem q123 : (Jvm.Cond.initialized "NobodysBard$Reader") ∈ lw_all := lw_g (lw_at lw_m1 20 rfl) rfl
theorem q197 : (Jvm.Cond.fieldLinkNest "NobodysBard$Reader" (209 : Nat) "NobodysBard$Law" "lose" "I" "NobodysBard") ∈ lw_tbl := lw_at lw_m1 94 rfl
theorem q199 : (Jvm.Cond.fieldLinkNest "NobodysBard$Reader" (211 : Nat) "NobodysBard$Law" "move" "I" "NobodysBard") ∈ lw_tbl := lw_at lw_m1 96 rfl
theorem q201 : (Jvm.Cond.fieldLinkNest "NobodysBard$Reader" (213 : Nat) "NobodysBard$Law" "smooth" "I" "NobodysBard") ∈ lw_tbl := lw_at lw_m1 98 rfl
theorem q203 : (Jvm.Cond.fieldLinkNest "NobodysBard$Reader" (203 : Nat) "NobodysBard$Law" "ways" "I" "NobodysBard") ∈ lw_tbl := lw_at lw_m1 100 rfl
theorem q206 : (Jvm.Cond.fieldLinkNest "NobodysBard$Reader" (217 : Nat) "NobodysBard$Law" "said" "[I" "NobodysBard") ∈ lw_tbl := lw_at lw_m1 103 rfl
theorem q322 : (Jvm.Cond.fieldLinkNest "NobodysBard$Reader" (38 : Nat) "NobodysBard" "tape" "[B" "NobodysBard") ∈ lw_tbl := lw_at lw_m1 219 rfl
theorem q496 : (Jvm.Cond.selects "NobodysBard$Reader" ({ cls := "java/lang/Object", name := "getClass", desc := "()Ljava/lang/Class;" } : Jvm.MethodName) ({ cls := "java/lang/Object", name := "getClass", desc := "()Ljava/lang/Class;" } : Jvm.MethodName)) ∈ lw_all := lw_g (lw_at lw_m2 153 rfl) rfl
theorem q552 : (Jvm.Cond.fieldLinkNest "NobodysBard$Reader" (140 : Nat) "NobodysBard$Phrase" "n" "I" "NobodysBard") ∈ lw_tbl := lw_at lw_m2 209 rfl
theorem q643 : (Jvm.Cond.instantiable "NobodysBard$Reader" (11 : Nat)) ∈ lw_all := lw_g (lw_at lw_m3 60 rfl) rfl
theorem q645 : (Jvm.Cond.instanceMethod ({ cls := "NobodysBard$Reader", name := "<init>", desc := "(LNobodysBard;I)V" } : Jvm.MethodName)) ∈ lw_all := lw_g (lw_at lw_m3 62 rfl) rfl
theorem q646 : (Jvm.Cond.code ({ cls := "NobodysBard$Reader", name := "<init>", desc := "(LNobodysBard;I)V" } : Jvm.MethodName) prog_19_method_1_code (3 : Nat) (Option.none : Option Jvm.ClassFile.FieldType)) ∈ lw_all := lw_g (lw_at lw_m3 63 rfl) rfl
theorem q647 : (Jvm.Cond.methodLink "NobodysBard$Reader" (9 : Nat) ({ cls := "java/lang/Object", name := "<init>", desc := "()V" } : Jvm.MethodName)) ∈ lw_all := lw_g (lw_at lw_m3 64 rfl) rfl
theorem q648 : (Jvm.Cond.classLink "NobodysBard$Reader" (15 : Nat) "java/util/ArrayList") ∈ lw_all := lw_g (lw_at lw_m3 65 rfl) rfl
theorem q649 : (Jvm.Cond.methodLink "NobodysBard$Reader" (17 : Nat) ({ cls := "java/util/ArrayList", name := "<init>", desc := "(I)V" } : Jvm.MethodName)) ∈ lw_all := lw_g (lw_at lw_m3 66 rfl) rfl
theorem q650 : (Jvm.Cond.classLink "NobodysBard$Reader" (24 : Nat) "NobodysBard$Law") ∈ lw_all := lw_g (lw_at lw_m3 67 rfl) rfl
theorem q651 : (Jvm.Cond.methodLinkNest "NobodysBard$Reader" (26 : Nat) ({ cls := "NobodysBard$Law", name := "<init>", desc := "()V" } : Jvm.MethodName) "NobodysBard") ∈ lw_tbl := lw_at lw_m3 68 rfl
theorem q652 : (Jvm.Cond.fieldLink "NobodysBard$Reader" (35 : Nat) "NobodysBard$Reader" "size" "I") ∈ lw_all := lw_g (lw_at lw_m3 69 rfl) rfl
theorem q653 : (Jvm.Cond.fieldLink "NobodysBard$Reader" (20 : Nat) "NobodysBard$Reader" "rules" "Ljava/util/ArrayList;") ∈ lw_all := lw_g (lw_at lw_m3 70 rfl) rfl
theorem q655 : (Jvm.Cond.fieldLink "NobodysBard$Reader" (27 : Nat) "NobodysBard$Reader" "law" "LNobodysBard$Law;") ∈ lw_all := lw_g (lw_at lw_m3 72 rfl) rfl
theorem q657 : (Jvm.Cond.fieldLink "NobodysBard$Reader" (58 : Nat) "NobodysBard$Reader" "at" "I") ∈ lw_all := lw_g (lw_at lw_m3 74 rfl) rfl
theorem q658 : (Jvm.Cond.fieldLink "NobodysBard$Reader" (61 : Nat) "NobodysBard$Reader" "begin" "I") ∈ lw_all := lw_g (lw_at lw_m3 75 rfl) rfl
theorem q659 : (Jvm.Cond.fieldLink "NobodysBard$Reader" (64 : Nat) "NobodysBard$Reader" "token" "I") ∈ lw_all := lw_g (lw_at lw_m3 76 rfl) rfl
theorem q660 : (Jvm.Cond.fieldLink "NobodysBard$Reader" (74 : Nat) "NobodysBard$Reader" "value" "I") ∈ lw_all := lw_g (lw_at lw_m3 77 rfl) rfl
theorem q661 : (Jvm.Cond.fieldLink "NobodysBard$Reader" (167 : Nat) "NobodysBard$Reader" "open" "I") ∈ lw_all := lw_g (lw_at lw_m3 78 rfl) rfl
theorem q662 : (Jvm.Cond.fieldLink "NobodysBard$Reader" (77 : Nat) "NobodysBard$Reader" "fault" "I") ∈ lw_all := lw_g (lw_at lw_m3 79 rfl) rfl
theorem q664 : (Jvm.Cond.fieldLink "NobodysBard$Reader" (31 : Nat) "NobodysBard$Reader" "place" "I") ∈ lw_all := lw_g (lw_at lw_m3 81 rfl) rfl
theorem q666 : (Jvm.Cond.fieldLink "NobodysBard$Reader" (3 : Nat) "NobodysBard$Reader" "this$0" "LNobodysBard;") ∈ lw_all := lw_g (lw_at lw_m3 83 rfl) rfl
theorem q667 : (Jvm.Cond.laysFinal "NobodysBard$Reader" "NobodysBard$Reader" "size" "I") ∈ lw_all := lw_g (lw_at lw_m3 84 rfl) rfl
theorem q668 : (Jvm.Cond.soleField "NobodysBard$Reader" "size") ∈ lw_all := lw_g (lw_at lw_m3 85 rfl) rfl
theorem q669 : (Jvm.Cond.laysFinal "NobodysBard$Reader" "NobodysBard$Reader" "rules" "Ljava/util/ArrayList;") ∈ lw_all := lw_g (lw_at lw_m3 86 rfl) rfl
theorem q670 : (Jvm.Cond.soleField "NobodysBard$Reader" "rules") ∈ lw_all := lw_g (lw_at lw_m3 87 rfl) rfl
theorem q671 : (Jvm.Cond.laysFinal "NobodysBard$Reader" "NobodysBard$Reader" "law" "LNobodysBard$Law;") ∈ lw_all := lw_g (lw_at lw_m3 88 rfl) rfl
theorem q672 : (Jvm.Cond.soleField "NobodysBard$Reader" "law") ∈ lw_all := lw_g (lw_at lw_m3 89 rfl) rfl
theorem q673 : (Jvm.Cond.lays "NobodysBard$Reader" "NobodysBard$Reader" "at" "I") ∈ lw_all := lw_g (lw_at lw_m3 90 rfl) rfl
theorem q674 : (Jvm.Cond.soleField "NobodysBard$Reader" "at") ∈ lw_all := lw_g (lw_at lw_m3 91 rfl) rfl
theorem q675 : (Jvm.Cond.lays "NobodysBard$Reader" "NobodysBard$Reader" "begin" "I") ∈ lw_all := lw_g (lw_at lw_m3 92 rfl) rfl
theorem q676 : (Jvm.Cond.soleField "NobodysBard$Reader" "begin") ∈ lw_all := lw_g (lw_at lw_m3 93 rfl) rfl
theorem q677 : (Jvm.Cond.lays "NobodysBard$Reader" "NobodysBard$Reader" "token" "I") ∈ lw_all := lw_g (lw_at lw_m3 94 rfl) rfl
theorem q678 : (Jvm.Cond.soleField "NobodysBard$Reader" "token") ∈ lw_all := lw_g (lw_at lw_m3 95 rfl) rfl
theorem q679 : (Jvm.Cond.lays "NobodysBard$Reader" "NobodysBard$Reader" "value" "I") ∈ lw_all := lw_g (lw_at lw_m3 96 rfl) rfl
theorem q680 : (Jvm.Cond.soleField "NobodysBard$Reader" "value") ∈ lw_all := lw_g (lw_at lw_m3 97 rfl) rfl
theorem q681 : (Jvm.Cond.lays "NobodysBard$Reader" "NobodysBard$Reader" "open" "I") ∈ lw_all := lw_g (lw_at lw_m3 98 rfl) rfl
theorem q682 : (Jvm.Cond.soleField "NobodysBard$Reader" "open") ∈ lw_all := lw_g (lw_at lw_m3 99 rfl) rfl
theorem q683 : (Jvm.Cond.lays "NobodysBard$Reader" "NobodysBard$Reader" "fault" "I") ∈ lw_all := lw_g (lw_at lw_m3 100 rfl) rfl
theorem q684 : (Jvm.Cond.soleField "NobodysBard$Reader" "fault") ∈ lw_all := lw_g (lw_at lw_m3 101 rfl) rfl
theorem q685 : (Jvm.Cond.lays "NobodysBard$Reader" "NobodysBard$Reader" "place" "I") ∈ lw_all := lw_g (lw_at lw_m3 102 rfl) rfl
theorem q686 : (Jvm.Cond.soleField "NobodysBard$Reader" "place") ∈ lw_all := lw_g (lw_at lw_m3 103 rfl) rfl
theorem q687 : (Jvm.Cond.laysFinal "NobodysBard$Reader" "NobodysBard$Reader" "this$0" "LNobodysBard;") ∈ lw_all := lw_g (lw_at lw_m3 104 rfl) rfl
theorem q688 : (Jvm.Cond.soleField "NobodysBard$Reader" "this$0") ∈ lw_all := lw_g (lw_at lw_m3 105 rfl) rfl
theorem q689 : (Jvm.Cond.superclass "NobodysBard$Reader" "java/lang/Object") ∈ lw_all := lw_g (lw_at lw_m3 106 rfl) rfl
theorem q691 : (Jvm.Cond.instanceMethod ({ cls := "NobodysBard$Reader", name := "fashion", desc := "()V" } : Jvm.MethodName)) ∈ lw_all := lw_g (lw_at lw_m3 108 rfl) rfl
theorem q692 : (Jvm.Cond.selects "NobodysBard$Reader" ({ cls := "NobodysBard$Reader", name := "fashion", desc := "()V" } : Jvm.MethodName) ({ cls := "NobodysBard$Reader", name := "fashion", desc := "()V" } : Jvm.MethodName)) ∈ lw_all := lw_g (lw_at lw_m3 109 rfl) rfl
theorem q693 : (Jvm.Cond.code ({ cls := "NobodysBard$Reader", name := "fashion", desc := "()V" } : Jvm.MethodName) prog_19_method_11_code (2 : Nat) (Option.none : Option Jvm.ClassFile.FieldType)) ∈ lw_all := lw_g (lw_at lw_m3 110 rfl) rfl
theorem q694 : (Jvm.Cond.methodLink "NobodysBard$Reader" (93 : Nat) ({ cls := "NobodysBard$Reader", name := "next", desc := "()V" } : Jvm.MethodName)) ∈ lw_all := lw_g (lw_at lw_m3 111 rfl) rfl
theorem q695 : (Jvm.Cond.privateMethod ({ cls := "NobodysBard$Reader", name := "next", desc := "()V" } : Jvm.MethodName)) ∈ lw_tbl := lw_at lw_m3 112 rfl
theorem q696 : (Jvm.Cond.instanceMethod ({ cls := "NobodysBard$Reader", name := "next", desc := "()V" } : Jvm.MethodName)) ∈ lw_all := lw_g (lw_at lw_m3 113 rfl) rfl
theorem q697 : (Jvm.Cond.code ({ cls := "NobodysBard$Reader", name := "next", desc := "()V" } : Jvm.MethodName) prog_19_method_5_code (2 : Nat) (Option.none : Option Jvm.ClassFile.FieldType)) ∈ lw_all := lw_g (lw_at lw_m3 114 rfl) rfl
theorem q698 : (Jvm.Cond.methodLink "NobodysBard$Reader" (42 : Nat) ({ cls := "NobodysBard$Reader", name := "see", desc := "(I)I" } : Jvm.MethodName)) ∈ lw_all := lw_g (lw_at lw_m3 115 rfl) rfl
theorem q699 : (Jvm.Cond.privateMethod ({ cls := "NobodysBard$Reader", name := "see", desc := "(I)I" } : Jvm.MethodName)) ∈ lw_tbl := lw_at lw_m3 116 rfl
theorem q700 : (Jvm.Cond.instanceMethod ({ cls := "NobodysBard$Reader", name := "see", desc := "(I)I" } : Jvm.MethodName)) ∈ lw_all := lw_g (lw_at lw_m3 117 rfl) rfl
theorem q701 : (Jvm.Cond.code ({ cls := "NobodysBard$Reader", name := "see", desc := "(I)I" } : Jvm.MethodName) prog_19_method_2_code (2 : Nat) (Option.some Jvm.ClassFile.FieldType.int)) ∈ lw_all := lw_g (lw_at lw_m3 118 rfl) rfl
theorem q702 : (Jvm.Cond.methodLink "NobodysBard$Reader" (67 : Nat) ({ cls := "NobodysBard$Reader", name := "isSmall", desc := "(I)Z" } : Jvm.MethodName)) ∈ lw_all := lw_g (lw_at lw_m3 119 rfl) rfl
theorem q703 : (Jvm.Cond.privateMethod ({ cls := "NobodysBard$Reader", name := "isSmall", desc := "(I)Z" } : Jvm.MethodName)) ∈ lw_tbl := lw_at lw_m3 120 rfl
theorem q704 : (Jvm.Cond.instanceMethod ({ cls := "NobodysBard$Reader", name := "isSmall", desc := "(I)Z" } : Jvm.MethodName)) ∈ lw_all := lw_g (lw_at lw_m3 121 rfl) rfl
theorem q705 : (Jvm.Cond.code ({ cls := "NobodysBard$Reader", name := "isSmall", desc := "(I)Z" } : Jvm.MethodName) prog_19_method_3_code (2 : Nat) (Option.some Jvm.ClassFile.FieldType.boolean)) ∈ lw_all := lw_g (lw_at lw_m3 122 rfl) rfl
theorem q706 : (Jvm.Cond.constantLong "NobodysBard$Reader" (46 : Nat) (97 : Int64)) ∈ lw_all := lw_g (lw_at lw_m3 123 rfl) rfl
theorem q707 : (Jvm.Cond.constantLong "NobodysBard$Reader" (48 : Nat) (122 : Int64)) ∈ lw_all := lw_g (lw_at lw_m3 124 rfl) rfl
theorem q708 : (Jvm.Cond.methodLinkNest "NobodysBard$Reader" (50 : Nat) ({ cls := "NobodysBard", name := "in", desc := "(JJJ)Z" } : Jvm.MethodName) "NobodysBard") ∈ lw_tbl := lw_at lw_m3 125 rfl
theorem q709 : (Jvm.Cond.methodLink "NobodysBard$Reader" (71 : Nat) ({ cls := "NobodysBard$Reader", name := "isDigit", desc := "(I)Z" } : Jvm.MethodName)) ∈ lw_all := lw_g (lw_at lw_m3 126 rfl) rfl
theorem q710 : (Jvm.Cond.privateMethod ({ cls := "NobodysBard$Reader", name := "isDigit", desc := "(I)Z" } : Jvm.MethodName)) ∈ lw_tbl := lw_at lw_m3 127 rfl
theorem q711 : (Jvm.Cond.instanceMethod ({ cls := "NobodysBard$Reader", name := "isDigit", desc := "(I)Z" } : Jvm.MethodName)) ∈ lw_all := lw_g (lw_at lw_m3 128 rfl) rfl
theorem q712 : (Jvm.Cond.code ({ cls := "NobodysBard$Reader", name := "isDigit", desc := "(I)Z" } : Jvm.MethodName) prog_19_method_4_code (2 : Nat) (Option.some Jvm.ClassFile.FieldType.boolean)) ∈ lw_all := lw_g (lw_at lw_m3 129 rfl) rfl
theorem q713 : (Jvm.Cond.constantLong "NobodysBard$Reader" (54 : Nat) (48 : Int64)) ∈ lw_all := lw_g (lw_at lw_m3 130 rfl) rfl
theorem q714 : (Jvm.Cond.constantLong "NobodysBard$Reader" (56 : Nat) (57 : Int64)) ∈ lw_all := lw_g (lw_at lw_m3 131 rfl) rfl
theorem q715 : (Jvm.Cond.methodLink "NobodysBard$Reader" (90 : Nat) ({ cls := "NobodysBard$Reader", name := "wrong", desc := "(I)V" } : Jvm.MethodName)) ∈ lw_all := lw_g (lw_at lw_m3 132 rfl) rfl
theorem q716 : (Jvm.Cond.privateMethod ({ cls := "NobodysBard$Reader", name := "wrong", desc := "(I)V" } : Jvm.MethodName)) ∈ lw_tbl := lw_at lw_m3 133 rfl
theorem q717 : (Jvm.Cond.instanceMethod ({ cls := "NobodysBard$Reader", name := "wrong", desc := "(I)V" } : Jvm.MethodName)) ∈ lw_all := lw_g (lw_at lw_m3 134 rfl) rfl
theorem q718 : (Jvm.Cond.code ({ cls := "NobodysBard$Reader", name := "wrong", desc := "(I)V" } : Jvm.MethodName) prog_19_method_6_code (2 : Nat) (Option.none : Option Jvm.ClassFile.FieldType)) ∈ lw_all := lw_g (lw_at lw_m3 135 rfl) rfl
theorem q719 : (Jvm.Cond.constantLong "NobodysBard$Reader" (100 : Nat) (255 : Int64)) ∈ lw_all := lw_g (lw_at lw_m3 136 rfl) rfl
theorem q720 : (Jvm.Cond.methodLink "NobodysBard$Reader" (102 : Nat) ({ cls := "java/util/ArrayList", name := "size", desc := "()I" } : Jvm.MethodName)) ∈ lw_all := lw_g (lw_at lw_m3 137 rfl) rfl
theorem q721 : (Jvm.Cond.classLink "NobodysBard$Reader" (104 : Nat) "NobodysBard$Rule") ∈ lw_all := lw_g (lw_at lw_m3 138 rfl) rfl
theorem q723 : (Jvm.Cond.methodLinkNest "NobodysBard$Reader" (106 : Nat) ({ cls := "NobodysBard$Rule", name := "<init>", desc := "()V" } : Jvm.MethodName) "NobodysBard") ∈ lw_tbl := lw_at lw_m3 140 rfl
theorem q730 : (Jvm.Cond.fieldLinkNest "NobodysBard$Reader" (107 : Nat) "NobodysBard$Rule" "from" "LNobodysBard$Phrase;" "NobodysBard") ∈ lw_tbl := lw_at lw_m3 147 rfl
theorem q732 : (Jvm.Cond.fieldLinkNest "NobodysBard$Reader" (121 : Nat) "NobodysBard$Rule" "to" "LNobodysBard$Phrase;" "NobodysBard") ∈ lw_tbl := lw_at lw_m3 149 rfl
theorem q734 : (Jvm.Cond.fieldLinkNest "NobodysBard$Reader" (130 : Nat) "NobodysBard$Rule" "test" "LNobodysBard$Test;" "NobodysBard") ∈ lw_tbl := lw_at lw_m3 151 rfl
theorem q742 : (Jvm.Cond.methodLink "NobodysBard$Reader" (111 : Nat) ({ cls := "NobodysBard$Reader", name := "side", desc := "(LNobodysBard$Phrase;)V" } : Jvm.MethodName)) ∈ lw_all := lw_g (lw_at lw_m3 159 rfl) rfl
theorem q743 : (Jvm.Cond.privateMethod ({ cls := "NobodysBard$Reader", name := "side", desc := "(LNobodysBard$Phrase;)V" } : Jvm.MethodName)) ∈ lw_tbl := lw_at lw_m3 160 rfl
theorem q744 : (Jvm.Cond.instanceMethod ({ cls := "NobodysBard$Reader", name := "side", desc := "(LNobodysBard$Phrase;)V" } : Jvm.MethodName)) ∈ lw_all := lw_g (lw_at lw_m3 161 rfl) rfl
theorem q745 : (Jvm.Cond.code ({ cls := "NobodysBard$Reader", name := "side", desc := "(LNobodysBard$Phrase;)V" } : Jvm.MethodName) prog_19_method_12_code (2 : Nat) (Option.none : Option Jvm.ClassFile.FieldType)) ∈ lw_all := lw_g (lw_at lw_m3 162 rfl) rfl
theorem q746 : (Jvm.Cond.methodLink "NobodysBard$Reader" (145 : Nat) ({ cls := "NobodysBard$Reader", name := "number", desc := "(II)I" } : Jvm.MethodName)) ∈ lw_all := lw_g (lw_at lw_m3 163 rfl) rfl
theorem q747 : (Jvm.Cond.privateMethod ({ cls := "NobodysBard$Reader", name := "number", desc := "(II)I" } : Jvm.MethodName)) ∈ lw_tbl := lw_at lw_m3 164 rfl
theorem q748 : (Jvm.Cond.instanceMethod ({ cls := "NobodysBard$Reader", name := "number", desc := "(II)I" } : Jvm.MethodName)) ∈ lw_all := lw_g (lw_at lw_m3 165 rfl) rfl
theorem q749 : (Jvm.Cond.code ({ cls := "NobodysBard$Reader", name := "number", desc := "(II)I" } : Jvm.MethodName) prog_19_method_8_code (4 : Nat) (Option.some Jvm.ClassFile.FieldType.int)) ∈ lw_all := lw_g (lw_at lw_m3 166 rfl) rfl
theorem q750 : (Jvm.Cond.methodLink "NobodysBard$Reader" (149 : Nat) ({ cls := "NobodysBard$Phrase", name := "adds", desc := "(I)V" } : Jvm.MethodName)) ∈ lw_all := lw_g (lw_at lw_m3 167 rfl) rfl
theorem q751 : (Jvm.Cond.stringRef "NobodysBard$Reader" (115 : Nat) "become") ∈ lw_tbl := lw_at lw_m3 168 rfl
theorem q752 : (Jvm.Cond.methodLink "NobodysBard$Reader" (117 : Nat) ({ cls := "NobodysBard$Reader", name := "takes", desc := "(Ljava/lang/String;)V" } : Jvm.MethodName)) ∈ lw_all := lw_g (lw_at lw_m3 169 rfl) rfl
theorem q753 : (Jvm.Cond.privateMethod ({ cls := "NobodysBard$Reader", name := "takes", desc := "(Ljava/lang/String;)V" } : Jvm.MethodName)) ∈ lw_tbl := lw_at lw_m3 170 rfl
theorem q754 : (Jvm.Cond.instanceMethod ({ cls := "NobodysBard$Reader", name := "takes", desc := "(Ljava/lang/String;)V" } : Jvm.MethodName)) ∈ lw_all := lw_g (lw_at lw_m3 171 rfl) rfl
theorem q755 : (Jvm.Cond.code ({ cls := "NobodysBard$Reader", name := "takes", desc := "(Ljava/lang/String;)V" } : Jvm.MethodName) prog_19_method_9_code (2 : Nat) (Option.none : Option Jvm.ClassFile.FieldType)) ∈ lw_all := lw_g (lw_at lw_m3 172 rfl) rfl
theorem q756 : (Jvm.Cond.methodLink "NobodysBard$Reader" (96 : Nat) ({ cls := "NobodysBard$Reader", name := "is", desc := "(Ljava/lang/String;)Z" } : Jvm.MethodName)) ∈ lw_all := lw_g (lw_at lw_m3 173 rfl) rfl
theorem q757 : (Jvm.Cond.privateMethod ({ cls := "NobodysBard$Reader", name := "is", desc := "(Ljava/lang/String;)Z" } : Jvm.MethodName)) ∈ lw_tbl := lw_at lw_m3 174 rfl
theorem q758 : (Jvm.Cond.instanceMethod ({ cls := "NobodysBard$Reader", name := "is", desc := "(Ljava/lang/String;)Z" } : Jvm.MethodName)) ∈ lw_all := lw_g (lw_at lw_m3 175 rfl) rfl
theorem q759 : (Jvm.Cond.code ({ cls := "NobodysBard$Reader", name := "is", desc := "(Ljava/lang/String;)Z" } : Jvm.MethodName) prog_19_method_7_code (3 : Nat) (Option.some Jvm.ClassFile.FieldType.boolean)) ∈ lw_all := lw_g (lw_at lw_m3 176 rfl) rfl
theorem q760 : (Jvm.Cond.methodLink "NobodysBard$Reader" (80 : Nat) ({ cls := "java/lang/String", name := "length", desc := "()I" } : Jvm.MethodName)) ∈ lw_all := lw_g (lw_at lw_m3 177 rfl) rfl
theorem q770 : (Jvm.Cond.methodLink "NobodysBard$Reader" (86 : Nat) ({ cls := "java/lang/String", name := "charAt", desc := "(I)C" } : Jvm.MethodName)) ∈ lw_all := lw_g (lw_at lw_m3 187 rfl) rfl
theorem q806 : (Jvm.Cond.stringRef "NobodysBard$Reader" (124 : Nat) "if") ∈ lw_tbl := lw_at lw_m3 223 rfl
theorem q807 : (Jvm.Cond.methodLink "NobodysBard$Reader" (126 : Nat) ({ cls := "NobodysBard$Reader", name := "test", desc := "()LNobodysBard$Test;" } : Jvm.MethodName)) ∈ lw_all := lw_g (lw_at lw_m3 224 rfl) rfl
theorem q808 : (Jvm.Cond.privateMethod ({ cls := "NobodysBard$Reader", name := "test", desc := "()LNobodysBard$Test;" } : Jvm.MethodName)) ∈ lw_tbl := lw_at lw_m3 225 rfl
theorem q809 : (Jvm.Cond.instanceMethod ({ cls := "NobodysBard$Reader", name := "test", desc := "()LNobodysBard$Test;" } : Jvm.MethodName)) ∈ lw_all := lw_g (lw_at lw_m3 226 rfl) rfl
theorem q810 : (Jvm.Cond.code ({ cls := "NobodysBard$Reader", name := "test", desc := "()LNobodysBard$Test;" } : Jvm.MethodName) prog_19_method_13_code (2 : Nat) (Option.some (Jvm.ClassFile.FieldType.object "NobodysBard$Test"))) ∈ lw_all := lw_g (lw_at lw_m3 227 rfl) rfl
theorem q811 : (Jvm.Cond.methodLink "NobodysBard$Reader" (152 : Nat) ({ cls := "NobodysBard$Reader", name := "part", desc := "()LNobodysBard$Test;" } : Jvm.MethodName)) ∈ lw_all := lw_g (lw_at lw_m3 228 rfl) rfl
theorem q812 : (Jvm.Cond.privateMethod ({ cls := "NobodysBard$Reader", name := "part", desc := "()LNobodysBard$Test;" } : Jvm.MethodName)) ∈ lw_tbl := lw_at lw_m3 229 rfl
theorem q813 : (Jvm.Cond.instanceMethod ({ cls := "NobodysBard$Reader", name := "part", desc := "()LNobodysBard$Test;" } : Jvm.MethodName)) ∈ lw_all := lw_g (lw_at lw_m3 230 rfl) rfl
theorem q814 : (Jvm.Cond.code ({ cls := "NobodysBard$Reader", name := "part", desc := "()LNobodysBard$Test;" } : Jvm.MethodName) prog_19_method_14_code (2 : Nat) (Option.some (Jvm.ClassFile.FieldType.object "NobodysBard$Test"))) ∈ lw_all := lw_g (lw_at lw_m3 231 rfl) rfl
theorem q815 : (Jvm.Cond.methodLink "NobodysBard$Reader" (162 : Nat) ({ cls := "NobodysBard$Reader", name := "fact", desc := "()LNobodysBard$Test;" } : Jvm.MethodName)) ∈ lw_all := lw_g (lw_at lw_m3 232 rfl) rfl
theorem q816 : (Jvm.Cond.privateMethod ({ cls := "NobodysBard$Reader", name := "fact", desc := "()LNobodysBard$Test;" } : Jvm.MethodName)) ∈ lw_tbl := lw_at lw_m3 233 rfl
theorem q817 : (Jvm.Cond.instanceMethod ({ cls := "NobodysBard$Reader", name := "fact", desc := "()LNobodysBard$Test;" } : Jvm.MethodName)) ∈ lw_all := lw_g (lw_at lw_m3 234 rfl) rfl
theorem q818 : (Jvm.Cond.code ({ cls := "NobodysBard$Reader", name := "fact", desc := "()LNobodysBard$Test;" } : Jvm.MethodName) prog_19_method_16_code (2 : Nat) (Option.some (Jvm.ClassFile.FieldType.object "NobodysBard$Test"))) ∈ lw_all := lw_g (lw_at lw_m3 235 rfl) rfl
theorem q819 : (Jvm.Cond.stringRef "NobodysBard$Reader" (170 : Nat) "not") ∈ lw_tbl := lw_at lw_m3 236 rfl
theorem q820 : (Jvm.Cond.methodLink "NobodysBard$Reader" (172 : Nat) ({ cls := "NobodysBard$Reader", name := "opens", desc := "()V" } : Jvm.MethodName)) ∈ lw_all := lw_g (lw_at lw_m3 237 rfl) rfl
theorem q821 : (Jvm.Cond.privateMethod ({ cls := "NobodysBard$Reader", name := "opens", desc := "()V" } : Jvm.MethodName)) ∈ lw_tbl := lw_at lw_m3 238 rfl
theorem q822 : (Jvm.Cond.instanceMethod ({ cls := "NobodysBard$Reader", name := "opens", desc := "()V" } : Jvm.MethodName)) ∈ lw_all := lw_g (lw_at lw_m3 239 rfl) rfl
theorem q823 : (Jvm.Cond.code ({ cls := "NobodysBard$Reader", name := "opens", desc := "()V" } : Jvm.MethodName) prog_19_method_15_code (1 : Nat) (Option.none : Option Jvm.ClassFile.FieldType)) ∈ lw_all := lw_g (lw_at lw_m4 0 rfl) rfl
theorem q824 : (Jvm.Cond.classLink "NobodysBard$Reader" (175 : Nat) "NobodysBard$Not") ∈ lw_all := lw_g (lw_at lw_m4 1 rfl) rfl
theorem q826 : (Jvm.Cond.methodLink "NobodysBard$Reader" (177 : Nat) ({ cls := "NobodysBard$Not", name := "<init>", desc := "(LNobodysBard$Test;)V" } : Jvm.MethodName)) ∈ lw_all := lw_g (lw_at lw_m4 3 rfl) rfl
theorem q834 : (Jvm.Cond.stringRef "NobodysBard$Reader" (180 : Nat) "has") ∈ lw_tbl := lw_at lw_m4 11 rfl
theorem q835 : (Jvm.Cond.classLink "NobodysBard$Reader" (182 : Nat) "NobodysBard$Has") ∈ lw_all := lw_g (lw_at lw_m4 12 rfl) rfl
theorem q837 : (Jvm.Cond.methodLink "NobodysBard$Reader" (184 : Nat) ({ cls := "NobodysBard$Has", name := "<init>", desc := "(I)V" } : Jvm.MethodName)) ∈ lw_all := lw_g (lw_at lw_m4 14 rfl) rfl
theorem q845 : (Jvm.Cond.stringRef "NobodysBard$Reader" (185 : Nat) "long") ∈ lw_tbl := lw_at lw_m4 22 rfl
theorem q846 : (Jvm.Cond.classLink "NobodysBard$Reader" (187 : Nat) "NobodysBard$AsLong") ∈ lw_all := lw_g (lw_at lw_m4 23 rfl) rfl
theorem q848 : (Jvm.Cond.methodLink "NobodysBard$Reader" (189 : Nat) ({ cls := "NobodysBard$AsLong", name := "<init>", desc := "(I)V" } : Jvm.MethodName)) ∈ lw_all := lw_g (lw_at lw_m4 25 rfl) rfl
theorem q856 : (Jvm.Cond.stringRef "NobodysBard$Reader" (190 : Nat) "tale") ∈ lw_tbl := lw_at lw_m4 33 rfl
theorem q857 : (Jvm.Cond.classLink "NobodysBard$Reader" (192 : Nat) "NobodysBard$OfTale") ∈ lw_all := lw_g (lw_at lw_m4 34 rfl) rfl
theorem q859 : (Jvm.Cond.methodLink "NobodysBard$Reader" (194 : Nat) ({ cls := "NobodysBard$OfTale", name := "<init>", desc := "(I)V" } : Jvm.MethodName)) ∈ lw_all := lw_g (lw_at lw_m4 36 rfl) rfl
theorem q867 : (Jvm.Cond.stringRef "NobodysBard$Reader" (165 : Nat) "and") ∈ lw_tbl := lw_at lw_m4 44 rfl
theorem q868 : (Jvm.Cond.classLink "NobodysBard$Reader" (157 : Nat) "NobodysBard$Both") ∈ lw_all := lw_g (lw_at lw_m4 45 rfl) rfl
theorem q870 : (Jvm.Cond.methodLink "NobodysBard$Reader" (159 : Nat) ({ cls := "NobodysBard$Both", name := "<init>", desc := "(ZLNobodysBard$Test;LNobodysBard$Test;)V" } : Jvm.MethodName)) ∈ lw_all := lw_g (lw_at lw_m4 47 rfl) rfl
theorem q884 : (Jvm.Cond.stringRef "NobodysBard$Reader" (155 : Nat) "or") ∈ lw_tbl := lw_at lw_m4 61 rfl
theorem q885 : (Jvm.Cond.methodLink "NobodysBard$Reader" (133 : Nat) ({ cls := "NobodysBard$Reader", name := "over", desc := "()V" } : Jvm.MethodName)) ∈ lw_all := lw_g (lw_at lw_m4 62 rfl) rfl
theorem q886 : (Jvm.Cond.privateMethod ({ cls := "NobodysBard$Reader", name := "over", desc := "()V" } : Jvm.MethodName)) ∈ lw_tbl := lw_at lw_m4 63 rfl
theorem q887 : (Jvm.Cond.instanceMethod ({ cls := "NobodysBard$Reader", name := "over", desc := "()V" } : Jvm.MethodName)) ∈ lw_all := lw_g (lw_at lw_m4 64 rfl) rfl
theorem q888 : (Jvm.Cond.code ({ cls := "NobodysBard$Reader", name := "over", desc := "()V" } : Jvm.MethodName) prog_19_method_10_code (1 : Nat) (Option.none : Option Jvm.ClassFile.FieldType)) ∈ lw_all := lw_g (lw_at lw_m4 65 rfl) rfl
theorem q889 : (Jvm.Cond.methodLink "NobodysBard$Reader" (136 : Nat) ({ cls := "java/util/ArrayList", name := "add", desc := "(Ljava/lang/Object;)Z" } : Jvm.MethodName)) ∈ lw_all := lw_g (lw_at lw_m4 66 rfl) rfl
theorem q891 : (Jvm.Cond.instanceMethod ({ cls := "NobodysBard$Reader", name := "law", desc := "()V" } : Jvm.MethodName)) ∈ lw_all := lw_g (lw_at lw_m4 68 rfl) rfl
theorem q892 : (Jvm.Cond.selects "NobodysBard$Reader" ({ cls := "NobodysBard$Reader", name := "law", desc := "()V" } : Jvm.MethodName) ({ cls := "NobodysBard$Reader", name := "law", desc := "()V" } : Jvm.MethodName)) ∈ lw_all := lw_g (lw_at lw_m4 69 rfl) rfl
theorem q893 : (Jvm.Cond.code ({ cls := "NobodysBard$Reader", name := "law", desc := "()V" } : Jvm.MethodName) prog_19_method_17_code (2 : Nat) (Option.none : Option Jvm.ClassFile.FieldType)) ∈ lw_all := lw_g (lw_at lw_m4 70 rfl) rfl
theorem q894 : (Jvm.Cond.stringRef "NobodysBard$Reader" (195 : Nat) "lose") ∈ lw_tbl := lw_at lw_m4 71 rfl
theorem q895 : (Jvm.Cond.stringRef "NobodysBard$Reader" (197 : Nat) "move") ∈ lw_tbl := lw_at lw_m4 72 rfl
theorem q896 : (Jvm.Cond.stringRef "NobodysBard$Reader" (199 : Nat) "smooth") ∈ lw_tbl := lw_at lw_m4 73 rfl
theorem q897 : (Jvm.Cond.stringRef "NobodysBard$Reader" (201 : Nat) "say") ∈ lw_tbl := lw_at lw_m4 74 rfl
theorem q898 : (Jvm.Cond.methodLink "NobodysBard$Reader" (206 : Nat) ({ cls := "NobodysBard$Reader", name := "way", desc := "()V" } : Jvm.MethodName)) ∈ lw_all := lw_g (lw_at lw_m4 75 rfl) rfl
theorem q899 : (Jvm.Cond.privateMethod ({ cls := "NobodysBard$Reader", name := "way", desc := "()V" } : Jvm.MethodName)) ∈ lw_tbl := lw_at lw_m4 76 rfl
theorem q900 : (Jvm.Cond.instanceMethod ({ cls := "NobodysBard$Reader", name := "way", desc := "()V" } : Jvm.MethodName)) ∈ lw_all := lw_g (lw_at lw_m4 77 rfl) rfl
theorem q901 : (Jvm.Cond.code ({ cls := "NobodysBard$Reader", name := "way", desc := "()V" } : Jvm.MethodName) prog_19_method_18_code (6 : Nat) (Option.none : Option Jvm.ClassFile.FieldType)) ∈ lw_all := lw_g (lw_at lw_m4 78 rfl) rfl
theorem q902 : (Jvm.Cond.stringRef "NobodysBard$Reader" (215 : Nat) "for") ∈ lw_tbl := lw_at lw_m4 79 rfl
theorem q2179 : (Jvm.Cond.castable "NobodysBard$Reader" "java/lang/Object") ∈ lw_tbl := lw_at lw_m9 156 rfl
theorem in_X10 : ∀ w ∈ wsX100, w ∈ lw_all := lw_in wsX100 [667, 669, 671, 673, 675, 677, 679, 681, 683, 685, 687] (by decide +kernel) (by decide +kernel)
