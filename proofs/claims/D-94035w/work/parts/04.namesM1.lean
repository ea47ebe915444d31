set_option maxRecDepth 100000
abbrev cX6_reads : ByteArray := prog_28_method_27_code
def yX6_reads : MethodName := ⟨RX6, "reads", "(IIZ)I"⟩
def dkwX6_reads_2 : List UInt8 := [182, 0, 173, 42, 180, 0, 155, 54, 4, 42, 180, 0, 158, 154, 0, 7, 42, 182, 0, 167, 21, 4, 172]
abbrev dktX6_reads_2 : List UInt8 := dkwX6_reads_2 ++ []
def dkwX6_reads_1 : List UInt8 := [28, 133, 184, 0, 81, 154, 0, 11, 42, 6, 182, 0, 173, 167, 0, 12, 29, 153, 0, 8, 42, 7]
abbrev dktX6_reads_1 : List UInt8 := dkwX6_reads_1 ++ dktX6_reads_2
def dkwX6_reads_0 : List UInt8 := [42, 16, 14, 182, 0, 164, 154, 0, 11, 42, 5, 182, 0, 173, 167, 0, 35, 42, 180, 0, 155, 133, 27, 133]
abbrev dktX6_reads_0 : List UInt8 := dkwX6_reads_0 ++ dktX6_reads_1
theorem dksX6_reads_0 : cX6_reads.data.toList.drop 0 = dktX6_reads_0 := by decide +kernel
theorem dksX6_reads_1 : cX6_reads.data.toList.drop 24 = dktX6_reads_1 := dk_seg dksX6_reads_0 24 rfl rfl
theorem dksX6_reads_2 : cX6_reads.data.toList.drop 46 = dktX6_reads_2 := dk_seg dksX6_reads_1 22 rfl rfl
theorem dX6_reads_0 : decode cX6_reads 0 = .ok (.aload_n 0, 1) := dk_42 (dk_at dksX6_reads_0 0 rfl rfl)
theorem dX6_reads_1 : decode cX6_reads 1 = .ok (.bipush 14, 2) := dk_16 14 (dk_at dksX6_reads_0 1 rfl rfl)
theorem dX6_reads_3 : decode cX6_reads 3 = .ok (.invokevirtual 164, 3) := dk_182 0 164 (dk_at dksX6_reads_0 3 rfl rfl)
theorem dX6_reads_6 : decode cX6_reads 6 = .ok (.ifCond .ne 11, 3) := dk_154 0 11 (dk_at dksX6_reads_0 6 rfl rfl)
theorem dX6_reads_9 : decode cX6_reads 9 = .ok (.aload_n 0, 1) := dk_42 (dk_at dksX6_reads_0 9 rfl rfl)
theorem dX6_reads_10 : decode cX6_reads 10 = .ok (.iconst 2, 1) := dk_5 (dk_at dksX6_reads_0 10 rfl rfl)
theorem dX6_reads_11 : decode cX6_reads 11 = .ok (.invokevirtual 173, 3) := dk_182 0 173 (dk_at dksX6_reads_0 11 rfl rfl)
theorem dX6_reads_14 : decode cX6_reads 14 = .ok (.goto 35, 3) := dk_167 0 35 (dk_at dksX6_reads_0 14 rfl rfl)
theorem dX6_reads_17 : decode cX6_reads 17 = .ok (.aload_n 0, 1) := dk_42 (dk_at dksX6_reads_0 17 rfl rfl)
theorem dX6_reads_18 : decode cX6_reads 18 = .ok (.getfield 155, 3) := dk_180 0 155 (dk_at dksX6_reads_0 18 rfl rfl)
theorem dX6_reads_21 : decode cX6_reads 21 = .ok (.i2l, 1) := dk_133 (dk_at dksX6_reads_0 21 rfl rfl)
theorem dX6_reads_22 : decode cX6_reads 22 = .ok (.iload_n 1, 1) := dk_27 (dk_at dksX6_reads_0 22 rfl rfl)
theorem dX6_reads_23 : decode cX6_reads 23 = .ok (.i2l, 1) := dk_133 (dk_at dksX6_reads_0 23 rfl rfl)
theorem dX6_reads_24 : decode cX6_reads 24 = .ok (.iload_n 2, 1) := dk_28 (dk_at dksX6_reads_1 0 rfl rfl)
theorem dX6_reads_25 : decode cX6_reads 25 = .ok (.i2l, 1) := dk_133 (dk_at dksX6_reads_1 1 rfl rfl)
theorem dX6_reads_26 : decode cX6_reads 26 = .ok (.invokestatic 81, 3) := dk_184 0 81 (dk_at dksX6_reads_1 2 rfl rfl)
theorem dX6_reads_29 : decode cX6_reads 29 = .ok (.ifCond .ne 11, 3) := dk_154 0 11 (dk_at dksX6_reads_1 5 rfl rfl)
theorem dX6_reads_32 : decode cX6_reads 32 = .ok (.aload_n 0, 1) := dk_42 (dk_at dksX6_reads_1 8 rfl rfl)
theorem dX6_reads_33 : decode cX6_reads 33 = .ok (.iconst 3, 1) := dk_6 (dk_at dksX6_reads_1 9 rfl rfl)
theorem dX6_reads_34 : decode cX6_reads 34 = .ok (.invokevirtual 173, 3) := dk_182 0 173 (dk_at dksX6_reads_1 10 rfl rfl)
theorem dX6_reads_37 : decode cX6_reads 37 = .ok (.goto 12, 3) := dk_167 0 12 (dk_at dksX6_reads_1 13 rfl rfl)
theorem dX6_reads_40 : decode cX6_reads 40 = .ok (.iload_n 3, 1) := dk_29 (dk_at dksX6_reads_1 16 rfl rfl)
theorem dX6_reads_41 : decode cX6_reads 41 = .ok (.ifCond .eq 8, 3) := dk_153 0 8 (dk_at dksX6_reads_1 17 rfl rfl)
theorem dX6_reads_44 : decode cX6_reads 44 = .ok (.aload_n 0, 1) := dk_42 (dk_at dksX6_reads_1 20 rfl rfl)
theorem dX6_reads_45 : decode cX6_reads 45 = .ok (.iconst 4, 1) := dk_7 (dk_at dksX6_reads_1 21 rfl rfl)
theorem dX6_reads_46 : decode cX6_reads 46 = .ok (.invokevirtual 173, 3) := dk_182 0 173 (dk_at dksX6_reads_2 0 rfl rfl)
theorem dX6_reads_49 : decode cX6_reads 49 = .ok (.aload_n 0, 1) := dk_42 (dk_at dksX6_reads_2 3 rfl rfl)
theorem dX6_reads_50 : decode cX6_reads 50 = .ok (.getfield 155, 3) := dk_180 0 155 (dk_at dksX6_reads_2 4 rfl rfl)
theorem dX6_reads_53 : decode cX6_reads 53 = .ok (.istore 4, 2) := dk_54 4 (dk_at dksX6_reads_2 7 rfl rfl)
theorem dX6_reads_55 : decode cX6_reads 55 = .ok (.aload_n 0, 1) := dk_42 (dk_at dksX6_reads_2 9 rfl rfl)
theorem dX6_reads_56 : decode cX6_reads 56 = .ok (.getfield 158, 3) := dk_180 0 158 (dk_at dksX6_reads_2 10 rfl rfl)
theorem dX6_reads_59 : decode cX6_reads 59 = .ok (.ifCond .ne 7, 3) := dk_154 0 7 (dk_at dksX6_reads_2 13 rfl rfl)
theorem dX6_reads_62 : decode cX6_reads 62 = .ok (.aload_n 0, 1) := dk_42 (dk_at dksX6_reads_2 16 rfl rfl)
theorem dX6_reads_63 : decode cX6_reads 63 = .ok (.invokevirtual 167, 3) := dk_182 0 167 (dk_at dksX6_reads_2 17 rfl rfl)
theorem dX6_reads_66 : decode cX6_reads 66 = .ok (.iload 4, 2) := dk_21 4 (dk_at dksX6_reads_2 20 rfl rfl)
theorem dX6_reads_68 : decode cX6_reads 68 = .ok (.ireturn, 1) := dk_172 (dk_at dksX6_reads_2 22 rfl rfl)
abbrev cX6_is : ByteArray := prog_28_method_24_code
def yX6_is : MethodName := ⟨RX6, "is", "(I)Z"⟩
def dkwX6_is_0 : List UInt8 := [42, 180, 0, 158, 154, 0, 15, 42, 180, 0, 142, 27, 160, 0, 7, 4, 167, 0, 4, 3, 172]
abbrev dktX6_is_0 : List UInt8 := dkwX6_is_0 ++ []
theorem dksX6_is_0 : cX6_is.data.toList.drop 0 = dktX6_is_0 := by decide +kernel
theorem dX6_is_0 : decode cX6_is 0 = .ok (.aload_n 0, 1) := dk_42 (dk_at dksX6_is_0 0 rfl rfl)
theorem dX6_is_1 : decode cX6_is 1 = .ok (.getfield 158, 3) := dk_180 0 158 (dk_at dksX6_is_0 1 rfl rfl)
theorem dX6_is_4 : decode cX6_is 4 = .ok (.ifCond .ne 15, 3) := dk_154 0 15 (dk_at dksX6_is_0 4 rfl rfl)
theorem dX6_is_7 : decode cX6_is 7 = .ok (.aload_n 0, 1) := dk_42 (dk_at dksX6_is_0 7 rfl rfl)
theorem dX6_is_8 : decode cX6_is 8 = .ok (.getfield 142, 3) := dk_180 0 142 (dk_at dksX6_is_0 8 rfl rfl)
theorem dX6_is_11 : decode cX6_is 11 = .ok (.iload_n 1, 1) := dk_27 (dk_at dksX6_is_0 11 rfl rfl)
theorem dX6_is_12 : decode cX6_is 12 = .ok (.if_icmp .ne 7, 3) := dk_160 0 7 (dk_at dksX6_is_0 12 rfl rfl)
theorem dX6_is_15 : decode cX6_is 15 = .ok (.iconst 1, 1) := dk_4 (dk_at dksX6_is_0 15 rfl rfl)
theorem dX6_is_16 : decode cX6_is 16 = .ok (.goto 4, 3) := dk_167 0 4 (dk_at dksX6_is_0 16 rfl rfl)
theorem dX6_is_19 : decode cX6_is 19 = .ok (.iconst 0, 1) := dk_3 (dk_at dksX6_is_0 19 rfl rfl)
theorem dX6_is_20 : decode cX6_is 20 = .ok (.ireturn, 1) := dk_172 (dk_at dksX6_is_0 20 rfl rfl)
abbrev cX6_fails : ByteArray := prog_28_method_23_code
def yX6_fails : MethodName := ⟨RX6, "fails", "(I)V"⟩
def dkwX6_fails_1 : List UInt8 := [181, 0, 158, 42, 42, 180, 0, 133, 181, 0, 161, 177]
abbrev dktX6_fails_1 : List UInt8 := dkwX6_fails_1 ++ []
def dkwX6_fails_0 : List UInt8 := [42, 180, 0, 158, 153, 0, 4, 177, 42, 42, 180, 0, 142, 16, 19, 160, 0, 7, 4, 167, 0, 4, 27]
abbrev dktX6_fails_0 : List UInt8 := dkwX6_fails_0 ++ dktX6_fails_1
theorem dksX6_fails_0 : cX6_fails.data.toList.drop 0 = dktX6_fails_0 := by decide +kernel
theorem dksX6_fails_1 : cX6_fails.data.toList.drop 23 = dktX6_fails_1 := dk_seg dksX6_fails_0 23 rfl rfl
theorem dX6_fails_0 : decode cX6_fails 0 = .ok (.aload_n 0, 1) := dk_42 (dk_at dksX6_fails_0 0 rfl rfl)
theorem dX6_fails_1 : decode cX6_fails 1 = .ok (.getfield 158, 3) := dk_180 0 158 (dk_at dksX6_fails_0 1 rfl rfl)
theorem dX6_fails_4 : decode cX6_fails 4 = .ok (.ifCond .eq 4, 3) := dk_153 0 4 (dk_at dksX6_fails_0 4 rfl rfl)
theorem dX6_fails_7 : decode cX6_fails 7 = .ok (.return_, 1) := dk_177 (dk_at dksX6_fails_0 7 rfl rfl)
theorem dX6_fails_8 : decode cX6_fails 8 = .ok (.aload_n 0, 1) := dk_42 (dk_at dksX6_fails_0 8 rfl rfl)
theorem dX6_fails_9 : decode cX6_fails 9 = .ok (.aload_n 0, 1) := dk_42 (dk_at dksX6_fails_0 9 rfl rfl)
theorem dX6_fails_10 : decode cX6_fails 10 = .ok (.getfield 142, 3) := dk_180 0 142 (dk_at dksX6_fails_0 10 rfl rfl)
theorem dX6_fails_13 : decode cX6_fails 13 = .ok (.bipush 19, 2) := dk_16 19 (dk_at dksX6_fails_0 13 rfl rfl)
theorem dX6_fails_15 : decode cX6_fails 15 = .ok (.if_icmp .ne 7, 3) := dk_160 0 7 (dk_at dksX6_fails_0 15 rfl rfl)
theorem dX6_fails_18 : decode cX6_fails 18 = .ok (.iconst 1, 1) := dk_4 (dk_at dksX6_fails_0 18 rfl rfl)
theorem dX6_fails_19 : decode cX6_fails 19 = .ok (.goto 4, 3) := dk_167 0 4 (dk_at dksX6_fails_0 19 rfl rfl)
theorem dX6_fails_22 : decode cX6_fails 22 = .ok (.iload_n 1, 1) := dk_27 (dk_at dksX6_fails_0 22 rfl rfl)
theorem dX6_fails_23 : decode cX6_fails 23 = .ok (.putfield 158, 3) := dk_181 0 158 (dk_at dksX6_fails_1 0 rfl rfl)
theorem dX6_fails_26 : decode cX6_fails 26 = .ok (.aload_n 0, 1) := dk_42 (dk_at dksX6_fails_1 3 rfl rfl)
theorem dX6_fails_27 : decode cX6_fails 27 = .ok (.aload_n 0, 1) := dk_42 (dk_at dksX6_fails_1 4 rfl rfl)
theorem dX6_fails_28 : decode cX6_fails 28 = .ok (.getfield 133, 3) := dk_180 0 133 (dk_at dksX6_fails_1 5 rfl rfl)
theorem dX6_fails_31 : decode cX6_fails 31 = .ok (.putfield 161, 3) := dk_181 0 161 (dk_at dksX6_fails_1 8 rfl rfl)
theorem dX6_fails_34 : decode cX6_fails 34 = .ok (.return_, 1) := dk_177 (dk_at dksX6_fails_1 11 rfl rfl)
abbrev cX6_needs : ByteArray := prog_28_method_26_code
def yX6_needs : MethodName := ⟨RX6, "needs", "(I)V"⟩
def dkwX6_needs_0 : List UInt8 := [42, 27, 182, 0, 170, 154, 0, 8, 42, 5, 182, 0, 173, 177]
abbrev dktX6_needs_0 : List UInt8 := dkwX6_needs_0 ++ []
theorem dksX6_needs_0 : cX6_needs.data.toList.drop 0 = dktX6_needs_0 := by decide +kernel
theorem dX6_needs_0 : decode cX6_needs 0 = .ok (.aload_n 0, 1) := dk_42 (dk_at dksX6_needs_0 0 rfl rfl)
theorem dX6_needs_1 : decode cX6_needs 1 = .ok (.iload_n 1, 1) := dk_27 (dk_at dksX6_needs_0 1 rfl rfl)
theorem dX6_needs_2 : decode cX6_needs 2 = .ok (.invokevirtual 170, 3) := dk_182 0 170 (dk_at dksX6_needs_0 2 rfl rfl)
theorem dX6_needs_5 : decode cX6_needs 5 = .ok (.ifCond .ne 8, 3) := dk_154 0 8 (dk_at dksX6_needs_0 5 rfl rfl)
theorem dX6_needs_8 : decode cX6_needs 8 = .ok (.aload_n 0, 1) := dk_42 (dk_at dksX6_needs_0 8 rfl rfl)
theorem dX6_needs_9 : decode cX6_needs 9 = .ok (.iconst 2, 1) := dk_5 (dk_at dksX6_needs_0 9 rfl rfl)
theorem dX6_needs_10 : decode cX6_needs 10 = .ok (.invokevirtual 173, 3) := dk_182 0 173 (dk_at dksX6_needs_0 10 rfl rfl)
theorem dX6_needs_13 : decode cX6_needs 13 = .ok (.return_, 1) := dk_177 (dk_at dksX6_needs_0 13 rfl rfl)
abbrev cX6_eats : ByteArray := prog_28_method_25_code
def yX6_eats : MethodName := ⟨RX6, "eats", "(I)Z"⟩
def dkwX6_eats_0 : List UInt8 := [42, 27, 182, 0, 164, 154, 0, 5, 3, 172, 42, 182, 0, 167, 4, 172]
abbrev dktX6_eats_0 : List UInt8 := dkwX6_eats_0 ++ []
theorem dksX6_eats_0 : cX6_eats.data.toList.drop 0 = dktX6_eats_0 := by decide +kernel
theorem dX6_eats_0 : decode cX6_eats 0 = .ok (.aload_n 0, 1) := dk_42 (dk_at dksX6_eats_0 0 rfl rfl)
theorem dX6_eats_1 : decode cX6_eats 1 = .ok (.iload_n 1, 1) := dk_27 (dk_at dksX6_eats_0 1 rfl rfl)
theorem dX6_eats_2 : decode cX6_eats 2 = .ok (.invokevirtual 164, 3) := dk_182 0 164 (dk_at dksX6_eats_0 2 rfl rfl)
theorem dX6_eats_5 : decode cX6_eats 5 = .ok (.ifCond .ne 5, 3) := dk_154 0 5 (dk_at dksX6_eats_0 5 rfl rfl)
theorem dX6_eats_8 : decode cX6_eats 8 = .ok (.iconst 0, 1) := dk_3 (dk_at dksX6_eats_0 8 rfl rfl)
theorem dX6_eats_9 : decode cX6_eats 9 = .ok (.ireturn, 1) := dk_172 (dk_at dksX6_eats_0 9 rfl rfl)
theorem dX6_eats_10 : decode cX6_eats 10 = .ok (.aload_n 0, 1) := dk_42 (dk_at dksX6_eats_0 10 rfl rfl)
theorem dX6_eats_11 : decode cX6_eats 11 = .ok (.invokevirtual 167, 3) := dk_182 0 167 (dk_at dksX6_eats_0 11 rfl rfl)
theorem dX6_eats_14 : decode cX6_eats 14 = .ok (.iconst 1, 1) := dk_4 (dk_at dksX6_eats_0 14 rfl rfl)
theorem dX6_eats_15 : decode cX6_eats 15 = .ok (.ireturn, 1) := dk_172 (dk_at dksX6_eats_0 15 rfl rfl)
abbrev cX6_test : ByteArray := prog_28_method_29_code
def yX6_test : MethodName := ⟨RX6, "test", "()V"⟩
def dkwX6_test_1 : List UInt8 := [7, 3, 182, 0, 183, 167, 255, 231, 177]
abbrev dktX6_test_1 : List UInt8 := dkwX6_test_1 ++ []
def dkwX6_test_0 : List UInt8 := [42, 182, 0, 180, 42, 7, 182, 0, 170, 153, 0, 23, 42, 182, 0, 180, 42, 180, 0, 158, 154, 255, 240, 42]
abbrev dktX6_test_0 : List UInt8 := dkwX6_test_0 ++ dktX6_test_1
theorem dksX6_test_0 : cX6_test.data.toList.drop 0 = dktX6_test_0 := by decide +kernel
theorem dksX6_test_1 : cX6_test.data.toList.drop 24 = dktX6_test_1 := dk_seg dksX6_test_0 24 rfl rfl
theorem dX6_test_0 : decode cX6_test 0 = .ok (.aload_n 0, 1) := dk_42 (dk_at dksX6_test_0 0 rfl rfl)
theorem dX6_test_1 : decode cX6_test 1 = .ok (.invokevirtual 180, 3) := dk_182 0 180 (dk_at dksX6_test_0 1 rfl rfl)
theorem dX6_test_4 : decode cX6_test 4 = .ok (.aload_n 0, 1) := dk_42 (dk_at dksX6_test_0 4 rfl rfl)
theorem dX6_test_5 : decode cX6_test 5 = .ok (.iconst 4, 1) := dk_7 (dk_at dksX6_test_0 5 rfl rfl)
theorem dX6_test_6 : decode cX6_test 6 = .ok (.invokevirtual 170, 3) := dk_182 0 170 (dk_at dksX6_test_0 6 rfl rfl)
theorem dX6_test_9 : decode cX6_test 9 = .ok (.ifCond .eq 23, 3) := dk_153 0 23 (dk_at dksX6_test_0 9 rfl rfl)
theorem dX6_test_12 : decode cX6_test 12 = .ok (.aload_n 0, 1) := dk_42 (dk_at dksX6_test_0 12 rfl rfl)
theorem dX6_test_13 : decode cX6_test 13 = .ok (.invokevirtual 180, 3) := dk_182 0 180 (dk_at dksX6_test_0 13 rfl rfl)
theorem dX6_test_16 : decode cX6_test 16 = .ok (.aload_n 0, 1) := dk_42 (dk_at dksX6_test_0 16 rfl rfl)
theorem dX6_test_17 : decode cX6_test 17 = .ok (.getfield 158, 3) := dk_180 0 158 (dk_at dksX6_test_0 17 rfl rfl)
theorem dX6_test_20 : decode cX6_test 20 = .ok (.ifCond .ne (-16), 3) := dk_154 255 240 (dk_at dksX6_test_0 20 rfl rfl)
theorem dX6_test_23 : decode cX6_test 23 = .ok (.aload_n 0, 1) := dk_42 (dk_at dksX6_test_0 23 rfl rfl)
theorem dX6_test_24 : decode cX6_test 24 = .ok (.iconst 4, 1) := dk_7 (dk_at dksX6_test_1 0 rfl rfl)
theorem dX6_test_25 : decode cX6_test 25 = .ok (.iconst 0, 1) := dk_3 (dk_at dksX6_test_1 1 rfl rfl)
theorem dX6_test_26 : decode cX6_test 26 = .ok (.invokevirtual 183, 3) := dk_182 0 183 (dk_at dksX6_test_1 2 rfl rfl)
theorem dX6_test_29 : decode cX6_test 29 = .ok (.goto (-25), 3) := dk_167 255 231 (dk_at dksX6_test_1 5 rfl rfl)
theorem dX6_test_32 : decode cX6_test 32 = .ok (.return_, 1) := dk_177 (dk_at dksX6_test_1 8 rfl rfl)
abbrev cX6_parts : ByteArray := prog_28_method_30_code
def yX6_parts : MethodName := ⟨RX6, "parts", "()V"⟩
def dkwX6_parts_1 : List UInt8 := [6, 3, 182, 0, 183, 167, 255, 231, 177]
abbrev dktX6_parts_1 : List UInt8 := dkwX6_parts_1 ++ []
def dkwX6_parts_0 : List UInt8 := [42, 182, 0, 187, 42, 6, 182, 0, 170, 153, 0, 23, 42, 182, 0, 187, 42, 180, 0, 158, 154, 255, 240, 42]
abbrev dktX6_parts_0 : List UInt8 := dkwX6_parts_0 ++ dktX6_parts_1
theorem dksX6_parts_0 : cX6_parts.data.toList.drop 0 = dktX6_parts_0 := by decide +kernel
theorem dksX6_parts_1 : cX6_parts.data.toList.drop 24 = dktX6_parts_1 := dk_seg dksX6_parts_0 24 rfl rfl
theorem dX6_parts_0 : decode cX6_parts 0 = .ok (.aload_n 0, 1) := dk_42 (dk_at dksX6_parts_0 0 rfl rfl)
theorem dX6_parts_1 : decode cX6_parts 1 = .ok (.invokevirtual 187, 3) := dk_182 0 187 (dk_at dksX6_parts_0 1 rfl rfl)
theorem dX6_parts_4 : decode cX6_parts 4 = .ok (.aload_n 0, 1) := dk_42 (dk_at dksX6_parts_0 4 rfl rfl)
theorem dX6_parts_5 : decode cX6_parts 5 = .ok (.iconst 3, 1) := dk_6 (dk_at dksX6_parts_0 5 rfl rfl)
theorem dX6_parts_6 : decode cX6_parts 6 = .ok (.invokevirtual 170, 3) := dk_182 0 170 (dk_at dksX6_parts_0 6 rfl rfl)
theorem dX6_parts_9 : decode cX6_parts 9 = .ok (.ifCond .eq 23, 3) := dk_153 0 23 (dk_at dksX6_parts_0 9 rfl rfl)
theorem dX6_parts_12 : decode cX6_parts 12 = .ok (.aload_n 0, 1) := dk_42 (dk_at dksX6_parts_0 12 rfl rfl)
theorem dX6_parts_13 : decode cX6_parts 13 = .ok (.invokevirtual 187, 3) := dk_182 0 187 (dk_at dksX6_parts_0 13 rfl rfl)
theorem dX6_parts_16 : decode cX6_parts 16 = .ok (.aload_n 0, 1) := dk_42 (dk_at dksX6_parts_0 16 rfl rfl)
theorem dX6_parts_17 : decode cX6_parts 17 = .ok (.getfield 158, 3) := dk_180 0 158 (dk_at dksX6_parts_0 17 rfl rfl)
theorem dX6_parts_20 : decode cX6_parts 20 = .ok (.ifCond .ne (-16), 3) := dk_154 255 240 (dk_at dksX6_parts_0 20 rfl rfl)
theorem dX6_parts_23 : decode cX6_parts 23 = .ok (.aload_n 0, 1) := dk_42 (dk_at dksX6_parts_0 23 rfl rfl)
theorem dX6_parts_24 : decode cX6_parts 24 = .ok (.iconst 3, 1) := dk_6 (dk_at dksX6_parts_1 0 rfl rfl)
theorem dX6_parts_25 : decode cX6_parts 25 = .ok (.iconst 0, 1) := dk_3 (dk_at dksX6_parts_1 1 rfl rfl)
theorem dX6_parts_26 : decode cX6_parts 26 = .ok (.invokevirtual 183, 3) := dk_182 0 183 (dk_at dksX6_parts_1 2 rfl rfl)
theorem dX6_parts_29 : decode cX6_parts 29 = .ok (.goto (-25), 3) := dk_167 255 231 (dk_at dksX6_parts_1 5 rfl rfl)
theorem dX6_parts_32 : decode cX6_parts 32 = .ok (.return_, 1) := dk_177 (dk_at dksX6_parts_1 8 rfl rfl)
abbrev cX6_fact : ByteArray := prog_28_method_31_code
def yX6_fact : MethodName := ⟨RX6, "fact", "()V"⟩
def dkwX6_fact_8 : List UInt8 := [180, 0, 158, 154, 0, 9, 42, 27, 28, 182, 0, 183, 177]
abbrev dktX6_fact_8 : List UInt8 := dkwX6_fact_8 ++ []
def dkwX6_fact_7 : List UInt8 := [160, 0, 14, 42, 4, 16, 8, 3, 182, 0, 199, 167, 0, 11, 42, 3, 16, 9, 3, 182, 0, 199, 61, 42]
abbrev dktX6_fact_7 : List UInt8 := dkwX6_fact_7 ++ dktX6_fact_8
def dkwX6_fact_6 : List UInt8 := [182, 0, 167, 27, 8, 160, 0, 15, 42, 4, 17, 0, 255, 3, 182, 0, 199, 167, 0, 28, 27, 16, 6]
abbrev dktX6_fact_6 : List UInt8 := dkwX6_fact_6 ++ dktX6_fact_7
def dkwX6_fact_5 : List UInt8 := [159, 0, 21, 27, 16, 6, 159, 0, 15, 27, 16, 7, 159, 0, 9, 42, 5, 182, 0, 173, 177, 42]
abbrev dktX6_fact_5 : List UInt8 := dkwX6_fact_5 ++ dktX6_fact_6
def dkwX6_fact_4 : List UInt8 := [16, 17, 182, 0, 196, 167, 0, 16, 42, 180, 0, 158, 154, 0, 9, 42, 5, 3, 182, 0, 183, 177, 27, 8]
abbrev dktX6_fact_4 : List UInt8 := dkwX6_fact_4 ++ dktX6_fact_5
def dkwX6_fact_3 : List UInt8 := [167, 0, 7, 42, 182, 0, 193, 42, 89, 180, 0, 190, 4, 100, 181, 0, 190, 27, 16, 16, 160, 0, 12, 42]
abbrev dktX6_fact_3 : List UInt8 := dkwX6_fact_3 ++ dktX6_fact_4
def dkwX6_fact_2 : List UInt8 := [182, 0, 167, 42, 89, 180, 0, 190, 4, 96, 181, 0, 190, 27, 5, 160, 0, 10, 42, 182, 0, 187]
abbrev dktX6_fact_2 : List UInt8 := dkwX6_fact_2 ++ dktX6_fact_3
def dkwX6_fact_1 : List UInt8 := [42, 180, 0, 190, 16, 8, 160, 0, 8, 42, 8, 182, 0, 173, 42, 180, 0, 158, 153, 0, 4, 177, 42]
abbrev dktX6_fact_1 : List UInt8 := dkwX6_fact_1 ++ dktX6_fact_2
def dkwX6_fact_0 : List UInt8 := [42, 180, 0, 158, 153, 0, 4, 177, 42, 180, 0, 142, 60, 27, 5, 159, 0, 9, 27, 16, 16, 160, 0, 94]
abbrev dktX6_fact_0 : List UInt8 := dkwX6_fact_0 ++ dktX6_fact_1
theorem dksX6_fact_0 : cX6_fact.data.toList.drop 0 = dktX6_fact_0 := by decide +kernel
theorem dksX6_fact_1 : cX6_fact.data.toList.drop 24 = dktX6_fact_1 := dk_seg dksX6_fact_0 24 rfl rfl
theorem dksX6_fact_2 : cX6_fact.data.toList.drop 47 = dktX6_fact_2 := dk_seg dksX6_fact_1 23 rfl rfl
theorem dksX6_fact_3 : cX6_fact.data.toList.drop 69 = dktX6_fact_3 := dk_seg dksX6_fact_2 22 rfl rfl
theorem dksX6_fact_4 : cX6_fact.data.toList.drop 93 = dktX6_fact_4 := dk_seg dksX6_fact_3 24 rfl rfl
theorem dksX6_fact_5 : cX6_fact.data.toList.drop 117 = dktX6_fact_5 := dk_seg dksX6_fact_4 24 rfl rfl
theorem dksX6_fact_6 : cX6_fact.data.toList.drop 139 = dktX6_fact_6 := dk_seg dksX6_fact_5 22 rfl rfl
theorem dksX6_fact_7 : cX6_fact.data.toList.drop 162 = dktX6_fact_7 := dk_seg dksX6_fact_6 23 rfl rfl
theorem dksX6_fact_8 : cX6_fact.data.toList.drop 186 = dktX6_fact_8 := dk_seg dksX6_fact_7 24 rfl rfl
theorem dX6_fact_0 : decode cX6_fact 0 = .ok (.aload_n 0, 1) := dk_42 (dk_at dksX6_fact_0 0 rfl rfl)
theorem dX6_fact_1 : decode cX6_fact 1 = .ok (.getfield 158, 3) := dk_180 0 158 (dk_at dksX6_fact_0 1 rfl rfl)
theorem dX6_fact_4 : decode cX6_fact 4 = .ok (.ifCond .eq 4, 3) := dk_153 0 4 (dk_at dksX6_fact_0 4 rfl rfl)
theorem dX6_fact_7 : decode cX6_fact 7 = .ok (.return_, 1) := dk_177 (dk_at dksX6_fact_0 7 rfl rfl)
theorem dX6_fact_8 : decode cX6_fact 8 = .ok (.aload_n 0, 1) := dk_42 (dk_at dksX6_fact_0 8 rfl rfl)
theorem dX6_fact_9 : decode cX6_fact 9 = .ok (.getfield 142, 3) := dk_180 0 142 (dk_at dksX6_fact_0 9 rfl rfl)
theorem dX6_fact_12 : decode cX6_fact 12 = .ok (.istore_n 1, 1) := dk_60 (dk_at dksX6_fact_0 12 rfl rfl)
theorem dX6_fact_13 : decode cX6_fact 13 = .ok (.iload_n 1, 1) := dk_27 (dk_at dksX6_fact_0 13 rfl rfl)
theorem dX6_fact_14 : decode cX6_fact 14 = .ok (.iconst 2, 1) := dk_5 (dk_at dksX6_fact_0 14 rfl rfl)
theorem dX6_fact_15 : decode cX6_fact 15 = .ok (.if_icmp .eq 9, 3) := dk_159 0 9 (dk_at dksX6_fact_0 15 rfl rfl)
theorem dX6_fact_18 : decode cX6_fact 18 = .ok (.iload_n 1, 1) := dk_27 (dk_at dksX6_fact_0 18 rfl rfl)
theorem dX6_fact_19 : decode cX6_fact 19 = .ok (.bipush 16, 2) := dk_16 16 (dk_at dksX6_fact_0 19 rfl rfl)
theorem dX6_fact_21 : decode cX6_fact 21 = .ok (.if_icmp .ne 94, 3) := dk_160 0 94 (dk_at dksX6_fact_0 21 rfl rfl)
theorem dX6_fact_24 : decode cX6_fact 24 = .ok (.aload_n 0, 1) := dk_42 (dk_at dksX6_fact_1 0 rfl rfl)
theorem dX6_fact_25 : decode cX6_fact 25 = .ok (.getfield 190, 3) := dk_180 0 190 (dk_at dksX6_fact_1 1 rfl rfl)
theorem dX6_fact_28 : decode cX6_fact 28 = .ok (.bipush 8, 2) := dk_16 8 (dk_at dksX6_fact_1 4 rfl rfl)
theorem dX6_fact_30 : decode cX6_fact 30 = .ok (.if_icmp .ne 8, 3) := dk_160 0 8 (dk_at dksX6_fact_1 6 rfl rfl)
theorem dX6_fact_33 : decode cX6_fact 33 = .ok (.aload_n 0, 1) := dk_42 (dk_at dksX6_fact_1 9 rfl rfl)
theorem dX6_fact_34 : decode cX6_fact 34 = .ok (.iconst 5, 1) := dk_8 (dk_at dksX6_fact_1 10 rfl rfl)
theorem dX6_fact_35 : decode cX6_fact 35 = .ok (.invokevirtual 173, 3) := dk_182 0 173 (dk_at dksX6_fact_1 11 rfl rfl)
theorem dX6_fact_38 : decode cX6_fact 38 = .ok (.aload_n 0, 1) := dk_42 (dk_at dksX6_fact_1 14 rfl rfl)
theorem dX6_fact_39 : decode cX6_fact 39 = .ok (.getfield 158, 3) := dk_180 0 158 (dk_at dksX6_fact_1 15 rfl rfl)
theorem dX6_fact_42 : decode cX6_fact 42 = .ok (.ifCond .eq 4, 3) := dk_153 0 4 (dk_at dksX6_fact_1 18 rfl rfl)
theorem dX6_fact_45 : decode cX6_fact 45 = .ok (.return_, 1) := dk_177 (dk_at dksX6_fact_1 21 rfl rfl)
theorem dX6_fact_46 : decode cX6_fact 46 = .ok (.aload_n 0, 1) := dk_42 (dk_at dksX6_fact_1 22 rfl rfl)
theorem dX6_fact_47 : decode cX6_fact 47 = .ok (.invokevirtual 167, 3) := dk_182 0 167 (dk_at dksX6_fact_2 0 rfl rfl)
theorem dX6_fact_50 : decode cX6_fact 50 = .ok (.aload_n 0, 1) := dk_42 (dk_at dksX6_fact_2 3 rfl rfl)
theorem dX6_fact_51 : decode cX6_fact 51 = .ok (.dup, 1) := dk_89 (dk_at dksX6_fact_2 4 rfl rfl)
theorem dX6_fact_52 : decode cX6_fact 52 = .ok (.getfield 190, 3) := dk_180 0 190 (dk_at dksX6_fact_2 5 rfl rfl)
theorem dX6_fact_55 : decode cX6_fact 55 = .ok (.iconst 1, 1) := dk_4 (dk_at dksX6_fact_2 8 rfl rfl)
theorem dX6_fact_56 : decode cX6_fact 56 = .ok (.iadd, 1) := dk_96 (dk_at dksX6_fact_2 9 rfl rfl)
theorem dX6_fact_57 : decode cX6_fact 57 = .ok (.putfield 190, 3) := dk_181 0 190 (dk_at dksX6_fact_2 10 rfl rfl)
theorem dX6_fact_60 : decode cX6_fact 60 = .ok (.iload_n 1, 1) := dk_27 (dk_at dksX6_fact_2 13 rfl rfl)
theorem dX6_fact_61 : decode cX6_fact 61 = .ok (.iconst 2, 1) := dk_5 (dk_at dksX6_fact_2 14 rfl rfl)
theorem dX6_fact_62 : decode cX6_fact 62 = .ok (.if_icmp .ne 10, 3) := dk_160 0 10 (dk_at dksX6_fact_2 15 rfl rfl)
theorem dX6_fact_65 : decode cX6_fact 65 = .ok (.aload_n 0, 1) := dk_42 (dk_at dksX6_fact_2 18 rfl rfl)
theorem dX6_fact_66 : decode cX6_fact 66 = .ok (.invokevirtual 187, 3) := dk_182 0 187 (dk_at dksX6_fact_2 19 rfl rfl)
theorem dX6_fact_69 : decode cX6_fact 69 = .ok (.goto 7, 3) := dk_167 0 7 (dk_at dksX6_fact_3 0 rfl rfl)
theorem dX6_fact_72 : decode cX6_fact 72 = .ok (.aload_n 0, 1) := dk_42 (dk_at dksX6_fact_3 3 rfl rfl)
theorem dX6_fact_73 : decode cX6_fact 73 = .ok (.invokevirtual 193, 3) := dk_182 0 193 (dk_at dksX6_fact_3 4 rfl rfl)
theorem dX6_fact_76 : decode cX6_fact 76 = .ok (.aload_n 0, 1) := dk_42 (dk_at dksX6_fact_3 7 rfl rfl)
theorem dX6_fact_77 : decode cX6_fact 77 = .ok (.dup, 1) := dk_89 (dk_at dksX6_fact_3 8 rfl rfl)
theorem dX6_fact_78 : decode cX6_fact 78 = .ok (.getfield 190, 3) := dk_180 0 190 (dk_at dksX6_fact_3 9 rfl rfl)
theorem dX6_fact_81 : decode cX6_fact 81 = .ok (.iconst 1, 1) := dk_4 (dk_at dksX6_fact_3 12 rfl rfl)
theorem dX6_fact_82 : decode cX6_fact 82 = .ok (.isub, 1) := dk_100 (dk_at dksX6_fact_3 13 rfl rfl)
theorem dX6_fact_83 : decode cX6_fact 83 = .ok (.putfield 190, 3) := dk_181 0 190 (dk_at dksX6_fact_3 14 rfl rfl)
theorem dX6_fact_86 : decode cX6_fact 86 = .ok (.iload_n 1, 1) := dk_27 (dk_at dksX6_fact_3 17 rfl rfl)
theorem dX6_fact_87 : decode cX6_fact 87 = .ok (.bipush 16, 2) := dk_16 16 (dk_at dksX6_fact_3 18 rfl rfl)
theorem dX6_fact_89 : decode cX6_fact 89 = .ok (.if_icmp .ne 12, 3) := dk_160 0 12 (dk_at dksX6_fact_3 20 rfl rfl)
theorem dX6_fact_92 : decode cX6_fact 92 = .ok (.aload_n 0, 1) := dk_42 (dk_at dksX6_fact_3 23 rfl rfl)
theorem dX6_fact_93 : decode cX6_fact 93 = .ok (.bipush 17, 2) := dk_16 17 (dk_at dksX6_fact_4 0 rfl rfl)
theorem dX6_fact_95 : decode cX6_fact 95 = .ok (.invokevirtual 196, 3) := dk_182 0 196 (dk_at dksX6_fact_4 2 rfl rfl)
theorem dX6_fact_98 : decode cX6_fact 98 = .ok (.goto 16, 3) := dk_167 0 16 (dk_at dksX6_fact_4 5 rfl rfl)
theorem dX6_fact_101 : decode cX6_fact 101 = .ok (.aload_n 0, 1) := dk_42 (dk_at dksX6_fact_4 8 rfl rfl)
theorem dX6_fact_102 : decode cX6_fact 102 = .ok (.getfield 158, 3) := dk_180 0 158 (dk_at dksX6_fact_4 9 rfl rfl)
theorem dX6_fact_105 : decode cX6_fact 105 = .ok (.ifCond .ne 9, 3) := dk_154 0 9 (dk_at dksX6_fact_4 12 rfl rfl)
theorem dX6_fact_108 : decode cX6_fact 108 = .ok (.aload_n 0, 1) := dk_42 (dk_at dksX6_fact_4 15 rfl rfl)
theorem dX6_fact_109 : decode cX6_fact 109 = .ok (.iconst 2, 1) := dk_5 (dk_at dksX6_fact_4 16 rfl rfl)
theorem dX6_fact_110 : decode cX6_fact 110 = .ok (.iconst 0, 1) := dk_3 (dk_at dksX6_fact_4 17 rfl rfl)
theorem dX6_fact_111 : decode cX6_fact 111 = .ok (.invokevirtual 183, 3) := dk_182 0 183 (dk_at dksX6_fact_4 18 rfl rfl)
theorem dX6_fact_114 : decode cX6_fact 114 = .ok (.return_, 1) := dk_177 (dk_at dksX6_fact_4 21 rfl rfl)
theorem dX6_fact_115 : decode cX6_fact 115 = .ok (.iload_n 1, 1) := dk_27 (dk_at dksX6_fact_4 22 rfl rfl)
theorem dX6_fact_116 : decode cX6_fact 116 = .ok (.iconst 5, 1) := dk_8 (dk_at dksX6_fact_4 23 rfl rfl)
theorem dX6_fact_117 : decode cX6_fact 117 = .ok (.if_icmp .eq 21, 3) := dk_159 0 21 (dk_at dksX6_fact_5 0 rfl rfl)
theorem dX6_fact_120 : decode cX6_fact 120 = .ok (.iload_n 1, 1) := dk_27 (dk_at dksX6_fact_5 3 rfl rfl)
theorem dX6_fact_121 : decode cX6_fact 121 = .ok (.bipush 6, 2) := dk_16 6 (dk_at dksX6_fact_5 4 rfl rfl)
theorem dX6_fact_123 : decode cX6_fact 123 = .ok (.if_icmp .eq 15, 3) := dk_159 0 15 (dk_at dksX6_fact_5 6 rfl rfl)
theorem dX6_fact_126 : decode cX6_fact 126 = .ok (.iload_n 1, 1) := dk_27 (dk_at dksX6_fact_5 9 rfl rfl)
theorem dX6_fact_127 : decode cX6_fact 127 = .ok (.bipush 7, 2) := dk_16 7 (dk_at dksX6_fact_5 10 rfl rfl)
theorem dX6_fact_129 : decode cX6_fact 129 = .ok (.if_icmp .eq 9, 3) := dk_159 0 9 (dk_at dksX6_fact_5 12 rfl rfl)
theorem dX6_fact_132 : decode cX6_fact 132 = .ok (.aload_n 0, 1) := dk_42 (dk_at dksX6_fact_5 15 rfl rfl)
theorem dX6_fact_133 : decode cX6_fact 133 = .ok (.iconst 2, 1) := dk_5 (dk_at dksX6_fact_5 16 rfl rfl)
theorem dX6_fact_134 : decode cX6_fact 134 = .ok (.invokevirtual 173, 3) := dk_182 0 173 (dk_at dksX6_fact_5 17 rfl rfl)
theorem dX6_fact_137 : decode cX6_fact 137 = .ok (.return_, 1) := dk_177 (dk_at dksX6_fact_5 20 rfl rfl)
theorem dX6_fact_138 : decode cX6_fact 138 = .ok (.aload_n 0, 1) := dk_42 (dk_at dksX6_fact_5 21 rfl rfl)
theorem dX6_fact_139 : decode cX6_fact 139 = .ok (.invokevirtual 167, 3) := dk_182 0 167 (dk_at dksX6_fact_6 0 rfl rfl)
theorem dX6_fact_142 : decode cX6_fact 142 = .ok (.iload_n 1, 1) := dk_27 (dk_at dksX6_fact_6 3 rfl rfl)
theorem dX6_fact_143 : decode cX6_fact 143 = .ok (.iconst 5, 1) := dk_8 (dk_at dksX6_fact_6 4 rfl rfl)
theorem dX6_fact_144 : decode cX6_fact 144 = .ok (.if_icmp .ne 15, 3) := dk_160 0 15 (dk_at dksX6_fact_6 5 rfl rfl)
theorem dX6_fact_147 : decode cX6_fact 147 = .ok (.aload_n 0, 1) := dk_42 (dk_at dksX6_fact_6 8 rfl rfl)
theorem dX6_fact_148 : decode cX6_fact 148 = .ok (.iconst 1, 1) := dk_4 (dk_at dksX6_fact_6 9 rfl rfl)
theorem dX6_fact_149 : decode cX6_fact 149 = .ok (.sipush 255, 3) := dk_17 0 255 (dk_at dksX6_fact_6 10 rfl rfl)
theorem dX6_fact_152 : decode cX6_fact 152 = .ok (.iconst 0, 1) := dk_3 (dk_at dksX6_fact_6 13 rfl rfl)
theorem dX6_fact_153 : decode cX6_fact 153 = .ok (.invokevirtual 199, 3) := dk_182 0 199 (dk_at dksX6_fact_6 14 rfl rfl)
theorem dX6_fact_156 : decode cX6_fact 156 = .ok (.goto 28, 3) := dk_167 0 28 (dk_at dksX6_fact_6 17 rfl rfl)
theorem dX6_fact_159 : decode cX6_fact 159 = .ok (.iload_n 1, 1) := dk_27 (dk_at dksX6_fact_6 20 rfl rfl)
theorem dX6_fact_160 : decode cX6_fact 160 = .ok (.bipush 6, 2) := dk_16 6 (dk_at dksX6_fact_6 21 rfl rfl)
theorem dX6_fact_162 : decode cX6_fact 162 = .ok (.if_icmp .ne 14, 3) := dk_160 0 14 (dk_at dksX6_fact_7 0 rfl rfl)
theorem dX6_fact_165 : decode cX6_fact 165 = .ok (.aload_n 0, 1) := dk_42 (dk_at dksX6_fact_7 3 rfl rfl)
theorem dX6_fact_166 : decode cX6_fact 166 = .ok (.iconst 1, 1) := dk_4 (dk_at dksX6_fact_7 4 rfl rfl)
theorem dX6_fact_167 : decode cX6_fact 167 = .ok (.bipush 8, 2) := dk_16 8 (dk_at dksX6_fact_7 5 rfl rfl)
theorem dX6_fact_169 : decode cX6_fact 169 = .ok (.iconst 0, 1) := dk_3 (dk_at dksX6_fact_7 7 rfl rfl)
theorem dX6_fact_170 : decode cX6_fact 170 = .ok (.invokevirtual 199, 3) := dk_182 0 199 (dk_at dksX6_fact_7 8 rfl rfl)
theorem dX6_fact_173 : decode cX6_fact 173 = .ok (.goto 11, 3) := dk_167 0 11 (dk_at dksX6_fact_7 11 rfl rfl)
theorem dX6_fact_176 : decode cX6_fact 176 = .ok (.aload_n 0, 1) := dk_42 (dk_at dksX6_fact_7 14 rfl rfl)
theorem dX6_fact_177 : decode cX6_fact 177 = .ok (.iconst 0, 1) := dk_3 (dk_at dksX6_fact_7 15 rfl rfl)
theorem dX6_fact_178 : decode cX6_fact 178 = .ok (.bipush 9, 2) := dk_16 9 (dk_at dksX6_fact_7 16 rfl rfl)
theorem dX6_fact_180 : decode cX6_fact 180 = .ok (.iconst 0, 1) := dk_3 (dk_at dksX6_fact_7 18 rfl rfl)
theorem dX6_fact_181 : decode cX6_fact 181 = .ok (.invokevirtual 199, 3) := dk_182 0 199 (dk_at dksX6_fact_7 19 rfl rfl)
theorem dX6_fact_184 : decode cX6_fact 184 = .ok (.istore_n 2, 1) := dk_61 (dk_at dksX6_fact_7 22 rfl rfl)
theorem dX6_fact_185 : decode cX6_fact 185 = .ok (.aload_n 0, 1) := dk_42 (dk_at dksX6_fact_7 23 rfl rfl)
theorem dX6_fact_186 : decode cX6_fact 186 = .ok (.getfield 158, 3) := dk_180 0 158 (dk_at dksX6_fact_8 0 rfl rfl)
theorem dX6_fact_189 : decode cX6_fact 189 = .ok (.ifCond .ne 9, 3) := dk_154 0 9 (dk_at dksX6_fact_8 3 rfl rfl)
theorem dX6_fact_192 : decode cX6_fact 192 = .ok (.aload_n 0, 1) := dk_42 (dk_at dksX6_fact_8 6 rfl rfl)
theorem dX6_fact_193 : decode cX6_fact 193 = .ok (.iload_n 1, 1) := dk_27 (dk_at dksX6_fact_8 7 rfl rfl)
theorem dX6_fact_194 : decode cX6_fact 194 = .ok (.iload_n 2, 1) := dk_28 (dk_at dksX6_fact_8 8 rfl rfl)
theorem dX6_fact_195 : decode cX6_fact 195 = .ok (.invokevirtual 183, 3) := dk_182 0 183 (dk_at dksX6_fact_8 9 rfl rfl)
theorem dX6_fact_198 : decode cX6_fact 198 = .ok (.return_, 1) := dk_177 (dk_at dksX6_fact_8 12 rfl rfl)
abbrev cX6_emit : ByteArray := prog_28_method_28_code
def yX6_emit : MethodName := ⟨RX6, "emit", "(II)V"⟩
def dkwX6_emit_1 : List UInt8 := [42, 180, 0, 177, 104, 96, 4, 96, 28, 79, 42, 89, 180, 0, 177, 4, 96, 181, 0, 177, 177]
abbrev dktX6_emit_1 : List UInt8 := dkwX6_emit_1 ++ []
def dkwX6_emit_0 : List UInt8 := [42, 180, 0, 31, 17, 8, 32, 5, 42, 180, 0, 177, 104, 96, 27, 79, 42, 180, 0, 31, 17, 8, 32, 5]
abbrev dktX6_emit_0 : List UInt8 := dkwX6_emit_0 ++ dktX6_emit_1
theorem dksX6_emit_0 : cX6_emit.data.toList.drop 0 = dktX6_emit_0 := by decide +kernel
theorem dksX6_emit_1 : cX6_emit.data.toList.drop 24 = dktX6_emit_1 := dk_seg dksX6_emit_0 24 rfl rfl
theorem dX6_emit_0 : decode cX6_emit 0 = .ok (.aload_n 0, 1) := dk_42 (dk_at dksX6_emit_0 0 rfl rfl)
theorem dX6_emit_1 : decode cX6_emit 1 = .ok (.getfield 31, 3) := dk_180 0 31 (dk_at dksX6_emit_0 1 rfl rfl)
theorem dX6_emit_4 : decode cX6_emit 4 = .ok (.sipush 2080, 3) := dk_17 8 32 (dk_at dksX6_emit_0 4 rfl rfl)
theorem dX6_emit_7 : decode cX6_emit 7 = .ok (.iconst 2, 1) := dk_5 (dk_at dksX6_emit_0 7 rfl rfl)
theorem dX6_emit_8 : decode cX6_emit 8 = .ok (.aload_n 0, 1) := dk_42 (dk_at dksX6_emit_0 8 rfl rfl)
theorem dX6_emit_9 : decode cX6_emit 9 = .ok (.getfield 177, 3) := dk_180 0 177 (dk_at dksX6_emit_0 9 rfl rfl)
theorem dX6_emit_12 : decode cX6_emit 12 = .ok (.imul, 1) := dk_104 (dk_at dksX6_emit_0 12 rfl rfl)
theorem dX6_emit_13 : decode cX6_emit 13 = .ok (.iadd, 1) := dk_96 (dk_at dksX6_emit_0 13 rfl rfl)
theorem dX6_emit_14 : decode cX6_emit 14 = .ok (.iload_n 1, 1) := dk_27 (dk_at dksX6_emit_0 14 rfl rfl)
theorem dX6_emit_15 : decode cX6_emit 15 = .ok (.iastore, 1) := dk_79 (dk_at dksX6_emit_0 15 rfl rfl)
theorem dX6_emit_16 : decode cX6_emit 16 = .ok (.aload_n 0, 1) := dk_42 (dk_at dksX6_emit_0 16 rfl rfl)
theorem dX6_emit_17 : decode cX6_emit 17 = .ok (.getfield 31, 3) := dk_180 0 31 (dk_at dksX6_emit_0 17 rfl rfl)
theorem dX6_emit_20 : decode cX6_emit 20 = .ok (.sipush 2080, 3) := dk_17 8 32 (dk_at dksX6_emit_0 20 rfl rfl)
theorem dX6_emit_23 : decode cX6_emit 23 = .ok (.iconst 2, 1) := dk_5 (dk_at dksX6_emit_0 23 rfl rfl)
theorem dX6_emit_24 : decode cX6_emit 24 = .ok (.aload_n 0, 1) := dk_42 (dk_at dksX6_emit_1 0 rfl rfl)
theorem dX6_emit_25 : decode cX6_emit 25 = .ok (.getfield 177, 3) := dk_180 0 177 (dk_at dksX6_emit_1 1 rfl rfl)
theorem dX6_emit_28 : decode cX6_emit 28 = .ok (.imul, 1) := dk_104 (dk_at dksX6_emit_1 4 rfl rfl)
theorem dX6_emit_29 : decode cX6_emit 29 = .ok (.iadd, 1) := dk_96 (dk_at dksX6_emit_1 5 rfl rfl)
theorem dX6_emit_30 : decode cX6_emit 30 = .ok (.iconst 1, 1) := dk_4 (dk_at dksX6_emit_1 6 rfl rfl)
theorem dX6_emit_31 : decode cX6_emit 31 = .ok (.iadd, 1) := dk_96 (dk_at dksX6_emit_1 7 rfl rfl)
theorem dX6_emit_32 : decode cX6_emit 32 = .ok (.iload_n 2, 1) := dk_28 (dk_at dksX6_emit_1 8 rfl rfl)
theorem dX6_emit_33 : decode cX6_emit 33 = .ok (.iastore, 1) := dk_79 (dk_at dksX6_emit_1 9 rfl rfl)
theorem dX6_emit_34 : decode cX6_emit 34 = .ok (.aload_n 0, 1) := dk_42 (dk_at dksX6_emit_1 10 rfl rfl)
theorem dX6_emit_35 : decode cX6_emit 35 = .ok (.dup, 1) := dk_89 (dk_at dksX6_emit_1 11 rfl rfl)
theorem dX6_emit_36 : decode cX6_emit 36 = .ok (.getfield 177, 3) := dk_180 0 177 (dk_at dksX6_emit_1 12 rfl rfl)
theorem dX6_emit_39 : decode cX6_emit 39 = .ok (.iconst 1, 1) := dk_4 (dk_at dksX6_emit_1 15 rfl rfl)
theorem dX6_emit_40 : decode cX6_emit 40 = .ok (.iadd, 1) := dk_96 (dk_at dksX6_emit_1 16 rfl rfl)
theorem dX6_emit_41 : decode cX6_emit 41 = .ok (.putfield 177, 3) := dk_181 0 177 (dk_at dksX6_emit_1 17 rfl rfl)
theorem dX6_emit_44 : decode cX6_emit 44 = .ok (.return_, 1) := dk_177 (dk_at dksX6_emit_1 20 rfl rfl)
abbrev cX6_readWay : ByteArray := prog_28_method_34_code
def yX6_readWay : MethodName := ⟨RX6, "readWay", "()V"⟩
def dkwX6_readWay_8 : List UInt8 := [182, 0, 196, 42, 180, 0, 34, 27, 92, 46, 4, 96, 79, 177]
abbrev dktX6_readWay_8 : List UInt8 := dkwX6_readWay_8 ++ []
def dkwX6_readWay_7 : List UInt8 := [160, 0, 7, 4, 167, 0, 14, 28, 16, 9, 160, 0, 7, 5, 167, 0, 4, 6, 96, 29, 79, 42, 16, 15]
abbrev dktX6_readWay_7 : List UInt8 := dkwX6_readWay_7 ++ dktX6_readWay_8
def dkwX6_readWay_6 : List UInt8 := [46, 4, 96, 79, 167, 0, 41, 42, 3, 16, 99, 3, 182, 0, 199, 62, 42, 180, 0, 34, 27, 28, 16, 8]
abbrev dktX6_readWay_6 : List UInt8 := dkwX6_readWay_6 ++ dktX6_readWay_7
def dkwX6_readWay_5 : List UInt8 := [27, 16, 17, 96, 42, 180, 0, 34, 27, 7, 96, 46, 96, 21, 4, 79, 42, 180, 0, 34, 27, 7, 96, 92]
abbrev dktX6_readWay_5 : List UInt8 := dkwX6_readWay_5 ++ dktX6_readWay_6
def dkwX6_readWay_4 : List UInt8 := [54, 4, 42, 180, 0, 34, 27, 8, 96, 42, 180, 0, 34, 27, 7, 96, 46, 96, 29, 79, 42, 180, 0, 34]
abbrev dktX6_readWay_4 : List UInt8 := dkwX6_readWay_4 ++ dktX6_readWay_5
def dkwX6_readWay_3 : List UInt8 := [4, 17, 0, 255, 3, 182, 0, 199, 62, 42, 16, 12, 182, 0, 196, 42, 4, 17, 0, 255, 3, 182, 0, 199]
abbrev dktX6_readWay_3 : List UInt8 := dkwX6_readWay_3 ++ dktX6_readWay_4
def dkwX6_readWay_2 : List UInt8 := [42, 180, 0, 158, 153, 0, 4, 177, 42, 180, 0, 142, 61, 42, 182, 0, 167, 28, 16, 11, 160, 0, 83, 42]
abbrev dktX6_readWay_2 : List UInt8 := dkwX6_readWay_2 ++ dktX6_readWay_3
def dkwX6_readWay_1 : List UInt8 := [154, 0, 8, 42, 5, 182, 0, 173, 42, 180, 0, 34, 27, 46, 16, 12, 160, 0, 8, 42, 7, 182, 0, 173]
abbrev dktX6_readWay_1 : List UInt8 := dkwX6_readWay_1 ++ dktX6_readWay_2
def dkwX6_readWay_0 : List UInt8 := [16, 87, 60, 42, 180, 0, 158, 154, 0, 25, 42, 180, 0, 142, 133, 20, 0, 207, 20, 0, 209, 184, 0, 81]
abbrev dktX6_readWay_0 : List UInt8 := dkwX6_readWay_0 ++ dktX6_readWay_1
theorem dksX6_readWay_0 : cX6_readWay.data.toList.drop 0 = dktX6_readWay_0 := by decide +kernel
theorem dksX6_readWay_1 : cX6_readWay.data.toList.drop 24 = dktX6_readWay_1 := dk_seg dksX6_readWay_0 24 rfl rfl
theorem dksX6_readWay_2 : cX6_readWay.data.toList.drop 48 = dktX6_readWay_2 := dk_seg dksX6_readWay_1 24 rfl rfl
theorem dksX6_readWay_3 : cX6_readWay.data.toList.drop 72 = dktX6_readWay_3 := dk_seg dksX6_readWay_2 24 rfl rfl
theorem dksX6_readWay_4 : cX6_readWay.data.toList.drop 96 = dktX6_readWay_4 := dk_seg dksX6_readWay_3 24 rfl rfl
theorem dksX6_readWay_5 : cX6_readWay.data.toList.drop 120 = dktX6_readWay_5 := dk_seg dksX6_readWay_4 24 rfl rfl
theorem dksX6_readWay_6 : cX6_readWay.data.toList.drop 144 = dktX6_readWay_6 := dk_seg dksX6_readWay_5 24 rfl rfl
theorem dksX6_readWay_7 : cX6_readWay.data.toList.drop 168 = dktX6_readWay_7 := dk_seg dksX6_readWay_6 24 rfl rfl
theorem dksX6_readWay_8 : cX6_readWay.data.toList.drop 192 = dktX6_readWay_8 := dk_seg dksX6_readWay_7 24 rfl rfl
theorem dX6_readWay_0 : decode cX6_readWay 0 = .ok (.bipush 87, 2) := dk_16 87 (dk_at dksX6_readWay_0 0 rfl rfl)
theorem dX6_readWay_2 : decode cX6_readWay 2 = .ok (.istore_n 1, 1) := dk_60 (dk_at dksX6_readWay_0 2 rfl rfl)
theorem dX6_readWay_3 : decode cX6_readWay 3 = .ok (.aload_n 0, 1) := dk_42 (dk_at dksX6_readWay_0 3 rfl rfl)
theorem dX6_readWay_4 : decode cX6_readWay 4 = .ok (.getfield 158, 3) := dk_180 0 158 (dk_at dksX6_readWay_0 4 rfl rfl)
theorem dX6_readWay_7 : decode cX6_readWay 7 = .ok (.ifCond .ne 25, 3) := dk_154 0 25 (dk_at dksX6_readWay_0 7 rfl rfl)
theorem dX6_readWay_10 : decode cX6_readWay 10 = .ok (.aload_n 0, 1) := dk_42 (dk_at dksX6_readWay_0 10 rfl rfl)
theorem dX6_readWay_11 : decode cX6_readWay 11 = .ok (.getfield 142, 3) := dk_180 0 142 (dk_at dksX6_readWay_0 11 rfl rfl)
theorem dX6_readWay_14 : decode cX6_readWay 14 = .ok (.i2l, 1) := dk_133 (dk_at dksX6_readWay_0 14 rfl rfl)
theorem dX6_readWay_15 : decode cX6_readWay 15 = .ok (.ldc2_w 207, 3) := dk_20 0 207 (dk_at dksX6_readWay_0 15 rfl rfl)
theorem dX6_readWay_18 : decode cX6_readWay 18 = .ok (.ldc2_w 209, 3) := dk_20 0 209 (dk_at dksX6_readWay_0 18 rfl rfl)
theorem dX6_readWay_21 : decode cX6_readWay 21 = .ok (.invokestatic 81, 3) := dk_184 0 81 (dk_at dksX6_readWay_0 21 rfl rfl)
theorem dX6_readWay_24 : decode cX6_readWay 24 = .ok (.ifCond .ne 8, 3) := dk_154 0 8 (dk_at dksX6_readWay_1 0 rfl rfl)
theorem dX6_readWay_27 : decode cX6_readWay 27 = .ok (.aload_n 0, 1) := dk_42 (dk_at dksX6_readWay_1 3 rfl rfl)
theorem dX6_readWay_28 : decode cX6_readWay 28 = .ok (.iconst 2, 1) := dk_5 (dk_at dksX6_readWay_1 4 rfl rfl)
theorem dX6_readWay_29 : decode cX6_readWay 29 = .ok (.invokevirtual 173, 3) := dk_182 0 173 (dk_at dksX6_readWay_1 5 rfl rfl)
theorem dX6_readWay_32 : decode cX6_readWay 32 = .ok (.aload_n 0, 1) := dk_42 (dk_at dksX6_readWay_1 8 rfl rfl)
theorem dX6_readWay_33 : decode cX6_readWay 33 = .ok (.getfield 34, 3) := dk_180 0 34 (dk_at dksX6_readWay_1 9 rfl rfl)
theorem dX6_readWay_36 : decode cX6_readWay 36 = .ok (.iload_n 1, 1) := dk_27 (dk_at dksX6_readWay_1 12 rfl rfl)
theorem dX6_readWay_37 : decode cX6_readWay 37 = .ok (.iaload, 1) := dk_46 (dk_at dksX6_readWay_1 13 rfl rfl)
theorem dX6_readWay_38 : decode cX6_readWay 38 = .ok (.bipush 12, 2) := dk_16 12 (dk_at dksX6_readWay_1 14 rfl rfl)
theorem dX6_readWay_40 : decode cX6_readWay 40 = .ok (.if_icmp .ne 8, 3) := dk_160 0 8 (dk_at dksX6_readWay_1 16 rfl rfl)
theorem dX6_readWay_43 : decode cX6_readWay 43 = .ok (.aload_n 0, 1) := dk_42 (dk_at dksX6_readWay_1 19 rfl rfl)
theorem dX6_readWay_44 : decode cX6_readWay 44 = .ok (.iconst 4, 1) := dk_7 (dk_at dksX6_readWay_1 20 rfl rfl)
theorem dX6_readWay_45 : decode cX6_readWay 45 = .ok (.invokevirtual 173, 3) := dk_182 0 173 (dk_at dksX6_readWay_1 21 rfl rfl)
theorem dX6_readWay_48 : decode cX6_readWay 48 = .ok (.aload_n 0, 1) := dk_42 (dk_at dksX6_readWay_2 0 rfl rfl)
theorem dX6_readWay_49 : decode cX6_readWay 49 = .ok (.getfield 158, 3) := dk_180 0 158 (dk_at dksX6_readWay_2 1 rfl rfl)
theorem dX6_readWay_52 : decode cX6_readWay 52 = .ok (.ifCond .eq 4, 3) := dk_153 0 4 (dk_at dksX6_readWay_2 4 rfl rfl)
theorem dX6_readWay_55 : decode cX6_readWay 55 = .ok (.return_, 1) := dk_177 (dk_at dksX6_readWay_2 7 rfl rfl)
theorem dX6_readWay_56 : decode cX6_readWay 56 = .ok (.aload_n 0, 1) := dk_42 (dk_at dksX6_readWay_2 8 rfl rfl)
theorem dX6_readWay_57 : decode cX6_readWay 57 = .ok (.getfield 142, 3) := dk_180 0 142 (dk_at dksX6_readWay_2 9 rfl rfl)
theorem dX6_readWay_60 : decode cX6_readWay 60 = .ok (.istore_n 2, 1) := dk_61 (dk_at dksX6_readWay_2 12 rfl rfl)
theorem dX6_readWay_61 : decode cX6_readWay 61 = .ok (.aload_n 0, 1) := dk_42 (dk_at dksX6_readWay_2 13 rfl rfl)
theorem dX6_readWay_62 : decode cX6_readWay 62 = .ok (.invokevirtual 167, 3) := dk_182 0 167 (dk_at dksX6_readWay_2 14 rfl rfl)
theorem dX6_readWay_65 : decode cX6_readWay 65 = .ok (.iload_n 2, 1) := dk_28 (dk_at dksX6_readWay_2 17 rfl rfl)
theorem dX6_readWay_66 : decode cX6_readWay 66 = .ok (.bipush 11, 2) := dk_16 11 (dk_at dksX6_readWay_2 18 rfl rfl)
theorem dX6_readWay_68 : decode cX6_readWay 68 = .ok (.if_icmp .ne 83, 3) := dk_160 0 83 (dk_at dksX6_readWay_2 20 rfl rfl)
theorem dX6_readWay_71 : decode cX6_readWay 71 = .ok (.aload_n 0, 1) := dk_42 (dk_at dksX6_readWay_2 23 rfl rfl)
theorem dX6_readWay_72 : decode cX6_readWay 72 = .ok (.iconst 1, 1) := dk_4 (dk_at dksX6_readWay_3 0 rfl rfl)
theorem dX6_readWay_73 : decode cX6_readWay 73 = .ok (.sipush 255, 3) := dk_17 0 255 (dk_at dksX6_readWay_3 1 rfl rfl)
theorem dX6_readWay_76 : decode cX6_readWay 76 = .ok (.iconst 0, 1) := dk_3 (dk_at dksX6_readWay_3 4 rfl rfl)
theorem dX6_readWay_77 : decode cX6_readWay 77 = .ok (.invokevirtual 199, 3) := dk_182 0 199 (dk_at dksX6_readWay_3 5 rfl rfl)
theorem dX6_readWay_80 : decode cX6_readWay 80 = .ok (.istore_n 3, 1) := dk_62 (dk_at dksX6_readWay_3 8 rfl rfl)
theorem dX6_readWay_81 : decode cX6_readWay 81 = .ok (.aload_n 0, 1) := dk_42 (dk_at dksX6_readWay_3 9 rfl rfl)
theorem dX6_readWay_82 : decode cX6_readWay 82 = .ok (.bipush 12, 2) := dk_16 12 (dk_at dksX6_readWay_3 10 rfl rfl)
theorem dX6_readWay_84 : decode cX6_readWay 84 = .ok (.invokevirtual 196, 3) := dk_182 0 196 (dk_at dksX6_readWay_3 12 rfl rfl)
theorem dX6_readWay_87 : decode cX6_readWay 87 = .ok (.aload_n 0, 1) := dk_42 (dk_at dksX6_readWay_3 15 rfl rfl)
theorem dX6_readWay_88 : decode cX6_readWay 88 = .ok (.iconst 1, 1) := dk_4 (dk_at dksX6_readWay_3 16 rfl rfl)
theorem dX6_readWay_89 : decode cX6_readWay 89 = .ok (.sipush 255, 3) := dk_17 0 255 (dk_at dksX6_readWay_3 17 rfl rfl)
theorem dX6_readWay_92 : decode cX6_readWay 92 = .ok (.iconst 0, 1) := dk_3 (dk_at dksX6_readWay_3 20 rfl rfl)
theorem dX6_readWay_93 : decode cX6_readWay 93 = .ok (.invokevirtual 199, 3) := dk_182 0 199 (dk_at dksX6_readWay_3 21 rfl rfl)
theorem dX6_readWay_96 : decode cX6_readWay 96 = .ok (.istore 4, 2) := dk_54 4 (dk_at dksX6_readWay_4 0 rfl rfl)
theorem dX6_readWay_98 : decode cX6_readWay 98 = .ok (.aload_n 0, 1) := dk_42 (dk_at dksX6_readWay_4 2 rfl rfl)
theorem dX6_readWay_99 : decode cX6_readWay 99 = .ok (.getfield 34, 3) := dk_180 0 34 (dk_at dksX6_readWay_4 3 rfl rfl)
theorem dX6_readWay_102 : decode cX6_readWay 102 = .ok (.iload_n 1, 1) := dk_27 (dk_at dksX6_readWay_4 6 rfl rfl)
theorem dX6_readWay_103 : decode cX6_readWay 103 = .ok (.iconst 5, 1) := dk_8 (dk_at dksX6_readWay_4 7 rfl rfl)
theorem dX6_readWay_104 : decode cX6_readWay 104 = .ok (.iadd, 1) := dk_96 (dk_at dksX6_readWay_4 8 rfl rfl)
theorem dX6_readWay_105 : decode cX6_readWay 105 = .ok (.aload_n 0, 1) := dk_42 (dk_at dksX6_readWay_4 9 rfl rfl)
theorem dX6_readWay_106 : decode cX6_readWay 106 = .ok (.getfield 34, 3) := dk_180 0 34 (dk_at dksX6_readWay_4 10 rfl rfl)
theorem dX6_readWay_109 : decode cX6_readWay 109 = .ok (.iload_n 1, 1) := dk_27 (dk_at dksX6_readWay_4 13 rfl rfl)
theorem dX6_readWay_110 : decode cX6_readWay 110 = .ok (.iconst 4, 1) := dk_7 (dk_at dksX6_readWay_4 14 rfl rfl)
theorem dX6_readWay_111 : decode cX6_readWay 111 = .ok (.iadd, 1) := dk_96 (dk_at dksX6_readWay_4 15 rfl rfl)
theorem dX6_readWay_112 : decode cX6_readWay 112 = .ok (.iaload, 1) := dk_46 (dk_at dksX6_readWay_4 16 rfl rfl)
theorem dX6_readWay_113 : decode cX6_readWay 113 = .ok (.iadd, 1) := dk_96 (dk_at dksX6_readWay_4 17 rfl rfl)
theorem dX6_readWay_114 : decode cX6_readWay 114 = .ok (.iload_n 3, 1) := dk_29 (dk_at dksX6_readWay_4 18 rfl rfl)
theorem dX6_readWay_115 : decode cX6_readWay 115 = .ok (.iastore, 1) := dk_79 (dk_at dksX6_readWay_4 19 rfl rfl)
theorem dX6_readWay_116 : decode cX6_readWay 116 = .ok (.aload_n 0, 1) := dk_42 (dk_at dksX6_readWay_4 20 rfl rfl)
theorem dX6_readWay_117 : decode cX6_readWay 117 = .ok (.getfield 34, 3) := dk_180 0 34 (dk_at dksX6_readWay_4 21 rfl rfl)
theorem dX6_readWay_120 : decode cX6_readWay 120 = .ok (.iload_n 1, 1) := dk_27 (dk_at dksX6_readWay_5 0 rfl rfl)
theorem dX6_readWay_121 : decode cX6_readWay 121 = .ok (.bipush 17, 2) := dk_16 17 (dk_at dksX6_readWay_5 1 rfl rfl)
theorem dX6_readWay_123 : decode cX6_readWay 123 = .ok (.iadd, 1) := dk_96 (dk_at dksX6_readWay_5 3 rfl rfl)
theorem dX6_readWay_124 : decode cX6_readWay 124 = .ok (.aload_n 0, 1) := dk_42 (dk_at dksX6_readWay_5 4 rfl rfl)
theorem dX6_readWay_125 : decode cX6_readWay 125 = .ok (.getfield 34, 3) := dk_180 0 34 (dk_at dksX6_readWay_5 5 rfl rfl)
theorem dX6_readWay_128 : decode cX6_readWay 128 = .ok (.iload_n 1, 1) := dk_27 (dk_at dksX6_readWay_5 8 rfl rfl)
theorem dX6_readWay_129 : decode cX6_readWay 129 = .ok (.iconst 4, 1) := dk_7 (dk_at dksX6_readWay_5 9 rfl rfl)
theorem dX6_readWay_130 : decode cX6_readWay 130 = .ok (.iadd, 1) := dk_96 (dk_at dksX6_readWay_5 10 rfl rfl)
theorem dX6_readWay_131 : decode cX6_readWay 131 = .ok (.iaload, 1) := dk_46 (dk_at dksX6_readWay_5 11 rfl rfl)
theorem dX6_readWay_132 : decode cX6_readWay 132 = .ok (.iadd, 1) := dk_96 (dk_at dksX6_readWay_5 12 rfl rfl)
theorem dX6_readWay_133 : decode cX6_readWay 133 = .ok (.iload 4, 2) := dk_21 4 (dk_at dksX6_readWay_5 13 rfl rfl)
theorem dX6_readWay_135 : decode cX6_readWay 135 = .ok (.iastore, 1) := dk_79 (dk_at dksX6_readWay_5 15 rfl rfl)
theorem dX6_readWay_136 : decode cX6_readWay 136 = .ok (.aload_n 0, 1) := dk_42 (dk_at dksX6_readWay_5 16 rfl rfl)
theorem dX6_readWay_137 : decode cX6_readWay 137 = .ok (.getfield 34, 3) := dk_180 0 34 (dk_at dksX6_readWay_5 17 rfl rfl)
theorem dX6_readWay_140 : decode cX6_readWay 140 = .ok (.iload_n 1, 1) := dk_27 (dk_at dksX6_readWay_5 20 rfl rfl)
theorem dX6_readWay_141 : decode cX6_readWay 141 = .ok (.iconst 4, 1) := dk_7 (dk_at dksX6_readWay_5 21 rfl rfl)
theorem dX6_readWay_142 : decode cX6_readWay 142 = .ok (.iadd, 1) := dk_96 (dk_at dksX6_readWay_5 22 rfl rfl)
theorem dX6_readWay_143 : decode cX6_readWay 143 = .ok (.dup2, 1) := dk_92 (dk_at dksX6_readWay_5 23 rfl rfl)
theorem dX6_readWay_144 : decode cX6_readWay 144 = .ok (.iaload, 1) := dk_46 (dk_at dksX6_readWay_6 0 rfl rfl)
theorem dX6_readWay_145 : decode cX6_readWay 145 = .ok (.iconst 1, 1) := dk_4 (dk_at dksX6_readWay_6 1 rfl rfl)
theorem dX6_readWay_146 : decode cX6_readWay 146 = .ok (.iadd, 1) := dk_96 (dk_at dksX6_readWay_6 2 rfl rfl)
theorem dX6_readWay_147 : decode cX6_readWay 147 = .ok (.iastore, 1) := dk_79 (dk_at dksX6_readWay_6 3 rfl rfl)
theorem dX6_readWay_148 : decode cX6_readWay 148 = .ok (.goto 41, 3) := dk_167 0 41 (dk_at dksX6_readWay_6 4 rfl rfl)
theorem dX6_readWay_151 : decode cX6_readWay 151 = .ok (.aload_n 0, 1) := dk_42 (dk_at dksX6_readWay_6 7 rfl rfl)
theorem dX6_readWay_152 : decode cX6_readWay 152 = .ok (.iconst 0, 1) := dk_3 (dk_at dksX6_readWay_6 8 rfl rfl)
theorem dX6_readWay_153 : decode cX6_readWay 153 = .ok (.bipush 99, 2) := dk_16 99 (dk_at dksX6_readWay_6 9 rfl rfl)
theorem dX6_readWay_155 : decode cX6_readWay 155 = .ok (.iconst 0, 1) := dk_3 (dk_at dksX6_readWay_6 11 rfl rfl)
theorem dX6_readWay_156 : decode cX6_readWay 156 = .ok (.invokevirtual 199, 3) := dk_182 0 199 (dk_at dksX6_readWay_6 12 rfl rfl)
theorem dX6_readWay_159 : decode cX6_readWay 159 = .ok (.istore_n 3, 1) := dk_62 (dk_at dksX6_readWay_6 15 rfl rfl)
theorem dX6_readWay_160 : decode cX6_readWay 160 = .ok (.aload_n 0, 1) := dk_42 (dk_at dksX6_readWay_6 16 rfl rfl)
theorem dX6_readWay_161 : decode cX6_readWay 161 = .ok (.getfield 34, 3) := dk_180 0 34 (dk_at dksX6_readWay_6 17 rfl rfl)
theorem dX6_readWay_164 : decode cX6_readWay 164 = .ok (.iload_n 1, 1) := dk_27 (dk_at dksX6_readWay_6 20 rfl rfl)
theorem dX6_readWay_165 : decode cX6_readWay 165 = .ok (.iload_n 2, 1) := dk_28 (dk_at dksX6_readWay_6 21 rfl rfl)
theorem dX6_readWay_166 : decode cX6_readWay 166 = .ok (.bipush 8, 2) := dk_16 8 (dk_at dksX6_readWay_6 22 rfl rfl)
theorem dX6_readWay_168 : decode cX6_readWay 168 = .ok (.if_icmp .ne 7, 3) := dk_160 0 7 (dk_at dksX6_readWay_7 0 rfl rfl)
theorem dX6_readWay_171 : decode cX6_readWay 171 = .ok (.iconst 1, 1) := dk_4 (dk_at dksX6_readWay_7 3 rfl rfl)
theorem dX6_readWay_172 : decode cX6_readWay 172 = .ok (.goto 14, 3) := dk_167 0 14 (dk_at dksX6_readWay_7 4 rfl rfl)
theorem dX6_readWay_175 : decode cX6_readWay 175 = .ok (.iload_n 2, 1) := dk_28 (dk_at dksX6_readWay_7 7 rfl rfl)
theorem dX6_readWay_176 : decode cX6_readWay 176 = .ok (.bipush 9, 2) := dk_16 9 (dk_at dksX6_readWay_7 8 rfl rfl)
theorem dX6_readWay_178 : decode cX6_readWay 178 = .ok (.if_icmp .ne 7, 3) := dk_160 0 7 (dk_at dksX6_readWay_7 10 rfl rfl)
theorem dX6_readWay_181 : decode cX6_readWay 181 = .ok (.iconst 2, 1) := dk_5 (dk_at dksX6_readWay_7 13 rfl rfl)
theorem dX6_readWay_182 : decode cX6_readWay 182 = .ok (.goto 4, 3) := dk_167 0 4 (dk_at dksX6_readWay_7 14 rfl rfl)
theorem dX6_readWay_185 : decode cX6_readWay 185 = .ok (.iconst 3, 1) := dk_6 (dk_at dksX6_readWay_7 17 rfl rfl)
theorem dX6_readWay_186 : decode cX6_readWay 186 = .ok (.iadd, 1) := dk_96 (dk_at dksX6_readWay_7 18 rfl rfl)
theorem dX6_readWay_187 : decode cX6_readWay 187 = .ok (.iload_n 3, 1) := dk_29 (dk_at dksX6_readWay_7 19 rfl rfl)
theorem dX6_readWay_188 : decode cX6_readWay 188 = .ok (.iastore, 1) := dk_79 (dk_at dksX6_readWay_7 20 rfl rfl)
theorem dX6_readWay_189 : decode cX6_readWay 189 = .ok (.aload_n 0, 1) := dk_42 (dk_at dksX6_readWay_7 21 rfl rfl)
theorem dX6_readWay_190 : decode cX6_readWay 190 = .ok (.bipush 15, 2) := dk_16 15 (dk_at dksX6_readWay_7 22 rfl rfl)
theorem dX6_readWay_192 : decode cX6_readWay 192 = .ok (.invokevirtual 196, 3) := dk_182 0 196 (dk_at dksX6_readWay_8 0 rfl rfl)
theorem dX6_readWay_195 : decode cX6_readWay 195 = .ok (.aload_n 0, 1) := dk_42 (dk_at dksX6_readWay_8 3 rfl rfl)
theorem dX6_readWay_196 : decode cX6_readWay 196 = .ok (.getfield 34, 3) := dk_180 0 34 (dk_at dksX6_readWay_8 4 rfl rfl)
theorem dX6_readWay_199 : decode cX6_readWay 199 = .ok (.iload_n 1, 1) := dk_27 (dk_at dksX6_readWay_8 7 rfl rfl)
theorem dX6_readWay_200 : decode cX6_readWay 200 = .ok (.dup2, 1) := dk_92 (dk_at dksX6_readWay_8 8 rfl rfl)
theorem dX6_readWay_201 : decode cX6_readWay 201 = .ok (.iaload, 1) := dk_46 (dk_at dksX6_readWay_8 9 rfl rfl)
theorem dX6_readWay_202 : decode cX6_readWay 202 = .ok (.iconst 1, 1) := dk_4 (dk_at dksX6_readWay_8 10 rfl rfl)
theorem dX6_readWay_203 : decode cX6_readWay 203 = .ok (.iadd, 1) := dk_96 (dk_at dksX6_readWay_8 11 rfl rfl)
theorem dX6_readWay_204 : decode cX6_readWay 204 = .ok (.iastore, 1) := dk_79 (dk_at dksX6_readWay_8 12 rfl rfl)
theorem dX6_readWay_205 : decode cX6_readWay 205 = .ok (.return_, 1) := dk_177 (dk_at dksX6_readWay_8 13 rfl rfl)
abbrev cX6_fault : ByteArray := prog_28_method_36_code
def yX6_fault : MethodName := ⟨RX6, "fault", "(I)I"⟩
def dkwX6_fault_1 : List UInt8 := [180, 0, 40, 167, 0, 4, 2, 172]
abbrev dktX6_fault_1 : List UInt8 := dkwX6_fault_1 ++ []
def dkwX6_fault_0 : List UInt8 := [42, 3, 181, 0, 1, 27, 154, 0, 10, 42, 180, 0, 217, 167, 0, 16, 27, 4, 160, 0, 10, 42]
abbrev dktX6_fault_0 : List UInt8 := dkwX6_fault_0 ++ dktX6_fault_1
theorem dksX6_fault_0 : cX6_fault.data.toList.drop 0 = dktX6_fault_0 := by decide +kernel
theorem dksX6_fault_1 : cX6_fault.data.toList.drop 22 = dktX6_fault_1 := dk_seg dksX6_fault_0 22 rfl rfl
theorem dX6_fault_0 : decode cX6_fault 0 = .ok (.aload_n 0, 1) := dk_42 (dk_at dksX6_fault_0 0 rfl rfl)
theorem dX6_fault_1 : decode cX6_fault 1 = .ok (.iconst 0, 1) := dk_3 (dk_at dksX6_fault_0 1 rfl rfl)
theorem dX6_fault_2 : decode cX6_fault 2 = .ok (.putfield 1, 3) := dk_181 0 1 (dk_at dksX6_fault_0 2 rfl rfl)
theorem dX6_fault_5 : decode cX6_fault 5 = .ok (.iload_n 1, 1) := dk_27 (dk_at dksX6_fault_0 5 rfl rfl)
theorem dX6_fault_6 : decode cX6_fault 6 = .ok (.ifCond .ne 10, 3) := dk_154 0 10 (dk_at dksX6_fault_0 6 rfl rfl)
theorem dX6_fault_9 : decode cX6_fault 9 = .ok (.aload_n 0, 1) := dk_42 (dk_at dksX6_fault_0 9 rfl rfl)
theorem dX6_fault_10 : decode cX6_fault 10 = .ok (.getfield 217, 3) := dk_180 0 217 (dk_at dksX6_fault_0 10 rfl rfl)
theorem dX6_fault_13 : decode cX6_fault 13 = .ok (.goto 16, 3) := dk_167 0 16 (dk_at dksX6_fault_0 13 rfl rfl)
theorem dX6_fault_16 : decode cX6_fault 16 = .ok (.iload_n 1, 1) := dk_27 (dk_at dksX6_fault_0 16 rfl rfl)
theorem dX6_fault_17 : decode cX6_fault 17 = .ok (.iconst 1, 1) := dk_4 (dk_at dksX6_fault_0 17 rfl rfl)
theorem dX6_fault_18 : decode cX6_fault 18 = .ok (.if_icmp .ne 10, 3) := dk_160 0 10 (dk_at dksX6_fault_0 18 rfl rfl)
theorem dX6_fault_21 : decode cX6_fault 21 = .ok (.aload_n 0, 1) := dk_42 (dk_at dksX6_fault_0 21 rfl rfl)
theorem dX6_fault_22 : decode cX6_fault 22 = .ok (.getfield 40, 3) := dk_180 0 40 (dk_at dksX6_fault_1 0 rfl rfl)
theorem dX6_fault_25 : decode cX6_fault 25 = .ok (.goto 4, 3) := dk_167 0 4 (dk_at dksX6_fault_1 3 rfl rfl)
theorem dX6_fault_28 : decode cX6_fault 28 = .ok (.iconst (-1), 1) := dk_2 (dk_at dksX6_fault_1 6 rfl rfl)
theorem dX6_fault_29 : decode cX6_fault 29 = .ok (.ireturn, 1) := dk_172 (dk_at dksX6_fault_1 7 rfl rfl)
abbrev cX6_smoothed : ByteArray := prog_28_method_42_code
def yX6_smoothed : MethodName := ⟨RX6, "smoothed", "(JI)J"⟩
def dkwX6_smoothed_1 : List UInt8 := [42, 16, 253, 182, 0, 85, 133, 173, 42, 31, 29, 182, 0, 236, 173]
abbrev dktX6_smoothed_1 : List UInt8 := dkwX6_smoothed_1 ++ []
def dkwX6_smoothed_0 : List UInt8 := [42, 3, 181, 0, 1, 31, 184, 0, 77, 153, 0, 15, 29, 133, 9, 20, 0, 89, 184, 0, 81, 154, 0, 11]
abbrev dktX6_smoothed_0 : List UInt8 := dkwX6_smoothed_0 ++ dktX6_smoothed_1
theorem dksX6_smoothed_0 : cX6_smoothed.data.toList.drop 0 = dktX6_smoothed_0 := by decide +kernel
theorem dksX6_smoothed_1 : cX6_smoothed.data.toList.drop 24 = dktX6_smoothed_1 := dk_seg dksX6_smoothed_0 24 rfl rfl
theorem dX6_smoothed_0 : decode cX6_smoothed 0 = .ok (.aload_n 0, 1) := dk_42 (dk_at dksX6_smoothed_0 0 rfl rfl)
theorem dX6_smoothed_1 : decode cX6_smoothed 1 = .ok (.iconst 0, 1) := dk_3 (dk_at dksX6_smoothed_0 1 rfl rfl)
theorem dX6_smoothed_2 : decode cX6_smoothed 2 = .ok (.putfield 1, 3) := dk_181 0 1 (dk_at dksX6_smoothed_0 2 rfl rfl)
theorem dX6_smoothed_5 : decode cX6_smoothed 5 = .ok (.lload_n 1, 1) := dk_31 (dk_at dksX6_smoothed_0 5 rfl rfl)
theorem dX6_smoothed_6 : decode cX6_smoothed 6 = .ok (.invokestatic 77, 3) := dk_184 0 77 (dk_at dksX6_smoothed_0 6 rfl rfl)
theorem dX6_smoothed_9 : decode cX6_smoothed 9 = .ok (.ifCond .eq 15, 3) := dk_153 0 15 (dk_at dksX6_smoothed_0 9 rfl rfl)
theorem dX6_smoothed_12 : decode cX6_smoothed 12 = .ok (.iload_n 3, 1) := dk_29 (dk_at dksX6_smoothed_0 12 rfl rfl)
theorem dX6_smoothed_13 : decode cX6_smoothed 13 = .ok (.i2l, 1) := dk_133 (dk_at dksX6_smoothed_0 13 rfl rfl)
theorem dX6_smoothed_14 : decode cX6_smoothed 14 = .ok (.lconst 0, 1) := dk_9 (dk_at dksX6_smoothed_0 14 rfl rfl)
theorem dX6_smoothed_15 : decode cX6_smoothed 15 = .ok (.ldc2_w 89, 3) := dk_20 0 89 (dk_at dksX6_smoothed_0 15 rfl rfl)
theorem dX6_smoothed_18 : decode cX6_smoothed 18 = .ok (.invokestatic 81, 3) := dk_184 0 81 (dk_at dksX6_smoothed_0 18 rfl rfl)
theorem dX6_smoothed_21 : decode cX6_smoothed 21 = .ok (.ifCond .ne 11, 3) := dk_154 0 11 (dk_at dksX6_smoothed_0 21 rfl rfl)
theorem dX6_smoothed_24 : decode cX6_smoothed 24 = .ok (.aload_n 0, 1) := dk_42 (dk_at dksX6_smoothed_1 0 rfl rfl)
theorem dX6_smoothed_25 : decode cX6_smoothed 25 = .ok (.bipush (-3), 2) := dk_16 253 (dk_at dksX6_smoothed_1 1 rfl rfl)
theorem dX6_smoothed_27 : decode cX6_smoothed 27 = .ok (.invokevirtual 85, 3) := dk_182 0 85 (dk_at dksX6_smoothed_1 3 rfl rfl)
theorem dX6_smoothed_30 : decode cX6_smoothed 30 = .ok (.i2l, 1) := dk_133 (dk_at dksX6_smoothed_1 6 rfl rfl)
theorem dX6_smoothed_31 : decode cX6_smoothed 31 = .ok (.lreturn, 1) := dk_173 (dk_at dksX6_smoothed_1 7 rfl rfl)
theorem dX6_smoothed_32 : decode cX6_smoothed 32 = .ok (.aload_n 0, 1) := dk_42 (dk_at dksX6_smoothed_1 8 rfl rfl)
theorem dX6_smoothed_33 : decode cX6_smoothed 33 = .ok (.lload_n 1, 1) := dk_31 (dk_at dksX6_smoothed_1 9 rfl rfl)
theorem dX6_smoothed_34 : decode cX6_smoothed 34 = .ok (.iload_n 3, 1) := dk_29 (dk_at dksX6_smoothed_1 10 rfl rfl)
theorem dX6_smoothed_35 : decode cX6_smoothed 35 = .ok (.invokevirtual 236, 3) := dk_182 0 236 (dk_at dksX6_smoothed_1 11 rfl rfl)
theorem dX6_smoothed_38 : decode cX6_smoothed 38 = .ok (.lreturn, 1) := dk_173 (dk_at dksX6_smoothed_1 14 rfl rfl)
abbrev cX6_smooth : ByteArray := prog_28_method_41_code
def yX6_smooth : MethodName := ⟨RX6, "smooth", "(JI)J"⟩
def dkwX6_smooth_6 : List UInt8 := [167, 255, 222, 22, 5, 173]
abbrev dktX6_smooth_6 : List UInt8 := dkwX6_smooth_6 ++ []
def dkwX6_smooth_5 : List UInt8 := [180, 0, 43, 21, 7, 46, 133, 16, 56, 16, 8, 21, 7, 104, 100, 121, 129, 55, 5, 132, 7, 1]
abbrev dktX6_smooth_5 : List UInt8 := dkwX6_smooth_5 ++ dktX6_smooth_6
def dkwX6_smooth_4 : List UInt8 := [132, 5, 1, 167, 255, 204, 9, 55, 5, 3, 54, 7, 21, 7, 42, 180, 0, 220, 162, 0, 31, 22, 5, 42]
abbrev dktX6_smooth_4 : List UInt8 := dkwX6_smooth_4 ++ dktX6_smooth_5
def dkwX6_smooth_3 : List UInt8 := [162, 0, 23, 21, 4, 154, 0, 18, 42, 21, 6, 29, 182, 0, 233, 54, 4, 132, 6, 1, 167, 255, 228]
abbrev dktX6_smooth_3 : List UInt8 := dkwX6_smooth_3 ++ dktX6_smooth_4
def dkwX6_smooth_2 : List UInt8 := [16, 12, 162, 0, 51, 21, 4, 153, 0, 46, 3, 54, 4, 3, 54, 6, 21, 6, 42, 180, 0, 31, 3, 46]
abbrev dktX6_smooth_2 : List UInt8 := dkwX6_smooth_2 ++ dktX6_smooth_3
def dkwX6_smooth_1 : List UInt8 := [21, 4, 31, 21, 4, 184, 0, 73, 79, 132, 4, 1, 167, 255, 231, 4, 54, 4, 3, 54, 5, 21, 5]
abbrev dktX6_smooth_1 : List UInt8 := dkwX6_smooth_1 ++ dktX6_smooth_2
def dkwX6_smooth_0 : List UInt8 := [42, 31, 184, 0, 77, 181, 0, 220, 3, 54, 4, 21, 4, 42, 180, 0, 220, 162, 0, 22, 42, 180, 0, 43]
abbrev dktX6_smooth_0 : List UInt8 := dkwX6_smooth_0 ++ dktX6_smooth_1
theorem dksX6_smooth_0 : cX6_smooth.data.toList.drop 0 = dktX6_smooth_0 := by decide +kernel
theorem dksX6_smooth_1 : cX6_smooth.data.toList.drop 24 = dktX6_smooth_1 := dk_seg dksX6_smooth_0 24 rfl rfl
theorem dksX6_smooth_2 : cX6_smooth.data.toList.drop 47 = dktX6_smooth_2 := dk_seg dksX6_smooth_1 23 rfl rfl
theorem dksX6_smooth_3 : cX6_smooth.data.toList.drop 71 = dktX6_smooth_3 := dk_seg dksX6_smooth_2 24 rfl rfl
theorem dksX6_smooth_4 : cX6_smooth.data.toList.drop 94 = dktX6_smooth_4 := dk_seg dksX6_smooth_3 23 rfl rfl
theorem dksX6_smooth_5 : cX6_smooth.data.toList.drop 118 = dktX6_smooth_5 := dk_seg dksX6_smooth_4 24 rfl rfl
theorem dksX6_smooth_6 : cX6_smooth.data.toList.drop 140 = dktX6_smooth_6 := dk_seg dksX6_smooth_5 22 rfl rfl
theorem dX6_smooth_0 : decode cX6_smooth 0 = .ok (.aload_n 0, 1) := dk_42 (dk_at dksX6_smooth_0 0 rfl rfl)
theorem dX6_smooth_1 : decode cX6_smooth 1 = .ok (.lload_n 1, 1) := dk_31 (dk_at dksX6_smooth_0 1 rfl rfl)
theorem dX6_smooth_2 : decode cX6_smooth 2 = .ok (.invokestatic 77, 3) := dk_184 0 77 (dk_at dksX6_smooth_0 2 rfl rfl)
theorem dX6_smooth_5 : decode cX6_smooth 5 = .ok (.putfield 220, 3) := dk_181 0 220 (dk_at dksX6_smooth_0 5 rfl rfl)
theorem dX6_smooth_8 : decode cX6_smooth 8 = .ok (.iconst 0, 1) := dk_3 (dk_at dksX6_smooth_0 8 rfl rfl)
theorem dX6_smooth_9 : decode cX6_smooth 9 = .ok (.istore 4, 2) := dk_54 4 (dk_at dksX6_smooth_0 9 rfl rfl)
theorem dX6_smooth_11 : decode cX6_smooth 11 = .ok (.iload 4, 2) := dk_21 4 (dk_at dksX6_smooth_0 11 rfl rfl)
theorem dX6_smooth_13 : decode cX6_smooth 13 = .ok (.aload_n 0, 1) := dk_42 (dk_at dksX6_smooth_0 13 rfl rfl)
theorem dX6_smooth_14 : decode cX6_smooth 14 = .ok (.getfield 220, 3) := dk_180 0 220 (dk_at dksX6_smooth_0 14 rfl rfl)
theorem dX6_smooth_17 : decode cX6_smooth 17 = .ok (.if_icmp .ge 22, 3) := dk_162 0 22 (dk_at dksX6_smooth_0 17 rfl rfl)
theorem dX6_smooth_20 : decode cX6_smooth 20 = .ok (.aload_n 0, 1) := dk_42 (dk_at dksX6_smooth_0 20 rfl rfl)
theorem dX6_smooth_21 : decode cX6_smooth 21 = .ok (.getfield 43, 3) := dk_180 0 43 (dk_at dksX6_smooth_0 21 rfl rfl)
theorem dX6_smooth_24 : decode cX6_smooth 24 = .ok (.iload 4, 2) := dk_21 4 (dk_at dksX6_smooth_1 0 rfl rfl)
theorem dX6_smooth_26 : decode cX6_smooth 26 = .ok (.lload_n 1, 1) := dk_31 (dk_at dksX6_smooth_1 2 rfl rfl)
theorem dX6_smooth_27 : decode cX6_smooth 27 = .ok (.iload 4, 2) := dk_21 4 (dk_at dksX6_smooth_1 3 rfl rfl)
theorem dX6_smooth_29 : decode cX6_smooth 29 = .ok (.invokestatic 73, 3) := dk_184 0 73 (dk_at dksX6_smooth_1 5 rfl rfl)
theorem dX6_smooth_32 : decode cX6_smooth 32 = .ok (.iastore, 1) := dk_79 (dk_at dksX6_smooth_1 8 rfl rfl)
theorem dX6_smooth_33 : decode cX6_smooth 33 = .ok (.iinc 4 1, 3) := dk_132 4 1 (dk_at dksX6_smooth_1 9 rfl rfl)
theorem dX6_smooth_36 : decode cX6_smooth 36 = .ok (.goto (-25), 3) := dk_167 255 231 (dk_at dksX6_smooth_1 12 rfl rfl)
theorem dX6_smooth_39 : decode cX6_smooth 39 = .ok (.iconst 1, 1) := dk_4 (dk_at dksX6_smooth_1 15 rfl rfl)
theorem dX6_smooth_40 : decode cX6_smooth 40 = .ok (.istore 4, 2) := dk_54 4 (dk_at dksX6_smooth_1 16 rfl rfl)
theorem dX6_smooth_42 : decode cX6_smooth 42 = .ok (.iconst 0, 1) := dk_3 (dk_at dksX6_smooth_1 18 rfl rfl)
theorem dX6_smooth_43 : decode cX6_smooth 43 = .ok (.istore 5, 2) := dk_54 5 (dk_at dksX6_smooth_1 19 rfl rfl)
theorem dX6_smooth_45 : decode cX6_smooth 45 = .ok (.iload 5, 2) := dk_21 5 (dk_at dksX6_smooth_1 21 rfl rfl)
theorem dX6_smooth_47 : decode cX6_smooth 47 = .ok (.bipush 12, 2) := dk_16 12 (dk_at dksX6_smooth_2 0 rfl rfl)
theorem dX6_smooth_49 : decode cX6_smooth 49 = .ok (.if_icmp .ge 51, 3) := dk_162 0 51 (dk_at dksX6_smooth_2 2 rfl rfl)
theorem dX6_smooth_52 : decode cX6_smooth 52 = .ok (.iload 4, 2) := dk_21 4 (dk_at dksX6_smooth_2 5 rfl rfl)
theorem dX6_smooth_54 : decode cX6_smooth 54 = .ok (.ifCond .eq 46, 3) := dk_153 0 46 (dk_at dksX6_smooth_2 7 rfl rfl)
theorem dX6_smooth_57 : decode cX6_smooth 57 = .ok (.iconst 0, 1) := dk_3 (dk_at dksX6_smooth_2 10 rfl rfl)
theorem dX6_smooth_58 : decode cX6_smooth 58 = .ok (.istore 4, 2) := dk_54 4 (dk_at dksX6_smooth_2 11 rfl rfl)
theorem dX6_smooth_60 : decode cX6_smooth 60 = .ok (.iconst 0, 1) := dk_3 (dk_at dksX6_smooth_2 13 rfl rfl)
theorem dX6_smooth_61 : decode cX6_smooth 61 = .ok (.istore 6, 2) := dk_54 6 (dk_at dksX6_smooth_2 14 rfl rfl)
theorem dX6_smooth_63 : decode cX6_smooth 63 = .ok (.iload 6, 2) := dk_21 6 (dk_at dksX6_smooth_2 16 rfl rfl)
theorem dX6_smooth_65 : decode cX6_smooth 65 = .ok (.aload_n 0, 1) := dk_42 (dk_at dksX6_smooth_2 18 rfl rfl)
theorem dX6_smooth_66 : decode cX6_smooth 66 = .ok (.getfield 31, 3) := dk_180 0 31 (dk_at dksX6_smooth_2 19 rfl rfl)
theorem dX6_smooth_69 : decode cX6_smooth 69 = .ok (.iconst 0, 1) := dk_3 (dk_at dksX6_smooth_2 22 rfl rfl)
theorem dX6_smooth_70 : decode cX6_smooth 70 = .ok (.iaload, 1) := dk_46 (dk_at dksX6_smooth_2 23 rfl rfl)
theorem dX6_smooth_71 : decode cX6_smooth 71 = .ok (.if_icmp .ge 23, 3) := dk_162 0 23 (dk_at dksX6_smooth_3 0 rfl rfl)
theorem dX6_smooth_74 : decode cX6_smooth 74 = .ok (.iload 4, 2) := dk_21 4 (dk_at dksX6_smooth_3 3 rfl rfl)
theorem dX6_smooth_76 : decode cX6_smooth 76 = .ok (.ifCond .ne 18, 3) := dk_154 0 18 (dk_at dksX6_smooth_3 5 rfl rfl)
theorem dX6_smooth_79 : decode cX6_smooth 79 = .ok (.aload_n 0, 1) := dk_42 (dk_at dksX6_smooth_3 8 rfl rfl)
theorem dX6_smooth_80 : decode cX6_smooth 80 = .ok (.iload 6, 2) := dk_21 6 (dk_at dksX6_smooth_3 9 rfl rfl)
theorem dX6_smooth_82 : decode cX6_smooth 82 = .ok (.iload_n 3, 1) := dk_29 (dk_at dksX6_smooth_3 11 rfl rfl)
theorem dX6_smooth_83 : decode cX6_smooth 83 = .ok (.invokevirtual 233, 3) := dk_182 0 233 (dk_at dksX6_smooth_3 12 rfl rfl)
theorem dX6_smooth_86 : decode cX6_smooth 86 = .ok (.istore 4, 2) := dk_54 4 (dk_at dksX6_smooth_3 15 rfl rfl)
theorem dX6_smooth_88 : decode cX6_smooth 88 = .ok (.iinc 6 1, 3) := dk_132 6 1 (dk_at dksX6_smooth_3 17 rfl rfl)
theorem dX6_smooth_91 : decode cX6_smooth 91 = .ok (.goto (-28), 3) := dk_167 255 228 (dk_at dksX6_smooth_3 20 rfl rfl)
theorem dX6_smooth_94 : decode cX6_smooth 94 = .ok (.iinc 5 1, 3) := dk_132 5 1 (dk_at dksX6_smooth_4 0 rfl rfl)
theorem dX6_smooth_97 : decode cX6_smooth 97 = .ok (.goto (-52), 3) := dk_167 255 204 (dk_at dksX6_smooth_4 3 rfl rfl)
theorem dX6_smooth_100 : decode cX6_smooth 100 = .ok (.lconst 0, 1) := dk_9 (dk_at dksX6_smooth_4 6 rfl rfl)
theorem dX6_smooth_101 : decode cX6_smooth 101 = .ok (.lstore 5, 2) := dk_55 5 (dk_at dksX6_smooth_4 7 rfl rfl)
theorem dX6_smooth_103 : decode cX6_smooth 103 = .ok (.iconst 0, 1) := dk_3 (dk_at dksX6_smooth_4 9 rfl rfl)
theorem dX6_smooth_104 : decode cX6_smooth 104 = .ok (.istore 7, 2) := dk_54 7 (dk_at dksX6_smooth_4 10 rfl rfl)
theorem dX6_smooth_106 : decode cX6_smooth 106 = .ok (.iload 7, 2) := dk_21 7 (dk_at dksX6_smooth_4 12 rfl rfl)
theorem dX6_smooth_108 : decode cX6_smooth 108 = .ok (.aload_n 0, 1) := dk_42 (dk_at dksX6_smooth_4 14 rfl rfl)
theorem dX6_smooth_109 : decode cX6_smooth 109 = .ok (.getfield 220, 3) := dk_180 0 220 (dk_at dksX6_smooth_4 15 rfl rfl)
theorem dX6_smooth_112 : decode cX6_smooth 112 = .ok (.if_icmp .ge 31, 3) := dk_162 0 31 (dk_at dksX6_smooth_4 18 rfl rfl)
theorem dX6_smooth_115 : decode cX6_smooth 115 = .ok (.lload 5, 2) := dk_22 5 (dk_at dksX6_smooth_4 21 rfl rfl)
theorem dX6_smooth_117 : decode cX6_smooth 117 = .ok (.aload_n 0, 1) := dk_42 (dk_at dksX6_smooth_4 23 rfl rfl)
theorem dX6_smooth_118 : decode cX6_smooth 118 = .ok (.getfield 43, 3) := dk_180 0 43 (dk_at dksX6_smooth_5 0 rfl rfl)
theorem dX6_smooth_121 : decode cX6_smooth 121 = .ok (.iload 7, 2) := dk_21 7 (dk_at dksX6_smooth_5 3 rfl rfl)
theorem dX6_smooth_123 : decode cX6_smooth 123 = .ok (.iaload, 1) := dk_46 (dk_at dksX6_smooth_5 5 rfl rfl)
theorem dX6_smooth_124 : decode cX6_smooth 124 = .ok (.i2l, 1) := dk_133 (dk_at dksX6_smooth_5 6 rfl rfl)
theorem dX6_smooth_125 : decode cX6_smooth 125 = .ok (.bipush 56, 2) := dk_16 56 (dk_at dksX6_smooth_5 7 rfl rfl)
theorem dX6_smooth_127 : decode cX6_smooth 127 = .ok (.bipush 8, 2) := dk_16 8 (dk_at dksX6_smooth_5 9 rfl rfl)
theorem dX6_smooth_129 : decode cX6_smooth 129 = .ok (.iload 7, 2) := dk_21 7 (dk_at dksX6_smooth_5 11 rfl rfl)
theorem dX6_smooth_131 : decode cX6_smooth 131 = .ok (.imul, 1) := dk_104 (dk_at dksX6_smooth_5 13 rfl rfl)
theorem dX6_smooth_132 : decode cX6_smooth 132 = .ok (.isub, 1) := dk_100 (dk_at dksX6_smooth_5 14 rfl rfl)
theorem dX6_smooth_133 : decode cX6_smooth 133 = .ok (.lshl, 1) := dk_121 (dk_at dksX6_smooth_5 15 rfl rfl)
theorem dX6_smooth_134 : decode cX6_smooth 134 = .ok (.lor, 1) := dk_129 (dk_at dksX6_smooth_5 16 rfl rfl)
theorem dX6_smooth_135 : decode cX6_smooth 135 = .ok (.lstore 5, 2) := dk_55 5 (dk_at dksX6_smooth_5 17 rfl rfl)
theorem dX6_smooth_137 : decode cX6_smooth 137 = .ok (.iinc 7 1, 3) := dk_132 7 1 (dk_at dksX6_smooth_5 19 rfl rfl)
theorem dX6_smooth_140 : decode cX6_smooth 140 = .ok (.goto (-34), 3) := dk_167 255 222 (dk_at dksX6_smooth_6 0 rfl rfl)
theorem dX6_smooth_143 : decode cX6_smooth 143 = .ok (.lload 5, 2) := dk_22 5 (dk_at dksX6_smooth_6 3 rfl rfl)
theorem dX6_smooth_145 : decode cX6_smooth 145 = .ok (.lreturn, 1) := dk_173 (dk_at dksX6_smooth_6 5 rfl rfl)
abbrev cX6_does : ByteArray := prog_28_method_40_code
def yX6_does : MethodName := ⟨RX6, "does", "(II)Z"⟩
def dkwX6_does_10 : List UInt8 := [167, 255, 232, 4, 172]
abbrev dktX6_does_10 : List UInt8 := dkwX6_does_10 ++ []
def dkwX6_does_9 : List UInt8 := [21, 6, 162, 0, 23, 42, 180, 0, 43, 21, 8, 42, 180, 0, 46, 21, 8, 46, 79, 132, 8, 1]
abbrev dktX6_does_9 : List UInt8 := dkwX6_does_9 ++ dktX6_does_10
def dkwX6_does_8 : List UInt8 := [132, 8, 1, 167, 255, 153, 21, 7, 154, 0, 5, 3, 172, 42, 21, 6, 181, 0, 220, 3, 54, 8, 21, 8]
abbrev dktX6_does_8 : List UInt8 := dkwX6_does_8 ++ dktX6_does_9
def dkwX6_does_7 : List UInt8 := [180, 0, 46, 21, 8, 46, 42, 180, 0, 43, 21, 8, 46, 159, 0, 7, 4, 167, 0, 4, 3, 54, 7]
abbrev dktX6_does_7 : List UInt8 := dkwX6_does_7 ++ dktX6_does_8
def dkwX6_does_6 : List UInt8 := [167, 0, 16, 42, 180, 0, 43, 21, 8, 21, 5, 100, 21, 4, 96, 46, 79, 21, 7, 154, 0, 20, 42]
abbrev dktX6_does_6 : List UInt8 := dkwX6_does_6 ++ dktX6_does_7
def dkwX6_does_5 : List UInt8 := [21, 5, 96, 162, 0, 22, 42, 180, 0, 31, 16, 49, 7, 27, 104, 96, 21, 8, 96, 29, 100, 46]
abbrev dktX6_does_5 : List UInt8 := dkwX6_does_5 ++ dktX6_does_6
def dkwX6_does_4 : List UInt8 := [180, 0, 46, 21, 8, 21, 8, 29, 162, 0, 13, 42, 180, 0, 43, 21, 8, 46, 167, 0, 44, 21, 8, 29]
abbrev dktX6_does_4 : List UInt8 := dkwX6_does_4 ++ dktX6_does_5
def dkwX6_does_3 : List UInt8 := [180, 0, 220, 159, 0, 7, 4, 167, 0, 4, 3, 54, 7, 3, 54, 8, 21, 8, 21, 6, 162, 0, 102, 42]
abbrev dktX6_does_3 : List UInt8 := dkwX6_does_3 ++ dktX6_does_4
def dkwX6_does_2 : List UInt8 := [100, 21, 5, 96, 54, 6, 29, 2, 159, 0, 10, 21, 6, 16, 8, 164, 0, 5, 3, 172, 21, 6, 42]
abbrev dktX6_does_2 : List UInt8 := dkwX6_does_2 ++ dktX6_does_3
def dkwX6_does_1 : List UInt8 := [16, 97, 27, 96, 46, 54, 4, 42, 180, 0, 31, 16, 109, 27, 96, 46, 54, 5, 42, 180, 0, 220, 21, 4]
abbrev dktX6_does_1 : List UInt8 := dkwX6_does_1 ++ dktX6_does_2
def dkwX6_does_0 : List UInt8 := [42, 27, 28, 182, 0, 226, 153, 0, 11, 42, 27, 182, 0, 230, 167, 0, 4, 2, 62, 42, 180, 0, 31]
abbrev dktX6_does_0 : List UInt8 := dkwX6_does_0 ++ dktX6_does_1
theorem dksX6_does_0 : cX6_does.data.toList.drop 0 = dktX6_does_0 := by decide +kernel
theorem dksX6_does_1 : cX6_does.data.toList.drop 23 = dktX6_does_1 := dk_seg dksX6_does_0 23 rfl rfl
theorem dksX6_does_2 : cX6_does.data.toList.drop 47 = dktX6_does_2 := dk_seg dksX6_does_1 24 rfl rfl
theorem dksX6_does_3 : cX6_does.data.toList.drop 70 = dktX6_does_3 := dk_seg dksX6_does_2 23 rfl rfl
theorem dksX6_does_4 : cX6_does.data.toList.drop 94 = dktX6_does_4 := dk_seg dksX6_does_3 24 rfl rfl
theorem dksX6_does_5 : cX6_does.data.toList.drop 118 = dktX6_does_5 := dk_seg dksX6_does_4 24 rfl rfl
theorem dksX6_does_6 : cX6_does.data.toList.drop 140 = dktX6_does_6 := dk_seg dksX6_does_5 22 rfl rfl
theorem dksX6_does_7 : cX6_does.data.toList.drop 163 = dktX6_does_7 := dk_seg dksX6_does_6 23 rfl rfl
theorem dksX6_does_8 : cX6_does.data.toList.drop 186 = dktX6_does_8 := dk_seg dksX6_does_7 23 rfl rfl
theorem dksX6_does_9 : cX6_does.data.toList.drop 210 = dktX6_does_9 := dk_seg dksX6_does_8 24 rfl rfl
theorem dksX6_does_10 : cX6_does.data.toList.drop 232 = dktX6_does_10 := dk_seg dksX6_does_9 22 rfl rfl
theorem dX6_does_0 : decode cX6_does 0 = .ok (.aload_n 0, 1) := dk_42 (dk_at dksX6_does_0 0 rfl rfl)
theorem dX6_does_1 : decode cX6_does 1 = .ok (.iload_n 1, 1) := dk_27 (dk_at dksX6_does_0 1 rfl rfl)
theorem dX6_does_2 : decode cX6_does 2 = .ok (.iload_n 2, 1) := dk_28 (dk_at dksX6_does_0 2 rfl rfl)
theorem dX6_does_3 : decode cX6_does 3 = .ok (.invokevirtual 226, 3) := dk_182 0 226 (dk_at dksX6_does_0 3 rfl rfl)
theorem dX6_does_6 : decode cX6_does 6 = .ok (.ifCond .eq 11, 3) := dk_153 0 11 (dk_at dksX6_does_0 6 rfl rfl)
theorem dX6_does_9 : decode cX6_does 9 = .ok (.aload_n 0, 1) := dk_42 (dk_at dksX6_does_0 9 rfl rfl)
theorem dX6_does_10 : decode cX6_does 10 = .ok (.iload_n 1, 1) := dk_27 (dk_at dksX6_does_0 10 rfl rfl)
theorem dX6_does_11 : decode cX6_does 11 = .ok (.invokevirtual 230, 3) := dk_182 0 230 (dk_at dksX6_does_0 11 rfl rfl)
theorem dX6_does_14 : decode cX6_does 14 = .ok (.goto 4, 3) := dk_167 0 4 (dk_at dksX6_does_0 14 rfl rfl)
theorem dX6_does_17 : decode cX6_does 17 = .ok (.iconst (-1), 1) := dk_2 (dk_at dksX6_does_0 17 rfl rfl)
theorem dX6_does_18 : decode cX6_does 18 = .ok (.istore_n 3, 1) := dk_62 (dk_at dksX6_does_0 18 rfl rfl)
theorem dX6_does_19 : decode cX6_does 19 = .ok (.aload_n 0, 1) := dk_42 (dk_at dksX6_does_0 19 rfl rfl)
theorem dX6_does_20 : decode cX6_does 20 = .ok (.getfield 31, 3) := dk_180 0 31 (dk_at dksX6_does_0 20 rfl rfl)
theorem dX6_does_23 : decode cX6_does 23 = .ok (.bipush 97, 2) := dk_16 97 (dk_at dksX6_does_1 0 rfl rfl)
theorem dX6_does_25 : decode cX6_does 25 = .ok (.iload_n 1, 1) := dk_27 (dk_at dksX6_does_1 2 rfl rfl)
theorem dX6_does_26 : decode cX6_does 26 = .ok (.iadd, 1) := dk_96 (dk_at dksX6_does_1 3 rfl rfl)
theorem dX6_does_27 : decode cX6_does 27 = .ok (.iaload, 1) := dk_46 (dk_at dksX6_does_1 4 rfl rfl)
theorem dX6_does_28 : decode cX6_does 28 = .ok (.istore 4, 2) := dk_54 4 (dk_at dksX6_does_1 5 rfl rfl)
theorem dX6_does_30 : decode cX6_does 30 = .ok (.aload_n 0, 1) := dk_42 (dk_at dksX6_does_1 7 rfl rfl)
theorem dX6_does_31 : decode cX6_does 31 = .ok (.getfield 31, 3) := dk_180 0 31 (dk_at dksX6_does_1 8 rfl rfl)
theorem dX6_does_34 : decode cX6_does 34 = .ok (.bipush 109, 2) := dk_16 109 (dk_at dksX6_does_1 11 rfl rfl)
theorem dX6_does_36 : decode cX6_does 36 = .ok (.iload_n 1, 1) := dk_27 (dk_at dksX6_does_1 13 rfl rfl)
theorem dX6_does_37 : decode cX6_does 37 = .ok (.iadd, 1) := dk_96 (dk_at dksX6_does_1 14 rfl rfl)
theorem dX6_does_38 : decode cX6_does 38 = .ok (.iaload, 1) := dk_46 (dk_at dksX6_does_1 15 rfl rfl)
theorem dX6_does_39 : decode cX6_does 39 = .ok (.istore 5, 2) := dk_54 5 (dk_at dksX6_does_1 16 rfl rfl)
theorem dX6_does_41 : decode cX6_does 41 = .ok (.aload_n 0, 1) := dk_42 (dk_at dksX6_does_1 18 rfl rfl)
theorem dX6_does_42 : decode cX6_does 42 = .ok (.getfield 220, 3) := dk_180 0 220 (dk_at dksX6_does_1 19 rfl rfl)
theorem dX6_does_45 : decode cX6_does 45 = .ok (.iload 4, 2) := dk_21 4 (dk_at dksX6_does_1 22 rfl rfl)
theorem dX6_does_47 : decode cX6_does 47 = .ok (.isub, 1) := dk_100 (dk_at dksX6_does_2 0 rfl rfl)
theorem dX6_does_48 : decode cX6_does 48 = .ok (.iload 5, 2) := dk_21 5 (dk_at dksX6_does_2 1 rfl rfl)
theorem dX6_does_50 : decode cX6_does 50 = .ok (.iadd, 1) := dk_96 (dk_at dksX6_does_2 3 rfl rfl)
theorem dX6_does_51 : decode cX6_does 51 = .ok (.istore 6, 2) := dk_54 6 (dk_at dksX6_does_2 4 rfl rfl)
theorem dX6_does_53 : decode cX6_does 53 = .ok (.iload_n 3, 1) := dk_29 (dk_at dksX6_does_2 6 rfl rfl)
theorem dX6_does_54 : decode cX6_does 54 = .ok (.iconst (-1), 1) := dk_2 (dk_at dksX6_does_2 7 rfl rfl)
theorem dX6_does_55 : decode cX6_does 55 = .ok (.if_icmp .eq 10, 3) := dk_159 0 10 (dk_at dksX6_does_2 8 rfl rfl)
theorem dX6_does_58 : decode cX6_does 58 = .ok (.iload 6, 2) := dk_21 6 (dk_at dksX6_does_2 11 rfl rfl)
theorem dX6_does_60 : decode cX6_does 60 = .ok (.bipush 8, 2) := dk_16 8 (dk_at dksX6_does_2 13 rfl rfl)
theorem dX6_does_62 : decode cX6_does 62 = .ok (.if_icmp .le 5, 3) := dk_164 0 5 (dk_at dksX6_does_2 15 rfl rfl)
theorem dX6_does_65 : decode cX6_does 65 = .ok (.iconst 0, 1) := dk_3 (dk_at dksX6_does_2 18 rfl rfl)
theorem dX6_does_66 : decode cX6_does 66 = .ok (.ireturn, 1) := dk_172 (dk_at dksX6_does_2 19 rfl rfl)
theorem dX6_does_67 : decode cX6_does 67 = .ok (.iload 6, 2) := dk_21 6 (dk_at dksX6_does_2 20 rfl rfl)
theorem dX6_does_69 : decode cX6_does 69 = .ok (.aload_n 0, 1) := dk_42 (dk_at dksX6_does_2 22 rfl rfl)
theorem dX6_does_70 : decode cX6_does 70 = .ok (.getfield 220, 3) := dk_180 0 220 (dk_at dksX6_does_3 0 rfl rfl)
theorem dX6_does_73 : decode cX6_does 73 = .ok (.if_icmp .eq 7, 3) := dk_159 0 7 (dk_at dksX6_does_3 3 rfl rfl)
theorem dX6_does_76 : decode cX6_does 76 = .ok (.iconst 1, 1) := dk_4 (dk_at dksX6_does_3 6 rfl rfl)
theorem dX6_does_77 : decode cX6_does 77 = .ok (.goto 4, 3) := dk_167 0 4 (dk_at dksX6_does_3 7 rfl rfl)
theorem dX6_does_80 : decode cX6_does 80 = .ok (.iconst 0, 1) := dk_3 (dk_at dksX6_does_3 10 rfl rfl)
theorem dX6_does_81 : decode cX6_does 81 = .ok (.istore 7, 2) := dk_54 7 (dk_at dksX6_does_3 11 rfl rfl)
theorem dX6_does_83 : decode cX6_does 83 = .ok (.iconst 0, 1) := dk_3 (dk_at dksX6_does_3 13 rfl rfl)
theorem dX6_does_84 : decode cX6_does 84 = .ok (.istore 8, 2) := dk_54 8 (dk_at dksX6_does_3 14 rfl rfl)
theorem dX6_does_86 : decode cX6_does 86 = .ok (.iload 8, 2) := dk_21 8 (dk_at dksX6_does_3 16 rfl rfl)
theorem dX6_does_88 : decode cX6_does 88 = .ok (.iload 6, 2) := dk_21 6 (dk_at dksX6_does_3 18 rfl rfl)
theorem dX6_does_90 : decode cX6_does 90 = .ok (.if_icmp .ge 102, 3) := dk_162 0 102 (dk_at dksX6_does_3 20 rfl rfl)
theorem dX6_does_93 : decode cX6_does 93 = .ok (.aload_n 0, 1) := dk_42 (dk_at dksX6_does_3 23 rfl rfl)
theorem dX6_does_94 : decode cX6_does 94 = .ok (.getfield 46, 3) := dk_180 0 46 (dk_at dksX6_does_4 0 rfl rfl)
theorem dX6_does_97 : decode cX6_does 97 = .ok (.iload 8, 2) := dk_21 8 (dk_at dksX6_does_4 3 rfl rfl)
theorem dX6_does_99 : decode cX6_does 99 = .ok (.iload 8, 2) := dk_21 8 (dk_at dksX6_does_4 5 rfl rfl)
theorem dX6_does_101 : decode cX6_does 101 = .ok (.iload_n 3, 1) := dk_29 (dk_at dksX6_does_4 7 rfl rfl)
theorem dX6_does_102 : decode cX6_does 102 = .ok (.if_icmp .ge 13, 3) := dk_162 0 13 (dk_at dksX6_does_4 8 rfl rfl)
theorem dX6_does_105 : decode cX6_does 105 = .ok (.aload_n 0, 1) := dk_42 (dk_at dksX6_does_4 11 rfl rfl)
theorem dX6_does_106 : decode cX6_does 106 = .ok (.getfield 43, 3) := dk_180 0 43 (dk_at dksX6_does_4 12 rfl rfl)
theorem dX6_does_109 : decode cX6_does 109 = .ok (.iload 8, 2) := dk_21 8 (dk_at dksX6_does_4 15 rfl rfl)
theorem dX6_does_111 : decode cX6_does 111 = .ok (.iaload, 1) := dk_46 (dk_at dksX6_does_4 17 rfl rfl)
theorem dX6_does_112 : decode cX6_does 112 = .ok (.goto 44, 3) := dk_167 0 44 (dk_at dksX6_does_4 18 rfl rfl)
theorem dX6_does_115 : decode cX6_does 115 = .ok (.iload 8, 2) := dk_21 8 (dk_at dksX6_does_4 21 rfl rfl)
theorem dX6_does_117 : decode cX6_does 117 = .ok (.iload_n 3, 1) := dk_29 (dk_at dksX6_does_4 23 rfl rfl)
theorem dX6_does_118 : decode cX6_does 118 = .ok (.iload 5, 2) := dk_21 5 (dk_at dksX6_does_5 0 rfl rfl)
theorem dX6_does_120 : decode cX6_does 120 = .ok (.iadd, 1) := dk_96 (dk_at dksX6_does_5 2 rfl rfl)
theorem dX6_does_121 : decode cX6_does 121 = .ok (.if_icmp .ge 22, 3) := dk_162 0 22 (dk_at dksX6_does_5 3 rfl rfl)
theorem dX6_does_124 : decode cX6_does 124 = .ok (.aload_n 0, 1) := dk_42 (dk_at dksX6_does_5 6 rfl rfl)
theorem dX6_does_125 : decode cX6_does 125 = .ok (.getfield 31, 3) := dk_180 0 31 (dk_at dksX6_does_5 7 rfl rfl)
theorem dX6_does_128 : decode cX6_does 128 = .ok (.bipush 49, 2) := dk_16 49 (dk_at dksX6_does_5 10 rfl rfl)
theorem dX6_does_130 : decode cX6_does 130 = .ok (.iconst 4, 1) := dk_7 (dk_at dksX6_does_5 12 rfl rfl)
theorem dX6_does_131 : decode cX6_does 131 = .ok (.iload_n 1, 1) := dk_27 (dk_at dksX6_does_5 13 rfl rfl)
theorem dX6_does_132 : decode cX6_does 132 = .ok (.imul, 1) := dk_104 (dk_at dksX6_does_5 14 rfl rfl)
theorem dX6_does_133 : decode cX6_does 133 = .ok (.iadd, 1) := dk_96 (dk_at dksX6_does_5 15 rfl rfl)
theorem dX6_does_134 : decode cX6_does 134 = .ok (.iload 8, 2) := dk_21 8 (dk_at dksX6_does_5 16 rfl rfl)
theorem dX6_does_136 : decode cX6_does 136 = .ok (.iadd, 1) := dk_96 (dk_at dksX6_does_5 18 rfl rfl)
theorem dX6_does_137 : decode cX6_does 137 = .ok (.iload_n 3, 1) := dk_29 (dk_at dksX6_does_5 19 rfl rfl)
theorem dX6_does_138 : decode cX6_does 138 = .ok (.isub, 1) := dk_100 (dk_at dksX6_does_5 20 rfl rfl)
theorem dX6_does_139 : decode cX6_does 139 = .ok (.iaload, 1) := dk_46 (dk_at dksX6_does_5 21 rfl rfl)
theorem dX6_does_140 : decode cX6_does 140 = .ok (.goto 16, 3) := dk_167 0 16 (dk_at dksX6_does_6 0 rfl rfl)
theorem dX6_does_143 : decode cX6_does 143 = .ok (.aload_n 0, 1) := dk_42 (dk_at dksX6_does_6 3 rfl rfl)
theorem dX6_does_144 : decode cX6_does 144 = .ok (.getfield 43, 3) := dk_180 0 43 (dk_at dksX6_does_6 4 rfl rfl)
theorem dX6_does_147 : decode cX6_does 147 = .ok (.iload 8, 2) := dk_21 8 (dk_at dksX6_does_6 7 rfl rfl)
theorem dX6_does_149 : decode cX6_does 149 = .ok (.iload 5, 2) := dk_21 5 (dk_at dksX6_does_6 9 rfl rfl)
theorem dX6_does_151 : decode cX6_does 151 = .ok (.isub, 1) := dk_100 (dk_at dksX6_does_6 11 rfl rfl)
theorem dX6_does_152 : decode cX6_does 152 = .ok (.iload 4, 2) := dk_21 4 (dk_at dksX6_does_6 12 rfl rfl)
theorem dX6_does_154 : decode cX6_does 154 = .ok (.iadd, 1) := dk_96 (dk_at dksX6_does_6 14 rfl rfl)
theorem dX6_does_155 : decode cX6_does 155 = .ok (.iaload, 1) := dk_46 (dk_at dksX6_does_6 15 rfl rfl)
theorem dX6_does_156 : decode cX6_does 156 = .ok (.iastore, 1) := dk_79 (dk_at dksX6_does_6 16 rfl rfl)
theorem dX6_does_157 : decode cX6_does 157 = .ok (.iload 7, 2) := dk_21 7 (dk_at dksX6_does_6 17 rfl rfl)
theorem dX6_does_159 : decode cX6_does 159 = .ok (.ifCond .ne 20, 3) := dk_154 0 20 (dk_at dksX6_does_6 19 rfl rfl)
theorem dX6_does_162 : decode cX6_does 162 = .ok (.aload_n 0, 1) := dk_42 (dk_at dksX6_does_6 22 rfl rfl)
theorem dX6_does_163 : decode cX6_does 163 = .ok (.getfield 46, 3) := dk_180 0 46 (dk_at dksX6_does_7 0 rfl rfl)
theorem dX6_does_166 : decode cX6_does 166 = .ok (.iload 8, 2) := dk_21 8 (dk_at dksX6_does_7 3 rfl rfl)
theorem dX6_does_168 : decode cX6_does 168 = .ok (.iaload, 1) := dk_46 (dk_at dksX6_does_7 5 rfl rfl)
theorem dX6_does_169 : decode cX6_does 169 = .ok (.aload_n 0, 1) := dk_42 (dk_at dksX6_does_7 6 rfl rfl)
theorem dX6_does_170 : decode cX6_does 170 = .ok (.getfield 43, 3) := dk_180 0 43 (dk_at dksX6_does_7 7 rfl rfl)
theorem dX6_does_173 : decode cX6_does 173 = .ok (.iload 8, 2) := dk_21 8 (dk_at dksX6_does_7 10 rfl rfl)
theorem dX6_does_175 : decode cX6_does 175 = .ok (.iaload, 1) := dk_46 (dk_at dksX6_does_7 12 rfl rfl)
theorem dX6_does_176 : decode cX6_does 176 = .ok (.if_icmp .eq 7, 3) := dk_159 0 7 (dk_at dksX6_does_7 13 rfl rfl)
theorem dX6_does_179 : decode cX6_does 179 = .ok (.iconst 1, 1) := dk_4 (dk_at dksX6_does_7 16 rfl rfl)
theorem dX6_does_180 : decode cX6_does 180 = .ok (.goto 4, 3) := dk_167 0 4 (dk_at dksX6_does_7 17 rfl rfl)
theorem dX6_does_183 : decode cX6_does 183 = .ok (.iconst 0, 1) := dk_3 (dk_at dksX6_does_7 20 rfl rfl)
theorem dX6_does_184 : decode cX6_does 184 = .ok (.istore 7, 2) := dk_54 7 (dk_at dksX6_does_7 21 rfl rfl)
theorem dX6_does_186 : decode cX6_does 186 = .ok (.iinc 8 1, 3) := dk_132 8 1 (dk_at dksX6_does_8 0 rfl rfl)
theorem dX6_does_189 : decode cX6_does 189 = .ok (.goto (-103), 3) := dk_167 255 153 (dk_at dksX6_does_8 3 rfl rfl)
theorem dX6_does_192 : decode cX6_does 192 = .ok (.iload 7, 2) := dk_21 7 (dk_at dksX6_does_8 6 rfl rfl)
theorem dX6_does_194 : decode cX6_does 194 = .ok (.ifCond .ne 5, 3) := dk_154 0 5 (dk_at dksX6_does_8 8 rfl rfl)
theorem dX6_does_197 : decode cX6_does 197 = .ok (.iconst 0, 1) := dk_3 (dk_at dksX6_does_8 11 rfl rfl)
theorem dX6_does_198 : decode cX6_does 198 = .ok (.ireturn, 1) := dk_172 (dk_at dksX6_does_8 12 rfl rfl)
theorem dX6_does_199 : decode cX6_does 199 = .ok (.aload_n 0, 1) := dk_42 (dk_at dksX6_does_8 13 rfl rfl)
theorem dX6_does_200 : decode cX6_does 200 = .ok (.iload 6, 2) := dk_21 6 (dk_at dksX6_does_8 14 rfl rfl)
theorem dX6_does_202 : decode cX6_does 202 = .ok (.putfield 220, 3) := dk_181 0 220 (dk_at dksX6_does_8 16 rfl rfl)
theorem dX6_does_205 : decode cX6_does 205 = .ok (.iconst 0, 1) := dk_3 (dk_at dksX6_does_8 19 rfl rfl)
theorem dX6_does_206 : decode cX6_does 206 = .ok (.istore 8, 2) := dk_54 8 (dk_at dksX6_does_8 20 rfl rfl)
theorem dX6_does_208 : decode cX6_does 208 = .ok (.iload 8, 2) := dk_21 8 (dk_at dksX6_does_8 22 rfl rfl)
theorem dX6_does_210 : decode cX6_does 210 = .ok (.iload 6, 2) := dk_21 6 (dk_at dksX6_does_9 0 rfl rfl)
theorem dX6_does_212 : decode cX6_does 212 = .ok (.if_icmp .ge 23, 3) := dk_162 0 23 (dk_at dksX6_does_9 2 rfl rfl)
theorem dX6_does_215 : decode cX6_does 215 = .ok (.aload_n 0, 1) := dk_42 (dk_at dksX6_does_9 5 rfl rfl)
theorem dX6_does_216 : decode cX6_does 216 = .ok (.getfield 43, 3) := dk_180 0 43 (dk_at dksX6_does_9 6 rfl rfl)
theorem dX6_does_219 : decode cX6_does 219 = .ok (.iload 8, 2) := dk_21 8 (dk_at dksX6_does_9 9 rfl rfl)
theorem dX6_does_221 : decode cX6_does 221 = .ok (.aload_n 0, 1) := dk_42 (dk_at dksX6_does_9 11 rfl rfl)
theorem dX6_does_222 : decode cX6_does 222 = .ok (.getfield 46, 3) := dk_180 0 46 (dk_at dksX6_does_9 12 rfl rfl)
theorem dX6_does_225 : decode cX6_does 225 = .ok (.iload 8, 2) := dk_21 8 (dk_at dksX6_does_9 15 rfl rfl)
theorem dX6_does_227 : decode cX6_does 227 = .ok (.iaload, 1) := dk_46 (dk_at dksX6_does_9 17 rfl rfl)
theorem dX6_does_228 : decode cX6_does 228 = .ok (.iastore, 1) := dk_79 (dk_at dksX6_does_9 18 rfl rfl)
theorem dX6_does_229 : decode cX6_does 229 = .ok (.iinc 8 1, 3) := dk_132 8 1 (dk_at dksX6_does_9 19 rfl rfl)
theorem dX6_does_232 : decode cX6_does 232 = .ok (.goto (-24), 3) := dk_167 255 232 (dk_at dksX6_does_10 0 rfl rfl)
theorem dX6_does_235 : decode cX6_does 235 = .ok (.iconst 1, 1) := dk_4 (dk_at dksX6_does_10 3 rfl rfl)
theorem dX6_does_236 : decode cX6_does 236 = .ok (.ireturn, 1) := dk_172 (dk_at dksX6_does_10 4 rfl rfl)
abbrev cX6_holds : ByteArray := prog_28_method_38_code
def yX6_holds : MethodName := ⟨RX6, "holds", "(II)Z"⟩
def dkwX6_holds_11 : List UInt8 := [172]
abbrev dktX6_holds_11 : List UInt8 := dkwX6_holds_11 ++ []
def dkwX6_holds_10 : List UInt8 := [132, 4, 1, 167, 255, 29, 29, 153, 0, 12, 42, 180, 0, 49, 3, 51, 153, 0, 7, 4, 167, 0, 4, 3]
abbrev dktX6_holds_10 : List UInt8 := dkwX6_holds_10 ++ dktX6_holds_11
def dkwX6_holds_9 : List UInt8 := [4, 167, 0, 18, 3, 167, 0, 14, 21, 6, 28, 160, 0, 7, 4, 167, 0, 4, 3, 84, 132, 3, 1]
abbrev dktX6_holds_9 : List UInt8 := dkwX6_holds_9 ++ dktX6_holds_10
def dkwX6_holds_8 : List UInt8 := [21, 6, 182, 0, 223, 167, 0, 38, 21, 5, 16, 6, 160, 0, 20, 42, 180, 0, 220, 21, 6, 161, 0, 7]
abbrev dktX6_holds_8 : List UInt8 := dkwX6_holds_8 ++ dktX6_holds_9
def dkwX6_holds_7 : List UInt8 := [153, 0, 7, 4, 167, 0, 4, 3, 84, 167, 0, 62, 42, 180, 0, 49, 29, 21, 5, 8, 160, 0, 12, 42]
abbrev dktX6_holds_7 : List UInt8 := dkwX6_holds_7 ++ dktX6_holds_8
def dkwX6_holds_6 : List UInt8 := [167, 0, 32, 3, 167, 0, 28, 42, 180, 0, 49, 29, 4, 100, 51, 154, 0, 12, 42, 180, 0, 49, 29, 51]
abbrev dktX6_holds_6 : List UInt8 := dkwX6_holds_6 ++ dktX6_holds_7
def dkwX6_holds_5 : List UInt8 := [160, 0, 31, 42, 180, 0, 49, 29, 4, 100, 51, 153, 0, 16, 42, 180, 0, 49, 29, 51, 153, 0, 7, 4]
abbrev dktX6_holds_5 : List UInt8 := dkwX6_holds_5 ++ dktX6_holds_6
def dkwX6_holds_4 : List UInt8 := [6, 159, 0, 9, 21, 5, 7, 160, 0, 76, 132, 3, 255, 42, 180, 0, 49, 29, 4, 100, 21, 5, 6]
abbrev dktX6_holds_4 : List UInt8 := dkwX6_holds_4 ++ dktX6_holds_5
def dkwX6_holds_3 : List UInt8 := [4, 100, 42, 180, 0, 49, 29, 4, 100, 51, 154, 0, 7, 4, 167, 0, 4, 3, 84, 167, 0, 147, 21, 5]
abbrev dktX6_holds_3 : List UInt8 := dkwX6_holds_3 ++ dktX6_holds_4
def dkwX6_holds_2 : List UInt8 := [17, 0, 145, 5, 21, 4, 104, 96, 4, 96, 46, 54, 6, 21, 5, 5, 160, 0, 30, 42, 180, 0, 49, 29]
abbrev dktX6_holds_2 : List UInt8 := dkwX6_holds_2 ++ dktX6_holds_3
def dkwX6_holds_1 : List UInt8 := [46, 162, 0, 218, 42, 180, 0, 31, 17, 0, 145, 5, 21, 4, 104, 96, 46, 54, 5, 42, 180, 0, 31]
abbrev dktX6_holds_1 : List UInt8 := dkwX6_holds_1 ++ dktX6_holds_2
def dkwX6_holds_0 : List UInt8 := [3, 62, 42, 180, 0, 31, 16, 121, 27, 96, 46, 54, 4, 21, 4, 42, 180, 0, 31, 17, 0, 133, 27, 96]
abbrev dktX6_holds_0 : List UInt8 := dkwX6_holds_0 ++ dktX6_holds_1
theorem dksX6_holds_0 : cX6_holds.data.toList.drop 0 = dktX6_holds_0 := by decide +kernel
theorem dksX6_holds_1 : cX6_holds.data.toList.drop 24 = dktX6_holds_1 := dk_seg dksX6_holds_0 24 rfl rfl
theorem dksX6_holds_2 : cX6_holds.data.toList.drop 47 = dktX6_holds_2 := dk_seg dksX6_holds_1 23 rfl rfl
theorem dksX6_holds_3 : cX6_holds.data.toList.drop 71 = dktX6_holds_3 := dk_seg dksX6_holds_2 24 rfl rfl
theorem dksX6_holds_4 : cX6_holds.data.toList.drop 95 = dktX6_holds_4 := dk_seg dksX6_holds_3 24 rfl rfl
theorem dksX6_holds_5 : cX6_holds.data.toList.drop 118 = dktX6_holds_5 := dk_seg dksX6_holds_4 23 rfl rfl
theorem dksX6_holds_6 : cX6_holds.data.toList.drop 142 = dktX6_holds_6 := dk_seg dksX6_holds_5 24 rfl rfl
theorem dksX6_holds_7 : cX6_holds.data.toList.drop 166 = dktX6_holds_7 := dk_seg dksX6_holds_6 24 rfl rfl
theorem dksX6_holds_8 : cX6_holds.data.toList.drop 190 = dktX6_holds_8 := dk_seg dksX6_holds_7 24 rfl rfl
theorem dksX6_holds_9 : cX6_holds.data.toList.drop 214 = dktX6_holds_9 := dk_seg dksX6_holds_8 24 rfl rfl
theorem dksX6_holds_10 : cX6_holds.data.toList.drop 237 = dktX6_holds_10 := dk_seg dksX6_holds_9 23 rfl rfl
theorem dksX6_holds_11 : cX6_holds.data.toList.drop 261 = dktX6_holds_11 := dk_seg dksX6_holds_10 24 rfl rfl
theorem dX6_holds_0 : decode cX6_holds 0 = .ok (.iconst 0, 1) := dk_3 (dk_at dksX6_holds_0 0 rfl rfl)
theorem dX6_holds_1 : decode cX6_holds 1 = .ok (.istore_n 3, 1) := dk_62 (dk_at dksX6_holds_0 1 rfl rfl)
theorem dX6_holds_2 : decode cX6_holds 2 = .ok (.aload_n 0, 1) := dk_42 (dk_at dksX6_holds_0 2 rfl rfl)
theorem dX6_holds_3 : decode cX6_holds 3 = .ok (.getfield 31, 3) := dk_180 0 31 (dk_at dksX6_holds_0 3 rfl rfl)
theorem dX6_holds_6 : decode cX6_holds 6 = .ok (.bipush 121, 2) := dk_16 121 (dk_at dksX6_holds_0 6 rfl rfl)
theorem dX6_holds_8 : decode cX6_holds 8 = .ok (.iload_n 1, 1) := dk_27 (dk_at dksX6_holds_0 8 rfl rfl)
theorem dX6_holds_9 : decode cX6_holds 9 = .ok (.iadd, 1) := dk_96 (dk_at dksX6_holds_0 9 rfl rfl)
theorem dX6_holds_10 : decode cX6_holds 10 = .ok (.iaload, 1) := dk_46 (dk_at dksX6_holds_0 10 rfl rfl)
theorem dX6_holds_11 : decode cX6_holds 11 = .ok (.istore 4, 2) := dk_54 4 (dk_at dksX6_holds_0 11 rfl rfl)
theorem dX6_holds_13 : decode cX6_holds 13 = .ok (.iload 4, 2) := dk_21 4 (dk_at dksX6_holds_0 13 rfl rfl)
theorem dX6_holds_15 : decode cX6_holds 15 = .ok (.aload_n 0, 1) := dk_42 (dk_at dksX6_holds_0 15 rfl rfl)
theorem dX6_holds_16 : decode cX6_holds 16 = .ok (.getfield 31, 3) := dk_180 0 31 (dk_at dksX6_holds_0 16 rfl rfl)
theorem dX6_holds_19 : decode cX6_holds 19 = .ok (.sipush 133, 3) := dk_17 0 133 (dk_at dksX6_holds_0 19 rfl rfl)
theorem dX6_holds_22 : decode cX6_holds 22 = .ok (.iload_n 1, 1) := dk_27 (dk_at dksX6_holds_0 22 rfl rfl)
theorem dX6_holds_23 : decode cX6_holds 23 = .ok (.iadd, 1) := dk_96 (dk_at dksX6_holds_0 23 rfl rfl)
theorem dX6_holds_24 : decode cX6_holds 24 = .ok (.iaload, 1) := dk_46 (dk_at dksX6_holds_1 0 rfl rfl)
theorem dX6_holds_25 : decode cX6_holds 25 = .ok (.if_icmp .ge 218, 3) := dk_162 0 218 (dk_at dksX6_holds_1 1 rfl rfl)
theorem dX6_holds_28 : decode cX6_holds 28 = .ok (.aload_n 0, 1) := dk_42 (dk_at dksX6_holds_1 4 rfl rfl)
theorem dX6_holds_29 : decode cX6_holds 29 = .ok (.getfield 31, 3) := dk_180 0 31 (dk_at dksX6_holds_1 5 rfl rfl)
theorem dX6_holds_32 : decode cX6_holds 32 = .ok (.sipush 145, 3) := dk_17 0 145 (dk_at dksX6_holds_1 8 rfl rfl)
theorem dX6_holds_35 : decode cX6_holds 35 = .ok (.iconst 2, 1) := dk_5 (dk_at dksX6_holds_1 11 rfl rfl)
theorem dX6_holds_36 : decode cX6_holds 36 = .ok (.iload 4, 2) := dk_21 4 (dk_at dksX6_holds_1 12 rfl rfl)
theorem dX6_holds_38 : decode cX6_holds 38 = .ok (.imul, 1) := dk_104 (dk_at dksX6_holds_1 14 rfl rfl)
theorem dX6_holds_39 : decode cX6_holds 39 = .ok (.iadd, 1) := dk_96 (dk_at dksX6_holds_1 15 rfl rfl)
theorem dX6_holds_40 : decode cX6_holds 40 = .ok (.iaload, 1) := dk_46 (dk_at dksX6_holds_1 16 rfl rfl)
theorem dX6_holds_41 : decode cX6_holds 41 = .ok (.istore 5, 2) := dk_54 5 (dk_at dksX6_holds_1 17 rfl rfl)
theorem dX6_holds_43 : decode cX6_holds 43 = .ok (.aload_n 0, 1) := dk_42 (dk_at dksX6_holds_1 19 rfl rfl)
theorem dX6_holds_44 : decode cX6_holds 44 = .ok (.getfield 31, 3) := dk_180 0 31 (dk_at dksX6_holds_1 20 rfl rfl)
theorem dX6_holds_47 : decode cX6_holds 47 = .ok (.sipush 145, 3) := dk_17 0 145 (dk_at dksX6_holds_2 0 rfl rfl)
theorem dX6_holds_50 : decode cX6_holds 50 = .ok (.iconst 2, 1) := dk_5 (dk_at dksX6_holds_2 3 rfl rfl)
theorem dX6_holds_51 : decode cX6_holds 51 = .ok (.iload 4, 2) := dk_21 4 (dk_at dksX6_holds_2 4 rfl rfl)
theorem dX6_holds_53 : decode cX6_holds 53 = .ok (.imul, 1) := dk_104 (dk_at dksX6_holds_2 6 rfl rfl)
theorem dX6_holds_54 : decode cX6_holds 54 = .ok (.iadd, 1) := dk_96 (dk_at dksX6_holds_2 7 rfl rfl)
theorem dX6_holds_55 : decode cX6_holds 55 = .ok (.iconst 1, 1) := dk_4 (dk_at dksX6_holds_2 8 rfl rfl)
theorem dX6_holds_56 : decode cX6_holds 56 = .ok (.iadd, 1) := dk_96 (dk_at dksX6_holds_2 9 rfl rfl)
theorem dX6_holds_57 : decode cX6_holds 57 = .ok (.iaload, 1) := dk_46 (dk_at dksX6_holds_2 10 rfl rfl)
theorem dX6_holds_58 : decode cX6_holds 58 = .ok (.istore 6, 2) := dk_54 6 (dk_at dksX6_holds_2 11 rfl rfl)
theorem dX6_holds_60 : decode cX6_holds 60 = .ok (.iload 5, 2) := dk_21 5 (dk_at dksX6_holds_2 13 rfl rfl)
theorem dX6_holds_62 : decode cX6_holds 62 = .ok (.iconst 2, 1) := dk_5 (dk_at dksX6_holds_2 15 rfl rfl)
theorem dX6_holds_63 : decode cX6_holds 63 = .ok (.if_icmp .ne 30, 3) := dk_160 0 30 (dk_at dksX6_holds_2 16 rfl rfl)
theorem dX6_holds_66 : decode cX6_holds 66 = .ok (.aload_n 0, 1) := dk_42 (dk_at dksX6_holds_2 19 rfl rfl)
theorem dX6_holds_67 : decode cX6_holds 67 = .ok (.getfield 49, 3) := dk_180 0 49 (dk_at dksX6_holds_2 20 rfl rfl)
theorem dX6_holds_70 : decode cX6_holds 70 = .ok (.iload_n 3, 1) := dk_29 (dk_at dksX6_holds_2 23 rfl rfl)
theorem dX6_holds_71 : decode cX6_holds 71 = .ok (.iconst 1, 1) := dk_4 (dk_at dksX6_holds_3 0 rfl rfl)
theorem dX6_holds_72 : decode cX6_holds 72 = .ok (.isub, 1) := dk_100 (dk_at dksX6_holds_3 1 rfl rfl)
theorem dX6_holds_73 : decode cX6_holds 73 = .ok (.aload_n 0, 1) := dk_42 (dk_at dksX6_holds_3 2 rfl rfl)
theorem dX6_holds_74 : decode cX6_holds 74 = .ok (.getfield 49, 3) := dk_180 0 49 (dk_at dksX6_holds_3 3 rfl rfl)
theorem dX6_holds_77 : decode cX6_holds 77 = .ok (.iload_n 3, 1) := dk_29 (dk_at dksX6_holds_3 6 rfl rfl)
theorem dX6_holds_78 : decode cX6_holds 78 = .ok (.iconst 1, 1) := dk_4 (dk_at dksX6_holds_3 7 rfl rfl)
theorem dX6_holds_79 : decode cX6_holds 79 = .ok (.isub, 1) := dk_100 (dk_at dksX6_holds_3 8 rfl rfl)
theorem dX6_holds_80 : decode cX6_holds 80 = .ok (.baload, 1) := dk_51 (dk_at dksX6_holds_3 9 rfl rfl)
theorem dX6_holds_81 : decode cX6_holds 81 = .ok (.ifCond .ne 7, 3) := dk_154 0 7 (dk_at dksX6_holds_3 10 rfl rfl)
theorem dX6_holds_84 : decode cX6_holds 84 = .ok (.iconst 1, 1) := dk_4 (dk_at dksX6_holds_3 13 rfl rfl)
theorem dX6_holds_85 : decode cX6_holds 85 = .ok (.goto 4, 3) := dk_167 0 4 (dk_at dksX6_holds_3 14 rfl rfl)
theorem dX6_holds_88 : decode cX6_holds 88 = .ok (.iconst 0, 1) := dk_3 (dk_at dksX6_holds_3 17 rfl rfl)
theorem dX6_holds_89 : decode cX6_holds 89 = .ok (.bastore, 1) := dk_84 (dk_at dksX6_holds_3 18 rfl rfl)
theorem dX6_holds_90 : decode cX6_holds 90 = .ok (.goto 147, 3) := dk_167 0 147 (dk_at dksX6_holds_3 19 rfl rfl)
theorem dX6_holds_93 : decode cX6_holds 93 = .ok (.iload 5, 2) := dk_21 5 (dk_at dksX6_holds_3 22 rfl rfl)
theorem dX6_holds_95 : decode cX6_holds 95 = .ok (.iconst 3, 1) := dk_6 (dk_at dksX6_holds_4 0 rfl rfl)
theorem dX6_holds_96 : decode cX6_holds 96 = .ok (.if_icmp .eq 9, 3) := dk_159 0 9 (dk_at dksX6_holds_4 1 rfl rfl)
theorem dX6_holds_99 : decode cX6_holds 99 = .ok (.iload 5, 2) := dk_21 5 (dk_at dksX6_holds_4 4 rfl rfl)
theorem dX6_holds_101 : decode cX6_holds 101 = .ok (.iconst 4, 1) := dk_7 (dk_at dksX6_holds_4 6 rfl rfl)
theorem dX6_holds_102 : decode cX6_holds 102 = .ok (.if_icmp .ne 76, 3) := dk_160 0 76 (dk_at dksX6_holds_4 7 rfl rfl)
theorem dX6_holds_105 : decode cX6_holds 105 = .ok (.iinc 3 (-1), 3) := dk_132 3 255 (dk_at dksX6_holds_4 10 rfl rfl)
theorem dX6_holds_108 : decode cX6_holds 108 = .ok (.aload_n 0, 1) := dk_42 (dk_at dksX6_holds_4 13 rfl rfl)
theorem dX6_holds_109 : decode cX6_holds 109 = .ok (.getfield 49, 3) := dk_180 0 49 (dk_at dksX6_holds_4 14 rfl rfl)
theorem dX6_holds_112 : decode cX6_holds 112 = .ok (.iload_n 3, 1) := dk_29 (dk_at dksX6_holds_4 17 rfl rfl)
theorem dX6_holds_113 : decode cX6_holds 113 = .ok (.iconst 1, 1) := dk_4 (dk_at dksX6_holds_4 18 rfl rfl)
theorem dX6_holds_114 : decode cX6_holds 114 = .ok (.isub, 1) := dk_100 (dk_at dksX6_holds_4 19 rfl rfl)
theorem dX6_holds_115 : decode cX6_holds 115 = .ok (.iload 5, 2) := dk_21 5 (dk_at dksX6_holds_4 20 rfl rfl)
theorem dX6_holds_117 : decode cX6_holds 117 = .ok (.iconst 3, 1) := dk_6 (dk_at dksX6_holds_4 22 rfl rfl)
theorem dX6_holds_118 : decode cX6_holds 118 = .ok (.if_icmp .ne 31, 3) := dk_160 0 31 (dk_at dksX6_holds_5 0 rfl rfl)
theorem dX6_holds_121 : decode cX6_holds 121 = .ok (.aload_n 0, 1) := dk_42 (dk_at dksX6_holds_5 3 rfl rfl)
theorem dX6_holds_122 : decode cX6_holds 122 = .ok (.getfield 49, 3) := dk_180 0 49 (dk_at dksX6_holds_5 4 rfl rfl)
theorem dX6_holds_125 : decode cX6_holds 125 = .ok (.iload_n 3, 1) := dk_29 (dk_at dksX6_holds_5 7 rfl rfl)
theorem dX6_holds_126 : decode cX6_holds 126 = .ok (.iconst 1, 1) := dk_4 (dk_at dksX6_holds_5 8 rfl rfl)
theorem dX6_holds_127 : decode cX6_holds 127 = .ok (.isub, 1) := dk_100 (dk_at dksX6_holds_5 9 rfl rfl)
theorem dX6_holds_128 : decode cX6_holds 128 = .ok (.baload, 1) := dk_51 (dk_at dksX6_holds_5 10 rfl rfl)
theorem dX6_holds_129 : decode cX6_holds 129 = .ok (.ifCond .eq 16, 3) := dk_153 0 16 (dk_at dksX6_holds_5 11 rfl rfl)
theorem dX6_holds_132 : decode cX6_holds 132 = .ok (.aload_n 0, 1) := dk_42 (dk_at dksX6_holds_5 14 rfl rfl)
theorem dX6_holds_133 : decode cX6_holds 133 = .ok (.getfield 49, 3) := dk_180 0 49 (dk_at dksX6_holds_5 15 rfl rfl)
theorem dX6_holds_136 : decode cX6_holds 136 = .ok (.iload_n 3, 1) := dk_29 (dk_at dksX6_holds_5 18 rfl rfl)
theorem dX6_holds_137 : decode cX6_holds 137 = .ok (.baload, 1) := dk_51 (dk_at dksX6_holds_5 19 rfl rfl)
theorem dX6_holds_138 : decode cX6_holds 138 = .ok (.ifCond .eq 7, 3) := dk_153 0 7 (dk_at dksX6_holds_5 20 rfl rfl)
theorem dX6_holds_141 : decode cX6_holds 141 = .ok (.iconst 1, 1) := dk_4 (dk_at dksX6_holds_5 23 rfl rfl)
theorem dX6_holds_142 : decode cX6_holds 142 = .ok (.goto 32, 3) := dk_167 0 32 (dk_at dksX6_holds_6 0 rfl rfl)
theorem dX6_holds_145 : decode cX6_holds 145 = .ok (.iconst 0, 1) := dk_3 (dk_at dksX6_holds_6 3 rfl rfl)
theorem dX6_holds_146 : decode cX6_holds 146 = .ok (.goto 28, 3) := dk_167 0 28 (dk_at dksX6_holds_6 4 rfl rfl)
theorem dX6_holds_149 : decode cX6_holds 149 = .ok (.aload_n 0, 1) := dk_42 (dk_at dksX6_holds_6 7 rfl rfl)
theorem dX6_holds_150 : decode cX6_holds 150 = .ok (.getfield 49, 3) := dk_180 0 49 (dk_at dksX6_holds_6 8 rfl rfl)
theorem dX6_holds_153 : decode cX6_holds 153 = .ok (.iload_n 3, 1) := dk_29 (dk_at dksX6_holds_6 11 rfl rfl)
theorem dX6_holds_154 : decode cX6_holds 154 = .ok (.iconst 1, 1) := dk_4 (dk_at dksX6_holds_6 12 rfl rfl)
theorem dX6_holds_155 : decode cX6_holds 155 = .ok (.isub, 1) := dk_100 (dk_at dksX6_holds_6 13 rfl rfl)
theorem dX6_holds_156 : decode cX6_holds 156 = .ok (.baload, 1) := dk_51 (dk_at dksX6_holds_6 14 rfl rfl)
theorem dX6_holds_157 : decode cX6_holds 157 = .ok (.ifCond .ne 12, 3) := dk_154 0 12 (dk_at dksX6_holds_6 15 rfl rfl)
theorem dX6_holds_160 : decode cX6_holds 160 = .ok (.aload_n 0, 1) := dk_42 (dk_at dksX6_holds_6 18 rfl rfl)
theorem dX6_holds_161 : decode cX6_holds 161 = .ok (.getfield 49, 3) := dk_180 0 49 (dk_at dksX6_holds_6 19 rfl rfl)
theorem dX6_holds_164 : decode cX6_holds 164 = .ok (.iload_n 3, 1) := dk_29 (dk_at dksX6_holds_6 22 rfl rfl)
theorem dX6_holds_165 : decode cX6_holds 165 = .ok (.baload, 1) := dk_51 (dk_at dksX6_holds_6 23 rfl rfl)
theorem dX6_holds_166 : decode cX6_holds 166 = .ok (.ifCond .eq 7, 3) := dk_153 0 7 (dk_at dksX6_holds_7 0 rfl rfl)
theorem dX6_holds_169 : decode cX6_holds 169 = .ok (.iconst 1, 1) := dk_4 (dk_at dksX6_holds_7 3 rfl rfl)
theorem dX6_holds_170 : decode cX6_holds 170 = .ok (.goto 4, 3) := dk_167 0 4 (dk_at dksX6_holds_7 4 rfl rfl)
theorem dX6_holds_173 : decode cX6_holds 173 = .ok (.iconst 0, 1) := dk_3 (dk_at dksX6_holds_7 7 rfl rfl)
theorem dX6_holds_174 : decode cX6_holds 174 = .ok (.bastore, 1) := dk_84 (dk_at dksX6_holds_7 8 rfl rfl)
theorem dX6_holds_175 : decode cX6_holds 175 = .ok (.goto 62, 3) := dk_167 0 62 (dk_at dksX6_holds_7 9 rfl rfl)
theorem dX6_holds_178 : decode cX6_holds 178 = .ok (.aload_n 0, 1) := dk_42 (dk_at dksX6_holds_7 12 rfl rfl)
theorem dX6_holds_179 : decode cX6_holds 179 = .ok (.getfield 49, 3) := dk_180 0 49 (dk_at dksX6_holds_7 13 rfl rfl)
theorem dX6_holds_182 : decode cX6_holds 182 = .ok (.iload_n 3, 1) := dk_29 (dk_at dksX6_holds_7 16 rfl rfl)
theorem dX6_holds_183 : decode cX6_holds 183 = .ok (.iload 5, 2) := dk_21 5 (dk_at dksX6_holds_7 17 rfl rfl)
theorem dX6_holds_185 : decode cX6_holds 185 = .ok (.iconst 5, 1) := dk_8 (dk_at dksX6_holds_7 19 rfl rfl)
theorem dX6_holds_186 : decode cX6_holds 186 = .ok (.if_icmp .ne 12, 3) := dk_160 0 12 (dk_at dksX6_holds_7 20 rfl rfl)
theorem dX6_holds_189 : decode cX6_holds 189 = .ok (.aload_n 0, 1) := dk_42 (dk_at dksX6_holds_7 23 rfl rfl)
theorem dX6_holds_190 : decode cX6_holds 190 = .ok (.iload 6, 2) := dk_21 6 (dk_at dksX6_holds_8 0 rfl rfl)
theorem dX6_holds_192 : decode cX6_holds 192 = .ok (.invokevirtual 223, 3) := dk_182 0 223 (dk_at dksX6_holds_8 2 rfl rfl)
theorem dX6_holds_195 : decode cX6_holds 195 = .ok (.goto 38, 3) := dk_167 0 38 (dk_at dksX6_holds_8 5 rfl rfl)
theorem dX6_holds_198 : decode cX6_holds 198 = .ok (.iload 5, 2) := dk_21 5 (dk_at dksX6_holds_8 8 rfl rfl)
theorem dX6_holds_200 : decode cX6_holds 200 = .ok (.bipush 6, 2) := dk_16 6 (dk_at dksX6_holds_8 10 rfl rfl)
theorem dX6_holds_202 : decode cX6_holds 202 = .ok (.if_icmp .ne 20, 3) := dk_160 0 20 (dk_at dksX6_holds_8 12 rfl rfl)
theorem dX6_holds_205 : decode cX6_holds 205 = .ok (.aload_n 0, 1) := dk_42 (dk_at dksX6_holds_8 15 rfl rfl)
theorem dX6_holds_206 : decode cX6_holds 206 = .ok (.getfield 220, 3) := dk_180 0 220 (dk_at dksX6_holds_8 16 rfl rfl)
theorem dX6_holds_209 : decode cX6_holds 209 = .ok (.iload 6, 2) := dk_21 6 (dk_at dksX6_holds_8 19 rfl rfl)
theorem dX6_holds_211 : decode cX6_holds 211 = .ok (.if_icmp .lt 7, 3) := dk_161 0 7 (dk_at dksX6_holds_8 21 rfl rfl)
theorem dX6_holds_214 : decode cX6_holds 214 = .ok (.iconst 1, 1) := dk_4 (dk_at dksX6_holds_9 0 rfl rfl)
theorem dX6_holds_215 : decode cX6_holds 215 = .ok (.goto 18, 3) := dk_167 0 18 (dk_at dksX6_holds_9 1 rfl rfl)
theorem dX6_holds_218 : decode cX6_holds 218 = .ok (.iconst 0, 1) := dk_3 (dk_at dksX6_holds_9 4 rfl rfl)
theorem dX6_holds_219 : decode cX6_holds 219 = .ok (.goto 14, 3) := dk_167 0 14 (dk_at dksX6_holds_9 5 rfl rfl)
theorem dX6_holds_222 : decode cX6_holds 222 = .ok (.iload 6, 2) := dk_21 6 (dk_at dksX6_holds_9 8 rfl rfl)
theorem dX6_holds_224 : decode cX6_holds 224 = .ok (.iload_n 2, 1) := dk_28 (dk_at dksX6_holds_9 10 rfl rfl)
theorem dX6_holds_225 : decode cX6_holds 225 = .ok (.if_icmp .ne 7, 3) := dk_160 0 7 (dk_at dksX6_holds_9 11 rfl rfl)
theorem dX6_holds_228 : decode cX6_holds 228 = .ok (.iconst 1, 1) := dk_4 (dk_at dksX6_holds_9 14 rfl rfl)
theorem dX6_holds_229 : decode cX6_holds 229 = .ok (.goto 4, 3) := dk_167 0 4 (dk_at dksX6_holds_9 15 rfl rfl)
theorem dX6_holds_232 : decode cX6_holds 232 = .ok (.iconst 0, 1) := dk_3 (dk_at dksX6_holds_9 18 rfl rfl)
theorem dX6_holds_233 : decode cX6_holds 233 = .ok (.bastore, 1) := dk_84 (dk_at dksX6_holds_9 19 rfl rfl)
theorem dX6_holds_234 : decode cX6_holds 234 = .ok (.iinc 3 1, 3) := dk_132 3 1 (dk_at dksX6_holds_9 20 rfl rfl)
theorem dX6_holds_237 : decode cX6_holds 237 = .ok (.iinc 4 1, 3) := dk_132 4 1 (dk_at dksX6_holds_10 0 rfl rfl)
theorem dX6_holds_240 : decode cX6_holds 240 = .ok (.goto (-227), 3) := dk_167 255 29 (dk_at dksX6_holds_10 3 rfl rfl)
theorem dX6_holds_243 : decode cX6_holds 243 = .ok (.iload_n 3, 1) := dk_29 (dk_at dksX6_holds_10 6 rfl rfl)
theorem dX6_holds_244 : decode cX6_holds 244 = .ok (.ifCond .eq 12, 3) := dk_153 0 12 (dk_at dksX6_holds_10 7 rfl rfl)
theorem dX6_holds_247 : decode cX6_holds 247 = .ok (.aload_n 0, 1) := dk_42 (dk_at dksX6_holds_10 10 rfl rfl)
theorem dX6_holds_248 : decode cX6_holds 248 = .ok (.getfield 49, 3) := dk_180 0 49 (dk_at dksX6_holds_10 11 rfl rfl)
theorem dX6_holds_251 : decode cX6_holds 251 = .ok (.iconst 0, 1) := dk_3 (dk_at dksX6_holds_10 14 rfl rfl)
theorem dX6_holds_252 : decode cX6_holds 252 = .ok (.baload, 1) := dk_51 (dk_at dksX6_holds_10 15 rfl rfl)
theorem dX6_holds_253 : decode cX6_holds 253 = .ok (.ifCond .eq 7, 3) := dk_153 0 7 (dk_at dksX6_holds_10 16 rfl rfl)
theorem dX6_holds_256 : decode cX6_holds 256 = .ok (.iconst 1, 1) := dk_4 (dk_at dksX6_holds_10 19 rfl rfl)
theorem dX6_holds_257 : decode cX6_holds 257 = .ok (.goto 4, 3) := dk_167 0 4 (dk_at dksX6_holds_10 20 rfl rfl)
theorem dX6_holds_260 : decode cX6_holds 260 = .ok (.iconst 0, 1) := dk_3 (dk_at dksX6_holds_10 23 rfl rfl)
theorem dX6_holds_261 : decode cX6_holds 261 = .ok (.ireturn, 1) := dk_172 (dk_at dksX6_holds_11 0 rfl rfl)
abbrev cX6_hasWord : ByteArray := prog_28_method_37_code
def yX6_hasWord : MethodName := ⟨RX6, "hasWord", "(I)Z"⟩
def dkwX6_hasWord_1 : List UInt8 := [160, 0, 7, 4, 167, 0, 4, 3, 61, 132, 3, 1, 167, 255, 225, 28, 172]
abbrev dktX6_hasWord_1 : List UInt8 := dkwX6_hasWord_1 ++ []
def dkwX6_hasWord_0 : List UInt8 := [3, 61, 3, 62, 29, 42, 180, 0, 220, 162, 0, 29, 28, 154, 0, 13, 42, 180, 0, 43, 29, 46, 27]
abbrev dktX6_hasWord_0 : List UInt8 := dkwX6_hasWord_0 ++ dktX6_hasWord_1
theorem dksX6_hasWord_0 : cX6_hasWord.data.toList.drop 0 = dktX6_hasWord_0 := by decide +kernel
theorem dksX6_hasWord_1 : cX6_hasWord.data.toList.drop 23 = dktX6_hasWord_1 := dk_seg dksX6_hasWord_0 23 rfl rfl
theorem dX6_hasWord_0 : decode cX6_hasWord 0 = .ok (.iconst 0, 1) := dk_3 (dk_at dksX6_hasWord_0 0 rfl rfl)
theorem dX6_hasWord_1 : decode cX6_hasWord 1 = .ok (.istore_n 2, 1) := dk_61 (dk_at dksX6_hasWord_0 1 rfl rfl)
theorem dX6_hasWord_2 : decode cX6_hasWord 2 = .ok (.iconst 0, 1) := dk_3 (dk_at dksX6_hasWord_0 2 rfl rfl)
theorem dX6_hasWord_3 : decode cX6_hasWord 3 = .ok (.istore_n 3, 1) := dk_62 (dk_at dksX6_hasWord_0 3 rfl rfl)
theorem dX6_hasWord_4 : decode cX6_hasWord 4 = .ok (.iload_n 3, 1) := dk_29 (dk_at dksX6_hasWord_0 4 rfl rfl)
theorem dX6_hasWord_5 : decode cX6_hasWord 5 = .ok (.aload_n 0, 1) := dk_42 (dk_at dksX6_hasWord_0 5 rfl rfl)
theorem dX6_hasWord_6 : decode cX6_hasWord 6 = .ok (.getfield 220, 3) := dk_180 0 220 (dk_at dksX6_hasWord_0 6 rfl rfl)
theorem dX6_hasWord_9 : decode cX6_hasWord 9 = .ok (.if_icmp .ge 29, 3) := dk_162 0 29 (dk_at dksX6_hasWord_0 9 rfl rfl)
theorem dX6_hasWord_12 : decode cX6_hasWord 12 = .ok (.iload_n 2, 1) := dk_28 (dk_at dksX6_hasWord_0 12 rfl rfl)
theorem dX6_hasWord_13 : decode cX6_hasWord 13 = .ok (.ifCond .ne 13, 3) := dk_154 0 13 (dk_at dksX6_hasWord_0 13 rfl rfl)
theorem dX6_hasWord_16 : decode cX6_hasWord 16 = .ok (.aload_n 0, 1) := dk_42 (dk_at dksX6_hasWord_0 16 rfl rfl)
theorem dX6_hasWord_17 : decode cX6_hasWord 17 = .ok (.getfield 43, 3) := dk_180 0 43 (dk_at dksX6_hasWord_0 17 rfl rfl)
theorem dX6_hasWord_20 : decode cX6_hasWord 20 = .ok (.iload_n 3, 1) := dk_29 (dk_at dksX6_hasWord_0 20 rfl rfl)
theorem dX6_hasWord_21 : decode cX6_hasWord 21 = .ok (.iaload, 1) := dk_46 (dk_at dksX6_hasWord_0 21 rfl rfl)
theorem dX6_hasWord_22 : decode cX6_hasWord 22 = .ok (.iload_n 1, 1) := dk_27 (dk_at dksX6_hasWord_0 22 rfl rfl)
theorem dX6_hasWord_23 : decode cX6_hasWord 23 = .ok (.if_icmp .ne 7, 3) := dk_160 0 7 (dk_at dksX6_hasWord_1 0 rfl rfl)
theorem dX6_hasWord_26 : decode cX6_hasWord 26 = .ok (.iconst 1, 1) := dk_4 (dk_at dksX6_hasWord_1 3 rfl rfl)
theorem dX6_hasWord_27 : decode cX6_hasWord 27 = .ok (.goto 4, 3) := dk_167 0 4 (dk_at dksX6_hasWord_1 4 rfl rfl)
theorem dX6_hasWord_30 : decode cX6_hasWord 30 = .ok (.iconst 0, 1) := dk_3 (dk_at dksX6_hasWord_1 7 rfl rfl)
theorem dX6_hasWord_31 : decode cX6_hasWord 31 = .ok (.istore_n 2, 1) := dk_61 (dk_at dksX6_hasWord_1 8 rfl rfl)
theorem dX6_hasWord_32 : decode cX6_hasWord 32 = .ok (.iinc 3 1, 3) := dk_132 3 1 (dk_at dksX6_hasWord_1 9 rfl rfl)
theorem dX6_hasWord_35 : decode cX6_hasWord 35 = .ok (.goto (-31), 3) := dk_167 255 225 (dk_at dksX6_hasWord_1 12 rfl rfl)
theorem dX6_hasWord_38 : decode cX6_hasWord 38 = .ok (.iload_n 2, 1) := dk_28 (dk_at dksX6_hasWord_1 15 rfl rfl)
theorem dX6_hasWord_39 : decode cX6_hasWord 39 = .ok (.ireturn, 1) := dk_172 (dk_at dksX6_hasWord_1 16 rfl rfl)
abbrev cX6_stands : ByteArray := prog_28_method_39_code
def yX6_stands : MethodName := ⟨RX6, "stands", "(I)I"⟩
def dkwX6_stands_4 : List UInt8 := [172]
abbrev dktX6_stands_4 : List UInt8 := dkwX6_stands_4 ++ []
def dkwX6_stands_3 : List UInt8 := [167, 0, 4, 3, 62, 132, 4, 1, 167, 255, 204, 29, 153, 0, 5, 28, 172, 132, 2, 1, 167, 255, 169, 2]
abbrev dktX6_stands_3 : List UInt8 := dkwX6_stands_3 ++ dktX6_stands_4
def dkwX6_stands_2 : List UInt8 := [28, 21, 4, 96, 46, 42, 180, 0, 31, 4, 7, 27, 104, 96, 21, 4, 96, 46, 160, 0, 7, 4]
abbrev dktX6_stands_2 : List UInt8 := dkwX6_stands_2 ++ dktX6_stands_3
def dkwX6_stands_1 : List UInt8 := [54, 4, 21, 4, 42, 180, 0, 31, 16, 97, 27, 96, 46, 162, 0, 44, 29, 153, 0, 32, 42, 180, 0, 43]
abbrev dktX6_stands_1 : List UInt8 := dkwX6_stands_1 ++ dktX6_stands_2
def dkwX6_stands_0 : List UInt8 := [3, 61, 28, 42, 180, 0, 31, 16, 97, 27, 96, 46, 96, 42, 180, 0, 220, 163, 0, 75, 4, 62, 3]
abbrev dktX6_stands_0 : List UInt8 := dkwX6_stands_0 ++ dktX6_stands_1
theorem dksX6_stands_0 : cX6_stands.data.toList.drop 0 = dktX6_stands_0 := by decide +kernel
theorem dksX6_stands_1 : cX6_stands.data.toList.drop 23 = dktX6_stands_1 := dk_seg dksX6_stands_0 23 rfl rfl
theorem dksX6_stands_2 : cX6_stands.data.toList.drop 47 = dktX6_stands_2 := dk_seg dksX6_stands_1 24 rfl rfl
theorem dksX6_stands_3 : cX6_stands.data.toList.drop 69 = dktX6_stands_3 := dk_seg dksX6_stands_2 22 rfl rfl
theorem dksX6_stands_4 : cX6_stands.data.toList.drop 93 = dktX6_stands_4 := dk_seg dksX6_stands_3 24 rfl rfl
theorem dX6_stands_0 : decode cX6_stands 0 = .ok (.iconst 0, 1) := dk_3 (dk_at dksX6_stands_0 0 rfl rfl)
theorem dX6_stands_1 : decode cX6_stands 1 = .ok (.istore_n 2, 1) := dk_61 (dk_at dksX6_stands_0 1 rfl rfl)
theorem dX6_stands_2 : decode cX6_stands 2 = .ok (.iload_n 2, 1) := dk_28 (dk_at dksX6_stands_0 2 rfl rfl)
theorem dX6_stands_3 : decode cX6_stands 3 = .ok (.aload_n 0, 1) := dk_42 (dk_at dksX6_stands_0 3 rfl rfl)
theorem dX6_stands_4 : decode cX6_stands 4 = .ok (.getfield 31, 3) := dk_180 0 31 (dk_at dksX6_stands_0 4 rfl rfl)
theorem dX6_stands_7 : decode cX6_stands 7 = .ok (.bipush 97, 2) := dk_16 97 (dk_at dksX6_stands_0 7 rfl rfl)
theorem dX6_stands_9 : decode cX6_stands 9 = .ok (.iload_n 1, 1) := dk_27 (dk_at dksX6_stands_0 9 rfl rfl)
theorem dX6_stands_10 : decode cX6_stands 10 = .ok (.iadd, 1) := dk_96 (dk_at dksX6_stands_0 10 rfl rfl)
theorem dX6_stands_11 : decode cX6_stands 11 = .ok (.iaload, 1) := dk_46 (dk_at dksX6_stands_0 11 rfl rfl)
theorem dX6_stands_12 : decode cX6_stands 12 = .ok (.iadd, 1) := dk_96 (dk_at dksX6_stands_0 12 rfl rfl)
theorem dX6_stands_13 : decode cX6_stands 13 = .ok (.aload_n 0, 1) := dk_42 (dk_at dksX6_stands_0 13 rfl rfl)
theorem dX6_stands_14 : decode cX6_stands 14 = .ok (.getfield 220, 3) := dk_180 0 220 (dk_at dksX6_stands_0 14 rfl rfl)
theorem dX6_stands_17 : decode cX6_stands 17 = .ok (.if_icmp .gt 75, 3) := dk_163 0 75 (dk_at dksX6_stands_0 17 rfl rfl)
theorem dX6_stands_20 : decode cX6_stands 20 = .ok (.iconst 1, 1) := dk_4 (dk_at dksX6_stands_0 20 rfl rfl)
theorem dX6_stands_21 : decode cX6_stands 21 = .ok (.istore_n 3, 1) := dk_62 (dk_at dksX6_stands_0 21 rfl rfl)
theorem dX6_stands_22 : decode cX6_stands 22 = .ok (.iconst 0, 1) := dk_3 (dk_at dksX6_stands_0 22 rfl rfl)
theorem dX6_stands_23 : decode cX6_stands 23 = .ok (.istore 4, 2) := dk_54 4 (dk_at dksX6_stands_1 0 rfl rfl)
theorem dX6_stands_25 : decode cX6_stands 25 = .ok (.iload 4, 2) := dk_21 4 (dk_at dksX6_stands_1 2 rfl rfl)
theorem dX6_stands_27 : decode cX6_stands 27 = .ok (.aload_n 0, 1) := dk_42 (dk_at dksX6_stands_1 4 rfl rfl)
theorem dX6_stands_28 : decode cX6_stands 28 = .ok (.getfield 31, 3) := dk_180 0 31 (dk_at dksX6_stands_1 5 rfl rfl)
theorem dX6_stands_31 : decode cX6_stands 31 = .ok (.bipush 97, 2) := dk_16 97 (dk_at dksX6_stands_1 8 rfl rfl)
theorem dX6_stands_33 : decode cX6_stands 33 = .ok (.iload_n 1, 1) := dk_27 (dk_at dksX6_stands_1 10 rfl rfl)
theorem dX6_stands_34 : decode cX6_stands 34 = .ok (.iadd, 1) := dk_96 (dk_at dksX6_stands_1 11 rfl rfl)
theorem dX6_stands_35 : decode cX6_stands 35 = .ok (.iaload, 1) := dk_46 (dk_at dksX6_stands_1 12 rfl rfl)
theorem dX6_stands_36 : decode cX6_stands 36 = .ok (.if_icmp .ge 44, 3) := dk_162 0 44 (dk_at dksX6_stands_1 13 rfl rfl)
theorem dX6_stands_39 : decode cX6_stands 39 = .ok (.iload_n 3, 1) := dk_29 (dk_at dksX6_stands_1 16 rfl rfl)
theorem dX6_stands_40 : decode cX6_stands 40 = .ok (.ifCond .eq 32, 3) := dk_153 0 32 (dk_at dksX6_stands_1 17 rfl rfl)
theorem dX6_stands_43 : decode cX6_stands 43 = .ok (.aload_n 0, 1) := dk_42 (dk_at dksX6_stands_1 20 rfl rfl)
theorem dX6_stands_44 : decode cX6_stands 44 = .ok (.getfield 43, 3) := dk_180 0 43 (dk_at dksX6_stands_1 21 rfl rfl)
theorem dX6_stands_47 : decode cX6_stands 47 = .ok (.iload_n 2, 1) := dk_28 (dk_at dksX6_stands_2 0 rfl rfl)
theorem dX6_stands_48 : decode cX6_stands 48 = .ok (.iload 4, 2) := dk_21 4 (dk_at dksX6_stands_2 1 rfl rfl)
theorem dX6_stands_50 : decode cX6_stands 50 = .ok (.iadd, 1) := dk_96 (dk_at dksX6_stands_2 3 rfl rfl)
theorem dX6_stands_51 : decode cX6_stands 51 = .ok (.iaload, 1) := dk_46 (dk_at dksX6_stands_2 4 rfl rfl)
theorem dX6_stands_52 : decode cX6_stands 52 = .ok (.aload_n 0, 1) := dk_42 (dk_at dksX6_stands_2 5 rfl rfl)
theorem dX6_stands_53 : decode cX6_stands 53 = .ok (.getfield 31, 3) := dk_180 0 31 (dk_at dksX6_stands_2 6 rfl rfl)
theorem dX6_stands_56 : decode cX6_stands 56 = .ok (.iconst 1, 1) := dk_4 (dk_at dksX6_stands_2 9 rfl rfl)
theorem dX6_stands_57 : decode cX6_stands 57 = .ok (.iconst 4, 1) := dk_7 (dk_at dksX6_stands_2 10 rfl rfl)
theorem dX6_stands_58 : decode cX6_stands 58 = .ok (.iload_n 1, 1) := dk_27 (dk_at dksX6_stands_2 11 rfl rfl)
theorem dX6_stands_59 : decode cX6_stands 59 = .ok (.imul, 1) := dk_104 (dk_at dksX6_stands_2 12 rfl rfl)
theorem dX6_stands_60 : decode cX6_stands 60 = .ok (.iadd, 1) := dk_96 (dk_at dksX6_stands_2 13 rfl rfl)
theorem dX6_stands_61 : decode cX6_stands 61 = .ok (.iload 4, 2) := dk_21 4 (dk_at dksX6_stands_2 14 rfl rfl)
theorem dX6_stands_63 : decode cX6_stands 63 = .ok (.iadd, 1) := dk_96 (dk_at dksX6_stands_2 16 rfl rfl)
theorem dX6_stands_64 : decode cX6_stands 64 = .ok (.iaload, 1) := dk_46 (dk_at dksX6_stands_2 17 rfl rfl)
theorem dX6_stands_65 : decode cX6_stands 65 = .ok (.if_icmp .ne 7, 3) := dk_160 0 7 (dk_at dksX6_stands_2 18 rfl rfl)
theorem dX6_stands_68 : decode cX6_stands 68 = .ok (.iconst 1, 1) := dk_4 (dk_at dksX6_stands_2 21 rfl rfl)
theorem dX6_stands_69 : decode cX6_stands 69 = .ok (.goto 4, 3) := dk_167 0 4 (dk_at dksX6_stands_3 0 rfl rfl)
theorem dX6_stands_72 : decode cX6_stands 72 = .ok (.iconst 0, 1) := dk_3 (dk_at dksX6_stands_3 3 rfl rfl)
theorem dX6_stands_73 : decode cX6_stands 73 = .ok (.istore_n 3, 1) := dk_62 (dk_at dksX6_stands_3 4 rfl rfl)
theorem dX6_stands_74 : decode cX6_stands 74 = .ok (.iinc 4 1, 3) := dk_132 4 1 (dk_at dksX6_stands_3 5 rfl rfl)
theorem dX6_stands_77 : decode cX6_stands 77 = .ok (.goto (-52), 3) := dk_167 255 204 (dk_at dksX6_stands_3 8 rfl rfl)
theorem dX6_stands_80 : decode cX6_stands 80 = .ok (.iload_n 3, 1) := dk_29 (dk_at dksX6_stands_3 11 rfl rfl)
theorem dX6_stands_81 : decode cX6_stands 81 = .ok (.ifCond .eq 5, 3) := dk_153 0 5 (dk_at dksX6_stands_3 12 rfl rfl)
theorem dX6_stands_84 : decode cX6_stands 84 = .ok (.iload_n 2, 1) := dk_28 (dk_at dksX6_stands_3 15 rfl rfl)
theorem dX6_stands_85 : decode cX6_stands 85 = .ok (.ireturn, 1) := dk_172 (dk_at dksX6_stands_3 16 rfl rfl)
theorem dX6_stands_86 : decode cX6_stands 86 = .ok (.iinc 2 1, 3) := dk_132 2 1 (dk_at dksX6_stands_3 17 rfl rfl)
theorem dX6_stands_89 : decode cX6_stands 89 = .ok (.goto (-87), 3) := dk_167 255 169 (dk_at dksX6_stands_3 20 rfl rfl)
theorem dX6_stands_92 : decode cX6_stands 92 = .ok (.iconst (-1), 1) := dk_2 (dk_at dksX6_stands_3 23 rfl rfl)
theorem dX6_stands_93 : decode cX6_stands 93 = .ok (.ireturn, 1) := dk_172 (dk_at dksX6_stands_4 0 rfl rfl)
abbrev cX6_told : ByteArray := prog_28_method_45_code
def yX6_told : MethodName := ⟨RX6, "told", "(IIII)I"⟩
def dkwX6_told_14 : List UInt8 := [16, 121, 21, 6, 96, 21, 5, 79, 21, 6, 172]
abbrev dktX6_told_14 : List UInt8 := dkwX6_told_14 ++ []
def dkwX6_told_13 : List UInt8 := [21, 6, 104, 21, 7, 96, 42, 180, 0, 52, 21, 7, 47, 80, 132, 7, 1, 167, 255, 226, 42, 180, 0, 17]
abbrev dktX6_told_13 : List UInt8 := dkwX6_told_13 ++ dktX6_told_14
def dkwX6_told_12 : List UInt8 := [46, 28, 29, 182, 0, 97, 54, 6, 3, 54, 7, 21, 7, 21, 5, 162, 0, 29, 42, 180, 0, 20, 16, 12]
abbrev dktX6_told_12 : List UInt8 := dkwX6_told_12 ++ dktX6_told_13
def dkwX6_told_11 : List UInt8 := [180, 0, 52, 21, 6, 4, 96, 22, 7, 80, 132, 6, 1, 167, 255, 192, 42, 42, 180, 0, 17, 4, 27, 96]
abbrev dktX6_told_11 : List UInt8 := dkwX6_told_11 ++ dktX6_told_12
def dkwX6_told_10 : List UInt8 := [21, 6, 47, 55, 7, 42, 180, 0, 52, 21, 6, 42, 180, 0, 52, 21, 6, 4, 96, 47, 80, 42]
abbrev dktX6_told_10 : List UInt8 := dkwX6_told_10 ++ dktX6_told_11
def dkwX6_told_9 : List UInt8 := [162, 0, 61, 42, 182, 0, 244, 42, 180, 0, 34, 5, 46, 161, 0, 6, 167, 0, 39, 42, 180, 0, 52]
abbrev dktX6_told_9 : List UInt8 := dkwX6_told_9 ++ dktX6_told_10
def dkwX6_told_8 : List UInt8 := [167, 255, 163, 21, 5, 154, 0, 10, 42, 16, 251, 182, 0, 85, 172, 3, 54, 6, 21, 6, 4, 96, 21, 5]
abbrev dktX6_told_8 : List UInt8 := dkwX6_told_8 ++ dktX6_told_9
def dkwX6_told_7 : List UInt8 := [180, 0, 17, 4, 27, 96, 46, 182, 0, 236, 167, 0, 5, 22, 7, 80, 132, 5, 1, 132, 6, 1]
abbrev dktX6_told_7 : List UInt8 := dkwX6_told_7 ++ dktX6_told_8
def dkwX6_told_6 : List UInt8 := [180, 0, 52, 21, 5, 42, 182, 0, 244, 42, 180, 0, 34, 6, 46, 162, 0, 20, 42, 22, 7, 42]
abbrev dktX6_told_6 : List UInt8 := dkwX6_told_6 ++ dktX6_told_7
def dkwX6_told_5 : List UInt8 := [167, 0, 63, 42, 42, 180, 0, 20, 16, 12, 27, 104, 21, 6, 96, 47, 182, 0, 247, 55, 7, 42]
abbrev dktX6_told_5 : List UInt8 := dkwX6_told_5 ++ dktX6_told_6
def dkwX6_told_4 : List UInt8 := [180, 0, 17, 16, 121, 27, 96, 46, 162, 0, 85, 42, 182, 0, 244, 42, 180, 0, 34, 4, 46, 162, 0, 6]
abbrev dktX6_told_4 : List UInt8 := dkwX6_told_4 ++ dktX6_told_5
def dkwX6_told_3 : List UInt8 := [42, 16, 252, 182, 0, 85, 172, 42, 21, 4, 181, 0, 241, 3, 54, 5, 3, 54, 6, 21, 6, 42]
abbrev dktX6_told_3 : List UInt8 := dkwX6_told_3 ++ dktX6_told_4
def dkwX6_told_2 : List UInt8 := [184, 0, 81, 154, 0, 10, 42, 16, 253, 182, 0, 85, 172, 42, 180, 0, 17, 3, 46, 16, 40, 160, 0, 10]
abbrev dktX6_told_2 : List UInt8 := dkwX6_told_2 ++ dktX6_told_3
def dkwX6_told_1 : List UInt8 := [16, 254, 182, 0, 85, 172, 28, 133, 9, 20, 0, 91, 184, 0, 81, 153, 0, 15, 29, 133, 9, 20, 0, 93]
abbrev dktX6_told_1 : List UInt8 := dkwX6_told_1 ++ dktX6_told_2
def dkwX6_told_0 : List UInt8 := [42, 3, 181, 0, 1, 27, 133, 9, 42, 180, 0, 17, 3, 46, 4, 100, 133, 184, 0, 81, 154, 0, 10, 42]
abbrev dktX6_told_0 : List UInt8 := dkwX6_told_0 ++ dktX6_told_1
theorem dksX6_told_0 : cX6_told.data.toList.drop 0 = dktX6_told_0 := by decide +kernel
theorem dksX6_told_1 : cX6_told.data.toList.drop 24 = dktX6_told_1 := dk_seg dksX6_told_0 24 rfl rfl
theorem dksX6_told_2 : cX6_told.data.toList.drop 48 = dktX6_told_2 := dk_seg dksX6_told_1 24 rfl rfl
theorem dksX6_told_3 : cX6_told.data.toList.drop 72 = dktX6_told_3 := dk_seg dksX6_told_2 24 rfl rfl
theorem dksX6_told_4 : cX6_told.data.toList.drop 94 = dktX6_told_4 := dk_seg dksX6_told_3 22 rfl rfl
theorem dksX6_told_5 : cX6_told.data.toList.drop 118 = dktX6_told_5 := dk_seg dksX6_told_4 24 rfl rfl
theorem dksX6_told_6 : cX6_told.data.toList.drop 140 = dktX6_told_6 := dk_seg dksX6_told_5 22 rfl rfl
theorem dksX6_told_7 : cX6_told.data.toList.drop 162 = dktX6_told_7 := dk_seg dksX6_told_6 22 rfl rfl
theorem dksX6_told_8 : cX6_told.data.toList.drop 184 = dktX6_told_8 := dk_seg dksX6_told_7 22 rfl rfl
theorem dksX6_told_9 : cX6_told.data.toList.drop 208 = dktX6_told_9 := dk_seg dksX6_told_8 24 rfl rfl
theorem dksX6_told_10 : cX6_told.data.toList.drop 231 = dktX6_told_10 := dk_seg dksX6_told_9 23 rfl rfl
theorem dksX6_told_11 : cX6_told.data.toList.drop 253 = dktX6_told_11 := dk_seg dksX6_told_10 22 rfl rfl
theorem dksX6_told_12 : cX6_told.data.toList.drop 277 = dktX6_told_12 := dk_seg dksX6_told_11 24 rfl rfl
theorem dksX6_told_13 : cX6_told.data.toList.drop 301 = dktX6_told_13 := dk_seg dksX6_told_12 24 rfl rfl
theorem dksX6_told_14 : cX6_told.data.toList.drop 325 = dktX6_told_14 := dk_seg dksX6_told_13 24 rfl rfl
theorem dX6_told_0 : decode cX6_told 0 = .ok (.aload_n 0, 1) := dk_42 (dk_at dksX6_told_0 0 rfl rfl)
theorem dX6_told_1 : decode cX6_told 1 = .ok (.iconst 0, 1) := dk_3 (dk_at dksX6_told_0 1 rfl rfl)
theorem dX6_told_2 : decode cX6_told 2 = .ok (.putfield 1, 3) := dk_181 0 1 (dk_at dksX6_told_0 2 rfl rfl)
theorem dX6_told_5 : decode cX6_told 5 = .ok (.iload_n 1, 1) := dk_27 (dk_at dksX6_told_0 5 rfl rfl)
theorem dX6_told_6 : decode cX6_told 6 = .ok (.i2l, 1) := dk_133 (dk_at dksX6_told_0 6 rfl rfl)
theorem dX6_told_7 : decode cX6_told 7 = .ok (.lconst 0, 1) := dk_9 (dk_at dksX6_told_0 7 rfl rfl)
theorem dX6_told_8 : decode cX6_told 8 = .ok (.aload_n 0, 1) := dk_42 (dk_at dksX6_told_0 8 rfl rfl)
theorem dX6_told_9 : decode cX6_told 9 = .ok (.getfield 17, 3) := dk_180 0 17 (dk_at dksX6_told_0 9 rfl rfl)
theorem dX6_told_12 : decode cX6_told 12 = .ok (.iconst 0, 1) := dk_3 (dk_at dksX6_told_0 12 rfl rfl)
theorem dX6_told_13 : decode cX6_told 13 = .ok (.iaload, 1) := dk_46 (dk_at dksX6_told_0 13 rfl rfl)
theorem dX6_told_14 : decode cX6_told 14 = .ok (.iconst 1, 1) := dk_4 (dk_at dksX6_told_0 14 rfl rfl)
theorem dX6_told_15 : decode cX6_told 15 = .ok (.isub, 1) := dk_100 (dk_at dksX6_told_0 15 rfl rfl)
theorem dX6_told_16 : decode cX6_told 16 = .ok (.i2l, 1) := dk_133 (dk_at dksX6_told_0 16 rfl rfl)
theorem dX6_told_17 : decode cX6_told 17 = .ok (.invokestatic 81, 3) := dk_184 0 81 (dk_at dksX6_told_0 17 rfl rfl)
theorem dX6_told_20 : decode cX6_told 20 = .ok (.ifCond .ne 10, 3) := dk_154 0 10 (dk_at dksX6_told_0 20 rfl rfl)
theorem dX6_told_23 : decode cX6_told 23 = .ok (.aload_n 0, 1) := dk_42 (dk_at dksX6_told_0 23 rfl rfl)
theorem dX6_told_24 : decode cX6_told 24 = .ok (.bipush (-2), 2) := dk_16 254 (dk_at dksX6_told_1 0 rfl rfl)
theorem dX6_told_26 : decode cX6_told 26 = .ok (.invokevirtual 85, 3) := dk_182 0 85 (dk_at dksX6_told_1 2 rfl rfl)
theorem dX6_told_29 : decode cX6_told 29 = .ok (.ireturn, 1) := dk_172 (dk_at dksX6_told_1 5 rfl rfl)
theorem dX6_told_30 : decode cX6_told 30 = .ok (.iload_n 2, 1) := dk_28 (dk_at dksX6_told_1 6 rfl rfl)
theorem dX6_told_31 : decode cX6_told 31 = .ok (.i2l, 1) := dk_133 (dk_at dksX6_told_1 7 rfl rfl)
theorem dX6_told_32 : decode cX6_told 32 = .ok (.lconst 0, 1) := dk_9 (dk_at dksX6_told_1 8 rfl rfl)
theorem dX6_told_33 : decode cX6_told 33 = .ok (.ldc2_w 91, 3) := dk_20 0 91 (dk_at dksX6_told_1 9 rfl rfl)
theorem dX6_told_36 : decode cX6_told 36 = .ok (.invokestatic 81, 3) := dk_184 0 81 (dk_at dksX6_told_1 12 rfl rfl)
theorem dX6_told_39 : decode cX6_told 39 = .ok (.ifCond .eq 15, 3) := dk_153 0 15 (dk_at dksX6_told_1 15 rfl rfl)
theorem dX6_told_42 : decode cX6_told 42 = .ok (.iload_n 3, 1) := dk_29 (dk_at dksX6_told_1 18 rfl rfl)
theorem dX6_told_43 : decode cX6_told 43 = .ok (.i2l, 1) := dk_133 (dk_at dksX6_told_1 19 rfl rfl)
theorem dX6_told_44 : decode cX6_told 44 = .ok (.lconst 0, 1) := dk_9 (dk_at dksX6_told_1 20 rfl rfl)
theorem dX6_told_45 : decode cX6_told 45 = .ok (.ldc2_w 93, 3) := dk_20 0 93 (dk_at dksX6_told_1 21 rfl rfl)
theorem dX6_told_48 : decode cX6_told 48 = .ok (.invokestatic 81, 3) := dk_184 0 81 (dk_at dksX6_told_2 0 rfl rfl)
theorem dX6_told_51 : decode cX6_told 51 = .ok (.ifCond .ne 10, 3) := dk_154 0 10 (dk_at dksX6_told_2 3 rfl rfl)
theorem dX6_told_54 : decode cX6_told 54 = .ok (.aload_n 0, 1) := dk_42 (dk_at dksX6_told_2 6 rfl rfl)
theorem dX6_told_55 : decode cX6_told 55 = .ok (.bipush (-3), 2) := dk_16 253 (dk_at dksX6_told_2 7 rfl rfl)
theorem dX6_told_57 : decode cX6_told 57 = .ok (.invokevirtual 85, 3) := dk_182 0 85 (dk_at dksX6_told_2 9 rfl rfl)
theorem dX6_told_60 : decode cX6_told 60 = .ok (.ireturn, 1) := dk_172 (dk_at dksX6_told_2 12 rfl rfl)
theorem dX6_told_61 : decode cX6_told 61 = .ok (.aload_n 0, 1) := dk_42 (dk_at dksX6_told_2 13 rfl rfl)
theorem dX6_told_62 : decode cX6_told 62 = .ok (.getfield 17, 3) := dk_180 0 17 (dk_at dksX6_told_2 14 rfl rfl)
theorem dX6_told_65 : decode cX6_told 65 = .ok (.iconst 0, 1) := dk_3 (dk_at dksX6_told_2 17 rfl rfl)
theorem dX6_told_66 : decode cX6_told 66 = .ok (.iaload, 1) := dk_46 (dk_at dksX6_told_2 18 rfl rfl)
theorem dX6_told_67 : decode cX6_told 67 = .ok (.bipush 40, 2) := dk_16 40 (dk_at dksX6_told_2 19 rfl rfl)
theorem dX6_told_69 : decode cX6_told 69 = .ok (.if_icmp .ne 10, 3) := dk_160 0 10 (dk_at dksX6_told_2 21 rfl rfl)
theorem dX6_told_72 : decode cX6_told 72 = .ok (.aload_n 0, 1) := dk_42 (dk_at dksX6_told_3 0 rfl rfl)
theorem dX6_told_73 : decode cX6_told 73 = .ok (.bipush (-4), 2) := dk_16 252 (dk_at dksX6_told_3 1 rfl rfl)
theorem dX6_told_75 : decode cX6_told 75 = .ok (.invokevirtual 85, 3) := dk_182 0 85 (dk_at dksX6_told_3 3 rfl rfl)
theorem dX6_told_78 : decode cX6_told 78 = .ok (.ireturn, 1) := dk_172 (dk_at dksX6_told_3 6 rfl rfl)
theorem dX6_told_79 : decode cX6_told 79 = .ok (.aload_n 0, 1) := dk_42 (dk_at dksX6_told_3 7 rfl rfl)
theorem dX6_told_80 : decode cX6_told 80 = .ok (.iload 4, 2) := dk_21 4 (dk_at dksX6_told_3 8 rfl rfl)
theorem dX6_told_82 : decode cX6_told 82 = .ok (.putfield 241, 3) := dk_181 0 241 (dk_at dksX6_told_3 10 rfl rfl)
theorem dX6_told_85 : decode cX6_told 85 = .ok (.iconst 0, 1) := dk_3 (dk_at dksX6_told_3 13 rfl rfl)
theorem dX6_told_86 : decode cX6_told 86 = .ok (.istore 5, 2) := dk_54 5 (dk_at dksX6_told_3 14 rfl rfl)
theorem dX6_told_88 : decode cX6_told 88 = .ok (.iconst 0, 1) := dk_3 (dk_at dksX6_told_3 16 rfl rfl)
theorem dX6_told_89 : decode cX6_told 89 = .ok (.istore 6, 2) := dk_54 6 (dk_at dksX6_told_3 17 rfl rfl)
theorem dX6_told_91 : decode cX6_told 91 = .ok (.iload 6, 2) := dk_21 6 (dk_at dksX6_told_3 19 rfl rfl)
theorem dX6_told_93 : decode cX6_told 93 = .ok (.aload_n 0, 1) := dk_42 (dk_at dksX6_told_3 21 rfl rfl)
theorem dX6_told_94 : decode cX6_told 94 = .ok (.getfield 17, 3) := dk_180 0 17 (dk_at dksX6_told_4 0 rfl rfl)
theorem dX6_told_97 : decode cX6_told 97 = .ok (.bipush 121, 2) := dk_16 121 (dk_at dksX6_told_4 3 rfl rfl)
theorem dX6_told_99 : decode cX6_told 99 = .ok (.iload_n 1, 1) := dk_27 (dk_at dksX6_told_4 5 rfl rfl)
theorem dX6_told_100 : decode cX6_told 100 = .ok (.iadd, 1) := dk_96 (dk_at dksX6_told_4 6 rfl rfl)
theorem dX6_told_101 : decode cX6_told 101 = .ok (.iaload, 1) := dk_46 (dk_at dksX6_told_4 7 rfl rfl)
theorem dX6_told_102 : decode cX6_told 102 = .ok (.if_icmp .ge 85, 3) := dk_162 0 85 (dk_at dksX6_told_4 8 rfl rfl)
theorem dX6_told_105 : decode cX6_told 105 = .ok (.aload_n 0, 1) := dk_42 (dk_at dksX6_told_4 11 rfl rfl)
theorem dX6_told_106 : decode cX6_told 106 = .ok (.invokevirtual 244, 3) := dk_182 0 244 (dk_at dksX6_told_4 12 rfl rfl)
theorem dX6_told_109 : decode cX6_told 109 = .ok (.aload_n 0, 1) := dk_42 (dk_at dksX6_told_4 15 rfl rfl)
theorem dX6_told_110 : decode cX6_told 110 = .ok (.getfield 34, 3) := dk_180 0 34 (dk_at dksX6_told_4 16 rfl rfl)
theorem dX6_told_113 : decode cX6_told 113 = .ok (.iconst 1, 1) := dk_4 (dk_at dksX6_told_4 19 rfl rfl)
theorem dX6_told_114 : decode cX6_told 114 = .ok (.iaload, 1) := dk_46 (dk_at dksX6_told_4 20 rfl rfl)
theorem dX6_told_115 : decode cX6_told 115 = .ok (.if_icmp .ge 6, 3) := dk_162 0 6 (dk_at dksX6_told_4 21 rfl rfl)
theorem dX6_told_118 : decode cX6_told 118 = .ok (.goto 63, 3) := dk_167 0 63 (dk_at dksX6_told_5 0 rfl rfl)
theorem dX6_told_121 : decode cX6_told 121 = .ok (.aload_n 0, 1) := dk_42 (dk_at dksX6_told_5 3 rfl rfl)
theorem dX6_told_122 : decode cX6_told 122 = .ok (.aload_n 0, 1) := dk_42 (dk_at dksX6_told_5 4 rfl rfl)
theorem dX6_told_123 : decode cX6_told 123 = .ok (.getfield 20, 3) := dk_180 0 20 (dk_at dksX6_told_5 5 rfl rfl)
theorem dX6_told_126 : decode cX6_told 126 = .ok (.bipush 12, 2) := dk_16 12 (dk_at dksX6_told_5 8 rfl rfl)
theorem dX6_told_128 : decode cX6_told 128 = .ok (.iload_n 1, 1) := dk_27 (dk_at dksX6_told_5 10 rfl rfl)
theorem dX6_told_129 : decode cX6_told 129 = .ok (.imul, 1) := dk_104 (dk_at dksX6_told_5 11 rfl rfl)
theorem dX6_told_130 : decode cX6_told 130 = .ok (.iload 6, 2) := dk_21 6 (dk_at dksX6_told_5 12 rfl rfl)
theorem dX6_told_132 : decode cX6_told 132 = .ok (.iadd, 1) := dk_96 (dk_at dksX6_told_5 14 rfl rfl)
theorem dX6_told_133 : decode cX6_told 133 = .ok (.laload, 1) := dk_47 (dk_at dksX6_told_5 15 rfl rfl)
theorem dX6_told_134 : decode cX6_told 134 = .ok (.invokevirtual 247, 3) := dk_182 0 247 (dk_at dksX6_told_5 16 rfl rfl)
theorem dX6_told_137 : decode cX6_told 137 = .ok (.lstore 7, 2) := dk_55 7 (dk_at dksX6_told_5 19 rfl rfl)
theorem dX6_told_139 : decode cX6_told 139 = .ok (.aload_n 0, 1) := dk_42 (dk_at dksX6_told_5 21 rfl rfl)
theorem dX6_told_140 : decode cX6_told 140 = .ok (.getfield 52, 3) := dk_180 0 52 (dk_at dksX6_told_6 0 rfl rfl)
theorem dX6_told_143 : decode cX6_told 143 = .ok (.iload 5, 2) := dk_21 5 (dk_at dksX6_told_6 3 rfl rfl)
theorem dX6_told_145 : decode cX6_told 145 = .ok (.aload_n 0, 1) := dk_42 (dk_at dksX6_told_6 5 rfl rfl)
theorem dX6_told_146 : decode cX6_told 146 = .ok (.invokevirtual 244, 3) := dk_182 0 244 (dk_at dksX6_told_6 6 rfl rfl)
theorem dX6_told_149 : decode cX6_told 149 = .ok (.aload_n 0, 1) := dk_42 (dk_at dksX6_told_6 9 rfl rfl)
theorem dX6_told_150 : decode cX6_told 150 = .ok (.getfield 34, 3) := dk_180 0 34 (dk_at dksX6_told_6 10 rfl rfl)
theorem dX6_told_153 : decode cX6_told 153 = .ok (.iconst 3, 1) := dk_6 (dk_at dksX6_told_6 13 rfl rfl)
theorem dX6_told_154 : decode cX6_told 154 = .ok (.iaload, 1) := dk_46 (dk_at dksX6_told_6 14 rfl rfl)
theorem dX6_told_155 : decode cX6_told 155 = .ok (.if_icmp .ge 20, 3) := dk_162 0 20 (dk_at dksX6_told_6 15 rfl rfl)
theorem dX6_told_158 : decode cX6_told 158 = .ok (.aload_n 0, 1) := dk_42 (dk_at dksX6_told_6 18 rfl rfl)
theorem dX6_told_159 : decode cX6_told 159 = .ok (.lload 7, 2) := dk_22 7 (dk_at dksX6_told_6 19 rfl rfl)
theorem dX6_told_161 : decode cX6_told 161 = .ok (.aload_n 0, 1) := dk_42 (dk_at dksX6_told_6 21 rfl rfl)
theorem dX6_told_162 : decode cX6_told 162 = .ok (.getfield 17, 3) := dk_180 0 17 (dk_at dksX6_told_7 0 rfl rfl)
theorem dX6_told_165 : decode cX6_told 165 = .ok (.iconst 1, 1) := dk_4 (dk_at dksX6_told_7 3 rfl rfl)
theorem dX6_told_166 : decode cX6_told 166 = .ok (.iload_n 1, 1) := dk_27 (dk_at dksX6_told_7 4 rfl rfl)
theorem dX6_told_167 : decode cX6_told 167 = .ok (.iadd, 1) := dk_96 (dk_at dksX6_told_7 5 rfl rfl)
theorem dX6_told_168 : decode cX6_told 168 = .ok (.iaload, 1) := dk_46 (dk_at dksX6_told_7 6 rfl rfl)
theorem dX6_told_169 : decode cX6_told 169 = .ok (.invokevirtual 236, 3) := dk_182 0 236 (dk_at dksX6_told_7 7 rfl rfl)
theorem dX6_told_172 : decode cX6_told 172 = .ok (.goto 5, 3) := dk_167 0 5 (dk_at dksX6_told_7 10 rfl rfl)
theorem dX6_told_175 : decode cX6_told 175 = .ok (.lload 7, 2) := dk_22 7 (dk_at dksX6_told_7 13 rfl rfl)
theorem dX6_told_177 : decode cX6_told 177 = .ok (.lastore, 1) := dk_80 (dk_at dksX6_told_7 15 rfl rfl)
theorem dX6_told_178 : decode cX6_told 178 = .ok (.iinc 5 1, 3) := dk_132 5 1 (dk_at dksX6_told_7 16 rfl rfl)
theorem dX6_told_181 : decode cX6_told 181 = .ok (.iinc 6 1, 3) := dk_132 6 1 (dk_at dksX6_told_7 19 rfl rfl)
theorem dX6_told_184 : decode cX6_told 184 = .ok (.goto (-93), 3) := dk_167 255 163 (dk_at dksX6_told_8 0 rfl rfl)
theorem dX6_told_187 : decode cX6_told 187 = .ok (.iload 5, 2) := dk_21 5 (dk_at dksX6_told_8 3 rfl rfl)
theorem dX6_told_189 : decode cX6_told 189 = .ok (.ifCond .ne 10, 3) := dk_154 0 10 (dk_at dksX6_told_8 5 rfl rfl)
theorem dX6_told_192 : decode cX6_told 192 = .ok (.aload_n 0, 1) := dk_42 (dk_at dksX6_told_8 8 rfl rfl)
theorem dX6_told_193 : decode cX6_told 193 = .ok (.bipush (-5), 2) := dk_16 251 (dk_at dksX6_told_8 9 rfl rfl)
theorem dX6_told_195 : decode cX6_told 195 = .ok (.invokevirtual 85, 3) := dk_182 0 85 (dk_at dksX6_told_8 11 rfl rfl)
theorem dX6_told_198 : decode cX6_told 198 = .ok (.ireturn, 1) := dk_172 (dk_at dksX6_told_8 14 rfl rfl)
theorem dX6_told_199 : decode cX6_told 199 = .ok (.iconst 0, 1) := dk_3 (dk_at dksX6_told_8 15 rfl rfl)
theorem dX6_told_200 : decode cX6_told 200 = .ok (.istore 6, 2) := dk_54 6 (dk_at dksX6_told_8 16 rfl rfl)
theorem dX6_told_202 : decode cX6_told 202 = .ok (.iload 6, 2) := dk_21 6 (dk_at dksX6_told_8 18 rfl rfl)
theorem dX6_told_204 : decode cX6_told 204 = .ok (.iconst 1, 1) := dk_4 (dk_at dksX6_told_8 20 rfl rfl)
theorem dX6_told_205 : decode cX6_told 205 = .ok (.iadd, 1) := dk_96 (dk_at dksX6_told_8 21 rfl rfl)
theorem dX6_told_206 : decode cX6_told 206 = .ok (.iload 5, 2) := dk_21 5 (dk_at dksX6_told_8 22 rfl rfl)
theorem dX6_told_208 : decode cX6_told 208 = .ok (.if_icmp .ge 61, 3) := dk_162 0 61 (dk_at dksX6_told_9 0 rfl rfl)
theorem dX6_told_211 : decode cX6_told 211 = .ok (.aload_n 0, 1) := dk_42 (dk_at dksX6_told_9 3 rfl rfl)
theorem dX6_told_212 : decode cX6_told 212 = .ok (.invokevirtual 244, 3) := dk_182 0 244 (dk_at dksX6_told_9 4 rfl rfl)
theorem dX6_told_215 : decode cX6_told 215 = .ok (.aload_n 0, 1) := dk_42 (dk_at dksX6_told_9 7 rfl rfl)
theorem dX6_told_216 : decode cX6_told 216 = .ok (.getfield 34, 3) := dk_180 0 34 (dk_at dksX6_told_9 8 rfl rfl)
theorem dX6_told_219 : decode cX6_told 219 = .ok (.iconst 2, 1) := dk_5 (dk_at dksX6_told_9 11 rfl rfl)
theorem dX6_told_220 : decode cX6_told 220 = .ok (.iaload, 1) := dk_46 (dk_at dksX6_told_9 12 rfl rfl)
theorem dX6_told_221 : decode cX6_told 221 = .ok (.if_icmp .lt 6, 3) := dk_161 0 6 (dk_at dksX6_told_9 13 rfl rfl)
theorem dX6_told_224 : decode cX6_told 224 = .ok (.goto 39, 3) := dk_167 0 39 (dk_at dksX6_told_9 16 rfl rfl)
theorem dX6_told_227 : decode cX6_told 227 = .ok (.aload_n 0, 1) := dk_42 (dk_at dksX6_told_9 19 rfl rfl)
theorem dX6_told_228 : decode cX6_told 228 = .ok (.getfield 52, 3) := dk_180 0 52 (dk_at dksX6_told_9 20 rfl rfl)
theorem dX6_told_231 : decode cX6_told 231 = .ok (.iload 6, 2) := dk_21 6 (dk_at dksX6_told_10 0 rfl rfl)
theorem dX6_told_233 : decode cX6_told 233 = .ok (.laload, 1) := dk_47 (dk_at dksX6_told_10 2 rfl rfl)
theorem dX6_told_234 : decode cX6_told 234 = .ok (.lstore 7, 2) := dk_55 7 (dk_at dksX6_told_10 3 rfl rfl)
theorem dX6_told_236 : decode cX6_told 236 = .ok (.aload_n 0, 1) := dk_42 (dk_at dksX6_told_10 5 rfl rfl)
theorem dX6_told_237 : decode cX6_told 237 = .ok (.getfield 52, 3) := dk_180 0 52 (dk_at dksX6_told_10 6 rfl rfl)
theorem dX6_told_240 : decode cX6_told 240 = .ok (.iload 6, 2) := dk_21 6 (dk_at dksX6_told_10 9 rfl rfl)
theorem dX6_told_242 : decode cX6_told 242 = .ok (.aload_n 0, 1) := dk_42 (dk_at dksX6_told_10 11 rfl rfl)
theorem dX6_told_243 : decode cX6_told 243 = .ok (.getfield 52, 3) := dk_180 0 52 (dk_at dksX6_told_10 12 rfl rfl)
theorem dX6_told_246 : decode cX6_told 246 = .ok (.iload 6, 2) := dk_21 6 (dk_at dksX6_told_10 15 rfl rfl)
theorem dX6_told_248 : decode cX6_told 248 = .ok (.iconst 1, 1) := dk_4 (dk_at dksX6_told_10 17 rfl rfl)
theorem dX6_told_249 : decode cX6_told 249 = .ok (.iadd, 1) := dk_96 (dk_at dksX6_told_10 18 rfl rfl)
theorem dX6_told_250 : decode cX6_told 250 = .ok (.laload, 1) := dk_47 (dk_at dksX6_told_10 19 rfl rfl)
theorem dX6_told_251 : decode cX6_told 251 = .ok (.lastore, 1) := dk_80 (dk_at dksX6_told_10 20 rfl rfl)
theorem dX6_told_252 : decode cX6_told 252 = .ok (.aload_n 0, 1) := dk_42 (dk_at dksX6_told_10 21 rfl rfl)
theorem dX6_told_253 : decode cX6_told 253 = .ok (.getfield 52, 3) := dk_180 0 52 (dk_at dksX6_told_11 0 rfl rfl)
theorem dX6_told_256 : decode cX6_told 256 = .ok (.iload 6, 2) := dk_21 6 (dk_at dksX6_told_11 3 rfl rfl)
theorem dX6_told_258 : decode cX6_told 258 = .ok (.iconst 1, 1) := dk_4 (dk_at dksX6_told_11 5 rfl rfl)
theorem dX6_told_259 : decode cX6_told 259 = .ok (.iadd, 1) := dk_96 (dk_at dksX6_told_11 6 rfl rfl)
theorem dX6_told_260 : decode cX6_told 260 = .ok (.lload 7, 2) := dk_22 7 (dk_at dksX6_told_11 7 rfl rfl)
theorem dX6_told_262 : decode cX6_told 262 = .ok (.lastore, 1) := dk_80 (dk_at dksX6_told_11 9 rfl rfl)
theorem dX6_told_263 : decode cX6_told 263 = .ok (.iinc 6 1, 3) := dk_132 6 1 (dk_at dksX6_told_11 10 rfl rfl)
theorem dX6_told_266 : decode cX6_told 266 = .ok (.goto (-64), 3) := dk_167 255 192 (dk_at dksX6_told_11 13 rfl rfl)
theorem dX6_told_269 : decode cX6_told 269 = .ok (.aload_n 0, 1) := dk_42 (dk_at dksX6_told_11 16 rfl rfl)
theorem dX6_told_270 : decode cX6_told 270 = .ok (.aload_n 0, 1) := dk_42 (dk_at dksX6_told_11 17 rfl rfl)
theorem dX6_told_271 : decode cX6_told 271 = .ok (.getfield 17, 3) := dk_180 0 17 (dk_at dksX6_told_11 18 rfl rfl)
theorem dX6_told_274 : decode cX6_told 274 = .ok (.iconst 1, 1) := dk_4 (dk_at dksX6_told_11 21 rfl rfl)
theorem dX6_told_275 : decode cX6_told 275 = .ok (.iload_n 1, 1) := dk_27 (dk_at dksX6_told_11 22 rfl rfl)
theorem dX6_told_276 : decode cX6_told 276 = .ok (.iadd, 1) := dk_96 (dk_at dksX6_told_11 23 rfl rfl)
theorem dX6_told_277 : decode cX6_told 277 = .ok (.iaload, 1) := dk_46 (dk_at dksX6_told_12 0 rfl rfl)
theorem dX6_told_278 : decode cX6_told 278 = .ok (.iload_n 2, 1) := dk_28 (dk_at dksX6_told_12 1 rfl rfl)
theorem dX6_told_279 : decode cX6_told 279 = .ok (.iload_n 3, 1) := dk_29 (dk_at dksX6_told_12 2 rfl rfl)
theorem dX6_told_280 : decode cX6_told 280 = .ok (.invokevirtual 97, 3) := dk_182 0 97 (dk_at dksX6_told_12 3 rfl rfl)
theorem dX6_told_283 : decode cX6_told 283 = .ok (.istore 6, 2) := dk_54 6 (dk_at dksX6_told_12 6 rfl rfl)
theorem dX6_told_285 : decode cX6_told 285 = .ok (.iconst 0, 1) := dk_3 (dk_at dksX6_told_12 8 rfl rfl)
theorem dX6_told_286 : decode cX6_told 286 = .ok (.istore 7, 2) := dk_54 7 (dk_at dksX6_told_12 9 rfl rfl)
theorem dX6_told_288 : decode cX6_told 288 = .ok (.iload 7, 2) := dk_21 7 (dk_at dksX6_told_12 11 rfl rfl)
theorem dX6_told_290 : decode cX6_told 290 = .ok (.iload 5, 2) := dk_21 5 (dk_at dksX6_told_12 13 rfl rfl)
theorem dX6_told_292 : decode cX6_told 292 = .ok (.if_icmp .ge 29, 3) := dk_162 0 29 (dk_at dksX6_told_12 15 rfl rfl)
theorem dX6_told_295 : decode cX6_told 295 = .ok (.aload_n 0, 1) := dk_42 (dk_at dksX6_told_12 18 rfl rfl)
theorem dX6_told_296 : decode cX6_told 296 = .ok (.getfield 20, 3) := dk_180 0 20 (dk_at dksX6_told_12 19 rfl rfl)
theorem dX6_told_299 : decode cX6_told 299 = .ok (.bipush 12, 2) := dk_16 12 (dk_at dksX6_told_12 22 rfl rfl)
theorem dX6_told_301 : decode cX6_told 301 = .ok (.iload 6, 2) := dk_21 6 (dk_at dksX6_told_13 0 rfl rfl)
theorem dX6_told_303 : decode cX6_told 303 = .ok (.imul, 1) := dk_104 (dk_at dksX6_told_13 2 rfl rfl)
theorem dX6_told_304 : decode cX6_told 304 = .ok (.iload 7, 2) := dk_21 7 (dk_at dksX6_told_13 3 rfl rfl)
theorem dX6_told_306 : decode cX6_told 306 = .ok (.iadd, 1) := dk_96 (dk_at dksX6_told_13 5 rfl rfl)
theorem dX6_told_307 : decode cX6_told 307 = .ok (.aload_n 0, 1) := dk_42 (dk_at dksX6_told_13 6 rfl rfl)
theorem dX6_told_308 : decode cX6_told 308 = .ok (.getfield 52, 3) := dk_180 0 52 (dk_at dksX6_told_13 7 rfl rfl)
theorem dX6_told_311 : decode cX6_told 311 = .ok (.iload 7, 2) := dk_21 7 (dk_at dksX6_told_13 10 rfl rfl)
theorem dX6_told_313 : decode cX6_told 313 = .ok (.laload, 1) := dk_47 (dk_at dksX6_told_13 12 rfl rfl)
theorem dX6_told_314 : decode cX6_told 314 = .ok (.lastore, 1) := dk_80 (dk_at dksX6_told_13 13 rfl rfl)
theorem dX6_told_315 : decode cX6_told 315 = .ok (.iinc 7 1, 3) := dk_132 7 1 (dk_at dksX6_told_13 14 rfl rfl)
theorem dX6_told_318 : decode cX6_told 318 = .ok (.goto (-30), 3) := dk_167 255 226 (dk_at dksX6_told_13 17 rfl rfl)
theorem dX6_told_321 : decode cX6_told 321 = .ok (.aload_n 0, 1) := dk_42 (dk_at dksX6_told_13 20 rfl rfl)
theorem dX6_told_322 : decode cX6_told 322 = .ok (.getfield 17, 3) := dk_180 0 17 (dk_at dksX6_told_13 21 rfl rfl)
theorem dX6_told_325 : decode cX6_told 325 = .ok (.bipush 121, 2) := dk_16 121 (dk_at dksX6_told_14 0 rfl rfl)
theorem dX6_told_327 : decode cX6_told 327 = .ok (.iload 6, 2) := dk_21 6 (dk_at dksX6_told_14 2 rfl rfl)
theorem dX6_told_329 : decode cX6_told 329 = .ok (.iadd, 1) := dk_96 (dk_at dksX6_told_14 4 rfl rfl)
theorem dX6_told_330 : decode cX6_told 330 = .ok (.iload 5, 2) := dk_21 5 (dk_at dksX6_told_14 5 rfl rfl)
theorem dX6_told_332 : decode cX6_told 332 = .ok (.iastore, 1) := dk_79 (dk_at dksX6_told_14 7 rfl rfl)
theorem dX6_told_333 : decode cX6_told 333 = .ok (.iload 6, 2) := dk_21 6 (dk_at dksX6_told_14 8 rfl rfl)
theorem dX6_told_335 : decode cX6_told 335 = .ok (.ireturn, 1) := dk_172 (dk_at dksX6_told_14 10 rfl rfl)
abbrev cX6_draw : ByteArray := prog_28_method_43_code
def yX6_draw : MethodName := ⟨RX6, "draw", "()I"⟩
def dkwX6_draw_1 : List UInt8 := [112, 172]
abbrev dktX6_draw_1 : List UInt8 := dkwX6_draw_1 ++ []
def dkwX6_draw_0 : List UInt8 := [42, 18, 240, 42, 180, 0, 241, 104, 17, 48, 57, 96, 181, 0, 241, 42, 180, 0, 241, 16, 16, 124, 16, 100]
abbrev dktX6_draw_0 : List UInt8 := dkwX6_draw_0 ++ dktX6_draw_1
theorem dksX6_draw_0 : cX6_draw.data.toList.drop 0 = dktX6_draw_0 := by decide +kernel
theorem dksX6_draw_1 : cX6_draw.data.toList.drop 24 = dktX6_draw_1 := dk_seg dksX6_draw_0 24 rfl rfl
theorem dX6_draw_0 : decode cX6_draw 0 = .ok (.aload_n 0, 1) := dk_42 (dk_at dksX6_draw_0 0 rfl rfl)
theorem dX6_draw_1 : decode cX6_draw 1 = .ok (.ldc 240, 2) := dk_18 240 (dk_at dksX6_draw_0 1 rfl rfl)
theorem dX6_draw_3 : decode cX6_draw 3 = .ok (.aload_n 0, 1) := dk_42 (dk_at dksX6_draw_0 3 rfl rfl)
theorem dX6_draw_4 : decode cX6_draw 4 = .ok (.getfield 241, 3) := dk_180 0 241 (dk_at dksX6_draw_0 4 rfl rfl)
theorem dX6_draw_7 : decode cX6_draw 7 = .ok (.imul, 1) := dk_104 (dk_at dksX6_draw_0 7 rfl rfl)
theorem dX6_draw_8 : decode cX6_draw 8 = .ok (.sipush 12345, 3) := dk_17 48 57 (dk_at dksX6_draw_0 8 rfl rfl)
theorem dX6_draw_11 : decode cX6_draw 11 = .ok (.iadd, 1) := dk_96 (dk_at dksX6_draw_0 11 rfl rfl)
theorem dX6_draw_12 : decode cX6_draw 12 = .ok (.putfield 241, 3) := dk_181 0 241 (dk_at dksX6_draw_0 12 rfl rfl)
theorem dX6_draw_15 : decode cX6_draw 15 = .ok (.aload_n 0, 1) := dk_42 (dk_at dksX6_draw_0 15 rfl rfl)
theorem dX6_draw_16 : decode cX6_draw 16 = .ok (.getfield 241, 3) := dk_180 0 241 (dk_at dksX6_draw_0 16 rfl rfl)
theorem dX6_draw_19 : decode cX6_draw 19 = .ok (.bipush 16, 2) := dk_16 16 (dk_at dksX6_draw_0 19 rfl rfl)
theorem dX6_draw_21 : decode cX6_draw 21 = .ok (.iushr, 1) := dk_124 (dk_at dksX6_draw_0 21 rfl rfl)
theorem dX6_draw_22 : decode cX6_draw 22 = .ok (.bipush 100, 2) := dk_16 100 (dk_at dksX6_draw_0 22 rfl rfl)
theorem dX6_draw_24 : decode cX6_draw 24 = .ok (.irem, 1) := dk_112 (dk_at dksX6_draw_1 0 rfl rfl)
theorem dX6_draw_25 : decode cX6_draw 25 = .ok (.ireturn, 1) := dk_172 (dk_at dksX6_draw_1 1 rfl rfl)
abbrev cX6_said : ByteArray := prog_28_method_44_code
def yX6_said : MethodName := ⟨RX6, "said", "(J)J"⟩
def dkwX6_said_4 : List UInt8 := [21, 6, 104, 100, 121, 129, 66, 132, 6, 1, 167, 255, 163, 33, 173]
abbrev dktX6_said_4 : List UInt8 := dkwX6_said_4 ++ []
def dkwX6_said_3 : List UInt8 := [21, 9, 96, 46, 54, 7, 4, 54, 8, 132, 9, 1, 167, 255, 205, 33, 21, 7, 133, 16, 56, 16, 8]
abbrev dktX6_said_3 : List UInt8 := dkwX6_said_3 ++ dktX6_said_4
def dkwX6_said_2 : List UInt8 := [42, 180, 0, 34, 16, 17, 21, 9, 96, 46, 21, 7, 159, 0, 6, 167, 0, 17, 42, 180, 0, 34, 8]
abbrev dktX6_said_2 : List UInt8 := dkwX6_said_2 ++ dktX6_said_3
def dkwX6_said_1 : List UInt8 := [54, 7, 3, 54, 8, 3, 54, 9, 21, 9, 42, 180, 0, 34, 7, 46, 162, 0, 46, 21, 8, 154, 0, 41]
abbrev dktX6_said_1 : List UInt8 := dkwX6_said_1 ++ dktX6_said_2
def dkwX6_said_0 : List UInt8 := [9, 66, 31, 184, 0, 77, 54, 5, 3, 54, 6, 21, 6, 21, 5, 162, 0, 92, 31, 21, 6, 184, 0, 73]
abbrev dktX6_said_0 : List UInt8 := dkwX6_said_0 ++ dktX6_said_1
theorem dksX6_said_0 : cX6_said.data.toList.drop 0 = dktX6_said_0 := by decide +kernel
theorem dksX6_said_1 : cX6_said.data.toList.drop 24 = dktX6_said_1 := dk_seg dksX6_said_0 24 rfl rfl
theorem dksX6_said_2 : cX6_said.data.toList.drop 48 = dktX6_said_2 := dk_seg dksX6_said_1 24 rfl rfl
theorem dksX6_said_3 : cX6_said.data.toList.drop 71 = dktX6_said_3 := dk_seg dksX6_said_2 23 rfl rfl
theorem dksX6_said_4 : cX6_said.data.toList.drop 94 = dktX6_said_4 := dk_seg dksX6_said_3 23 rfl rfl
theorem dX6_said_0 : decode cX6_said 0 = .ok (.lconst 0, 1) := dk_9 (dk_at dksX6_said_0 0 rfl rfl)
theorem dX6_said_1 : decode cX6_said 1 = .ok (.lstore_n 3, 1) := dk_66 (dk_at dksX6_said_0 1 rfl rfl)
theorem dX6_said_2 : decode cX6_said 2 = .ok (.lload_n 1, 1) := dk_31 (dk_at dksX6_said_0 2 rfl rfl)
theorem dX6_said_3 : decode cX6_said 3 = .ok (.invokestatic 77, 3) := dk_184 0 77 (dk_at dksX6_said_0 3 rfl rfl)
theorem dX6_said_6 : decode cX6_said 6 = .ok (.istore 5, 2) := dk_54 5 (dk_at dksX6_said_0 6 rfl rfl)
theorem dX6_said_8 : decode cX6_said 8 = .ok (.iconst 0, 1) := dk_3 (dk_at dksX6_said_0 8 rfl rfl)
theorem dX6_said_9 : decode cX6_said 9 = .ok (.istore 6, 2) := dk_54 6 (dk_at dksX6_said_0 9 rfl rfl)
theorem dX6_said_11 : decode cX6_said 11 = .ok (.iload 6, 2) := dk_21 6 (dk_at dksX6_said_0 11 rfl rfl)
theorem dX6_said_13 : decode cX6_said 13 = .ok (.iload 5, 2) := dk_21 5 (dk_at dksX6_said_0 13 rfl rfl)
theorem dX6_said_15 : decode cX6_said 15 = .ok (.if_icmp .ge 92, 3) := dk_162 0 92 (dk_at dksX6_said_0 15 rfl rfl)
theorem dX6_said_18 : decode cX6_said 18 = .ok (.lload_n 1, 1) := dk_31 (dk_at dksX6_said_0 18 rfl rfl)
theorem dX6_said_19 : decode cX6_said 19 = .ok (.iload 6, 2) := dk_21 6 (dk_at dksX6_said_0 19 rfl rfl)
theorem dX6_said_21 : decode cX6_said 21 = .ok (.invokestatic 73, 3) := dk_184 0 73 (dk_at dksX6_said_0 21 rfl rfl)
theorem dX6_said_24 : decode cX6_said 24 = .ok (.istore 7, 2) := dk_54 7 (dk_at dksX6_said_1 0 rfl rfl)
theorem dX6_said_26 : decode cX6_said 26 = .ok (.iconst 0, 1) := dk_3 (dk_at dksX6_said_1 2 rfl rfl)
theorem dX6_said_27 : decode cX6_said 27 = .ok (.istore 8, 2) := dk_54 8 (dk_at dksX6_said_1 3 rfl rfl)
theorem dX6_said_29 : decode cX6_said 29 = .ok (.iconst 0, 1) := dk_3 (dk_at dksX6_said_1 5 rfl rfl)
theorem dX6_said_30 : decode cX6_said 30 = .ok (.istore 9, 2) := dk_54 9 (dk_at dksX6_said_1 6 rfl rfl)
theorem dX6_said_32 : decode cX6_said 32 = .ok (.iload 9, 2) := dk_21 9 (dk_at dksX6_said_1 8 rfl rfl)
theorem dX6_said_34 : decode cX6_said 34 = .ok (.aload_n 0, 1) := dk_42 (dk_at dksX6_said_1 10 rfl rfl)
theorem dX6_said_35 : decode cX6_said 35 = .ok (.getfield 34, 3) := dk_180 0 34 (dk_at dksX6_said_1 11 rfl rfl)
theorem dX6_said_38 : decode cX6_said 38 = .ok (.iconst 4, 1) := dk_7 (dk_at dksX6_said_1 14 rfl rfl)
theorem dX6_said_39 : decode cX6_said 39 = .ok (.iaload, 1) := dk_46 (dk_at dksX6_said_1 15 rfl rfl)
theorem dX6_said_40 : decode cX6_said 40 = .ok (.if_icmp .ge 46, 3) := dk_162 0 46 (dk_at dksX6_said_1 16 rfl rfl)
theorem dX6_said_43 : decode cX6_said 43 = .ok (.iload 8, 2) := dk_21 8 (dk_at dksX6_said_1 19 rfl rfl)
theorem dX6_said_45 : decode cX6_said 45 = .ok (.ifCond .ne 41, 3) := dk_154 0 41 (dk_at dksX6_said_1 21 rfl rfl)
theorem dX6_said_48 : decode cX6_said 48 = .ok (.aload_n 0, 1) := dk_42 (dk_at dksX6_said_2 0 rfl rfl)
theorem dX6_said_49 : decode cX6_said 49 = .ok (.getfield 34, 3) := dk_180 0 34 (dk_at dksX6_said_2 1 rfl rfl)
theorem dX6_said_52 : decode cX6_said 52 = .ok (.bipush 17, 2) := dk_16 17 (dk_at dksX6_said_2 4 rfl rfl)
theorem dX6_said_54 : decode cX6_said 54 = .ok (.iload 9, 2) := dk_21 9 (dk_at dksX6_said_2 6 rfl rfl)
theorem dX6_said_56 : decode cX6_said 56 = .ok (.iadd, 1) := dk_96 (dk_at dksX6_said_2 8 rfl rfl)
theorem dX6_said_57 : decode cX6_said 57 = .ok (.iaload, 1) := dk_46 (dk_at dksX6_said_2 9 rfl rfl)
theorem dX6_said_58 : decode cX6_said 58 = .ok (.iload 7, 2) := dk_21 7 (dk_at dksX6_said_2 10 rfl rfl)
theorem dX6_said_60 : decode cX6_said 60 = .ok (.if_icmp .eq 6, 3) := dk_159 0 6 (dk_at dksX6_said_2 12 rfl rfl)
theorem dX6_said_63 : decode cX6_said 63 = .ok (.goto 17, 3) := dk_167 0 17 (dk_at dksX6_said_2 15 rfl rfl)
theorem dX6_said_66 : decode cX6_said 66 = .ok (.aload_n 0, 1) := dk_42 (dk_at dksX6_said_2 18 rfl rfl)
theorem dX6_said_67 : decode cX6_said 67 = .ok (.getfield 34, 3) := dk_180 0 34 (dk_at dksX6_said_2 19 rfl rfl)
theorem dX6_said_70 : decode cX6_said 70 = .ok (.iconst 5, 1) := dk_8 (dk_at dksX6_said_2 22 rfl rfl)
theorem dX6_said_71 : decode cX6_said 71 = .ok (.iload 9, 2) := dk_21 9 (dk_at dksX6_said_3 0 rfl rfl)
theorem dX6_said_73 : decode cX6_said 73 = .ok (.iadd, 1) := dk_96 (dk_at dksX6_said_3 2 rfl rfl)
theorem dX6_said_74 : decode cX6_said 74 = .ok (.iaload, 1) := dk_46 (dk_at dksX6_said_3 3 rfl rfl)
theorem dX6_said_75 : decode cX6_said 75 = .ok (.istore 7, 2) := dk_54 7 (dk_at dksX6_said_3 4 rfl rfl)
theorem dX6_said_77 : decode cX6_said 77 = .ok (.iconst 1, 1) := dk_4 (dk_at dksX6_said_3 6 rfl rfl)
theorem dX6_said_78 : decode cX6_said 78 = .ok (.istore 8, 2) := dk_54 8 (dk_at dksX6_said_3 7 rfl rfl)
theorem dX6_said_80 : decode cX6_said 80 = .ok (.iinc 9 1, 3) := dk_132 9 1 (dk_at dksX6_said_3 9 rfl rfl)
theorem dX6_said_83 : decode cX6_said 83 = .ok (.goto (-51), 3) := dk_167 255 205 (dk_at dksX6_said_3 12 rfl rfl)
theorem dX6_said_86 : decode cX6_said 86 = .ok (.lload_n 3, 1) := dk_33 (dk_at dksX6_said_3 15 rfl rfl)
theorem dX6_said_87 : decode cX6_said 87 = .ok (.iload 7, 2) := dk_21 7 (dk_at dksX6_said_3 16 rfl rfl)
theorem dX6_said_89 : decode cX6_said 89 = .ok (.i2l, 1) := dk_133 (dk_at dksX6_said_3 18 rfl rfl)
theorem dX6_said_90 : decode cX6_said 90 = .ok (.bipush 56, 2) := dk_16 56 (dk_at dksX6_said_3 19 rfl rfl)
theorem dX6_said_92 : decode cX6_said 92 = .ok (.bipush 8, 2) := dk_16 8 (dk_at dksX6_said_3 21 rfl rfl)
theorem dX6_said_94 : decode cX6_said 94 = .ok (.iload 6, 2) := dk_21 6 (dk_at dksX6_said_4 0 rfl rfl)
theorem dX6_said_96 : decode cX6_said 96 = .ok (.imul, 1) := dk_104 (dk_at dksX6_said_4 2 rfl rfl)
theorem dX6_said_97 : decode cX6_said 97 = .ok (.isub, 1) := dk_100 (dk_at dksX6_said_4 3 rfl rfl)
theorem dX6_said_98 : decode cX6_said 98 = .ok (.lshl, 1) := dk_121 (dk_at dksX6_said_4 4 rfl rfl)
theorem dX6_said_99 : decode cX6_said 99 = .ok (.lor, 1) := dk_129 (dk_at dksX6_said_4 5 rfl rfl)
theorem dX6_said_100 : decode cX6_said 100 = .ok (.lstore_n 3, 1) := dk_66 (dk_at dksX6_said_4 6 rfl rfl)
theorem dX6_said_101 : decode cX6_said 101 = .ok (.iinc 6 1, 3) := dk_132 6 1 (dk_at dksX6_said_4 7 rfl rfl)
theorem dX6_said_104 : decode cX6_said 104 = .ok (.goto (-93), 3) := dk_167 255 163 (dk_at dksX6_said_4 10 rfl rfl)
theorem dX6_said_107 : decode cX6_said 107 = .ok (.lload_n 3, 1) := dk_33 (dk_at dksX6_said_4 13 rfl rfl)
theorem dX6_said_108 : decode cX6_said 108 = .ok (.lreturn, 1) := dk_173 (dk_at dksX6_said_4 14 rfl rfl)
abbrev cX6_whose : ByteArray := prog_28_method_51_code
def yX6_whose : MethodName := ⟨RX6, "whose", "(II)I"⟩
def dkwX6_whose_2 : List UInt8 := [42, 27, 182, 1, 16, 62, 28, 154, 0, 7, 29, 167, 0, 7, 42, 180, 1, 10, 172]
abbrev dktX6_whose_2 : List UInt8 := dkwX6_whose_2 ++ []
def dkwX6_whose_1 : List UInt8 := [153, 0, 13, 28, 133, 9, 10, 184, 0, 81, 154, 0, 10, 42, 16, 254, 182, 0, 85, 172, 42, 182, 1, 13]
abbrev dktX6_whose_1 : List UInt8 := dkwX6_whose_1 ++ dktX6_whose_2
def dkwX6_whose_0 : List UInt8 := [42, 3, 181, 0, 1, 27, 133, 9, 42, 180, 0, 17, 17, 0, 162, 46, 4, 100, 133, 184, 0, 81]
abbrev dktX6_whose_0 : List UInt8 := dkwX6_whose_0 ++ dktX6_whose_1
theorem dksX6_whose_0 : cX6_whose.data.toList.drop 0 = dktX6_whose_0 := by decide +kernel
theorem dksX6_whose_1 : cX6_whose.data.toList.drop 22 = dktX6_whose_1 := dk_seg dksX6_whose_0 22 rfl rfl
theorem dksX6_whose_2 : cX6_whose.data.toList.drop 46 = dktX6_whose_2 := dk_seg dksX6_whose_1 24 rfl rfl
theorem dX6_whose_0 : decode cX6_whose 0 = .ok (.aload_n 0, 1) := dk_42 (dk_at dksX6_whose_0 0 rfl rfl)
theorem dX6_whose_1 : decode cX6_whose 1 = .ok (.iconst 0, 1) := dk_3 (dk_at dksX6_whose_0 1 rfl rfl)
theorem dX6_whose_2 : decode cX6_whose 2 = .ok (.putfield 1, 3) := dk_181 0 1 (dk_at dksX6_whose_0 2 rfl rfl)
theorem dX6_whose_5 : decode cX6_whose 5 = .ok (.iload_n 1, 1) := dk_27 (dk_at dksX6_whose_0 5 rfl rfl)
theorem dX6_whose_6 : decode cX6_whose 6 = .ok (.i2l, 1) := dk_133 (dk_at dksX6_whose_0 6 rfl rfl)
theorem dX6_whose_7 : decode cX6_whose 7 = .ok (.lconst 0, 1) := dk_9 (dk_at dksX6_whose_0 7 rfl rfl)
theorem dX6_whose_8 : decode cX6_whose 8 = .ok (.aload_n 0, 1) := dk_42 (dk_at dksX6_whose_0 8 rfl rfl)
theorem dX6_whose_9 : decode cX6_whose 9 = .ok (.getfield 17, 3) := dk_180 0 17 (dk_at dksX6_whose_0 9 rfl rfl)
theorem dX6_whose_12 : decode cX6_whose 12 = .ok (.sipush 162, 3) := dk_17 0 162 (dk_at dksX6_whose_0 12 rfl rfl)
theorem dX6_whose_15 : decode cX6_whose 15 = .ok (.iaload, 1) := dk_46 (dk_at dksX6_whose_0 15 rfl rfl)
theorem dX6_whose_16 : decode cX6_whose 16 = .ok (.iconst 1, 1) := dk_4 (dk_at dksX6_whose_0 16 rfl rfl)
theorem dX6_whose_17 : decode cX6_whose 17 = .ok (.isub, 1) := dk_100 (dk_at dksX6_whose_0 17 rfl rfl)
theorem dX6_whose_18 : decode cX6_whose 18 = .ok (.i2l, 1) := dk_133 (dk_at dksX6_whose_0 18 rfl rfl)
theorem dX6_whose_19 : decode cX6_whose 19 = .ok (.invokestatic 81, 3) := dk_184 0 81 (dk_at dksX6_whose_0 19 rfl rfl)
theorem dX6_whose_22 : decode cX6_whose 22 = .ok (.ifCond .eq 13, 3) := dk_153 0 13 (dk_at dksX6_whose_1 0 rfl rfl)
theorem dX6_whose_25 : decode cX6_whose 25 = .ok (.iload_n 2, 1) := dk_28 (dk_at dksX6_whose_1 3 rfl rfl)
theorem dX6_whose_26 : decode cX6_whose 26 = .ok (.i2l, 1) := dk_133 (dk_at dksX6_whose_1 4 rfl rfl)
theorem dX6_whose_27 : decode cX6_whose 27 = .ok (.lconst 0, 1) := dk_9 (dk_at dksX6_whose_1 5 rfl rfl)
theorem dX6_whose_28 : decode cX6_whose 28 = .ok (.lconst 1, 1) := dk_10 (dk_at dksX6_whose_1 6 rfl rfl)
theorem dX6_whose_29 : decode cX6_whose 29 = .ok (.invokestatic 81, 3) := dk_184 0 81 (dk_at dksX6_whose_1 7 rfl rfl)
theorem dX6_whose_32 : decode cX6_whose 32 = .ok (.ifCond .ne 10, 3) := dk_154 0 10 (dk_at dksX6_whose_1 10 rfl rfl)
theorem dX6_whose_35 : decode cX6_whose 35 = .ok (.aload_n 0, 1) := dk_42 (dk_at dksX6_whose_1 13 rfl rfl)
theorem dX6_whose_36 : decode cX6_whose 36 = .ok (.bipush (-2), 2) := dk_16 254 (dk_at dksX6_whose_1 14 rfl rfl)
theorem dX6_whose_38 : decode cX6_whose 38 = .ok (.invokevirtual 85, 3) := dk_182 0 85 (dk_at dksX6_whose_1 16 rfl rfl)
theorem dX6_whose_41 : decode cX6_whose 41 = .ok (.ireturn, 1) := dk_172 (dk_at dksX6_whose_1 19 rfl rfl)
theorem dX6_whose_42 : decode cX6_whose 42 = .ok (.aload_n 0, 1) := dk_42 (dk_at dksX6_whose_1 20 rfl rfl)
theorem dX6_whose_43 : decode cX6_whose 43 = .ok (.invokevirtual 269, 3) := dk_182 1 13 (dk_at dksX6_whose_1 21 rfl rfl)
theorem dX6_whose_46 : decode cX6_whose 46 = .ok (.aload_n 0, 1) := dk_42 (dk_at dksX6_whose_2 0 rfl rfl)
theorem dX6_whose_47 : decode cX6_whose 47 = .ok (.iload_n 1, 1) := dk_27 (dk_at dksX6_whose_2 1 rfl rfl)
theorem dX6_whose_48 : decode cX6_whose 48 = .ok (.invokevirtual 272, 3) := dk_182 1 16 (dk_at dksX6_whose_2 2 rfl rfl)
theorem dX6_whose_51 : decode cX6_whose 51 = .ok (.istore_n 3, 1) := dk_62 (dk_at dksX6_whose_2 5 rfl rfl)
theorem dX6_whose_52 : decode cX6_whose 52 = .ok (.iload_n 2, 1) := dk_28 (dk_at dksX6_whose_2 6 rfl rfl)
theorem dX6_whose_53 : decode cX6_whose 53 = .ok (.ifCond .ne 7, 3) := dk_154 0 7 (dk_at dksX6_whose_2 7 rfl rfl)
theorem dX6_whose_56 : decode cX6_whose 56 = .ok (.iload_n 3, 1) := dk_29 (dk_at dksX6_whose_2 10 rfl rfl)
theorem dX6_whose_57 : decode cX6_whose 57 = .ok (.goto 7, 3) := dk_167 0 7 (dk_at dksX6_whose_2 11 rfl rfl)
theorem dX6_whose_60 : decode cX6_whose 60 = .ok (.aload_n 0, 1) := dk_42 (dk_at dksX6_whose_2 14 rfl rfl)
theorem dX6_whose_61 : decode cX6_whose 61 = .ok (.getfield 266, 3) := dk_180 1 10 (dk_at dksX6_whose_2 15 rfl rfl)
theorem dX6_whose_64 : decode cX6_whose 64 = .ok (.ireturn, 1) := dk_172 (dk_at dksX6_whose_2 18 rfl rfl)
abbrev cX6_smooths : ByteArray := prog_28_method_47_code
def yX6_smooths : MethodName := ⟨RX6, "smooths", "()V"⟩
def dkwX6_smooths_3 : List UInt8 := [132, 2, 1, 167, 255, 198, 132, 1, 1, 167, 255, 180, 177]
abbrev dktX6_smooths_3 : List UInt8 := dkwX6_smooths_3 ++ []
def dkwX6_smooths_2 : List UInt8 := [180, 0, 20, 16, 12, 27, 104, 28, 96, 47, 42, 180, 0, 17, 4, 27, 96, 46, 182, 0, 236, 80]
abbrev dktX6_smooths_2 : List UInt8 := dkwX6_smooths_2 ++ dktX6_smooths_3
def dkwX6_smooths_1 : List UInt8 := [162, 0, 51, 42, 27, 182, 0, 250, 153, 0, 43, 42, 180, 0, 55, 16, 12, 27, 104, 28, 96, 42, 42]
abbrev dktX6_smooths_1 : List UInt8 := dkwX6_smooths_1 ++ dktX6_smooths_2
def dkwX6_smooths_0 : List UInt8 := [3, 60, 27, 42, 180, 0, 17, 3, 46, 162, 0, 72, 3, 61, 28, 42, 180, 0, 17, 16, 121, 27, 96, 46]
abbrev dktX6_smooths_0 : List UInt8 := dkwX6_smooths_0 ++ dktX6_smooths_1
theorem dksX6_smooths_0 : cX6_smooths.data.toList.drop 0 = dktX6_smooths_0 := by decide +kernel
theorem dksX6_smooths_1 : cX6_smooths.data.toList.drop 24 = dktX6_smooths_1 := dk_seg dksX6_smooths_0 24 rfl rfl
theorem dksX6_smooths_2 : cX6_smooths.data.toList.drop 47 = dktX6_smooths_2 := dk_seg dksX6_smooths_1 23 rfl rfl
theorem dksX6_smooths_3 : cX6_smooths.data.toList.drop 69 = dktX6_smooths_3 := dk_seg dksX6_smooths_2 22 rfl rfl
theorem dX6_smooths_0 : decode cX6_smooths 0 = .ok (.iconst 0, 1) := dk_3 (dk_at dksX6_smooths_0 0 rfl rfl)
theorem dX6_smooths_1 : decode cX6_smooths 1 = .ok (.istore_n 1, 1) := dk_60 (dk_at dksX6_smooths_0 1 rfl rfl)
theorem dX6_smooths_2 : decode cX6_smooths 2 = .ok (.iload_n 1, 1) := dk_27 (dk_at dksX6_smooths_0 2 rfl rfl)
theorem dX6_smooths_3 : decode cX6_smooths 3 = .ok (.aload_n 0, 1) := dk_42 (dk_at dksX6_smooths_0 3 rfl rfl)
theorem dX6_smooths_4 : decode cX6_smooths 4 = .ok (.getfield 17, 3) := dk_180 0 17 (dk_at dksX6_smooths_0 4 rfl rfl)
theorem dX6_smooths_7 : decode cX6_smooths 7 = .ok (.iconst 0, 1) := dk_3 (dk_at dksX6_smooths_0 7 rfl rfl)
theorem dX6_smooths_8 : decode cX6_smooths 8 = .ok (.iaload, 1) := dk_46 (dk_at dksX6_smooths_0 8 rfl rfl)
theorem dX6_smooths_9 : decode cX6_smooths 9 = .ok (.if_icmp .ge 72, 3) := dk_162 0 72 (dk_at dksX6_smooths_0 9 rfl rfl)
theorem dX6_smooths_12 : decode cX6_smooths 12 = .ok (.iconst 0, 1) := dk_3 (dk_at dksX6_smooths_0 12 rfl rfl)
theorem dX6_smooths_13 : decode cX6_smooths 13 = .ok (.istore_n 2, 1) := dk_61 (dk_at dksX6_smooths_0 13 rfl rfl)
theorem dX6_smooths_14 : decode cX6_smooths 14 = .ok (.iload_n 2, 1) := dk_28 (dk_at dksX6_smooths_0 14 rfl rfl)
theorem dX6_smooths_15 : decode cX6_smooths 15 = .ok (.aload_n 0, 1) := dk_42 (dk_at dksX6_smooths_0 15 rfl rfl)
theorem dX6_smooths_16 : decode cX6_smooths 16 = .ok (.getfield 17, 3) := dk_180 0 17 (dk_at dksX6_smooths_0 16 rfl rfl)
theorem dX6_smooths_19 : decode cX6_smooths 19 = .ok (.bipush 121, 2) := dk_16 121 (dk_at dksX6_smooths_0 19 rfl rfl)
theorem dX6_smooths_21 : decode cX6_smooths 21 = .ok (.iload_n 1, 1) := dk_27 (dk_at dksX6_smooths_0 21 rfl rfl)
theorem dX6_smooths_22 : decode cX6_smooths 22 = .ok (.iadd, 1) := dk_96 (dk_at dksX6_smooths_0 22 rfl rfl)
theorem dX6_smooths_23 : decode cX6_smooths 23 = .ok (.iaload, 1) := dk_46 (dk_at dksX6_smooths_0 23 rfl rfl)
theorem dX6_smooths_24 : decode cX6_smooths 24 = .ok (.if_icmp .ge 51, 3) := dk_162 0 51 (dk_at dksX6_smooths_1 0 rfl rfl)
theorem dX6_smooths_27 : decode cX6_smooths 27 = .ok (.aload_n 0, 1) := dk_42 (dk_at dksX6_smooths_1 3 rfl rfl)
theorem dX6_smooths_28 : decode cX6_smooths 28 = .ok (.iload_n 1, 1) := dk_27 (dk_at dksX6_smooths_1 4 rfl rfl)
theorem dX6_smooths_29 : decode cX6_smooths 29 = .ok (.invokevirtual 250, 3) := dk_182 0 250 (dk_at dksX6_smooths_1 5 rfl rfl)
theorem dX6_smooths_32 : decode cX6_smooths 32 = .ok (.ifCond .eq 43, 3) := dk_153 0 43 (dk_at dksX6_smooths_1 8 rfl rfl)
theorem dX6_smooths_35 : decode cX6_smooths 35 = .ok (.aload_n 0, 1) := dk_42 (dk_at dksX6_smooths_1 11 rfl rfl)
theorem dX6_smooths_36 : decode cX6_smooths 36 = .ok (.getfield 55, 3) := dk_180 0 55 (dk_at dksX6_smooths_1 12 rfl rfl)
theorem dX6_smooths_39 : decode cX6_smooths 39 = .ok (.bipush 12, 2) := dk_16 12 (dk_at dksX6_smooths_1 15 rfl rfl)
theorem dX6_smooths_41 : decode cX6_smooths 41 = .ok (.iload_n 1, 1) := dk_27 (dk_at dksX6_smooths_1 17 rfl rfl)
theorem dX6_smooths_42 : decode cX6_smooths 42 = .ok (.imul, 1) := dk_104 (dk_at dksX6_smooths_1 18 rfl rfl)
theorem dX6_smooths_43 : decode cX6_smooths 43 = .ok (.iload_n 2, 1) := dk_28 (dk_at dksX6_smooths_1 19 rfl rfl)
theorem dX6_smooths_44 : decode cX6_smooths 44 = .ok (.iadd, 1) := dk_96 (dk_at dksX6_smooths_1 20 rfl rfl)
theorem dX6_smooths_45 : decode cX6_smooths 45 = .ok (.aload_n 0, 1) := dk_42 (dk_at dksX6_smooths_1 21 rfl rfl)
theorem dX6_smooths_46 : decode cX6_smooths 46 = .ok (.aload_n 0, 1) := dk_42 (dk_at dksX6_smooths_1 22 rfl rfl)
theorem dX6_smooths_47 : decode cX6_smooths 47 = .ok (.getfield 20, 3) := dk_180 0 20 (dk_at dksX6_smooths_2 0 rfl rfl)
theorem dX6_smooths_50 : decode cX6_smooths 50 = .ok (.bipush 12, 2) := dk_16 12 (dk_at dksX6_smooths_2 3 rfl rfl)
theorem dX6_smooths_52 : decode cX6_smooths 52 = .ok (.iload_n 1, 1) := dk_27 (dk_at dksX6_smooths_2 5 rfl rfl)
theorem dX6_smooths_53 : decode cX6_smooths 53 = .ok (.imul, 1) := dk_104 (dk_at dksX6_smooths_2 6 rfl rfl)
theorem dX6_smooths_54 : decode cX6_smooths 54 = .ok (.iload_n 2, 1) := dk_28 (dk_at dksX6_smooths_2 7 rfl rfl)
theorem dX6_smooths_55 : decode cX6_smooths 55 = .ok (.iadd, 1) := dk_96 (dk_at dksX6_smooths_2 8 rfl rfl)
theorem dX6_smooths_56 : decode cX6_smooths 56 = .ok (.laload, 1) := dk_47 (dk_at dksX6_smooths_2 9 rfl rfl)
theorem dX6_smooths_57 : decode cX6_smooths 57 = .ok (.aload_n 0, 1) := dk_42 (dk_at dksX6_smooths_2 10 rfl rfl)
theorem dX6_smooths_58 : decode cX6_smooths 58 = .ok (.getfield 17, 3) := dk_180 0 17 (dk_at dksX6_smooths_2 11 rfl rfl)
theorem dX6_smooths_61 : decode cX6_smooths 61 = .ok (.iconst 1, 1) := dk_4 (dk_at dksX6_smooths_2 14 rfl rfl)
theorem dX6_smooths_62 : decode cX6_smooths 62 = .ok (.iload_n 1, 1) := dk_27 (dk_at dksX6_smooths_2 15 rfl rfl)
theorem dX6_smooths_63 : decode cX6_smooths 63 = .ok (.iadd, 1) := dk_96 (dk_at dksX6_smooths_2 16 rfl rfl)
theorem dX6_smooths_64 : decode cX6_smooths 64 = .ok (.iaload, 1) := dk_46 (dk_at dksX6_smooths_2 17 rfl rfl)
theorem dX6_smooths_65 : decode cX6_smooths 65 = .ok (.invokevirtual 236, 3) := dk_182 0 236 (dk_at dksX6_smooths_2 18 rfl rfl)
theorem dX6_smooths_68 : decode cX6_smooths 68 = .ok (.lastore, 1) := dk_80 (dk_at dksX6_smooths_2 21 rfl rfl)
theorem dX6_smooths_69 : decode cX6_smooths 69 = .ok (.iinc 2 1, 3) := dk_132 2 1 (dk_at dksX6_smooths_3 0 rfl rfl)
theorem dX6_smooths_72 : decode cX6_smooths 72 = .ok (.goto (-58), 3) := dk_167 255 198 (dk_at dksX6_smooths_3 3 rfl rfl)
theorem dX6_smooths_75 : decode cX6_smooths 75 = .ok (.iinc 1 1, 3) := dk_132 1 1 (dk_at dksX6_smooths_3 6 rfl rfl)
theorem dX6_smooths_78 : decode cX6_smooths 78 = .ok (.goto (-76), 3) := dk_167 255 180 (dk_at dksX6_smooths_3 9 rfl rfl)
theorem dX6_smooths_81 : decode cX6_smooths 81 = .ok (.return_, 1) := dk_177 (dk_at dksX6_smooths_3 12 rfl rfl)
abbrev cX6_isEarly : ByteArray := prog_28_method_46_code
def yX6_isEarly : MethodName := ⟨RX6, "isEarly", "(I)Z"⟩
def dkwX6_isEarly_1 : List UInt8 := [3, 172]
abbrev dktX6_isEarly_1 : List UInt8 := dkwX6_isEarly_1 ++ []
def dkwX6_isEarly_0 : List UInt8 := [42, 180, 0, 17, 16, 81, 27, 96, 46, 42, 180, 0, 17, 17, 0, 161, 46, 163, 0, 7, 4, 167, 0, 4]
abbrev dktX6_isEarly_0 : List UInt8 := dkwX6_isEarly_0 ++ dktX6_isEarly_1
theorem dksX6_isEarly_0 : cX6_isEarly.data.toList.drop 0 = dktX6_isEarly_0 := by decide +kernel
theorem dksX6_isEarly_1 : cX6_isEarly.data.toList.drop 24 = dktX6_isEarly_1 := dk_seg dksX6_isEarly_0 24 rfl rfl
theorem dX6_isEarly_0 : decode cX6_isEarly 0 = .ok (.aload_n 0, 1) := dk_42 (dk_at dksX6_isEarly_0 0 rfl rfl)
theorem dX6_isEarly_1 : decode cX6_isEarly 1 = .ok (.getfield 17, 3) := dk_180 0 17 (dk_at dksX6_isEarly_0 1 rfl rfl)
theorem dX6_isEarly_4 : decode cX6_isEarly 4 = .ok (.bipush 81, 2) := dk_16 81 (dk_at dksX6_isEarly_0 4 rfl rfl)
theorem dX6_isEarly_6 : decode cX6_isEarly 6 = .ok (.iload_n 1, 1) := dk_27 (dk_at dksX6_isEarly_0 6 rfl rfl)
theorem dX6_isEarly_7 : decode cX6_isEarly 7 = .ok (.iadd, 1) := dk_96 (dk_at dksX6_isEarly_0 7 rfl rfl)
theorem dX6_isEarly_8 : decode cX6_isEarly 8 = .ok (.iaload, 1) := dk_46 (dk_at dksX6_isEarly_0 8 rfl rfl)
theorem dX6_isEarly_9 : decode cX6_isEarly 9 = .ok (.aload_n 0, 1) := dk_42 (dk_at dksX6_isEarly_0 9 rfl rfl)
theorem dX6_isEarly_10 : decode cX6_isEarly 10 = .ok (.getfield 17, 3) := dk_180 0 17 (dk_at dksX6_isEarly_0 10 rfl rfl)
theorem dX6_isEarly_13 : decode cX6_isEarly 13 = .ok (.sipush 161, 3) := dk_17 0 161 (dk_at dksX6_isEarly_0 13 rfl rfl)
theorem dX6_isEarly_16 : decode cX6_isEarly 16 = .ok (.iaload, 1) := dk_46 (dk_at dksX6_isEarly_0 16 rfl rfl)
theorem dX6_isEarly_17 : decode cX6_isEarly 17 = .ok (.if_icmp .gt 7, 3) := dk_163 0 7 (dk_at dksX6_isEarly_0 17 rfl rfl)
theorem dX6_isEarly_20 : decode cX6_isEarly 20 = .ok (.iconst 1, 1) := dk_4 (dk_at dksX6_isEarly_0 20 rfl rfl)
theorem dX6_isEarly_21 : decode cX6_isEarly 21 = .ok (.goto 4, 3) := dk_167 0 4 (dk_at dksX6_isEarly_0 21 rfl rfl)
theorem dX6_isEarly_24 : decode cX6_isEarly 24 = .ok (.iconst 0, 1) := dk_3 (dk_at dksX6_isEarly_1 0 rfl rfl)
theorem dX6_isEarly_25 : decode cX6_isEarly 25 = .ok (.ireturn, 1) := dk_172 (dk_at dksX6_isEarly_1 1 rfl rfl)
abbrev cX6_whoseIs : ByteArray := prog_28_method_50_code
def yX6_whoseIs : MethodName := ⟨RX6, "whoseIs", "(I)I"⟩
def dkwX6_whoseIs_3 : List UInt8 := [2, 181, 1, 10, 28, 153, 0, 7, 7, 167, 0, 4, 8, 172]
abbrev dktX6_whoseIs_3 : List UInt8 := dkwX6_whoseIs_3 ++ []
def dkwX6_whoseIs_2 : List UInt8 := [42, 180, 0, 17, 17, 0, 249, 46, 161, 0, 7, 4, 167, 0, 4, 3, 61, 132, 3, 1, 167, 255, 192, 42]
abbrev dktX6_whoseIs_2 : List UInt8 := dkwX6_whoseIs_2 ++ dktX6_whoseIs_3
def dkwX6_whoseIs_1 : List UInt8 := [180, 0, 253, 42, 180, 0, 17, 17, 0, 248, 46, 161, 0, 5, 29, 172, 28, 154, 0, 18, 42, 180, 0, 253]
abbrev dktX6_whoseIs_1 : List UInt8 := dkwX6_whoseIs_1 ++ dktX6_whoseIs_2
def dkwX6_whoseIs_0 : List UInt8 := [3, 61, 3, 62, 29, 7, 162, 0, 65, 42, 27, 29, 182, 1, 7, 42, 42, 180, 1, 0, 181, 1, 10, 42]
abbrev dktX6_whoseIs_0 : List UInt8 := dkwX6_whoseIs_0 ++ dktX6_whoseIs_1
theorem dksX6_whoseIs_0 : cX6_whoseIs.data.toList.drop 0 = dktX6_whoseIs_0 := by decide +kernel
theorem dksX6_whoseIs_1 : cX6_whoseIs.data.toList.drop 24 = dktX6_whoseIs_1 := dk_seg dksX6_whoseIs_0 24 rfl rfl
theorem dksX6_whoseIs_2 : cX6_whoseIs.data.toList.drop 48 = dktX6_whoseIs_2 := dk_seg dksX6_whoseIs_1 24 rfl rfl
theorem dksX6_whoseIs_3 : cX6_whoseIs.data.toList.drop 72 = dktX6_whoseIs_3 := dk_seg dksX6_whoseIs_2 24 rfl rfl
theorem dX6_whoseIs_0 : decode cX6_whoseIs 0 = .ok (.iconst 0, 1) := dk_3 (dk_at dksX6_whoseIs_0 0 rfl rfl)
theorem dX6_whoseIs_1 : decode cX6_whoseIs 1 = .ok (.istore_n 2, 1) := dk_61 (dk_at dksX6_whoseIs_0 1 rfl rfl)
theorem dX6_whoseIs_2 : decode cX6_whoseIs 2 = .ok (.iconst 0, 1) := dk_3 (dk_at dksX6_whoseIs_0 2 rfl rfl)
theorem dX6_whoseIs_3 : decode cX6_whoseIs 3 = .ok (.istore_n 3, 1) := dk_62 (dk_at dksX6_whoseIs_0 3 rfl rfl)
theorem dX6_whoseIs_4 : decode cX6_whoseIs 4 = .ok (.iload_n 3, 1) := dk_29 (dk_at dksX6_whoseIs_0 4 rfl rfl)
theorem dX6_whoseIs_5 : decode cX6_whoseIs 5 = .ok (.iconst 4, 1) := dk_7 (dk_at dksX6_whoseIs_0 5 rfl rfl)
theorem dX6_whoseIs_6 : decode cX6_whoseIs 6 = .ok (.if_icmp .ge 65, 3) := dk_162 0 65 (dk_at dksX6_whoseIs_0 6 rfl rfl)
theorem dX6_whoseIs_9 : decode cX6_whoseIs 9 = .ok (.aload_n 0, 1) := dk_42 (dk_at dksX6_whoseIs_0 9 rfl rfl)
theorem dX6_whoseIs_10 : decode cX6_whoseIs 10 = .ok (.iload_n 1, 1) := dk_27 (dk_at dksX6_whoseIs_0 10 rfl rfl)
theorem dX6_whoseIs_11 : decode cX6_whoseIs 11 = .ok (.iload_n 3, 1) := dk_29 (dk_at dksX6_whoseIs_0 11 rfl rfl)
theorem dX6_whoseIs_12 : decode cX6_whoseIs 12 = .ok (.invokevirtual 263, 3) := dk_182 1 7 (dk_at dksX6_whoseIs_0 12 rfl rfl)
theorem dX6_whoseIs_15 : decode cX6_whoseIs 15 = .ok (.aload_n 0, 1) := dk_42 (dk_at dksX6_whoseIs_0 15 rfl rfl)
theorem dX6_whoseIs_16 : decode cX6_whoseIs 16 = .ok (.aload_n 0, 1) := dk_42 (dk_at dksX6_whoseIs_0 16 rfl rfl)
theorem dX6_whoseIs_17 : decode cX6_whoseIs 17 = .ok (.getfield 256, 3) := dk_180 1 0 (dk_at dksX6_whoseIs_0 17 rfl rfl)
theorem dX6_whoseIs_20 : decode cX6_whoseIs 20 = .ok (.putfield 266, 3) := dk_181 1 10 (dk_at dksX6_whoseIs_0 20 rfl rfl)
theorem dX6_whoseIs_23 : decode cX6_whoseIs 23 = .ok (.aload_n 0, 1) := dk_42 (dk_at dksX6_whoseIs_0 23 rfl rfl)
theorem dX6_whoseIs_24 : decode cX6_whoseIs 24 = .ok (.getfield 253, 3) := dk_180 0 253 (dk_at dksX6_whoseIs_1 0 rfl rfl)
theorem dX6_whoseIs_27 : decode cX6_whoseIs 27 = .ok (.aload_n 0, 1) := dk_42 (dk_at dksX6_whoseIs_1 3 rfl rfl)
theorem dX6_whoseIs_28 : decode cX6_whoseIs 28 = .ok (.getfield 17, 3) := dk_180 0 17 (dk_at dksX6_whoseIs_1 4 rfl rfl)
theorem dX6_whoseIs_31 : decode cX6_whoseIs 31 = .ok (.sipush 248, 3) := dk_17 0 248 (dk_at dksX6_whoseIs_1 7 rfl rfl)
theorem dX6_whoseIs_34 : decode cX6_whoseIs 34 = .ok (.iaload, 1) := dk_46 (dk_at dksX6_whoseIs_1 10 rfl rfl)
theorem dX6_whoseIs_35 : decode cX6_whoseIs 35 = .ok (.if_icmp .lt 5, 3) := dk_161 0 5 (dk_at dksX6_whoseIs_1 11 rfl rfl)
theorem dX6_whoseIs_38 : decode cX6_whoseIs 38 = .ok (.iload_n 3, 1) := dk_29 (dk_at dksX6_whoseIs_1 14 rfl rfl)
theorem dX6_whoseIs_39 : decode cX6_whoseIs 39 = .ok (.ireturn, 1) := dk_172 (dk_at dksX6_whoseIs_1 15 rfl rfl)
theorem dX6_whoseIs_40 : decode cX6_whoseIs 40 = .ok (.iload_n 2, 1) := dk_28 (dk_at dksX6_whoseIs_1 16 rfl rfl)
theorem dX6_whoseIs_41 : decode cX6_whoseIs 41 = .ok (.ifCond .ne 18, 3) := dk_154 0 18 (dk_at dksX6_whoseIs_1 17 rfl rfl)
theorem dX6_whoseIs_44 : decode cX6_whoseIs 44 = .ok (.aload_n 0, 1) := dk_42 (dk_at dksX6_whoseIs_1 20 rfl rfl)
theorem dX6_whoseIs_45 : decode cX6_whoseIs 45 = .ok (.getfield 253, 3) := dk_180 0 253 (dk_at dksX6_whoseIs_1 21 rfl rfl)
theorem dX6_whoseIs_48 : decode cX6_whoseIs 48 = .ok (.aload_n 0, 1) := dk_42 (dk_at dksX6_whoseIs_2 0 rfl rfl)
theorem dX6_whoseIs_49 : decode cX6_whoseIs 49 = .ok (.getfield 17, 3) := dk_180 0 17 (dk_at dksX6_whoseIs_2 1 rfl rfl)
theorem dX6_whoseIs_52 : decode cX6_whoseIs 52 = .ok (.sipush 249, 3) := dk_17 0 249 (dk_at dksX6_whoseIs_2 4 rfl rfl)
theorem dX6_whoseIs_55 : decode cX6_whoseIs 55 = .ok (.iaload, 1) := dk_46 (dk_at dksX6_whoseIs_2 7 rfl rfl)
theorem dX6_whoseIs_56 : decode cX6_whoseIs 56 = .ok (.if_icmp .lt 7, 3) := dk_161 0 7 (dk_at dksX6_whoseIs_2 8 rfl rfl)
theorem dX6_whoseIs_59 : decode cX6_whoseIs 59 = .ok (.iconst 1, 1) := dk_4 (dk_at dksX6_whoseIs_2 11 rfl rfl)
theorem dX6_whoseIs_60 : decode cX6_whoseIs 60 = .ok (.goto 4, 3) := dk_167 0 4 (dk_at dksX6_whoseIs_2 12 rfl rfl)
theorem dX6_whoseIs_63 : decode cX6_whoseIs 63 = .ok (.iconst 0, 1) := dk_3 (dk_at dksX6_whoseIs_2 15 rfl rfl)
theorem dX6_whoseIs_64 : decode cX6_whoseIs 64 = .ok (.istore_n 2, 1) := dk_61 (dk_at dksX6_whoseIs_2 16 rfl rfl)
theorem dX6_whoseIs_65 : decode cX6_whoseIs 65 = .ok (.iinc 3 1, 3) := dk_132 3 1 (dk_at dksX6_whoseIs_2 17 rfl rfl)
theorem dX6_whoseIs_68 : decode cX6_whoseIs 68 = .ok (.goto (-64), 3) := dk_167 255 192 (dk_at dksX6_whoseIs_2 20 rfl rfl)
theorem dX6_whoseIs_71 : decode cX6_whoseIs 71 = .ok (.aload_n 0, 1) := dk_42 (dk_at dksX6_whoseIs_2 23 rfl rfl)
theorem dX6_whoseIs_72 : decode cX6_whoseIs 72 = .ok (.iconst (-1), 1) := dk_2 (dk_at dksX6_whoseIs_3 0 rfl rfl)
theorem dX6_whoseIs_73 : decode cX6_whoseIs 73 = .ok (.putfield 266, 3) := dk_181 1 10 (dk_at dksX6_whoseIs_3 1 rfl rfl)
theorem dX6_whoseIs_76 : decode cX6_whoseIs 76 = .ok (.iload_n 2, 1) := dk_28 (dk_at dksX6_whoseIs_3 4 rfl rfl)
theorem dX6_whoseIs_77 : decode cX6_whoseIs 77 = .ok (.ifCond .eq 7, 3) := dk_153 0 7 (dk_at dksX6_whoseIs_3 5 rfl rfl)
theorem dX6_whoseIs_80 : decode cX6_whoseIs 80 = .ok (.iconst 4, 1) := dk_7 (dk_at dksX6_whoseIs_3 8 rfl rfl)
theorem dX6_whoseIs_81 : decode cX6_whoseIs 81 = .ok (.goto 4, 3) := dk_167 0 4 (dk_at dksX6_whoseIs_3 9 rfl rfl)
theorem dX6_whoseIs_84 : decode cX6_whoseIs 84 = .ok (.iconst 5, 1) := dk_8 (dk_at dksX6_whoseIs_3 12 rfl rfl)
theorem dX6_whoseIs_85 : decode cX6_whoseIs 85 = .ok (.ireturn, 1) := dk_172 (dk_at dksX6_whoseIs_3 13 rfl rfl)
abbrev cX6_best : ByteArray := prog_28_method_49_code
def yX6_best : MethodName := ⟨RX6, "best", "(II)V"⟩
def dkwX6_best_10 : List UInt8 := [104, 21, 7, 96, 182, 1, 3, 132, 7, 1, 167, 255, 191, 132, 5, 1, 167, 255, 111, 177]
abbrev dktX6_best_10 : List UInt8 := dkwX6_best_10 ++ []
def dkwX6_best_9 : List UInt8 := [21, 7, 96, 47, 167, 0, 16, 42, 180, 0, 20, 16, 12, 21, 5, 104, 21, 7, 96, 47, 16, 100, 21, 5]
abbrev dktX6_best_9 : List UInt8 := dkwX6_best_9 ++ dktX6_best_10
def dkwX6_best_8 : List UInt8 := [21, 5, 96, 46, 162, 0, 56, 42, 33, 28, 5, 160, 0, 19, 42, 180, 0, 55, 16, 12, 21, 5, 104]
abbrev dktX6_best_8 : List UInt8 := dkwX6_best_8 ++ dktX6_best_9
def dkwX6_best_7 : List UInt8 := [28, 4, 160, 0, 11, 21, 6, 153, 0, 6, 167, 0, 74, 3, 54, 7, 21, 7, 42, 180, 0, 17, 16, 121]
abbrev dktX6_best_7 : List UInt8 := dkwX6_best_7 ++ dktX6_best_8
def dkwX6_best_6 : List UInt8 := [167, 0, 4, 3, 54, 6, 42, 21, 5, 182, 0, 250, 153, 0, 96, 28, 154, 0, 8, 21, 6, 153, 0, 87]
abbrev dktX6_best_6 : List UInt8 := dkwX6_best_6 ++ dktX6_best_7
def dkwX6_best_5 : List UInt8 := [42, 180, 0, 17, 4, 21, 5, 96, 46, 42, 180, 0, 17, 17, 0, 163, 27, 96, 46, 160, 0, 7, 4]
abbrev dktX6_best_5 : List UInt8 := dkwX6_best_5 ++ dktX6_best_6
def dkwX6_best_4 : List UInt8 := [167, 255, 207, 132, 5, 1, 167, 255, 185, 177, 3, 54, 5, 21, 5, 42, 180, 0, 17, 3, 46, 162, 0, 140]
abbrev dktX6_best_4 : List UInt8 := dkwX6_best_4 ++ dktX6_best_5
def dkwX6_best_3 : List UInt8 := [16, 12, 21, 5, 104, 96, 21, 6, 96, 47, 16, 100, 21, 5, 104, 21, 6, 96, 182, 1, 3, 132, 6, 1]
abbrev dktX6_best_3 : List UInt8 := dkwX6_best_3 ++ dktX6_best_4
def dkwX6_best_2 : List UInt8 := [42, 180, 0, 17, 17, 0, 236, 21, 5, 96, 46, 162, 0, 39, 42, 33, 42, 180, 0, 20, 17, 2, 28]
abbrev dktX6_best_2 : List UInt8 := dkwX6_best_2 ++ dktX6_best_3
def dkwX6_best_1 : List UInt8 := [160, 0, 81, 3, 54, 5, 21, 5, 42, 180, 0, 17, 17, 0, 223, 46, 162, 0, 64, 3, 54, 6, 21, 6]
abbrev dktX6_best_1 : List UInt8 := dkwX6_best_1 ++ dktX6_best_2
def dkwX6_best_0 : List UInt8 := [42, 2, 181, 0, 253, 42, 2, 181, 1, 0, 42, 180, 0, 20, 17, 1, 224, 27, 96, 47, 66, 28, 6]
abbrev dktX6_best_0 : List UInt8 := dkwX6_best_0 ++ dktX6_best_1
theorem dksX6_best_0 : cX6_best.data.toList.drop 0 = dktX6_best_0 := by decide +kernel
theorem dksX6_best_1 : cX6_best.data.toList.drop 23 = dktX6_best_1 := dk_seg dksX6_best_0 23 rfl rfl
theorem dksX6_best_2 : cX6_best.data.toList.drop 47 = dktX6_best_2 := dk_seg dksX6_best_1 24 rfl rfl
theorem dksX6_best_3 : cX6_best.data.toList.drop 70 = dktX6_best_3 := dk_seg dksX6_best_2 23 rfl rfl
theorem dksX6_best_4 : cX6_best.data.toList.drop 94 = dktX6_best_4 := dk_seg dksX6_best_3 24 rfl rfl
theorem dksX6_best_5 : cX6_best.data.toList.drop 118 = dktX6_best_5 := dk_seg dksX6_best_4 24 rfl rfl
theorem dksX6_best_6 : cX6_best.data.toList.drop 141 = dktX6_best_6 := dk_seg dksX6_best_5 23 rfl rfl
theorem dksX6_best_7 : cX6_best.data.toList.drop 165 = dktX6_best_7 := dk_seg dksX6_best_6 24 rfl rfl
theorem dksX6_best_8 : cX6_best.data.toList.drop 189 = dktX6_best_8 := dk_seg dksX6_best_7 24 rfl rfl
theorem dksX6_best_9 : cX6_best.data.toList.drop 212 = dktX6_best_9 := dk_seg dksX6_best_8 23 rfl rfl
theorem dksX6_best_10 : cX6_best.data.toList.drop 236 = dktX6_best_10 := dk_seg dksX6_best_9 24 rfl rfl
theorem dX6_best_0 : decode cX6_best 0 = .ok (.aload_n 0, 1) := dk_42 (dk_at dksX6_best_0 0 rfl rfl)
theorem dX6_best_1 : decode cX6_best 1 = .ok (.iconst (-1), 1) := dk_2 (dk_at dksX6_best_0 1 rfl rfl)
theorem dX6_best_2 : decode cX6_best 2 = .ok (.putfield 253, 3) := dk_181 0 253 (dk_at dksX6_best_0 2 rfl rfl)
theorem dX6_best_5 : decode cX6_best 5 = .ok (.aload_n 0, 1) := dk_42 (dk_at dksX6_best_0 5 rfl rfl)
theorem dX6_best_6 : decode cX6_best 6 = .ok (.iconst (-1), 1) := dk_2 (dk_at dksX6_best_0 6 rfl rfl)
theorem dX6_best_7 : decode cX6_best 7 = .ok (.putfield 256, 3) := dk_181 1 0 (dk_at dksX6_best_0 7 rfl rfl)
theorem dX6_best_10 : decode cX6_best 10 = .ok (.aload_n 0, 1) := dk_42 (dk_at dksX6_best_0 10 rfl rfl)
theorem dX6_best_11 : decode cX6_best 11 = .ok (.getfield 20, 3) := dk_180 0 20 (dk_at dksX6_best_0 11 rfl rfl)
theorem dX6_best_14 : decode cX6_best 14 = .ok (.sipush 480, 3) := dk_17 1 224 (dk_at dksX6_best_0 14 rfl rfl)
theorem dX6_best_17 : decode cX6_best 17 = .ok (.iload_n 1, 1) := dk_27 (dk_at dksX6_best_0 17 rfl rfl)
theorem dX6_best_18 : decode cX6_best 18 = .ok (.iadd, 1) := dk_96 (dk_at dksX6_best_0 18 rfl rfl)
theorem dX6_best_19 : decode cX6_best 19 = .ok (.laload, 1) := dk_47 (dk_at dksX6_best_0 19 rfl rfl)
theorem dX6_best_20 : decode cX6_best 20 = .ok (.lstore_n 3, 1) := dk_66 (dk_at dksX6_best_0 20 rfl rfl)
theorem dX6_best_21 : decode cX6_best 21 = .ok (.iload_n 2, 1) := dk_28 (dk_at dksX6_best_0 21 rfl rfl)
theorem dX6_best_22 : decode cX6_best 22 = .ok (.iconst 3, 1) := dk_6 (dk_at dksX6_best_0 22 rfl rfl)
theorem dX6_best_23 : decode cX6_best 23 = .ok (.if_icmp .ne 81, 3) := dk_160 0 81 (dk_at dksX6_best_1 0 rfl rfl)
theorem dX6_best_26 : decode cX6_best 26 = .ok (.iconst 0, 1) := dk_3 (dk_at dksX6_best_1 3 rfl rfl)
theorem dX6_best_27 : decode cX6_best 27 = .ok (.istore 5, 2) := dk_54 5 (dk_at dksX6_best_1 4 rfl rfl)
theorem dX6_best_29 : decode cX6_best 29 = .ok (.iload 5, 2) := dk_21 5 (dk_at dksX6_best_1 6 rfl rfl)
theorem dX6_best_31 : decode cX6_best 31 = .ok (.aload_n 0, 1) := dk_42 (dk_at dksX6_best_1 8 rfl rfl)
theorem dX6_best_32 : decode cX6_best 32 = .ok (.getfield 17, 3) := dk_180 0 17 (dk_at dksX6_best_1 9 rfl rfl)
theorem dX6_best_35 : decode cX6_best 35 = .ok (.sipush 223, 3) := dk_17 0 223 (dk_at dksX6_best_1 12 rfl rfl)
theorem dX6_best_38 : decode cX6_best 38 = .ok (.iaload, 1) := dk_46 (dk_at dksX6_best_1 15 rfl rfl)
theorem dX6_best_39 : decode cX6_best 39 = .ok (.if_icmp .ge 64, 3) := dk_162 0 64 (dk_at dksX6_best_1 16 rfl rfl)
theorem dX6_best_42 : decode cX6_best 42 = .ok (.iconst 0, 1) := dk_3 (dk_at dksX6_best_1 19 rfl rfl)
theorem dX6_best_43 : decode cX6_best 43 = .ok (.istore 6, 2) := dk_54 6 (dk_at dksX6_best_1 20 rfl rfl)
theorem dX6_best_45 : decode cX6_best 45 = .ok (.iload 6, 2) := dk_21 6 (dk_at dksX6_best_1 22 rfl rfl)
theorem dX6_best_47 : decode cX6_best 47 = .ok (.aload_n 0, 1) := dk_42 (dk_at dksX6_best_2 0 rfl rfl)
theorem dX6_best_48 : decode cX6_best 48 = .ok (.getfield 17, 3) := dk_180 0 17 (dk_at dksX6_best_2 1 rfl rfl)
theorem dX6_best_51 : decode cX6_best 51 = .ok (.sipush 236, 3) := dk_17 0 236 (dk_at dksX6_best_2 4 rfl rfl)
theorem dX6_best_54 : decode cX6_best 54 = .ok (.iload 5, 2) := dk_21 5 (dk_at dksX6_best_2 7 rfl rfl)
theorem dX6_best_56 : decode cX6_best 56 = .ok (.iadd, 1) := dk_96 (dk_at dksX6_best_2 9 rfl rfl)
theorem dX6_best_57 : decode cX6_best 57 = .ok (.iaload, 1) := dk_46 (dk_at dksX6_best_2 10 rfl rfl)
theorem dX6_best_58 : decode cX6_best 58 = .ok (.if_icmp .ge 39, 3) := dk_162 0 39 (dk_at dksX6_best_2 11 rfl rfl)
theorem dX6_best_61 : decode cX6_best 61 = .ok (.aload_n 0, 1) := dk_42 (dk_at dksX6_best_2 14 rfl rfl)
theorem dX6_best_62 : decode cX6_best 62 = .ok (.lload_n 3, 1) := dk_33 (dk_at dksX6_best_2 15 rfl rfl)
theorem dX6_best_63 : decode cX6_best 63 = .ok (.aload_n 0, 1) := dk_42 (dk_at dksX6_best_2 16 rfl rfl)
theorem dX6_best_64 : decode cX6_best 64 = .ok (.getfield 20, 3) := dk_180 0 20 (dk_at dksX6_best_2 17 rfl rfl)
theorem dX6_best_67 : decode cX6_best 67 = .ok (.sipush 540, 3) := dk_17 2 28 (dk_at dksX6_best_2 20 rfl rfl)
theorem dX6_best_70 : decode cX6_best 70 = .ok (.bipush 12, 2) := dk_16 12 (dk_at dksX6_best_3 0 rfl rfl)
theorem dX6_best_72 : decode cX6_best 72 = .ok (.iload 5, 2) := dk_21 5 (dk_at dksX6_best_3 2 rfl rfl)
theorem dX6_best_74 : decode cX6_best 74 = .ok (.imul, 1) := dk_104 (dk_at dksX6_best_3 4 rfl rfl)
theorem dX6_best_75 : decode cX6_best 75 = .ok (.iadd, 1) := dk_96 (dk_at dksX6_best_3 5 rfl rfl)
theorem dX6_best_76 : decode cX6_best 76 = .ok (.iload 6, 2) := dk_21 6 (dk_at dksX6_best_3 6 rfl rfl)
theorem dX6_best_78 : decode cX6_best 78 = .ok (.iadd, 1) := dk_96 (dk_at dksX6_best_3 8 rfl rfl)
theorem dX6_best_79 : decode cX6_best 79 = .ok (.laload, 1) := dk_47 (dk_at dksX6_best_3 9 rfl rfl)
theorem dX6_best_80 : decode cX6_best 80 = .ok (.bipush 100, 2) := dk_16 100 (dk_at dksX6_best_3 10 rfl rfl)
theorem dX6_best_82 : decode cX6_best 82 = .ok (.iload 5, 2) := dk_21 5 (dk_at dksX6_best_3 12 rfl rfl)
theorem dX6_best_84 : decode cX6_best 84 = .ok (.imul, 1) := dk_104 (dk_at dksX6_best_3 14 rfl rfl)
theorem dX6_best_85 : decode cX6_best 85 = .ok (.iload 6, 2) := dk_21 6 (dk_at dksX6_best_3 15 rfl rfl)
theorem dX6_best_87 : decode cX6_best 87 = .ok (.iadd, 1) := dk_96 (dk_at dksX6_best_3 17 rfl rfl)
theorem dX6_best_88 : decode cX6_best 88 = .ok (.invokevirtual 259, 3) := dk_182 1 3 (dk_at dksX6_best_3 18 rfl rfl)
theorem dX6_best_91 : decode cX6_best 91 = .ok (.iinc 6 1, 3) := dk_132 6 1 (dk_at dksX6_best_3 21 rfl rfl)
theorem dX6_best_94 : decode cX6_best 94 = .ok (.goto (-49), 3) := dk_167 255 207 (dk_at dksX6_best_4 0 rfl rfl)
theorem dX6_best_97 : decode cX6_best 97 = .ok (.iinc 5 1, 3) := dk_132 5 1 (dk_at dksX6_best_4 3 rfl rfl)
theorem dX6_best_100 : decode cX6_best 100 = .ok (.goto (-71), 3) := dk_167 255 185 (dk_at dksX6_best_4 6 rfl rfl)
theorem dX6_best_103 : decode cX6_best 103 = .ok (.return_, 1) := dk_177 (dk_at dksX6_best_4 9 rfl rfl)
theorem dX6_best_104 : decode cX6_best 104 = .ok (.iconst 0, 1) := dk_3 (dk_at dksX6_best_4 10 rfl rfl)
theorem dX6_best_105 : decode cX6_best 105 = .ok (.istore 5, 2) := dk_54 5 (dk_at dksX6_best_4 11 rfl rfl)
theorem dX6_best_107 : decode cX6_best 107 = .ok (.iload 5, 2) := dk_21 5 (dk_at dksX6_best_4 13 rfl rfl)
theorem dX6_best_109 : decode cX6_best 109 = .ok (.aload_n 0, 1) := dk_42 (dk_at dksX6_best_4 15 rfl rfl)
theorem dX6_best_110 : decode cX6_best 110 = .ok (.getfield 17, 3) := dk_180 0 17 (dk_at dksX6_best_4 16 rfl rfl)
theorem dX6_best_113 : decode cX6_best 113 = .ok (.iconst 0, 1) := dk_3 (dk_at dksX6_best_4 19 rfl rfl)
theorem dX6_best_114 : decode cX6_best 114 = .ok (.iaload, 1) := dk_46 (dk_at dksX6_best_4 20 rfl rfl)
theorem dX6_best_115 : decode cX6_best 115 = .ok (.if_icmp .ge 140, 3) := dk_162 0 140 (dk_at dksX6_best_4 21 rfl rfl)
theorem dX6_best_118 : decode cX6_best 118 = .ok (.aload_n 0, 1) := dk_42 (dk_at dksX6_best_5 0 rfl rfl)
theorem dX6_best_119 : decode cX6_best 119 = .ok (.getfield 17, 3) := dk_180 0 17 (dk_at dksX6_best_5 1 rfl rfl)
theorem dX6_best_122 : decode cX6_best 122 = .ok (.iconst 1, 1) := dk_4 (dk_at dksX6_best_5 4 rfl rfl)
theorem dX6_best_123 : decode cX6_best 123 = .ok (.iload 5, 2) := dk_21 5 (dk_at dksX6_best_5 5 rfl rfl)
theorem dX6_best_125 : decode cX6_best 125 = .ok (.iadd, 1) := dk_96 (dk_at dksX6_best_5 7 rfl rfl)
theorem dX6_best_126 : decode cX6_best 126 = .ok (.iaload, 1) := dk_46 (dk_at dksX6_best_5 8 rfl rfl)
theorem dX6_best_127 : decode cX6_best 127 = .ok (.aload_n 0, 1) := dk_42 (dk_at dksX6_best_5 9 rfl rfl)
theorem dX6_best_128 : decode cX6_best 128 = .ok (.getfield 17, 3) := dk_180 0 17 (dk_at dksX6_best_5 10 rfl rfl)
theorem dX6_best_131 : decode cX6_best 131 = .ok (.sipush 163, 3) := dk_17 0 163 (dk_at dksX6_best_5 13 rfl rfl)
theorem dX6_best_134 : decode cX6_best 134 = .ok (.iload_n 1, 1) := dk_27 (dk_at dksX6_best_5 16 rfl rfl)
theorem dX6_best_135 : decode cX6_best 135 = .ok (.iadd, 1) := dk_96 (dk_at dksX6_best_5 17 rfl rfl)
theorem dX6_best_136 : decode cX6_best 136 = .ok (.iaload, 1) := dk_46 (dk_at dksX6_best_5 18 rfl rfl)
theorem dX6_best_137 : decode cX6_best 137 = .ok (.if_icmp .ne 7, 3) := dk_160 0 7 (dk_at dksX6_best_5 19 rfl rfl)
theorem dX6_best_140 : decode cX6_best 140 = .ok (.iconst 1, 1) := dk_4 (dk_at dksX6_best_5 22 rfl rfl)
theorem dX6_best_141 : decode cX6_best 141 = .ok (.goto 4, 3) := dk_167 0 4 (dk_at dksX6_best_6 0 rfl rfl)
theorem dX6_best_144 : decode cX6_best 144 = .ok (.iconst 0, 1) := dk_3 (dk_at dksX6_best_6 3 rfl rfl)
theorem dX6_best_145 : decode cX6_best 145 = .ok (.istore 6, 2) := dk_54 6 (dk_at dksX6_best_6 4 rfl rfl)
theorem dX6_best_147 : decode cX6_best 147 = .ok (.aload_n 0, 1) := dk_42 (dk_at dksX6_best_6 6 rfl rfl)
theorem dX6_best_148 : decode cX6_best 148 = .ok (.iload 5, 2) := dk_21 5 (dk_at dksX6_best_6 7 rfl rfl)
theorem dX6_best_150 : decode cX6_best 150 = .ok (.invokevirtual 250, 3) := dk_182 0 250 (dk_at dksX6_best_6 9 rfl rfl)
theorem dX6_best_153 : decode cX6_best 153 = .ok (.ifCond .eq 96, 3) := dk_153 0 96 (dk_at dksX6_best_6 12 rfl rfl)
theorem dX6_best_156 : decode cX6_best 156 = .ok (.iload_n 2, 1) := dk_28 (dk_at dksX6_best_6 15 rfl rfl)
theorem dX6_best_157 : decode cX6_best 157 = .ok (.ifCond .ne 8, 3) := dk_154 0 8 (dk_at dksX6_best_6 16 rfl rfl)
theorem dX6_best_160 : decode cX6_best 160 = .ok (.iload 6, 2) := dk_21 6 (dk_at dksX6_best_6 19 rfl rfl)
theorem dX6_best_162 : decode cX6_best 162 = .ok (.ifCond .eq 87, 3) := dk_153 0 87 (dk_at dksX6_best_6 21 rfl rfl)
theorem dX6_best_165 : decode cX6_best 165 = .ok (.iload_n 2, 1) := dk_28 (dk_at dksX6_best_7 0 rfl rfl)
theorem dX6_best_166 : decode cX6_best 166 = .ok (.iconst 1, 1) := dk_4 (dk_at dksX6_best_7 1 rfl rfl)
theorem dX6_best_167 : decode cX6_best 167 = .ok (.if_icmp .ne 11, 3) := dk_160 0 11 (dk_at dksX6_best_7 2 rfl rfl)
theorem dX6_best_170 : decode cX6_best 170 = .ok (.iload 6, 2) := dk_21 6 (dk_at dksX6_best_7 5 rfl rfl)
theorem dX6_best_172 : decode cX6_best 172 = .ok (.ifCond .eq 6, 3) := dk_153 0 6 (dk_at dksX6_best_7 7 rfl rfl)
theorem dX6_best_175 : decode cX6_best 175 = .ok (.goto 74, 3) := dk_167 0 74 (dk_at dksX6_best_7 10 rfl rfl)
theorem dX6_best_178 : decode cX6_best 178 = .ok (.iconst 0, 1) := dk_3 (dk_at dksX6_best_7 13 rfl rfl)
theorem dX6_best_179 : decode cX6_best 179 = .ok (.istore 7, 2) := dk_54 7 (dk_at dksX6_best_7 14 rfl rfl)
theorem dX6_best_181 : decode cX6_best 181 = .ok (.iload 7, 2) := dk_21 7 (dk_at dksX6_best_7 16 rfl rfl)
theorem dX6_best_183 : decode cX6_best 183 = .ok (.aload_n 0, 1) := dk_42 (dk_at dksX6_best_7 18 rfl rfl)
theorem dX6_best_184 : decode cX6_best 184 = .ok (.getfield 17, 3) := dk_180 0 17 (dk_at dksX6_best_7 19 rfl rfl)
theorem dX6_best_187 : decode cX6_best 187 = .ok (.bipush 121, 2) := dk_16 121 (dk_at dksX6_best_7 22 rfl rfl)
theorem dX6_best_189 : decode cX6_best 189 = .ok (.iload 5, 2) := dk_21 5 (dk_at dksX6_best_8 0 rfl rfl)
theorem dX6_best_191 : decode cX6_best 191 = .ok (.iadd, 1) := dk_96 (dk_at dksX6_best_8 2 rfl rfl)
theorem dX6_best_192 : decode cX6_best 192 = .ok (.iaload, 1) := dk_46 (dk_at dksX6_best_8 3 rfl rfl)
theorem dX6_best_193 : decode cX6_best 193 = .ok (.if_icmp .ge 56, 3) := dk_162 0 56 (dk_at dksX6_best_8 4 rfl rfl)
theorem dX6_best_196 : decode cX6_best 196 = .ok (.aload_n 0, 1) := dk_42 (dk_at dksX6_best_8 7 rfl rfl)
theorem dX6_best_197 : decode cX6_best 197 = .ok (.lload_n 3, 1) := dk_33 (dk_at dksX6_best_8 8 rfl rfl)
theorem dX6_best_198 : decode cX6_best 198 = .ok (.iload_n 2, 1) := dk_28 (dk_at dksX6_best_8 9 rfl rfl)
theorem dX6_best_199 : decode cX6_best 199 = .ok (.iconst 2, 1) := dk_5 (dk_at dksX6_best_8 10 rfl rfl)
theorem dX6_best_200 : decode cX6_best 200 = .ok (.if_icmp .ne 19, 3) := dk_160 0 19 (dk_at dksX6_best_8 11 rfl rfl)
theorem dX6_best_203 : decode cX6_best 203 = .ok (.aload_n 0, 1) := dk_42 (dk_at dksX6_best_8 14 rfl rfl)
theorem dX6_best_204 : decode cX6_best 204 = .ok (.getfield 55, 3) := dk_180 0 55 (dk_at dksX6_best_8 15 rfl rfl)
theorem dX6_best_207 : decode cX6_best 207 = .ok (.bipush 12, 2) := dk_16 12 (dk_at dksX6_best_8 18 rfl rfl)
theorem dX6_best_209 : decode cX6_best 209 = .ok (.iload 5, 2) := dk_21 5 (dk_at dksX6_best_8 20 rfl rfl)
theorem dX6_best_211 : decode cX6_best 211 = .ok (.imul, 1) := dk_104 (dk_at dksX6_best_8 22 rfl rfl)
theorem dX6_best_212 : decode cX6_best 212 = .ok (.iload 7, 2) := dk_21 7 (dk_at dksX6_best_9 0 rfl rfl)
theorem dX6_best_214 : decode cX6_best 214 = .ok (.iadd, 1) := dk_96 (dk_at dksX6_best_9 2 rfl rfl)
theorem dX6_best_215 : decode cX6_best 215 = .ok (.laload, 1) := dk_47 (dk_at dksX6_best_9 3 rfl rfl)
theorem dX6_best_216 : decode cX6_best 216 = .ok (.goto 16, 3) := dk_167 0 16 (dk_at dksX6_best_9 4 rfl rfl)
theorem dX6_best_219 : decode cX6_best 219 = .ok (.aload_n 0, 1) := dk_42 (dk_at dksX6_best_9 7 rfl rfl)
theorem dX6_best_220 : decode cX6_best 220 = .ok (.getfield 20, 3) := dk_180 0 20 (dk_at dksX6_best_9 8 rfl rfl)
theorem dX6_best_223 : decode cX6_best 223 = .ok (.bipush 12, 2) := dk_16 12 (dk_at dksX6_best_9 11 rfl rfl)
theorem dX6_best_225 : decode cX6_best 225 = .ok (.iload 5, 2) := dk_21 5 (dk_at dksX6_best_9 13 rfl rfl)
theorem dX6_best_227 : decode cX6_best 227 = .ok (.imul, 1) := dk_104 (dk_at dksX6_best_9 15 rfl rfl)
theorem dX6_best_228 : decode cX6_best 228 = .ok (.iload 7, 2) := dk_21 7 (dk_at dksX6_best_9 16 rfl rfl)
theorem dX6_best_230 : decode cX6_best 230 = .ok (.iadd, 1) := dk_96 (dk_at dksX6_best_9 18 rfl rfl)
theorem dX6_best_231 : decode cX6_best 231 = .ok (.laload, 1) := dk_47 (dk_at dksX6_best_9 19 rfl rfl)
theorem dX6_best_232 : decode cX6_best 232 = .ok (.bipush 100, 2) := dk_16 100 (dk_at dksX6_best_9 20 rfl rfl)
theorem dX6_best_234 : decode cX6_best 234 = .ok (.iload 5, 2) := dk_21 5 (dk_at dksX6_best_9 22 rfl rfl)
theorem dX6_best_236 : decode cX6_best 236 = .ok (.imul, 1) := dk_104 (dk_at dksX6_best_10 0 rfl rfl)
theorem dX6_best_237 : decode cX6_best 237 = .ok (.iload 7, 2) := dk_21 7 (dk_at dksX6_best_10 1 rfl rfl)
theorem dX6_best_239 : decode cX6_best 239 = .ok (.iadd, 1) := dk_96 (dk_at dksX6_best_10 3 rfl rfl)
theorem dX6_best_240 : decode cX6_best 240 = .ok (.invokevirtual 259, 3) := dk_182 1 3 (dk_at dksX6_best_10 4 rfl rfl)
theorem dX6_best_243 : decode cX6_best 243 = .ok (.iinc 7 1, 3) := dk_132 7 1 (dk_at dksX6_best_10 7 rfl rfl)
theorem dX6_best_246 : decode cX6_best 246 = .ok (.goto (-65), 3) := dk_167 255 191 (dk_at dksX6_best_10 10 rfl rfl)
theorem dX6_best_249 : decode cX6_best 249 = .ok (.iinc 5 1, 3) := dk_132 5 1 (dk_at dksX6_best_10 13 rfl rfl)
theorem dX6_best_252 : decode cX6_best 252 = .ok (.goto (-145), 3) := dk_167 255 111 (dk_at dksX6_best_10 16 rfl rfl)
theorem dX6_best_255 : decode cX6_best 255 = .ok (.return_, 1) := dk_177 (dk_at dksX6_best_10 19 rfl rfl)
abbrev cX6_looks : ByteArray := prog_28_method_48_code
def yX6_looks : MethodName := ⟨RX6, "looks", "(JJI)V"⟩
def dkwX6_looks_1 : List UInt8 := [42, 21, 5, 181, 1, 0, 177]
abbrev dktX6_looks_1 : List UInt8 := dkwX6_looks_1 ++ []
def dkwX6_looks_0 : List UInt8 := [42, 31, 33, 182, 0, 111, 54, 6, 21, 6, 42, 180, 0, 253, 163, 0, 4, 177, 42, 21, 6, 181, 0, 253]
abbrev dktX6_looks_0 : List UInt8 := dkwX6_looks_0 ++ dktX6_looks_1
theorem dksX6_looks_0 : cX6_looks.data.toList.drop 0 = dktX6_looks_0 := by decide +kernel
theorem dksX6_looks_1 : cX6_looks.data.toList.drop 24 = dktX6_looks_1 := dk_seg dksX6_looks_0 24 rfl rfl
theorem dX6_looks_0 : decode cX6_looks 0 = .ok (.aload_n 0, 1) := dk_42 (dk_at dksX6_looks_0 0 rfl rfl)
theorem dX6_looks_1 : decode cX6_looks 1 = .ok (.lload_n 1, 1) := dk_31 (dk_at dksX6_looks_0 1 rfl rfl)
theorem dX6_looks_2 : decode cX6_looks 2 = .ok (.lload_n 3, 1) := dk_33 (dk_at dksX6_looks_0 2 rfl rfl)
theorem dX6_looks_3 : decode cX6_looks 3 = .ok (.invokevirtual 111, 3) := dk_182 0 111 (dk_at dksX6_looks_0 3 rfl rfl)
theorem dX6_looks_6 : decode cX6_looks 6 = .ok (.istore 6, 2) := dk_54 6 (dk_at dksX6_looks_0 6 rfl rfl)
theorem dX6_looks_8 : decode cX6_looks 8 = .ok (.iload 6, 2) := dk_21 6 (dk_at dksX6_looks_0 8 rfl rfl)
theorem dX6_looks_10 : decode cX6_looks 10 = .ok (.aload_n 0, 1) := dk_42 (dk_at dksX6_looks_0 10 rfl rfl)
theorem dX6_looks_11 : decode cX6_looks 11 = .ok (.getfield 253, 3) := dk_180 0 253 (dk_at dksX6_looks_0 11 rfl rfl)
theorem dX6_looks_14 : decode cX6_looks 14 = .ok (.if_icmp .gt 4, 3) := dk_163 0 4 (dk_at dksX6_looks_0 14 rfl rfl)
theorem dX6_looks_17 : decode cX6_looks 17 = .ok (.return_, 1) := dk_177 (dk_at dksX6_looks_0 17 rfl rfl)
theorem dX6_looks_18 : decode cX6_looks 18 = .ok (.aload_n 0, 1) := dk_42 (dk_at dksX6_looks_0 18 rfl rfl)
theorem dX6_looks_19 : decode cX6_looks 19 = .ok (.iload 6, 2) := dk_21 6 (dk_at dksX6_looks_0 19 rfl rfl)
theorem dX6_looks_21 : decode cX6_looks 21 = .ok (.putfield 253, 3) := dk_181 0 253 (dk_at dksX6_looks_0 21 rfl rfl)
theorem dX6_looks_24 : decode cX6_looks 24 = .ok (.aload_n 0, 1) := dk_42 (dk_at dksX6_looks_1 0 rfl rfl)
theorem dX6_looks_25 : decode cX6_looks 25 = .ok (.iload 5, 2) := dk_21 5 (dk_at dksX6_looks_1 1 rfl rfl)
theorem dX6_looks_27 : decode cX6_looks 27 = .ok (.putfield 256, 3) := dk_181 1 0 (dk_at dksX6_looks_1 3 rfl rfl)
theorem dX6_looks_30 : decode cX6_looks 30 = .ok (.return_, 1) := dk_177 (dk_at dksX6_looks_1 6 rfl rfl)
abbrev cX6_late : ByteArray := prog_28_method_54_code
def yX6_late : MethodName := ⟨RX6, "late", "(II)I"⟩
def dkwX6_late_3 : List UInt8 := [182, 1, 23, 42, 180, 0, 17, 17, 0, 248, 46, 161, 0, 7, 5, 167, 0, 4, 3, 172]
abbrev dktX6_late_3 : List UInt8 := dkwX6_late_3 ++ []
def dkwX6_late_2 : List UInt8 := [66, 42, 33, 4, 182, 1, 19, 42, 180, 0, 17, 17, 0, 248, 46, 161, 0, 7, 4, 167, 0, 24, 42, 33]
abbrev dktX6_late_2 : List UInt8 := dkwX6_late_2 ++ dktX6_late_3
def dkwX6_late_1 : List UInt8 := [182, 0, 250, 153, 0, 10, 42, 16, 251, 182, 0, 85, 172, 42, 180, 0, 20, 16, 12, 27, 104, 28, 96, 47]
abbrev dktX6_late_1 : List UInt8 := dkwX6_late_1 ++ dktX6_late_2
def dkwX6_late_0 : List UInt8 := [42, 3, 181, 0, 1, 42, 3, 27, 28, 182, 0, 107, 154, 0, 10, 42, 16, 254, 182, 0, 85, 172, 42, 27]
abbrev dktX6_late_0 : List UInt8 := dkwX6_late_0 ++ dktX6_late_1
theorem dksX6_late_0 : cX6_late.data.toList.drop 0 = dktX6_late_0 := by decide +kernel
theorem dksX6_late_1 : cX6_late.data.toList.drop 24 = dktX6_late_1 := dk_seg dksX6_late_0 24 rfl rfl
theorem dksX6_late_2 : cX6_late.data.toList.drop 48 = dktX6_late_2 := dk_seg dksX6_late_1 24 rfl rfl
theorem dksX6_late_3 : cX6_late.data.toList.drop 72 = dktX6_late_3 := dk_seg dksX6_late_2 24 rfl rfl
theorem dX6_late_0 : decode cX6_late 0 = .ok (.aload_n 0, 1) := dk_42 (dk_at dksX6_late_0 0 rfl rfl)
theorem dX6_late_1 : decode cX6_late 1 = .ok (.iconst 0, 1) := dk_3 (dk_at dksX6_late_0 1 rfl rfl)
theorem dX6_late_2 : decode cX6_late 2 = .ok (.putfield 1, 3) := dk_181 0 1 (dk_at dksX6_late_0 2 rfl rfl)
theorem dX6_late_5 : decode cX6_late 5 = .ok (.aload_n 0, 1) := dk_42 (dk_at dksX6_late_0 5 rfl rfl)
theorem dX6_late_6 : decode cX6_late 6 = .ok (.iconst 0, 1) := dk_3 (dk_at dksX6_late_0 6 rfl rfl)
theorem dX6_late_7 : decode cX6_late 7 = .ok (.iload_n 1, 1) := dk_27 (dk_at dksX6_late_0 7 rfl rfl)
theorem dX6_late_8 : decode cX6_late 8 = .ok (.iload_n 2, 1) := dk_28 (dk_at dksX6_late_0 8 rfl rfl)
theorem dX6_late_9 : decode cX6_late 9 = .ok (.invokevirtual 107, 3) := dk_182 0 107 (dk_at dksX6_late_0 9 rfl rfl)
theorem dX6_late_12 : decode cX6_late 12 = .ok (.ifCond .ne 10, 3) := dk_154 0 10 (dk_at dksX6_late_0 12 rfl rfl)
theorem dX6_late_15 : decode cX6_late 15 = .ok (.aload_n 0, 1) := dk_42 (dk_at dksX6_late_0 15 rfl rfl)
theorem dX6_late_16 : decode cX6_late 16 = .ok (.bipush (-2), 2) := dk_16 254 (dk_at dksX6_late_0 16 rfl rfl)
theorem dX6_late_18 : decode cX6_late 18 = .ok (.invokevirtual 85, 3) := dk_182 0 85 (dk_at dksX6_late_0 18 rfl rfl)
theorem dX6_late_21 : decode cX6_late 21 = .ok (.ireturn, 1) := dk_172 (dk_at dksX6_late_0 21 rfl rfl)
theorem dX6_late_22 : decode cX6_late 22 = .ok (.aload_n 0, 1) := dk_42 (dk_at dksX6_late_0 22 rfl rfl)
theorem dX6_late_23 : decode cX6_late 23 = .ok (.iload_n 1, 1) := dk_27 (dk_at dksX6_late_0 23 rfl rfl)
theorem dX6_late_24 : decode cX6_late 24 = .ok (.invokevirtual 250, 3) := dk_182 0 250 (dk_at dksX6_late_1 0 rfl rfl)
theorem dX6_late_27 : decode cX6_late 27 = .ok (.ifCond .eq 10, 3) := dk_153 0 10 (dk_at dksX6_late_1 3 rfl rfl)
theorem dX6_late_30 : decode cX6_late 30 = .ok (.aload_n 0, 1) := dk_42 (dk_at dksX6_late_1 6 rfl rfl)
theorem dX6_late_31 : decode cX6_late 31 = .ok (.bipush (-5), 2) := dk_16 251 (dk_at dksX6_late_1 7 rfl rfl)
theorem dX6_late_33 : decode cX6_late 33 = .ok (.invokevirtual 85, 3) := dk_182 0 85 (dk_at dksX6_late_1 9 rfl rfl)
theorem dX6_late_36 : decode cX6_late 36 = .ok (.ireturn, 1) := dk_172 (dk_at dksX6_late_1 12 rfl rfl)
theorem dX6_late_37 : decode cX6_late 37 = .ok (.aload_n 0, 1) := dk_42 (dk_at dksX6_late_1 13 rfl rfl)
theorem dX6_late_38 : decode cX6_late 38 = .ok (.getfield 20, 3) := dk_180 0 20 (dk_at dksX6_late_1 14 rfl rfl)
theorem dX6_late_41 : decode cX6_late 41 = .ok (.bipush 12, 2) := dk_16 12 (dk_at dksX6_late_1 17 rfl rfl)
theorem dX6_late_43 : decode cX6_late 43 = .ok (.iload_n 1, 1) := dk_27 (dk_at dksX6_late_1 19 rfl rfl)
theorem dX6_late_44 : decode cX6_late 44 = .ok (.imul, 1) := dk_104 (dk_at dksX6_late_1 20 rfl rfl)
theorem dX6_late_45 : decode cX6_late 45 = .ok (.iload_n 2, 1) := dk_28 (dk_at dksX6_late_1 21 rfl rfl)
theorem dX6_late_46 : decode cX6_late 46 = .ok (.iadd, 1) := dk_96 (dk_at dksX6_late_1 22 rfl rfl)
theorem dX6_late_47 : decode cX6_late 47 = .ok (.laload, 1) := dk_47 (dk_at dksX6_late_1 23 rfl rfl)
theorem dX6_late_48 : decode cX6_late 48 = .ok (.lstore_n 3, 1) := dk_66 (dk_at dksX6_late_2 0 rfl rfl)
theorem dX6_late_49 : decode cX6_late 49 = .ok (.aload_n 0, 1) := dk_42 (dk_at dksX6_late_2 1 rfl rfl)
theorem dX6_late_50 : decode cX6_late 50 = .ok (.lload_n 3, 1) := dk_33 (dk_at dksX6_late_2 2 rfl rfl)
theorem dX6_late_51 : decode cX6_late 51 = .ok (.iconst 1, 1) := dk_4 (dk_at dksX6_late_2 3 rfl rfl)
theorem dX6_late_52 : decode cX6_late 52 = .ok (.invokevirtual 275, 3) := dk_182 1 19 (dk_at dksX6_late_2 4 rfl rfl)
theorem dX6_late_55 : decode cX6_late 55 = .ok (.aload_n 0, 1) := dk_42 (dk_at dksX6_late_2 7 rfl rfl)
theorem dX6_late_56 : decode cX6_late 56 = .ok (.getfield 17, 3) := dk_180 0 17 (dk_at dksX6_late_2 8 rfl rfl)
theorem dX6_late_59 : decode cX6_late 59 = .ok (.sipush 248, 3) := dk_17 0 248 (dk_at dksX6_late_2 11 rfl rfl)
theorem dX6_late_62 : decode cX6_late 62 = .ok (.iaload, 1) := dk_46 (dk_at dksX6_late_2 14 rfl rfl)
theorem dX6_late_63 : decode cX6_late 63 = .ok (.if_icmp .lt 7, 3) := dk_161 0 7 (dk_at dksX6_late_2 15 rfl rfl)
theorem dX6_late_66 : decode cX6_late 66 = .ok (.iconst 1, 1) := dk_4 (dk_at dksX6_late_2 18 rfl rfl)
theorem dX6_late_67 : decode cX6_late 67 = .ok (.goto 24, 3) := dk_167 0 24 (dk_at dksX6_late_2 19 rfl rfl)
theorem dX6_late_70 : decode cX6_late 70 = .ok (.aload_n 0, 1) := dk_42 (dk_at dksX6_late_2 22 rfl rfl)
theorem dX6_late_71 : decode cX6_late 71 = .ok (.lload_n 3, 1) := dk_33 (dk_at dksX6_late_2 23 rfl rfl)
theorem dX6_late_72 : decode cX6_late 72 = .ok (.invokevirtual 279, 3) := dk_182 1 23 (dk_at dksX6_late_3 0 rfl rfl)
theorem dX6_late_75 : decode cX6_late 75 = .ok (.aload_n 0, 1) := dk_42 (dk_at dksX6_late_3 3 rfl rfl)
theorem dX6_late_76 : decode cX6_late 76 = .ok (.getfield 17, 3) := dk_180 0 17 (dk_at dksX6_late_3 4 rfl rfl)
theorem dX6_late_79 : decode cX6_late 79 = .ok (.sipush 248, 3) := dk_17 0 248 (dk_at dksX6_late_3 7 rfl rfl)
theorem dX6_late_82 : decode cX6_late 82 = .ok (.iaload, 1) := dk_46 (dk_at dksX6_late_3 10 rfl rfl)
theorem dX6_late_83 : decode cX6_late 83 = .ok (.if_icmp .lt 7, 3) := dk_161 0 7 (dk_at dksX6_late_3 11 rfl rfl)
theorem dX6_late_86 : decode cX6_late 86 = .ok (.iconst 2, 1) := dk_5 (dk_at dksX6_late_3 14 rfl rfl)
theorem dX6_late_87 : decode cX6_late 87 = .ok (.goto 4, 3) := dk_167 0 4 (dk_at dksX6_late_3 15 rfl rfl)
theorem dX6_late_90 : decode cX6_late 90 = .ok (.iconst 0, 1) := dk_3 (dk_at dksX6_late_3 18 rfl rfl)
theorem dX6_late_91 : decode cX6_late 91 = .ok (.ireturn, 1) := dk_172 (dk_at dksX6_late_3 19 rfl rfl)
