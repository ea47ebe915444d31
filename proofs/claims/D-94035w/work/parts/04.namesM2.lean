set_option maxRecDepth 100000
abbrev cX6_mostOfSongs : ByteArray := prog_28_method_52_code
def yX6_mostOfSongs : MethodName := ⟨RX6, "mostOfSongs", "(JZ)I"⟩
def dkwX6_mostOfSongs_4 : List UInt8 := [21, 4, 172]
abbrev dktX6_mostOfSongs_4 : List UInt8 := dkwX6_mostOfSongs_4 ++ []
def dkwX6_mostOfSongs_3 : List UInt8 := [164, 0, 8, 21, 7, 167, 0, 5, 21, 4, 54, 4, 132, 6, 1, 167, 255, 192, 132, 5, 1, 167, 255, 172]
abbrev dktX6_mostOfSongs_3 : List UInt8 := dkwX6_mostOfSongs_3 ++ dktX6_mostOfSongs_4
def dkwX6_mostOfSongs_2 : List UInt8 := [42, 180, 0, 20, 16, 12, 21, 5, 104, 21, 6, 96, 47, 182, 0, 111, 54, 7, 21, 7, 21, 4]
abbrev dktX6_mostOfSongs_2 : List UInt8 := dkwX6_mostOfSongs_2 ++ dktX6_mostOfSongs_3
def dkwX6_mostOfSongs_1 : List UInt8 := [180, 0, 17, 16, 121, 21, 5, 96, 46, 162, 0, 55, 42, 21, 5, 182, 0, 250, 29, 160, 0, 45, 42, 31]
abbrev dktX6_mostOfSongs_1 : List UInt8 := dkwX6_mostOfSongs_1 ++ dktX6_mostOfSongs_2
def dkwX6_mostOfSongs_0 : List UInt8 := [2, 54, 4, 3, 54, 5, 21, 5, 42, 180, 0, 17, 3, 46, 162, 0, 79, 3, 54, 6, 21, 6, 42]
abbrev dktX6_mostOfSongs_0 : List UInt8 := dkwX6_mostOfSongs_0 ++ dktX6_mostOfSongs_1
theorem dksX6_mostOfSongs_0 : cX6_mostOfSongs.data.toList.drop 0 = dktX6_mostOfSongs_0 := by decide +kernel
theorem dksX6_mostOfSongs_1 : cX6_mostOfSongs.data.toList.drop 23 = dktX6_mostOfSongs_1 := dk_seg dksX6_mostOfSongs_0 23 rfl rfl
theorem dksX6_mostOfSongs_2 : cX6_mostOfSongs.data.toList.drop 47 = dktX6_mostOfSongs_2 := dk_seg dksX6_mostOfSongs_1 24 rfl rfl
theorem dksX6_mostOfSongs_3 : cX6_mostOfSongs.data.toList.drop 69 = dktX6_mostOfSongs_3 := dk_seg dksX6_mostOfSongs_2 22 rfl rfl
theorem dksX6_mostOfSongs_4 : cX6_mostOfSongs.data.toList.drop 93 = dktX6_mostOfSongs_4 := dk_seg dksX6_mostOfSongs_3 24 rfl rfl
theorem dX6_mostOfSongs_0 : decode cX6_mostOfSongs 0 = .ok (.iconst (-1), 1) := dk_2 (dk_at dksX6_mostOfSongs_0 0 rfl rfl)
theorem dX6_mostOfSongs_1 : decode cX6_mostOfSongs 1 = .ok (.istore 4, 2) := dk_54 4 (dk_at dksX6_mostOfSongs_0 1 rfl rfl)
theorem dX6_mostOfSongs_3 : decode cX6_mostOfSongs 3 = .ok (.iconst 0, 1) := dk_3 (dk_at dksX6_mostOfSongs_0 3 rfl rfl)
theorem dX6_mostOfSongs_4 : decode cX6_mostOfSongs 4 = .ok (.istore 5, 2) := dk_54 5 (dk_at dksX6_mostOfSongs_0 4 rfl rfl)
theorem dX6_mostOfSongs_6 : decode cX6_mostOfSongs 6 = .ok (.iload 5, 2) := dk_21 5 (dk_at dksX6_mostOfSongs_0 6 rfl rfl)
theorem dX6_mostOfSongs_8 : decode cX6_mostOfSongs 8 = .ok (.aload_n 0, 1) := dk_42 (dk_at dksX6_mostOfSongs_0 8 rfl rfl)
theorem dX6_mostOfSongs_9 : decode cX6_mostOfSongs 9 = .ok (.getfield 17, 3) := dk_180 0 17 (dk_at dksX6_mostOfSongs_0 9 rfl rfl)
theorem dX6_mostOfSongs_12 : decode cX6_mostOfSongs 12 = .ok (.iconst 0, 1) := dk_3 (dk_at dksX6_mostOfSongs_0 12 rfl rfl)
theorem dX6_mostOfSongs_13 : decode cX6_mostOfSongs 13 = .ok (.iaload, 1) := dk_46 (dk_at dksX6_mostOfSongs_0 13 rfl rfl)
theorem dX6_mostOfSongs_14 : decode cX6_mostOfSongs 14 = .ok (.if_icmp .ge 79, 3) := dk_162 0 79 (dk_at dksX6_mostOfSongs_0 14 rfl rfl)
theorem dX6_mostOfSongs_17 : decode cX6_mostOfSongs 17 = .ok (.iconst 0, 1) := dk_3 (dk_at dksX6_mostOfSongs_0 17 rfl rfl)
theorem dX6_mostOfSongs_18 : decode cX6_mostOfSongs 18 = .ok (.istore 6, 2) := dk_54 6 (dk_at dksX6_mostOfSongs_0 18 rfl rfl)
theorem dX6_mostOfSongs_20 : decode cX6_mostOfSongs 20 = .ok (.iload 6, 2) := dk_21 6 (dk_at dksX6_mostOfSongs_0 20 rfl rfl)
theorem dX6_mostOfSongs_22 : decode cX6_mostOfSongs 22 = .ok (.aload_n 0, 1) := dk_42 (dk_at dksX6_mostOfSongs_0 22 rfl rfl)
theorem dX6_mostOfSongs_23 : decode cX6_mostOfSongs 23 = .ok (.getfield 17, 3) := dk_180 0 17 (dk_at dksX6_mostOfSongs_1 0 rfl rfl)
theorem dX6_mostOfSongs_26 : decode cX6_mostOfSongs 26 = .ok (.bipush 121, 2) := dk_16 121 (dk_at dksX6_mostOfSongs_1 3 rfl rfl)
theorem dX6_mostOfSongs_28 : decode cX6_mostOfSongs 28 = .ok (.iload 5, 2) := dk_21 5 (dk_at dksX6_mostOfSongs_1 5 rfl rfl)
theorem dX6_mostOfSongs_30 : decode cX6_mostOfSongs 30 = .ok (.iadd, 1) := dk_96 (dk_at dksX6_mostOfSongs_1 7 rfl rfl)
theorem dX6_mostOfSongs_31 : decode cX6_mostOfSongs 31 = .ok (.iaload, 1) := dk_46 (dk_at dksX6_mostOfSongs_1 8 rfl rfl)
theorem dX6_mostOfSongs_32 : decode cX6_mostOfSongs 32 = .ok (.if_icmp .ge 55, 3) := dk_162 0 55 (dk_at dksX6_mostOfSongs_1 9 rfl rfl)
theorem dX6_mostOfSongs_35 : decode cX6_mostOfSongs 35 = .ok (.aload_n 0, 1) := dk_42 (dk_at dksX6_mostOfSongs_1 12 rfl rfl)
theorem dX6_mostOfSongs_36 : decode cX6_mostOfSongs 36 = .ok (.iload 5, 2) := dk_21 5 (dk_at dksX6_mostOfSongs_1 13 rfl rfl)
theorem dX6_mostOfSongs_38 : decode cX6_mostOfSongs 38 = .ok (.invokevirtual 250, 3) := dk_182 0 250 (dk_at dksX6_mostOfSongs_1 15 rfl rfl)
theorem dX6_mostOfSongs_41 : decode cX6_mostOfSongs 41 = .ok (.iload_n 3, 1) := dk_29 (dk_at dksX6_mostOfSongs_1 18 rfl rfl)
theorem dX6_mostOfSongs_42 : decode cX6_mostOfSongs 42 = .ok (.if_icmp .ne 45, 3) := dk_160 0 45 (dk_at dksX6_mostOfSongs_1 19 rfl rfl)
theorem dX6_mostOfSongs_45 : decode cX6_mostOfSongs 45 = .ok (.aload_n 0, 1) := dk_42 (dk_at dksX6_mostOfSongs_1 22 rfl rfl)
theorem dX6_mostOfSongs_46 : decode cX6_mostOfSongs 46 = .ok (.lload_n 1, 1) := dk_31 (dk_at dksX6_mostOfSongs_1 23 rfl rfl)
theorem dX6_mostOfSongs_47 : decode cX6_mostOfSongs 47 = .ok (.aload_n 0, 1) := dk_42 (dk_at dksX6_mostOfSongs_2 0 rfl rfl)
theorem dX6_mostOfSongs_48 : decode cX6_mostOfSongs 48 = .ok (.getfield 20, 3) := dk_180 0 20 (dk_at dksX6_mostOfSongs_2 1 rfl rfl)
theorem dX6_mostOfSongs_51 : decode cX6_mostOfSongs 51 = .ok (.bipush 12, 2) := dk_16 12 (dk_at dksX6_mostOfSongs_2 4 rfl rfl)
theorem dX6_mostOfSongs_53 : decode cX6_mostOfSongs 53 = .ok (.iload 5, 2) := dk_21 5 (dk_at dksX6_mostOfSongs_2 6 rfl rfl)
theorem dX6_mostOfSongs_55 : decode cX6_mostOfSongs 55 = .ok (.imul, 1) := dk_104 (dk_at dksX6_mostOfSongs_2 8 rfl rfl)
theorem dX6_mostOfSongs_56 : decode cX6_mostOfSongs 56 = .ok (.iload 6, 2) := dk_21 6 (dk_at dksX6_mostOfSongs_2 9 rfl rfl)
theorem dX6_mostOfSongs_58 : decode cX6_mostOfSongs 58 = .ok (.iadd, 1) := dk_96 (dk_at dksX6_mostOfSongs_2 11 rfl rfl)
theorem dX6_mostOfSongs_59 : decode cX6_mostOfSongs 59 = .ok (.laload, 1) := dk_47 (dk_at dksX6_mostOfSongs_2 12 rfl rfl)
theorem dX6_mostOfSongs_60 : decode cX6_mostOfSongs 60 = .ok (.invokevirtual 111, 3) := dk_182 0 111 (dk_at dksX6_mostOfSongs_2 13 rfl rfl)
theorem dX6_mostOfSongs_63 : decode cX6_mostOfSongs 63 = .ok (.istore 7, 2) := dk_54 7 (dk_at dksX6_mostOfSongs_2 16 rfl rfl)
theorem dX6_mostOfSongs_65 : decode cX6_mostOfSongs 65 = .ok (.iload 7, 2) := dk_21 7 (dk_at dksX6_mostOfSongs_2 18 rfl rfl)
theorem dX6_mostOfSongs_67 : decode cX6_mostOfSongs 67 = .ok (.iload 4, 2) := dk_21 4 (dk_at dksX6_mostOfSongs_2 20 rfl rfl)
theorem dX6_mostOfSongs_69 : decode cX6_mostOfSongs 69 = .ok (.if_icmp .le 8, 3) := dk_164 0 8 (dk_at dksX6_mostOfSongs_3 0 rfl rfl)
theorem dX6_mostOfSongs_72 : decode cX6_mostOfSongs 72 = .ok (.iload 7, 2) := dk_21 7 (dk_at dksX6_mostOfSongs_3 3 rfl rfl)
theorem dX6_mostOfSongs_74 : decode cX6_mostOfSongs 74 = .ok (.goto 5, 3) := dk_167 0 5 (dk_at dksX6_mostOfSongs_3 5 rfl rfl)
theorem dX6_mostOfSongs_77 : decode cX6_mostOfSongs 77 = .ok (.iload 4, 2) := dk_21 4 (dk_at dksX6_mostOfSongs_3 8 rfl rfl)
theorem dX6_mostOfSongs_79 : decode cX6_mostOfSongs 79 = .ok (.istore 4, 2) := dk_54 4 (dk_at dksX6_mostOfSongs_3 10 rfl rfl)
theorem dX6_mostOfSongs_81 : decode cX6_mostOfSongs 81 = .ok (.iinc 6 1, 3) := dk_132 6 1 (dk_at dksX6_mostOfSongs_3 12 rfl rfl)
theorem dX6_mostOfSongs_84 : decode cX6_mostOfSongs 84 = .ok (.goto (-64), 3) := dk_167 255 192 (dk_at dksX6_mostOfSongs_3 15 rfl rfl)
theorem dX6_mostOfSongs_87 : decode cX6_mostOfSongs 87 = .ok (.iinc 5 1, 3) := dk_132 5 1 (dk_at dksX6_mostOfSongs_3 18 rfl rfl)
theorem dX6_mostOfSongs_90 : decode cX6_mostOfSongs 90 = .ok (.goto (-84), 3) := dk_167 255 172 (dk_at dksX6_mostOfSongs_3 21 rfl rfl)
theorem dX6_mostOfSongs_93 : decode cX6_mostOfSongs 93 = .ok (.iload 4, 2) := dk_21 4 (dk_at dksX6_mostOfSongs_4 0 rfl rfl)
theorem dX6_mostOfSongs_95 : decode cX6_mostOfSongs 95 = .ok (.ireturn, 1) := dk_172 (dk_at dksX6_mostOfSongs_4 2 rfl rfl)
abbrev cX6_mostOfPrint : ByteArray := prog_28_method_53_code
def yX6_mostOfPrint : MethodName := ⟨RX6, "mostOfPrint", "(J)I"⟩
def dkwX6_mostOfPrint_2 : List UInt8 := [62, 132, 4, 1, 167, 255, 209, 29, 172]
abbrev dktX6_mostOfPrint_2 : List UInt8 := dkwX6_mostOfPrint_2 ++ []
def dkwX6_mostOfPrint_1 : List UInt8 := [17, 1, 224, 21, 4, 96, 47, 182, 0, 111, 54, 5, 21, 5, 29, 164, 0, 8, 21, 5, 167, 0, 4, 29]
abbrev dktX6_mostOfPrint_1 : List UInt8 := dkwX6_mostOfPrint_1 ++ dktX6_mostOfPrint_2
def dkwX6_mostOfPrint_0 : List UInt8 := [2, 62, 3, 54, 4, 21, 4, 42, 180, 0, 17, 17, 0, 162, 46, 162, 0, 40, 42, 31, 42, 180, 0, 20]
abbrev dktX6_mostOfPrint_0 : List UInt8 := dkwX6_mostOfPrint_0 ++ dktX6_mostOfPrint_1
theorem dksX6_mostOfPrint_0 : cX6_mostOfPrint.data.toList.drop 0 = dktX6_mostOfPrint_0 := by decide +kernel
theorem dksX6_mostOfPrint_1 : cX6_mostOfPrint.data.toList.drop 24 = dktX6_mostOfPrint_1 := dk_seg dksX6_mostOfPrint_0 24 rfl rfl
theorem dksX6_mostOfPrint_2 : cX6_mostOfPrint.data.toList.drop 48 = dktX6_mostOfPrint_2 := dk_seg dksX6_mostOfPrint_1 24 rfl rfl
theorem dX6_mostOfPrint_0 : decode cX6_mostOfPrint 0 = .ok (.iconst (-1), 1) := dk_2 (dk_at dksX6_mostOfPrint_0 0 rfl rfl)
theorem dX6_mostOfPrint_1 : decode cX6_mostOfPrint 1 = .ok (.istore_n 3, 1) := dk_62 (dk_at dksX6_mostOfPrint_0 1 rfl rfl)
theorem dX6_mostOfPrint_2 : decode cX6_mostOfPrint 2 = .ok (.iconst 0, 1) := dk_3 (dk_at dksX6_mostOfPrint_0 2 rfl rfl)
theorem dX6_mostOfPrint_3 : decode cX6_mostOfPrint 3 = .ok (.istore 4, 2) := dk_54 4 (dk_at dksX6_mostOfPrint_0 3 rfl rfl)
theorem dX6_mostOfPrint_5 : decode cX6_mostOfPrint 5 = .ok (.iload 4, 2) := dk_21 4 (dk_at dksX6_mostOfPrint_0 5 rfl rfl)
theorem dX6_mostOfPrint_7 : decode cX6_mostOfPrint 7 = .ok (.aload_n 0, 1) := dk_42 (dk_at dksX6_mostOfPrint_0 7 rfl rfl)
theorem dX6_mostOfPrint_8 : decode cX6_mostOfPrint 8 = .ok (.getfield 17, 3) := dk_180 0 17 (dk_at dksX6_mostOfPrint_0 8 rfl rfl)
theorem dX6_mostOfPrint_11 : decode cX6_mostOfPrint 11 = .ok (.sipush 162, 3) := dk_17 0 162 (dk_at dksX6_mostOfPrint_0 11 rfl rfl)
theorem dX6_mostOfPrint_14 : decode cX6_mostOfPrint 14 = .ok (.iaload, 1) := dk_46 (dk_at dksX6_mostOfPrint_0 14 rfl rfl)
theorem dX6_mostOfPrint_15 : decode cX6_mostOfPrint 15 = .ok (.if_icmp .ge 40, 3) := dk_162 0 40 (dk_at dksX6_mostOfPrint_0 15 rfl rfl)
theorem dX6_mostOfPrint_18 : decode cX6_mostOfPrint 18 = .ok (.aload_n 0, 1) := dk_42 (dk_at dksX6_mostOfPrint_0 18 rfl rfl)
theorem dX6_mostOfPrint_19 : decode cX6_mostOfPrint 19 = .ok (.lload_n 1, 1) := dk_31 (dk_at dksX6_mostOfPrint_0 19 rfl rfl)
theorem dX6_mostOfPrint_20 : decode cX6_mostOfPrint 20 = .ok (.aload_n 0, 1) := dk_42 (dk_at dksX6_mostOfPrint_0 20 rfl rfl)
theorem dX6_mostOfPrint_21 : decode cX6_mostOfPrint 21 = .ok (.getfield 20, 3) := dk_180 0 20 (dk_at dksX6_mostOfPrint_0 21 rfl rfl)
theorem dX6_mostOfPrint_24 : decode cX6_mostOfPrint 24 = .ok (.sipush 480, 3) := dk_17 1 224 (dk_at dksX6_mostOfPrint_1 0 rfl rfl)
theorem dX6_mostOfPrint_27 : decode cX6_mostOfPrint 27 = .ok (.iload 4, 2) := dk_21 4 (dk_at dksX6_mostOfPrint_1 3 rfl rfl)
theorem dX6_mostOfPrint_29 : decode cX6_mostOfPrint 29 = .ok (.iadd, 1) := dk_96 (dk_at dksX6_mostOfPrint_1 5 rfl rfl)
theorem dX6_mostOfPrint_30 : decode cX6_mostOfPrint 30 = .ok (.laload, 1) := dk_47 (dk_at dksX6_mostOfPrint_1 6 rfl rfl)
theorem dX6_mostOfPrint_31 : decode cX6_mostOfPrint 31 = .ok (.invokevirtual 111, 3) := dk_182 0 111 (dk_at dksX6_mostOfPrint_1 7 rfl rfl)
theorem dX6_mostOfPrint_34 : decode cX6_mostOfPrint 34 = .ok (.istore 5, 2) := dk_54 5 (dk_at dksX6_mostOfPrint_1 10 rfl rfl)
theorem dX6_mostOfPrint_36 : decode cX6_mostOfPrint 36 = .ok (.iload 5, 2) := dk_21 5 (dk_at dksX6_mostOfPrint_1 12 rfl rfl)
theorem dX6_mostOfPrint_38 : decode cX6_mostOfPrint 38 = .ok (.iload_n 3, 1) := dk_29 (dk_at dksX6_mostOfPrint_1 14 rfl rfl)
theorem dX6_mostOfPrint_39 : decode cX6_mostOfPrint 39 = .ok (.if_icmp .le 8, 3) := dk_164 0 8 (dk_at dksX6_mostOfPrint_1 15 rfl rfl)
theorem dX6_mostOfPrint_42 : decode cX6_mostOfPrint 42 = .ok (.iload 5, 2) := dk_21 5 (dk_at dksX6_mostOfPrint_1 18 rfl rfl)
theorem dX6_mostOfPrint_44 : decode cX6_mostOfPrint 44 = .ok (.goto 4, 3) := dk_167 0 4 (dk_at dksX6_mostOfPrint_1 20 rfl rfl)
theorem dX6_mostOfPrint_47 : decode cX6_mostOfPrint 47 = .ok (.iload_n 3, 1) := dk_29 (dk_at dksX6_mostOfPrint_1 23 rfl rfl)
theorem dX6_mostOfPrint_48 : decode cX6_mostOfPrint 48 = .ok (.istore_n 3, 1) := dk_62 (dk_at dksX6_mostOfPrint_2 0 rfl rfl)
theorem dX6_mostOfPrint_49 : decode cX6_mostOfPrint 49 = .ok (.iinc 4 1, 3) := dk_132 4 1 (dk_at dksX6_mostOfPrint_2 1 rfl rfl)
theorem dX6_mostOfPrint_52 : decode cX6_mostOfPrint 52 = .ok (.goto (-47), 3) := dk_167 255 209 (dk_at dksX6_mostOfPrint_2 4 rfl rfl)
theorem dX6_mostOfPrint_55 : decode cX6_mostOfPrint 55 = .ok (.iload_n 3, 1) := dk_29 (dk_at dksX6_mostOfPrint_2 7 rfl rfl)
theorem dX6_mostOfPrint_56 : decode cX6_mostOfPrint 56 = .ok (.ireturn, 1) := dk_172 (dk_at dksX6_mostOfPrint_2 8 rfl rfl)
abbrev cX6_share : ByteArray := prog_28_method_56_code
def yX6_share : MethodName := ⟨RX6, "share", "(II)I"⟩
def dkwX6_share_3 : List UInt8 := [42, 180, 0, 58, 27, 46, 104, 42, 180, 0, 17, 17, 0, 162, 46, 108, 172]
abbrev dktX6_share_3 : List UInt8 := dkwX6_share_3 ++ []
def dkwX6_share_2 : List UInt8 := [182, 0, 85, 172, 42, 182, 1, 26, 28, 154, 0, 12, 42, 180, 0, 58, 27, 46, 167, 0, 22, 17, 3, 232]
abbrev dktX6_share_2 : List UInt8 := dkwX6_share_2 ++ dktX6_share_3
def dkwX6_share_1 : List UInt8 := [154, 0, 10, 42, 16, 254, 182, 0, 85, 172, 42, 180, 0, 17, 17, 0, 162, 46, 154, 0, 10, 42, 16, 251]
abbrev dktX6_share_1 : List UInt8 := dkwX6_share_1 ++ dktX6_share_2
def dkwX6_share_0 : List UInt8 := [42, 3, 181, 0, 1, 27, 133, 9, 20, 0, 95, 184, 0, 81, 153, 0, 13, 28, 133, 9, 10, 184, 0, 81]
abbrev dktX6_share_0 : List UInt8 := dkwX6_share_0 ++ dktX6_share_1
theorem dksX6_share_0 : cX6_share.data.toList.drop 0 = dktX6_share_0 := by decide +kernel
theorem dksX6_share_1 : cX6_share.data.toList.drop 24 = dktX6_share_1 := dk_seg dksX6_share_0 24 rfl rfl
theorem dksX6_share_2 : cX6_share.data.toList.drop 48 = dktX6_share_2 := dk_seg dksX6_share_1 24 rfl rfl
theorem dksX6_share_3 : cX6_share.data.toList.drop 72 = dktX6_share_3 := dk_seg dksX6_share_2 24 rfl rfl
theorem dX6_share_0 : decode cX6_share 0 = .ok (.aload_n 0, 1) := dk_42 (dk_at dksX6_share_0 0 rfl rfl)
theorem dX6_share_1 : decode cX6_share 1 = .ok (.iconst 0, 1) := dk_3 (dk_at dksX6_share_0 1 rfl rfl)
theorem dX6_share_2 : decode cX6_share 2 = .ok (.putfield 1, 3) := dk_181 0 1 (dk_at dksX6_share_0 2 rfl rfl)
theorem dX6_share_5 : decode cX6_share 5 = .ok (.iload_n 1, 1) := dk_27 (dk_at dksX6_share_0 5 rfl rfl)
theorem dX6_share_6 : decode cX6_share 6 = .ok (.i2l, 1) := dk_133 (dk_at dksX6_share_0 6 rfl rfl)
theorem dX6_share_7 : decode cX6_share 7 = .ok (.lconst 0, 1) := dk_9 (dk_at dksX6_share_0 7 rfl rfl)
theorem dX6_share_8 : decode cX6_share 8 = .ok (.ldc2_w 95, 3) := dk_20 0 95 (dk_at dksX6_share_0 8 rfl rfl)
theorem dX6_share_11 : decode cX6_share 11 = .ok (.invokestatic 81, 3) := dk_184 0 81 (dk_at dksX6_share_0 11 rfl rfl)
theorem dX6_share_14 : decode cX6_share 14 = .ok (.ifCond .eq 13, 3) := dk_153 0 13 (dk_at dksX6_share_0 14 rfl rfl)
theorem dX6_share_17 : decode cX6_share 17 = .ok (.iload_n 2, 1) := dk_28 (dk_at dksX6_share_0 17 rfl rfl)
theorem dX6_share_18 : decode cX6_share 18 = .ok (.i2l, 1) := dk_133 (dk_at dksX6_share_0 18 rfl rfl)
theorem dX6_share_19 : decode cX6_share 19 = .ok (.lconst 0, 1) := dk_9 (dk_at dksX6_share_0 19 rfl rfl)
theorem dX6_share_20 : decode cX6_share 20 = .ok (.lconst 1, 1) := dk_10 (dk_at dksX6_share_0 20 rfl rfl)
theorem dX6_share_21 : decode cX6_share 21 = .ok (.invokestatic 81, 3) := dk_184 0 81 (dk_at dksX6_share_0 21 rfl rfl)
theorem dX6_share_24 : decode cX6_share 24 = .ok (.ifCond .ne 10, 3) := dk_154 0 10 (dk_at dksX6_share_1 0 rfl rfl)
theorem dX6_share_27 : decode cX6_share 27 = .ok (.aload_n 0, 1) := dk_42 (dk_at dksX6_share_1 3 rfl rfl)
theorem dX6_share_28 : decode cX6_share 28 = .ok (.bipush (-2), 2) := dk_16 254 (dk_at dksX6_share_1 4 rfl rfl)
theorem dX6_share_30 : decode cX6_share 30 = .ok (.invokevirtual 85, 3) := dk_182 0 85 (dk_at dksX6_share_1 6 rfl rfl)
theorem dX6_share_33 : decode cX6_share 33 = .ok (.ireturn, 1) := dk_172 (dk_at dksX6_share_1 9 rfl rfl)
theorem dX6_share_34 : decode cX6_share 34 = .ok (.aload_n 0, 1) := dk_42 (dk_at dksX6_share_1 10 rfl rfl)
theorem dX6_share_35 : decode cX6_share 35 = .ok (.getfield 17, 3) := dk_180 0 17 (dk_at dksX6_share_1 11 rfl rfl)
theorem dX6_share_38 : decode cX6_share 38 = .ok (.sipush 162, 3) := dk_17 0 162 (dk_at dksX6_share_1 14 rfl rfl)
theorem dX6_share_41 : decode cX6_share 41 = .ok (.iaload, 1) := dk_46 (dk_at dksX6_share_1 17 rfl rfl)
theorem dX6_share_42 : decode cX6_share 42 = .ok (.ifCond .ne 10, 3) := dk_154 0 10 (dk_at dksX6_share_1 18 rfl rfl)
theorem dX6_share_45 : decode cX6_share 45 = .ok (.aload_n 0, 1) := dk_42 (dk_at dksX6_share_1 21 rfl rfl)
theorem dX6_share_46 : decode cX6_share 46 = .ok (.bipush (-5), 2) := dk_16 251 (dk_at dksX6_share_1 22 rfl rfl)
theorem dX6_share_48 : decode cX6_share 48 = .ok (.invokevirtual 85, 3) := dk_182 0 85 (dk_at dksX6_share_2 0 rfl rfl)
theorem dX6_share_51 : decode cX6_share 51 = .ok (.ireturn, 1) := dk_172 (dk_at dksX6_share_2 3 rfl rfl)
theorem dX6_share_52 : decode cX6_share 52 = .ok (.aload_n 0, 1) := dk_42 (dk_at dksX6_share_2 4 rfl rfl)
theorem dX6_share_53 : decode cX6_share 53 = .ok (.invokevirtual 282, 3) := dk_182 1 26 (dk_at dksX6_share_2 5 rfl rfl)
theorem dX6_share_56 : decode cX6_share 56 = .ok (.iload_n 2, 1) := dk_28 (dk_at dksX6_share_2 8 rfl rfl)
theorem dX6_share_57 : decode cX6_share 57 = .ok (.ifCond .ne 12, 3) := dk_154 0 12 (dk_at dksX6_share_2 9 rfl rfl)
theorem dX6_share_60 : decode cX6_share 60 = .ok (.aload_n 0, 1) := dk_42 (dk_at dksX6_share_2 12 rfl rfl)
theorem dX6_share_61 : decode cX6_share 61 = .ok (.getfield 58, 3) := dk_180 0 58 (dk_at dksX6_share_2 13 rfl rfl)
theorem dX6_share_64 : decode cX6_share 64 = .ok (.iload_n 1, 1) := dk_27 (dk_at dksX6_share_2 16 rfl rfl)
theorem dX6_share_65 : decode cX6_share 65 = .ok (.iaload, 1) := dk_46 (dk_at dksX6_share_2 17 rfl rfl)
theorem dX6_share_66 : decode cX6_share 66 = .ok (.goto 22, 3) := dk_167 0 22 (dk_at dksX6_share_2 18 rfl rfl)
theorem dX6_share_69 : decode cX6_share 69 = .ok (.sipush 1000, 3) := dk_17 3 232 (dk_at dksX6_share_2 21 rfl rfl)
theorem dX6_share_72 : decode cX6_share 72 = .ok (.aload_n 0, 1) := dk_42 (dk_at dksX6_share_3 0 rfl rfl)
theorem dX6_share_73 : decode cX6_share 73 = .ok (.getfield 58, 3) := dk_180 0 58 (dk_at dksX6_share_3 1 rfl rfl)
theorem dX6_share_76 : decode cX6_share 76 = .ok (.iload_n 1, 1) := dk_27 (dk_at dksX6_share_3 4 rfl rfl)
theorem dX6_share_77 : decode cX6_share 77 = .ok (.iaload, 1) := dk_46 (dk_at dksX6_share_3 5 rfl rfl)
theorem dX6_share_78 : decode cX6_share 78 = .ok (.imul, 1) := dk_104 (dk_at dksX6_share_3 6 rfl rfl)
theorem dX6_share_79 : decode cX6_share 79 = .ok (.aload_n 0, 1) := dk_42 (dk_at dksX6_share_3 7 rfl rfl)
theorem dX6_share_80 : decode cX6_share 80 = .ok (.getfield 17, 3) := dk_180 0 17 (dk_at dksX6_share_3 8 rfl rfl)
theorem dX6_share_83 : decode cX6_share 83 = .ok (.sipush 162, 3) := dk_17 0 162 (dk_at dksX6_share_3 11 rfl rfl)
theorem dX6_share_86 : decode cX6_share 86 = .ok (.iaload, 1) := dk_46 (dk_at dksX6_share_3 14 rfl rfl)
theorem dX6_share_87 : decode cX6_share 87 = .ok (.idiv, 1) := dk_108 (dk_at dksX6_share_3 15 rfl rfl)
theorem dX6_share_88 : decode cX6_share 88 = .ok (.ireturn, 1) := dk_172 (dk_at dksX6_share_3 16 rfl rfl)
abbrev cX6_counts : ByteArray := prog_28_method_55_code
def yX6_counts : MethodName := ⟨RX6, "counts", "()V"⟩
def dkwX6_counts_2 : List UInt8 := [182, 1, 16, 92, 46, 4, 96, 79, 132, 1, 1, 167, 255, 227, 177]
abbrev dktX6_counts_2 : List UInt8 := dkwX6_counts_2 ++ []
def dkwX6_counts_1 : List UInt8 := [167, 255, 240, 3, 60, 27, 42, 180, 0, 17, 17, 0, 162, 46, 162, 0, 23, 42, 180, 0, 58, 42, 27]
abbrev dktX6_counts_1 : List UInt8 := dkwX6_counts_1 ++ dktX6_counts_2
def dkwX6_counts_0 : List UInt8 := [42, 182, 1, 13, 3, 60, 27, 16, 6, 162, 0, 16, 42, 180, 0, 58, 27, 3, 79, 132, 1, 1]
abbrev dktX6_counts_0 : List UInt8 := dkwX6_counts_0 ++ dktX6_counts_1
theorem dksX6_counts_0 : cX6_counts.data.toList.drop 0 = dktX6_counts_0 := by decide +kernel
theorem dksX6_counts_1 : cX6_counts.data.toList.drop 22 = dktX6_counts_1 := dk_seg dksX6_counts_0 22 rfl rfl
theorem dksX6_counts_2 : cX6_counts.data.toList.drop 45 = dktX6_counts_2 := dk_seg dksX6_counts_1 23 rfl rfl
theorem dX6_counts_0 : decode cX6_counts 0 = .ok (.aload_n 0, 1) := dk_42 (dk_at dksX6_counts_0 0 rfl rfl)
theorem dX6_counts_1 : decode cX6_counts 1 = .ok (.invokevirtual 269, 3) := dk_182 1 13 (dk_at dksX6_counts_0 1 rfl rfl)
theorem dX6_counts_4 : decode cX6_counts 4 = .ok (.iconst 0, 1) := dk_3 (dk_at dksX6_counts_0 4 rfl rfl)
theorem dX6_counts_5 : decode cX6_counts 5 = .ok (.istore_n 1, 1) := dk_60 (dk_at dksX6_counts_0 5 rfl rfl)
theorem dX6_counts_6 : decode cX6_counts 6 = .ok (.iload_n 1, 1) := dk_27 (dk_at dksX6_counts_0 6 rfl rfl)
theorem dX6_counts_7 : decode cX6_counts 7 = .ok (.bipush 6, 2) := dk_16 6 (dk_at dksX6_counts_0 7 rfl rfl)
theorem dX6_counts_9 : decode cX6_counts 9 = .ok (.if_icmp .ge 16, 3) := dk_162 0 16 (dk_at dksX6_counts_0 9 rfl rfl)
theorem dX6_counts_12 : decode cX6_counts 12 = .ok (.aload_n 0, 1) := dk_42 (dk_at dksX6_counts_0 12 rfl rfl)
theorem dX6_counts_13 : decode cX6_counts 13 = .ok (.getfield 58, 3) := dk_180 0 58 (dk_at dksX6_counts_0 13 rfl rfl)
theorem dX6_counts_16 : decode cX6_counts 16 = .ok (.iload_n 1, 1) := dk_27 (dk_at dksX6_counts_0 16 rfl rfl)
theorem dX6_counts_17 : decode cX6_counts 17 = .ok (.iconst 0, 1) := dk_3 (dk_at dksX6_counts_0 17 rfl rfl)
theorem dX6_counts_18 : decode cX6_counts 18 = .ok (.iastore, 1) := dk_79 (dk_at dksX6_counts_0 18 rfl rfl)
theorem dX6_counts_19 : decode cX6_counts 19 = .ok (.iinc 1 1, 3) := dk_132 1 1 (dk_at dksX6_counts_0 19 rfl rfl)
theorem dX6_counts_22 : decode cX6_counts 22 = .ok (.goto (-16), 3) := dk_167 255 240 (dk_at dksX6_counts_1 0 rfl rfl)
theorem dX6_counts_25 : decode cX6_counts 25 = .ok (.iconst 0, 1) := dk_3 (dk_at dksX6_counts_1 3 rfl rfl)
theorem dX6_counts_26 : decode cX6_counts 26 = .ok (.istore_n 1, 1) := dk_60 (dk_at dksX6_counts_1 4 rfl rfl)
theorem dX6_counts_27 : decode cX6_counts 27 = .ok (.iload_n 1, 1) := dk_27 (dk_at dksX6_counts_1 5 rfl rfl)
theorem dX6_counts_28 : decode cX6_counts 28 = .ok (.aload_n 0, 1) := dk_42 (dk_at dksX6_counts_1 6 rfl rfl)
theorem dX6_counts_29 : decode cX6_counts 29 = .ok (.getfield 17, 3) := dk_180 0 17 (dk_at dksX6_counts_1 7 rfl rfl)
theorem dX6_counts_32 : decode cX6_counts 32 = .ok (.sipush 162, 3) := dk_17 0 162 (dk_at dksX6_counts_1 10 rfl rfl)
theorem dX6_counts_35 : decode cX6_counts 35 = .ok (.iaload, 1) := dk_46 (dk_at dksX6_counts_1 13 rfl rfl)
theorem dX6_counts_36 : decode cX6_counts 36 = .ok (.if_icmp .ge 23, 3) := dk_162 0 23 (dk_at dksX6_counts_1 14 rfl rfl)
theorem dX6_counts_39 : decode cX6_counts 39 = .ok (.aload_n 0, 1) := dk_42 (dk_at dksX6_counts_1 17 rfl rfl)
theorem dX6_counts_40 : decode cX6_counts 40 = .ok (.getfield 58, 3) := dk_180 0 58 (dk_at dksX6_counts_1 18 rfl rfl)
theorem dX6_counts_43 : decode cX6_counts 43 = .ok (.aload_n 0, 1) := dk_42 (dk_at dksX6_counts_1 21 rfl rfl)
theorem dX6_counts_44 : decode cX6_counts 44 = .ok (.iload_n 1, 1) := dk_27 (dk_at dksX6_counts_1 22 rfl rfl)
theorem dX6_counts_45 : decode cX6_counts 45 = .ok (.invokevirtual 272, 3) := dk_182 1 16 (dk_at dksX6_counts_2 0 rfl rfl)
theorem dX6_counts_48 : decode cX6_counts 48 = .ok (.dup2, 1) := dk_92 (dk_at dksX6_counts_2 3 rfl rfl)
theorem dX6_counts_49 : decode cX6_counts 49 = .ok (.iaload, 1) := dk_46 (dk_at dksX6_counts_2 4 rfl rfl)
theorem dX6_counts_50 : decode cX6_counts 50 = .ok (.iconst 1, 1) := dk_4 (dk_at dksX6_counts_2 5 rfl rfl)
theorem dX6_counts_51 : decode cX6_counts 51 = .ok (.iadd, 1) := dk_96 (dk_at dksX6_counts_2 6 rfl rfl)
theorem dX6_counts_52 : decode cX6_counts 52 = .ok (.iastore, 1) := dk_79 (dk_at dksX6_counts_2 7 rfl rfl)
theorem dX6_counts_53 : decode cX6_counts 53 = .ok (.iinc 1 1, 3) := dk_132 1 1 (dk_at dksX6_counts_2 8 rfl rfl)
theorem dX6_counts_56 : decode cX6_counts 56 = .ok (.goto (-29), 3) := dk_167 255 227 (dk_at dksX6_counts_2 11 rfl rfl)
theorem dX6_counts_59 : decode cX6_counts 59 = .ok (.return_, 1) := dk_177 (dk_at dksX6_counts_2 14 rfl rfl)
abbrev cX6_span : ByteArray := prog_28_method_57_code
def yX6_span : MethodName := ⟨RX6, "span", "(I)I"⟩
def dkwX6_span_4 : List UInt8 := [172]
abbrev dktX6_span_4 : List UInt8 := dkwX6_span_4 ++ []
def dkwX6_span_3 : List UInt8 := [160, 0, 12, 42, 180, 0, 58, 7, 46, 167, 0, 4, 3, 96, 104, 42, 180, 0, 17, 17, 0, 162, 46, 108]
abbrev dktX6_span_3 : List UInt8 := dkwX6_span_3 ++ dktX6_span_4
def dkwX6_span_2 : List UInt8 := [42, 180, 0, 58, 3, 46, 42, 180, 0, 58, 4, 46, 96, 42, 180, 0, 58, 5, 46, 96, 27, 4]
abbrev dktX6_span_2 : List UInt8 := dkwX6_span_2 ++ dktX6_span_3
def dkwX6_span_1 : List UInt8 := [180, 0, 17, 17, 0, 162, 46, 154, 0, 10, 42, 16, 251, 182, 0, 85, 172, 42, 182, 1, 26, 17, 3, 232]
abbrev dktX6_span_1 : List UInt8 := dkwX6_span_1 ++ dktX6_span_2
def dkwX6_span_0 : List UInt8 := [42, 3, 181, 0, 1, 27, 133, 9, 10, 184, 0, 81, 154, 0, 10, 42, 16, 254, 182, 0, 85, 172, 42]
abbrev dktX6_span_0 : List UInt8 := dkwX6_span_0 ++ dktX6_span_1
theorem dksX6_span_0 : cX6_span.data.toList.drop 0 = dktX6_span_0 := by decide +kernel
theorem dksX6_span_1 : cX6_span.data.toList.drop 23 = dktX6_span_1 := dk_seg dksX6_span_0 23 rfl rfl
theorem dksX6_span_2 : cX6_span.data.toList.drop 47 = dktX6_span_2 := dk_seg dksX6_span_1 24 rfl rfl
theorem dksX6_span_3 : cX6_span.data.toList.drop 69 = dktX6_span_3 := dk_seg dksX6_span_2 22 rfl rfl
theorem dksX6_span_4 : cX6_span.data.toList.drop 93 = dktX6_span_4 := dk_seg dksX6_span_3 24 rfl rfl
theorem dX6_span_0 : decode cX6_span 0 = .ok (.aload_n 0, 1) := dk_42 (dk_at dksX6_span_0 0 rfl rfl)
theorem dX6_span_1 : decode cX6_span 1 = .ok (.iconst 0, 1) := dk_3 (dk_at dksX6_span_0 1 rfl rfl)
theorem dX6_span_2 : decode cX6_span 2 = .ok (.putfield 1, 3) := dk_181 0 1 (dk_at dksX6_span_0 2 rfl rfl)
theorem dX6_span_5 : decode cX6_span 5 = .ok (.iload_n 1, 1) := dk_27 (dk_at dksX6_span_0 5 rfl rfl)
theorem dX6_span_6 : decode cX6_span 6 = .ok (.i2l, 1) := dk_133 (dk_at dksX6_span_0 6 rfl rfl)
theorem dX6_span_7 : decode cX6_span 7 = .ok (.lconst 0, 1) := dk_9 (dk_at dksX6_span_0 7 rfl rfl)
theorem dX6_span_8 : decode cX6_span 8 = .ok (.lconst 1, 1) := dk_10 (dk_at dksX6_span_0 8 rfl rfl)
theorem dX6_span_9 : decode cX6_span 9 = .ok (.invokestatic 81, 3) := dk_184 0 81 (dk_at dksX6_span_0 9 rfl rfl)
theorem dX6_span_12 : decode cX6_span 12 = .ok (.ifCond .ne 10, 3) := dk_154 0 10 (dk_at dksX6_span_0 12 rfl rfl)
theorem dX6_span_15 : decode cX6_span 15 = .ok (.aload_n 0, 1) := dk_42 (dk_at dksX6_span_0 15 rfl rfl)
theorem dX6_span_16 : decode cX6_span 16 = .ok (.bipush (-2), 2) := dk_16 254 (dk_at dksX6_span_0 16 rfl rfl)
theorem dX6_span_18 : decode cX6_span 18 = .ok (.invokevirtual 85, 3) := dk_182 0 85 (dk_at dksX6_span_0 18 rfl rfl)
theorem dX6_span_21 : decode cX6_span 21 = .ok (.ireturn, 1) := dk_172 (dk_at dksX6_span_0 21 rfl rfl)
theorem dX6_span_22 : decode cX6_span 22 = .ok (.aload_n 0, 1) := dk_42 (dk_at dksX6_span_0 22 rfl rfl)
theorem dX6_span_23 : decode cX6_span 23 = .ok (.getfield 17, 3) := dk_180 0 17 (dk_at dksX6_span_1 0 rfl rfl)
theorem dX6_span_26 : decode cX6_span 26 = .ok (.sipush 162, 3) := dk_17 0 162 (dk_at dksX6_span_1 3 rfl rfl)
theorem dX6_span_29 : decode cX6_span 29 = .ok (.iaload, 1) := dk_46 (dk_at dksX6_span_1 6 rfl rfl)
theorem dX6_span_30 : decode cX6_span 30 = .ok (.ifCond .ne 10, 3) := dk_154 0 10 (dk_at dksX6_span_1 7 rfl rfl)
theorem dX6_span_33 : decode cX6_span 33 = .ok (.aload_n 0, 1) := dk_42 (dk_at dksX6_span_1 10 rfl rfl)
theorem dX6_span_34 : decode cX6_span 34 = .ok (.bipush (-5), 2) := dk_16 251 (dk_at dksX6_span_1 11 rfl rfl)
theorem dX6_span_36 : decode cX6_span 36 = .ok (.invokevirtual 85, 3) := dk_182 0 85 (dk_at dksX6_span_1 13 rfl rfl)
theorem dX6_span_39 : decode cX6_span 39 = .ok (.ireturn, 1) := dk_172 (dk_at dksX6_span_1 16 rfl rfl)
theorem dX6_span_40 : decode cX6_span 40 = .ok (.aload_n 0, 1) := dk_42 (dk_at dksX6_span_1 17 rfl rfl)
theorem dX6_span_41 : decode cX6_span 41 = .ok (.invokevirtual 282, 3) := dk_182 1 26 (dk_at dksX6_span_1 18 rfl rfl)
theorem dX6_span_44 : decode cX6_span 44 = .ok (.sipush 1000, 3) := dk_17 3 232 (dk_at dksX6_span_1 21 rfl rfl)
theorem dX6_span_47 : decode cX6_span 47 = .ok (.aload_n 0, 1) := dk_42 (dk_at dksX6_span_2 0 rfl rfl)
theorem dX6_span_48 : decode cX6_span 48 = .ok (.getfield 58, 3) := dk_180 0 58 (dk_at dksX6_span_2 1 rfl rfl)
theorem dX6_span_51 : decode cX6_span 51 = .ok (.iconst 0, 1) := dk_3 (dk_at dksX6_span_2 4 rfl rfl)
theorem dX6_span_52 : decode cX6_span 52 = .ok (.iaload, 1) := dk_46 (dk_at dksX6_span_2 5 rfl rfl)
theorem dX6_span_53 : decode cX6_span 53 = .ok (.aload_n 0, 1) := dk_42 (dk_at dksX6_span_2 6 rfl rfl)
theorem dX6_span_54 : decode cX6_span 54 = .ok (.getfield 58, 3) := dk_180 0 58 (dk_at dksX6_span_2 7 rfl rfl)
theorem dX6_span_57 : decode cX6_span 57 = .ok (.iconst 1, 1) := dk_4 (dk_at dksX6_span_2 10 rfl rfl)
theorem dX6_span_58 : decode cX6_span 58 = .ok (.iaload, 1) := dk_46 (dk_at dksX6_span_2 11 rfl rfl)
theorem dX6_span_59 : decode cX6_span 59 = .ok (.iadd, 1) := dk_96 (dk_at dksX6_span_2 12 rfl rfl)
theorem dX6_span_60 : decode cX6_span 60 = .ok (.aload_n 0, 1) := dk_42 (dk_at dksX6_span_2 13 rfl rfl)
theorem dX6_span_61 : decode cX6_span 61 = .ok (.getfield 58, 3) := dk_180 0 58 (dk_at dksX6_span_2 14 rfl rfl)
theorem dX6_span_64 : decode cX6_span 64 = .ok (.iconst 2, 1) := dk_5 (dk_at dksX6_span_2 17 rfl rfl)
theorem dX6_span_65 : decode cX6_span 65 = .ok (.iaload, 1) := dk_46 (dk_at dksX6_span_2 18 rfl rfl)
theorem dX6_span_66 : decode cX6_span 66 = .ok (.iadd, 1) := dk_96 (dk_at dksX6_span_2 19 rfl rfl)
theorem dX6_span_67 : decode cX6_span 67 = .ok (.iload_n 1, 1) := dk_27 (dk_at dksX6_span_2 20 rfl rfl)
theorem dX6_span_68 : decode cX6_span 68 = .ok (.iconst 1, 1) := dk_4 (dk_at dksX6_span_2 21 rfl rfl)
theorem dX6_span_69 : decode cX6_span 69 = .ok (.if_icmp .ne 12, 3) := dk_160 0 12 (dk_at dksX6_span_3 0 rfl rfl)
theorem dX6_span_72 : decode cX6_span 72 = .ok (.aload_n 0, 1) := dk_42 (dk_at dksX6_span_3 3 rfl rfl)
theorem dX6_span_73 : decode cX6_span 73 = .ok (.getfield 58, 3) := dk_180 0 58 (dk_at dksX6_span_3 4 rfl rfl)
theorem dX6_span_76 : decode cX6_span 76 = .ok (.iconst 4, 1) := dk_7 (dk_at dksX6_span_3 7 rfl rfl)
theorem dX6_span_77 : decode cX6_span 77 = .ok (.iaload, 1) := dk_46 (dk_at dksX6_span_3 8 rfl rfl)
theorem dX6_span_78 : decode cX6_span 78 = .ok (.goto 4, 3) := dk_167 0 4 (dk_at dksX6_span_3 9 rfl rfl)
theorem dX6_span_81 : decode cX6_span 81 = .ok (.iconst 0, 1) := dk_3 (dk_at dksX6_span_3 12 rfl rfl)
theorem dX6_span_82 : decode cX6_span 82 = .ok (.iadd, 1) := dk_96 (dk_at dksX6_span_3 13 rfl rfl)
theorem dX6_span_83 : decode cX6_span 83 = .ok (.imul, 1) := dk_104 (dk_at dksX6_span_3 14 rfl rfl)
theorem dX6_span_84 : decode cX6_span 84 = .ok (.aload_n 0, 1) := dk_42 (dk_at dksX6_span_3 15 rfl rfl)
theorem dX6_span_85 : decode cX6_span 85 = .ok (.getfield 17, 3) := dk_180 0 17 (dk_at dksX6_span_3 16 rfl rfl)
theorem dX6_span_88 : decode cX6_span 88 = .ok (.sipush 162, 3) := dk_17 0 162 (dk_at dksX6_span_3 19 rfl rfl)
theorem dX6_span_91 : decode cX6_span 91 = .ok (.iaload, 1) := dk_46 (dk_at dksX6_span_3 22 rfl rfl)
theorem dX6_span_92 : decode cX6_span 92 = .ok (.idiv, 1) := dk_108 (dk_at dksX6_span_3 23 rfl rfl)
theorem dX6_span_93 : decode cX6_span 93 = .ok (.ireturn, 1) := dk_172 (dk_at dksX6_span_4 0 rfl rfl)
abbrev cX6_chance : ByteArray := prog_28_method_61_code
def yX6_chance : MethodName := ⟨RX6, "chance", "(II)I"⟩
def dkwX6_chance_2 : List UInt8 := [180, 1, 35, 133, 42, 180, 1, 32, 133, 28, 184, 1, 42, 136, 172]
abbrev dktX6_chance_2 : List UInt8 := dkwX6_chance_2 ++ []
def dkwX6_chance_1 : List UInt8 := [10, 20, 0, 105, 184, 0, 81, 154, 0, 10, 42, 16, 253, 182, 0, 85, 172, 42, 27, 4, 182, 1, 38, 42]
abbrev dktX6_chance_1 : List UInt8 := dkwX6_chance_1 ++ dktX6_chance_2
def dkwX6_chance_0 : List UInt8 := [42, 3, 181, 0, 1, 28, 133, 9, 10, 184, 0, 81, 154, 0, 10, 42, 16, 254, 182, 0, 85, 172, 27, 133]
abbrev dktX6_chance_0 : List UInt8 := dkwX6_chance_0 ++ dktX6_chance_1
theorem dksX6_chance_0 : cX6_chance.data.toList.drop 0 = dktX6_chance_0 := by decide +kernel
theorem dksX6_chance_1 : cX6_chance.data.toList.drop 24 = dktX6_chance_1 := dk_seg dksX6_chance_0 24 rfl rfl
theorem dksX6_chance_2 : cX6_chance.data.toList.drop 48 = dktX6_chance_2 := dk_seg dksX6_chance_1 24 rfl rfl
theorem dX6_chance_0 : decode cX6_chance 0 = .ok (.aload_n 0, 1) := dk_42 (dk_at dksX6_chance_0 0 rfl rfl)
theorem dX6_chance_1 : decode cX6_chance 1 = .ok (.iconst 0, 1) := dk_3 (dk_at dksX6_chance_0 1 rfl rfl)
theorem dX6_chance_2 : decode cX6_chance 2 = .ok (.putfield 1, 3) := dk_181 0 1 (dk_at dksX6_chance_0 2 rfl rfl)
theorem dX6_chance_5 : decode cX6_chance 5 = .ok (.iload_n 2, 1) := dk_28 (dk_at dksX6_chance_0 5 rfl rfl)
theorem dX6_chance_6 : decode cX6_chance 6 = .ok (.i2l, 1) := dk_133 (dk_at dksX6_chance_0 6 rfl rfl)
theorem dX6_chance_7 : decode cX6_chance 7 = .ok (.lconst 0, 1) := dk_9 (dk_at dksX6_chance_0 7 rfl rfl)
theorem dX6_chance_8 : decode cX6_chance 8 = .ok (.lconst 1, 1) := dk_10 (dk_at dksX6_chance_0 8 rfl rfl)
theorem dX6_chance_9 : decode cX6_chance 9 = .ok (.invokestatic 81, 3) := dk_184 0 81 (dk_at dksX6_chance_0 9 rfl rfl)
theorem dX6_chance_12 : decode cX6_chance 12 = .ok (.ifCond .ne 10, 3) := dk_154 0 10 (dk_at dksX6_chance_0 12 rfl rfl)
theorem dX6_chance_15 : decode cX6_chance 15 = .ok (.aload_n 0, 1) := dk_42 (dk_at dksX6_chance_0 15 rfl rfl)
theorem dX6_chance_16 : decode cX6_chance 16 = .ok (.bipush (-2), 2) := dk_16 254 (dk_at dksX6_chance_0 16 rfl rfl)
theorem dX6_chance_18 : decode cX6_chance 18 = .ok (.invokevirtual 85, 3) := dk_182 0 85 (dk_at dksX6_chance_0 18 rfl rfl)
theorem dX6_chance_21 : decode cX6_chance 21 = .ok (.ireturn, 1) := dk_172 (dk_at dksX6_chance_0 21 rfl rfl)
theorem dX6_chance_22 : decode cX6_chance 22 = .ok (.iload_n 1, 1) := dk_27 (dk_at dksX6_chance_0 22 rfl rfl)
theorem dX6_chance_23 : decode cX6_chance 23 = .ok (.i2l, 1) := dk_133 (dk_at dksX6_chance_0 23 rfl rfl)
theorem dX6_chance_24 : decode cX6_chance 24 = .ok (.lconst 1, 1) := dk_10 (dk_at dksX6_chance_1 0 rfl rfl)
theorem dX6_chance_25 : decode cX6_chance 25 = .ok (.ldc2_w 105, 3) := dk_20 0 105 (dk_at dksX6_chance_1 1 rfl rfl)
theorem dX6_chance_28 : decode cX6_chance 28 = .ok (.invokestatic 81, 3) := dk_184 0 81 (dk_at dksX6_chance_1 4 rfl rfl)
theorem dX6_chance_31 : decode cX6_chance 31 = .ok (.ifCond .ne 10, 3) := dk_154 0 10 (dk_at dksX6_chance_1 7 rfl rfl)
theorem dX6_chance_34 : decode cX6_chance 34 = .ok (.aload_n 0, 1) := dk_42 (dk_at dksX6_chance_1 10 rfl rfl)
theorem dX6_chance_35 : decode cX6_chance 35 = .ok (.bipush (-3), 2) := dk_16 253 (dk_at dksX6_chance_1 11 rfl rfl)
theorem dX6_chance_37 : decode cX6_chance 37 = .ok (.invokevirtual 85, 3) := dk_182 0 85 (dk_at dksX6_chance_1 13 rfl rfl)
theorem dX6_chance_40 : decode cX6_chance 40 = .ok (.ireturn, 1) := dk_172 (dk_at dksX6_chance_1 16 rfl rfl)
theorem dX6_chance_41 : decode cX6_chance 41 = .ok (.aload_n 0, 1) := dk_42 (dk_at dksX6_chance_1 17 rfl rfl)
theorem dX6_chance_42 : decode cX6_chance 42 = .ok (.iload_n 1, 1) := dk_27 (dk_at dksX6_chance_1 18 rfl rfl)
theorem dX6_chance_43 : decode cX6_chance 43 = .ok (.iconst 1, 1) := dk_4 (dk_at dksX6_chance_1 19 rfl rfl)
theorem dX6_chance_44 : decode cX6_chance 44 = .ok (.invokevirtual 294, 3) := dk_182 1 38 (dk_at dksX6_chance_1 20 rfl rfl)
theorem dX6_chance_47 : decode cX6_chance 47 = .ok (.aload_n 0, 1) := dk_42 (dk_at dksX6_chance_1 23 rfl rfl)
theorem dX6_chance_48 : decode cX6_chance 48 = .ok (.getfield 291, 3) := dk_180 1 35 (dk_at dksX6_chance_2 0 rfl rfl)
theorem dX6_chance_51 : decode cX6_chance 51 = .ok (.i2l, 1) := dk_133 (dk_at dksX6_chance_2 3 rfl rfl)
theorem dX6_chance_52 : decode cX6_chance 52 = .ok (.aload_n 0, 1) := dk_42 (dk_at dksX6_chance_2 4 rfl rfl)
theorem dX6_chance_53 : decode cX6_chance 53 = .ok (.getfield 288, 3) := dk_180 1 32 (dk_at dksX6_chance_2 5 rfl rfl)
theorem dX6_chance_56 : decode cX6_chance 56 = .ok (.i2l, 1) := dk_133 (dk_at dksX6_chance_2 8 rfl rfl)
theorem dX6_chance_57 : decode cX6_chance 57 = .ok (.iload_n 2, 1) := dk_28 (dk_at dksX6_chance_2 9 rfl rfl)
theorem dX6_chance_58 : decode cX6_chance 58 = .ok (.invokestatic 298, 3) := dk_184 1 42 (dk_at dksX6_chance_2 10 rfl rfl)
theorem dX6_chance_61 : decode cX6_chance 61 = .ok (.l2i, 1) := dk_136 (dk_at dksX6_chance_2 13 rfl rfl)
theorem dX6_chance_62 : decode cX6_chance 62 = .ok (.ireturn, 1) := dk_172 (dk_at dksX6_chance_2 14 rfl rfl)
abbrev cX6_meets : ByteArray := prog_28_method_60_code
def yX6_meets : MethodName := ⟨RX6, "meets", "(IZ)V"⟩
def dkwX6_meets_9 : List UInt8 := [167, 255, 56, 177]
abbrev dktX6_meets_9 : List UInt8 := dkwX6_meets_9 ++ []
def dkwX6_meets_8 : List UInt8 := [4, 167, 0, 4, 3, 96, 181, 1, 35, 132, 7, 1, 167, 255, 179, 132, 5, 1, 167, 255, 100, 132, 3, 1]
abbrev dktX6_meets_8 : List UInt8 := dkwX6_meets_8 ++ dktX6_meets_9
def dkwX6_meets_7 : List UInt8 := [17, 2, 28, 167, 0, 4, 3, 16, 12, 21, 5, 104, 96, 21, 7, 96, 47, 182, 0, 111, 27, 161, 0, 7]
abbrev dktX6_meets_7 : List UInt8 := dkwX6_meets_7 ++ dktX6_meets_8
def dkwX6_meets_6 : List UInt8 := [180, 1, 35, 42, 42, 180, 0, 20, 17, 1, 224, 29, 96, 47, 42, 180, 0, 20, 28, 153, 0, 9]
abbrev dktX6_meets_6 : List UInt8 := dkwX6_meets_6 ++ dktX6_meets_7
def dkwX6_meets_5 : List UInt8 := [54, 6, 3, 54, 7, 21, 7, 21, 6, 162, 0, 76, 42, 89, 180, 1, 32, 4, 96, 181, 1, 32, 42, 89]
abbrev dktX6_meets_5 : List UInt8 := dkwX6_meets_5 ++ dktX6_meets_6
def dkwX6_meets_4 : List UInt8 := [180, 0, 17, 17, 0, 236, 21, 5, 96, 46, 167, 0, 13, 42, 180, 0, 17, 16, 121, 21, 5, 96, 46]
abbrev dktX6_meets_4 : List UInt8 := dkwX6_meets_4 ++ dktX6_meets_5
def dkwX6_meets_3 : List UInt8 := [154, 0, 18, 167, 0, 128, 42, 21, 5, 182, 0, 250, 154, 0, 6, 167, 0, 116, 28, 153, 0, 17, 42]
abbrev dktX6_meets_3 : List UInt8 := dkwX6_meets_3 ++ dktX6_meets_4
def dkwX6_meets_2 : List UInt8 := [54, 5, 21, 5, 21, 4, 162, 0, 155, 28, 153, 0, 20, 42, 180, 0, 17, 17, 0, 224, 21, 5, 96, 46]
abbrev dktX6_meets_2 : List UInt8 := dkwX6_meets_2 ++ dktX6_meets_3
def dkwX6_meets_1 : List UInt8 := [28, 153, 0, 14, 42, 180, 0, 17, 17, 0, 223, 46, 167, 0, 9, 42, 180, 0, 17, 3, 46, 54, 4, 3]
abbrev dktX6_meets_1 : List UInt8 := dkwX6_meets_1 ++ dktX6_meets_2
def dkwX6_meets_0 : List UInt8 := [42, 3, 181, 1, 32, 42, 3, 181, 1, 35, 3, 62, 29, 42, 180, 0, 17, 17, 0, 162, 46, 162, 0, 194]
abbrev dktX6_meets_0 : List UInt8 := dkwX6_meets_0 ++ dktX6_meets_1
theorem dksX6_meets_0 : cX6_meets.data.toList.drop 0 = dktX6_meets_0 := by decide +kernel
theorem dksX6_meets_1 : cX6_meets.data.toList.drop 24 = dktX6_meets_1 := dk_seg dksX6_meets_0 24 rfl rfl
theorem dksX6_meets_2 : cX6_meets.data.toList.drop 48 = dktX6_meets_2 := dk_seg dksX6_meets_1 24 rfl rfl
theorem dksX6_meets_3 : cX6_meets.data.toList.drop 72 = dktX6_meets_3 := dk_seg dksX6_meets_2 24 rfl rfl
theorem dksX6_meets_4 : cX6_meets.data.toList.drop 95 = dktX6_meets_4 := dk_seg dksX6_meets_3 23 rfl rfl
theorem dksX6_meets_5 : cX6_meets.data.toList.drop 118 = dktX6_meets_5 := dk_seg dksX6_meets_4 23 rfl rfl
theorem dksX6_meets_6 : cX6_meets.data.toList.drop 142 = dktX6_meets_6 := dk_seg dksX6_meets_5 24 rfl rfl
theorem dksX6_meets_7 : cX6_meets.data.toList.drop 164 = dktX6_meets_7 := dk_seg dksX6_meets_6 22 rfl rfl
theorem dksX6_meets_8 : cX6_meets.data.toList.drop 188 = dktX6_meets_8 := dk_seg dksX6_meets_7 24 rfl rfl
theorem dksX6_meets_9 : cX6_meets.data.toList.drop 212 = dktX6_meets_9 := dk_seg dksX6_meets_8 24 rfl rfl
theorem dX6_meets_0 : decode cX6_meets 0 = .ok (.aload_n 0, 1) := dk_42 (dk_at dksX6_meets_0 0 rfl rfl)
theorem dX6_meets_1 : decode cX6_meets 1 = .ok (.iconst 0, 1) := dk_3 (dk_at dksX6_meets_0 1 rfl rfl)
theorem dX6_meets_2 : decode cX6_meets 2 = .ok (.putfield 288, 3) := dk_181 1 32 (dk_at dksX6_meets_0 2 rfl rfl)
theorem dX6_meets_5 : decode cX6_meets 5 = .ok (.aload_n 0, 1) := dk_42 (dk_at dksX6_meets_0 5 rfl rfl)
theorem dX6_meets_6 : decode cX6_meets 6 = .ok (.iconst 0, 1) := dk_3 (dk_at dksX6_meets_0 6 rfl rfl)
theorem dX6_meets_7 : decode cX6_meets 7 = .ok (.putfield 291, 3) := dk_181 1 35 (dk_at dksX6_meets_0 7 rfl rfl)
theorem dX6_meets_10 : decode cX6_meets 10 = .ok (.iconst 0, 1) := dk_3 (dk_at dksX6_meets_0 10 rfl rfl)
theorem dX6_meets_11 : decode cX6_meets 11 = .ok (.istore_n 3, 1) := dk_62 (dk_at dksX6_meets_0 11 rfl rfl)
theorem dX6_meets_12 : decode cX6_meets 12 = .ok (.iload_n 3, 1) := dk_29 (dk_at dksX6_meets_0 12 rfl rfl)
theorem dX6_meets_13 : decode cX6_meets 13 = .ok (.aload_n 0, 1) := dk_42 (dk_at dksX6_meets_0 13 rfl rfl)
theorem dX6_meets_14 : decode cX6_meets 14 = .ok (.getfield 17, 3) := dk_180 0 17 (dk_at dksX6_meets_0 14 rfl rfl)
theorem dX6_meets_17 : decode cX6_meets 17 = .ok (.sipush 162, 3) := dk_17 0 162 (dk_at dksX6_meets_0 17 rfl rfl)
theorem dX6_meets_20 : decode cX6_meets 20 = .ok (.iaload, 1) := dk_46 (dk_at dksX6_meets_0 20 rfl rfl)
theorem dX6_meets_21 : decode cX6_meets 21 = .ok (.if_icmp .ge 194, 3) := dk_162 0 194 (dk_at dksX6_meets_0 21 rfl rfl)
theorem dX6_meets_24 : decode cX6_meets 24 = .ok (.iload_n 2, 1) := dk_28 (dk_at dksX6_meets_1 0 rfl rfl)
theorem dX6_meets_25 : decode cX6_meets 25 = .ok (.ifCond .eq 14, 3) := dk_153 0 14 (dk_at dksX6_meets_1 1 rfl rfl)
theorem dX6_meets_28 : decode cX6_meets 28 = .ok (.aload_n 0, 1) := dk_42 (dk_at dksX6_meets_1 4 rfl rfl)
theorem dX6_meets_29 : decode cX6_meets 29 = .ok (.getfield 17, 3) := dk_180 0 17 (dk_at dksX6_meets_1 5 rfl rfl)
theorem dX6_meets_32 : decode cX6_meets 32 = .ok (.sipush 223, 3) := dk_17 0 223 (dk_at dksX6_meets_1 8 rfl rfl)
theorem dX6_meets_35 : decode cX6_meets 35 = .ok (.iaload, 1) := dk_46 (dk_at dksX6_meets_1 11 rfl rfl)
theorem dX6_meets_36 : decode cX6_meets 36 = .ok (.goto 9, 3) := dk_167 0 9 (dk_at dksX6_meets_1 12 rfl rfl)
theorem dX6_meets_39 : decode cX6_meets 39 = .ok (.aload_n 0, 1) := dk_42 (dk_at dksX6_meets_1 15 rfl rfl)
theorem dX6_meets_40 : decode cX6_meets 40 = .ok (.getfield 17, 3) := dk_180 0 17 (dk_at dksX6_meets_1 16 rfl rfl)
theorem dX6_meets_43 : decode cX6_meets 43 = .ok (.iconst 0, 1) := dk_3 (dk_at dksX6_meets_1 19 rfl rfl)
theorem dX6_meets_44 : decode cX6_meets 44 = .ok (.iaload, 1) := dk_46 (dk_at dksX6_meets_1 20 rfl rfl)
theorem dX6_meets_45 : decode cX6_meets 45 = .ok (.istore 4, 2) := dk_54 4 (dk_at dksX6_meets_1 21 rfl rfl)
theorem dX6_meets_47 : decode cX6_meets 47 = .ok (.iconst 0, 1) := dk_3 (dk_at dksX6_meets_1 23 rfl rfl)
theorem dX6_meets_48 : decode cX6_meets 48 = .ok (.istore 5, 2) := dk_54 5 (dk_at dksX6_meets_2 0 rfl rfl)
theorem dX6_meets_50 : decode cX6_meets 50 = .ok (.iload 5, 2) := dk_21 5 (dk_at dksX6_meets_2 2 rfl rfl)
theorem dX6_meets_52 : decode cX6_meets 52 = .ok (.iload 4, 2) := dk_21 4 (dk_at dksX6_meets_2 4 rfl rfl)
theorem dX6_meets_54 : decode cX6_meets 54 = .ok (.if_icmp .ge 155, 3) := dk_162 0 155 (dk_at dksX6_meets_2 6 rfl rfl)
theorem dX6_meets_57 : decode cX6_meets 57 = .ok (.iload_n 2, 1) := dk_28 (dk_at dksX6_meets_2 9 rfl rfl)
theorem dX6_meets_58 : decode cX6_meets 58 = .ok (.ifCond .eq 20, 3) := dk_153 0 20 (dk_at dksX6_meets_2 10 rfl rfl)
theorem dX6_meets_61 : decode cX6_meets 61 = .ok (.aload_n 0, 1) := dk_42 (dk_at dksX6_meets_2 13 rfl rfl)
theorem dX6_meets_62 : decode cX6_meets 62 = .ok (.getfield 17, 3) := dk_180 0 17 (dk_at dksX6_meets_2 14 rfl rfl)
theorem dX6_meets_65 : decode cX6_meets 65 = .ok (.sipush 224, 3) := dk_17 0 224 (dk_at dksX6_meets_2 17 rfl rfl)
theorem dX6_meets_68 : decode cX6_meets 68 = .ok (.iload 5, 2) := dk_21 5 (dk_at dksX6_meets_2 20 rfl rfl)
theorem dX6_meets_70 : decode cX6_meets 70 = .ok (.iadd, 1) := dk_96 (dk_at dksX6_meets_2 22 rfl rfl)
theorem dX6_meets_71 : decode cX6_meets 71 = .ok (.iaload, 1) := dk_46 (dk_at dksX6_meets_2 23 rfl rfl)
theorem dX6_meets_72 : decode cX6_meets 72 = .ok (.ifCond .ne 18, 3) := dk_154 0 18 (dk_at dksX6_meets_3 0 rfl rfl)
theorem dX6_meets_75 : decode cX6_meets 75 = .ok (.goto 128, 3) := dk_167 0 128 (dk_at dksX6_meets_3 3 rfl rfl)
theorem dX6_meets_78 : decode cX6_meets 78 = .ok (.aload_n 0, 1) := dk_42 (dk_at dksX6_meets_3 6 rfl rfl)
theorem dX6_meets_79 : decode cX6_meets 79 = .ok (.iload 5, 2) := dk_21 5 (dk_at dksX6_meets_3 7 rfl rfl)
theorem dX6_meets_81 : decode cX6_meets 81 = .ok (.invokevirtual 250, 3) := dk_182 0 250 (dk_at dksX6_meets_3 9 rfl rfl)
theorem dX6_meets_84 : decode cX6_meets 84 = .ok (.ifCond .ne 6, 3) := dk_154 0 6 (dk_at dksX6_meets_3 12 rfl rfl)
theorem dX6_meets_87 : decode cX6_meets 87 = .ok (.goto 116, 3) := dk_167 0 116 (dk_at dksX6_meets_3 15 rfl rfl)
theorem dX6_meets_90 : decode cX6_meets 90 = .ok (.iload_n 2, 1) := dk_28 (dk_at dksX6_meets_3 18 rfl rfl)
theorem dX6_meets_91 : decode cX6_meets 91 = .ok (.ifCond .eq 17, 3) := dk_153 0 17 (dk_at dksX6_meets_3 19 rfl rfl)
theorem dX6_meets_94 : decode cX6_meets 94 = .ok (.aload_n 0, 1) := dk_42 (dk_at dksX6_meets_3 22 rfl rfl)
theorem dX6_meets_95 : decode cX6_meets 95 = .ok (.getfield 17, 3) := dk_180 0 17 (dk_at dksX6_meets_4 0 rfl rfl)
theorem dX6_meets_98 : decode cX6_meets 98 = .ok (.sipush 236, 3) := dk_17 0 236 (dk_at dksX6_meets_4 3 rfl rfl)
theorem dX6_meets_101 : decode cX6_meets 101 = .ok (.iload 5, 2) := dk_21 5 (dk_at dksX6_meets_4 6 rfl rfl)
theorem dX6_meets_103 : decode cX6_meets 103 = .ok (.iadd, 1) := dk_96 (dk_at dksX6_meets_4 8 rfl rfl)
theorem dX6_meets_104 : decode cX6_meets 104 = .ok (.iaload, 1) := dk_46 (dk_at dksX6_meets_4 9 rfl rfl)
theorem dX6_meets_105 : decode cX6_meets 105 = .ok (.goto 13, 3) := dk_167 0 13 (dk_at dksX6_meets_4 10 rfl rfl)
theorem dX6_meets_108 : decode cX6_meets 108 = .ok (.aload_n 0, 1) := dk_42 (dk_at dksX6_meets_4 13 rfl rfl)
theorem dX6_meets_109 : decode cX6_meets 109 = .ok (.getfield 17, 3) := dk_180 0 17 (dk_at dksX6_meets_4 14 rfl rfl)
theorem dX6_meets_112 : decode cX6_meets 112 = .ok (.bipush 121, 2) := dk_16 121 (dk_at dksX6_meets_4 17 rfl rfl)
theorem dX6_meets_114 : decode cX6_meets 114 = .ok (.iload 5, 2) := dk_21 5 (dk_at dksX6_meets_4 19 rfl rfl)
theorem dX6_meets_116 : decode cX6_meets 116 = .ok (.iadd, 1) := dk_96 (dk_at dksX6_meets_4 21 rfl rfl)
theorem dX6_meets_117 : decode cX6_meets 117 = .ok (.iaload, 1) := dk_46 (dk_at dksX6_meets_4 22 rfl rfl)
theorem dX6_meets_118 : decode cX6_meets 118 = .ok (.istore 6, 2) := dk_54 6 (dk_at dksX6_meets_5 0 rfl rfl)
theorem dX6_meets_120 : decode cX6_meets 120 = .ok (.iconst 0, 1) := dk_3 (dk_at dksX6_meets_5 2 rfl rfl)
theorem dX6_meets_121 : decode cX6_meets 121 = .ok (.istore 7, 2) := dk_54 7 (dk_at dksX6_meets_5 3 rfl rfl)
theorem dX6_meets_123 : decode cX6_meets 123 = .ok (.iload 7, 2) := dk_21 7 (dk_at dksX6_meets_5 5 rfl rfl)
theorem dX6_meets_125 : decode cX6_meets 125 = .ok (.iload 6, 2) := dk_21 6 (dk_at dksX6_meets_5 7 rfl rfl)
theorem dX6_meets_127 : decode cX6_meets 127 = .ok (.if_icmp .ge 76, 3) := dk_162 0 76 (dk_at dksX6_meets_5 9 rfl rfl)
theorem dX6_meets_130 : decode cX6_meets 130 = .ok (.aload_n 0, 1) := dk_42 (dk_at dksX6_meets_5 12 rfl rfl)
theorem dX6_meets_131 : decode cX6_meets 131 = .ok (.dup, 1) := dk_89 (dk_at dksX6_meets_5 13 rfl rfl)
theorem dX6_meets_132 : decode cX6_meets 132 = .ok (.getfield 288, 3) := dk_180 1 32 (dk_at dksX6_meets_5 14 rfl rfl)
theorem dX6_meets_135 : decode cX6_meets 135 = .ok (.iconst 1, 1) := dk_4 (dk_at dksX6_meets_5 17 rfl rfl)
theorem dX6_meets_136 : decode cX6_meets 136 = .ok (.iadd, 1) := dk_96 (dk_at dksX6_meets_5 18 rfl rfl)
theorem dX6_meets_137 : decode cX6_meets 137 = .ok (.putfield 288, 3) := dk_181 1 32 (dk_at dksX6_meets_5 19 rfl rfl)
theorem dX6_meets_140 : decode cX6_meets 140 = .ok (.aload_n 0, 1) := dk_42 (dk_at dksX6_meets_5 22 rfl rfl)
theorem dX6_meets_141 : decode cX6_meets 141 = .ok (.dup, 1) := dk_89 (dk_at dksX6_meets_5 23 rfl rfl)
theorem dX6_meets_142 : decode cX6_meets 142 = .ok (.getfield 291, 3) := dk_180 1 35 (dk_at dksX6_meets_6 0 rfl rfl)
theorem dX6_meets_145 : decode cX6_meets 145 = .ok (.aload_n 0, 1) := dk_42 (dk_at dksX6_meets_6 3 rfl rfl)
theorem dX6_meets_146 : decode cX6_meets 146 = .ok (.aload_n 0, 1) := dk_42 (dk_at dksX6_meets_6 4 rfl rfl)
theorem dX6_meets_147 : decode cX6_meets 147 = .ok (.getfield 20, 3) := dk_180 0 20 (dk_at dksX6_meets_6 5 rfl rfl)
theorem dX6_meets_150 : decode cX6_meets 150 = .ok (.sipush 480, 3) := dk_17 1 224 (dk_at dksX6_meets_6 8 rfl rfl)
theorem dX6_meets_153 : decode cX6_meets 153 = .ok (.iload_n 3, 1) := dk_29 (dk_at dksX6_meets_6 11 rfl rfl)
theorem dX6_meets_154 : decode cX6_meets 154 = .ok (.iadd, 1) := dk_96 (dk_at dksX6_meets_6 12 rfl rfl)
theorem dX6_meets_155 : decode cX6_meets 155 = .ok (.laload, 1) := dk_47 (dk_at dksX6_meets_6 13 rfl rfl)
theorem dX6_meets_156 : decode cX6_meets 156 = .ok (.aload_n 0, 1) := dk_42 (dk_at dksX6_meets_6 14 rfl rfl)
theorem dX6_meets_157 : decode cX6_meets 157 = .ok (.getfield 20, 3) := dk_180 0 20 (dk_at dksX6_meets_6 15 rfl rfl)
theorem dX6_meets_160 : decode cX6_meets 160 = .ok (.iload_n 2, 1) := dk_28 (dk_at dksX6_meets_6 18 rfl rfl)
theorem dX6_meets_161 : decode cX6_meets 161 = .ok (.ifCond .eq 9, 3) := dk_153 0 9 (dk_at dksX6_meets_6 19 rfl rfl)
theorem dX6_meets_164 : decode cX6_meets 164 = .ok (.sipush 540, 3) := dk_17 2 28 (dk_at dksX6_meets_7 0 rfl rfl)
theorem dX6_meets_167 : decode cX6_meets 167 = .ok (.goto 4, 3) := dk_167 0 4 (dk_at dksX6_meets_7 3 rfl rfl)
theorem dX6_meets_170 : decode cX6_meets 170 = .ok (.iconst 0, 1) := dk_3 (dk_at dksX6_meets_7 6 rfl rfl)
theorem dX6_meets_171 : decode cX6_meets 171 = .ok (.bipush 12, 2) := dk_16 12 (dk_at dksX6_meets_7 7 rfl rfl)
theorem dX6_meets_173 : decode cX6_meets 173 = .ok (.iload 5, 2) := dk_21 5 (dk_at dksX6_meets_7 9 rfl rfl)
theorem dX6_meets_175 : decode cX6_meets 175 = .ok (.imul, 1) := dk_104 (dk_at dksX6_meets_7 11 rfl rfl)
theorem dX6_meets_176 : decode cX6_meets 176 = .ok (.iadd, 1) := dk_96 (dk_at dksX6_meets_7 12 rfl rfl)
theorem dX6_meets_177 : decode cX6_meets 177 = .ok (.iload 7, 2) := dk_21 7 (dk_at dksX6_meets_7 13 rfl rfl)
theorem dX6_meets_179 : decode cX6_meets 179 = .ok (.iadd, 1) := dk_96 (dk_at dksX6_meets_7 15 rfl rfl)
theorem dX6_meets_180 : decode cX6_meets 180 = .ok (.laload, 1) := dk_47 (dk_at dksX6_meets_7 16 rfl rfl)
theorem dX6_meets_181 : decode cX6_meets 181 = .ok (.invokevirtual 111, 3) := dk_182 0 111 (dk_at dksX6_meets_7 17 rfl rfl)
theorem dX6_meets_184 : decode cX6_meets 184 = .ok (.iload_n 1, 1) := dk_27 (dk_at dksX6_meets_7 20 rfl rfl)
theorem dX6_meets_185 : decode cX6_meets 185 = .ok (.if_icmp .lt 7, 3) := dk_161 0 7 (dk_at dksX6_meets_7 21 rfl rfl)
theorem dX6_meets_188 : decode cX6_meets 188 = .ok (.iconst 1, 1) := dk_4 (dk_at dksX6_meets_8 0 rfl rfl)
theorem dX6_meets_189 : decode cX6_meets 189 = .ok (.goto 4, 3) := dk_167 0 4 (dk_at dksX6_meets_8 1 rfl rfl)
theorem dX6_meets_192 : decode cX6_meets 192 = .ok (.iconst 0, 1) := dk_3 (dk_at dksX6_meets_8 4 rfl rfl)
theorem dX6_meets_193 : decode cX6_meets 193 = .ok (.iadd, 1) := dk_96 (dk_at dksX6_meets_8 5 rfl rfl)
theorem dX6_meets_194 : decode cX6_meets 194 = .ok (.putfield 291, 3) := dk_181 1 35 (dk_at dksX6_meets_8 6 rfl rfl)
theorem dX6_meets_197 : decode cX6_meets 197 = .ok (.iinc 7 1, 3) := dk_132 7 1 (dk_at dksX6_meets_8 9 rfl rfl)
theorem dX6_meets_200 : decode cX6_meets 200 = .ok (.goto (-77), 3) := dk_167 255 179 (dk_at dksX6_meets_8 12 rfl rfl)
theorem dX6_meets_203 : decode cX6_meets 203 = .ok (.iinc 5 1, 3) := dk_132 5 1 (dk_at dksX6_meets_8 15 rfl rfl)
theorem dX6_meets_206 : decode cX6_meets 206 = .ok (.goto (-156), 3) := dk_167 255 100 (dk_at dksX6_meets_8 18 rfl rfl)
theorem dX6_meets_209 : decode cX6_meets 209 = .ok (.iinc 3 1, 3) := dk_132 3 1 (dk_at dksX6_meets_8 21 rfl rfl)
theorem dX6_meets_212 : decode cX6_meets 212 = .ok (.goto (-200), 3) := dk_167 255 56 (dk_at dksX6_meets_9 0 rfl rfl)
theorem dX6_meets_215 : decode cX6_meets 215 = .ok (.return_, 1) := dk_177 (dk_at dksX6_meets_9 3 rfl rfl)
abbrev cX6_part : ByteArray := prog_28_method_59_code
def yX6_part : MethodName := ⟨RX6, "part", "(JJI)J"⟩
def dkwX6_part_1 : List UInt8 := [167, 0, 4, 32, 22, 5, 109, 173]
abbrev dktX6_part_1 : List UInt8 := dkwX6_part_1 ++ []
def dkwX6_part_0 : List UInt8 := [30, 32, 184, 1, 29, 55, 5, 22, 5, 9, 148, 154, 0, 7, 9, 167, 0, 16, 21, 4, 154, 0, 7, 30]
abbrev dktX6_part_0 : List UInt8 := dkwX6_part_0 ++ dktX6_part_1
theorem dksX6_part_0 : cX6_part.data.toList.drop 0 = dktX6_part_0 := by decide +kernel
theorem dksX6_part_1 : cX6_part.data.toList.drop 24 = dktX6_part_1 := dk_seg dksX6_part_0 24 rfl rfl
theorem dX6_part_0 : decode cX6_part 0 = .ok (.lload_n 0, 1) := dk_30 (dk_at dksX6_part_0 0 rfl rfl)
theorem dX6_part_1 : decode cX6_part 1 = .ok (.lload_n 2, 1) := dk_32 (dk_at dksX6_part_0 1 rfl rfl)
theorem dX6_part_2 : decode cX6_part 2 = .ok (.invokestatic 285, 3) := dk_184 1 29 (dk_at dksX6_part_0 2 rfl rfl)
theorem dX6_part_5 : decode cX6_part 5 = .ok (.lstore 5, 2) := dk_55 5 (dk_at dksX6_part_0 5 rfl rfl)
theorem dX6_part_7 : decode cX6_part 7 = .ok (.lload 5, 2) := dk_22 5 (dk_at dksX6_part_0 7 rfl rfl)
theorem dX6_part_9 : decode cX6_part 9 = .ok (.lconst 0, 1) := dk_9 (dk_at dksX6_part_0 9 rfl rfl)
theorem dX6_part_10 : decode cX6_part 10 = .ok (.lcmp, 1) := dk_148 (dk_at dksX6_part_0 10 rfl rfl)
theorem dX6_part_11 : decode cX6_part 11 = .ok (.ifCond .ne 7, 3) := dk_154 0 7 (dk_at dksX6_part_0 11 rfl rfl)
theorem dX6_part_14 : decode cX6_part 14 = .ok (.lconst 0, 1) := dk_9 (dk_at dksX6_part_0 14 rfl rfl)
theorem dX6_part_15 : decode cX6_part 15 = .ok (.goto 16, 3) := dk_167 0 16 (dk_at dksX6_part_0 15 rfl rfl)
theorem dX6_part_18 : decode cX6_part 18 = .ok (.iload 4, 2) := dk_21 4 (dk_at dksX6_part_0 18 rfl rfl)
theorem dX6_part_20 : decode cX6_part 20 = .ok (.ifCond .ne 7, 3) := dk_154 0 7 (dk_at dksX6_part_0 20 rfl rfl)
theorem dX6_part_23 : decode cX6_part 23 = .ok (.lload_n 0, 1) := dk_30 (dk_at dksX6_part_0 23 rfl rfl)
theorem dX6_part_24 : decode cX6_part 24 = .ok (.goto 4, 3) := dk_167 0 4 (dk_at dksX6_part_1 0 rfl rfl)
theorem dX6_part_27 : decode cX6_part 27 = .ok (.lload_n 2, 1) := dk_32 (dk_at dksX6_part_1 3 rfl rfl)
theorem dX6_part_28 : decode cX6_part 28 = .ok (.lload 5, 2) := dk_22 5 (dk_at dksX6_part_1 4 rfl rfl)
theorem dX6_part_30 : decode cX6_part 30 = .ok (.ldiv, 1) := dk_109 (dk_at dksX6_part_1 6 rfl rfl)
theorem dX6_part_31 : decode cX6_part 31 = .ok (.lreturn, 1) := dk_173 (dk_at dksX6_part_1 7 rfl rfl)
abbrev cX6_common : ByteArray := prog_28_method_58_code
def yX6_common : MethodName := ⟨RX6, "common", "(JJ)J"⟩
def dkwX6_common_1 : List UInt8 := [22, 8, 55, 6, 167, 255, 234, 22, 4, 173]
abbrev dktX6_common_1 : List UInt8 := dkwX6_common_1 ++ []
def dkwX6_common_0 : List UInt8 := [30, 55, 4, 32, 55, 6, 22, 6, 9, 148, 153, 0, 21, 22, 4, 22, 6, 113, 55, 8, 22, 6, 55, 4]
abbrev dktX6_common_0 : List UInt8 := dkwX6_common_0 ++ dktX6_common_1
theorem dksX6_common_0 : cX6_common.data.toList.drop 0 = dktX6_common_0 := by decide +kernel
theorem dksX6_common_1 : cX6_common.data.toList.drop 24 = dktX6_common_1 := dk_seg dksX6_common_0 24 rfl rfl
theorem dX6_common_0 : decode cX6_common 0 = .ok (.lload_n 0, 1) := dk_30 (dk_at dksX6_common_0 0 rfl rfl)
theorem dX6_common_1 : decode cX6_common 1 = .ok (.lstore 4, 2) := dk_55 4 (dk_at dksX6_common_0 1 rfl rfl)
theorem dX6_common_3 : decode cX6_common 3 = .ok (.lload_n 2, 1) := dk_32 (dk_at dksX6_common_0 3 rfl rfl)
theorem dX6_common_4 : decode cX6_common 4 = .ok (.lstore 6, 2) := dk_55 6 (dk_at dksX6_common_0 4 rfl rfl)
theorem dX6_common_6 : decode cX6_common 6 = .ok (.lload 6, 2) := dk_22 6 (dk_at dksX6_common_0 6 rfl rfl)
theorem dX6_common_8 : decode cX6_common 8 = .ok (.lconst 0, 1) := dk_9 (dk_at dksX6_common_0 8 rfl rfl)
theorem dX6_common_9 : decode cX6_common 9 = .ok (.lcmp, 1) := dk_148 (dk_at dksX6_common_0 9 rfl rfl)
theorem dX6_common_10 : decode cX6_common 10 = .ok (.ifCond .eq 21, 3) := dk_153 0 21 (dk_at dksX6_common_0 10 rfl rfl)
theorem dX6_common_13 : decode cX6_common 13 = .ok (.lload 4, 2) := dk_22 4 (dk_at dksX6_common_0 13 rfl rfl)
theorem dX6_common_15 : decode cX6_common 15 = .ok (.lload 6, 2) := dk_22 6 (dk_at dksX6_common_0 15 rfl rfl)
theorem dX6_common_17 : decode cX6_common 17 = .ok (.lrem, 1) := dk_113 (dk_at dksX6_common_0 17 rfl rfl)
theorem dX6_common_18 : decode cX6_common 18 = .ok (.lstore 8, 2) := dk_55 8 (dk_at dksX6_common_0 18 rfl rfl)
theorem dX6_common_20 : decode cX6_common 20 = .ok (.lload 6, 2) := dk_22 6 (dk_at dksX6_common_0 20 rfl rfl)
theorem dX6_common_22 : decode cX6_common 22 = .ok (.lstore 4, 2) := dk_55 4 (dk_at dksX6_common_0 22 rfl rfl)
theorem dX6_common_24 : decode cX6_common 24 = .ok (.lload 8, 2) := dk_22 8 (dk_at dksX6_common_1 0 rfl rfl)
theorem dX6_common_26 : decode cX6_common 26 = .ok (.lstore 6, 2) := dk_55 6 (dk_at dksX6_common_1 2 rfl rfl)
theorem dX6_common_28 : decode cX6_common 28 = .ok (.goto (-22), 3) := dk_167 255 234 (dk_at dksX6_common_1 4 rfl rfl)
theorem dX6_common_31 : decode cX6_common 31 = .ok (.lload 4, 2) := dk_22 4 (dk_at dksX6_common_1 7 rfl rfl)
theorem dX6_common_33 : decode cX6_common 33 = .ok (.lreturn, 1) := dk_173 (dk_at dksX6_common_1 9 rfl rfl)
abbrev cX6_odds : ByteArray := prog_28_method_62_code
def yX6_odds : MethodName := ⟨RX6, "odds", "(II)J"⟩
def dkwX6_odds_3 : List UInt8 := [180, 1, 35, 133, 22, 5, 105, 42, 180, 1, 32, 133, 33, 105, 28, 184, 1, 42, 173]
abbrev dktX6_odds_3 : List UInt8 := dkwX6_odds_3 ++ []
def dkwX6_odds_2 : List UInt8 := [182, 1, 38, 42, 180, 1, 35, 133, 66, 42, 180, 1, 32, 133, 55, 5, 42, 27, 3, 182, 1, 38, 42]
abbrev dktX6_odds_2 : List UInt8 := dkwX6_odds_2 ++ dktX6_odds_3
def dkwX6_odds_1 : List UInt8 := [133, 10, 20, 0, 105, 184, 0, 81, 154, 0, 11, 42, 16, 253, 182, 0, 85, 133, 173, 42, 27, 4]
abbrev dktX6_odds_1 : List UInt8 := dkwX6_odds_1 ++ dktX6_odds_2
def dkwX6_odds_0 : List UInt8 := [42, 3, 181, 0, 1, 28, 133, 9, 10, 184, 0, 81, 154, 0, 11, 42, 16, 254, 182, 0, 85, 133, 173, 27]
abbrev dktX6_odds_0 : List UInt8 := dkwX6_odds_0 ++ dktX6_odds_1
theorem dksX6_odds_0 : cX6_odds.data.toList.drop 0 = dktX6_odds_0 := by decide +kernel
theorem dksX6_odds_1 : cX6_odds.data.toList.drop 24 = dktX6_odds_1 := dk_seg dksX6_odds_0 24 rfl rfl
theorem dksX6_odds_2 : cX6_odds.data.toList.drop 46 = dktX6_odds_2 := dk_seg dksX6_odds_1 22 rfl rfl
theorem dksX6_odds_3 : cX6_odds.data.toList.drop 69 = dktX6_odds_3 := dk_seg dksX6_odds_2 23 rfl rfl
theorem dX6_odds_0 : decode cX6_odds 0 = .ok (.aload_n 0, 1) := dk_42 (dk_at dksX6_odds_0 0 rfl rfl)
theorem dX6_odds_1 : decode cX6_odds 1 = .ok (.iconst 0, 1) := dk_3 (dk_at dksX6_odds_0 1 rfl rfl)
theorem dX6_odds_2 : decode cX6_odds 2 = .ok (.putfield 1, 3) := dk_181 0 1 (dk_at dksX6_odds_0 2 rfl rfl)
theorem dX6_odds_5 : decode cX6_odds 5 = .ok (.iload_n 2, 1) := dk_28 (dk_at dksX6_odds_0 5 rfl rfl)
theorem dX6_odds_6 : decode cX6_odds 6 = .ok (.i2l, 1) := dk_133 (dk_at dksX6_odds_0 6 rfl rfl)
theorem dX6_odds_7 : decode cX6_odds 7 = .ok (.lconst 0, 1) := dk_9 (dk_at dksX6_odds_0 7 rfl rfl)
theorem dX6_odds_8 : decode cX6_odds 8 = .ok (.lconst 1, 1) := dk_10 (dk_at dksX6_odds_0 8 rfl rfl)
theorem dX6_odds_9 : decode cX6_odds 9 = .ok (.invokestatic 81, 3) := dk_184 0 81 (dk_at dksX6_odds_0 9 rfl rfl)
theorem dX6_odds_12 : decode cX6_odds 12 = .ok (.ifCond .ne 11, 3) := dk_154 0 11 (dk_at dksX6_odds_0 12 rfl rfl)
theorem dX6_odds_15 : decode cX6_odds 15 = .ok (.aload_n 0, 1) := dk_42 (dk_at dksX6_odds_0 15 rfl rfl)
theorem dX6_odds_16 : decode cX6_odds 16 = .ok (.bipush (-2), 2) := dk_16 254 (dk_at dksX6_odds_0 16 rfl rfl)
theorem dX6_odds_18 : decode cX6_odds 18 = .ok (.invokevirtual 85, 3) := dk_182 0 85 (dk_at dksX6_odds_0 18 rfl rfl)
theorem dX6_odds_21 : decode cX6_odds 21 = .ok (.i2l, 1) := dk_133 (dk_at dksX6_odds_0 21 rfl rfl)
theorem dX6_odds_22 : decode cX6_odds 22 = .ok (.lreturn, 1) := dk_173 (dk_at dksX6_odds_0 22 rfl rfl)
theorem dX6_odds_23 : decode cX6_odds 23 = .ok (.iload_n 1, 1) := dk_27 (dk_at dksX6_odds_0 23 rfl rfl)
theorem dX6_odds_24 : decode cX6_odds 24 = .ok (.i2l, 1) := dk_133 (dk_at dksX6_odds_1 0 rfl rfl)
theorem dX6_odds_25 : decode cX6_odds 25 = .ok (.lconst 1, 1) := dk_10 (dk_at dksX6_odds_1 1 rfl rfl)
theorem dX6_odds_26 : decode cX6_odds 26 = .ok (.ldc2_w 105, 3) := dk_20 0 105 (dk_at dksX6_odds_1 2 rfl rfl)
theorem dX6_odds_29 : decode cX6_odds 29 = .ok (.invokestatic 81, 3) := dk_184 0 81 (dk_at dksX6_odds_1 5 rfl rfl)
theorem dX6_odds_32 : decode cX6_odds 32 = .ok (.ifCond .ne 11, 3) := dk_154 0 11 (dk_at dksX6_odds_1 8 rfl rfl)
theorem dX6_odds_35 : decode cX6_odds 35 = .ok (.aload_n 0, 1) := dk_42 (dk_at dksX6_odds_1 11 rfl rfl)
theorem dX6_odds_36 : decode cX6_odds 36 = .ok (.bipush (-3), 2) := dk_16 253 (dk_at dksX6_odds_1 12 rfl rfl)
theorem dX6_odds_38 : decode cX6_odds 38 = .ok (.invokevirtual 85, 3) := dk_182 0 85 (dk_at dksX6_odds_1 14 rfl rfl)
theorem dX6_odds_41 : decode cX6_odds 41 = .ok (.i2l, 1) := dk_133 (dk_at dksX6_odds_1 17 rfl rfl)
theorem dX6_odds_42 : decode cX6_odds 42 = .ok (.lreturn, 1) := dk_173 (dk_at dksX6_odds_1 18 rfl rfl)
theorem dX6_odds_43 : decode cX6_odds 43 = .ok (.aload_n 0, 1) := dk_42 (dk_at dksX6_odds_1 19 rfl rfl)
theorem dX6_odds_44 : decode cX6_odds 44 = .ok (.iload_n 1, 1) := dk_27 (dk_at dksX6_odds_1 20 rfl rfl)
theorem dX6_odds_45 : decode cX6_odds 45 = .ok (.iconst 1, 1) := dk_4 (dk_at dksX6_odds_1 21 rfl rfl)
theorem dX6_odds_46 : decode cX6_odds 46 = .ok (.invokevirtual 294, 3) := dk_182 1 38 (dk_at dksX6_odds_2 0 rfl rfl)
theorem dX6_odds_49 : decode cX6_odds 49 = .ok (.aload_n 0, 1) := dk_42 (dk_at dksX6_odds_2 3 rfl rfl)
theorem dX6_odds_50 : decode cX6_odds 50 = .ok (.getfield 291, 3) := dk_180 1 35 (dk_at dksX6_odds_2 4 rfl rfl)
theorem dX6_odds_53 : decode cX6_odds 53 = .ok (.i2l, 1) := dk_133 (dk_at dksX6_odds_2 7 rfl rfl)
theorem dX6_odds_54 : decode cX6_odds 54 = .ok (.lstore_n 3, 1) := dk_66 (dk_at dksX6_odds_2 8 rfl rfl)
theorem dX6_odds_55 : decode cX6_odds 55 = .ok (.aload_n 0, 1) := dk_42 (dk_at dksX6_odds_2 9 rfl rfl)
theorem dX6_odds_56 : decode cX6_odds 56 = .ok (.getfield 288, 3) := dk_180 1 32 (dk_at dksX6_odds_2 10 rfl rfl)
theorem dX6_odds_59 : decode cX6_odds 59 = .ok (.i2l, 1) := dk_133 (dk_at dksX6_odds_2 13 rfl rfl)
theorem dX6_odds_60 : decode cX6_odds 60 = .ok (.lstore 5, 2) := dk_55 5 (dk_at dksX6_odds_2 14 rfl rfl)
theorem dX6_odds_62 : decode cX6_odds 62 = .ok (.aload_n 0, 1) := dk_42 (dk_at dksX6_odds_2 16 rfl rfl)
theorem dX6_odds_63 : decode cX6_odds 63 = .ok (.iload_n 1, 1) := dk_27 (dk_at dksX6_odds_2 17 rfl rfl)
theorem dX6_odds_64 : decode cX6_odds 64 = .ok (.iconst 0, 1) := dk_3 (dk_at dksX6_odds_2 18 rfl rfl)
theorem dX6_odds_65 : decode cX6_odds 65 = .ok (.invokevirtual 294, 3) := dk_182 1 38 (dk_at dksX6_odds_2 19 rfl rfl)
theorem dX6_odds_68 : decode cX6_odds 68 = .ok (.aload_n 0, 1) := dk_42 (dk_at dksX6_odds_2 22 rfl rfl)
theorem dX6_odds_69 : decode cX6_odds 69 = .ok (.getfield 291, 3) := dk_180 1 35 (dk_at dksX6_odds_3 0 rfl rfl)
theorem dX6_odds_72 : decode cX6_odds 72 = .ok (.i2l, 1) := dk_133 (dk_at dksX6_odds_3 3 rfl rfl)
theorem dX6_odds_73 : decode cX6_odds 73 = .ok (.lload 5, 2) := dk_22 5 (dk_at dksX6_odds_3 4 rfl rfl)
theorem dX6_odds_75 : decode cX6_odds 75 = .ok (.lmul, 1) := dk_105 (dk_at dksX6_odds_3 6 rfl rfl)
theorem dX6_odds_76 : decode cX6_odds 76 = .ok (.aload_n 0, 1) := dk_42 (dk_at dksX6_odds_3 7 rfl rfl)
theorem dX6_odds_77 : decode cX6_odds 77 = .ok (.getfield 288, 3) := dk_180 1 32 (dk_at dksX6_odds_3 8 rfl rfl)
theorem dX6_odds_80 : decode cX6_odds 80 = .ok (.i2l, 1) := dk_133 (dk_at dksX6_odds_3 11 rfl rfl)
theorem dX6_odds_81 : decode cX6_odds 81 = .ok (.lload_n 3, 1) := dk_33 (dk_at dksX6_odds_3 12 rfl rfl)
theorem dX6_odds_82 : decode cX6_odds 82 = .ok (.lmul, 1) := dk_105 (dk_at dksX6_odds_3 13 rfl rfl)
theorem dX6_odds_83 : decode cX6_odds 83 = .ok (.iload_n 2, 1) := dk_28 (dk_at dksX6_odds_3 14 rfl rfl)
theorem dX6_odds_84 : decode cX6_odds 84 = .ok (.invokestatic 298, 3) := dk_184 1 42 (dk_at dksX6_odds_3 15 rfl rfl)
theorem dX6_odds_87 : decode cX6_odds 87 = .ok (.lreturn, 1) := dk_173 (dk_at dksX6_odds_3 18 rfl rfl)
abbrev cX6_matches : ByteArray := prog_28_method_64_code
def yX6_matches : MethodName := ⟨RX6, "matches", "(II)I"⟩
def dkwX6_matches_2 : List UInt8 := [16, 253, 182, 0, 85, 172, 42, 27, 28, 182, 1, 46, 172]
abbrev dktX6_matches_2 : List UInt8 := dkwX6_matches_2 ++ []
def dkwX6_matches_1 : List UInt8 := [154, 0, 10, 42, 16, 254, 182, 0, 85, 172, 28, 133, 10, 20, 0, 105, 184, 0, 81, 154, 0, 10, 42]
abbrev dktX6_matches_1 : List UInt8 := dkwX6_matches_1 ++ dktX6_matches_2
def dkwX6_matches_0 : List UInt8 := [42, 3, 181, 0, 1, 27, 133, 9, 42, 180, 0, 17, 17, 0, 223, 46, 4, 100, 133, 184, 0, 81]
abbrev dktX6_matches_0 : List UInt8 := dkwX6_matches_0 ++ dktX6_matches_1
theorem dksX6_matches_0 : cX6_matches.data.toList.drop 0 = dktX6_matches_0 := by decide +kernel
theorem dksX6_matches_1 : cX6_matches.data.toList.drop 22 = dktX6_matches_1 := dk_seg dksX6_matches_0 22 rfl rfl
theorem dksX6_matches_2 : cX6_matches.data.toList.drop 45 = dktX6_matches_2 := dk_seg dksX6_matches_1 23 rfl rfl
theorem dX6_matches_0 : decode cX6_matches 0 = .ok (.aload_n 0, 1) := dk_42 (dk_at dksX6_matches_0 0 rfl rfl)
theorem dX6_matches_1 : decode cX6_matches 1 = .ok (.iconst 0, 1) := dk_3 (dk_at dksX6_matches_0 1 rfl rfl)
theorem dX6_matches_2 : decode cX6_matches 2 = .ok (.putfield 1, 3) := dk_181 0 1 (dk_at dksX6_matches_0 2 rfl rfl)
theorem dX6_matches_5 : decode cX6_matches 5 = .ok (.iload_n 1, 1) := dk_27 (dk_at dksX6_matches_0 5 rfl rfl)
theorem dX6_matches_6 : decode cX6_matches 6 = .ok (.i2l, 1) := dk_133 (dk_at dksX6_matches_0 6 rfl rfl)
theorem dX6_matches_7 : decode cX6_matches 7 = .ok (.lconst 0, 1) := dk_9 (dk_at dksX6_matches_0 7 rfl rfl)
theorem dX6_matches_8 : decode cX6_matches 8 = .ok (.aload_n 0, 1) := dk_42 (dk_at dksX6_matches_0 8 rfl rfl)
theorem dX6_matches_9 : decode cX6_matches 9 = .ok (.getfield 17, 3) := dk_180 0 17 (dk_at dksX6_matches_0 9 rfl rfl)
theorem dX6_matches_12 : decode cX6_matches 12 = .ok (.sipush 223, 3) := dk_17 0 223 (dk_at dksX6_matches_0 12 rfl rfl)
theorem dX6_matches_15 : decode cX6_matches 15 = .ok (.iaload, 1) := dk_46 (dk_at dksX6_matches_0 15 rfl rfl)
theorem dX6_matches_16 : decode cX6_matches 16 = .ok (.iconst 1, 1) := dk_4 (dk_at dksX6_matches_0 16 rfl rfl)
theorem dX6_matches_17 : decode cX6_matches 17 = .ok (.isub, 1) := dk_100 (dk_at dksX6_matches_0 17 rfl rfl)
theorem dX6_matches_18 : decode cX6_matches 18 = .ok (.i2l, 1) := dk_133 (dk_at dksX6_matches_0 18 rfl rfl)
theorem dX6_matches_19 : decode cX6_matches 19 = .ok (.invokestatic 81, 3) := dk_184 0 81 (dk_at dksX6_matches_0 19 rfl rfl)
theorem dX6_matches_22 : decode cX6_matches 22 = .ok (.ifCond .ne 10, 3) := dk_154 0 10 (dk_at dksX6_matches_1 0 rfl rfl)
theorem dX6_matches_25 : decode cX6_matches 25 = .ok (.aload_n 0, 1) := dk_42 (dk_at dksX6_matches_1 3 rfl rfl)
theorem dX6_matches_26 : decode cX6_matches 26 = .ok (.bipush (-2), 2) := dk_16 254 (dk_at dksX6_matches_1 4 rfl rfl)
theorem dX6_matches_28 : decode cX6_matches 28 = .ok (.invokevirtual 85, 3) := dk_182 0 85 (dk_at dksX6_matches_1 6 rfl rfl)
theorem dX6_matches_31 : decode cX6_matches 31 = .ok (.ireturn, 1) := dk_172 (dk_at dksX6_matches_1 9 rfl rfl)
theorem dX6_matches_32 : decode cX6_matches 32 = .ok (.iload_n 2, 1) := dk_28 (dk_at dksX6_matches_1 10 rfl rfl)
theorem dX6_matches_33 : decode cX6_matches 33 = .ok (.i2l, 1) := dk_133 (dk_at dksX6_matches_1 11 rfl rfl)
theorem dX6_matches_34 : decode cX6_matches 34 = .ok (.lconst 1, 1) := dk_10 (dk_at dksX6_matches_1 12 rfl rfl)
theorem dX6_matches_35 : decode cX6_matches 35 = .ok (.ldc2_w 105, 3) := dk_20 0 105 (dk_at dksX6_matches_1 13 rfl rfl)
theorem dX6_matches_38 : decode cX6_matches 38 = .ok (.invokestatic 81, 3) := dk_184 0 81 (dk_at dksX6_matches_1 16 rfl rfl)
theorem dX6_matches_41 : decode cX6_matches 41 = .ok (.ifCond .ne 10, 3) := dk_154 0 10 (dk_at dksX6_matches_1 19 rfl rfl)
theorem dX6_matches_44 : decode cX6_matches 44 = .ok (.aload_n 0, 1) := dk_42 (dk_at dksX6_matches_1 22 rfl rfl)
theorem dX6_matches_45 : decode cX6_matches 45 = .ok (.bipush (-3), 2) := dk_16 253 (dk_at dksX6_matches_2 0 rfl rfl)
theorem dX6_matches_47 : decode cX6_matches 47 = .ok (.invokevirtual 85, 3) := dk_182 0 85 (dk_at dksX6_matches_2 2 rfl rfl)
theorem dX6_matches_50 : decode cX6_matches 50 = .ok (.ireturn, 1) := dk_172 (dk_at dksX6_matches_2 5 rfl rfl)
theorem dX6_matches_51 : decode cX6_matches 51 = .ok (.aload_n 0, 1) := dk_42 (dk_at dksX6_matches_2 6 rfl rfl)
theorem dX6_matches_52 : decode cX6_matches 52 = .ok (.iload_n 1, 1) := dk_27 (dk_at dksX6_matches_2 7 rfl rfl)
theorem dX6_matches_53 : decode cX6_matches 53 = .ok (.iload_n 2, 1) := dk_28 (dk_at dksX6_matches_2 8 rfl rfl)
theorem dX6_matches_54 : decode cX6_matches 54 = .ok (.invokevirtual 302, 3) := dk_182 1 46 (dk_at dksX6_matches_2 9 rfl rfl)
theorem dX6_matches_57 : decode cX6_matches 57 = .ok (.ireturn, 1) := dk_172 (dk_at dksX6_matches_2 12 rfl rfl)
abbrev cX6_matchesOf : ByteArray := prog_28_method_63_code
def yX6_matchesOf : MethodName := ⟨RX6, "matchesOf", "(II)I"⟩
def dkwX6_matchesOf_4 : List UInt8 := [21, 5, 153, 0, 7, 4, 167, 0, 4, 3, 96, 62, 132, 4, 1, 167, 255, 153, 29, 172]
abbrev dktX6_matchesOf_4 : List UInt8 := dkwX6_matchesOf_4 ++ []
def dkwX6_matchesOf_3 : List UInt8 := [96, 47, 182, 0, 111, 28, 161, 0, 7, 4, 167, 0, 4, 3, 54, 5, 132, 6, 1, 167, 255, 191, 29]
abbrev dktX6_matchesOf_3 : List UInt8 := dkwX6_matchesOf_3 ++ dktX6_matchesOf_4
def dkwX6_matchesOf_2 : List UInt8 := [180, 0, 20, 17, 1, 224, 21, 4, 96, 47, 42, 180, 0, 20, 17, 2, 28, 16, 12, 27, 104, 96, 21, 6]
abbrev dktX6_matchesOf_2 : List UInt8 := dkwX6_matchesOf_2 ++ dktX6_matchesOf_3
def dkwX6_matchesOf_1 : List UInt8 := [21, 6, 42, 180, 0, 17, 17, 0, 236, 27, 96, 46, 162, 0, 56, 21, 5, 154, 0, 51, 42, 42]
abbrev dktX6_matchesOf_1 : List UInt8 := dkwX6_matchesOf_1 ++ dktX6_matchesOf_2
def dkwX6_matchesOf_0 : List UInt8 := [3, 62, 3, 54, 4, 21, 4, 42, 180, 0, 17, 17, 0, 162, 46, 162, 0, 96, 3, 54, 5, 3, 54, 6]
abbrev dktX6_matchesOf_0 : List UInt8 := dkwX6_matchesOf_0 ++ dktX6_matchesOf_1
theorem dksX6_matchesOf_0 : cX6_matchesOf.data.toList.drop 0 = dktX6_matchesOf_0 := by decide +kernel
theorem dksX6_matchesOf_1 : cX6_matchesOf.data.toList.drop 24 = dktX6_matchesOf_1 := dk_seg dksX6_matchesOf_0 24 rfl rfl
theorem dksX6_matchesOf_2 : cX6_matchesOf.data.toList.drop 46 = dktX6_matchesOf_2 := dk_seg dksX6_matchesOf_1 22 rfl rfl
theorem dksX6_matchesOf_3 : cX6_matchesOf.data.toList.drop 70 = dktX6_matchesOf_3 := dk_seg dksX6_matchesOf_2 24 rfl rfl
theorem dksX6_matchesOf_4 : cX6_matchesOf.data.toList.drop 93 = dktX6_matchesOf_4 := dk_seg dksX6_matchesOf_3 23 rfl rfl
theorem dX6_matchesOf_0 : decode cX6_matchesOf 0 = .ok (.iconst 0, 1) := dk_3 (dk_at dksX6_matchesOf_0 0 rfl rfl)
theorem dX6_matchesOf_1 : decode cX6_matchesOf 1 = .ok (.istore_n 3, 1) := dk_62 (dk_at dksX6_matchesOf_0 1 rfl rfl)
theorem dX6_matchesOf_2 : decode cX6_matchesOf 2 = .ok (.iconst 0, 1) := dk_3 (dk_at dksX6_matchesOf_0 2 rfl rfl)
theorem dX6_matchesOf_3 : decode cX6_matchesOf 3 = .ok (.istore 4, 2) := dk_54 4 (dk_at dksX6_matchesOf_0 3 rfl rfl)
theorem dX6_matchesOf_5 : decode cX6_matchesOf 5 = .ok (.iload 4, 2) := dk_21 4 (dk_at dksX6_matchesOf_0 5 rfl rfl)
theorem dX6_matchesOf_7 : decode cX6_matchesOf 7 = .ok (.aload_n 0, 1) := dk_42 (dk_at dksX6_matchesOf_0 7 rfl rfl)
theorem dX6_matchesOf_8 : decode cX6_matchesOf 8 = .ok (.getfield 17, 3) := dk_180 0 17 (dk_at dksX6_matchesOf_0 8 rfl rfl)
theorem dX6_matchesOf_11 : decode cX6_matchesOf 11 = .ok (.sipush 162, 3) := dk_17 0 162 (dk_at dksX6_matchesOf_0 11 rfl rfl)
theorem dX6_matchesOf_14 : decode cX6_matchesOf 14 = .ok (.iaload, 1) := dk_46 (dk_at dksX6_matchesOf_0 14 rfl rfl)
theorem dX6_matchesOf_15 : decode cX6_matchesOf 15 = .ok (.if_icmp .ge 96, 3) := dk_162 0 96 (dk_at dksX6_matchesOf_0 15 rfl rfl)
theorem dX6_matchesOf_18 : decode cX6_matchesOf 18 = .ok (.iconst 0, 1) := dk_3 (dk_at dksX6_matchesOf_0 18 rfl rfl)
theorem dX6_matchesOf_19 : decode cX6_matchesOf 19 = .ok (.istore 5, 2) := dk_54 5 (dk_at dksX6_matchesOf_0 19 rfl rfl)
theorem dX6_matchesOf_21 : decode cX6_matchesOf 21 = .ok (.iconst 0, 1) := dk_3 (dk_at dksX6_matchesOf_0 21 rfl rfl)
theorem dX6_matchesOf_22 : decode cX6_matchesOf 22 = .ok (.istore 6, 2) := dk_54 6 (dk_at dksX6_matchesOf_0 22 rfl rfl)
theorem dX6_matchesOf_24 : decode cX6_matchesOf 24 = .ok (.iload 6, 2) := dk_21 6 (dk_at dksX6_matchesOf_1 0 rfl rfl)
theorem dX6_matchesOf_26 : decode cX6_matchesOf 26 = .ok (.aload_n 0, 1) := dk_42 (dk_at dksX6_matchesOf_1 2 rfl rfl)
theorem dX6_matchesOf_27 : decode cX6_matchesOf 27 = .ok (.getfield 17, 3) := dk_180 0 17 (dk_at dksX6_matchesOf_1 3 rfl rfl)
theorem dX6_matchesOf_30 : decode cX6_matchesOf 30 = .ok (.sipush 236, 3) := dk_17 0 236 (dk_at dksX6_matchesOf_1 6 rfl rfl)
theorem dX6_matchesOf_33 : decode cX6_matchesOf 33 = .ok (.iload_n 1, 1) := dk_27 (dk_at dksX6_matchesOf_1 9 rfl rfl)
theorem dX6_matchesOf_34 : decode cX6_matchesOf 34 = .ok (.iadd, 1) := dk_96 (dk_at dksX6_matchesOf_1 10 rfl rfl)
theorem dX6_matchesOf_35 : decode cX6_matchesOf 35 = .ok (.iaload, 1) := dk_46 (dk_at dksX6_matchesOf_1 11 rfl rfl)
theorem dX6_matchesOf_36 : decode cX6_matchesOf 36 = .ok (.if_icmp .ge 56, 3) := dk_162 0 56 (dk_at dksX6_matchesOf_1 12 rfl rfl)
theorem dX6_matchesOf_39 : decode cX6_matchesOf 39 = .ok (.iload 5, 2) := dk_21 5 (dk_at dksX6_matchesOf_1 15 rfl rfl)
theorem dX6_matchesOf_41 : decode cX6_matchesOf 41 = .ok (.ifCond .ne 51, 3) := dk_154 0 51 (dk_at dksX6_matchesOf_1 17 rfl rfl)
theorem dX6_matchesOf_44 : decode cX6_matchesOf 44 = .ok (.aload_n 0, 1) := dk_42 (dk_at dksX6_matchesOf_1 20 rfl rfl)
theorem dX6_matchesOf_45 : decode cX6_matchesOf 45 = .ok (.aload_n 0, 1) := dk_42 (dk_at dksX6_matchesOf_1 21 rfl rfl)
theorem dX6_matchesOf_46 : decode cX6_matchesOf 46 = .ok (.getfield 20, 3) := dk_180 0 20 (dk_at dksX6_matchesOf_2 0 rfl rfl)
theorem dX6_matchesOf_49 : decode cX6_matchesOf 49 = .ok (.sipush 480, 3) := dk_17 1 224 (dk_at dksX6_matchesOf_2 3 rfl rfl)
theorem dX6_matchesOf_52 : decode cX6_matchesOf 52 = .ok (.iload 4, 2) := dk_21 4 (dk_at dksX6_matchesOf_2 6 rfl rfl)
theorem dX6_matchesOf_54 : decode cX6_matchesOf 54 = .ok (.iadd, 1) := dk_96 (dk_at dksX6_matchesOf_2 8 rfl rfl)
theorem dX6_matchesOf_55 : decode cX6_matchesOf 55 = .ok (.laload, 1) := dk_47 (dk_at dksX6_matchesOf_2 9 rfl rfl)
theorem dX6_matchesOf_56 : decode cX6_matchesOf 56 = .ok (.aload_n 0, 1) := dk_42 (dk_at dksX6_matchesOf_2 10 rfl rfl)
theorem dX6_matchesOf_57 : decode cX6_matchesOf 57 = .ok (.getfield 20, 3) := dk_180 0 20 (dk_at dksX6_matchesOf_2 11 rfl rfl)
theorem dX6_matchesOf_60 : decode cX6_matchesOf 60 = .ok (.sipush 540, 3) := dk_17 2 28 (dk_at dksX6_matchesOf_2 14 rfl rfl)
theorem dX6_matchesOf_63 : decode cX6_matchesOf 63 = .ok (.bipush 12, 2) := dk_16 12 (dk_at dksX6_matchesOf_2 17 rfl rfl)
theorem dX6_matchesOf_65 : decode cX6_matchesOf 65 = .ok (.iload_n 1, 1) := dk_27 (dk_at dksX6_matchesOf_2 19 rfl rfl)
theorem dX6_matchesOf_66 : decode cX6_matchesOf 66 = .ok (.imul, 1) := dk_104 (dk_at dksX6_matchesOf_2 20 rfl rfl)
theorem dX6_matchesOf_67 : decode cX6_matchesOf 67 = .ok (.iadd, 1) := dk_96 (dk_at dksX6_matchesOf_2 21 rfl rfl)
theorem dX6_matchesOf_68 : decode cX6_matchesOf 68 = .ok (.iload 6, 2) := dk_21 6 (dk_at dksX6_matchesOf_2 22 rfl rfl)
theorem dX6_matchesOf_70 : decode cX6_matchesOf 70 = .ok (.iadd, 1) := dk_96 (dk_at dksX6_matchesOf_3 0 rfl rfl)
theorem dX6_matchesOf_71 : decode cX6_matchesOf 71 = .ok (.laload, 1) := dk_47 (dk_at dksX6_matchesOf_3 1 rfl rfl)
theorem dX6_matchesOf_72 : decode cX6_matchesOf 72 = .ok (.invokevirtual 111, 3) := dk_182 0 111 (dk_at dksX6_matchesOf_3 2 rfl rfl)
theorem dX6_matchesOf_75 : decode cX6_matchesOf 75 = .ok (.iload_n 2, 1) := dk_28 (dk_at dksX6_matchesOf_3 5 rfl rfl)
theorem dX6_matchesOf_76 : decode cX6_matchesOf 76 = .ok (.if_icmp .lt 7, 3) := dk_161 0 7 (dk_at dksX6_matchesOf_3 6 rfl rfl)
theorem dX6_matchesOf_79 : decode cX6_matchesOf 79 = .ok (.iconst 1, 1) := dk_4 (dk_at dksX6_matchesOf_3 9 rfl rfl)
theorem dX6_matchesOf_80 : decode cX6_matchesOf 80 = .ok (.goto 4, 3) := dk_167 0 4 (dk_at dksX6_matchesOf_3 10 rfl rfl)
theorem dX6_matchesOf_83 : decode cX6_matchesOf 83 = .ok (.iconst 0, 1) := dk_3 (dk_at dksX6_matchesOf_3 13 rfl rfl)
theorem dX6_matchesOf_84 : decode cX6_matchesOf 84 = .ok (.istore 5, 2) := dk_54 5 (dk_at dksX6_matchesOf_3 14 rfl rfl)
theorem dX6_matchesOf_86 : decode cX6_matchesOf 86 = .ok (.iinc 6 1, 3) := dk_132 6 1 (dk_at dksX6_matchesOf_3 16 rfl rfl)
theorem dX6_matchesOf_89 : decode cX6_matchesOf 89 = .ok (.goto (-65), 3) := dk_167 255 191 (dk_at dksX6_matchesOf_3 19 rfl rfl)
theorem dX6_matchesOf_92 : decode cX6_matchesOf 92 = .ok (.iload_n 3, 1) := dk_29 (dk_at dksX6_matchesOf_3 22 rfl rfl)
theorem dX6_matchesOf_93 : decode cX6_matchesOf 93 = .ok (.iload 5, 2) := dk_21 5 (dk_at dksX6_matchesOf_4 0 rfl rfl)
theorem dX6_matchesOf_95 : decode cX6_matchesOf 95 = .ok (.ifCond .eq 7, 3) := dk_153 0 7 (dk_at dksX6_matchesOf_4 2 rfl rfl)
theorem dX6_matchesOf_98 : decode cX6_matchesOf 98 = .ok (.iconst 1, 1) := dk_4 (dk_at dksX6_matchesOf_4 5 rfl rfl)
theorem dX6_matchesOf_99 : decode cX6_matchesOf 99 = .ok (.goto 4, 3) := dk_167 0 4 (dk_at dksX6_matchesOf_4 6 rfl rfl)
theorem dX6_matchesOf_102 : decode cX6_matchesOf 102 = .ok (.iconst 0, 1) := dk_3 (dk_at dksX6_matchesOf_4 9 rfl rfl)
theorem dX6_matchesOf_103 : decode cX6_matchesOf 103 = .ok (.iadd, 1) := dk_96 (dk_at dksX6_matchesOf_4 10 rfl rfl)
theorem dX6_matchesOf_104 : decode cX6_matchesOf 104 = .ok (.istore_n 3, 1) := dk_62 (dk_at dksX6_matchesOf_4 11 rfl rfl)
theorem dX6_matchesOf_105 : decode cX6_matchesOf 105 = .ok (.iinc 4 1, 3) := dk_132 4 1 (dk_at dksX6_matchesOf_4 12 rfl rfl)
theorem dX6_matchesOf_108 : decode cX6_matchesOf 108 = .ok (.goto (-103), 3) := dk_167 255 153 (dk_at dksX6_matchesOf_4 15 rfl rfl)
theorem dX6_matchesOf_111 : decode cX6_matchesOf 111 = .ok (.iload_n 3, 1) := dk_29 (dk_at dksX6_matchesOf_4 18 rfl rfl)
theorem dX6_matchesOf_112 : decode cX6_matchesOf 112 = .ok (.ireturn, 1) := dk_172 (dk_at dksX6_matchesOf_4 19 rfl rfl)
abbrev cX6_most : ByteArray := prog_28_method_65_code
def yX6_most : MethodName := ⟨RX6, "most", "(II)I"⟩
def dkwX6_most_6 : List UInt8 := [46, 104, 133, 21, 5, 133, 28, 184, 1, 42, 136, 172]
abbrev dktX6_most_6 : List UInt8 := dkwX6_most_6 ++ []
def dkwX6_most_5 : List UInt8 := [132, 6, 1, 167, 255, 207, 28, 5, 160, 0, 7, 29, 167, 0, 23, 21, 4, 42, 180, 0, 17, 17, 0, 223]
abbrev dktX6_most_5 : List UInt8 := dkwX6_most_5 ++ dktX6_most_6
def dkwX6_most_4 : List UInt8 := [21, 5, 21, 7, 96, 54, 5, 21, 7, 21, 4, 163, 0, 6, 167, 0, 10, 21, 6, 62, 21, 7, 54, 4]
abbrev dktX6_most_4 : List UInt8 := dkwX6_most_4 ++ dktX6_most_5
def dkwX6_most_3 : List UInt8 := [54, 6, 21, 6, 42, 180, 0, 17, 17, 0, 223, 46, 162, 0, 42, 42, 21, 6, 27, 182, 1, 46, 54, 7]
abbrev dktX6_most_3 : List UInt8 := dkwX6_most_3 ++ dktX6_most_4
def dkwX6_most_2 : List UInt8 := [17, 0, 223, 46, 154, 0, 10, 42, 16, 251, 182, 0, 85, 172, 3, 62, 3, 54, 4, 3, 54, 5, 3]
abbrev dktX6_most_2 : List UInt8 := dkwX6_most_2 ++ dktX6_most_3
def dkwX6_most_1 : List UInt8 := [27, 133, 10, 20, 0, 105, 184, 0, 81, 154, 0, 10, 42, 16, 253, 182, 0, 85, 172, 42, 180, 0, 17]
abbrev dktX6_most_1 : List UInt8 := dkwX6_most_1 ++ dktX6_most_2
def dkwX6_most_0 : List UInt8 := [42, 3, 181, 0, 1, 28, 133, 9, 20, 1, 50, 184, 0, 81, 154, 0, 10, 42, 16, 254, 182, 0, 85, 172]
abbrev dktX6_most_0 : List UInt8 := dkwX6_most_0 ++ dktX6_most_1
theorem dksX6_most_0 : cX6_most.data.toList.drop 0 = dktX6_most_0 := by decide +kernel
theorem dksX6_most_1 : cX6_most.data.toList.drop 24 = dktX6_most_1 := dk_seg dksX6_most_0 24 rfl rfl
theorem dksX6_most_2 : cX6_most.data.toList.drop 47 = dktX6_most_2 := dk_seg dksX6_most_1 23 rfl rfl
theorem dksX6_most_3 : cX6_most.data.toList.drop 70 = dktX6_most_3 := dk_seg dksX6_most_2 23 rfl rfl
theorem dksX6_most_4 : cX6_most.data.toList.drop 94 = dktX6_most_4 := dk_seg dksX6_most_3 24 rfl rfl
theorem dksX6_most_5 : cX6_most.data.toList.drop 118 = dktX6_most_5 := dk_seg dksX6_most_4 24 rfl rfl
theorem dksX6_most_6 : cX6_most.data.toList.drop 142 = dktX6_most_6 := dk_seg dksX6_most_5 24 rfl rfl
theorem dX6_most_0 : decode cX6_most 0 = .ok (.aload_n 0, 1) := dk_42 (dk_at dksX6_most_0 0 rfl rfl)
theorem dX6_most_1 : decode cX6_most 1 = .ok (.iconst 0, 1) := dk_3 (dk_at dksX6_most_0 1 rfl rfl)
theorem dX6_most_2 : decode cX6_most 2 = .ok (.putfield 1, 3) := dk_181 0 1 (dk_at dksX6_most_0 2 rfl rfl)
theorem dX6_most_5 : decode cX6_most 5 = .ok (.iload_n 2, 1) := dk_28 (dk_at dksX6_most_0 5 rfl rfl)
theorem dX6_most_6 : decode cX6_most 6 = .ok (.i2l, 1) := dk_133 (dk_at dksX6_most_0 6 rfl rfl)
theorem dX6_most_7 : decode cX6_most 7 = .ok (.lconst 0, 1) := dk_9 (dk_at dksX6_most_0 7 rfl rfl)
theorem dX6_most_8 : decode cX6_most 8 = .ok (.ldc2_w 306, 3) := dk_20 1 50 (dk_at dksX6_most_0 8 rfl rfl)
theorem dX6_most_11 : decode cX6_most 11 = .ok (.invokestatic 81, 3) := dk_184 0 81 (dk_at dksX6_most_0 11 rfl rfl)
theorem dX6_most_14 : decode cX6_most 14 = .ok (.ifCond .ne 10, 3) := dk_154 0 10 (dk_at dksX6_most_0 14 rfl rfl)
theorem dX6_most_17 : decode cX6_most 17 = .ok (.aload_n 0, 1) := dk_42 (dk_at dksX6_most_0 17 rfl rfl)
theorem dX6_most_18 : decode cX6_most 18 = .ok (.bipush (-2), 2) := dk_16 254 (dk_at dksX6_most_0 18 rfl rfl)
theorem dX6_most_20 : decode cX6_most 20 = .ok (.invokevirtual 85, 3) := dk_182 0 85 (dk_at dksX6_most_0 20 rfl rfl)
theorem dX6_most_23 : decode cX6_most 23 = .ok (.ireturn, 1) := dk_172 (dk_at dksX6_most_0 23 rfl rfl)
theorem dX6_most_24 : decode cX6_most 24 = .ok (.iload_n 1, 1) := dk_27 (dk_at dksX6_most_1 0 rfl rfl)
theorem dX6_most_25 : decode cX6_most 25 = .ok (.i2l, 1) := dk_133 (dk_at dksX6_most_1 1 rfl rfl)
theorem dX6_most_26 : decode cX6_most 26 = .ok (.lconst 1, 1) := dk_10 (dk_at dksX6_most_1 2 rfl rfl)
theorem dX6_most_27 : decode cX6_most 27 = .ok (.ldc2_w 105, 3) := dk_20 0 105 (dk_at dksX6_most_1 3 rfl rfl)
theorem dX6_most_30 : decode cX6_most 30 = .ok (.invokestatic 81, 3) := dk_184 0 81 (dk_at dksX6_most_1 6 rfl rfl)
theorem dX6_most_33 : decode cX6_most 33 = .ok (.ifCond .ne 10, 3) := dk_154 0 10 (dk_at dksX6_most_1 9 rfl rfl)
theorem dX6_most_36 : decode cX6_most 36 = .ok (.aload_n 0, 1) := dk_42 (dk_at dksX6_most_1 12 rfl rfl)
theorem dX6_most_37 : decode cX6_most 37 = .ok (.bipush (-3), 2) := dk_16 253 (dk_at dksX6_most_1 13 rfl rfl)
theorem dX6_most_39 : decode cX6_most 39 = .ok (.invokevirtual 85, 3) := dk_182 0 85 (dk_at dksX6_most_1 15 rfl rfl)
theorem dX6_most_42 : decode cX6_most 42 = .ok (.ireturn, 1) := dk_172 (dk_at dksX6_most_1 18 rfl rfl)
theorem dX6_most_43 : decode cX6_most 43 = .ok (.aload_n 0, 1) := dk_42 (dk_at dksX6_most_1 19 rfl rfl)
theorem dX6_most_44 : decode cX6_most 44 = .ok (.getfield 17, 3) := dk_180 0 17 (dk_at dksX6_most_1 20 rfl rfl)
theorem dX6_most_47 : decode cX6_most 47 = .ok (.sipush 223, 3) := dk_17 0 223 (dk_at dksX6_most_2 0 rfl rfl)
theorem dX6_most_50 : decode cX6_most 50 = .ok (.iaload, 1) := dk_46 (dk_at dksX6_most_2 3 rfl rfl)
theorem dX6_most_51 : decode cX6_most 51 = .ok (.ifCond .ne 10, 3) := dk_154 0 10 (dk_at dksX6_most_2 4 rfl rfl)
theorem dX6_most_54 : decode cX6_most 54 = .ok (.aload_n 0, 1) := dk_42 (dk_at dksX6_most_2 7 rfl rfl)
theorem dX6_most_55 : decode cX6_most 55 = .ok (.bipush (-5), 2) := dk_16 251 (dk_at dksX6_most_2 8 rfl rfl)
theorem dX6_most_57 : decode cX6_most 57 = .ok (.invokevirtual 85, 3) := dk_182 0 85 (dk_at dksX6_most_2 10 rfl rfl)
theorem dX6_most_60 : decode cX6_most 60 = .ok (.ireturn, 1) := dk_172 (dk_at dksX6_most_2 13 rfl rfl)
theorem dX6_most_61 : decode cX6_most 61 = .ok (.iconst 0, 1) := dk_3 (dk_at dksX6_most_2 14 rfl rfl)
theorem dX6_most_62 : decode cX6_most 62 = .ok (.istore_n 3, 1) := dk_62 (dk_at dksX6_most_2 15 rfl rfl)
theorem dX6_most_63 : decode cX6_most 63 = .ok (.iconst 0, 1) := dk_3 (dk_at dksX6_most_2 16 rfl rfl)
theorem dX6_most_64 : decode cX6_most 64 = .ok (.istore 4, 2) := dk_54 4 (dk_at dksX6_most_2 17 rfl rfl)
theorem dX6_most_66 : decode cX6_most 66 = .ok (.iconst 0, 1) := dk_3 (dk_at dksX6_most_2 19 rfl rfl)
theorem dX6_most_67 : decode cX6_most 67 = .ok (.istore 5, 2) := dk_54 5 (dk_at dksX6_most_2 20 rfl rfl)
theorem dX6_most_69 : decode cX6_most 69 = .ok (.iconst 0, 1) := dk_3 (dk_at dksX6_most_2 22 rfl rfl)
theorem dX6_most_70 : decode cX6_most 70 = .ok (.istore 6, 2) := dk_54 6 (dk_at dksX6_most_3 0 rfl rfl)
theorem dX6_most_72 : decode cX6_most 72 = .ok (.iload 6, 2) := dk_21 6 (dk_at dksX6_most_3 2 rfl rfl)
theorem dX6_most_74 : decode cX6_most 74 = .ok (.aload_n 0, 1) := dk_42 (dk_at dksX6_most_3 4 rfl rfl)
theorem dX6_most_75 : decode cX6_most 75 = .ok (.getfield 17, 3) := dk_180 0 17 (dk_at dksX6_most_3 5 rfl rfl)
theorem dX6_most_78 : decode cX6_most 78 = .ok (.sipush 223, 3) := dk_17 0 223 (dk_at dksX6_most_3 8 rfl rfl)
theorem dX6_most_81 : decode cX6_most 81 = .ok (.iaload, 1) := dk_46 (dk_at dksX6_most_3 11 rfl rfl)
theorem dX6_most_82 : decode cX6_most 82 = .ok (.if_icmp .ge 42, 3) := dk_162 0 42 (dk_at dksX6_most_3 12 rfl rfl)
theorem dX6_most_85 : decode cX6_most 85 = .ok (.aload_n 0, 1) := dk_42 (dk_at dksX6_most_3 15 rfl rfl)
theorem dX6_most_86 : decode cX6_most 86 = .ok (.iload 6, 2) := dk_21 6 (dk_at dksX6_most_3 16 rfl rfl)
theorem dX6_most_88 : decode cX6_most 88 = .ok (.iload_n 1, 1) := dk_27 (dk_at dksX6_most_3 18 rfl rfl)
theorem dX6_most_89 : decode cX6_most 89 = .ok (.invokevirtual 302, 3) := dk_182 1 46 (dk_at dksX6_most_3 19 rfl rfl)
theorem dX6_most_92 : decode cX6_most 92 = .ok (.istore 7, 2) := dk_54 7 (dk_at dksX6_most_3 22 rfl rfl)
theorem dX6_most_94 : decode cX6_most 94 = .ok (.iload 5, 2) := dk_21 5 (dk_at dksX6_most_4 0 rfl rfl)
theorem dX6_most_96 : decode cX6_most 96 = .ok (.iload 7, 2) := dk_21 7 (dk_at dksX6_most_4 2 rfl rfl)
theorem dX6_most_98 : decode cX6_most 98 = .ok (.iadd, 1) := dk_96 (dk_at dksX6_most_4 4 rfl rfl)
theorem dX6_most_99 : decode cX6_most 99 = .ok (.istore 5, 2) := dk_54 5 (dk_at dksX6_most_4 5 rfl rfl)
theorem dX6_most_101 : decode cX6_most 101 = .ok (.iload 7, 2) := dk_21 7 (dk_at dksX6_most_4 7 rfl rfl)
theorem dX6_most_103 : decode cX6_most 103 = .ok (.iload 4, 2) := dk_21 4 (dk_at dksX6_most_4 9 rfl rfl)
theorem dX6_most_105 : decode cX6_most 105 = .ok (.if_icmp .gt 6, 3) := dk_163 0 6 (dk_at dksX6_most_4 11 rfl rfl)
theorem dX6_most_108 : decode cX6_most 108 = .ok (.goto 10, 3) := dk_167 0 10 (dk_at dksX6_most_4 14 rfl rfl)
theorem dX6_most_111 : decode cX6_most 111 = .ok (.iload 6, 2) := dk_21 6 (dk_at dksX6_most_4 17 rfl rfl)
theorem dX6_most_113 : decode cX6_most 113 = .ok (.istore_n 3, 1) := dk_62 (dk_at dksX6_most_4 19 rfl rfl)
theorem dX6_most_114 : decode cX6_most 114 = .ok (.iload 7, 2) := dk_21 7 (dk_at dksX6_most_4 20 rfl rfl)
theorem dX6_most_116 : decode cX6_most 116 = .ok (.istore 4, 2) := dk_54 4 (dk_at dksX6_most_4 22 rfl rfl)
theorem dX6_most_118 : decode cX6_most 118 = .ok (.iinc 6 1, 3) := dk_132 6 1 (dk_at dksX6_most_5 0 rfl rfl)
theorem dX6_most_121 : decode cX6_most 121 = .ok (.goto (-49), 3) := dk_167 255 207 (dk_at dksX6_most_5 3 rfl rfl)
theorem dX6_most_124 : decode cX6_most 124 = .ok (.iload_n 2, 1) := dk_28 (dk_at dksX6_most_5 6 rfl rfl)
theorem dX6_most_125 : decode cX6_most 125 = .ok (.iconst 2, 1) := dk_5 (dk_at dksX6_most_5 7 rfl rfl)
theorem dX6_most_126 : decode cX6_most 126 = .ok (.if_icmp .ne 7, 3) := dk_160 0 7 (dk_at dksX6_most_5 8 rfl rfl)
theorem dX6_most_129 : decode cX6_most 129 = .ok (.iload_n 3, 1) := dk_29 (dk_at dksX6_most_5 11 rfl rfl)
theorem dX6_most_130 : decode cX6_most 130 = .ok (.goto 23, 3) := dk_167 0 23 (dk_at dksX6_most_5 12 rfl rfl)
theorem dX6_most_133 : decode cX6_most 133 = .ok (.iload 4, 2) := dk_21 4 (dk_at dksX6_most_5 15 rfl rfl)
theorem dX6_most_135 : decode cX6_most 135 = .ok (.aload_n 0, 1) := dk_42 (dk_at dksX6_most_5 17 rfl rfl)
theorem dX6_most_136 : decode cX6_most 136 = .ok (.getfield 17, 3) := dk_180 0 17 (dk_at dksX6_most_5 18 rfl rfl)
theorem dX6_most_139 : decode cX6_most 139 = .ok (.sipush 223, 3) := dk_17 0 223 (dk_at dksX6_most_5 21 rfl rfl)
theorem dX6_most_142 : decode cX6_most 142 = .ok (.iaload, 1) := dk_46 (dk_at dksX6_most_6 0 rfl rfl)
theorem dX6_most_143 : decode cX6_most 143 = .ok (.imul, 1) := dk_104 (dk_at dksX6_most_6 1 rfl rfl)
theorem dX6_most_144 : decode cX6_most 144 = .ok (.i2l, 1) := dk_133 (dk_at dksX6_most_6 2 rfl rfl)
theorem dX6_most_145 : decode cX6_most 145 = .ok (.iload 5, 2) := dk_21 5 (dk_at dksX6_most_6 3 rfl rfl)
theorem dX6_most_147 : decode cX6_most 147 = .ok (.i2l, 1) := dk_133 (dk_at dksX6_most_6 5 rfl rfl)
theorem dX6_most_148 : decode cX6_most 148 = .ok (.iload_n 2, 1) := dk_28 (dk_at dksX6_most_6 6 rfl rfl)
theorem dX6_most_149 : decode cX6_most 149 = .ok (.invokestatic 298, 3) := dk_184 1 42 (dk_at dksX6_most_6 7 rfl rfl)
theorem dX6_most_152 : decode cX6_most 152 = .ok (.l2i, 1) := dk_136 (dk_at dksX6_most_6 10 rfl rfl)
theorem dX6_most_153 : decode cX6_most 153 = .ok (.ireturn, 1) := dk_172 (dk_at dksX6_most_6 11 rfl rfl)
abbrev cX6_adds : ByteArray := prog_28_method_67_code
def yX6_adds : MethodName := ⟨RX6, "adds", "(II)I"⟩
def dkwX6_adds_2 : List UInt8 := [16, 253, 182, 0, 85, 172, 42, 27, 28, 2, 182, 1, 52, 172]
abbrev dktX6_adds_2 : List UInt8 := dkwX6_adds_2 ++ []
def dkwX6_adds_1 : List UInt8 := [154, 0, 10, 42, 16, 254, 182, 0, 85, 172, 28, 133, 9, 20, 0, 89, 184, 0, 81, 154, 0, 10, 42]
abbrev dktX6_adds_1 : List UInt8 := dkwX6_adds_1 ++ dktX6_adds_2
def dkwX6_adds_0 : List UInt8 := [42, 3, 181, 0, 1, 27, 133, 9, 42, 180, 0, 17, 17, 0, 223, 46, 4, 100, 133, 184, 0, 81]
abbrev dktX6_adds_0 : List UInt8 := dkwX6_adds_0 ++ dktX6_adds_1
theorem dksX6_adds_0 : cX6_adds.data.toList.drop 0 = dktX6_adds_0 := by decide +kernel
theorem dksX6_adds_1 : cX6_adds.data.toList.drop 22 = dktX6_adds_1 := dk_seg dksX6_adds_0 22 rfl rfl
theorem dksX6_adds_2 : cX6_adds.data.toList.drop 45 = dktX6_adds_2 := dk_seg dksX6_adds_1 23 rfl rfl
theorem dX6_adds_0 : decode cX6_adds 0 = .ok (.aload_n 0, 1) := dk_42 (dk_at dksX6_adds_0 0 rfl rfl)
theorem dX6_adds_1 : decode cX6_adds 1 = .ok (.iconst 0, 1) := dk_3 (dk_at dksX6_adds_0 1 rfl rfl)
theorem dX6_adds_2 : decode cX6_adds 2 = .ok (.putfield 1, 3) := dk_181 0 1 (dk_at dksX6_adds_0 2 rfl rfl)
theorem dX6_adds_5 : decode cX6_adds 5 = .ok (.iload_n 1, 1) := dk_27 (dk_at dksX6_adds_0 5 rfl rfl)
theorem dX6_adds_6 : decode cX6_adds 6 = .ok (.i2l, 1) := dk_133 (dk_at dksX6_adds_0 6 rfl rfl)
theorem dX6_adds_7 : decode cX6_adds 7 = .ok (.lconst 0, 1) := dk_9 (dk_at dksX6_adds_0 7 rfl rfl)
theorem dX6_adds_8 : decode cX6_adds 8 = .ok (.aload_n 0, 1) := dk_42 (dk_at dksX6_adds_0 8 rfl rfl)
theorem dX6_adds_9 : decode cX6_adds 9 = .ok (.getfield 17, 3) := dk_180 0 17 (dk_at dksX6_adds_0 9 rfl rfl)
theorem dX6_adds_12 : decode cX6_adds 12 = .ok (.sipush 223, 3) := dk_17 0 223 (dk_at dksX6_adds_0 12 rfl rfl)
theorem dX6_adds_15 : decode cX6_adds 15 = .ok (.iaload, 1) := dk_46 (dk_at dksX6_adds_0 15 rfl rfl)
theorem dX6_adds_16 : decode cX6_adds 16 = .ok (.iconst 1, 1) := dk_4 (dk_at dksX6_adds_0 16 rfl rfl)
theorem dX6_adds_17 : decode cX6_adds 17 = .ok (.isub, 1) := dk_100 (dk_at dksX6_adds_0 17 rfl rfl)
theorem dX6_adds_18 : decode cX6_adds 18 = .ok (.i2l, 1) := dk_133 (dk_at dksX6_adds_0 18 rfl rfl)
theorem dX6_adds_19 : decode cX6_adds 19 = .ok (.invokestatic 81, 3) := dk_184 0 81 (dk_at dksX6_adds_0 19 rfl rfl)
theorem dX6_adds_22 : decode cX6_adds 22 = .ok (.ifCond .ne 10, 3) := dk_154 0 10 (dk_at dksX6_adds_1 0 rfl rfl)
theorem dX6_adds_25 : decode cX6_adds 25 = .ok (.aload_n 0, 1) := dk_42 (dk_at dksX6_adds_1 3 rfl rfl)
theorem dX6_adds_26 : decode cX6_adds 26 = .ok (.bipush (-2), 2) := dk_16 254 (dk_at dksX6_adds_1 4 rfl rfl)
theorem dX6_adds_28 : decode cX6_adds 28 = .ok (.invokevirtual 85, 3) := dk_182 0 85 (dk_at dksX6_adds_1 6 rfl rfl)
theorem dX6_adds_31 : decode cX6_adds 31 = .ok (.ireturn, 1) := dk_172 (dk_at dksX6_adds_1 9 rfl rfl)
theorem dX6_adds_32 : decode cX6_adds 32 = .ok (.iload_n 2, 1) := dk_28 (dk_at dksX6_adds_1 10 rfl rfl)
theorem dX6_adds_33 : decode cX6_adds 33 = .ok (.i2l, 1) := dk_133 (dk_at dksX6_adds_1 11 rfl rfl)
theorem dX6_adds_34 : decode cX6_adds 34 = .ok (.lconst 0, 1) := dk_9 (dk_at dksX6_adds_1 12 rfl rfl)
theorem dX6_adds_35 : decode cX6_adds 35 = .ok (.ldc2_w 89, 3) := dk_20 0 89 (dk_at dksX6_adds_1 13 rfl rfl)
theorem dX6_adds_38 : decode cX6_adds 38 = .ok (.invokestatic 81, 3) := dk_184 0 81 (dk_at dksX6_adds_1 16 rfl rfl)
theorem dX6_adds_41 : decode cX6_adds 41 = .ok (.ifCond .ne 10, 3) := dk_154 0 10 (dk_at dksX6_adds_1 19 rfl rfl)
theorem dX6_adds_44 : decode cX6_adds 44 = .ok (.aload_n 0, 1) := dk_42 (dk_at dksX6_adds_1 22 rfl rfl)
theorem dX6_adds_45 : decode cX6_adds 45 = .ok (.bipush (-3), 2) := dk_16 253 (dk_at dksX6_adds_2 0 rfl rfl)
theorem dX6_adds_47 : decode cX6_adds 47 = .ok (.invokevirtual 85, 3) := dk_182 0 85 (dk_at dksX6_adds_2 2 rfl rfl)
theorem dX6_adds_50 : decode cX6_adds 50 = .ok (.ireturn, 1) := dk_172 (dk_at dksX6_adds_2 5 rfl rfl)
theorem dX6_adds_51 : decode cX6_adds 51 = .ok (.aload_n 0, 1) := dk_42 (dk_at dksX6_adds_2 6 rfl rfl)
theorem dX6_adds_52 : decode cX6_adds 52 = .ok (.iload_n 1, 1) := dk_27 (dk_at dksX6_adds_2 7 rfl rfl)
theorem dX6_adds_53 : decode cX6_adds 53 = .ok (.iload_n 2, 1) := dk_28 (dk_at dksX6_adds_2 8 rfl rfl)
theorem dX6_adds_54 : decode cX6_adds 54 = .ok (.iconst (-1), 1) := dk_2 (dk_at dksX6_adds_2 9 rfl rfl)
theorem dX6_adds_55 : decode cX6_adds 55 = .ok (.invokevirtual 308, 3) := dk_182 1 52 (dk_at dksX6_adds_2 10 rfl rfl)
theorem dX6_adds_58 : decode cX6_adds 58 = .ok (.ireturn, 1) := dk_172 (dk_at dksX6_adds_2 13 rfl rfl)
abbrev cX6_addsBy : ByteArray := prog_28_method_66_code
def yX6_addsBy : MethodName := ⟨RX6, "addsBy", "(III)I"⟩
def dkwX6_addsBy_8 : List UInt8 := [167, 0, 4, 2, 172]
abbrev dktX6_addsBy_8 : List UInt8 := dkwX6_addsBy_8 ++ []
def dkwX6_addsBy_7 : List UInt8 := [160, 0, 6, 21, 5, 172, 132, 4, 1, 132, 5, 1, 167, 255, 89, 29, 2, 160, 0, 8, 21, 4]
abbrev dktX6_addsBy_7 : List UInt8 := dkwX6_addsBy_7 ++ dktX6_addsBy_8
def dkwX6_addsBy_6 : List UInt8 := [167, 0, 4, 3, 54, 6, 132, 7, 1, 167, 255, 147, 21, 6, 154, 0, 6, 167, 0, 15, 21, 4, 29]
abbrev dktX6_addsBy_6 : List UInt8 := dkwX6_addsBy_6 ++ dktX6_addsBy_7
def dkwX6_addsBy_5 : List UInt8 := [96, 47, 42, 22, 8, 28, 182, 0, 236, 182, 0, 111, 42, 180, 0, 17, 17, 0, 248, 46, 161, 0, 7, 4]
abbrev dktX6_addsBy_5 : List UInt8 := dkwX6_addsBy_5 ++ dktX6_addsBy_6
def dkwX6_addsBy_4 : List UInt8 := [182, 0, 111, 42, 180, 0, 17, 17, 0, 248, 46, 162, 0, 36, 42, 42, 180, 0, 20, 17, 1, 224, 21, 5]
abbrev dktX6_addsBy_4 : List UInt8 := dkwX6_addsBy_4 ++ dktX6_addsBy_5
def dkwX6_addsBy_3 : List UInt8 := [104, 96, 21, 7, 96, 47, 55, 8, 42, 42, 180, 0, 20, 17, 1, 224, 21, 5, 96, 47, 22, 8]
abbrev dktX6_addsBy_3 : List UInt8 := dkwX6_addsBy_3 ++ dktX6_addsBy_4
def dkwX6_addsBy_2 : List UInt8 := [17, 0, 236, 27, 96, 46, 162, 0, 100, 21, 6, 154, 0, 95, 42, 180, 0, 20, 17, 2, 28, 16, 12, 27]
abbrev dktX6_addsBy_2 : List UInt8 := dkwX6_addsBy_2 ++ dktX6_addsBy_3
def dkwX6_addsBy_1 : List UInt8 := [21, 5, 182, 1, 16, 6, 162, 0, 6, 167, 0, 141, 3, 54, 6, 3, 54, 7, 21, 7, 42, 180, 0, 17]
abbrev dktX6_addsBy_1 : List UInt8 := dkwX6_addsBy_1 ++ dktX6_addsBy_2
def dkwX6_addsBy_0 : List UInt8 := [42, 182, 1, 13, 3, 54, 4, 3, 54, 5, 21, 5, 42, 180, 0, 17, 17, 0, 162, 46, 162, 0, 160, 42]
abbrev dktX6_addsBy_0 : List UInt8 := dkwX6_addsBy_0 ++ dktX6_addsBy_1
theorem dksX6_addsBy_0 : cX6_addsBy.data.toList.drop 0 = dktX6_addsBy_0 := by decide +kernel
theorem dksX6_addsBy_1 : cX6_addsBy.data.toList.drop 24 = dktX6_addsBy_1 := dk_seg dksX6_addsBy_0 24 rfl rfl
theorem dksX6_addsBy_2 : cX6_addsBy.data.toList.drop 48 = dktX6_addsBy_2 := dk_seg dksX6_addsBy_1 24 rfl rfl
theorem dksX6_addsBy_3 : cX6_addsBy.data.toList.drop 72 = dktX6_addsBy_3 := dk_seg dksX6_addsBy_2 24 rfl rfl
theorem dksX6_addsBy_4 : cX6_addsBy.data.toList.drop 94 = dktX6_addsBy_4 := dk_seg dksX6_addsBy_3 22 rfl rfl
theorem dksX6_addsBy_5 : cX6_addsBy.data.toList.drop 118 = dktX6_addsBy_5 := dk_seg dksX6_addsBy_4 24 rfl rfl
theorem dksX6_addsBy_6 : cX6_addsBy.data.toList.drop 142 = dktX6_addsBy_6 := dk_seg dksX6_addsBy_5 24 rfl rfl
theorem dksX6_addsBy_7 : cX6_addsBy.data.toList.drop 165 = dktX6_addsBy_7 := dk_seg dksX6_addsBy_6 23 rfl rfl
theorem dksX6_addsBy_8 : cX6_addsBy.data.toList.drop 187 = dktX6_addsBy_8 := dk_seg dksX6_addsBy_7 22 rfl rfl
theorem dX6_addsBy_0 : decode cX6_addsBy 0 = .ok (.aload_n 0, 1) := dk_42 (dk_at dksX6_addsBy_0 0 rfl rfl)
theorem dX6_addsBy_1 : decode cX6_addsBy 1 = .ok (.invokevirtual 269, 3) := dk_182 1 13 (dk_at dksX6_addsBy_0 1 rfl rfl)
theorem dX6_addsBy_4 : decode cX6_addsBy 4 = .ok (.iconst 0, 1) := dk_3 (dk_at dksX6_addsBy_0 4 rfl rfl)
theorem dX6_addsBy_5 : decode cX6_addsBy 5 = .ok (.istore 4, 2) := dk_54 4 (dk_at dksX6_addsBy_0 5 rfl rfl)
theorem dX6_addsBy_7 : decode cX6_addsBy 7 = .ok (.iconst 0, 1) := dk_3 (dk_at dksX6_addsBy_0 7 rfl rfl)
theorem dX6_addsBy_8 : decode cX6_addsBy 8 = .ok (.istore 5, 2) := dk_54 5 (dk_at dksX6_addsBy_0 8 rfl rfl)
theorem dX6_addsBy_10 : decode cX6_addsBy 10 = .ok (.iload 5, 2) := dk_21 5 (dk_at dksX6_addsBy_0 10 rfl rfl)
theorem dX6_addsBy_12 : decode cX6_addsBy 12 = .ok (.aload_n 0, 1) := dk_42 (dk_at dksX6_addsBy_0 12 rfl rfl)
theorem dX6_addsBy_13 : decode cX6_addsBy 13 = .ok (.getfield 17, 3) := dk_180 0 17 (dk_at dksX6_addsBy_0 13 rfl rfl)
theorem dX6_addsBy_16 : decode cX6_addsBy 16 = .ok (.sipush 162, 3) := dk_17 0 162 (dk_at dksX6_addsBy_0 16 rfl rfl)
theorem dX6_addsBy_19 : decode cX6_addsBy 19 = .ok (.iaload, 1) := dk_46 (dk_at dksX6_addsBy_0 19 rfl rfl)
theorem dX6_addsBy_20 : decode cX6_addsBy 20 = .ok (.if_icmp .ge 160, 3) := dk_162 0 160 (dk_at dksX6_addsBy_0 20 rfl rfl)
theorem dX6_addsBy_23 : decode cX6_addsBy 23 = .ok (.aload_n 0, 1) := dk_42 (dk_at dksX6_addsBy_0 23 rfl rfl)
theorem dX6_addsBy_24 : decode cX6_addsBy 24 = .ok (.iload 5, 2) := dk_21 5 (dk_at dksX6_addsBy_1 0 rfl rfl)
theorem dX6_addsBy_26 : decode cX6_addsBy 26 = .ok (.invokevirtual 272, 3) := dk_182 1 16 (dk_at dksX6_addsBy_1 2 rfl rfl)
theorem dX6_addsBy_29 : decode cX6_addsBy 29 = .ok (.iconst 3, 1) := dk_6 (dk_at dksX6_addsBy_1 5 rfl rfl)
theorem dX6_addsBy_30 : decode cX6_addsBy 30 = .ok (.if_icmp .ge 6, 3) := dk_162 0 6 (dk_at dksX6_addsBy_1 6 rfl rfl)
theorem dX6_addsBy_33 : decode cX6_addsBy 33 = .ok (.goto 141, 3) := dk_167 0 141 (dk_at dksX6_addsBy_1 9 rfl rfl)
theorem dX6_addsBy_36 : decode cX6_addsBy 36 = .ok (.iconst 0, 1) := dk_3 (dk_at dksX6_addsBy_1 12 rfl rfl)
theorem dX6_addsBy_37 : decode cX6_addsBy 37 = .ok (.istore 6, 2) := dk_54 6 (dk_at dksX6_addsBy_1 13 rfl rfl)
theorem dX6_addsBy_39 : decode cX6_addsBy 39 = .ok (.iconst 0, 1) := dk_3 (dk_at dksX6_addsBy_1 15 rfl rfl)
theorem dX6_addsBy_40 : decode cX6_addsBy 40 = .ok (.istore 7, 2) := dk_54 7 (dk_at dksX6_addsBy_1 16 rfl rfl)
theorem dX6_addsBy_42 : decode cX6_addsBy 42 = .ok (.iload 7, 2) := dk_21 7 (dk_at dksX6_addsBy_1 18 rfl rfl)
theorem dX6_addsBy_44 : decode cX6_addsBy 44 = .ok (.aload_n 0, 1) := dk_42 (dk_at dksX6_addsBy_1 20 rfl rfl)
theorem dX6_addsBy_45 : decode cX6_addsBy 45 = .ok (.getfield 17, 3) := dk_180 0 17 (dk_at dksX6_addsBy_1 21 rfl rfl)
theorem dX6_addsBy_48 : decode cX6_addsBy 48 = .ok (.sipush 236, 3) := dk_17 0 236 (dk_at dksX6_addsBy_2 0 rfl rfl)
theorem dX6_addsBy_51 : decode cX6_addsBy 51 = .ok (.iload_n 1, 1) := dk_27 (dk_at dksX6_addsBy_2 3 rfl rfl)
theorem dX6_addsBy_52 : decode cX6_addsBy 52 = .ok (.iadd, 1) := dk_96 (dk_at dksX6_addsBy_2 4 rfl rfl)
theorem dX6_addsBy_53 : decode cX6_addsBy 53 = .ok (.iaload, 1) := dk_46 (dk_at dksX6_addsBy_2 5 rfl rfl)
theorem dX6_addsBy_54 : decode cX6_addsBy 54 = .ok (.if_icmp .ge 100, 3) := dk_162 0 100 (dk_at dksX6_addsBy_2 6 rfl rfl)
theorem dX6_addsBy_57 : decode cX6_addsBy 57 = .ok (.iload 6, 2) := dk_21 6 (dk_at dksX6_addsBy_2 9 rfl rfl)
theorem dX6_addsBy_59 : decode cX6_addsBy 59 = .ok (.ifCond .ne 95, 3) := dk_154 0 95 (dk_at dksX6_addsBy_2 11 rfl rfl)
theorem dX6_addsBy_62 : decode cX6_addsBy 62 = .ok (.aload_n 0, 1) := dk_42 (dk_at dksX6_addsBy_2 14 rfl rfl)
theorem dX6_addsBy_63 : decode cX6_addsBy 63 = .ok (.getfield 20, 3) := dk_180 0 20 (dk_at dksX6_addsBy_2 15 rfl rfl)
theorem dX6_addsBy_66 : decode cX6_addsBy 66 = .ok (.sipush 540, 3) := dk_17 2 28 (dk_at dksX6_addsBy_2 18 rfl rfl)
theorem dX6_addsBy_69 : decode cX6_addsBy 69 = .ok (.bipush 12, 2) := dk_16 12 (dk_at dksX6_addsBy_2 21 rfl rfl)
theorem dX6_addsBy_71 : decode cX6_addsBy 71 = .ok (.iload_n 1, 1) := dk_27 (dk_at dksX6_addsBy_2 23 rfl rfl)
theorem dX6_addsBy_72 : decode cX6_addsBy 72 = .ok (.imul, 1) := dk_104 (dk_at dksX6_addsBy_3 0 rfl rfl)
theorem dX6_addsBy_73 : decode cX6_addsBy 73 = .ok (.iadd, 1) := dk_96 (dk_at dksX6_addsBy_3 1 rfl rfl)
theorem dX6_addsBy_74 : decode cX6_addsBy 74 = .ok (.iload 7, 2) := dk_21 7 (dk_at dksX6_addsBy_3 2 rfl rfl)
theorem dX6_addsBy_76 : decode cX6_addsBy 76 = .ok (.iadd, 1) := dk_96 (dk_at dksX6_addsBy_3 4 rfl rfl)
theorem dX6_addsBy_77 : decode cX6_addsBy 77 = .ok (.laload, 1) := dk_47 (dk_at dksX6_addsBy_3 5 rfl rfl)
theorem dX6_addsBy_78 : decode cX6_addsBy 78 = .ok (.lstore 8, 2) := dk_55 8 (dk_at dksX6_addsBy_3 6 rfl rfl)
theorem dX6_addsBy_80 : decode cX6_addsBy 80 = .ok (.aload_n 0, 1) := dk_42 (dk_at dksX6_addsBy_3 8 rfl rfl)
theorem dX6_addsBy_81 : decode cX6_addsBy 81 = .ok (.aload_n 0, 1) := dk_42 (dk_at dksX6_addsBy_3 9 rfl rfl)
theorem dX6_addsBy_82 : decode cX6_addsBy 82 = .ok (.getfield 20, 3) := dk_180 0 20 (dk_at dksX6_addsBy_3 10 rfl rfl)
theorem dX6_addsBy_85 : decode cX6_addsBy 85 = .ok (.sipush 480, 3) := dk_17 1 224 (dk_at dksX6_addsBy_3 13 rfl rfl)
theorem dX6_addsBy_88 : decode cX6_addsBy 88 = .ok (.iload 5, 2) := dk_21 5 (dk_at dksX6_addsBy_3 16 rfl rfl)
theorem dX6_addsBy_90 : decode cX6_addsBy 90 = .ok (.iadd, 1) := dk_96 (dk_at dksX6_addsBy_3 18 rfl rfl)
theorem dX6_addsBy_91 : decode cX6_addsBy 91 = .ok (.laload, 1) := dk_47 (dk_at dksX6_addsBy_3 19 rfl rfl)
theorem dX6_addsBy_92 : decode cX6_addsBy 92 = .ok (.lload 8, 2) := dk_22 8 (dk_at dksX6_addsBy_3 20 rfl rfl)
theorem dX6_addsBy_94 : decode cX6_addsBy 94 = .ok (.invokevirtual 111, 3) := dk_182 0 111 (dk_at dksX6_addsBy_4 0 rfl rfl)
theorem dX6_addsBy_97 : decode cX6_addsBy 97 = .ok (.aload_n 0, 1) := dk_42 (dk_at dksX6_addsBy_4 3 rfl rfl)
theorem dX6_addsBy_98 : decode cX6_addsBy 98 = .ok (.getfield 17, 3) := dk_180 0 17 (dk_at dksX6_addsBy_4 4 rfl rfl)
theorem dX6_addsBy_101 : decode cX6_addsBy 101 = .ok (.sipush 248, 3) := dk_17 0 248 (dk_at dksX6_addsBy_4 7 rfl rfl)
theorem dX6_addsBy_104 : decode cX6_addsBy 104 = .ok (.iaload, 1) := dk_46 (dk_at dksX6_addsBy_4 10 rfl rfl)
theorem dX6_addsBy_105 : decode cX6_addsBy 105 = .ok (.if_icmp .ge 36, 3) := dk_162 0 36 (dk_at dksX6_addsBy_4 11 rfl rfl)
theorem dX6_addsBy_108 : decode cX6_addsBy 108 = .ok (.aload_n 0, 1) := dk_42 (dk_at dksX6_addsBy_4 14 rfl rfl)
theorem dX6_addsBy_109 : decode cX6_addsBy 109 = .ok (.aload_n 0, 1) := dk_42 (dk_at dksX6_addsBy_4 15 rfl rfl)
theorem dX6_addsBy_110 : decode cX6_addsBy 110 = .ok (.getfield 20, 3) := dk_180 0 20 (dk_at dksX6_addsBy_4 16 rfl rfl)
theorem dX6_addsBy_113 : decode cX6_addsBy 113 = .ok (.sipush 480, 3) := dk_17 1 224 (dk_at dksX6_addsBy_4 19 rfl rfl)
theorem dX6_addsBy_116 : decode cX6_addsBy 116 = .ok (.iload 5, 2) := dk_21 5 (dk_at dksX6_addsBy_4 22 rfl rfl)
theorem dX6_addsBy_118 : decode cX6_addsBy 118 = .ok (.iadd, 1) := dk_96 (dk_at dksX6_addsBy_5 0 rfl rfl)
theorem dX6_addsBy_119 : decode cX6_addsBy 119 = .ok (.laload, 1) := dk_47 (dk_at dksX6_addsBy_5 1 rfl rfl)
theorem dX6_addsBy_120 : decode cX6_addsBy 120 = .ok (.aload_n 0, 1) := dk_42 (dk_at dksX6_addsBy_5 2 rfl rfl)
theorem dX6_addsBy_121 : decode cX6_addsBy 121 = .ok (.lload 8, 2) := dk_22 8 (dk_at dksX6_addsBy_5 3 rfl rfl)
theorem dX6_addsBy_123 : decode cX6_addsBy 123 = .ok (.iload_n 2, 1) := dk_28 (dk_at dksX6_addsBy_5 5 rfl rfl)
theorem dX6_addsBy_124 : decode cX6_addsBy 124 = .ok (.invokevirtual 236, 3) := dk_182 0 236 (dk_at dksX6_addsBy_5 6 rfl rfl)
theorem dX6_addsBy_127 : decode cX6_addsBy 127 = .ok (.invokevirtual 111, 3) := dk_182 0 111 (dk_at dksX6_addsBy_5 9 rfl rfl)
theorem dX6_addsBy_130 : decode cX6_addsBy 130 = .ok (.aload_n 0, 1) := dk_42 (dk_at dksX6_addsBy_5 12 rfl rfl)
theorem dX6_addsBy_131 : decode cX6_addsBy 131 = .ok (.getfield 17, 3) := dk_180 0 17 (dk_at dksX6_addsBy_5 13 rfl rfl)
theorem dX6_addsBy_134 : decode cX6_addsBy 134 = .ok (.sipush 248, 3) := dk_17 0 248 (dk_at dksX6_addsBy_5 16 rfl rfl)
theorem dX6_addsBy_137 : decode cX6_addsBy 137 = .ok (.iaload, 1) := dk_46 (dk_at dksX6_addsBy_5 19 rfl rfl)
theorem dX6_addsBy_138 : decode cX6_addsBy 138 = .ok (.if_icmp .lt 7, 3) := dk_161 0 7 (dk_at dksX6_addsBy_5 20 rfl rfl)
theorem dX6_addsBy_141 : decode cX6_addsBy 141 = .ok (.iconst 1, 1) := dk_4 (dk_at dksX6_addsBy_5 23 rfl rfl)
theorem dX6_addsBy_142 : decode cX6_addsBy 142 = .ok (.goto 4, 3) := dk_167 0 4 (dk_at dksX6_addsBy_6 0 rfl rfl)
theorem dX6_addsBy_145 : decode cX6_addsBy 145 = .ok (.iconst 0, 1) := dk_3 (dk_at dksX6_addsBy_6 3 rfl rfl)
theorem dX6_addsBy_146 : decode cX6_addsBy 146 = .ok (.istore 6, 2) := dk_54 6 (dk_at dksX6_addsBy_6 4 rfl rfl)
theorem dX6_addsBy_148 : decode cX6_addsBy 148 = .ok (.iinc 7 1, 3) := dk_132 7 1 (dk_at dksX6_addsBy_6 6 rfl rfl)
theorem dX6_addsBy_151 : decode cX6_addsBy 151 = .ok (.goto (-109), 3) := dk_167 255 147 (dk_at dksX6_addsBy_6 9 rfl rfl)
theorem dX6_addsBy_154 : decode cX6_addsBy 154 = .ok (.iload 6, 2) := dk_21 6 (dk_at dksX6_addsBy_6 12 rfl rfl)
theorem dX6_addsBy_156 : decode cX6_addsBy 156 = .ok (.ifCond .ne 6, 3) := dk_154 0 6 (dk_at dksX6_addsBy_6 14 rfl rfl)
theorem dX6_addsBy_159 : decode cX6_addsBy 159 = .ok (.goto 15, 3) := dk_167 0 15 (dk_at dksX6_addsBy_6 17 rfl rfl)
theorem dX6_addsBy_162 : decode cX6_addsBy 162 = .ok (.iload 4, 2) := dk_21 4 (dk_at dksX6_addsBy_6 20 rfl rfl)
theorem dX6_addsBy_164 : decode cX6_addsBy 164 = .ok (.iload_n 3, 1) := dk_29 (dk_at dksX6_addsBy_6 22 rfl rfl)
theorem dX6_addsBy_165 : decode cX6_addsBy 165 = .ok (.if_icmp .ne 6, 3) := dk_160 0 6 (dk_at dksX6_addsBy_7 0 rfl rfl)
theorem dX6_addsBy_168 : decode cX6_addsBy 168 = .ok (.iload 5, 2) := dk_21 5 (dk_at dksX6_addsBy_7 3 rfl rfl)
theorem dX6_addsBy_170 : decode cX6_addsBy 170 = .ok (.ireturn, 1) := dk_172 (dk_at dksX6_addsBy_7 5 rfl rfl)
theorem dX6_addsBy_171 : decode cX6_addsBy 171 = .ok (.iinc 4 1, 3) := dk_132 4 1 (dk_at dksX6_addsBy_7 6 rfl rfl)
theorem dX6_addsBy_174 : decode cX6_addsBy 174 = .ok (.iinc 5 1, 3) := dk_132 5 1 (dk_at dksX6_addsBy_7 9 rfl rfl)
theorem dX6_addsBy_177 : decode cX6_addsBy 177 = .ok (.goto (-167), 3) := dk_167 255 89 (dk_at dksX6_addsBy_7 12 rfl rfl)
theorem dX6_addsBy_180 : decode cX6_addsBy 180 = .ok (.iload_n 3, 1) := dk_29 (dk_at dksX6_addsBy_7 15 rfl rfl)
theorem dX6_addsBy_181 : decode cX6_addsBy 181 = .ok (.iconst (-1), 1) := dk_2 (dk_at dksX6_addsBy_7 16 rfl rfl)
theorem dX6_addsBy_182 : decode cX6_addsBy 182 = .ok (.if_icmp .ne 8, 3) := dk_160 0 8 (dk_at dksX6_addsBy_7 17 rfl rfl)
theorem dX6_addsBy_185 : decode cX6_addsBy 185 = .ok (.iload 4, 2) := dk_21 4 (dk_at dksX6_addsBy_7 20 rfl rfl)
theorem dX6_addsBy_187 : decode cX6_addsBy 187 = .ok (.goto 4, 3) := dk_167 0 4 (dk_at dksX6_addsBy_8 0 rfl rfl)
theorem dX6_addsBy_190 : decode cX6_addsBy 190 = .ok (.iconst (-1), 1) := dk_2 (dk_at dksX6_addsBy_8 3 rfl rfl)
theorem dX6_addsBy_191 : decode cX6_addsBy 191 = .ok (.ireturn, 1) := dk_172 (dk_at dksX6_addsBy_8 4 rfl rfl)
abbrev cX6_added : ByteArray := prog_28_method_68_code
def yX6_added : MethodName := ⟨RX6, "added", "(III)I"⟩
def dkwX6_added_2 : List UInt8 := [16, 253, 182, 0, 85, 172, 29, 156, 0, 7, 2, 167, 0, 10, 42, 27, 28, 29, 182, 1, 52, 172]
abbrev dktX6_added_2 : List UInt8 := dkwX6_added_2 ++ []
def dkwX6_added_1 : List UInt8 := [154, 0, 10, 42, 16, 254, 182, 0, 85, 172, 28, 133, 9, 20, 0, 89, 184, 0, 81, 154, 0, 10, 42]
abbrev dktX6_added_1 : List UInt8 := dkwX6_added_1 ++ dktX6_added_2
def dkwX6_added_0 : List UInt8 := [42, 3, 181, 0, 1, 27, 133, 9, 42, 180, 0, 17, 17, 0, 223, 46, 4, 100, 133, 184, 0, 81]
abbrev dktX6_added_0 : List UInt8 := dkwX6_added_0 ++ dktX6_added_1
theorem dksX6_added_0 : cX6_added.data.toList.drop 0 = dktX6_added_0 := by decide +kernel
theorem dksX6_added_1 : cX6_added.data.toList.drop 22 = dktX6_added_1 := dk_seg dksX6_added_0 22 rfl rfl
theorem dksX6_added_2 : cX6_added.data.toList.drop 45 = dktX6_added_2 := dk_seg dksX6_added_1 23 rfl rfl
theorem dX6_added_0 : decode cX6_added 0 = .ok (.aload_n 0, 1) := dk_42 (dk_at dksX6_added_0 0 rfl rfl)
theorem dX6_added_1 : decode cX6_added 1 = .ok (.iconst 0, 1) := dk_3 (dk_at dksX6_added_0 1 rfl rfl)
theorem dX6_added_2 : decode cX6_added 2 = .ok (.putfield 1, 3) := dk_181 0 1 (dk_at dksX6_added_0 2 rfl rfl)
theorem dX6_added_5 : decode cX6_added 5 = .ok (.iload_n 1, 1) := dk_27 (dk_at dksX6_added_0 5 rfl rfl)
theorem dX6_added_6 : decode cX6_added 6 = .ok (.i2l, 1) := dk_133 (dk_at dksX6_added_0 6 rfl rfl)
theorem dX6_added_7 : decode cX6_added 7 = .ok (.lconst 0, 1) := dk_9 (dk_at dksX6_added_0 7 rfl rfl)
theorem dX6_added_8 : decode cX6_added 8 = .ok (.aload_n 0, 1) := dk_42 (dk_at dksX6_added_0 8 rfl rfl)
theorem dX6_added_9 : decode cX6_added 9 = .ok (.getfield 17, 3) := dk_180 0 17 (dk_at dksX6_added_0 9 rfl rfl)
theorem dX6_added_12 : decode cX6_added 12 = .ok (.sipush 223, 3) := dk_17 0 223 (dk_at dksX6_added_0 12 rfl rfl)
theorem dX6_added_15 : decode cX6_added 15 = .ok (.iaload, 1) := dk_46 (dk_at dksX6_added_0 15 rfl rfl)
theorem dX6_added_16 : decode cX6_added 16 = .ok (.iconst 1, 1) := dk_4 (dk_at dksX6_added_0 16 rfl rfl)
theorem dX6_added_17 : decode cX6_added 17 = .ok (.isub, 1) := dk_100 (dk_at dksX6_added_0 17 rfl rfl)
theorem dX6_added_18 : decode cX6_added 18 = .ok (.i2l, 1) := dk_133 (dk_at dksX6_added_0 18 rfl rfl)
theorem dX6_added_19 : decode cX6_added 19 = .ok (.invokestatic 81, 3) := dk_184 0 81 (dk_at dksX6_added_0 19 rfl rfl)
theorem dX6_added_22 : decode cX6_added 22 = .ok (.ifCond .ne 10, 3) := dk_154 0 10 (dk_at dksX6_added_1 0 rfl rfl)
theorem dX6_added_25 : decode cX6_added 25 = .ok (.aload_n 0, 1) := dk_42 (dk_at dksX6_added_1 3 rfl rfl)
theorem dX6_added_26 : decode cX6_added 26 = .ok (.bipush (-2), 2) := dk_16 254 (dk_at dksX6_added_1 4 rfl rfl)
theorem dX6_added_28 : decode cX6_added 28 = .ok (.invokevirtual 85, 3) := dk_182 0 85 (dk_at dksX6_added_1 6 rfl rfl)
theorem dX6_added_31 : decode cX6_added 31 = .ok (.ireturn, 1) := dk_172 (dk_at dksX6_added_1 9 rfl rfl)
theorem dX6_added_32 : decode cX6_added 32 = .ok (.iload_n 2, 1) := dk_28 (dk_at dksX6_added_1 10 rfl rfl)
theorem dX6_added_33 : decode cX6_added 33 = .ok (.i2l, 1) := dk_133 (dk_at dksX6_added_1 11 rfl rfl)
theorem dX6_added_34 : decode cX6_added 34 = .ok (.lconst 0, 1) := dk_9 (dk_at dksX6_added_1 12 rfl rfl)
theorem dX6_added_35 : decode cX6_added 35 = .ok (.ldc2_w 89, 3) := dk_20 0 89 (dk_at dksX6_added_1 13 rfl rfl)
theorem dX6_added_38 : decode cX6_added 38 = .ok (.invokestatic 81, 3) := dk_184 0 81 (dk_at dksX6_added_1 16 rfl rfl)
theorem dX6_added_41 : decode cX6_added 41 = .ok (.ifCond .ne 10, 3) := dk_154 0 10 (dk_at dksX6_added_1 19 rfl rfl)
theorem dX6_added_44 : decode cX6_added 44 = .ok (.aload_n 0, 1) := dk_42 (dk_at dksX6_added_1 22 rfl rfl)
theorem dX6_added_45 : decode cX6_added 45 = .ok (.bipush (-3), 2) := dk_16 253 (dk_at dksX6_added_2 0 rfl rfl)
theorem dX6_added_47 : decode cX6_added 47 = .ok (.invokevirtual 85, 3) := dk_182 0 85 (dk_at dksX6_added_2 2 rfl rfl)
theorem dX6_added_50 : decode cX6_added 50 = .ok (.ireturn, 1) := dk_172 (dk_at dksX6_added_2 5 rfl rfl)
theorem dX6_added_51 : decode cX6_added 51 = .ok (.iload_n 3, 1) := dk_29 (dk_at dksX6_added_2 6 rfl rfl)
theorem dX6_added_52 : decode cX6_added 52 = .ok (.ifCond .ge 7, 3) := dk_156 0 7 (dk_at dksX6_added_2 7 rfl rfl)
theorem dX6_added_55 : decode cX6_added 55 = .ok (.iconst (-1), 1) := dk_2 (dk_at dksX6_added_2 10 rfl rfl)
theorem dX6_added_56 : decode cX6_added 56 = .ok (.goto 10, 3) := dk_167 0 10 (dk_at dksX6_added_2 11 rfl rfl)
theorem dX6_added_59 : decode cX6_added 59 = .ok (.aload_n 0, 1) := dk_42 (dk_at dksX6_added_2 14 rfl rfl)
theorem dX6_added_60 : decode cX6_added 60 = .ok (.iload_n 1, 1) := dk_27 (dk_at dksX6_added_2 15 rfl rfl)
theorem dX6_added_61 : decode cX6_added 61 = .ok (.iload_n 2, 1) := dk_28 (dk_at dksX6_added_2 16 rfl rfl)
theorem dX6_added_62 : decode cX6_added 62 = .ok (.iload_n 3, 1) := dk_29 (dk_at dksX6_added_2 17 rfl rfl)
theorem dX6_added_63 : decode cX6_added 63 = .ok (.invokevirtual 308, 3) := dk_182 1 52 (dk_at dksX6_added_2 18 rfl rfl)
theorem dX6_added_66 : decode cX6_added 66 = .ok (.ireturn, 1) := dk_172 (dk_at dksX6_added_2 21 rfl rfl)
abbrev cX6_year : ByteArray := prog_28_method_69_code
def yX6_year : MethodName := ⟨RX6, "year", "(II)I"⟩
def dkwX6_year_2 : List UInt8 := [17, 0, 250, 27, 96, 46, 62, 42, 180, 0, 17, 17, 0, 250, 27, 96, 28, 79, 29, 172]
abbrev dktX6_year_2 : List UInt8 := dkwX6_year_2 ++ []
def dkwX6_year_1 : List UInt8 := [28, 133, 9, 20, 0, 93, 184, 0, 81, 154, 0, 10, 42, 16, 253, 182, 0, 85, 172, 42, 180, 0, 17]
abbrev dktX6_year_1 : List UInt8 := dkwX6_year_1 ++ dktX6_year_2
def dkwX6_year_0 : List UInt8 := [42, 3, 181, 0, 1, 27, 133, 10, 20, 1, 55, 184, 0, 81, 154, 0, 10, 42, 16, 254, 182, 0, 85, 172]
abbrev dktX6_year_0 : List UInt8 := dkwX6_year_0 ++ dktX6_year_1
theorem dksX6_year_0 : cX6_year.data.toList.drop 0 = dktX6_year_0 := by decide +kernel
theorem dksX6_year_1 : cX6_year.data.toList.drop 24 = dktX6_year_1 := dk_seg dksX6_year_0 24 rfl rfl
theorem dksX6_year_2 : cX6_year.data.toList.drop 47 = dktX6_year_2 := dk_seg dksX6_year_1 23 rfl rfl
theorem dX6_year_0 : decode cX6_year 0 = .ok (.aload_n 0, 1) := dk_42 (dk_at dksX6_year_0 0 rfl rfl)
theorem dX6_year_1 : decode cX6_year 1 = .ok (.iconst 0, 1) := dk_3 (dk_at dksX6_year_0 1 rfl rfl)
theorem dX6_year_2 : decode cX6_year 2 = .ok (.putfield 1, 3) := dk_181 0 1 (dk_at dksX6_year_0 2 rfl rfl)
theorem dX6_year_5 : decode cX6_year 5 = .ok (.iload_n 1, 1) := dk_27 (dk_at dksX6_year_0 5 rfl rfl)
theorem dX6_year_6 : decode cX6_year 6 = .ok (.i2l, 1) := dk_133 (dk_at dksX6_year_0 6 rfl rfl)
theorem dX6_year_7 : decode cX6_year 7 = .ok (.lconst 1, 1) := dk_10 (dk_at dksX6_year_0 7 rfl rfl)
theorem dX6_year_8 : decode cX6_year 8 = .ok (.ldc2_w 311, 3) := dk_20 1 55 (dk_at dksX6_year_0 8 rfl rfl)
theorem dX6_year_11 : decode cX6_year 11 = .ok (.invokestatic 81, 3) := dk_184 0 81 (dk_at dksX6_year_0 11 rfl rfl)
theorem dX6_year_14 : decode cX6_year 14 = .ok (.ifCond .ne 10, 3) := dk_154 0 10 (dk_at dksX6_year_0 14 rfl rfl)
theorem dX6_year_17 : decode cX6_year 17 = .ok (.aload_n 0, 1) := dk_42 (dk_at dksX6_year_0 17 rfl rfl)
theorem dX6_year_18 : decode cX6_year 18 = .ok (.bipush (-2), 2) := dk_16 254 (dk_at dksX6_year_0 18 rfl rfl)
theorem dX6_year_20 : decode cX6_year 20 = .ok (.invokevirtual 85, 3) := dk_182 0 85 (dk_at dksX6_year_0 20 rfl rfl)
theorem dX6_year_23 : decode cX6_year 23 = .ok (.ireturn, 1) := dk_172 (dk_at dksX6_year_0 23 rfl rfl)
theorem dX6_year_24 : decode cX6_year 24 = .ok (.iload_n 2, 1) := dk_28 (dk_at dksX6_year_1 0 rfl rfl)
theorem dX6_year_25 : decode cX6_year 25 = .ok (.i2l, 1) := dk_133 (dk_at dksX6_year_1 1 rfl rfl)
theorem dX6_year_26 : decode cX6_year 26 = .ok (.lconst 0, 1) := dk_9 (dk_at dksX6_year_1 2 rfl rfl)
theorem dX6_year_27 : decode cX6_year 27 = .ok (.ldc2_w 93, 3) := dk_20 0 93 (dk_at dksX6_year_1 3 rfl rfl)
theorem dX6_year_30 : decode cX6_year 30 = .ok (.invokestatic 81, 3) := dk_184 0 81 (dk_at dksX6_year_1 6 rfl rfl)
theorem dX6_year_33 : decode cX6_year 33 = .ok (.ifCond .ne 10, 3) := dk_154 0 10 (dk_at dksX6_year_1 9 rfl rfl)
theorem dX6_year_36 : decode cX6_year 36 = .ok (.aload_n 0, 1) := dk_42 (dk_at dksX6_year_1 12 rfl rfl)
theorem dX6_year_37 : decode cX6_year 37 = .ok (.bipush (-3), 2) := dk_16 253 (dk_at dksX6_year_1 13 rfl rfl)
theorem dX6_year_39 : decode cX6_year 39 = .ok (.invokevirtual 85, 3) := dk_182 0 85 (dk_at dksX6_year_1 15 rfl rfl)
theorem dX6_year_42 : decode cX6_year 42 = .ok (.ireturn, 1) := dk_172 (dk_at dksX6_year_1 18 rfl rfl)
theorem dX6_year_43 : decode cX6_year 43 = .ok (.aload_n 0, 1) := dk_42 (dk_at dksX6_year_1 19 rfl rfl)
theorem dX6_year_44 : decode cX6_year 44 = .ok (.getfield 17, 3) := dk_180 0 17 (dk_at dksX6_year_1 20 rfl rfl)
theorem dX6_year_47 : decode cX6_year 47 = .ok (.sipush 250, 3) := dk_17 0 250 (dk_at dksX6_year_2 0 rfl rfl)
theorem dX6_year_50 : decode cX6_year 50 = .ok (.iload_n 1, 1) := dk_27 (dk_at dksX6_year_2 3 rfl rfl)
theorem dX6_year_51 : decode cX6_year 51 = .ok (.iadd, 1) := dk_96 (dk_at dksX6_year_2 4 rfl rfl)
theorem dX6_year_52 : decode cX6_year 52 = .ok (.iaload, 1) := dk_46 (dk_at dksX6_year_2 5 rfl rfl)
theorem dX6_year_53 : decode cX6_year 53 = .ok (.istore_n 3, 1) := dk_62 (dk_at dksX6_year_2 6 rfl rfl)
theorem dX6_year_54 : decode cX6_year 54 = .ok (.aload_n 0, 1) := dk_42 (dk_at dksX6_year_2 7 rfl rfl)
theorem dX6_year_55 : decode cX6_year 55 = .ok (.getfield 17, 3) := dk_180 0 17 (dk_at dksX6_year_2 8 rfl rfl)
theorem dX6_year_58 : decode cX6_year 58 = .ok (.sipush 250, 3) := dk_17 0 250 (dk_at dksX6_year_2 11 rfl rfl)
theorem dX6_year_61 : decode cX6_year 61 = .ok (.iload_n 1, 1) := dk_27 (dk_at dksX6_year_2 14 rfl rfl)
theorem dX6_year_62 : decode cX6_year 62 = .ok (.iadd, 1) := dk_96 (dk_at dksX6_year_2 15 rfl rfl)
theorem dX6_year_63 : decode cX6_year 63 = .ok (.iload_n 2, 1) := dk_28 (dk_at dksX6_year_2 16 rfl rfl)
theorem dX6_year_64 : decode cX6_year 64 = .ok (.iastore, 1) := dk_79 (dk_at dksX6_year_2 17 rfl rfl)
theorem dX6_year_65 : decode cX6_year 65 = .ok (.iload_n 3, 1) := dk_29 (dk_at dksX6_year_2 18 rfl rfl)
theorem dX6_year_66 : decode cX6_year 66 = .ok (.ireturn, 1) := dk_172 (dk_at dksX6_year_2 19 rfl rfl)
abbrev cX6_version : ByteArray := prog_28_method_70_code
def yX6_version : MethodName := ⟨RX6, "version", "(JJII)I"⟩
def dkwX6_version_6 : List UInt8 := [46, 4, 96, 79, 21, 7, 172]
abbrev dktX6_version_6 : List UInt8 := dkwX6_version_6 ++ []
def dkwX6_version_5 : List UInt8 := [21, 5, 79, 42, 180, 0, 17, 17, 2, 15, 21, 7, 96, 21, 6, 79, 42, 180, 0, 17, 17, 1, 250, 92]
abbrev dktX6_version_5 : List UInt8 := dkwX6_version_5 ++ dktX6_version_6
def dkwX6_version_4 : List UInt8 := [180, 0, 20, 17, 2, 192, 21, 7, 96, 33, 184, 0, 101, 80, 42, 180, 0, 17, 17, 1, 251, 21, 7, 96]
abbrev dktX6_version_4 : List UInt8 := dkwX6_version_4 ++ dktX6_version_5
def dkwX6_version_3 : List UInt8 := [16, 252, 182, 0, 85, 172, 42, 180, 0, 20, 17, 2, 172, 21, 7, 96, 31, 184, 0, 101, 80, 42]
abbrev dktX6_version_3 : List UInt8 := dkwX6_version_3 ++ dktX6_version_4
def dkwX6_version_2 : List UInt8 := [16, 253, 182, 0, 85, 172, 42, 180, 0, 17, 17, 1, 250, 46, 54, 7, 21, 7, 16, 20, 160, 0, 10, 42]
abbrev dktX6_version_2 : List UInt8 := dkwX6_version_2 ++ dktX6_version_3
def dkwX6_version_1 : List UInt8 := [20, 0, 93, 184, 0, 81, 153, 0, 16, 21, 6, 133, 9, 20, 0, 89, 184, 0, 81, 154, 0, 10, 42]
abbrev dktX6_version_1 : List UInt8 := dkwX6_version_1 ++ dktX6_version_2
def dkwX6_version_0 : List UInt8 := [42, 3, 181, 0, 1, 31, 184, 0, 77, 153, 0, 36, 33, 184, 0, 77, 153, 0, 29, 21, 5, 133, 9]
abbrev dktX6_version_0 : List UInt8 := dkwX6_version_0 ++ dktX6_version_1
theorem dksX6_version_0 : cX6_version.data.toList.drop 0 = dktX6_version_0 := by decide +kernel
theorem dksX6_version_1 : cX6_version.data.toList.drop 23 = dktX6_version_1 := dk_seg dksX6_version_0 23 rfl rfl
theorem dksX6_version_2 : cX6_version.data.toList.drop 46 = dktX6_version_2 := dk_seg dksX6_version_1 23 rfl rfl
theorem dksX6_version_3 : cX6_version.data.toList.drop 70 = dktX6_version_3 := dk_seg dksX6_version_2 24 rfl rfl
theorem dksX6_version_4 : cX6_version.data.toList.drop 92 = dktX6_version_4 := dk_seg dksX6_version_3 22 rfl rfl
theorem dksX6_version_5 : cX6_version.data.toList.drop 116 = dktX6_version_5 := dk_seg dksX6_version_4 24 rfl rfl
theorem dksX6_version_6 : cX6_version.data.toList.drop 140 = dktX6_version_6 := dk_seg dksX6_version_5 24 rfl rfl
theorem dX6_version_0 : decode cX6_version 0 = .ok (.aload_n 0, 1) := dk_42 (dk_at dksX6_version_0 0 rfl rfl)
theorem dX6_version_1 : decode cX6_version 1 = .ok (.iconst 0, 1) := dk_3 (dk_at dksX6_version_0 1 rfl rfl)
theorem dX6_version_2 : decode cX6_version 2 = .ok (.putfield 1, 3) := dk_181 0 1 (dk_at dksX6_version_0 2 rfl rfl)
theorem dX6_version_5 : decode cX6_version 5 = .ok (.lload_n 1, 1) := dk_31 (dk_at dksX6_version_0 5 rfl rfl)
theorem dX6_version_6 : decode cX6_version 6 = .ok (.invokestatic 77, 3) := dk_184 0 77 (dk_at dksX6_version_0 6 rfl rfl)
theorem dX6_version_9 : decode cX6_version 9 = .ok (.ifCond .eq 36, 3) := dk_153 0 36 (dk_at dksX6_version_0 9 rfl rfl)
theorem dX6_version_12 : decode cX6_version 12 = .ok (.lload_n 3, 1) := dk_33 (dk_at dksX6_version_0 12 rfl rfl)
theorem dX6_version_13 : decode cX6_version 13 = .ok (.invokestatic 77, 3) := dk_184 0 77 (dk_at dksX6_version_0 13 rfl rfl)
theorem dX6_version_16 : decode cX6_version 16 = .ok (.ifCond .eq 29, 3) := dk_153 0 29 (dk_at dksX6_version_0 16 rfl rfl)
theorem dX6_version_19 : decode cX6_version 19 = .ok (.iload 5, 2) := dk_21 5 (dk_at dksX6_version_0 19 rfl rfl)
theorem dX6_version_21 : decode cX6_version 21 = .ok (.i2l, 1) := dk_133 (dk_at dksX6_version_0 21 rfl rfl)
theorem dX6_version_22 : decode cX6_version 22 = .ok (.lconst 0, 1) := dk_9 (dk_at dksX6_version_0 22 rfl rfl)
theorem dX6_version_23 : decode cX6_version 23 = .ok (.ldc2_w 93, 3) := dk_20 0 93 (dk_at dksX6_version_1 0 rfl rfl)
theorem dX6_version_26 : decode cX6_version 26 = .ok (.invokestatic 81, 3) := dk_184 0 81 (dk_at dksX6_version_1 3 rfl rfl)
theorem dX6_version_29 : decode cX6_version 29 = .ok (.ifCond .eq 16, 3) := dk_153 0 16 (dk_at dksX6_version_1 6 rfl rfl)
theorem dX6_version_32 : decode cX6_version 32 = .ok (.iload 6, 2) := dk_21 6 (dk_at dksX6_version_1 9 rfl rfl)
theorem dX6_version_34 : decode cX6_version 34 = .ok (.i2l, 1) := dk_133 (dk_at dksX6_version_1 11 rfl rfl)
theorem dX6_version_35 : decode cX6_version 35 = .ok (.lconst 0, 1) := dk_9 (dk_at dksX6_version_1 12 rfl rfl)
theorem dX6_version_36 : decode cX6_version 36 = .ok (.ldc2_w 89, 3) := dk_20 0 89 (dk_at dksX6_version_1 13 rfl rfl)
theorem dX6_version_39 : decode cX6_version 39 = .ok (.invokestatic 81, 3) := dk_184 0 81 (dk_at dksX6_version_1 16 rfl rfl)
theorem dX6_version_42 : decode cX6_version 42 = .ok (.ifCond .ne 10, 3) := dk_154 0 10 (dk_at dksX6_version_1 19 rfl rfl)
theorem dX6_version_45 : decode cX6_version 45 = .ok (.aload_n 0, 1) := dk_42 (dk_at dksX6_version_1 22 rfl rfl)
theorem dX6_version_46 : decode cX6_version 46 = .ok (.bipush (-3), 2) := dk_16 253 (dk_at dksX6_version_2 0 rfl rfl)
theorem dX6_version_48 : decode cX6_version 48 = .ok (.invokevirtual 85, 3) := dk_182 0 85 (dk_at dksX6_version_2 2 rfl rfl)
theorem dX6_version_51 : decode cX6_version 51 = .ok (.ireturn, 1) := dk_172 (dk_at dksX6_version_2 5 rfl rfl)
theorem dX6_version_52 : decode cX6_version 52 = .ok (.aload_n 0, 1) := dk_42 (dk_at dksX6_version_2 6 rfl rfl)
theorem dX6_version_53 : decode cX6_version 53 = .ok (.getfield 17, 3) := dk_180 0 17 (dk_at dksX6_version_2 7 rfl rfl)
theorem dX6_version_56 : decode cX6_version 56 = .ok (.sipush 506, 3) := dk_17 1 250 (dk_at dksX6_version_2 10 rfl rfl)
theorem dX6_version_59 : decode cX6_version 59 = .ok (.iaload, 1) := dk_46 (dk_at dksX6_version_2 13 rfl rfl)
theorem dX6_version_60 : decode cX6_version 60 = .ok (.istore 7, 2) := dk_54 7 (dk_at dksX6_version_2 14 rfl rfl)
theorem dX6_version_62 : decode cX6_version 62 = .ok (.iload 7, 2) := dk_21 7 (dk_at dksX6_version_2 16 rfl rfl)
theorem dX6_version_64 : decode cX6_version 64 = .ok (.bipush 20, 2) := dk_16 20 (dk_at dksX6_version_2 18 rfl rfl)
theorem dX6_version_66 : decode cX6_version 66 = .ok (.if_icmp .ne 10, 3) := dk_160 0 10 (dk_at dksX6_version_2 20 rfl rfl)
theorem dX6_version_69 : decode cX6_version 69 = .ok (.aload_n 0, 1) := dk_42 (dk_at dksX6_version_2 23 rfl rfl)
theorem dX6_version_70 : decode cX6_version 70 = .ok (.bipush (-4), 2) := dk_16 252 (dk_at dksX6_version_3 0 rfl rfl)
theorem dX6_version_72 : decode cX6_version 72 = .ok (.invokevirtual 85, 3) := dk_182 0 85 (dk_at dksX6_version_3 2 rfl rfl)
theorem dX6_version_75 : decode cX6_version 75 = .ok (.ireturn, 1) := dk_172 (dk_at dksX6_version_3 5 rfl rfl)
theorem dX6_version_76 : decode cX6_version 76 = .ok (.aload_n 0, 1) := dk_42 (dk_at dksX6_version_3 6 rfl rfl)
theorem dX6_version_77 : decode cX6_version 77 = .ok (.getfield 20, 3) := dk_180 0 20 (dk_at dksX6_version_3 7 rfl rfl)
theorem dX6_version_80 : decode cX6_version 80 = .ok (.sipush 684, 3) := dk_17 2 172 (dk_at dksX6_version_3 10 rfl rfl)
theorem dX6_version_83 : decode cX6_version 83 = .ok (.iload 7, 2) := dk_21 7 (dk_at dksX6_version_3 13 rfl rfl)
theorem dX6_version_85 : decode cX6_version 85 = .ok (.iadd, 1) := dk_96 (dk_at dksX6_version_3 15 rfl rfl)
theorem dX6_version_86 : decode cX6_version 86 = .ok (.lload_n 1, 1) := dk_31 (dk_at dksX6_version_3 16 rfl rfl)
theorem dX6_version_87 : decode cX6_version 87 = .ok (.invokestatic 101, 3) := dk_184 0 101 (dk_at dksX6_version_3 17 rfl rfl)
theorem dX6_version_90 : decode cX6_version 90 = .ok (.lastore, 1) := dk_80 (dk_at dksX6_version_3 20 rfl rfl)
theorem dX6_version_91 : decode cX6_version 91 = .ok (.aload_n 0, 1) := dk_42 (dk_at dksX6_version_3 21 rfl rfl)
theorem dX6_version_92 : decode cX6_version 92 = .ok (.getfield 20, 3) := dk_180 0 20 (dk_at dksX6_version_4 0 rfl rfl)
theorem dX6_version_95 : decode cX6_version 95 = .ok (.sipush 704, 3) := dk_17 2 192 (dk_at dksX6_version_4 3 rfl rfl)
theorem dX6_version_98 : decode cX6_version 98 = .ok (.iload 7, 2) := dk_21 7 (dk_at dksX6_version_4 6 rfl rfl)
theorem dX6_version_100 : decode cX6_version 100 = .ok (.iadd, 1) := dk_96 (dk_at dksX6_version_4 8 rfl rfl)
theorem dX6_version_101 : decode cX6_version 101 = .ok (.lload_n 3, 1) := dk_33 (dk_at dksX6_version_4 9 rfl rfl)
theorem dX6_version_102 : decode cX6_version 102 = .ok (.invokestatic 101, 3) := dk_184 0 101 (dk_at dksX6_version_4 10 rfl rfl)
theorem dX6_version_105 : decode cX6_version 105 = .ok (.lastore, 1) := dk_80 (dk_at dksX6_version_4 13 rfl rfl)
theorem dX6_version_106 : decode cX6_version 106 = .ok (.aload_n 0, 1) := dk_42 (dk_at dksX6_version_4 14 rfl rfl)
theorem dX6_version_107 : decode cX6_version 107 = .ok (.getfield 17, 3) := dk_180 0 17 (dk_at dksX6_version_4 15 rfl rfl)
theorem dX6_version_110 : decode cX6_version 110 = .ok (.sipush 507, 3) := dk_17 1 251 (dk_at dksX6_version_4 18 rfl rfl)
theorem dX6_version_113 : decode cX6_version 113 = .ok (.iload 7, 2) := dk_21 7 (dk_at dksX6_version_4 21 rfl rfl)
theorem dX6_version_115 : decode cX6_version 115 = .ok (.iadd, 1) := dk_96 (dk_at dksX6_version_4 23 rfl rfl)
theorem dX6_version_116 : decode cX6_version 116 = .ok (.iload 5, 2) := dk_21 5 (dk_at dksX6_version_5 0 rfl rfl)
theorem dX6_version_118 : decode cX6_version 118 = .ok (.iastore, 1) := dk_79 (dk_at dksX6_version_5 2 rfl rfl)
theorem dX6_version_119 : decode cX6_version 119 = .ok (.aload_n 0, 1) := dk_42 (dk_at dksX6_version_5 3 rfl rfl)
theorem dX6_version_120 : decode cX6_version 120 = .ok (.getfield 17, 3) := dk_180 0 17 (dk_at dksX6_version_5 4 rfl rfl)
theorem dX6_version_123 : decode cX6_version 123 = .ok (.sipush 527, 3) := dk_17 2 15 (dk_at dksX6_version_5 7 rfl rfl)
theorem dX6_version_126 : decode cX6_version 126 = .ok (.iload 7, 2) := dk_21 7 (dk_at dksX6_version_5 10 rfl rfl)
theorem dX6_version_128 : decode cX6_version 128 = .ok (.iadd, 1) := dk_96 (dk_at dksX6_version_5 12 rfl rfl)
theorem dX6_version_129 : decode cX6_version 129 = .ok (.iload 6, 2) := dk_21 6 (dk_at dksX6_version_5 13 rfl rfl)
theorem dX6_version_131 : decode cX6_version 131 = .ok (.iastore, 1) := dk_79 (dk_at dksX6_version_5 15 rfl rfl)
theorem dX6_version_132 : decode cX6_version 132 = .ok (.aload_n 0, 1) := dk_42 (dk_at dksX6_version_5 16 rfl rfl)
theorem dX6_version_133 : decode cX6_version 133 = .ok (.getfield 17, 3) := dk_180 0 17 (dk_at dksX6_version_5 17 rfl rfl)
theorem dX6_version_136 : decode cX6_version 136 = .ok (.sipush 506, 3) := dk_17 1 250 (dk_at dksX6_version_5 20 rfl rfl)
theorem dX6_version_139 : decode cX6_version 139 = .ok (.dup2, 1) := dk_92 (dk_at dksX6_version_5 23 rfl rfl)
theorem dX6_version_140 : decode cX6_version 140 = .ok (.iaload, 1) := dk_46 (dk_at dksX6_version_6 0 rfl rfl)
theorem dX6_version_141 : decode cX6_version 141 = .ok (.iconst 1, 1) := dk_4 (dk_at dksX6_version_6 1 rfl rfl)
theorem dX6_version_142 : decode cX6_version 142 = .ok (.iadd, 1) := dk_96 (dk_at dksX6_version_6 2 rfl rfl)
theorem dX6_version_143 : decode cX6_version 143 = .ok (.iastore, 1) := dk_79 (dk_at dksX6_version_6 3 rfl rfl)
theorem dX6_version_144 : decode cX6_version 144 = .ok (.iload 7, 2) := dk_21 7 (dk_at dksX6_version_6 4 rfl rfl)
theorem dX6_version_146 : decode cX6_version 146 = .ok (.ireturn, 1) := dk_172 (dk_at dksX6_version_6 6 rfl rfl)
abbrev cX6_which : ByteArray := prog_28_method_71_code
def yX6_which : MethodName := ⟨RX6, "which", "(I)I"⟩
def dkwX6_which_6 : List UInt8 := [182, 0, 236, 32, 148, 154, 0, 7, 4, 167, 0, 4, 5, 172]
abbrev dktX6_which_6 : List UInt8 := dkwX6_which_6 ++ []
def dkwX6_which_5 : List UInt8 := [182, 0, 236, 22, 4, 148, 154, 0, 5, 3, 172, 42, 22, 4, 42, 180, 0, 17, 17, 2, 15, 27, 96, 46]
abbrev dktX6_which_5 : List UInt8 := dkwX6_which_5 ++ dktX6_which_6
def dkwX6_which_4 : List UInt8 := [164, 0, 5, 4, 172, 132, 6, 1, 167, 255, 214, 42, 32, 42, 180, 0, 17, 17, 2, 15, 27, 96, 46]
abbrev dktX6_which_4 : List UInt8 := dkwX6_which_4 ++ dktX6_which_5
def dkwX6_which_3 : List UInt8 := [180, 0, 17, 17, 0, 250, 32, 21, 6, 184, 0, 73, 96, 46, 42, 180, 0, 17, 17, 1, 251, 27, 96, 46]
abbrev dktX6_which_3 : List UInt8 := dkwX6_which_3 ++ dktX6_which_4
def dkwX6_which_2 : List UInt8 := [180, 0, 20, 17, 2, 192, 27, 96, 47, 55, 4, 3, 54, 6, 21, 6, 32, 184, 0, 77, 162, 0, 39, 42]
abbrev dktX6_which_2 : List UInt8 := dkwX6_which_2 ++ dktX6_which_3
def dkwX6_which_1 : List UInt8 := [154, 0, 10, 42, 16, 254, 182, 0, 85, 172, 42, 180, 0, 20, 17, 2, 172, 27, 96, 47, 65, 42]
abbrev dktX6_which_1 : List UInt8 := dkwX6_which_1 ++ dktX6_which_2
def dkwX6_which_0 : List UInt8 := [42, 3, 181, 0, 1, 27, 133, 9, 42, 180, 0, 17, 17, 1, 250, 46, 4, 100, 133, 184, 0, 81]
abbrev dktX6_which_0 : List UInt8 := dkwX6_which_0 ++ dktX6_which_1
theorem dksX6_which_0 : cX6_which.data.toList.drop 0 = dktX6_which_0 := by decide +kernel
theorem dksX6_which_1 : cX6_which.data.toList.drop 22 = dktX6_which_1 := dk_seg dksX6_which_0 22 rfl rfl
theorem dksX6_which_2 : cX6_which.data.toList.drop 44 = dktX6_which_2 := dk_seg dksX6_which_1 22 rfl rfl
theorem dksX6_which_3 : cX6_which.data.toList.drop 68 = dktX6_which_3 := dk_seg dksX6_which_2 24 rfl rfl
theorem dksX6_which_4 : cX6_which.data.toList.drop 92 = dktX6_which_4 := dk_seg dksX6_which_3 24 rfl rfl
theorem dksX6_which_5 : cX6_which.data.toList.drop 115 = dktX6_which_5 := dk_seg dksX6_which_4 23 rfl rfl
theorem dksX6_which_6 : cX6_which.data.toList.drop 139 = dktX6_which_6 := dk_seg dksX6_which_5 24 rfl rfl
theorem dX6_which_0 : decode cX6_which 0 = .ok (.aload_n 0, 1) := dk_42 (dk_at dksX6_which_0 0 rfl rfl)
theorem dX6_which_1 : decode cX6_which 1 = .ok (.iconst 0, 1) := dk_3 (dk_at dksX6_which_0 1 rfl rfl)
theorem dX6_which_2 : decode cX6_which 2 = .ok (.putfield 1, 3) := dk_181 0 1 (dk_at dksX6_which_0 2 rfl rfl)
theorem dX6_which_5 : decode cX6_which 5 = .ok (.iload_n 1, 1) := dk_27 (dk_at dksX6_which_0 5 rfl rfl)
theorem dX6_which_6 : decode cX6_which 6 = .ok (.i2l, 1) := dk_133 (dk_at dksX6_which_0 6 rfl rfl)
theorem dX6_which_7 : decode cX6_which 7 = .ok (.lconst 0, 1) := dk_9 (dk_at dksX6_which_0 7 rfl rfl)
theorem dX6_which_8 : decode cX6_which 8 = .ok (.aload_n 0, 1) := dk_42 (dk_at dksX6_which_0 8 rfl rfl)
theorem dX6_which_9 : decode cX6_which 9 = .ok (.getfield 17, 3) := dk_180 0 17 (dk_at dksX6_which_0 9 rfl rfl)
theorem dX6_which_12 : decode cX6_which 12 = .ok (.sipush 506, 3) := dk_17 1 250 (dk_at dksX6_which_0 12 rfl rfl)
theorem dX6_which_15 : decode cX6_which 15 = .ok (.iaload, 1) := dk_46 (dk_at dksX6_which_0 15 rfl rfl)
theorem dX6_which_16 : decode cX6_which 16 = .ok (.iconst 1, 1) := dk_4 (dk_at dksX6_which_0 16 rfl rfl)
theorem dX6_which_17 : decode cX6_which 17 = .ok (.isub, 1) := dk_100 (dk_at dksX6_which_0 17 rfl rfl)
theorem dX6_which_18 : decode cX6_which 18 = .ok (.i2l, 1) := dk_133 (dk_at dksX6_which_0 18 rfl rfl)
theorem dX6_which_19 : decode cX6_which 19 = .ok (.invokestatic 81, 3) := dk_184 0 81 (dk_at dksX6_which_0 19 rfl rfl)
theorem dX6_which_22 : decode cX6_which 22 = .ok (.ifCond .ne 10, 3) := dk_154 0 10 (dk_at dksX6_which_1 0 rfl rfl)
theorem dX6_which_25 : decode cX6_which 25 = .ok (.aload_n 0, 1) := dk_42 (dk_at dksX6_which_1 3 rfl rfl)
theorem dX6_which_26 : decode cX6_which 26 = .ok (.bipush (-2), 2) := dk_16 254 (dk_at dksX6_which_1 4 rfl rfl)
theorem dX6_which_28 : decode cX6_which 28 = .ok (.invokevirtual 85, 3) := dk_182 0 85 (dk_at dksX6_which_1 6 rfl rfl)
theorem dX6_which_31 : decode cX6_which 31 = .ok (.ireturn, 1) := dk_172 (dk_at dksX6_which_1 9 rfl rfl)
theorem dX6_which_32 : decode cX6_which 32 = .ok (.aload_n 0, 1) := dk_42 (dk_at dksX6_which_1 10 rfl rfl)
theorem dX6_which_33 : decode cX6_which 33 = .ok (.getfield 20, 3) := dk_180 0 20 (dk_at dksX6_which_1 11 rfl rfl)
theorem dX6_which_36 : decode cX6_which 36 = .ok (.sipush 684, 3) := dk_17 2 172 (dk_at dksX6_which_1 14 rfl rfl)
theorem dX6_which_39 : decode cX6_which 39 = .ok (.iload_n 1, 1) := dk_27 (dk_at dksX6_which_1 17 rfl rfl)
theorem dX6_which_40 : decode cX6_which 40 = .ok (.iadd, 1) := dk_96 (dk_at dksX6_which_1 18 rfl rfl)
theorem dX6_which_41 : decode cX6_which 41 = .ok (.laload, 1) := dk_47 (dk_at dksX6_which_1 19 rfl rfl)
theorem dX6_which_42 : decode cX6_which 42 = .ok (.lstore_n 2, 1) := dk_65 (dk_at dksX6_which_1 20 rfl rfl)
theorem dX6_which_43 : decode cX6_which 43 = .ok (.aload_n 0, 1) := dk_42 (dk_at dksX6_which_1 21 rfl rfl)
theorem dX6_which_44 : decode cX6_which 44 = .ok (.getfield 20, 3) := dk_180 0 20 (dk_at dksX6_which_2 0 rfl rfl)
theorem dX6_which_47 : decode cX6_which 47 = .ok (.sipush 704, 3) := dk_17 2 192 (dk_at dksX6_which_2 3 rfl rfl)
theorem dX6_which_50 : decode cX6_which 50 = .ok (.iload_n 1, 1) := dk_27 (dk_at dksX6_which_2 6 rfl rfl)
theorem dX6_which_51 : decode cX6_which 51 = .ok (.iadd, 1) := dk_96 (dk_at dksX6_which_2 7 rfl rfl)
theorem dX6_which_52 : decode cX6_which 52 = .ok (.laload, 1) := dk_47 (dk_at dksX6_which_2 8 rfl rfl)
theorem dX6_which_53 : decode cX6_which 53 = .ok (.lstore 4, 2) := dk_55 4 (dk_at dksX6_which_2 9 rfl rfl)
theorem dX6_which_55 : decode cX6_which 55 = .ok (.iconst 0, 1) := dk_3 (dk_at dksX6_which_2 11 rfl rfl)
theorem dX6_which_56 : decode cX6_which 56 = .ok (.istore 6, 2) := dk_54 6 (dk_at dksX6_which_2 12 rfl rfl)
theorem dX6_which_58 : decode cX6_which 58 = .ok (.iload 6, 2) := dk_21 6 (dk_at dksX6_which_2 14 rfl rfl)
theorem dX6_which_60 : decode cX6_which 60 = .ok (.lload_n 2, 1) := dk_32 (dk_at dksX6_which_2 16 rfl rfl)
theorem dX6_which_61 : decode cX6_which 61 = .ok (.invokestatic 77, 3) := dk_184 0 77 (dk_at dksX6_which_2 17 rfl rfl)
theorem dX6_which_64 : decode cX6_which 64 = .ok (.if_icmp .ge 39, 3) := dk_162 0 39 (dk_at dksX6_which_2 20 rfl rfl)
theorem dX6_which_67 : decode cX6_which 67 = .ok (.aload_n 0, 1) := dk_42 (dk_at dksX6_which_2 23 rfl rfl)
theorem dX6_which_68 : decode cX6_which 68 = .ok (.getfield 17, 3) := dk_180 0 17 (dk_at dksX6_which_3 0 rfl rfl)
theorem dX6_which_71 : decode cX6_which 71 = .ok (.sipush 250, 3) := dk_17 0 250 (dk_at dksX6_which_3 3 rfl rfl)
theorem dX6_which_74 : decode cX6_which 74 = .ok (.lload_n 2, 1) := dk_32 (dk_at dksX6_which_3 6 rfl rfl)
theorem dX6_which_75 : decode cX6_which 75 = .ok (.iload 6, 2) := dk_21 6 (dk_at dksX6_which_3 7 rfl rfl)
theorem dX6_which_77 : decode cX6_which 77 = .ok (.invokestatic 73, 3) := dk_184 0 73 (dk_at dksX6_which_3 9 rfl rfl)
theorem dX6_which_80 : decode cX6_which 80 = .ok (.iadd, 1) := dk_96 (dk_at dksX6_which_3 12 rfl rfl)
theorem dX6_which_81 : decode cX6_which 81 = .ok (.iaload, 1) := dk_46 (dk_at dksX6_which_3 13 rfl rfl)
theorem dX6_which_82 : decode cX6_which 82 = .ok (.aload_n 0, 1) := dk_42 (dk_at dksX6_which_3 14 rfl rfl)
theorem dX6_which_83 : decode cX6_which 83 = .ok (.getfield 17, 3) := dk_180 0 17 (dk_at dksX6_which_3 15 rfl rfl)
theorem dX6_which_86 : decode cX6_which 86 = .ok (.sipush 507, 3) := dk_17 1 251 (dk_at dksX6_which_3 18 rfl rfl)
theorem dX6_which_89 : decode cX6_which 89 = .ok (.iload_n 1, 1) := dk_27 (dk_at dksX6_which_3 21 rfl rfl)
theorem dX6_which_90 : decode cX6_which 90 = .ok (.iadd, 1) := dk_96 (dk_at dksX6_which_3 22 rfl rfl)
theorem dX6_which_91 : decode cX6_which 91 = .ok (.iaload, 1) := dk_46 (dk_at dksX6_which_3 23 rfl rfl)
theorem dX6_which_92 : decode cX6_which 92 = .ok (.if_icmp .le 5, 3) := dk_164 0 5 (dk_at dksX6_which_4 0 rfl rfl)
theorem dX6_which_95 : decode cX6_which 95 = .ok (.iconst 1, 1) := dk_4 (dk_at dksX6_which_4 3 rfl rfl)
theorem dX6_which_96 : decode cX6_which 96 = .ok (.ireturn, 1) := dk_172 (dk_at dksX6_which_4 4 rfl rfl)
theorem dX6_which_97 : decode cX6_which 97 = .ok (.iinc 6 1, 3) := dk_132 6 1 (dk_at dksX6_which_4 5 rfl rfl)
theorem dX6_which_100 : decode cX6_which 100 = .ok (.goto (-42), 3) := dk_167 255 214 (dk_at dksX6_which_4 8 rfl rfl)
theorem dX6_which_103 : decode cX6_which 103 = .ok (.aload_n 0, 1) := dk_42 (dk_at dksX6_which_4 11 rfl rfl)
theorem dX6_which_104 : decode cX6_which 104 = .ok (.lload_n 2, 1) := dk_32 (dk_at dksX6_which_4 12 rfl rfl)
theorem dX6_which_105 : decode cX6_which 105 = .ok (.aload_n 0, 1) := dk_42 (dk_at dksX6_which_4 13 rfl rfl)
theorem dX6_which_106 : decode cX6_which 106 = .ok (.getfield 17, 3) := dk_180 0 17 (dk_at dksX6_which_4 14 rfl rfl)
theorem dX6_which_109 : decode cX6_which 109 = .ok (.sipush 527, 3) := dk_17 2 15 (dk_at dksX6_which_4 17 rfl rfl)
theorem dX6_which_112 : decode cX6_which 112 = .ok (.iload_n 1, 1) := dk_27 (dk_at dksX6_which_4 20 rfl rfl)
theorem dX6_which_113 : decode cX6_which 113 = .ok (.iadd, 1) := dk_96 (dk_at dksX6_which_4 21 rfl rfl)
theorem dX6_which_114 : decode cX6_which 114 = .ok (.iaload, 1) := dk_46 (dk_at dksX6_which_4 22 rfl rfl)
theorem dX6_which_115 : decode cX6_which 115 = .ok (.invokevirtual 236, 3) := dk_182 0 236 (dk_at dksX6_which_5 0 rfl rfl)
theorem dX6_which_118 : decode cX6_which 118 = .ok (.lload 4, 2) := dk_22 4 (dk_at dksX6_which_5 3 rfl rfl)
theorem dX6_which_120 : decode cX6_which 120 = .ok (.lcmp, 1) := dk_148 (dk_at dksX6_which_5 5 rfl rfl)
theorem dX6_which_121 : decode cX6_which 121 = .ok (.ifCond .ne 5, 3) := dk_154 0 5 (dk_at dksX6_which_5 6 rfl rfl)
theorem dX6_which_124 : decode cX6_which 124 = .ok (.iconst 0, 1) := dk_3 (dk_at dksX6_which_5 9 rfl rfl)
theorem dX6_which_125 : decode cX6_which 125 = .ok (.ireturn, 1) := dk_172 (dk_at dksX6_which_5 10 rfl rfl)
theorem dX6_which_126 : decode cX6_which 126 = .ok (.aload_n 0, 1) := dk_42 (dk_at dksX6_which_5 11 rfl rfl)
theorem dX6_which_127 : decode cX6_which 127 = .ok (.lload 4, 2) := dk_22 4 (dk_at dksX6_which_5 12 rfl rfl)
theorem dX6_which_129 : decode cX6_which 129 = .ok (.aload_n 0, 1) := dk_42 (dk_at dksX6_which_5 14 rfl rfl)
theorem dX6_which_130 : decode cX6_which 130 = .ok (.getfield 17, 3) := dk_180 0 17 (dk_at dksX6_which_5 15 rfl rfl)
theorem dX6_which_133 : decode cX6_which 133 = .ok (.sipush 527, 3) := dk_17 2 15 (dk_at dksX6_which_5 18 rfl rfl)
theorem dX6_which_136 : decode cX6_which 136 = .ok (.iload_n 1, 1) := dk_27 (dk_at dksX6_which_5 21 rfl rfl)
theorem dX6_which_137 : decode cX6_which 137 = .ok (.iadd, 1) := dk_96 (dk_at dksX6_which_5 22 rfl rfl)
theorem dX6_which_138 : decode cX6_which 138 = .ok (.iaload, 1) := dk_46 (dk_at dksX6_which_5 23 rfl rfl)
theorem dX6_which_139 : decode cX6_which 139 = .ok (.invokevirtual 236, 3) := dk_182 0 236 (dk_at dksX6_which_6 0 rfl rfl)
theorem dX6_which_142 : decode cX6_which 142 = .ok (.lload_n 2, 1) := dk_32 (dk_at dksX6_which_6 3 rfl rfl)
theorem dX6_which_143 : decode cX6_which 143 = .ok (.lcmp, 1) := dk_148 (dk_at dksX6_which_6 4 rfl rfl)
theorem dX6_which_144 : decode cX6_which 144 = .ok (.ifCond .ne 7, 3) := dk_154 0 7 (dk_at dksX6_which_6 5 rfl rfl)
theorem dX6_which_147 : decode cX6_which 147 = .ok (.iconst 1, 1) := dk_4 (dk_at dksX6_which_6 8 rfl rfl)
theorem dX6_which_148 : decode cX6_which 148 = .ok (.goto 4, 3) := dk_167 0 4 (dk_at dksX6_which_6 9 rfl rfl)
theorem dX6_which_151 : decode cX6_which 151 = .ok (.iconst 2, 1) := dk_5 (dk_at dksX6_which_6 12 rfl rfl)
theorem dX6_which_152 : decode cX6_which 152 = .ok (.ireturn, 1) := dk_172 (dk_at dksX6_which_6 13 rfl rfl)
abbrev cX6_answer : ByteArray := prog_28_method_74_code
def yX6_answer : MethodName := ⟨RX6, "answer", "(IIIIIJ)I"⟩
def dkwX6_answer_3 : List UInt8 := [21, 4, 21, 5, 22, 6, 182, 1, 61, 42, 180, 0, 17, 17, 2, 35, 46, 4, 100, 172]
abbrev dktX6_answer_3 : List UInt8 := dkwX6_answer_3 ++ []
def dkwX6_answer_2 : List UInt8 := [180, 0, 17, 17, 2, 35, 46, 16, 60, 160, 0, 10, 42, 16, 252, 182, 0, 85, 172, 42, 27, 28, 29]
abbrev dktX6_answer_2 : List UInt8 := dkwX6_answer_2 ++ dktX6_answer_3
def dkwX6_answer_1 : List UInt8 := [22, 6, 9, 148, 153, 0, 18, 22, 6, 184, 0, 77, 154, 0, 10, 42, 16, 253, 182, 0, 85, 172, 42]
abbrev dktX6_answer_1 : List UInt8 := dkwX6_answer_1 ++ dktX6_answer_2
def dkwX6_answer_0 : List UInt8 := [42, 3, 181, 0, 1, 27, 133, 28, 133, 29, 133, 21, 4, 133, 21, 5, 133, 184, 1, 57, 153, 0, 18]
abbrev dktX6_answer_0 : List UInt8 := dkwX6_answer_0 ++ dktX6_answer_1
theorem dksX6_answer_0 : cX6_answer.data.toList.drop 0 = dktX6_answer_0 := by decide +kernel
theorem dksX6_answer_1 : cX6_answer.data.toList.drop 23 = dktX6_answer_1 := dk_seg dksX6_answer_0 23 rfl rfl
theorem dksX6_answer_2 : cX6_answer.data.toList.drop 46 = dktX6_answer_2 := dk_seg dksX6_answer_1 23 rfl rfl
theorem dksX6_answer_3 : cX6_answer.data.toList.drop 69 = dktX6_answer_3 := dk_seg dksX6_answer_2 23 rfl rfl
theorem dX6_answer_0 : decode cX6_answer 0 = .ok (.aload_n 0, 1) := dk_42 (dk_at dksX6_answer_0 0 rfl rfl)
theorem dX6_answer_1 : decode cX6_answer 1 = .ok (.iconst 0, 1) := dk_3 (dk_at dksX6_answer_0 1 rfl rfl)
theorem dX6_answer_2 : decode cX6_answer 2 = .ok (.putfield 1, 3) := dk_181 0 1 (dk_at dksX6_answer_0 2 rfl rfl)
theorem dX6_answer_5 : decode cX6_answer 5 = .ok (.iload_n 1, 1) := dk_27 (dk_at dksX6_answer_0 5 rfl rfl)
theorem dX6_answer_6 : decode cX6_answer 6 = .ok (.i2l, 1) := dk_133 (dk_at dksX6_answer_0 6 rfl rfl)
theorem dX6_answer_7 : decode cX6_answer 7 = .ok (.iload_n 2, 1) := dk_28 (dk_at dksX6_answer_0 7 rfl rfl)
theorem dX6_answer_8 : decode cX6_answer 8 = .ok (.i2l, 1) := dk_133 (dk_at dksX6_answer_0 8 rfl rfl)
theorem dX6_answer_9 : decode cX6_answer 9 = .ok (.iload_n 3, 1) := dk_29 (dk_at dksX6_answer_0 9 rfl rfl)
theorem dX6_answer_10 : decode cX6_answer 10 = .ok (.i2l, 1) := dk_133 (dk_at dksX6_answer_0 10 rfl rfl)
theorem dX6_answer_11 : decode cX6_answer 11 = .ok (.iload 4, 2) := dk_21 4 (dk_at dksX6_answer_0 11 rfl rfl)
theorem dX6_answer_13 : decode cX6_answer 13 = .ok (.i2l, 1) := dk_133 (dk_at dksX6_answer_0 13 rfl rfl)
theorem dX6_answer_14 : decode cX6_answer 14 = .ok (.iload 5, 2) := dk_21 5 (dk_at dksX6_answer_0 14 rfl rfl)
theorem dX6_answer_16 : decode cX6_answer 16 = .ok (.i2l, 1) := dk_133 (dk_at dksX6_answer_0 16 rfl rfl)
theorem dX6_answer_17 : decode cX6_answer 17 = .ok (.invokestatic 313, 3) := dk_184 1 57 (dk_at dksX6_answer_0 17 rfl rfl)
theorem dX6_answer_20 : decode cX6_answer 20 = .ok (.ifCond .eq 18, 3) := dk_153 0 18 (dk_at dksX6_answer_0 20 rfl rfl)
theorem dX6_answer_23 : decode cX6_answer 23 = .ok (.lload 6, 2) := dk_22 6 (dk_at dksX6_answer_1 0 rfl rfl)
theorem dX6_answer_25 : decode cX6_answer 25 = .ok (.lconst 0, 1) := dk_9 (dk_at dksX6_answer_1 2 rfl rfl)
theorem dX6_answer_26 : decode cX6_answer 26 = .ok (.lcmp, 1) := dk_148 (dk_at dksX6_answer_1 3 rfl rfl)
theorem dX6_answer_27 : decode cX6_answer 27 = .ok (.ifCond .eq 18, 3) := dk_153 0 18 (dk_at dksX6_answer_1 4 rfl rfl)
theorem dX6_answer_30 : decode cX6_answer 30 = .ok (.lload 6, 2) := dk_22 6 (dk_at dksX6_answer_1 7 rfl rfl)
theorem dX6_answer_32 : decode cX6_answer 32 = .ok (.invokestatic 77, 3) := dk_184 0 77 (dk_at dksX6_answer_1 9 rfl rfl)
theorem dX6_answer_35 : decode cX6_answer 35 = .ok (.ifCond .ne 10, 3) := dk_154 0 10 (dk_at dksX6_answer_1 12 rfl rfl)
theorem dX6_answer_38 : decode cX6_answer 38 = .ok (.aload_n 0, 1) := dk_42 (dk_at dksX6_answer_1 15 rfl rfl)
theorem dX6_answer_39 : decode cX6_answer 39 = .ok (.bipush (-3), 2) := dk_16 253 (dk_at dksX6_answer_1 16 rfl rfl)
theorem dX6_answer_41 : decode cX6_answer 41 = .ok (.invokevirtual 85, 3) := dk_182 0 85 (dk_at dksX6_answer_1 18 rfl rfl)
theorem dX6_answer_44 : decode cX6_answer 44 = .ok (.ireturn, 1) := dk_172 (dk_at dksX6_answer_1 21 rfl rfl)
theorem dX6_answer_45 : decode cX6_answer 45 = .ok (.aload_n 0, 1) := dk_42 (dk_at dksX6_answer_1 22 rfl rfl)
theorem dX6_answer_46 : decode cX6_answer 46 = .ok (.getfield 17, 3) := dk_180 0 17 (dk_at dksX6_answer_2 0 rfl rfl)
theorem dX6_answer_49 : decode cX6_answer 49 = .ok (.sipush 547, 3) := dk_17 2 35 (dk_at dksX6_answer_2 3 rfl rfl)
theorem dX6_answer_52 : decode cX6_answer 52 = .ok (.iaload, 1) := dk_46 (dk_at dksX6_answer_2 6 rfl rfl)
theorem dX6_answer_53 : decode cX6_answer 53 = .ok (.bipush 60, 2) := dk_16 60 (dk_at dksX6_answer_2 7 rfl rfl)
theorem dX6_answer_55 : decode cX6_answer 55 = .ok (.if_icmp .ne 10, 3) := dk_160 0 10 (dk_at dksX6_answer_2 9 rfl rfl)
theorem dX6_answer_58 : decode cX6_answer 58 = .ok (.aload_n 0, 1) := dk_42 (dk_at dksX6_answer_2 12 rfl rfl)
theorem dX6_answer_59 : decode cX6_answer 59 = .ok (.bipush (-4), 2) := dk_16 252 (dk_at dksX6_answer_2 13 rfl rfl)
theorem dX6_answer_61 : decode cX6_answer 61 = .ok (.invokevirtual 85, 3) := dk_182 0 85 (dk_at dksX6_answer_2 15 rfl rfl)
theorem dX6_answer_64 : decode cX6_answer 64 = .ok (.ireturn, 1) := dk_172 (dk_at dksX6_answer_2 18 rfl rfl)
theorem dX6_answer_65 : decode cX6_answer 65 = .ok (.aload_n 0, 1) := dk_42 (dk_at dksX6_answer_2 19 rfl rfl)
theorem dX6_answer_66 : decode cX6_answer 66 = .ok (.iload_n 1, 1) := dk_27 (dk_at dksX6_answer_2 20 rfl rfl)
theorem dX6_answer_67 : decode cX6_answer 67 = .ok (.iload_n 2, 1) := dk_28 (dk_at dksX6_answer_2 21 rfl rfl)
theorem dX6_answer_68 : decode cX6_answer 68 = .ok (.iload_n 3, 1) := dk_29 (dk_at dksX6_answer_2 22 rfl rfl)
theorem dX6_answer_69 : decode cX6_answer 69 = .ok (.iload 4, 2) := dk_21 4 (dk_at dksX6_answer_3 0 rfl rfl)
theorem dX6_answer_71 : decode cX6_answer 71 = .ok (.iload 5, 2) := dk_21 5 (dk_at dksX6_answer_3 2 rfl rfl)
theorem dX6_answer_73 : decode cX6_answer 73 = .ok (.lload 6, 2) := dk_22 6 (dk_at dksX6_answer_3 4 rfl rfl)
theorem dX6_answer_75 : decode cX6_answer 75 = .ok (.invokevirtual 317, 3) := dk_182 1 61 (dk_at dksX6_answer_3 6 rfl rfl)
theorem dX6_answer_78 : decode cX6_answer 78 = .ok (.aload_n 0, 1) := dk_42 (dk_at dksX6_answer_3 9 rfl rfl)
theorem dX6_answer_79 : decode cX6_answer 79 = .ok (.getfield 17, 3) := dk_180 0 17 (dk_at dksX6_answer_3 10 rfl rfl)
theorem dX6_answer_82 : decode cX6_answer 82 = .ok (.sipush 547, 3) := dk_17 2 35 (dk_at dksX6_answer_3 13 rfl rfl)
theorem dX6_answer_85 : decode cX6_answer 85 = .ok (.iaload, 1) := dk_46 (dk_at dksX6_answer_3 16 rfl rfl)
theorem dX6_answer_86 : decode cX6_answer 86 = .ok (.iconst 1, 1) := dk_4 (dk_at dksX6_answer_3 17 rfl rfl)
theorem dX6_answer_87 : decode cX6_answer 87 = .ok (.isub, 1) := dk_100 (dk_at dksX6_answer_3 18 rfl rfl)
theorem dX6_answer_88 : decode cX6_answer 88 = .ok (.ireturn, 1) := dk_172 (dk_at dksX6_answer_3 19 rfl rfl)
abbrev cX6_isAnswer : ByteArray := prog_28_method_72_code
def yX6_isAnswer : MethodName := ⟨RX6, "isAnswer", "(JJJJJ)Z"⟩
def dkwX6_isAnswer_2 : List UInt8 := [9, 20, 1, 50, 184, 0, 81, 153, 0, 7, 4, 167, 0, 4, 3, 172]
abbrev dktX6_isAnswer_2 : List UInt8 := dkwX6_isAnswer_2 ++ []
def dkwX6_isAnswer_1 : List UInt8 := [9, 20, 0, 89, 184, 0, 81, 153, 0, 31, 22, 6, 9, 20, 1, 50, 184, 0, 81, 153, 0, 19, 22, 8]
abbrev dktX6_isAnswer_1 : List UInt8 := dkwX6_isAnswer_1 ++ dktX6_isAnswer_2
def dkwX6_isAnswer_0 : List UInt8 := [30, 9, 20, 0, 91, 184, 0, 81, 153, 0, 54, 32, 9, 20, 0, 93, 184, 0, 81, 153, 0, 43, 22, 4]
abbrev dktX6_isAnswer_0 : List UInt8 := dkwX6_isAnswer_0 ++ dktX6_isAnswer_1
theorem dksX6_isAnswer_0 : cX6_isAnswer.data.toList.drop 0 = dktX6_isAnswer_0 := by decide +kernel
theorem dksX6_isAnswer_1 : cX6_isAnswer.data.toList.drop 24 = dktX6_isAnswer_1 := dk_seg dksX6_isAnswer_0 24 rfl rfl
theorem dksX6_isAnswer_2 : cX6_isAnswer.data.toList.drop 48 = dktX6_isAnswer_2 := dk_seg dksX6_isAnswer_1 24 rfl rfl
theorem dX6_isAnswer_0 : decode cX6_isAnswer 0 = .ok (.lload_n 0, 1) := dk_30 (dk_at dksX6_isAnswer_0 0 rfl rfl)
theorem dX6_isAnswer_1 : decode cX6_isAnswer 1 = .ok (.lconst 0, 1) := dk_9 (dk_at dksX6_isAnswer_0 1 rfl rfl)
theorem dX6_isAnswer_2 : decode cX6_isAnswer 2 = .ok (.ldc2_w 91, 3) := dk_20 0 91 (dk_at dksX6_isAnswer_0 2 rfl rfl)
theorem dX6_isAnswer_5 : decode cX6_isAnswer 5 = .ok (.invokestatic 81, 3) := dk_184 0 81 (dk_at dksX6_isAnswer_0 5 rfl rfl)
theorem dX6_isAnswer_8 : decode cX6_isAnswer 8 = .ok (.ifCond .eq 54, 3) := dk_153 0 54 (dk_at dksX6_isAnswer_0 8 rfl rfl)
theorem dX6_isAnswer_11 : decode cX6_isAnswer 11 = .ok (.lload_n 2, 1) := dk_32 (dk_at dksX6_isAnswer_0 11 rfl rfl)
theorem dX6_isAnswer_12 : decode cX6_isAnswer 12 = .ok (.lconst 0, 1) := dk_9 (dk_at dksX6_isAnswer_0 12 rfl rfl)
theorem dX6_isAnswer_13 : decode cX6_isAnswer 13 = .ok (.ldc2_w 93, 3) := dk_20 0 93 (dk_at dksX6_isAnswer_0 13 rfl rfl)
theorem dX6_isAnswer_16 : decode cX6_isAnswer 16 = .ok (.invokestatic 81, 3) := dk_184 0 81 (dk_at dksX6_isAnswer_0 16 rfl rfl)
theorem dX6_isAnswer_19 : decode cX6_isAnswer 19 = .ok (.ifCond .eq 43, 3) := dk_153 0 43 (dk_at dksX6_isAnswer_0 19 rfl rfl)
theorem dX6_isAnswer_22 : decode cX6_isAnswer 22 = .ok (.lload 4, 2) := dk_22 4 (dk_at dksX6_isAnswer_0 22 rfl rfl)
theorem dX6_isAnswer_24 : decode cX6_isAnswer 24 = .ok (.lconst 0, 1) := dk_9 (dk_at dksX6_isAnswer_1 0 rfl rfl)
theorem dX6_isAnswer_25 : decode cX6_isAnswer 25 = .ok (.ldc2_w 89, 3) := dk_20 0 89 (dk_at dksX6_isAnswer_1 1 rfl rfl)
theorem dX6_isAnswer_28 : decode cX6_isAnswer 28 = .ok (.invokestatic 81, 3) := dk_184 0 81 (dk_at dksX6_isAnswer_1 4 rfl rfl)
theorem dX6_isAnswer_31 : decode cX6_isAnswer 31 = .ok (.ifCond .eq 31, 3) := dk_153 0 31 (dk_at dksX6_isAnswer_1 7 rfl rfl)
theorem dX6_isAnswer_34 : decode cX6_isAnswer 34 = .ok (.lload 6, 2) := dk_22 6 (dk_at dksX6_isAnswer_1 10 rfl rfl)
theorem dX6_isAnswer_36 : decode cX6_isAnswer 36 = .ok (.lconst 0, 1) := dk_9 (dk_at dksX6_isAnswer_1 12 rfl rfl)
theorem dX6_isAnswer_37 : decode cX6_isAnswer 37 = .ok (.ldc2_w 306, 3) := dk_20 1 50 (dk_at dksX6_isAnswer_1 13 rfl rfl)
theorem dX6_isAnswer_40 : decode cX6_isAnswer 40 = .ok (.invokestatic 81, 3) := dk_184 0 81 (dk_at dksX6_isAnswer_1 16 rfl rfl)
theorem dX6_isAnswer_43 : decode cX6_isAnswer 43 = .ok (.ifCond .eq 19, 3) := dk_153 0 19 (dk_at dksX6_isAnswer_1 19 rfl rfl)
theorem dX6_isAnswer_46 : decode cX6_isAnswer 46 = .ok (.lload 8, 2) := dk_22 8 (dk_at dksX6_isAnswer_1 22 rfl rfl)
theorem dX6_isAnswer_48 : decode cX6_isAnswer 48 = .ok (.lconst 0, 1) := dk_9 (dk_at dksX6_isAnswer_2 0 rfl rfl)
theorem dX6_isAnswer_49 : decode cX6_isAnswer 49 = .ok (.ldc2_w 306, 3) := dk_20 1 50 (dk_at dksX6_isAnswer_2 1 rfl rfl)
theorem dX6_isAnswer_52 : decode cX6_isAnswer 52 = .ok (.invokestatic 81, 3) := dk_184 0 81 (dk_at dksX6_isAnswer_2 4 rfl rfl)
theorem dX6_isAnswer_55 : decode cX6_isAnswer 55 = .ok (.ifCond .eq 7, 3) := dk_153 0 7 (dk_at dksX6_isAnswer_2 7 rfl rfl)
theorem dX6_isAnswer_58 : decode cX6_isAnswer 58 = .ok (.iconst 1, 1) := dk_4 (dk_at dksX6_isAnswer_2 10 rfl rfl)
theorem dX6_isAnswer_59 : decode cX6_isAnswer 59 = .ok (.goto 4, 3) := dk_167 0 4 (dk_at dksX6_isAnswer_2 11 rfl rfl)
theorem dX6_isAnswer_62 : decode cX6_isAnswer 62 = .ok (.iconst 0, 1) := dk_3 (dk_at dksX6_isAnswer_2 14 rfl rfl)
theorem dX6_isAnswer_63 : decode cX6_isAnswer 63 = .ok (.ireturn, 1) := dk_172 (dk_at dksX6_isAnswer_2 15 rfl rfl)
abbrev cX6_answers : ByteArray := prog_28_method_73_code
def yX6_answers : MethodName := ⟨RX6, "answers", "(IIIIIJ)V"⟩
def dkwX6_answers_4 : List UInt8 := [92, 46, 4, 96, 79, 177]
abbrev dktX6_answers_4 : List UInt8 := dkwX6_answers_4 ++ []
def dkwX6_answers_3 : List UInt8 := [79, 42, 180, 0, 20, 17, 2, 212, 21, 8, 96, 22, 6, 184, 0, 101, 80, 42, 180, 0, 17, 17, 2, 35]
abbrev dktX6_answers_3 : List UInt8 := dkwX6_answers_3 ++ dktX6_answers_4
def dkwX6_answers_2 : List UInt8 := [180, 0, 17, 17, 2, 216, 21, 8, 96, 21, 4, 79, 42, 180, 0, 17, 17, 3, 20, 21, 8, 96, 21, 5]
abbrev dktX6_answers_2 : List UInt8 := dkwX6_answers_2 ++ dktX6_answers_3
def dkwX6_answers_1 : List UInt8 := [180, 0, 17, 17, 2, 96, 21, 8, 96, 28, 79, 42, 180, 0, 17, 17, 2, 156, 21, 8, 96, 29, 79, 42]
abbrev dktX6_answers_1 : List UInt8 := dkwX6_answers_1 ++ dktX6_answers_2
def dkwX6_answers_0 : List UInt8 := [42, 180, 0, 17, 17, 2, 35, 46, 54, 8, 42, 180, 0, 17, 17, 2, 36, 21, 8, 96, 27, 79, 42]
abbrev dktX6_answers_0 : List UInt8 := dkwX6_answers_0 ++ dktX6_answers_1
theorem dksX6_answers_0 : cX6_answers.data.toList.drop 0 = dktX6_answers_0 := by decide +kernel
theorem dksX6_answers_1 : cX6_answers.data.toList.drop 23 = dktX6_answers_1 := dk_seg dksX6_answers_0 23 rfl rfl
theorem dksX6_answers_2 : cX6_answers.data.toList.drop 47 = dktX6_answers_2 := dk_seg dksX6_answers_1 24 rfl rfl
theorem dksX6_answers_3 : cX6_answers.data.toList.drop 71 = dktX6_answers_3 := dk_seg dksX6_answers_2 24 rfl rfl
theorem dksX6_answers_4 : cX6_answers.data.toList.drop 95 = dktX6_answers_4 := dk_seg dksX6_answers_3 24 rfl rfl
theorem dX6_answers_0 : decode cX6_answers 0 = .ok (.aload_n 0, 1) := dk_42 (dk_at dksX6_answers_0 0 rfl rfl)
theorem dX6_answers_1 : decode cX6_answers 1 = .ok (.getfield 17, 3) := dk_180 0 17 (dk_at dksX6_answers_0 1 rfl rfl)
theorem dX6_answers_4 : decode cX6_answers 4 = .ok (.sipush 547, 3) := dk_17 2 35 (dk_at dksX6_answers_0 4 rfl rfl)
theorem dX6_answers_7 : decode cX6_answers 7 = .ok (.iaload, 1) := dk_46 (dk_at dksX6_answers_0 7 rfl rfl)
theorem dX6_answers_8 : decode cX6_answers 8 = .ok (.istore 8, 2) := dk_54 8 (dk_at dksX6_answers_0 8 rfl rfl)
theorem dX6_answers_10 : decode cX6_answers 10 = .ok (.aload_n 0, 1) := dk_42 (dk_at dksX6_answers_0 10 rfl rfl)
theorem dX6_answers_11 : decode cX6_answers 11 = .ok (.getfield 17, 3) := dk_180 0 17 (dk_at dksX6_answers_0 11 rfl rfl)
theorem dX6_answers_14 : decode cX6_answers 14 = .ok (.sipush 548, 3) := dk_17 2 36 (dk_at dksX6_answers_0 14 rfl rfl)
theorem dX6_answers_17 : decode cX6_answers 17 = .ok (.iload 8, 2) := dk_21 8 (dk_at dksX6_answers_0 17 rfl rfl)
theorem dX6_answers_19 : decode cX6_answers 19 = .ok (.iadd, 1) := dk_96 (dk_at dksX6_answers_0 19 rfl rfl)
theorem dX6_answers_20 : decode cX6_answers 20 = .ok (.iload_n 1, 1) := dk_27 (dk_at dksX6_answers_0 20 rfl rfl)
theorem dX6_answers_21 : decode cX6_answers 21 = .ok (.iastore, 1) := dk_79 (dk_at dksX6_answers_0 21 rfl rfl)
theorem dX6_answers_22 : decode cX6_answers 22 = .ok (.aload_n 0, 1) := dk_42 (dk_at dksX6_answers_0 22 rfl rfl)
theorem dX6_answers_23 : decode cX6_answers 23 = .ok (.getfield 17, 3) := dk_180 0 17 (dk_at dksX6_answers_1 0 rfl rfl)
theorem dX6_answers_26 : decode cX6_answers 26 = .ok (.sipush 608, 3) := dk_17 2 96 (dk_at dksX6_answers_1 3 rfl rfl)
theorem dX6_answers_29 : decode cX6_answers 29 = .ok (.iload 8, 2) := dk_21 8 (dk_at dksX6_answers_1 6 rfl rfl)
theorem dX6_answers_31 : decode cX6_answers 31 = .ok (.iadd, 1) := dk_96 (dk_at dksX6_answers_1 8 rfl rfl)
theorem dX6_answers_32 : decode cX6_answers 32 = .ok (.iload_n 2, 1) := dk_28 (dk_at dksX6_answers_1 9 rfl rfl)
theorem dX6_answers_33 : decode cX6_answers 33 = .ok (.iastore, 1) := dk_79 (dk_at dksX6_answers_1 10 rfl rfl)
theorem dX6_answers_34 : decode cX6_answers 34 = .ok (.aload_n 0, 1) := dk_42 (dk_at dksX6_answers_1 11 rfl rfl)
theorem dX6_answers_35 : decode cX6_answers 35 = .ok (.getfield 17, 3) := dk_180 0 17 (dk_at dksX6_answers_1 12 rfl rfl)
theorem dX6_answers_38 : decode cX6_answers 38 = .ok (.sipush 668, 3) := dk_17 2 156 (dk_at dksX6_answers_1 15 rfl rfl)
theorem dX6_answers_41 : decode cX6_answers 41 = .ok (.iload 8, 2) := dk_21 8 (dk_at dksX6_answers_1 18 rfl rfl)
theorem dX6_answers_43 : decode cX6_answers 43 = .ok (.iadd, 1) := dk_96 (dk_at dksX6_answers_1 20 rfl rfl)
theorem dX6_answers_44 : decode cX6_answers 44 = .ok (.iload_n 3, 1) := dk_29 (dk_at dksX6_answers_1 21 rfl rfl)
theorem dX6_answers_45 : decode cX6_answers 45 = .ok (.iastore, 1) := dk_79 (dk_at dksX6_answers_1 22 rfl rfl)
theorem dX6_answers_46 : decode cX6_answers 46 = .ok (.aload_n 0, 1) := dk_42 (dk_at dksX6_answers_1 23 rfl rfl)
theorem dX6_answers_47 : decode cX6_answers 47 = .ok (.getfield 17, 3) := dk_180 0 17 (dk_at dksX6_answers_2 0 rfl rfl)
theorem dX6_answers_50 : decode cX6_answers 50 = .ok (.sipush 728, 3) := dk_17 2 216 (dk_at dksX6_answers_2 3 rfl rfl)
theorem dX6_answers_53 : decode cX6_answers 53 = .ok (.iload 8, 2) := dk_21 8 (dk_at dksX6_answers_2 6 rfl rfl)
theorem dX6_answers_55 : decode cX6_answers 55 = .ok (.iadd, 1) := dk_96 (dk_at dksX6_answers_2 8 rfl rfl)
theorem dX6_answers_56 : decode cX6_answers 56 = .ok (.iload 4, 2) := dk_21 4 (dk_at dksX6_answers_2 9 rfl rfl)
theorem dX6_answers_58 : decode cX6_answers 58 = .ok (.iastore, 1) := dk_79 (dk_at dksX6_answers_2 11 rfl rfl)
theorem dX6_answers_59 : decode cX6_answers 59 = .ok (.aload_n 0, 1) := dk_42 (dk_at dksX6_answers_2 12 rfl rfl)
theorem dX6_answers_60 : decode cX6_answers 60 = .ok (.getfield 17, 3) := dk_180 0 17 (dk_at dksX6_answers_2 13 rfl rfl)
theorem dX6_answers_63 : decode cX6_answers 63 = .ok (.sipush 788, 3) := dk_17 3 20 (dk_at dksX6_answers_2 16 rfl rfl)
theorem dX6_answers_66 : decode cX6_answers 66 = .ok (.iload 8, 2) := dk_21 8 (dk_at dksX6_answers_2 19 rfl rfl)
theorem dX6_answers_68 : decode cX6_answers 68 = .ok (.iadd, 1) := dk_96 (dk_at dksX6_answers_2 21 rfl rfl)
theorem dX6_answers_69 : decode cX6_answers 69 = .ok (.iload 5, 2) := dk_21 5 (dk_at dksX6_answers_2 22 rfl rfl)
theorem dX6_answers_71 : decode cX6_answers 71 = .ok (.iastore, 1) := dk_79 (dk_at dksX6_answers_3 0 rfl rfl)
theorem dX6_answers_72 : decode cX6_answers 72 = .ok (.aload_n 0, 1) := dk_42 (dk_at dksX6_answers_3 1 rfl rfl)
theorem dX6_answers_73 : decode cX6_answers 73 = .ok (.getfield 20, 3) := dk_180 0 20 (dk_at dksX6_answers_3 2 rfl rfl)
theorem dX6_answers_76 : decode cX6_answers 76 = .ok (.sipush 724, 3) := dk_17 2 212 (dk_at dksX6_answers_3 5 rfl rfl)
theorem dX6_answers_79 : decode cX6_answers 79 = .ok (.iload 8, 2) := dk_21 8 (dk_at dksX6_answers_3 8 rfl rfl)
theorem dX6_answers_81 : decode cX6_answers 81 = .ok (.iadd, 1) := dk_96 (dk_at dksX6_answers_3 10 rfl rfl)
theorem dX6_answers_82 : decode cX6_answers 82 = .ok (.lload 6, 2) := dk_22 6 (dk_at dksX6_answers_3 11 rfl rfl)
theorem dX6_answers_84 : decode cX6_answers 84 = .ok (.invokestatic 101, 3) := dk_184 0 101 (dk_at dksX6_answers_3 13 rfl rfl)
theorem dX6_answers_87 : decode cX6_answers 87 = .ok (.lastore, 1) := dk_80 (dk_at dksX6_answers_3 16 rfl rfl)
theorem dX6_answers_88 : decode cX6_answers 88 = .ok (.aload_n 0, 1) := dk_42 (dk_at dksX6_answers_3 17 rfl rfl)
theorem dX6_answers_89 : decode cX6_answers 89 = .ok (.getfield 17, 3) := dk_180 0 17 (dk_at dksX6_answers_3 18 rfl rfl)
theorem dX6_answers_92 : decode cX6_answers 92 = .ok (.sipush 547, 3) := dk_17 2 35 (dk_at dksX6_answers_3 21 rfl rfl)
theorem dX6_answers_95 : decode cX6_answers 95 = .ok (.dup2, 1) := dk_92 (dk_at dksX6_answers_4 0 rfl rfl)
theorem dX6_answers_96 : decode cX6_answers 96 = .ok (.iaload, 1) := dk_46 (dk_at dksX6_answers_4 1 rfl rfl)
theorem dX6_answers_97 : decode cX6_answers 97 = .ok (.iconst 1, 1) := dk_4 (dk_at dksX6_answers_4 2 rfl rfl)
theorem dX6_answers_98 : decode cX6_answers 98 = .ok (.iadd, 1) := dk_96 (dk_at dksX6_answers_4 3 rfl rfl)
theorem dX6_answers_99 : decode cX6_answers 99 = .ok (.iastore, 1) := dk_79 (dk_at dksX6_answers_4 4 rfl rfl)
theorem dX6_answers_100 : decode cX6_answers 100 = .ok (.return_, 1) := dk_177 (dk_at dksX6_answers_4 5 rfl rfl)
abbrev cX6_back : ByteArray := prog_28_method_78_code
def yX6_back : MethodName := ⟨RX6, "back", "(I)I"⟩
def dkwX6_back_1 : List UInt8 := [182, 1, 71, 153, 0, 7, 4, 167, 0, 4, 3, 172]
abbrev dktX6_back_1 : List UInt8 := dkwX6_back_1 ++ []
def dkwX6_back_0 : List UInt8 := [42, 3, 181, 0, 1, 42, 27, 182, 1, 68, 154, 0, 10, 42, 16, 254, 182, 0, 85, 172, 42, 27]
abbrev dktX6_back_0 : List UInt8 := dkwX6_back_0 ++ dktX6_back_1
theorem dksX6_back_0 : cX6_back.data.toList.drop 0 = dktX6_back_0 := by decide +kernel
theorem dksX6_back_1 : cX6_back.data.toList.drop 22 = dktX6_back_1 := dk_seg dksX6_back_0 22 rfl rfl
theorem dX6_back_0 : decode cX6_back 0 = .ok (.aload_n 0, 1) := dk_42 (dk_at dksX6_back_0 0 rfl rfl)
theorem dX6_back_1 : decode cX6_back 1 = .ok (.iconst 0, 1) := dk_3 (dk_at dksX6_back_0 1 rfl rfl)
theorem dX6_back_2 : decode cX6_back 2 = .ok (.putfield 1, 3) := dk_181 0 1 (dk_at dksX6_back_0 2 rfl rfl)
theorem dX6_back_5 : decode cX6_back 5 = .ok (.aload_n 0, 1) := dk_42 (dk_at dksX6_back_0 5 rfl rfl)
theorem dX6_back_6 : decode cX6_back 6 = .ok (.iload_n 1, 1) := dk_27 (dk_at dksX6_back_0 6 rfl rfl)
theorem dX6_back_7 : decode cX6_back 7 = .ok (.invokevirtual 324, 3) := dk_182 1 68 (dk_at dksX6_back_0 7 rfl rfl)
theorem dX6_back_10 : decode cX6_back 10 = .ok (.ifCond .ne 10, 3) := dk_154 0 10 (dk_at dksX6_back_0 10 rfl rfl)
theorem dX6_back_13 : decode cX6_back 13 = .ok (.aload_n 0, 1) := dk_42 (dk_at dksX6_back_0 13 rfl rfl)
theorem dX6_back_14 : decode cX6_back 14 = .ok (.bipush (-2), 2) := dk_16 254 (dk_at dksX6_back_0 14 rfl rfl)
theorem dX6_back_16 : decode cX6_back 16 = .ok (.invokevirtual 85, 3) := dk_182 0 85 (dk_at dksX6_back_0 16 rfl rfl)
theorem dX6_back_19 : decode cX6_back 19 = .ok (.ireturn, 1) := dk_172 (dk_at dksX6_back_0 19 rfl rfl)
theorem dX6_back_20 : decode cX6_back 20 = .ok (.aload_n 0, 1) := dk_42 (dk_at dksX6_back_0 20 rfl rfl)
theorem dX6_back_21 : decode cX6_back 21 = .ok (.iload_n 1, 1) := dk_27 (dk_at dksX6_back_0 21 rfl rfl)
theorem dX6_back_22 : decode cX6_back 22 = .ok (.invokevirtual 327, 3) := dk_182 1 71 (dk_at dksX6_back_1 0 rfl rfl)
theorem dX6_back_25 : decode cX6_back 25 = .ok (.ifCond .eq 7, 3) := dk_153 0 7 (dk_at dksX6_back_1 3 rfl rfl)
theorem dX6_back_28 : decode cX6_back 28 = .ok (.iconst 1, 1) := dk_4 (dk_at dksX6_back_1 6 rfl rfl)
theorem dX6_back_29 : decode cX6_back 29 = .ok (.goto 4, 3) := dk_167 0 4 (dk_at dksX6_back_1 7 rfl rfl)
theorem dX6_back_32 : decode cX6_back 32 = .ok (.iconst 0, 1) := dk_3 (dk_at dksX6_back_1 10 rfl rfl)
theorem dX6_back_33 : decode cX6_back 33 = .ok (.ireturn, 1) := dk_172 (dk_at dksX6_back_1 11 rfl rfl)
abbrev cX6_isThere : ByteArray := prog_28_method_75_code
def yX6_isThere : MethodName := ⟨RX6, "isThere", "(I)Z"⟩
def dkwX6_isThere_0 : List UInt8 := [27, 155, 0, 19, 27, 42, 180, 0, 17, 17, 2, 35, 46, 162, 0, 7, 4, 167, 0, 4, 3, 172]
abbrev dktX6_isThere_0 : List UInt8 := dkwX6_isThere_0 ++ []
theorem dksX6_isThere_0 : cX6_isThere.data.toList.drop 0 = dktX6_isThere_0 := by decide +kernel
theorem dX6_isThere_0 : decode cX6_isThere 0 = .ok (.iload_n 1, 1) := dk_27 (dk_at dksX6_isThere_0 0 rfl rfl)
theorem dX6_isThere_1 : decode cX6_isThere 1 = .ok (.ifCond .lt 19, 3) := dk_155 0 19 (dk_at dksX6_isThere_0 1 rfl rfl)
theorem dX6_isThere_4 : decode cX6_isThere 4 = .ok (.iload_n 1, 1) := dk_27 (dk_at dksX6_isThere_0 4 rfl rfl)
theorem dX6_isThere_5 : decode cX6_isThere 5 = .ok (.aload_n 0, 1) := dk_42 (dk_at dksX6_isThere_0 5 rfl rfl)
theorem dX6_isThere_6 : decode cX6_isThere 6 = .ok (.getfield 17, 3) := dk_180 0 17 (dk_at dksX6_isThere_0 6 rfl rfl)
theorem dX6_isThere_9 : decode cX6_isThere 9 = .ok (.sipush 547, 3) := dk_17 2 35 (dk_at dksX6_isThere_0 9 rfl rfl)
theorem dX6_isThere_12 : decode cX6_isThere 12 = .ok (.iaload, 1) := dk_46 (dk_at dksX6_isThere_0 12 rfl rfl)
theorem dX6_isThere_13 : decode cX6_isThere 13 = .ok (.if_icmp .ge 7, 3) := dk_162 0 7 (dk_at dksX6_isThere_0 13 rfl rfl)
theorem dX6_isThere_16 : decode cX6_isThere 16 = .ok (.iconst 1, 1) := dk_4 (dk_at dksX6_isThere_0 16 rfl rfl)
theorem dX6_isThere_17 : decode cX6_isThere 17 = .ok (.goto 4, 3) := dk_167 0 4 (dk_at dksX6_isThere_0 17 rfl rfl)
theorem dX6_isThere_20 : decode cX6_isThere 20 = .ok (.iconst 0, 1) := dk_3 (dk_at dksX6_isThere_0 20 rfl rfl)
theorem dX6_isThere_21 : decode cX6_isThere 21 = .ok (.ireturn, 1) := dk_172 (dk_at dksX6_isThere_0 21 rfl rfl)
abbrev cX6_isBack : ByteArray := prog_28_method_77_code
def yX6_isBack : MethodName := ⟨RX6, "isBack", "(I)Z"⟩
def dkwX6_isBack_2 : List UInt8 := [46, 162, 0, 7, 4, 167, 0, 4, 3, 172]
abbrev dktX6_isBack_2 : List UInt8 := dkwX6_isBack_2 ++ []
def dkwX6_isBack_1 : List UInt8 := [42, 180, 0, 17, 17, 0, 248, 46, 161, 0, 24, 42, 32, 4, 182, 1, 19, 42, 180, 0, 17, 17, 0, 248]
abbrev dktX6_isBack_1 : List UInt8 := dkwX6_isBack_1 ++ dktX6_isBack_2
def dkwX6_isBack_0 : List UInt8 := [42, 180, 0, 20, 17, 2, 212, 27, 96, 47, 65, 42, 27, 182, 1, 65, 153, 0, 40, 42, 32, 182, 1, 23]
abbrev dktX6_isBack_0 : List UInt8 := dkwX6_isBack_0 ++ dktX6_isBack_1
theorem dksX6_isBack_0 : cX6_isBack.data.toList.drop 0 = dktX6_isBack_0 := by decide +kernel
theorem dksX6_isBack_1 : cX6_isBack.data.toList.drop 24 = dktX6_isBack_1 := dk_seg dksX6_isBack_0 24 rfl rfl
theorem dksX6_isBack_2 : cX6_isBack.data.toList.drop 48 = dktX6_isBack_2 := dk_seg dksX6_isBack_1 24 rfl rfl
theorem dX6_isBack_0 : decode cX6_isBack 0 = .ok (.aload_n 0, 1) := dk_42 (dk_at dksX6_isBack_0 0 rfl rfl)
theorem dX6_isBack_1 : decode cX6_isBack 1 = .ok (.getfield 20, 3) := dk_180 0 20 (dk_at dksX6_isBack_0 1 rfl rfl)
theorem dX6_isBack_4 : decode cX6_isBack 4 = .ok (.sipush 724, 3) := dk_17 2 212 (dk_at dksX6_isBack_0 4 rfl rfl)
theorem dX6_isBack_7 : decode cX6_isBack 7 = .ok (.iload_n 1, 1) := dk_27 (dk_at dksX6_isBack_0 7 rfl rfl)
theorem dX6_isBack_8 : decode cX6_isBack 8 = .ok (.iadd, 1) := dk_96 (dk_at dksX6_isBack_0 8 rfl rfl)
theorem dX6_isBack_9 : decode cX6_isBack 9 = .ok (.laload, 1) := dk_47 (dk_at dksX6_isBack_0 9 rfl rfl)
theorem dX6_isBack_10 : decode cX6_isBack 10 = .ok (.lstore_n 2, 1) := dk_65 (dk_at dksX6_isBack_0 10 rfl rfl)
theorem dX6_isBack_11 : decode cX6_isBack 11 = .ok (.aload_n 0, 1) := dk_42 (dk_at dksX6_isBack_0 11 rfl rfl)
theorem dX6_isBack_12 : decode cX6_isBack 12 = .ok (.iload_n 1, 1) := dk_27 (dk_at dksX6_isBack_0 12 rfl rfl)
theorem dX6_isBack_13 : decode cX6_isBack 13 = .ok (.invokevirtual 321, 3) := dk_182 1 65 (dk_at dksX6_isBack_0 13 rfl rfl)
theorem dX6_isBack_16 : decode cX6_isBack 16 = .ok (.ifCond .eq 40, 3) := dk_153 0 40 (dk_at dksX6_isBack_0 16 rfl rfl)
theorem dX6_isBack_19 : decode cX6_isBack 19 = .ok (.aload_n 0, 1) := dk_42 (dk_at dksX6_isBack_0 19 rfl rfl)
theorem dX6_isBack_20 : decode cX6_isBack 20 = .ok (.lload_n 2, 1) := dk_32 (dk_at dksX6_isBack_0 20 rfl rfl)
theorem dX6_isBack_21 : decode cX6_isBack 21 = .ok (.invokevirtual 279, 3) := dk_182 1 23 (dk_at dksX6_isBack_0 21 rfl rfl)
theorem dX6_isBack_24 : decode cX6_isBack 24 = .ok (.aload_n 0, 1) := dk_42 (dk_at dksX6_isBack_1 0 rfl rfl)
theorem dX6_isBack_25 : decode cX6_isBack 25 = .ok (.getfield 17, 3) := dk_180 0 17 (dk_at dksX6_isBack_1 1 rfl rfl)
theorem dX6_isBack_28 : decode cX6_isBack 28 = .ok (.sipush 248, 3) := dk_17 0 248 (dk_at dksX6_isBack_1 4 rfl rfl)
theorem dX6_isBack_31 : decode cX6_isBack 31 = .ok (.iaload, 1) := dk_46 (dk_at dksX6_isBack_1 7 rfl rfl)
theorem dX6_isBack_32 : decode cX6_isBack 32 = .ok (.if_icmp .lt 24, 3) := dk_161 0 24 (dk_at dksX6_isBack_1 8 rfl rfl)
theorem dX6_isBack_35 : decode cX6_isBack 35 = .ok (.aload_n 0, 1) := dk_42 (dk_at dksX6_isBack_1 11 rfl rfl)
theorem dX6_isBack_36 : decode cX6_isBack 36 = .ok (.lload_n 2, 1) := dk_32 (dk_at dksX6_isBack_1 12 rfl rfl)
theorem dX6_isBack_37 : decode cX6_isBack 37 = .ok (.iconst 1, 1) := dk_4 (dk_at dksX6_isBack_1 13 rfl rfl)
theorem dX6_isBack_38 : decode cX6_isBack 38 = .ok (.invokevirtual 275, 3) := dk_182 1 19 (dk_at dksX6_isBack_1 14 rfl rfl)
theorem dX6_isBack_41 : decode cX6_isBack 41 = .ok (.aload_n 0, 1) := dk_42 (dk_at dksX6_isBack_1 17 rfl rfl)
theorem dX6_isBack_42 : decode cX6_isBack 42 = .ok (.getfield 17, 3) := dk_180 0 17 (dk_at dksX6_isBack_1 18 rfl rfl)
theorem dX6_isBack_45 : decode cX6_isBack 45 = .ok (.sipush 248, 3) := dk_17 0 248 (dk_at dksX6_isBack_1 21 rfl rfl)
theorem dX6_isBack_48 : decode cX6_isBack 48 = .ok (.iaload, 1) := dk_46 (dk_at dksX6_isBack_2 0 rfl rfl)
theorem dX6_isBack_49 : decode cX6_isBack 49 = .ok (.if_icmp .ge 7, 3) := dk_162 0 7 (dk_at dksX6_isBack_2 1 rfl rfl)
theorem dX6_isBack_52 : decode cX6_isBack 52 = .ok (.iconst 1, 1) := dk_4 (dk_at dksX6_isBack_2 4 rfl rfl)
theorem dX6_isBack_53 : decode cX6_isBack 53 = .ok (.goto 4, 3) := dk_167 0 4 (dk_at dksX6_isBack_2 5 rfl rfl)
theorem dX6_isBack_56 : decode cX6_isBack 56 = .ok (.iconst 0, 1) := dk_3 (dk_at dksX6_isBack_2 8 rfl rfl)
theorem dX6_isBack_57 : decode cX6_isBack 57 = .ok (.ireturn, 1) := dk_172 (dk_at dksX6_isBack_2 9 rfl rfl)
abbrev cX6_isBehind : ByteArray := prog_28_method_76_code
def yX6_isBehind : MethodName := ⟨RX6, "isBehind", "(I)Z"⟩
def dkwX6_isBehind_1 : List UInt8 := [46, 42, 180, 0, 17, 17, 0, 161, 46, 164, 0, 7, 4, 167, 0, 4, 3, 172]
abbrev dktX6_isBehind_1 : List UInt8 := dkwX6_isBehind_1 ++ []
def dkwX6_isBehind_0 : List UInt8 := [42, 180, 0, 20, 17, 2, 212, 27, 96, 47, 9, 148, 153, 0, 28, 42, 180, 0, 17, 17, 2, 96, 27, 96]
abbrev dktX6_isBehind_0 : List UInt8 := dkwX6_isBehind_0 ++ dktX6_isBehind_1
theorem dksX6_isBehind_0 : cX6_isBehind.data.toList.drop 0 = dktX6_isBehind_0 := by decide +kernel
theorem dksX6_isBehind_1 : cX6_isBehind.data.toList.drop 24 = dktX6_isBehind_1 := dk_seg dksX6_isBehind_0 24 rfl rfl
theorem dX6_isBehind_0 : decode cX6_isBehind 0 = .ok (.aload_n 0, 1) := dk_42 (dk_at dksX6_isBehind_0 0 rfl rfl)
theorem dX6_isBehind_1 : decode cX6_isBehind 1 = .ok (.getfield 20, 3) := dk_180 0 20 (dk_at dksX6_isBehind_0 1 rfl rfl)
theorem dX6_isBehind_4 : decode cX6_isBehind 4 = .ok (.sipush 724, 3) := dk_17 2 212 (dk_at dksX6_isBehind_0 4 rfl rfl)
theorem dX6_isBehind_7 : decode cX6_isBehind 7 = .ok (.iload_n 1, 1) := dk_27 (dk_at dksX6_isBehind_0 7 rfl rfl)
theorem dX6_isBehind_8 : decode cX6_isBehind 8 = .ok (.iadd, 1) := dk_96 (dk_at dksX6_isBehind_0 8 rfl rfl)
theorem dX6_isBehind_9 : decode cX6_isBehind 9 = .ok (.laload, 1) := dk_47 (dk_at dksX6_isBehind_0 9 rfl rfl)
theorem dX6_isBehind_10 : decode cX6_isBehind 10 = .ok (.lconst 0, 1) := dk_9 (dk_at dksX6_isBehind_0 10 rfl rfl)
theorem dX6_isBehind_11 : decode cX6_isBehind 11 = .ok (.lcmp, 1) := dk_148 (dk_at dksX6_isBehind_0 11 rfl rfl)
theorem dX6_isBehind_12 : decode cX6_isBehind 12 = .ok (.ifCond .eq 28, 3) := dk_153 0 28 (dk_at dksX6_isBehind_0 12 rfl rfl)
theorem dX6_isBehind_15 : decode cX6_isBehind 15 = .ok (.aload_n 0, 1) := dk_42 (dk_at dksX6_isBehind_0 15 rfl rfl)
theorem dX6_isBehind_16 : decode cX6_isBehind 16 = .ok (.getfield 17, 3) := dk_180 0 17 (dk_at dksX6_isBehind_0 16 rfl rfl)
theorem dX6_isBehind_19 : decode cX6_isBehind 19 = .ok (.sipush 608, 3) := dk_17 2 96 (dk_at dksX6_isBehind_0 19 rfl rfl)
theorem dX6_isBehind_22 : decode cX6_isBehind 22 = .ok (.iload_n 1, 1) := dk_27 (dk_at dksX6_isBehind_0 22 rfl rfl)
theorem dX6_isBehind_23 : decode cX6_isBehind 23 = .ok (.iadd, 1) := dk_96 (dk_at dksX6_isBehind_0 23 rfl rfl)
theorem dX6_isBehind_24 : decode cX6_isBehind 24 = .ok (.iaload, 1) := dk_46 (dk_at dksX6_isBehind_1 0 rfl rfl)
theorem dX6_isBehind_25 : decode cX6_isBehind 25 = .ok (.aload_n 0, 1) := dk_42 (dk_at dksX6_isBehind_1 1 rfl rfl)
theorem dX6_isBehind_26 : decode cX6_isBehind 26 = .ok (.getfield 17, 3) := dk_180 0 17 (dk_at dksX6_isBehind_1 2 rfl rfl)
theorem dX6_isBehind_29 : decode cX6_isBehind 29 = .ok (.sipush 161, 3) := dk_17 0 161 (dk_at dksX6_isBehind_1 5 rfl rfl)
theorem dX6_isBehind_32 : decode cX6_isBehind 32 = .ok (.iaload, 1) := dk_46 (dk_at dksX6_isBehind_1 8 rfl rfl)
theorem dX6_isBehind_33 : decode cX6_isBehind 33 = .ok (.if_icmp .le 7, 3) := dk_164 0 7 (dk_at dksX6_isBehind_1 9 rfl rfl)
theorem dX6_isBehind_36 : decode cX6_isBehind 36 = .ok (.iconst 1, 1) := dk_4 (dk_at dksX6_isBehind_1 12 rfl rfl)
theorem dX6_isBehind_37 : decode cX6_isBehind 37 = .ok (.goto 4, 3) := dk_167 0 4 (dk_at dksX6_isBehind_1 13 rfl rfl)
theorem dX6_isBehind_40 : decode cX6_isBehind 40 = .ok (.iconst 0, 1) := dk_3 (dk_at dksX6_isBehind_1 16 rfl rfl)
theorem dX6_isBehind_41 : decode cX6_isBehind 41 = .ok (.ireturn, 1) := dk_172 (dk_at dksX6_isBehind_1 17 rfl rfl)
abbrev cX6_backOdds : ByteArray := prog_28_method_79_code
def yX6_backOdds : MethodName := ⟨RX6, "backOdds", "(II)I"⟩
def dkwX6_backOdds_4 : List UInt8 := [21, 4, 156, 0, 7, 9, 167, 0, 10, 20, 1, 74, 21, 4, 133, 105, 28, 184, 1, 42, 136, 172]
abbrev dktX6_backOdds_4 : List UInt8 := dkwX6_backOdds_4 ++ []
def dkwX6_backOdds_3 : List UInt8 := [29, 156, 0, 7, 3, 167, 0, 4, 29, 133, 42, 180, 0, 17, 17, 2, 156, 27, 96, 46, 133, 10, 97, 105]
abbrev dktX6_backOdds_3 : List UInt8 := dkwX6_backOdds_3 ++ dktX6_backOdds_4
def dkwX6_backOdds_2 : List UInt8 := [27, 96, 47, 182, 1, 23, 62, 42, 42, 180, 0, 20, 17, 2, 212, 27, 96, 47, 4, 182, 1, 19, 54, 4]
abbrev dktX6_backOdds_2 : List UInt8 := dkwX6_backOdds_2 ++ dktX6_backOdds_3
def dkwX6_backOdds_1 : List UInt8 := [16, 254, 182, 0, 85, 172, 42, 27, 182, 1, 65, 154, 0, 5, 28, 172, 42, 42, 180, 0, 20, 17, 2, 212]
abbrev dktX6_backOdds_1 : List UInt8 := dkwX6_backOdds_1 ++ dktX6_backOdds_2
def dkwX6_backOdds_0 : List UInt8 := [42, 3, 181, 0, 1, 42, 27, 182, 1, 68, 153, 0, 13, 28, 133, 9, 10, 184, 0, 81, 154, 0, 10, 42]
abbrev dktX6_backOdds_0 : List UInt8 := dkwX6_backOdds_0 ++ dktX6_backOdds_1
theorem dksX6_backOdds_0 : cX6_backOdds.data.toList.drop 0 = dktX6_backOdds_0 := by decide +kernel
theorem dksX6_backOdds_1 : cX6_backOdds.data.toList.drop 24 = dktX6_backOdds_1 := dk_seg dksX6_backOdds_0 24 rfl rfl
theorem dksX6_backOdds_2 : cX6_backOdds.data.toList.drop 48 = dktX6_backOdds_2 := dk_seg dksX6_backOdds_1 24 rfl rfl
theorem dksX6_backOdds_3 : cX6_backOdds.data.toList.drop 72 = dktX6_backOdds_3 := dk_seg dksX6_backOdds_2 24 rfl rfl
theorem dksX6_backOdds_4 : cX6_backOdds.data.toList.drop 96 = dktX6_backOdds_4 := dk_seg dksX6_backOdds_3 24 rfl rfl
theorem dX6_backOdds_0 : decode cX6_backOdds 0 = .ok (.aload_n 0, 1) := dk_42 (dk_at dksX6_backOdds_0 0 rfl rfl)
theorem dX6_backOdds_1 : decode cX6_backOdds 1 = .ok (.iconst 0, 1) := dk_3 (dk_at dksX6_backOdds_0 1 rfl rfl)
theorem dX6_backOdds_2 : decode cX6_backOdds 2 = .ok (.putfield 1, 3) := dk_181 0 1 (dk_at dksX6_backOdds_0 2 rfl rfl)
theorem dX6_backOdds_5 : decode cX6_backOdds 5 = .ok (.aload_n 0, 1) := dk_42 (dk_at dksX6_backOdds_0 5 rfl rfl)
theorem dX6_backOdds_6 : decode cX6_backOdds 6 = .ok (.iload_n 1, 1) := dk_27 (dk_at dksX6_backOdds_0 6 rfl rfl)
theorem dX6_backOdds_7 : decode cX6_backOdds 7 = .ok (.invokevirtual 324, 3) := dk_182 1 68 (dk_at dksX6_backOdds_0 7 rfl rfl)
theorem dX6_backOdds_10 : decode cX6_backOdds 10 = .ok (.ifCond .eq 13, 3) := dk_153 0 13 (dk_at dksX6_backOdds_0 10 rfl rfl)
theorem dX6_backOdds_13 : decode cX6_backOdds 13 = .ok (.iload_n 2, 1) := dk_28 (dk_at dksX6_backOdds_0 13 rfl rfl)
theorem dX6_backOdds_14 : decode cX6_backOdds 14 = .ok (.i2l, 1) := dk_133 (dk_at dksX6_backOdds_0 14 rfl rfl)
theorem dX6_backOdds_15 : decode cX6_backOdds 15 = .ok (.lconst 0, 1) := dk_9 (dk_at dksX6_backOdds_0 15 rfl rfl)
theorem dX6_backOdds_16 : decode cX6_backOdds 16 = .ok (.lconst 1, 1) := dk_10 (dk_at dksX6_backOdds_0 16 rfl rfl)
theorem dX6_backOdds_17 : decode cX6_backOdds 17 = .ok (.invokestatic 81, 3) := dk_184 0 81 (dk_at dksX6_backOdds_0 17 rfl rfl)
theorem dX6_backOdds_20 : decode cX6_backOdds 20 = .ok (.ifCond .ne 10, 3) := dk_154 0 10 (dk_at dksX6_backOdds_0 20 rfl rfl)
theorem dX6_backOdds_23 : decode cX6_backOdds 23 = .ok (.aload_n 0, 1) := dk_42 (dk_at dksX6_backOdds_0 23 rfl rfl)
theorem dX6_backOdds_24 : decode cX6_backOdds 24 = .ok (.bipush (-2), 2) := dk_16 254 (dk_at dksX6_backOdds_1 0 rfl rfl)
theorem dX6_backOdds_26 : decode cX6_backOdds 26 = .ok (.invokevirtual 85, 3) := dk_182 0 85 (dk_at dksX6_backOdds_1 2 rfl rfl)
theorem dX6_backOdds_29 : decode cX6_backOdds 29 = .ok (.ireturn, 1) := dk_172 (dk_at dksX6_backOdds_1 5 rfl rfl)
theorem dX6_backOdds_30 : decode cX6_backOdds 30 = .ok (.aload_n 0, 1) := dk_42 (dk_at dksX6_backOdds_1 6 rfl rfl)
theorem dX6_backOdds_31 : decode cX6_backOdds 31 = .ok (.iload_n 1, 1) := dk_27 (dk_at dksX6_backOdds_1 7 rfl rfl)
theorem dX6_backOdds_32 : decode cX6_backOdds 32 = .ok (.invokevirtual 321, 3) := dk_182 1 65 (dk_at dksX6_backOdds_1 8 rfl rfl)
theorem dX6_backOdds_35 : decode cX6_backOdds 35 = .ok (.ifCond .ne 5, 3) := dk_154 0 5 (dk_at dksX6_backOdds_1 11 rfl rfl)
theorem dX6_backOdds_38 : decode cX6_backOdds 38 = .ok (.iload_n 2, 1) := dk_28 (dk_at dksX6_backOdds_1 14 rfl rfl)
theorem dX6_backOdds_39 : decode cX6_backOdds 39 = .ok (.ireturn, 1) := dk_172 (dk_at dksX6_backOdds_1 15 rfl rfl)
theorem dX6_backOdds_40 : decode cX6_backOdds 40 = .ok (.aload_n 0, 1) := dk_42 (dk_at dksX6_backOdds_1 16 rfl rfl)
theorem dX6_backOdds_41 : decode cX6_backOdds 41 = .ok (.aload_n 0, 1) := dk_42 (dk_at dksX6_backOdds_1 17 rfl rfl)
theorem dX6_backOdds_42 : decode cX6_backOdds 42 = .ok (.getfield 20, 3) := dk_180 0 20 (dk_at dksX6_backOdds_1 18 rfl rfl)
theorem dX6_backOdds_45 : decode cX6_backOdds 45 = .ok (.sipush 724, 3) := dk_17 2 212 (dk_at dksX6_backOdds_1 21 rfl rfl)
theorem dX6_backOdds_48 : decode cX6_backOdds 48 = .ok (.iload_n 1, 1) := dk_27 (dk_at dksX6_backOdds_2 0 rfl rfl)
theorem dX6_backOdds_49 : decode cX6_backOdds 49 = .ok (.iadd, 1) := dk_96 (dk_at dksX6_backOdds_2 1 rfl rfl)
theorem dX6_backOdds_50 : decode cX6_backOdds 50 = .ok (.laload, 1) := dk_47 (dk_at dksX6_backOdds_2 2 rfl rfl)
theorem dX6_backOdds_51 : decode cX6_backOdds 51 = .ok (.invokevirtual 279, 3) := dk_182 1 23 (dk_at dksX6_backOdds_2 3 rfl rfl)
theorem dX6_backOdds_54 : decode cX6_backOdds 54 = .ok (.istore_n 3, 1) := dk_62 (dk_at dksX6_backOdds_2 6 rfl rfl)
theorem dX6_backOdds_55 : decode cX6_backOdds 55 = .ok (.aload_n 0, 1) := dk_42 (dk_at dksX6_backOdds_2 7 rfl rfl)
theorem dX6_backOdds_56 : decode cX6_backOdds 56 = .ok (.aload_n 0, 1) := dk_42 (dk_at dksX6_backOdds_2 8 rfl rfl)
theorem dX6_backOdds_57 : decode cX6_backOdds 57 = .ok (.getfield 20, 3) := dk_180 0 20 (dk_at dksX6_backOdds_2 9 rfl rfl)
theorem dX6_backOdds_60 : decode cX6_backOdds 60 = .ok (.sipush 724, 3) := dk_17 2 212 (dk_at dksX6_backOdds_2 12 rfl rfl)
theorem dX6_backOdds_63 : decode cX6_backOdds 63 = .ok (.iload_n 1, 1) := dk_27 (dk_at dksX6_backOdds_2 15 rfl rfl)
theorem dX6_backOdds_64 : decode cX6_backOdds 64 = .ok (.iadd, 1) := dk_96 (dk_at dksX6_backOdds_2 16 rfl rfl)
theorem dX6_backOdds_65 : decode cX6_backOdds 65 = .ok (.laload, 1) := dk_47 (dk_at dksX6_backOdds_2 17 rfl rfl)
theorem dX6_backOdds_66 : decode cX6_backOdds 66 = .ok (.iconst 1, 1) := dk_4 (dk_at dksX6_backOdds_2 18 rfl rfl)
theorem dX6_backOdds_67 : decode cX6_backOdds 67 = .ok (.invokevirtual 275, 3) := dk_182 1 19 (dk_at dksX6_backOdds_2 19 rfl rfl)
theorem dX6_backOdds_70 : decode cX6_backOdds 70 = .ok (.istore 4, 2) := dk_54 4 (dk_at dksX6_backOdds_2 22 rfl rfl)
theorem dX6_backOdds_72 : decode cX6_backOdds 72 = .ok (.iload_n 3, 1) := dk_29 (dk_at dksX6_backOdds_3 0 rfl rfl)
theorem dX6_backOdds_73 : decode cX6_backOdds 73 = .ok (.ifCond .ge 7, 3) := dk_156 0 7 (dk_at dksX6_backOdds_3 1 rfl rfl)
theorem dX6_backOdds_76 : decode cX6_backOdds 76 = .ok (.iconst 0, 1) := dk_3 (dk_at dksX6_backOdds_3 4 rfl rfl)
theorem dX6_backOdds_77 : decode cX6_backOdds 77 = .ok (.goto 4, 3) := dk_167 0 4 (dk_at dksX6_backOdds_3 5 rfl rfl)
theorem dX6_backOdds_80 : decode cX6_backOdds 80 = .ok (.iload_n 3, 1) := dk_29 (dk_at dksX6_backOdds_3 8 rfl rfl)
theorem dX6_backOdds_81 : decode cX6_backOdds 81 = .ok (.i2l, 1) := dk_133 (dk_at dksX6_backOdds_3 9 rfl rfl)
theorem dX6_backOdds_82 : decode cX6_backOdds 82 = .ok (.aload_n 0, 1) := dk_42 (dk_at dksX6_backOdds_3 10 rfl rfl)
theorem dX6_backOdds_83 : decode cX6_backOdds 83 = .ok (.getfield 17, 3) := dk_180 0 17 (dk_at dksX6_backOdds_3 11 rfl rfl)
theorem dX6_backOdds_86 : decode cX6_backOdds 86 = .ok (.sipush 668, 3) := dk_17 2 156 (dk_at dksX6_backOdds_3 14 rfl rfl)
theorem dX6_backOdds_89 : decode cX6_backOdds 89 = .ok (.iload_n 1, 1) := dk_27 (dk_at dksX6_backOdds_3 17 rfl rfl)
theorem dX6_backOdds_90 : decode cX6_backOdds 90 = .ok (.iadd, 1) := dk_96 (dk_at dksX6_backOdds_3 18 rfl rfl)
theorem dX6_backOdds_91 : decode cX6_backOdds 91 = .ok (.iaload, 1) := dk_46 (dk_at dksX6_backOdds_3 19 rfl rfl)
theorem dX6_backOdds_92 : decode cX6_backOdds 92 = .ok (.i2l, 1) := dk_133 (dk_at dksX6_backOdds_3 20 rfl rfl)
theorem dX6_backOdds_93 : decode cX6_backOdds 93 = .ok (.lconst 1, 1) := dk_10 (dk_at dksX6_backOdds_3 21 rfl rfl)
theorem dX6_backOdds_94 : decode cX6_backOdds 94 = .ok (.ladd, 1) := dk_97 (dk_at dksX6_backOdds_3 22 rfl rfl)
theorem dX6_backOdds_95 : decode cX6_backOdds 95 = .ok (.lmul, 1) := dk_105 (dk_at dksX6_backOdds_3 23 rfl rfl)
theorem dX6_backOdds_96 : decode cX6_backOdds 96 = .ok (.iload 4, 2) := dk_21 4 (dk_at dksX6_backOdds_4 0 rfl rfl)
theorem dX6_backOdds_98 : decode cX6_backOdds 98 = .ok (.ifCond .ge 7, 3) := dk_156 0 7 (dk_at dksX6_backOdds_4 2 rfl rfl)
theorem dX6_backOdds_101 : decode cX6_backOdds 101 = .ok (.lconst 0, 1) := dk_9 (dk_at dksX6_backOdds_4 5 rfl rfl)
theorem dX6_backOdds_102 : decode cX6_backOdds 102 = .ok (.goto 10, 3) := dk_167 0 10 (dk_at dksX6_backOdds_4 6 rfl rfl)
theorem dX6_backOdds_105 : decode cX6_backOdds 105 = .ok (.ldc2_w 330, 3) := dk_20 1 74 (dk_at dksX6_backOdds_4 9 rfl rfl)
theorem dX6_backOdds_108 : decode cX6_backOdds 108 = .ok (.iload 4, 2) := dk_21 4 (dk_at dksX6_backOdds_4 12 rfl rfl)
theorem dX6_backOdds_110 : decode cX6_backOdds 110 = .ok (.i2l, 1) := dk_133 (dk_at dksX6_backOdds_4 14 rfl rfl)
theorem dX6_backOdds_111 : decode cX6_backOdds 111 = .ok (.lmul, 1) := dk_105 (dk_at dksX6_backOdds_4 15 rfl rfl)
theorem dX6_backOdds_112 : decode cX6_backOdds 112 = .ok (.iload_n 2, 1) := dk_28 (dk_at dksX6_backOdds_4 16 rfl rfl)
theorem dX6_backOdds_113 : decode cX6_backOdds 113 = .ok (.invokestatic 298, 3) := dk_184 1 42 (dk_at dksX6_backOdds_4 17 rfl rfl)
theorem dX6_backOdds_116 : decode cX6_backOdds 116 = .ok (.l2i, 1) := dk_136 (dk_at dksX6_backOdds_4 20 rfl rfl)
theorem dX6_backOdds_117 : decode cX6_backOdds 117 = .ok (.ireturn, 1) := dk_172 (dk_at dksX6_backOdds_4 21 rfl rfl)
abbrev cX6_parted : ByteArray := prog_28_method_80_code
def yX6_parted : MethodName := ⟨RX6, "parted", "(IZ)I"⟩
def dkwX6_parted_4 : List UInt8 := [17, 2, 156, 21, 4, 96, 46, 100, 96, 62, 132, 4, 1, 167, 255, 177, 29, 172]
abbrev dktX6_parted_4 : List UInt8 := dkwX6_parted_4 ++ []
def dkwX6_parted_3 : List UInt8 := [167, 0, 4, 3, 160, 0, 29, 42, 21, 4, 182, 1, 71, 154, 0, 20, 29, 16, 10, 42, 180, 0, 17]
abbrev dktX6_parted_3 : List UInt8 := dkwX6_parted_3 ++ dktX6_parted_4
def dkwX6_parted_2 : List UInt8 := [17, 2, 216, 167, 0, 6, 17, 3, 20, 21, 4, 96, 46, 54, 5, 21, 5, 28, 153, 0, 7, 4]
abbrev dktX6_parted_2 : List UInt8 := dkwX6_parted_2 ++ dktX6_parted_3
def dkwX6_parted_1 : List UInt8 := [3, 54, 4, 21, 4, 42, 180, 0, 17, 17, 2, 35, 46, 162, 0, 72, 42, 180, 0, 17, 27, 154, 0, 9]
abbrev dktX6_parted_1 : List UInt8 := dkwX6_parted_1 ++ dktX6_parted_2
def dkwX6_parted_0 : List UInt8 := [42, 3, 181, 0, 1, 27, 133, 9, 10, 184, 0, 81, 154, 0, 10, 42, 16, 254, 182, 0, 85, 172, 3, 62]
abbrev dktX6_parted_0 : List UInt8 := dkwX6_parted_0 ++ dktX6_parted_1
theorem dksX6_parted_0 : cX6_parted.data.toList.drop 0 = dktX6_parted_0 := by decide +kernel
theorem dksX6_parted_1 : cX6_parted.data.toList.drop 24 = dktX6_parted_1 := dk_seg dksX6_parted_0 24 rfl rfl
theorem dksX6_parted_2 : cX6_parted.data.toList.drop 48 = dktX6_parted_2 := dk_seg dksX6_parted_1 24 rfl rfl
theorem dksX6_parted_3 : cX6_parted.data.toList.drop 70 = dktX6_parted_3 := dk_seg dksX6_parted_2 22 rfl rfl
theorem dksX6_parted_4 : cX6_parted.data.toList.drop 93 = dktX6_parted_4 := dk_seg dksX6_parted_3 23 rfl rfl
theorem dX6_parted_0 : decode cX6_parted 0 = .ok (.aload_n 0, 1) := dk_42 (dk_at dksX6_parted_0 0 rfl rfl)
theorem dX6_parted_1 : decode cX6_parted 1 = .ok (.iconst 0, 1) := dk_3 (dk_at dksX6_parted_0 1 rfl rfl)
theorem dX6_parted_2 : decode cX6_parted 2 = .ok (.putfield 1, 3) := dk_181 0 1 (dk_at dksX6_parted_0 2 rfl rfl)
theorem dX6_parted_5 : decode cX6_parted 5 = .ok (.iload_n 1, 1) := dk_27 (dk_at dksX6_parted_0 5 rfl rfl)
theorem dX6_parted_6 : decode cX6_parted 6 = .ok (.i2l, 1) := dk_133 (dk_at dksX6_parted_0 6 rfl rfl)
theorem dX6_parted_7 : decode cX6_parted 7 = .ok (.lconst 0, 1) := dk_9 (dk_at dksX6_parted_0 7 rfl rfl)
theorem dX6_parted_8 : decode cX6_parted 8 = .ok (.lconst 1, 1) := dk_10 (dk_at dksX6_parted_0 8 rfl rfl)
theorem dX6_parted_9 : decode cX6_parted 9 = .ok (.invokestatic 81, 3) := dk_184 0 81 (dk_at dksX6_parted_0 9 rfl rfl)
theorem dX6_parted_12 : decode cX6_parted 12 = .ok (.ifCond .ne 10, 3) := dk_154 0 10 (dk_at dksX6_parted_0 12 rfl rfl)
theorem dX6_parted_15 : decode cX6_parted 15 = .ok (.aload_n 0, 1) := dk_42 (dk_at dksX6_parted_0 15 rfl rfl)
theorem dX6_parted_16 : decode cX6_parted 16 = .ok (.bipush (-2), 2) := dk_16 254 (dk_at dksX6_parted_0 16 rfl rfl)
theorem dX6_parted_18 : decode cX6_parted 18 = .ok (.invokevirtual 85, 3) := dk_182 0 85 (dk_at dksX6_parted_0 18 rfl rfl)
theorem dX6_parted_21 : decode cX6_parted 21 = .ok (.ireturn, 1) := dk_172 (dk_at dksX6_parted_0 21 rfl rfl)
theorem dX6_parted_22 : decode cX6_parted 22 = .ok (.iconst 0, 1) := dk_3 (dk_at dksX6_parted_0 22 rfl rfl)
theorem dX6_parted_23 : decode cX6_parted 23 = .ok (.istore_n 3, 1) := dk_62 (dk_at dksX6_parted_0 23 rfl rfl)
theorem dX6_parted_24 : decode cX6_parted 24 = .ok (.iconst 0, 1) := dk_3 (dk_at dksX6_parted_1 0 rfl rfl)
theorem dX6_parted_25 : decode cX6_parted 25 = .ok (.istore 4, 2) := dk_54 4 (dk_at dksX6_parted_1 1 rfl rfl)
theorem dX6_parted_27 : decode cX6_parted 27 = .ok (.iload 4, 2) := dk_21 4 (dk_at dksX6_parted_1 3 rfl rfl)
theorem dX6_parted_29 : decode cX6_parted 29 = .ok (.aload_n 0, 1) := dk_42 (dk_at dksX6_parted_1 5 rfl rfl)
theorem dX6_parted_30 : decode cX6_parted 30 = .ok (.getfield 17, 3) := dk_180 0 17 (dk_at dksX6_parted_1 6 rfl rfl)
theorem dX6_parted_33 : decode cX6_parted 33 = .ok (.sipush 547, 3) := dk_17 2 35 (dk_at dksX6_parted_1 9 rfl rfl)
theorem dX6_parted_36 : decode cX6_parted 36 = .ok (.iaload, 1) := dk_46 (dk_at dksX6_parted_1 12 rfl rfl)
theorem dX6_parted_37 : decode cX6_parted 37 = .ok (.if_icmp .ge 72, 3) := dk_162 0 72 (dk_at dksX6_parted_1 13 rfl rfl)
theorem dX6_parted_40 : decode cX6_parted 40 = .ok (.aload_n 0, 1) := dk_42 (dk_at dksX6_parted_1 16 rfl rfl)
theorem dX6_parted_41 : decode cX6_parted 41 = .ok (.getfield 17, 3) := dk_180 0 17 (dk_at dksX6_parted_1 17 rfl rfl)
theorem dX6_parted_44 : decode cX6_parted 44 = .ok (.iload_n 1, 1) := dk_27 (dk_at dksX6_parted_1 20 rfl rfl)
theorem dX6_parted_45 : decode cX6_parted 45 = .ok (.ifCond .ne 9, 3) := dk_154 0 9 (dk_at dksX6_parted_1 21 rfl rfl)
theorem dX6_parted_48 : decode cX6_parted 48 = .ok (.sipush 728, 3) := dk_17 2 216 (dk_at dksX6_parted_2 0 rfl rfl)
theorem dX6_parted_51 : decode cX6_parted 51 = .ok (.goto 6, 3) := dk_167 0 6 (dk_at dksX6_parted_2 3 rfl rfl)
theorem dX6_parted_54 : decode cX6_parted 54 = .ok (.sipush 788, 3) := dk_17 3 20 (dk_at dksX6_parted_2 6 rfl rfl)
theorem dX6_parted_57 : decode cX6_parted 57 = .ok (.iload 4, 2) := dk_21 4 (dk_at dksX6_parted_2 9 rfl rfl)
theorem dX6_parted_59 : decode cX6_parted 59 = .ok (.iadd, 1) := dk_96 (dk_at dksX6_parted_2 11 rfl rfl)
theorem dX6_parted_60 : decode cX6_parted 60 = .ok (.iaload, 1) := dk_46 (dk_at dksX6_parted_2 12 rfl rfl)
theorem dX6_parted_61 : decode cX6_parted 61 = .ok (.istore 5, 2) := dk_54 5 (dk_at dksX6_parted_2 13 rfl rfl)
theorem dX6_parted_63 : decode cX6_parted 63 = .ok (.iload 5, 2) := dk_21 5 (dk_at dksX6_parted_2 15 rfl rfl)
theorem dX6_parted_65 : decode cX6_parted 65 = .ok (.iload_n 2, 1) := dk_28 (dk_at dksX6_parted_2 17 rfl rfl)
theorem dX6_parted_66 : decode cX6_parted 66 = .ok (.ifCond .eq 7, 3) := dk_153 0 7 (dk_at dksX6_parted_2 18 rfl rfl)
theorem dX6_parted_69 : decode cX6_parted 69 = .ok (.iconst 1, 1) := dk_4 (dk_at dksX6_parted_2 21 rfl rfl)
theorem dX6_parted_70 : decode cX6_parted 70 = .ok (.goto 4, 3) := dk_167 0 4 (dk_at dksX6_parted_3 0 rfl rfl)
theorem dX6_parted_73 : decode cX6_parted 73 = .ok (.iconst 0, 1) := dk_3 (dk_at dksX6_parted_3 3 rfl rfl)
theorem dX6_parted_74 : decode cX6_parted 74 = .ok (.if_icmp .ne 29, 3) := dk_160 0 29 (dk_at dksX6_parted_3 4 rfl rfl)
theorem dX6_parted_77 : decode cX6_parted 77 = .ok (.aload_n 0, 1) := dk_42 (dk_at dksX6_parted_3 7 rfl rfl)
theorem dX6_parted_78 : decode cX6_parted 78 = .ok (.iload 4, 2) := dk_21 4 (dk_at dksX6_parted_3 8 rfl rfl)
theorem dX6_parted_80 : decode cX6_parted 80 = .ok (.invokevirtual 327, 3) := dk_182 1 71 (dk_at dksX6_parted_3 10 rfl rfl)
theorem dX6_parted_83 : decode cX6_parted 83 = .ok (.ifCond .ne 20, 3) := dk_154 0 20 (dk_at dksX6_parted_3 13 rfl rfl)
theorem dX6_parted_86 : decode cX6_parted 86 = .ok (.iload_n 3, 1) := dk_29 (dk_at dksX6_parted_3 16 rfl rfl)
theorem dX6_parted_87 : decode cX6_parted 87 = .ok (.bipush 10, 2) := dk_16 10 (dk_at dksX6_parted_3 17 rfl rfl)
theorem dX6_parted_89 : decode cX6_parted 89 = .ok (.aload_n 0, 1) := dk_42 (dk_at dksX6_parted_3 19 rfl rfl)
theorem dX6_parted_90 : decode cX6_parted 90 = .ok (.getfield 17, 3) := dk_180 0 17 (dk_at dksX6_parted_3 20 rfl rfl)
theorem dX6_parted_93 : decode cX6_parted 93 = .ok (.sipush 668, 3) := dk_17 2 156 (dk_at dksX6_parted_4 0 rfl rfl)
theorem dX6_parted_96 : decode cX6_parted 96 = .ok (.iload 4, 2) := dk_21 4 (dk_at dksX6_parted_4 3 rfl rfl)
theorem dX6_parted_98 : decode cX6_parted 98 = .ok (.iadd, 1) := dk_96 (dk_at dksX6_parted_4 5 rfl rfl)
theorem dX6_parted_99 : decode cX6_parted 99 = .ok (.iaload, 1) := dk_46 (dk_at dksX6_parted_4 6 rfl rfl)
theorem dX6_parted_100 : decode cX6_parted 100 = .ok (.isub, 1) := dk_100 (dk_at dksX6_parted_4 7 rfl rfl)
theorem dX6_parted_101 : decode cX6_parted 101 = .ok (.iadd, 1) := dk_96 (dk_at dksX6_parted_4 8 rfl rfl)
theorem dX6_parted_102 : decode cX6_parted 102 = .ok (.istore_n 3, 1) := dk_62 (dk_at dksX6_parted_4 9 rfl rfl)
theorem dX6_parted_103 : decode cX6_parted 103 = .ok (.iinc 4 1, 3) := dk_132 4 1 (dk_at dksX6_parted_4 10 rfl rfl)
theorem dX6_parted_106 : decode cX6_parted 106 = .ok (.goto (-79), 3) := dk_167 255 177 (dk_at dksX6_parted_4 13 rfl rfl)
theorem dX6_parted_109 : decode cX6_parted 109 = .ok (.iload_n 3, 1) := dk_29 (dk_at dksX6_parted_4 16 rfl rfl)
theorem dX6_parted_110 : decode cX6_parted 110 = .ok (.ireturn, 1) := dk_172 (dk_at dksX6_parted_4 17 rfl rfl)
abbrev cX6_muddled : ByteArray := prog_28_method_82_code
def yX6_muddled : MethodName := ⟨RX6, "muddled", "(I)I"⟩
def dkwX6_muddled_2 : List UInt8 := [167, 255, 220, 27, 2, 160, 0, 7, 28, 167, 0, 4, 2, 172]
abbrev dktX6_muddled_2 : List UInt8 := dkwX6_muddled_2 ++ []
def dkwX6_muddled_1 : List UInt8 := [182, 1, 76, 154, 0, 6, 167, 0, 13, 28, 27, 160, 0, 5, 29, 172, 132, 2, 1, 132, 3, 1]
abbrev dktX6_muddled_1 : List UInt8 := dkwX6_muddled_1 ++ dktX6_muddled_2
def dkwX6_muddled_0 : List UInt8 := [42, 3, 181, 0, 1, 3, 61, 3, 62, 29, 42, 180, 0, 17, 17, 2, 35, 46, 162, 0, 30, 42, 29]
abbrev dktX6_muddled_0 : List UInt8 := dkwX6_muddled_0 ++ dktX6_muddled_1
theorem dksX6_muddled_0 : cX6_muddled.data.toList.drop 0 = dktX6_muddled_0 := by decide +kernel
theorem dksX6_muddled_1 : cX6_muddled.data.toList.drop 23 = dktX6_muddled_1 := dk_seg dksX6_muddled_0 23 rfl rfl
theorem dksX6_muddled_2 : cX6_muddled.data.toList.drop 45 = dktX6_muddled_2 := dk_seg dksX6_muddled_1 22 rfl rfl
theorem dX6_muddled_0 : decode cX6_muddled 0 = .ok (.aload_n 0, 1) := dk_42 (dk_at dksX6_muddled_0 0 rfl rfl)
theorem dX6_muddled_1 : decode cX6_muddled 1 = .ok (.iconst 0, 1) := dk_3 (dk_at dksX6_muddled_0 1 rfl rfl)
theorem dX6_muddled_2 : decode cX6_muddled 2 = .ok (.putfield 1, 3) := dk_181 0 1 (dk_at dksX6_muddled_0 2 rfl rfl)
theorem dX6_muddled_5 : decode cX6_muddled 5 = .ok (.iconst 0, 1) := dk_3 (dk_at dksX6_muddled_0 5 rfl rfl)
theorem dX6_muddled_6 : decode cX6_muddled 6 = .ok (.istore_n 2, 1) := dk_61 (dk_at dksX6_muddled_0 6 rfl rfl)
theorem dX6_muddled_7 : decode cX6_muddled 7 = .ok (.iconst 0, 1) := dk_3 (dk_at dksX6_muddled_0 7 rfl rfl)
theorem dX6_muddled_8 : decode cX6_muddled 8 = .ok (.istore_n 3, 1) := dk_62 (dk_at dksX6_muddled_0 8 rfl rfl)
theorem dX6_muddled_9 : decode cX6_muddled 9 = .ok (.iload_n 3, 1) := dk_29 (dk_at dksX6_muddled_0 9 rfl rfl)
theorem dX6_muddled_10 : decode cX6_muddled 10 = .ok (.aload_n 0, 1) := dk_42 (dk_at dksX6_muddled_0 10 rfl rfl)
theorem dX6_muddled_11 : decode cX6_muddled 11 = .ok (.getfield 17, 3) := dk_180 0 17 (dk_at dksX6_muddled_0 11 rfl rfl)
theorem dX6_muddled_14 : decode cX6_muddled 14 = .ok (.sipush 547, 3) := dk_17 2 35 (dk_at dksX6_muddled_0 14 rfl rfl)
theorem dX6_muddled_17 : decode cX6_muddled 17 = .ok (.iaload, 1) := dk_46 (dk_at dksX6_muddled_0 17 rfl rfl)
theorem dX6_muddled_18 : decode cX6_muddled 18 = .ok (.if_icmp .ge 30, 3) := dk_162 0 30 (dk_at dksX6_muddled_0 18 rfl rfl)
theorem dX6_muddled_21 : decode cX6_muddled 21 = .ok (.aload_n 0, 1) := dk_42 (dk_at dksX6_muddled_0 21 rfl rfl)
theorem dX6_muddled_22 : decode cX6_muddled 22 = .ok (.iload_n 3, 1) := dk_29 (dk_at dksX6_muddled_0 22 rfl rfl)
theorem dX6_muddled_23 : decode cX6_muddled 23 = .ok (.invokevirtual 332, 3) := dk_182 1 76 (dk_at dksX6_muddled_1 0 rfl rfl)
theorem dX6_muddled_26 : decode cX6_muddled 26 = .ok (.ifCond .ne 6, 3) := dk_154 0 6 (dk_at dksX6_muddled_1 3 rfl rfl)
theorem dX6_muddled_29 : decode cX6_muddled 29 = .ok (.goto 13, 3) := dk_167 0 13 (dk_at dksX6_muddled_1 6 rfl rfl)
theorem dX6_muddled_32 : decode cX6_muddled 32 = .ok (.iload_n 2, 1) := dk_28 (dk_at dksX6_muddled_1 9 rfl rfl)
theorem dX6_muddled_33 : decode cX6_muddled 33 = .ok (.iload_n 1, 1) := dk_27 (dk_at dksX6_muddled_1 10 rfl rfl)
theorem dX6_muddled_34 : decode cX6_muddled 34 = .ok (.if_icmp .ne 5, 3) := dk_160 0 5 (dk_at dksX6_muddled_1 11 rfl rfl)
theorem dX6_muddled_37 : decode cX6_muddled 37 = .ok (.iload_n 3, 1) := dk_29 (dk_at dksX6_muddled_1 14 rfl rfl)
theorem dX6_muddled_38 : decode cX6_muddled 38 = .ok (.ireturn, 1) := dk_172 (dk_at dksX6_muddled_1 15 rfl rfl)
theorem dX6_muddled_39 : decode cX6_muddled 39 = .ok (.iinc 2 1, 3) := dk_132 2 1 (dk_at dksX6_muddled_1 16 rfl rfl)
theorem dX6_muddled_42 : decode cX6_muddled 42 = .ok (.iinc 3 1, 3) := dk_132 3 1 (dk_at dksX6_muddled_1 19 rfl rfl)
theorem dX6_muddled_45 : decode cX6_muddled 45 = .ok (.goto (-36), 3) := dk_167 255 220 (dk_at dksX6_muddled_2 0 rfl rfl)
theorem dX6_muddled_48 : decode cX6_muddled 48 = .ok (.iload_n 1, 1) := dk_27 (dk_at dksX6_muddled_2 3 rfl rfl)
theorem dX6_muddled_49 : decode cX6_muddled 49 = .ok (.iconst (-1), 1) := dk_2 (dk_at dksX6_muddled_2 4 rfl rfl)
theorem dX6_muddled_50 : decode cX6_muddled 50 = .ok (.if_icmp .ne 7, 3) := dk_160 0 7 (dk_at dksX6_muddled_2 5 rfl rfl)
theorem dX6_muddled_53 : decode cX6_muddled 53 = .ok (.iload_n 2, 1) := dk_28 (dk_at dksX6_muddled_2 8 rfl rfl)
theorem dX6_muddled_54 : decode cX6_muddled 54 = .ok (.goto 4, 3) := dk_167 0 4 (dk_at dksX6_muddled_2 9 rfl rfl)
theorem dX6_muddled_57 : decode cX6_muddled 57 = .ok (.iconst (-1), 1) := dk_2 (dk_at dksX6_muddled_2 12 rfl rfl)
theorem dX6_muddled_58 : decode cX6_muddled 58 = .ok (.ireturn, 1) := dk_172 (dk_at dksX6_muddled_2 13 rfl rfl)
abbrev cX6_isMuddled : ByteArray := prog_28_method_81_code
def yX6_isMuddled : MethodName := ⟨RX6, "isMuddled", "(I)Z"⟩
def dkwX6_isMuddled_3 : List UInt8 := [172]
abbrev dktX6_isMuddled_3 : List UInt8 := dkwX6_isMuddled_3 ++ []
def dkwX6_isMuddled_2 : List UInt8 := [161, 0, 23, 42, 32, 182, 1, 23, 42, 180, 0, 17, 17, 0, 248, 46, 162, 0, 7, 4, 167, 0, 4, 3]
abbrev dktX6_isMuddled_2 : List UInt8 := dkwX6_isMuddled_2 ++ dktX6_isMuddled_3
def dkwX6_isMuddled_1 : List UInt8 := [160, 0, 46, 32, 9, 148, 153, 0, 40, 42, 32, 4, 182, 1, 19, 42, 180, 0, 17, 17, 0, 248, 46]
abbrev dktX6_isMuddled_1 : List UInt8 := dkwX6_isMuddled_1 ++ dktX6_isMuddled_2
def dkwX6_isMuddled_0 : List UInt8 := [42, 180, 0, 20, 17, 2, 212, 27, 96, 47, 65, 42, 180, 0, 17, 17, 3, 20, 27, 96, 46, 4]
abbrev dktX6_isMuddled_0 : List UInt8 := dkwX6_isMuddled_0 ++ dktX6_isMuddled_1
theorem dksX6_isMuddled_0 : cX6_isMuddled.data.toList.drop 0 = dktX6_isMuddled_0 := by decide +kernel
theorem dksX6_isMuddled_1 : cX6_isMuddled.data.toList.drop 22 = dktX6_isMuddled_1 := dk_seg dksX6_isMuddled_0 22 rfl rfl
theorem dksX6_isMuddled_2 : cX6_isMuddled.data.toList.drop 45 = dktX6_isMuddled_2 := dk_seg dksX6_isMuddled_1 23 rfl rfl
theorem dksX6_isMuddled_3 : cX6_isMuddled.data.toList.drop 69 = dktX6_isMuddled_3 := dk_seg dksX6_isMuddled_2 24 rfl rfl
theorem dX6_isMuddled_0 : decode cX6_isMuddled 0 = .ok (.aload_n 0, 1) := dk_42 (dk_at dksX6_isMuddled_0 0 rfl rfl)
theorem dX6_isMuddled_1 : decode cX6_isMuddled 1 = .ok (.getfield 20, 3) := dk_180 0 20 (dk_at dksX6_isMuddled_0 1 rfl rfl)
theorem dX6_isMuddled_4 : decode cX6_isMuddled 4 = .ok (.sipush 724, 3) := dk_17 2 212 (dk_at dksX6_isMuddled_0 4 rfl rfl)
theorem dX6_isMuddled_7 : decode cX6_isMuddled 7 = .ok (.iload_n 1, 1) := dk_27 (dk_at dksX6_isMuddled_0 7 rfl rfl)
theorem dX6_isMuddled_8 : decode cX6_isMuddled 8 = .ok (.iadd, 1) := dk_96 (dk_at dksX6_isMuddled_0 8 rfl rfl)
theorem dX6_isMuddled_9 : decode cX6_isMuddled 9 = .ok (.laload, 1) := dk_47 (dk_at dksX6_isMuddled_0 9 rfl rfl)
theorem dX6_isMuddled_10 : decode cX6_isMuddled 10 = .ok (.lstore_n 2, 1) := dk_65 (dk_at dksX6_isMuddled_0 10 rfl rfl)
theorem dX6_isMuddled_11 : decode cX6_isMuddled 11 = .ok (.aload_n 0, 1) := dk_42 (dk_at dksX6_isMuddled_0 11 rfl rfl)
theorem dX6_isMuddled_12 : decode cX6_isMuddled 12 = .ok (.getfield 17, 3) := dk_180 0 17 (dk_at dksX6_isMuddled_0 12 rfl rfl)
theorem dX6_isMuddled_15 : decode cX6_isMuddled 15 = .ok (.sipush 788, 3) := dk_17 3 20 (dk_at dksX6_isMuddled_0 15 rfl rfl)
theorem dX6_isMuddled_18 : decode cX6_isMuddled 18 = .ok (.iload_n 1, 1) := dk_27 (dk_at dksX6_isMuddled_0 18 rfl rfl)
theorem dX6_isMuddled_19 : decode cX6_isMuddled 19 = .ok (.iadd, 1) := dk_96 (dk_at dksX6_isMuddled_0 19 rfl rfl)
theorem dX6_isMuddled_20 : decode cX6_isMuddled 20 = .ok (.iaload, 1) := dk_46 (dk_at dksX6_isMuddled_0 20 rfl rfl)
theorem dX6_isMuddled_21 : decode cX6_isMuddled 21 = .ok (.iconst 1, 1) := dk_4 (dk_at dksX6_isMuddled_0 21 rfl rfl)
theorem dX6_isMuddled_22 : decode cX6_isMuddled 22 = .ok (.if_icmp .ne 46, 3) := dk_160 0 46 (dk_at dksX6_isMuddled_1 0 rfl rfl)
theorem dX6_isMuddled_25 : decode cX6_isMuddled 25 = .ok (.lload_n 2, 1) := dk_32 (dk_at dksX6_isMuddled_1 3 rfl rfl)
theorem dX6_isMuddled_26 : decode cX6_isMuddled 26 = .ok (.lconst 0, 1) := dk_9 (dk_at dksX6_isMuddled_1 4 rfl rfl)
theorem dX6_isMuddled_27 : decode cX6_isMuddled 27 = .ok (.lcmp, 1) := dk_148 (dk_at dksX6_isMuddled_1 5 rfl rfl)
theorem dX6_isMuddled_28 : decode cX6_isMuddled 28 = .ok (.ifCond .eq 40, 3) := dk_153 0 40 (dk_at dksX6_isMuddled_1 6 rfl rfl)
theorem dX6_isMuddled_31 : decode cX6_isMuddled 31 = .ok (.aload_n 0, 1) := dk_42 (dk_at dksX6_isMuddled_1 9 rfl rfl)
theorem dX6_isMuddled_32 : decode cX6_isMuddled 32 = .ok (.lload_n 2, 1) := dk_32 (dk_at dksX6_isMuddled_1 10 rfl rfl)
theorem dX6_isMuddled_33 : decode cX6_isMuddled 33 = .ok (.iconst 1, 1) := dk_4 (dk_at dksX6_isMuddled_1 11 rfl rfl)
theorem dX6_isMuddled_34 : decode cX6_isMuddled 34 = .ok (.invokevirtual 275, 3) := dk_182 1 19 (dk_at dksX6_isMuddled_1 12 rfl rfl)
theorem dX6_isMuddled_37 : decode cX6_isMuddled 37 = .ok (.aload_n 0, 1) := dk_42 (dk_at dksX6_isMuddled_1 15 rfl rfl)
theorem dX6_isMuddled_38 : decode cX6_isMuddled 38 = .ok (.getfield 17, 3) := dk_180 0 17 (dk_at dksX6_isMuddled_1 16 rfl rfl)
theorem dX6_isMuddled_41 : decode cX6_isMuddled 41 = .ok (.sipush 248, 3) := dk_17 0 248 (dk_at dksX6_isMuddled_1 19 rfl rfl)
theorem dX6_isMuddled_44 : decode cX6_isMuddled 44 = .ok (.iaload, 1) := dk_46 (dk_at dksX6_isMuddled_1 22 rfl rfl)
theorem dX6_isMuddled_45 : decode cX6_isMuddled 45 = .ok (.if_icmp .lt 23, 3) := dk_161 0 23 (dk_at dksX6_isMuddled_2 0 rfl rfl)
theorem dX6_isMuddled_48 : decode cX6_isMuddled 48 = .ok (.aload_n 0, 1) := dk_42 (dk_at dksX6_isMuddled_2 3 rfl rfl)
theorem dX6_isMuddled_49 : decode cX6_isMuddled 49 = .ok (.lload_n 2, 1) := dk_32 (dk_at dksX6_isMuddled_2 4 rfl rfl)
theorem dX6_isMuddled_50 : decode cX6_isMuddled 50 = .ok (.invokevirtual 279, 3) := dk_182 1 23 (dk_at dksX6_isMuddled_2 5 rfl rfl)
theorem dX6_isMuddled_53 : decode cX6_isMuddled 53 = .ok (.aload_n 0, 1) := dk_42 (dk_at dksX6_isMuddled_2 8 rfl rfl)
theorem dX6_isMuddled_54 : decode cX6_isMuddled 54 = .ok (.getfield 17, 3) := dk_180 0 17 (dk_at dksX6_isMuddled_2 9 rfl rfl)
theorem dX6_isMuddled_57 : decode cX6_isMuddled 57 = .ok (.sipush 248, 3) := dk_17 0 248 (dk_at dksX6_isMuddled_2 12 rfl rfl)
theorem dX6_isMuddled_60 : decode cX6_isMuddled 60 = .ok (.iaload, 1) := dk_46 (dk_at dksX6_isMuddled_2 15 rfl rfl)
theorem dX6_isMuddled_61 : decode cX6_isMuddled 61 = .ok (.if_icmp .ge 7, 3) := dk_162 0 7 (dk_at dksX6_isMuddled_2 16 rfl rfl)
theorem dX6_isMuddled_64 : decode cX6_isMuddled 64 = .ok (.iconst 1, 1) := dk_4 (dk_at dksX6_isMuddled_2 19 rfl rfl)
theorem dX6_isMuddled_65 : decode cX6_isMuddled 65 = .ok (.goto 4, 3) := dk_167 0 4 (dk_at dksX6_isMuddled_2 20 rfl rfl)
theorem dX6_isMuddled_68 : decode cX6_isMuddled 68 = .ok (.iconst 0, 1) := dk_3 (dk_at dksX6_isMuddled_2 23 rfl rfl)
theorem dX6_isMuddled_69 : decode cX6_isMuddled 69 = .ok (.ireturn, 1) := dk_172 (dk_at dksX6_isMuddled_3 0 rfl rfl)
