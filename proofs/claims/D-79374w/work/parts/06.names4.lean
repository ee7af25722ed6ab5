set_option maxRecDepth 100000
/-! java/lang/Integer -/
def RJ16 : String := "java/lang/Integer"
abbrev cJ16_stringSize : ByteArray := prog_43_method_13_code
def yJ16_stringSize : MethodName := ⟨RJ16, "stringSize", "(I)I"⟩
def dkwJ16_stringSize_1 : List UInt8 := [164, 0, 7, 29, 27, 96, 172, 16, 10, 28, 104, 61, 132, 3, 1, 167, 255, 233, 16, 10, 27, 96, 172]
abbrev dktJ16_stringSize_1 : List UInt8 := dkwJ16_stringSize_1 ++ []
def dkwJ16_stringSize_0 : List UInt8 := [4, 60, 26, 155, 0, 8, 3, 60, 26, 116, 59, 16, 246, 61, 4, 62, 29, 16, 10, 162, 0, 23, 26, 28]
abbrev dktJ16_stringSize_0 : List UInt8 := dkwJ16_stringSize_0 ++ dktJ16_stringSize_1
theorem dksJ16_stringSize_0 : cJ16_stringSize.data.toList.drop 0 = dktJ16_stringSize_0 := by decide +kernel
theorem dksJ16_stringSize_1 : cJ16_stringSize.data.toList.drop 24 = dktJ16_stringSize_1 := dk_seg dksJ16_stringSize_0 24 rfl rfl
theorem dJ16_stringSize_0 : decode cJ16_stringSize 0 = .ok (.iconst 1, 1) := dk_4 (dk_at dksJ16_stringSize_0 0 rfl rfl)
theorem dJ16_stringSize_1 : decode cJ16_stringSize 1 = .ok (.istore_n 1, 1) := dk_60 (dk_at dksJ16_stringSize_0 1 rfl rfl)
theorem dJ16_stringSize_2 : decode cJ16_stringSize 2 = .ok (.iload_n 0, 1) := dk_26 (dk_at dksJ16_stringSize_0 2 rfl rfl)
theorem dJ16_stringSize_3 : decode cJ16_stringSize 3 = .ok (.ifCond .lt 8, 3) := dk_155 0 8 (dk_at dksJ16_stringSize_0 3 rfl rfl)
theorem dJ16_stringSize_6 : decode cJ16_stringSize 6 = .ok (.iconst 0, 1) := dk_3 (dk_at dksJ16_stringSize_0 6 rfl rfl)
theorem dJ16_stringSize_7 : decode cJ16_stringSize 7 = .ok (.istore_n 1, 1) := dk_60 (dk_at dksJ16_stringSize_0 7 rfl rfl)
theorem dJ16_stringSize_8 : decode cJ16_stringSize 8 = .ok (.iload_n 0, 1) := dk_26 (dk_at dksJ16_stringSize_0 8 rfl rfl)
theorem dJ16_stringSize_9 : decode cJ16_stringSize 9 = .ok (.ineg, 1) := dk_116 (dk_at dksJ16_stringSize_0 9 rfl rfl)
theorem dJ16_stringSize_10 : decode cJ16_stringSize 10 = .ok (.istore_n 0, 1) := dk_59 (dk_at dksJ16_stringSize_0 10 rfl rfl)
theorem dJ16_stringSize_11 : decode cJ16_stringSize 11 = .ok (.bipush (-10), 2) := dk_16 246 (dk_at dksJ16_stringSize_0 11 rfl rfl)
theorem dJ16_stringSize_13 : decode cJ16_stringSize 13 = .ok (.istore_n 2, 1) := dk_61 (dk_at dksJ16_stringSize_0 13 rfl rfl)
theorem dJ16_stringSize_14 : decode cJ16_stringSize 14 = .ok (.iconst 1, 1) := dk_4 (dk_at dksJ16_stringSize_0 14 rfl rfl)
theorem dJ16_stringSize_15 : decode cJ16_stringSize 15 = .ok (.istore_n 3, 1) := dk_62 (dk_at dksJ16_stringSize_0 15 rfl rfl)
theorem dJ16_stringSize_16 : decode cJ16_stringSize 16 = .ok (.iload_n 3, 1) := dk_29 (dk_at dksJ16_stringSize_0 16 rfl rfl)
theorem dJ16_stringSize_17 : decode cJ16_stringSize 17 = .ok (.bipush 10, 2) := dk_16 10 (dk_at dksJ16_stringSize_0 17 rfl rfl)
theorem dJ16_stringSize_19 : decode cJ16_stringSize 19 = .ok (.if_icmp .ge 23, 3) := dk_162 0 23 (dk_at dksJ16_stringSize_0 19 rfl rfl)
theorem dJ16_stringSize_22 : decode cJ16_stringSize 22 = .ok (.iload_n 0, 1) := dk_26 (dk_at dksJ16_stringSize_0 22 rfl rfl)
theorem dJ16_stringSize_23 : decode cJ16_stringSize 23 = .ok (.iload_n 2, 1) := dk_28 (dk_at dksJ16_stringSize_0 23 rfl rfl)
theorem dJ16_stringSize_24 : decode cJ16_stringSize 24 = .ok (.if_icmp .le 7, 3) := dk_164 0 7 (dk_at dksJ16_stringSize_1 0 rfl rfl)
theorem dJ16_stringSize_27 : decode cJ16_stringSize 27 = .ok (.iload_n 3, 1) := dk_29 (dk_at dksJ16_stringSize_1 3 rfl rfl)
theorem dJ16_stringSize_28 : decode cJ16_stringSize 28 = .ok (.iload_n 1, 1) := dk_27 (dk_at dksJ16_stringSize_1 4 rfl rfl)
theorem dJ16_stringSize_29 : decode cJ16_stringSize 29 = .ok (.iadd, 1) := dk_96 (dk_at dksJ16_stringSize_1 5 rfl rfl)
theorem dJ16_stringSize_30 : decode cJ16_stringSize 30 = .ok (.ireturn, 1) := dk_172 (dk_at dksJ16_stringSize_1 6 rfl rfl)
theorem dJ16_stringSize_31 : decode cJ16_stringSize 31 = .ok (.bipush 10, 2) := dk_16 10 (dk_at dksJ16_stringSize_1 7 rfl rfl)
theorem dJ16_stringSize_33 : decode cJ16_stringSize 33 = .ok (.iload_n 2, 1) := dk_28 (dk_at dksJ16_stringSize_1 9 rfl rfl)
theorem dJ16_stringSize_34 : decode cJ16_stringSize 34 = .ok (.imul, 1) := dk_104 (dk_at dksJ16_stringSize_1 10 rfl rfl)
theorem dJ16_stringSize_35 : decode cJ16_stringSize 35 = .ok (.istore_n 2, 1) := dk_61 (dk_at dksJ16_stringSize_1 11 rfl rfl)
theorem dJ16_stringSize_36 : decode cJ16_stringSize 36 = .ok (.iinc 3 1, 3) := dk_132 3 1 (dk_at dksJ16_stringSize_1 12 rfl rfl)
theorem dJ16_stringSize_39 : decode cJ16_stringSize 39 = .ok (.goto (-23), 3) := dk_167 255 233 (dk_at dksJ16_stringSize_1 15 rfl rfl)
theorem dJ16_stringSize_42 : decode cJ16_stringSize 42 = .ok (.bipush 10, 2) := dk_16 10 (dk_at dksJ16_stringSize_1 18 rfl rfl)
theorem dJ16_stringSize_44 : decode cJ16_stringSize 44 = .ok (.iload_n 1, 1) := dk_27 (dk_at dksJ16_stringSize_1 20 rfl rfl)
theorem dJ16_stringSize_45 : decode cJ16_stringSize 45 = .ok (.iadd, 1) := dk_96 (dk_at dksJ16_stringSize_1 21 rfl rfl)
theorem dJ16_stringSize_46 : decode cJ16_stringSize 46 = .ok (.ireturn, 1) := dk_172 (dk_at dksJ16_stringSize_1 22 rfl rfl)
abbrev cJ16_getChars : ByteArray := prog_43_method_12_code
def yJ16_getChars : MethodName := ⟨RJ16, "getChars", "(II[B)I"⟩
def dkwJ16_getChars_5 : List UInt8 := [16, 45, 84, 21, 5, 172]
abbrev dktJ16_getChars_5 : List UInt8 := dkwJ16_getChars_5 ++ []
def dkwJ16_getChars_4 : List UInt8 := [132, 5, 255, 21, 5, 178, 0, 87, 26, 116, 51, 84, 21, 6, 153, 0, 12, 44, 132, 5, 255, 21, 5]
abbrev dktJ16_getChars_4 : List UInt8 := dkwJ16_getChars_4 ++ dktJ16_getChars_5
def dkwJ16_getChars_3 : List UInt8 := [167, 255, 209, 44, 132, 5, 255, 21, 5, 178, 0, 83, 26, 116, 51, 84, 26, 16, 247, 162, 0, 16, 44]
abbrev dktJ16_getChars_3 : List UInt8 := dkwJ16_getChars_3 ++ dktJ16_getChars_4
def dkwJ16_getChars_2 : List UInt8 := [21, 5, 178, 0, 83, 21, 4, 51, 84, 44, 132, 5, 255, 21, 5, 178, 0, 87, 21, 4, 51, 84]
abbrev dktJ16_getChars_2 : List UInt8 := dkwJ16_getChars_2 ++ dktJ16_getChars_3
def dkwJ16_getChars_1 : List UInt8 := [16, 156, 163, 0, 47, 26, 16, 100, 108, 62, 29, 16, 100, 104, 26, 100, 54, 4, 29, 59, 44, 132, 5, 255]
abbrev dktJ16_getChars_1 : List UInt8 := dkwJ16_getChars_1 ++ dktJ16_getChars_2
def dkwJ16_getChars_0 : List UInt8 := [27, 54, 5, 26, 156, 0, 7, 4, 167, 0, 4, 3, 54, 6, 21, 6, 154, 0, 6, 26, 116, 59, 26]
abbrev dktJ16_getChars_0 : List UInt8 := dkwJ16_getChars_0 ++ dktJ16_getChars_1
theorem dksJ16_getChars_0 : cJ16_getChars.data.toList.drop 0 = dktJ16_getChars_0 := by decide +kernel
theorem dksJ16_getChars_1 : cJ16_getChars.data.toList.drop 23 = dktJ16_getChars_1 := dk_seg dksJ16_getChars_0 23 rfl rfl
theorem dksJ16_getChars_2 : cJ16_getChars.data.toList.drop 47 = dktJ16_getChars_2 := dk_seg dksJ16_getChars_1 24 rfl rfl
theorem dksJ16_getChars_3 : cJ16_getChars.data.toList.drop 69 = dktJ16_getChars_3 := dk_seg dksJ16_getChars_2 22 rfl rfl
theorem dksJ16_getChars_4 : cJ16_getChars.data.toList.drop 92 = dktJ16_getChars_4 := dk_seg dksJ16_getChars_3 23 rfl rfl
theorem dksJ16_getChars_5 : cJ16_getChars.data.toList.drop 115 = dktJ16_getChars_5 := dk_seg dksJ16_getChars_4 23 rfl rfl
theorem dJ16_getChars_0 : decode cJ16_getChars 0 = .ok (.iload_n 1, 1) := dk_27 (dk_at dksJ16_getChars_0 0 rfl rfl)
theorem dJ16_getChars_1 : decode cJ16_getChars 1 = .ok (.istore 5, 2) := dk_54 5 (dk_at dksJ16_getChars_0 1 rfl rfl)
theorem dJ16_getChars_3 : decode cJ16_getChars 3 = .ok (.iload_n 0, 1) := dk_26 (dk_at dksJ16_getChars_0 3 rfl rfl)
theorem dJ16_getChars_4 : decode cJ16_getChars 4 = .ok (.ifCond .ge 7, 3) := dk_156 0 7 (dk_at dksJ16_getChars_0 4 rfl rfl)
theorem dJ16_getChars_7 : decode cJ16_getChars 7 = .ok (.iconst 1, 1) := dk_4 (dk_at dksJ16_getChars_0 7 rfl rfl)
theorem dJ16_getChars_8 : decode cJ16_getChars 8 = .ok (.goto 4, 3) := dk_167 0 4 (dk_at dksJ16_getChars_0 8 rfl rfl)
theorem dJ16_getChars_11 : decode cJ16_getChars 11 = .ok (.iconst 0, 1) := dk_3 (dk_at dksJ16_getChars_0 11 rfl rfl)
theorem dJ16_getChars_12 : decode cJ16_getChars 12 = .ok (.istore 6, 2) := dk_54 6 (dk_at dksJ16_getChars_0 12 rfl rfl)
theorem dJ16_getChars_14 : decode cJ16_getChars 14 = .ok (.iload 6, 2) := dk_21 6 (dk_at dksJ16_getChars_0 14 rfl rfl)
theorem dJ16_getChars_16 : decode cJ16_getChars 16 = .ok (.ifCond .ne 6, 3) := dk_154 0 6 (dk_at dksJ16_getChars_0 16 rfl rfl)
theorem dJ16_getChars_19 : decode cJ16_getChars 19 = .ok (.iload_n 0, 1) := dk_26 (dk_at dksJ16_getChars_0 19 rfl rfl)
theorem dJ16_getChars_20 : decode cJ16_getChars 20 = .ok (.ineg, 1) := dk_116 (dk_at dksJ16_getChars_0 20 rfl rfl)
theorem dJ16_getChars_21 : decode cJ16_getChars 21 = .ok (.istore_n 0, 1) := dk_59 (dk_at dksJ16_getChars_0 21 rfl rfl)
theorem dJ16_getChars_22 : decode cJ16_getChars 22 = .ok (.iload_n 0, 1) := dk_26 (dk_at dksJ16_getChars_0 22 rfl rfl)
theorem dJ16_getChars_23 : decode cJ16_getChars 23 = .ok (.bipush (-100), 2) := dk_16 156 (dk_at dksJ16_getChars_1 0 rfl rfl)
theorem dJ16_getChars_25 : decode cJ16_getChars 25 = .ok (.if_icmp .gt 47, 3) := dk_163 0 47 (dk_at dksJ16_getChars_1 2 rfl rfl)
theorem dJ16_getChars_28 : decode cJ16_getChars 28 = .ok (.iload_n 0, 1) := dk_26 (dk_at dksJ16_getChars_1 5 rfl rfl)
theorem dJ16_getChars_29 : decode cJ16_getChars 29 = .ok (.bipush 100, 2) := dk_16 100 (dk_at dksJ16_getChars_1 6 rfl rfl)
theorem dJ16_getChars_31 : decode cJ16_getChars 31 = .ok (.idiv, 1) := dk_108 (dk_at dksJ16_getChars_1 8 rfl rfl)
theorem dJ16_getChars_32 : decode cJ16_getChars 32 = .ok (.istore_n 3, 1) := dk_62 (dk_at dksJ16_getChars_1 9 rfl rfl)
theorem dJ16_getChars_33 : decode cJ16_getChars 33 = .ok (.iload_n 3, 1) := dk_29 (dk_at dksJ16_getChars_1 10 rfl rfl)
theorem dJ16_getChars_34 : decode cJ16_getChars 34 = .ok (.bipush 100, 2) := dk_16 100 (dk_at dksJ16_getChars_1 11 rfl rfl)
theorem dJ16_getChars_36 : decode cJ16_getChars 36 = .ok (.imul, 1) := dk_104 (dk_at dksJ16_getChars_1 13 rfl rfl)
theorem dJ16_getChars_37 : decode cJ16_getChars 37 = .ok (.iload_n 0, 1) := dk_26 (dk_at dksJ16_getChars_1 14 rfl rfl)
theorem dJ16_getChars_38 : decode cJ16_getChars 38 = .ok (.isub, 1) := dk_100 (dk_at dksJ16_getChars_1 15 rfl rfl)
theorem dJ16_getChars_39 : decode cJ16_getChars 39 = .ok (.istore 4, 2) := dk_54 4 (dk_at dksJ16_getChars_1 16 rfl rfl)
theorem dJ16_getChars_41 : decode cJ16_getChars 41 = .ok (.iload_n 3, 1) := dk_29 (dk_at dksJ16_getChars_1 18 rfl rfl)
theorem dJ16_getChars_42 : decode cJ16_getChars 42 = .ok (.istore_n 0, 1) := dk_59 (dk_at dksJ16_getChars_1 19 rfl rfl)
theorem dJ16_getChars_43 : decode cJ16_getChars 43 = .ok (.aload_n 2, 1) := dk_44 (dk_at dksJ16_getChars_1 20 rfl rfl)
theorem dJ16_getChars_44 : decode cJ16_getChars 44 = .ok (.iinc 5 (-1), 3) := dk_132 5 255 (dk_at dksJ16_getChars_1 21 rfl rfl)
theorem dJ16_getChars_47 : decode cJ16_getChars 47 = .ok (.iload 5, 2) := dk_21 5 (dk_at dksJ16_getChars_2 0 rfl rfl)
theorem dJ16_getChars_49 : decode cJ16_getChars 49 = .ok (.getstatic 83, 3) := dk_178 0 83 (dk_at dksJ16_getChars_2 2 rfl rfl)
theorem dJ16_getChars_52 : decode cJ16_getChars 52 = .ok (.iload 4, 2) := dk_21 4 (dk_at dksJ16_getChars_2 5 rfl rfl)
theorem dJ16_getChars_54 : decode cJ16_getChars 54 = .ok (.baload, 1) := dk_51 (dk_at dksJ16_getChars_2 7 rfl rfl)
theorem dJ16_getChars_55 : decode cJ16_getChars 55 = .ok (.bastore, 1) := dk_84 (dk_at dksJ16_getChars_2 8 rfl rfl)
theorem dJ16_getChars_56 : decode cJ16_getChars 56 = .ok (.aload_n 2, 1) := dk_44 (dk_at dksJ16_getChars_2 9 rfl rfl)
theorem dJ16_getChars_57 : decode cJ16_getChars 57 = .ok (.iinc 5 (-1), 3) := dk_132 5 255 (dk_at dksJ16_getChars_2 10 rfl rfl)
theorem dJ16_getChars_60 : decode cJ16_getChars 60 = .ok (.iload 5, 2) := dk_21 5 (dk_at dksJ16_getChars_2 13 rfl rfl)
theorem dJ16_getChars_62 : decode cJ16_getChars 62 = .ok (.getstatic 87, 3) := dk_178 0 87 (dk_at dksJ16_getChars_2 15 rfl rfl)
theorem dJ16_getChars_65 : decode cJ16_getChars 65 = .ok (.iload 4, 2) := dk_21 4 (dk_at dksJ16_getChars_2 18 rfl rfl)
theorem dJ16_getChars_67 : decode cJ16_getChars 67 = .ok (.baload, 1) := dk_51 (dk_at dksJ16_getChars_2 20 rfl rfl)
theorem dJ16_getChars_68 : decode cJ16_getChars 68 = .ok (.bastore, 1) := dk_84 (dk_at dksJ16_getChars_2 21 rfl rfl)
theorem dJ16_getChars_69 : decode cJ16_getChars 69 = .ok (.goto (-47), 3) := dk_167 255 209 (dk_at dksJ16_getChars_3 0 rfl rfl)
theorem dJ16_getChars_72 : decode cJ16_getChars 72 = .ok (.aload_n 2, 1) := dk_44 (dk_at dksJ16_getChars_3 3 rfl rfl)
theorem dJ16_getChars_73 : decode cJ16_getChars 73 = .ok (.iinc 5 (-1), 3) := dk_132 5 255 (dk_at dksJ16_getChars_3 4 rfl rfl)
theorem dJ16_getChars_76 : decode cJ16_getChars 76 = .ok (.iload 5, 2) := dk_21 5 (dk_at dksJ16_getChars_3 7 rfl rfl)
theorem dJ16_getChars_78 : decode cJ16_getChars 78 = .ok (.getstatic 83, 3) := dk_178 0 83 (dk_at dksJ16_getChars_3 9 rfl rfl)
theorem dJ16_getChars_81 : decode cJ16_getChars 81 = .ok (.iload_n 0, 1) := dk_26 (dk_at dksJ16_getChars_3 12 rfl rfl)
theorem dJ16_getChars_82 : decode cJ16_getChars 82 = .ok (.ineg, 1) := dk_116 (dk_at dksJ16_getChars_3 13 rfl rfl)
theorem dJ16_getChars_83 : decode cJ16_getChars 83 = .ok (.baload, 1) := dk_51 (dk_at dksJ16_getChars_3 14 rfl rfl)
theorem dJ16_getChars_84 : decode cJ16_getChars 84 = .ok (.bastore, 1) := dk_84 (dk_at dksJ16_getChars_3 15 rfl rfl)
theorem dJ16_getChars_85 : decode cJ16_getChars 85 = .ok (.iload_n 0, 1) := dk_26 (dk_at dksJ16_getChars_3 16 rfl rfl)
theorem dJ16_getChars_86 : decode cJ16_getChars 86 = .ok (.bipush (-9), 2) := dk_16 247 (dk_at dksJ16_getChars_3 17 rfl rfl)
theorem dJ16_getChars_88 : decode cJ16_getChars 88 = .ok (.if_icmp .ge 16, 3) := dk_162 0 16 (dk_at dksJ16_getChars_3 19 rfl rfl)
theorem dJ16_getChars_91 : decode cJ16_getChars 91 = .ok (.aload_n 2, 1) := dk_44 (dk_at dksJ16_getChars_3 22 rfl rfl)
theorem dJ16_getChars_92 : decode cJ16_getChars 92 = .ok (.iinc 5 (-1), 3) := dk_132 5 255 (dk_at dksJ16_getChars_4 0 rfl rfl)
theorem dJ16_getChars_95 : decode cJ16_getChars 95 = .ok (.iload 5, 2) := dk_21 5 (dk_at dksJ16_getChars_4 3 rfl rfl)
theorem dJ16_getChars_97 : decode cJ16_getChars 97 = .ok (.getstatic 87, 3) := dk_178 0 87 (dk_at dksJ16_getChars_4 5 rfl rfl)
theorem dJ16_getChars_100 : decode cJ16_getChars 100 = .ok (.iload_n 0, 1) := dk_26 (dk_at dksJ16_getChars_4 8 rfl rfl)
theorem dJ16_getChars_101 : decode cJ16_getChars 101 = .ok (.ineg, 1) := dk_116 (dk_at dksJ16_getChars_4 9 rfl rfl)
theorem dJ16_getChars_102 : decode cJ16_getChars 102 = .ok (.baload, 1) := dk_51 (dk_at dksJ16_getChars_4 10 rfl rfl)
theorem dJ16_getChars_103 : decode cJ16_getChars 103 = .ok (.bastore, 1) := dk_84 (dk_at dksJ16_getChars_4 11 rfl rfl)
theorem dJ16_getChars_104 : decode cJ16_getChars 104 = .ok (.iload 6, 2) := dk_21 6 (dk_at dksJ16_getChars_4 12 rfl rfl)
theorem dJ16_getChars_106 : decode cJ16_getChars 106 = .ok (.ifCond .eq 12, 3) := dk_153 0 12 (dk_at dksJ16_getChars_4 14 rfl rfl)
theorem dJ16_getChars_109 : decode cJ16_getChars 109 = .ok (.aload_n 2, 1) := dk_44 (dk_at dksJ16_getChars_4 17 rfl rfl)
theorem dJ16_getChars_110 : decode cJ16_getChars 110 = .ok (.iinc 5 (-1), 3) := dk_132 5 255 (dk_at dksJ16_getChars_4 18 rfl rfl)
theorem dJ16_getChars_113 : decode cJ16_getChars 113 = .ok (.iload 5, 2) := dk_21 5 (dk_at dksJ16_getChars_4 21 rfl rfl)
theorem dJ16_getChars_115 : decode cJ16_getChars 115 = .ok (.bipush 45, 2) := dk_16 45 (dk_at dksJ16_getChars_5 0 rfl rfl)
theorem dJ16_getChars_117 : decode cJ16_getChars 117 = .ok (.bastore, 1) := dk_84 (dk_at dksJ16_getChars_5 2 rfl rfl)
theorem dJ16_getChars_118 : decode cJ16_getChars 118 = .ok (.iload 5, 2) := dk_21 5 (dk_at dksJ16_getChars_5 3 rfl rfl)
theorem dJ16_getChars_120 : decode cJ16_getChars 120 = .ok (.ireturn, 1) := dk_172 (dk_at dksJ16_getChars_5 5 rfl rfl)
theorem q112 : (Jvm.Cond.initialized "java/lang/Integer") ∈ lw_all := lw_g (lw_at lw_m1 21 rfl) rfl
theorem q382 : (Jvm.Cond.static ({ cls := "java/lang/Integer", name := "stringSize", desc := "(I)I" } : Jvm.MethodName)) ∈ lw_all := lw_g (lw_at lw_m2 51 rfl) rfl
theorem q383 : (Jvm.Cond.code ({ cls := "java/lang/Integer", name := "stringSize", desc := "(I)I" } : Jvm.MethodName) prog_43_method_13_code (4 : Nat) (Option.some Jvm.ClassFile.FieldType.int)) ∈ lw_all := lw_g (lw_at lw_m2 52 rfl) rfl
theorem q385 : (Jvm.Cond.static ({ cls := "java/lang/Integer", name := "getChars", desc := "(II[B)I" } : Jvm.MethodName)) ∈ lw_all := lw_g (lw_at lw_m2 54 rfl) rfl
theorem q386 : (Jvm.Cond.code ({ cls := "java/lang/Integer", name := "getChars", desc := "(II[B)I" } : Jvm.MethodName) prog_43_method_12_code (7 : Nat) (Option.some Jvm.ClassFile.FieldType.int)) ∈ lw_all := lw_g (lw_at lw_m2 55 rfl) rfl
theorem q387 : (Jvm.Cond.fieldLink "java/lang/Integer" (83 : Nat) "java/lang/Integer" "DigitOnes" "[B") ∈ lw_all := lw_g (lw_at lw_m2 56 rfl) rfl
theorem q388 : (Jvm.Cond.laysStatic "java/lang/Integer" "DigitOnes" "[B") ∈ lw_tbl := lw_at lw_m2 57 rfl
theorem q389 : (Jvm.Cond.fieldLink "java/lang/Integer" (87 : Nat) "java/lang/Integer" "DigitTens" "[B") ∈ lw_all := lw_g (lw_at lw_m2 58 rfl) rfl
theorem q390 : (Jvm.Cond.laysStatic "java/lang/Integer" "DigitTens" "[B") ∈ lw_tbl := lw_at lw_m2 59 rfl
/-! PolicyNotation$Scope -/
def RX3 : String := "PolicyNotation$Scope"
def TX3 : u_T := fun k => match k with
  | 0 => ("PolicyNotation$Scope", "outer", "LPolicyNotation$Scope;", true)
  | 1 => ("PolicyNotation$Scope", "number", "I", true)
  | _ => ("PolicyNotation$Scope", "own", "LPolicyNotation$Effect;", false)
def tyX3 : Nat → FieldType := fun k => match k with
  | 0 => .object "PolicyNotation$Scope"
  | 1 => .int
  | _ => .object "PolicyNotation$Effect"
abbrev wsX30 : List Cond := u_ws RX3 TX3 3
theorem nmX3 : ∀ a, a < 3 → ∀ b, b < 3 → a ≠ b → (TX3 a).2.1 ≠ (TX3 b).2.1 := by decide +kernel
theorem tyX3_ok : ∀ k, k < 3 → parseFieldDescriptor (TX3 k).2.2.1 = some (tyX3 k) := by decide +kernel
abbrev cX3_init : ByteArray := prog_18_method_1_code
def yX3_init : MethodName := ⟨RX3, "<init>", "(LPolicyNotation$Scope;ILPolicyNotation$Effect;)V"⟩
def dkwX3_init_0 : List UInt8 := [42, 183, 0, 1, 42, 43, 181, 0, 7, 42, 28, 181, 0, 13, 42, 45, 181, 0, 17, 177]
abbrev dktX3_init_0 : List UInt8 := dkwX3_init_0 ++ []
theorem dksX3_init_0 : cX3_init.data.toList.drop 0 = dktX3_init_0 := by decide +kernel
theorem dX3_init_0 : decode cX3_init 0 = .ok (.aload_n 0, 1) := dk_42 (dk_at dksX3_init_0 0 rfl rfl)
theorem dX3_init_1 : decode cX3_init 1 = .ok (.invokespecial 1, 3) := dk_183 0 1 (dk_at dksX3_init_0 1 rfl rfl)
theorem dX3_init_4 : decode cX3_init 4 = .ok (.aload_n 0, 1) := dk_42 (dk_at dksX3_init_0 4 rfl rfl)
theorem dX3_init_5 : decode cX3_init 5 = .ok (.aload_n 1, 1) := dk_43 (dk_at dksX3_init_0 5 rfl rfl)
theorem dX3_init_6 : decode cX3_init 6 = .ok (.putfield 7, 3) := dk_181 0 7 (dk_at dksX3_init_0 6 rfl rfl)
theorem dX3_init_9 : decode cX3_init 9 = .ok (.aload_n 0, 1) := dk_42 (dk_at dksX3_init_0 9 rfl rfl)
theorem dX3_init_10 : decode cX3_init 10 = .ok (.iload_n 2, 1) := dk_28 (dk_at dksX3_init_0 10 rfl rfl)
theorem dX3_init_11 : decode cX3_init 11 = .ok (.putfield 13, 3) := dk_181 0 13 (dk_at dksX3_init_0 11 rfl rfl)
theorem dX3_init_14 : decode cX3_init 14 = .ok (.aload_n 0, 1) := dk_42 (dk_at dksX3_init_0 14 rfl rfl)
theorem dX3_init_15 : decode cX3_init 15 = .ok (.aload_n 3, 1) := dk_45 (dk_at dksX3_init_0 15 rfl rfl)
theorem dX3_init_16 : decode cX3_init 16 = .ok (.putfield 17, 3) := dk_181 0 17 (dk_at dksX3_init_0 16 rfl rfl)
theorem dX3_init_19 : decode cX3_init 19 = .ok (.return_, 1) := dk_177 (dk_at dksX3_init_0 19 rfl rfl)
abbrev cX3_isWithin : ByteArray := prog_18_method_3_code
def yX3_isWithin : MethodName := ⟨RX3, "isWithin", "(I)Z"⟩
def dkwX3_isWithin_1 : List UInt8 := [153, 0, 7, 4, 167, 0, 4, 3, 172]
abbrev dktX3_isWithin_1 : List UInt8 := dkwX3_isWithin_1 ++ []
def dkwX3_isWithin_0 : List UInt8 := [42, 180, 0, 13, 27, 159, 0, 21, 42, 180, 0, 7, 198, 0, 18, 42, 180, 0, 7, 27, 182, 0, 25]
abbrev dktX3_isWithin_0 : List UInt8 := dkwX3_isWithin_0 ++ dktX3_isWithin_1
theorem dksX3_isWithin_0 : cX3_isWithin.data.toList.drop 0 = dktX3_isWithin_0 := by decide +kernel
theorem dksX3_isWithin_1 : cX3_isWithin.data.toList.drop 23 = dktX3_isWithin_1 := dk_seg dksX3_isWithin_0 23 rfl rfl
theorem dX3_isWithin_0 : decode cX3_isWithin 0 = .ok (.aload_n 0, 1) := dk_42 (dk_at dksX3_isWithin_0 0 rfl rfl)
theorem dX3_isWithin_1 : decode cX3_isWithin 1 = .ok (.getfield 13, 3) := dk_180 0 13 (dk_at dksX3_isWithin_0 1 rfl rfl)
theorem dX3_isWithin_4 : decode cX3_isWithin 4 = .ok (.iload_n 1, 1) := dk_27 (dk_at dksX3_isWithin_0 4 rfl rfl)
theorem dX3_isWithin_5 : decode cX3_isWithin 5 = .ok (.if_icmp .eq 21, 3) := dk_159 0 21 (dk_at dksX3_isWithin_0 5 rfl rfl)
theorem dX3_isWithin_8 : decode cX3_isWithin 8 = .ok (.aload_n 0, 1) := dk_42 (dk_at dksX3_isWithin_0 8 rfl rfl)
theorem dX3_isWithin_9 : decode cX3_isWithin 9 = .ok (.getfield 7, 3) := dk_180 0 7 (dk_at dksX3_isWithin_0 9 rfl rfl)
theorem dX3_isWithin_12 : decode cX3_isWithin 12 = .ok (.ifnull 18, 3) := dk_198 0 18 (dk_at dksX3_isWithin_0 12 rfl rfl)
theorem dX3_isWithin_15 : decode cX3_isWithin 15 = .ok (.aload_n 0, 1) := dk_42 (dk_at dksX3_isWithin_0 15 rfl rfl)
theorem dX3_isWithin_16 : decode cX3_isWithin 16 = .ok (.getfield 7, 3) := dk_180 0 7 (dk_at dksX3_isWithin_0 16 rfl rfl)
theorem dX3_isWithin_19 : decode cX3_isWithin 19 = .ok (.iload_n 1, 1) := dk_27 (dk_at dksX3_isWithin_0 19 rfl rfl)
theorem dX3_isWithin_20 : decode cX3_isWithin 20 = .ok (.invokevirtual 25, 3) := dk_182 0 25 (dk_at dksX3_isWithin_0 20 rfl rfl)
theorem dX3_isWithin_23 : decode cX3_isWithin 23 = .ok (.ifCond .eq 7, 3) := dk_153 0 7 (dk_at dksX3_isWithin_1 0 rfl rfl)
theorem dX3_isWithin_26 : decode cX3_isWithin 26 = .ok (.iconst 1, 1) := dk_4 (dk_at dksX3_isWithin_1 3 rfl rfl)
theorem dX3_isWithin_27 : decode cX3_isWithin 27 = .ok (.goto 4, 3) := dk_167 0 4 (dk_at dksX3_isWithin_1 4 rfl rfl)
theorem dX3_isWithin_30 : decode cX3_isWithin 30 = .ok (.iconst 0, 1) := dk_3 (dk_at dksX3_isWithin_1 7 rfl rfl)
theorem dX3_isWithin_31 : decode cX3_isWithin 31 = .ok (.ireturn, 1) := dk_172 (dk_at dksX3_isWithin_1 8 rfl rfl)
abbrev cX3_depth : ByteArray := prog_18_method_2_code
def yX3_depth : MethodName := ⟨RX3, "depth", "()I"⟩
def dkwX3_depth_0 : List UInt8 := [42, 180, 0, 7, 199, 0, 7, 3, 167, 0, 12, 42, 180, 0, 7, 182, 0, 21, 4, 96, 172]
abbrev dktX3_depth_0 : List UInt8 := dkwX3_depth_0 ++ []
theorem dksX3_depth_0 : cX3_depth.data.toList.drop 0 = dktX3_depth_0 := by decide +kernel
theorem dX3_depth_0 : decode cX3_depth 0 = .ok (.aload_n 0, 1) := dk_42 (dk_at dksX3_depth_0 0 rfl rfl)
theorem dX3_depth_1 : decode cX3_depth 1 = .ok (.getfield 7, 3) := dk_180 0 7 (dk_at dksX3_depth_0 1 rfl rfl)
theorem dX3_depth_4 : decode cX3_depth 4 = .ok (.ifnonnull 7, 3) := dk_199 0 7 (dk_at dksX3_depth_0 4 rfl rfl)
theorem dX3_depth_7 : decode cX3_depth 7 = .ok (.iconst 0, 1) := dk_3 (dk_at dksX3_depth_0 7 rfl rfl)
theorem dX3_depth_8 : decode cX3_depth 8 = .ok (.goto 12, 3) := dk_167 0 12 (dk_at dksX3_depth_0 8 rfl rfl)
theorem dX3_depth_11 : decode cX3_depth 11 = .ok (.aload_n 0, 1) := dk_42 (dk_at dksX3_depth_0 11 rfl rfl)
theorem dX3_depth_12 : decode cX3_depth 12 = .ok (.getfield 7, 3) := dk_180 0 7 (dk_at dksX3_depth_0 12 rfl rfl)
theorem dX3_depth_15 : decode cX3_depth 15 = .ok (.invokevirtual 21, 3) := dk_182 0 21 (dk_at dksX3_depth_0 15 rfl rfl)
theorem dX3_depth_18 : decode cX3_depth 18 = .ok (.iconst 1, 1) := dk_4 (dk_at dksX3_depth_0 18 rfl rfl)
theorem dX3_depth_19 : decode cX3_depth 19 = .ok (.iadd, 1) := dk_96 (dk_at dksX3_depth_0 19 rfl rfl)
theorem dX3_depth_20 : decode cX3_depth 20 = .ok (.ireturn, 1) := dk_172 (dk_at dksX3_depth_0 20 rfl rfl)
abbrev cX3_counts : ByteArray := prog_18_method_4_code
def yX3_counts : MethodName := ⟨RX3, "counts", "()LPolicyNotation$Effect;"⟩
def dkwX3_counts_0 : List UInt8 := [42, 180, 0, 17, 198, 0, 10, 42, 180, 0, 17, 167, 0, 10, 42, 180, 0, 7, 182, 0, 29, 176]
abbrev dktX3_counts_0 : List UInt8 := dkwX3_counts_0 ++ []
theorem dksX3_counts_0 : cX3_counts.data.toList.drop 0 = dktX3_counts_0 := by decide +kernel
theorem dX3_counts_0 : decode cX3_counts 0 = .ok (.aload_n 0, 1) := dk_42 (dk_at dksX3_counts_0 0 rfl rfl)
theorem dX3_counts_1 : decode cX3_counts 1 = .ok (.getfield 17, 3) := dk_180 0 17 (dk_at dksX3_counts_0 1 rfl rfl)
theorem dX3_counts_4 : decode cX3_counts 4 = .ok (.ifnull 10, 3) := dk_198 0 10 (dk_at dksX3_counts_0 4 rfl rfl)
theorem dX3_counts_7 : decode cX3_counts 7 = .ok (.aload_n 0, 1) := dk_42 (dk_at dksX3_counts_0 7 rfl rfl)
theorem dX3_counts_8 : decode cX3_counts 8 = .ok (.getfield 17, 3) := dk_180 0 17 (dk_at dksX3_counts_0 8 rfl rfl)
theorem dX3_counts_11 : decode cX3_counts 11 = .ok (.goto 10, 3) := dk_167 0 10 (dk_at dksX3_counts_0 11 rfl rfl)
theorem dX3_counts_14 : decode cX3_counts 14 = .ok (.aload_n 0, 1) := dk_42 (dk_at dksX3_counts_0 14 rfl rfl)
theorem dX3_counts_15 : decode cX3_counts 15 = .ok (.getfield 7, 3) := dk_180 0 7 (dk_at dksX3_counts_0 15 rfl rfl)
theorem dX3_counts_18 : decode cX3_counts 18 = .ok (.invokevirtual 29, 3) := dk_182 0 29 (dk_at dksX3_counts_0 18 rfl rfl)
theorem dX3_counts_21 : decode cX3_counts 21 = .ok (.areturn, 1) := dk_176 (dk_at dksX3_counts_0 21 rfl rfl)
theorem q113 : (Jvm.Cond.initialized "PolicyNotation$Scope") ∈ lw_all := lw_g (lw_at lw_m1 22 rfl) rfl
theorem q505 : (Jvm.Cond.instantiable "PolicyNotation$Scope" (3 : Nat)) ∈ lw_all := lw_g (lw_at lw_m2 174 rfl) rfl
theorem q509 : (Jvm.Cond.instanceMethod ({ cls := "PolicyNotation$Scope", name := "<init>", desc := "(LPolicyNotation$Scope;ILPolicyNotation$Effect;)V" } : Jvm.MethodName)) ∈ lw_all := lw_g (lw_at lw_m2 178 rfl) rfl
theorem q510 : (Jvm.Cond.code ({ cls := "PolicyNotation$Scope", name := "<init>", desc := "(LPolicyNotation$Scope;ILPolicyNotation$Effect;)V" } : Jvm.MethodName) prog_18_method_1_code (4 : Nat) (Option.none : Option Jvm.ClassFile.FieldType)) ∈ lw_all := lw_g (lw_at lw_m2 179 rfl) rfl
theorem q511 : (Jvm.Cond.methodLink "PolicyNotation$Scope" (1 : Nat) ({ cls := "java/lang/Object", name := "<init>", desc := "()V" } : Jvm.MethodName)) ∈ lw_all := lw_g (lw_at lw_m2 180 rfl) rfl
theorem q512 : (Jvm.Cond.fieldLink "PolicyNotation$Scope" (7 : Nat) "PolicyNotation$Scope" "outer" "LPolicyNotation$Scope;") ∈ lw_all := lw_g (lw_at lw_m2 181 rfl) rfl
theorem q515 : (Jvm.Cond.fieldLink "PolicyNotation$Scope" (13 : Nat) "PolicyNotation$Scope" "number" "I") ∈ lw_all := lw_g (lw_at lw_m2 184 rfl) rfl
theorem q518 : (Jvm.Cond.fieldLink "PolicyNotation$Scope" (17 : Nat) "PolicyNotation$Scope" "own" "LPolicyNotation$Effect;") ∈ lw_all := lw_g (lw_at lw_m2 187 rfl) rfl
theorem q521 : (Jvm.Cond.laysFinal "PolicyNotation$Scope" "PolicyNotation$Scope" "outer" "LPolicyNotation$Scope;") ∈ lw_all := lw_g (lw_at lw_m2 190 rfl) rfl
theorem q522 : (Jvm.Cond.soleField "PolicyNotation$Scope" "outer") ∈ lw_all := lw_g (lw_at lw_m2 191 rfl) rfl
theorem q523 : (Jvm.Cond.laysFinal "PolicyNotation$Scope" "PolicyNotation$Scope" "number" "I") ∈ lw_all := lw_g (lw_at lw_m2 192 rfl) rfl
theorem q524 : (Jvm.Cond.soleField "PolicyNotation$Scope" "number") ∈ lw_all := lw_g (lw_at lw_m2 193 rfl) rfl
theorem q525 : (Jvm.Cond.lays "PolicyNotation$Scope" "PolicyNotation$Scope" "own" "LPolicyNotation$Effect;") ∈ lw_all := lw_g (lw_at lw_m2 194 rfl) rfl
theorem q526 : (Jvm.Cond.soleField "PolicyNotation$Scope" "own") ∈ lw_all := lw_g (lw_at lw_m2 195 rfl) rfl
theorem q527 : (Jvm.Cond.superclass "PolicyNotation$Scope" "java/lang/Object") ∈ lw_all := lw_g (lw_at lw_m2 196 rfl) rfl
theorem q566 : (Jvm.Cond.selects "PolicyNotation$Scope" ({ cls := "java/lang/Object", name := "getClass", desc := "()Ljava/lang/Class;" } : Jvm.MethodName) ({ cls := "java/lang/Object", name := "getClass", desc := "()Ljava/lang/Class;" } : Jvm.MethodName)) ∈ lw_all := lw_g (lw_at lw_m2 235 rfl) rfl
theorem q787 : (Jvm.Cond.instanceMethod ({ cls := "PolicyNotation$Scope", name := "isWithin", desc := "(I)Z" } : Jvm.MethodName)) ∈ lw_all := lw_g (lw_at lw_m3 216 rfl) rfl
theorem q788 : (Jvm.Cond.selects "PolicyNotation$Scope" ({ cls := "PolicyNotation$Scope", name := "isWithin", desc := "(I)Z" } : Jvm.MethodName) ({ cls := "PolicyNotation$Scope", name := "isWithin", desc := "(I)Z" } : Jvm.MethodName)) ∈ lw_all := lw_g (lw_at lw_m3 217 rfl) rfl
theorem q789 : (Jvm.Cond.code ({ cls := "PolicyNotation$Scope", name := "isWithin", desc := "(I)Z" } : Jvm.MethodName) prog_18_method_3_code (2 : Nat) (Option.some Jvm.ClassFile.FieldType.boolean)) ∈ lw_all := lw_g (lw_at lw_m3 218 rfl) rfl
theorem q790 : (Jvm.Cond.methodLink "PolicyNotation$Scope" (25 : Nat) ({ cls := "PolicyNotation$Scope", name := "isWithin", desc := "(I)Z" } : Jvm.MethodName)) ∈ lw_all := lw_g (lw_at lw_m3 219 rfl) rfl
theorem q852 : (Jvm.Cond.instanceMethod ({ cls := "PolicyNotation$Scope", name := "depth", desc := "()I" } : Jvm.MethodName)) ∈ lw_all := lw_g (lw_at lw_m4 41 rfl) rfl
theorem q853 : (Jvm.Cond.selects "PolicyNotation$Scope" ({ cls := "PolicyNotation$Scope", name := "depth", desc := "()I" } : Jvm.MethodName) ({ cls := "PolicyNotation$Scope", name := "depth", desc := "()I" } : Jvm.MethodName)) ∈ lw_all := lw_g (lw_at lw_m4 42 rfl) rfl
theorem q854 : (Jvm.Cond.code ({ cls := "PolicyNotation$Scope", name := "depth", desc := "()I" } : Jvm.MethodName) prog_18_method_2_code (1 : Nat) (Option.some Jvm.ClassFile.FieldType.int)) ∈ lw_all := lw_g (lw_at lw_m4 43 rfl) rfl
theorem q855 : (Jvm.Cond.methodLink "PolicyNotation$Scope" (21 : Nat) ({ cls := "PolicyNotation$Scope", name := "depth", desc := "()I" } : Jvm.MethodName)) ∈ lw_all := lw_g (lw_at lw_m4 44 rfl) rfl
theorem q857 : (Jvm.Cond.instanceMethod ({ cls := "PolicyNotation$Scope", name := "counts", desc := "()LPolicyNotation$Effect;" } : Jvm.MethodName)) ∈ lw_all := lw_g (lw_at lw_m4 46 rfl) rfl
theorem q858 : (Jvm.Cond.selects "PolicyNotation$Scope" ({ cls := "PolicyNotation$Scope", name := "counts", desc := "()LPolicyNotation$Effect;" } : Jvm.MethodName) ({ cls := "PolicyNotation$Scope", name := "counts", desc := "()LPolicyNotation$Effect;" } : Jvm.MethodName)) ∈ lw_all := lw_g (lw_at lw_m4 47 rfl) rfl
theorem q859 : (Jvm.Cond.code ({ cls := "PolicyNotation$Scope", name := "counts", desc := "()LPolicyNotation$Effect;" } : Jvm.MethodName) prog_18_method_4_code (1 : Nat) (Option.some (Jvm.ClassFile.FieldType.object "PolicyNotation$Effect"))) ∈ lw_all := lw_g (lw_at lw_m4 48 rfl) rfl
theorem q860 : (Jvm.Cond.methodLink "PolicyNotation$Scope" (29 : Nat) ({ cls := "PolicyNotation$Scope", name := "counts", desc := "()LPolicyNotation$Effect;" } : Jvm.MethodName)) ∈ lw_all := lw_g (lw_at lw_m4 49 rfl) rfl
theorem q2805 : (Jvm.Cond.castable "PolicyNotation$Scope" "java/lang/Object") ∈ lw_tbl := lw_at lw_m12 74 rfl
theorem in_X3 : ∀ w ∈ wsX30, w ∈ lw_all := lw_in wsX30 [521, 523, 525] (by decide +kernel) (by decide +kernel)
/-! java/lang/Enum -/
def RJ17 : String := "java/lang/Enum"
abbrev cJ17_ordinal : ByteArray := prog_37_method_2_code
def yJ17_ordinal : MethodName := ⟨RJ17, "ordinal", "()I"⟩
theorem dJ17_ordinal_0 : decode cJ17_ordinal 0 = .ok (.aload_n 0, 1) := by decide +kernel
theorem dJ17_ordinal_1 : decode cJ17_ordinal 1 = .ok (.getfield 7, 3) := by decide +kernel
theorem dJ17_ordinal_4 : decode cJ17_ordinal 4 = .ok (.ireturn, 1) := by decide +kernel
theorem q114 : (Jvm.Cond.initialized "java/lang/Enum") ∈ lw_all := lw_g (lw_at lw_m1 23 rfl) rfl
theorem q1201 : (Jvm.Cond.declares ({ cls := "java/lang/Enum", name := "ordinal", desc := "()I" } : Jvm.MethodName)) ∈ lw_tbl := lw_at lw_m5 150 rfl
theorem q1205 : (Jvm.Cond.instanceMethod ({ cls := "java/lang/Enum", name := "ordinal", desc := "()I" } : Jvm.MethodName)) ∈ lw_all := lw_g (lw_at lw_m5 154 rfl) rfl
theorem q1206 : (Jvm.Cond.code ({ cls := "java/lang/Enum", name := "ordinal", desc := "()I" } : Jvm.MethodName) prog_37_method_2_code (1 : Nat) (Option.some Jvm.ClassFile.FieldType.int)) ∈ lw_all := lw_g (lw_at lw_m5 155 rfl) rfl
theorem q2846 : (Jvm.Cond.fieldLink "java/lang/Enum" (7 : Nat) "java/lang/Enum" "ordinal" "I") ∈ lw_all := lw_g (lw_at lw_m12 115 rfl) rfl
/-! PolicyNotation$Effect -/
def RX4 : String := "PolicyNotation$Effect"
abbrev cX4_number : ByteArray := prog_5_method_6_code
def yX4_number : MethodName := ⟨RX4, "number", "()I"⟩
theorem dX4_number_0 : decode cX4_number 0 = .ok (.aload_n 0, 1) := by decide +kernel
theorem dX4_number_1 : decode cX4_number 1 = .ok (.invokevirtual 32, 3) := by decide +kernel
theorem dX4_number_4 : decode cX4_number 4 = .ok (.ireturn, 1) := by decide +kernel
theorem q115 : (Jvm.Cond.initialized "PolicyNotation$Effect") ∈ lw_all := lw_g (lw_at lw_m1 24 rfl) rfl
theorem q507 : (Jvm.Cond.laysStatic "PolicyNotation$Effect" "PERMITS" "LPolicyNotation$Effect;") ∈ lw_tbl := lw_at lw_m2 176 rfl
theorem q1193 : (Jvm.Cond.instanceMethod ({ cls := "PolicyNotation$Effect", name := "number", desc := "()I" } : Jvm.MethodName)) ∈ lw_all := lw_g (lw_at lw_m5 142 rfl) rfl
theorem q1194 : (Jvm.Cond.sameMethod "PolicyNotation$Effect" "PolicyNotation$Effect" "number" "()I") ∈ lw_all := lw_g (lw_at lw_m5 143 rfl) rfl
theorem q1198 : (Jvm.Cond.code ({ cls := "PolicyNotation$Effect", name := "number", desc := "()I" } : Jvm.MethodName) prog_5_method_6_code (1 : Nat) (Option.some Jvm.ClassFile.FieldType.int)) ∈ lw_all := lw_g (lw_at lw_m5 147 rfl) rfl
theorem q1199 : (Jvm.Cond.methodLink "PolicyNotation$Effect" (32 : Nat) ({ cls := "PolicyNotation$Effect", name := "ordinal", desc := "()I" } : Jvm.MethodName)) ∈ lw_all := lw_g (lw_at lw_m5 148 rfl) rfl
theorem q1200 : (Jvm.Cond.sameMethod "PolicyNotation$Effect" "java/lang/Enum" "ordinal" "()I") ∈ lw_all := lw_g (lw_at lw_m5 149 rfl) rfl
theorem q1212 : (Jvm.Cond.laysStatic "PolicyNotation$Effect" "FORBIDS" "LPolicyNotation$Effect;") ∈ lw_tbl := lw_at lw_m5 161 rfl
theorem q1214 : (Jvm.Cond.laysStatic "PolicyNotation$Effect" "LIMITS" "LPolicyNotation$Effect;") ∈ lw_tbl := lw_at lw_m5 163 rfl
theorem q2002 : (Jvm.Cond.declares ({ cls := "PolicyNotation$Effect", name := "head", desc := "()C" } : Jvm.MethodName)) ∈ lw_tbl := lw_at lw_m8 231 rfl
theorem q2003 : (Jvm.Cond.sameMethod "PolicyNotation$Effect" "PolicyNotation$Effect" "head" "()C") ∈ lw_all := lw_g (lw_at lw_m8 232 rfl) rfl
theorem q2152 : (Jvm.Cond.declares ({ cls := "PolicyNotation$Effect", name := "word", desc := "()Ljava/lang/String;" } : Jvm.MethodName)) ∈ lw_tbl := lw_at lw_m9 141 rfl
theorem q2153 : (Jvm.Cond.sameMethod "PolicyNotation$Effect" "PolicyNotation$Effect" "word" "()Ljava/lang/String;") ∈ lw_all := lw_g (lw_at lw_m9 142 rfl) rfl
theorem q2831 : (Jvm.Cond.castable "PolicyNotation$Effect" "java/lang/Object") ∈ lw_tbl := lw_at lw_m12 100 rfl
/-! java/util/ArrayDeque -/
def RJ18 : String := "java/util/ArrayDeque"
def TJ18 : u_T := fun k => match k with
  | 0 => ("java/util/ArrayDeque", "elements", "[Ljava/lang/Object;", false)
  | 1 => ("java/util/ArrayDeque", "head", "I", false)
  | _ => ("java/util/ArrayDeque", "tail", "I", false)
def tyJ18 : Nat → FieldType := fun k => match k with
  | 0 => .array (.object "java/lang/Object")
  | 1 => .int
  | _ => .int
abbrev wsJ180 : List Cond := u_ws RJ18 TJ18 3
theorem nmJ18 : ∀ a, a < 3 → ∀ b, b < 3 → a ≠ b → (TJ18 a).2.1 ≠ (TJ18 b).2.1 := by decide +kernel
theorem tyJ18_ok : ∀ k, k < 3 → parseFieldDescriptor (TJ18 k).2.2.1 = some (tyJ18 k) := by decide +kernel
abbrev cJ18_init : ByteArray := prog_60_method_3_code
def yJ18_init : MethodName := ⟨RJ18, "<init>", "()V"⟩
def dkwJ18_init_0 : List UInt8 := [42, 183, 0, 42, 42, 16, 17, 189, 0, 47, 181, 0, 3, 177]
abbrev dktJ18_init_0 : List UInt8 := dkwJ18_init_0 ++ []
theorem dksJ18_init_0 : cJ18_init.data.toList.drop 0 = dktJ18_init_0 := by decide +kernel
theorem dJ18_init_0 : decode cJ18_init 0 = .ok (.aload_n 0, 1) := dk_42 (dk_at dksJ18_init_0 0 rfl rfl)
theorem dJ18_init_1 : decode cJ18_init 1 = .ok (.invokespecial 42, 3) := dk_183 0 42 (dk_at dksJ18_init_0 1 rfl rfl)
theorem dJ18_init_4 : decode cJ18_init 4 = .ok (.aload_n 0, 1) := dk_42 (dk_at dksJ18_init_0 4 rfl rfl)
theorem dJ18_init_5 : decode cJ18_init 5 = .ok (.bipush 17, 2) := dk_16 17 (dk_at dksJ18_init_0 5 rfl rfl)
theorem dJ18_init_7 : decode cJ18_init 7 = .ok (.anewarray 47, 3) := dk_189 0 47 (dk_at dksJ18_init_0 7 rfl rfl)
theorem dJ18_init_10 : decode cJ18_init 10 = .ok (.putfield 3, 3) := dk_181 0 3 (dk_at dksJ18_init_0 10 rfl rfl)
theorem dJ18_init_13 : decode cJ18_init 13 = .ok (.return_, 1) := dk_177 (dk_at dksJ18_init_0 13 rfl rfl)
abbrev cJ18_addLast : ByteArray := prog_60_method_13_code
def yJ18_addLast : MethodName := ⟨RJ18, "addLast", "(Ljava/lang/Object;)V"⟩
def dkwJ18_addLast_2 : List UInt8 := [182, 0, 71, 177]
abbrev dktJ18_addLast_2 : List UInt8 := dkwJ18_addLast_2 ++ []
def dkwJ18_addLast_1 : List UInt8 := [42, 180, 0, 24, 42, 42, 180, 0, 20, 44, 190, 184, 0, 74, 90, 181, 0, 20, 160, 0, 8, 42, 4]
abbrev dktJ18_addLast_1 : List UInt8 := dkwJ18_addLast_1 ++ dktJ18_addLast_2
def dkwJ18_addLast_0 : List UInt8 := [43, 199, 0, 11, 187, 0, 65, 89, 183, 0, 67, 191, 42, 180, 0, 3, 77, 44, 42, 180, 0, 20, 43, 83]
abbrev dktJ18_addLast_0 : List UInt8 := dkwJ18_addLast_0 ++ dktJ18_addLast_1
theorem dksJ18_addLast_0 : cJ18_addLast.data.toList.drop 0 = dktJ18_addLast_0 := by decide +kernel
theorem dksJ18_addLast_1 : cJ18_addLast.data.toList.drop 24 = dktJ18_addLast_1 := dk_seg dksJ18_addLast_0 24 rfl rfl
theorem dksJ18_addLast_2 : cJ18_addLast.data.toList.drop 47 = dktJ18_addLast_2 := dk_seg dksJ18_addLast_1 23 rfl rfl
theorem dJ18_addLast_0 : decode cJ18_addLast 0 = .ok (.aload_n 1, 1) := dk_43 (dk_at dksJ18_addLast_0 0 rfl rfl)
theorem dJ18_addLast_1 : decode cJ18_addLast 1 = .ok (.ifnonnull 11, 3) := dk_199 0 11 (dk_at dksJ18_addLast_0 1 rfl rfl)
theorem dJ18_addLast_4 : decode cJ18_addLast 4 = .ok (.new 65, 3) := dk_187 0 65 (dk_at dksJ18_addLast_0 4 rfl rfl)
theorem dJ18_addLast_7 : decode cJ18_addLast 7 = .ok (.dup, 1) := dk_89 (dk_at dksJ18_addLast_0 7 rfl rfl)
theorem dJ18_addLast_8 : decode cJ18_addLast 8 = .ok (.invokespecial 67, 3) := dk_183 0 67 (dk_at dksJ18_addLast_0 8 rfl rfl)
theorem dJ18_addLast_11 : decode cJ18_addLast 11 = .ok (.athrow, 1) := dk_191 (dk_at dksJ18_addLast_0 11 rfl rfl)
theorem dJ18_addLast_12 : decode cJ18_addLast 12 = .ok (.aload_n 0, 1) := dk_42 (dk_at dksJ18_addLast_0 12 rfl rfl)
theorem dJ18_addLast_13 : decode cJ18_addLast 13 = .ok (.getfield 3, 3) := dk_180 0 3 (dk_at dksJ18_addLast_0 13 rfl rfl)
theorem dJ18_addLast_16 : decode cJ18_addLast 16 = .ok (.astore_n 2, 1) := dk_77 (dk_at dksJ18_addLast_0 16 rfl rfl)
theorem dJ18_addLast_17 : decode cJ18_addLast 17 = .ok (.aload_n 2, 1) := dk_44 (dk_at dksJ18_addLast_0 17 rfl rfl)
theorem dJ18_addLast_18 : decode cJ18_addLast 18 = .ok (.aload_n 0, 1) := dk_42 (dk_at dksJ18_addLast_0 18 rfl rfl)
theorem dJ18_addLast_19 : decode cJ18_addLast 19 = .ok (.getfield 20, 3) := dk_180 0 20 (dk_at dksJ18_addLast_0 19 rfl rfl)
theorem dJ18_addLast_22 : decode cJ18_addLast 22 = .ok (.aload_n 1, 1) := dk_43 (dk_at dksJ18_addLast_0 22 rfl rfl)
theorem dJ18_addLast_23 : decode cJ18_addLast 23 = .ok (.aastore, 1) := dk_83 (dk_at dksJ18_addLast_0 23 rfl rfl)
theorem dJ18_addLast_24 : decode cJ18_addLast 24 = .ok (.aload_n 0, 1) := dk_42 (dk_at dksJ18_addLast_1 0 rfl rfl)
theorem dJ18_addLast_25 : decode cJ18_addLast 25 = .ok (.getfield 24, 3) := dk_180 0 24 (dk_at dksJ18_addLast_1 1 rfl rfl)
theorem dJ18_addLast_28 : decode cJ18_addLast 28 = .ok (.aload_n 0, 1) := dk_42 (dk_at dksJ18_addLast_1 4 rfl rfl)
theorem dJ18_addLast_29 : decode cJ18_addLast 29 = .ok (.aload_n 0, 1) := dk_42 (dk_at dksJ18_addLast_1 5 rfl rfl)
theorem dJ18_addLast_30 : decode cJ18_addLast 30 = .ok (.getfield 20, 3) := dk_180 0 20 (dk_at dksJ18_addLast_1 6 rfl rfl)
theorem dJ18_addLast_33 : decode cJ18_addLast 33 = .ok (.aload_n 2, 1) := dk_44 (dk_at dksJ18_addLast_1 9 rfl rfl)
theorem dJ18_addLast_34 : decode cJ18_addLast 34 = .ok (.arraylength, 1) := dk_190 (dk_at dksJ18_addLast_1 10 rfl rfl)
theorem dJ18_addLast_35 : decode cJ18_addLast 35 = .ok (.invokestatic 74, 3) := dk_184 0 74 (dk_at dksJ18_addLast_1 11 rfl rfl)
theorem dJ18_addLast_38 : decode cJ18_addLast 38 = .ok (.dup_x1, 1) := dk_90 (dk_at dksJ18_addLast_1 14 rfl rfl)
theorem dJ18_addLast_39 : decode cJ18_addLast 39 = .ok (.putfield 20, 3) := dk_181 0 20 (dk_at dksJ18_addLast_1 15 rfl rfl)
theorem dJ18_addLast_42 : decode cJ18_addLast 42 = .ok (.if_icmp .ne 8, 3) := dk_160 0 8 (dk_at dksJ18_addLast_1 18 rfl rfl)
theorem dJ18_addLast_45 : decode cJ18_addLast 45 = .ok (.aload_n 0, 1) := dk_42 (dk_at dksJ18_addLast_1 21 rfl rfl)
theorem dJ18_addLast_46 : decode cJ18_addLast 46 = .ok (.iconst 1, 1) := dk_4 (dk_at dksJ18_addLast_1 22 rfl rfl)
theorem dJ18_addLast_47 : decode cJ18_addLast 47 = .ok (.invokevirtual 71, 3) := dk_182 0 71 (dk_at dksJ18_addLast_2 0 rfl rfl)
theorem dJ18_addLast_50 : decode cJ18_addLast 50 = .ok (.return_, 1) := dk_177 (dk_at dksJ18_addLast_2 3 rfl rfl)
abbrev cJ18_inc : ByteArray := prog_60_method_6_code
def yJ18_inc : MethodName := ⟨RJ18, "inc", "(II)I"⟩
def dkwJ18_inc_0 : List UInt8 := [132, 0, 1, 26, 27, 161, 0, 5, 3, 59, 26, 172]
abbrev dktJ18_inc_0 : List UInt8 := dkwJ18_inc_0 ++ []
theorem dksJ18_inc_0 : cJ18_inc.data.toList.drop 0 = dktJ18_inc_0 := by decide +kernel
theorem dJ18_inc_0 : decode cJ18_inc 0 = .ok (.iinc 0 1, 3) := dk_132 0 1 (dk_at dksJ18_inc_0 0 rfl rfl)
theorem dJ18_inc_3 : decode cJ18_inc 3 = .ok (.iload_n 0, 1) := dk_26 (dk_at dksJ18_inc_0 3 rfl rfl)
theorem dJ18_inc_4 : decode cJ18_inc 4 = .ok (.iload_n 1, 1) := dk_27 (dk_at dksJ18_inc_0 4 rfl rfl)
theorem dJ18_inc_5 : decode cJ18_inc 5 = .ok (.if_icmp .lt 5, 3) := dk_161 0 5 (dk_at dksJ18_inc_0 5 rfl rfl)
theorem dJ18_inc_8 : decode cJ18_inc 8 = .ok (.iconst 0, 1) := dk_3 (dk_at dksJ18_inc_0 8 rfl rfl)
theorem dJ18_inc_9 : decode cJ18_inc 9 = .ok (.istore_n 0, 1) := dk_59 (dk_at dksJ18_inc_0 9 rfl rfl)
theorem dJ18_inc_10 : decode cJ18_inc 10 = .ok (.iload_n 0, 1) := dk_26 (dk_at dksJ18_inc_0 10 rfl rfl)
theorem dJ18_inc_11 : decode cJ18_inc 11 = .ok (.ireturn, 1) := dk_172 (dk_at dksJ18_inc_0 11 rfl rfl)
abbrev cJ18_grow : ByteArray := prog_60_method_1_code
def yJ18_grow : MethodName := ⟨RJ18, "grow", "(I)V"⟩
def dkwJ18_grow_7 : List UInt8 := [177]
abbrev dktJ18_grow_7 : List UInt8 := dkwJ18_grow_7 ++ []
def dkwJ18_grow_6 : List UInt8 := [181, 0, 24, 54, 8, 21, 7, 21, 8, 162, 0, 15, 25, 5, 21, 7, 1, 83, 132, 7, 1, 167, 255, 240]
abbrev dktJ18_grow_6 : List UInt8 := dkwJ18_grow_6 ++ dktJ18_grow_7
def dkwJ18_grow_5 : List UInt8 := [42, 180, 0, 24, 100, 184, 0, 27, 42, 180, 0, 24, 54, 7, 42, 89, 180, 0, 24, 21, 6, 96, 90]
abbrev dktJ18_grow_5 : List UInt8 := dkwJ18_grow_5 ++ dktJ18_grow_6
def dkwJ18_grow_4 : List UInt8 := [198, 0, 71, 29, 28, 100, 54, 6, 25, 5, 42, 180, 0, 24, 25, 5, 42, 180, 0, 24, 21, 6, 96, 28]
abbrev dktJ18_grow_4 : List UInt8 := dkwJ18_grow_4 ++ dktJ18_grow_5
def dkwJ18_grow_3 : List UInt8 := [180, 0, 24, 161, 0, 24, 42, 180, 0, 20, 42, 180, 0, 24, 160, 0, 81, 25, 5, 42, 180, 0, 24, 50]
abbrev dktJ18_grow_3 : List UInt8 := dkwJ18_grow_3 ++ dktJ18_grow_4
def dkwJ18_grow_2 : List UInt8 := [182, 0, 10, 62, 42, 42, 180, 0, 3, 29, 184, 0, 14, 90, 181, 0, 3, 58, 5, 42, 180, 0, 20, 42]
abbrev dktJ18_grow_2 : List UInt8 := dkwJ18_grow_2 ++ dktJ18_grow_3
def dkwJ18_grow_1 : List UInt8 := [21, 4, 27, 161, 0, 15, 28, 21, 4, 96, 89, 62, 18, 9, 100, 158, 0, 11, 42, 27, 21, 4]
abbrev dktJ18_grow_1 : List UInt8 := dkwJ18_grow_1 ++ dktJ18_grow_2
def dkwJ18_grow_0 : List UInt8 := [42, 180, 0, 3, 190, 61, 28, 16, 64, 162, 0, 9, 28, 5, 96, 167, 0, 6, 28, 4, 122, 54, 4]
abbrev dktJ18_grow_0 : List UInt8 := dkwJ18_grow_0 ++ dktJ18_grow_1
theorem dksJ18_grow_0 : cJ18_grow.data.toList.drop 0 = dktJ18_grow_0 := by decide +kernel
theorem dksJ18_grow_1 : cJ18_grow.data.toList.drop 23 = dktJ18_grow_1 := dk_seg dksJ18_grow_0 23 rfl rfl
theorem dksJ18_grow_2 : cJ18_grow.data.toList.drop 45 = dktJ18_grow_2 := dk_seg dksJ18_grow_1 22 rfl rfl
theorem dksJ18_grow_3 : cJ18_grow.data.toList.drop 69 = dktJ18_grow_3 := dk_seg dksJ18_grow_2 24 rfl rfl
theorem dksJ18_grow_4 : cJ18_grow.data.toList.drop 93 = dktJ18_grow_4 := dk_seg dksJ18_grow_3 24 rfl rfl
theorem dksJ18_grow_5 : cJ18_grow.data.toList.drop 117 = dktJ18_grow_5 := dk_seg dksJ18_grow_4 24 rfl rfl
theorem dksJ18_grow_6 : cJ18_grow.data.toList.drop 140 = dktJ18_grow_6 := dk_seg dksJ18_grow_5 23 rfl rfl
theorem dksJ18_grow_7 : cJ18_grow.data.toList.drop 164 = dktJ18_grow_7 := dk_seg dksJ18_grow_6 24 rfl rfl
theorem dJ18_grow_0 : decode cJ18_grow 0 = .ok (.aload_n 0, 1) := dk_42 (dk_at dksJ18_grow_0 0 rfl rfl)
theorem dJ18_grow_1 : decode cJ18_grow 1 = .ok (.getfield 3, 3) := dk_180 0 3 (dk_at dksJ18_grow_0 1 rfl rfl)
theorem dJ18_grow_4 : decode cJ18_grow 4 = .ok (.arraylength, 1) := dk_190 (dk_at dksJ18_grow_0 4 rfl rfl)
theorem dJ18_grow_5 : decode cJ18_grow 5 = .ok (.istore_n 2, 1) := dk_61 (dk_at dksJ18_grow_0 5 rfl rfl)
theorem dJ18_grow_6 : decode cJ18_grow 6 = .ok (.iload_n 2, 1) := dk_28 (dk_at dksJ18_grow_0 6 rfl rfl)
theorem dJ18_grow_7 : decode cJ18_grow 7 = .ok (.bipush 64, 2) := dk_16 64 (dk_at dksJ18_grow_0 7 rfl rfl)
theorem dJ18_grow_9 : decode cJ18_grow 9 = .ok (.if_icmp .ge 9, 3) := dk_162 0 9 (dk_at dksJ18_grow_0 9 rfl rfl)
theorem dJ18_grow_12 : decode cJ18_grow 12 = .ok (.iload_n 2, 1) := dk_28 (dk_at dksJ18_grow_0 12 rfl rfl)
theorem dJ18_grow_13 : decode cJ18_grow 13 = .ok (.iconst 2, 1) := dk_5 (dk_at dksJ18_grow_0 13 rfl rfl)
theorem dJ18_grow_14 : decode cJ18_grow 14 = .ok (.iadd, 1) := dk_96 (dk_at dksJ18_grow_0 14 rfl rfl)
theorem dJ18_grow_15 : decode cJ18_grow 15 = .ok (.goto 6, 3) := dk_167 0 6 (dk_at dksJ18_grow_0 15 rfl rfl)
theorem dJ18_grow_18 : decode cJ18_grow 18 = .ok (.iload_n 2, 1) := dk_28 (dk_at dksJ18_grow_0 18 rfl rfl)
theorem dJ18_grow_19 : decode cJ18_grow 19 = .ok (.iconst 1, 1) := dk_4 (dk_at dksJ18_grow_0 19 rfl rfl)
theorem dJ18_grow_20 : decode cJ18_grow 20 = .ok (.ishr, 1) := dk_122 (dk_at dksJ18_grow_0 20 rfl rfl)
theorem dJ18_grow_21 : decode cJ18_grow 21 = .ok (.istore 4, 2) := dk_54 4 (dk_at dksJ18_grow_0 21 rfl rfl)
theorem dJ18_grow_23 : decode cJ18_grow 23 = .ok (.iload 4, 2) := dk_21 4 (dk_at dksJ18_grow_1 0 rfl rfl)
theorem dJ18_grow_25 : decode cJ18_grow 25 = .ok (.iload_n 1, 1) := dk_27 (dk_at dksJ18_grow_1 2 rfl rfl)
theorem dJ18_grow_26 : decode cJ18_grow 26 = .ok (.if_icmp .lt 15, 3) := dk_161 0 15 (dk_at dksJ18_grow_1 3 rfl rfl)
theorem dJ18_grow_29 : decode cJ18_grow 29 = .ok (.iload_n 2, 1) := dk_28 (dk_at dksJ18_grow_1 6 rfl rfl)
theorem dJ18_grow_30 : decode cJ18_grow 30 = .ok (.iload 4, 2) := dk_21 4 (dk_at dksJ18_grow_1 7 rfl rfl)
theorem dJ18_grow_32 : decode cJ18_grow 32 = .ok (.iadd, 1) := dk_96 (dk_at dksJ18_grow_1 9 rfl rfl)
theorem dJ18_grow_33 : decode cJ18_grow 33 = .ok (.dup, 1) := dk_89 (dk_at dksJ18_grow_1 10 rfl rfl)
theorem dJ18_grow_34 : decode cJ18_grow 34 = .ok (.istore_n 3, 1) := dk_62 (dk_at dksJ18_grow_1 11 rfl rfl)
theorem dJ18_grow_35 : decode cJ18_grow 35 = .ok (.ldc 9, 2) := dk_18 9 (dk_at dksJ18_grow_1 12 rfl rfl)
theorem dJ18_grow_37 : decode cJ18_grow 37 = .ok (.isub, 1) := dk_100 (dk_at dksJ18_grow_1 14 rfl rfl)
theorem dJ18_grow_38 : decode cJ18_grow 38 = .ok (.ifCond .le 11, 3) := dk_158 0 11 (dk_at dksJ18_grow_1 15 rfl rfl)
theorem dJ18_grow_41 : decode cJ18_grow 41 = .ok (.aload_n 0, 1) := dk_42 (dk_at dksJ18_grow_1 18 rfl rfl)
theorem dJ18_grow_42 : decode cJ18_grow 42 = .ok (.iload_n 1, 1) := dk_27 (dk_at dksJ18_grow_1 19 rfl rfl)
theorem dJ18_grow_43 : decode cJ18_grow 43 = .ok (.iload 4, 2) := dk_21 4 (dk_at dksJ18_grow_1 20 rfl rfl)
theorem dJ18_grow_45 : decode cJ18_grow 45 = .ok (.invokevirtual 10, 3) := dk_182 0 10 (dk_at dksJ18_grow_2 0 rfl rfl)
theorem dJ18_grow_48 : decode cJ18_grow 48 = .ok (.istore_n 3, 1) := dk_62 (dk_at dksJ18_grow_2 3 rfl rfl)
theorem dJ18_grow_49 : decode cJ18_grow 49 = .ok (.aload_n 0, 1) := dk_42 (dk_at dksJ18_grow_2 4 rfl rfl)
theorem dJ18_grow_50 : decode cJ18_grow 50 = .ok (.aload_n 0, 1) := dk_42 (dk_at dksJ18_grow_2 5 rfl rfl)
theorem dJ18_grow_51 : decode cJ18_grow 51 = .ok (.getfield 3, 3) := dk_180 0 3 (dk_at dksJ18_grow_2 6 rfl rfl)
theorem dJ18_grow_54 : decode cJ18_grow 54 = .ok (.iload_n 3, 1) := dk_29 (dk_at dksJ18_grow_2 9 rfl rfl)
theorem dJ18_grow_55 : decode cJ18_grow 55 = .ok (.invokestatic 14, 3) := dk_184 0 14 (dk_at dksJ18_grow_2 10 rfl rfl)
theorem dJ18_grow_58 : decode cJ18_grow 58 = .ok (.dup_x1, 1) := dk_90 (dk_at dksJ18_grow_2 13 rfl rfl)
theorem dJ18_grow_59 : decode cJ18_grow 59 = .ok (.putfield 3, 3) := dk_181 0 3 (dk_at dksJ18_grow_2 14 rfl rfl)
theorem dJ18_grow_62 : decode cJ18_grow 62 = .ok (.astore 5, 2) := dk_58 5 (dk_at dksJ18_grow_2 17 rfl rfl)
theorem dJ18_grow_64 : decode cJ18_grow 64 = .ok (.aload_n 0, 1) := dk_42 (dk_at dksJ18_grow_2 19 rfl rfl)
theorem dJ18_grow_65 : decode cJ18_grow 65 = .ok (.getfield 20, 3) := dk_180 0 20 (dk_at dksJ18_grow_2 20 rfl rfl)
theorem dJ18_grow_68 : decode cJ18_grow 68 = .ok (.aload_n 0, 1) := dk_42 (dk_at dksJ18_grow_2 23 rfl rfl)
theorem dJ18_grow_69 : decode cJ18_grow 69 = .ok (.getfield 24, 3) := dk_180 0 24 (dk_at dksJ18_grow_3 0 rfl rfl)
theorem dJ18_grow_72 : decode cJ18_grow 72 = .ok (.if_icmp .lt 24, 3) := dk_161 0 24 (dk_at dksJ18_grow_3 3 rfl rfl)
theorem dJ18_grow_75 : decode cJ18_grow 75 = .ok (.aload_n 0, 1) := dk_42 (dk_at dksJ18_grow_3 6 rfl rfl)
theorem dJ18_grow_76 : decode cJ18_grow 76 = .ok (.getfield 20, 3) := dk_180 0 20 (dk_at dksJ18_grow_3 7 rfl rfl)
theorem dJ18_grow_79 : decode cJ18_grow 79 = .ok (.aload_n 0, 1) := dk_42 (dk_at dksJ18_grow_3 10 rfl rfl)
theorem dJ18_grow_80 : decode cJ18_grow 80 = .ok (.getfield 24, 3) := dk_180 0 24 (dk_at dksJ18_grow_3 11 rfl rfl)
theorem dJ18_grow_83 : decode cJ18_grow 83 = .ok (.if_icmp .ne 81, 3) := dk_160 0 81 (dk_at dksJ18_grow_3 14 rfl rfl)
theorem dJ18_grow_86 : decode cJ18_grow 86 = .ok (.aload 5, 2) := dk_25 5 (dk_at dksJ18_grow_3 17 rfl rfl)
theorem dJ18_grow_88 : decode cJ18_grow 88 = .ok (.aload_n 0, 1) := dk_42 (dk_at dksJ18_grow_3 19 rfl rfl)
theorem dJ18_grow_89 : decode cJ18_grow 89 = .ok (.getfield 24, 3) := dk_180 0 24 (dk_at dksJ18_grow_3 20 rfl rfl)
theorem dJ18_grow_92 : decode cJ18_grow 92 = .ok (.aaload, 1) := dk_50 (dk_at dksJ18_grow_3 23 rfl rfl)
theorem dJ18_grow_93 : decode cJ18_grow 93 = .ok (.ifnull 71, 3) := dk_198 0 71 (dk_at dksJ18_grow_4 0 rfl rfl)
theorem dJ18_grow_96 : decode cJ18_grow 96 = .ok (.iload_n 3, 1) := dk_29 (dk_at dksJ18_grow_4 3 rfl rfl)
theorem dJ18_grow_97 : decode cJ18_grow 97 = .ok (.iload_n 2, 1) := dk_28 (dk_at dksJ18_grow_4 4 rfl rfl)
theorem dJ18_grow_98 : decode cJ18_grow 98 = .ok (.isub, 1) := dk_100 (dk_at dksJ18_grow_4 5 rfl rfl)
theorem dJ18_grow_99 : decode cJ18_grow 99 = .ok (.istore 6, 2) := dk_54 6 (dk_at dksJ18_grow_4 6 rfl rfl)
theorem dJ18_grow_101 : decode cJ18_grow 101 = .ok (.aload 5, 2) := dk_25 5 (dk_at dksJ18_grow_4 8 rfl rfl)
theorem dJ18_grow_103 : decode cJ18_grow 103 = .ok (.aload_n 0, 1) := dk_42 (dk_at dksJ18_grow_4 10 rfl rfl)
theorem dJ18_grow_104 : decode cJ18_grow 104 = .ok (.getfield 24, 3) := dk_180 0 24 (dk_at dksJ18_grow_4 11 rfl rfl)
theorem dJ18_grow_107 : decode cJ18_grow 107 = .ok (.aload 5, 2) := dk_25 5 (dk_at dksJ18_grow_4 14 rfl rfl)
theorem dJ18_grow_109 : decode cJ18_grow 109 = .ok (.aload_n 0, 1) := dk_42 (dk_at dksJ18_grow_4 16 rfl rfl)
theorem dJ18_grow_110 : decode cJ18_grow 110 = .ok (.getfield 24, 3) := dk_180 0 24 (dk_at dksJ18_grow_4 17 rfl rfl)
theorem dJ18_grow_113 : decode cJ18_grow 113 = .ok (.iload 6, 2) := dk_21 6 (dk_at dksJ18_grow_4 20 rfl rfl)
theorem dJ18_grow_115 : decode cJ18_grow 115 = .ok (.iadd, 1) := dk_96 (dk_at dksJ18_grow_4 22 rfl rfl)
theorem dJ18_grow_116 : decode cJ18_grow 116 = .ok (.iload_n 2, 1) := dk_28 (dk_at dksJ18_grow_4 23 rfl rfl)
theorem dJ18_grow_117 : decode cJ18_grow 117 = .ok (.aload_n 0, 1) := dk_42 (dk_at dksJ18_grow_5 0 rfl rfl)
theorem dJ18_grow_118 : decode cJ18_grow 118 = .ok (.getfield 24, 3) := dk_180 0 24 (dk_at dksJ18_grow_5 1 rfl rfl)
theorem dJ18_grow_121 : decode cJ18_grow 121 = .ok (.isub, 1) := dk_100 (dk_at dksJ18_grow_5 4 rfl rfl)
theorem dJ18_grow_122 : decode cJ18_grow 122 = .ok (.invokestatic 27, 3) := dk_184 0 27 (dk_at dksJ18_grow_5 5 rfl rfl)
theorem dJ18_grow_125 : decode cJ18_grow 125 = .ok (.aload_n 0, 1) := dk_42 (dk_at dksJ18_grow_5 8 rfl rfl)
theorem dJ18_grow_126 : decode cJ18_grow 126 = .ok (.getfield 24, 3) := dk_180 0 24 (dk_at dksJ18_grow_5 9 rfl rfl)
theorem dJ18_grow_129 : decode cJ18_grow 129 = .ok (.istore 7, 2) := dk_54 7 (dk_at dksJ18_grow_5 12 rfl rfl)
theorem dJ18_grow_131 : decode cJ18_grow 131 = .ok (.aload_n 0, 1) := dk_42 (dk_at dksJ18_grow_5 14 rfl rfl)
theorem dJ18_grow_132 : decode cJ18_grow 132 = .ok (.dup, 1) := dk_89 (dk_at dksJ18_grow_5 15 rfl rfl)
theorem dJ18_grow_133 : decode cJ18_grow 133 = .ok (.getfield 24, 3) := dk_180 0 24 (dk_at dksJ18_grow_5 16 rfl rfl)
theorem dJ18_grow_136 : decode cJ18_grow 136 = .ok (.iload 6, 2) := dk_21 6 (dk_at dksJ18_grow_5 19 rfl rfl)
theorem dJ18_grow_138 : decode cJ18_grow 138 = .ok (.iadd, 1) := dk_96 (dk_at dksJ18_grow_5 21 rfl rfl)
theorem dJ18_grow_139 : decode cJ18_grow 139 = .ok (.dup_x1, 1) := dk_90 (dk_at dksJ18_grow_5 22 rfl rfl)
theorem dJ18_grow_140 : decode cJ18_grow 140 = .ok (.putfield 24, 3) := dk_181 0 24 (dk_at dksJ18_grow_6 0 rfl rfl)
theorem dJ18_grow_143 : decode cJ18_grow 143 = .ok (.istore 8, 2) := dk_54 8 (dk_at dksJ18_grow_6 3 rfl rfl)
theorem dJ18_grow_145 : decode cJ18_grow 145 = .ok (.iload 7, 2) := dk_21 7 (dk_at dksJ18_grow_6 5 rfl rfl)
theorem dJ18_grow_147 : decode cJ18_grow 147 = .ok (.iload 8, 2) := dk_21 8 (dk_at dksJ18_grow_6 7 rfl rfl)
theorem dJ18_grow_149 : decode cJ18_grow 149 = .ok (.if_icmp .ge 15, 3) := dk_162 0 15 (dk_at dksJ18_grow_6 9 rfl rfl)
theorem dJ18_grow_152 : decode cJ18_grow 152 = .ok (.aload 5, 2) := dk_25 5 (dk_at dksJ18_grow_6 12 rfl rfl)
theorem dJ18_grow_154 : decode cJ18_grow 154 = .ok (.iload 7, 2) := dk_21 7 (dk_at dksJ18_grow_6 14 rfl rfl)
theorem dJ18_grow_156 : decode cJ18_grow 156 = .ok (.aconst_null, 1) := dk_1 (dk_at dksJ18_grow_6 16 rfl rfl)
theorem dJ18_grow_157 : decode cJ18_grow 157 = .ok (.aastore, 1) := dk_83 (dk_at dksJ18_grow_6 17 rfl rfl)
theorem dJ18_grow_158 : decode cJ18_grow 158 = .ok (.iinc 7 1, 3) := dk_132 7 1 (dk_at dksJ18_grow_6 18 rfl rfl)
theorem dJ18_grow_161 : decode cJ18_grow 161 = .ok (.goto (-16), 3) := dk_167 255 240 (dk_at dksJ18_grow_6 21 rfl rfl)
theorem dJ18_grow_164 : decode cJ18_grow 164 = .ok (.return_, 1) := dk_177 (dk_at dksJ18_grow_7 0 rfl rfl)
abbrev cJ18_newCapacity : ByteArray := prog_60_method_2_code
def yJ18_newCapacity : MethodName := ⟨RJ18, "newCapacity", "(II)I"⟩
def dkwJ18_newCapacity_2 : List UInt8 := [18, 9, 100, 156, 0, 9, 29, 28, 96, 167, 0, 5, 18, 9, 172]
abbrev dktJ18_newCapacity_2 : List UInt8 := dkwJ18_newCapacity_2 ++ []
def dkwJ18_newCapacity_1 : List UInt8 := [187, 0, 33, 89, 18, 35, 183, 0, 37, 191, 18, 41, 172, 27, 28, 164, 0, 6, 21, 4, 172, 29, 28, 96]
abbrev dktJ18_newCapacity_1 : List UInt8 := dkwJ18_newCapacity_1 ++ dktJ18_newCapacity_2
def dkwJ18_newCapacity_0 : List UInt8 := [42, 180, 0, 3, 190, 62, 29, 27, 96, 89, 54, 4, 18, 9, 100, 158, 0, 21, 21, 4, 156, 0, 13]
abbrev dktJ18_newCapacity_0 : List UInt8 := dkwJ18_newCapacity_0 ++ dktJ18_newCapacity_1
theorem dksJ18_newCapacity_0 : cJ18_newCapacity.data.toList.drop 0 = dktJ18_newCapacity_0 := by decide +kernel
theorem dksJ18_newCapacity_1 : cJ18_newCapacity.data.toList.drop 23 = dktJ18_newCapacity_1 := dk_seg dksJ18_newCapacity_0 23 rfl rfl
theorem dksJ18_newCapacity_2 : cJ18_newCapacity.data.toList.drop 47 = dktJ18_newCapacity_2 := dk_seg dksJ18_newCapacity_1 24 rfl rfl
theorem dJ18_newCapacity_0 : decode cJ18_newCapacity 0 = .ok (.aload_n 0, 1) := dk_42 (dk_at dksJ18_newCapacity_0 0 rfl rfl)
theorem dJ18_newCapacity_1 : decode cJ18_newCapacity 1 = .ok (.getfield 3, 3) := dk_180 0 3 (dk_at dksJ18_newCapacity_0 1 rfl rfl)
theorem dJ18_newCapacity_4 : decode cJ18_newCapacity 4 = .ok (.arraylength, 1) := dk_190 (dk_at dksJ18_newCapacity_0 4 rfl rfl)
theorem dJ18_newCapacity_5 : decode cJ18_newCapacity 5 = .ok (.istore_n 3, 1) := dk_62 (dk_at dksJ18_newCapacity_0 5 rfl rfl)
theorem dJ18_newCapacity_6 : decode cJ18_newCapacity 6 = .ok (.iload_n 3, 1) := dk_29 (dk_at dksJ18_newCapacity_0 6 rfl rfl)
theorem dJ18_newCapacity_7 : decode cJ18_newCapacity 7 = .ok (.iload_n 1, 1) := dk_27 (dk_at dksJ18_newCapacity_0 7 rfl rfl)
theorem dJ18_newCapacity_8 : decode cJ18_newCapacity 8 = .ok (.iadd, 1) := dk_96 (dk_at dksJ18_newCapacity_0 8 rfl rfl)
theorem dJ18_newCapacity_9 : decode cJ18_newCapacity 9 = .ok (.dup, 1) := dk_89 (dk_at dksJ18_newCapacity_0 9 rfl rfl)
theorem dJ18_newCapacity_10 : decode cJ18_newCapacity 10 = .ok (.istore 4, 2) := dk_54 4 (dk_at dksJ18_newCapacity_0 10 rfl rfl)
theorem dJ18_newCapacity_12 : decode cJ18_newCapacity 12 = .ok (.ldc 9, 2) := dk_18 9 (dk_at dksJ18_newCapacity_0 12 rfl rfl)
theorem dJ18_newCapacity_14 : decode cJ18_newCapacity 14 = .ok (.isub, 1) := dk_100 (dk_at dksJ18_newCapacity_0 14 rfl rfl)
theorem dJ18_newCapacity_15 : decode cJ18_newCapacity 15 = .ok (.ifCond .le 21, 3) := dk_158 0 21 (dk_at dksJ18_newCapacity_0 15 rfl rfl)
theorem dJ18_newCapacity_18 : decode cJ18_newCapacity 18 = .ok (.iload 4, 2) := dk_21 4 (dk_at dksJ18_newCapacity_0 18 rfl rfl)
theorem dJ18_newCapacity_20 : decode cJ18_newCapacity 20 = .ok (.ifCond .ge 13, 3) := dk_156 0 13 (dk_at dksJ18_newCapacity_0 20 rfl rfl)
theorem dJ18_newCapacity_23 : decode cJ18_newCapacity 23 = .ok (.new 33, 3) := dk_187 0 33 (dk_at dksJ18_newCapacity_1 0 rfl rfl)
theorem dJ18_newCapacity_26 : decode cJ18_newCapacity 26 = .ok (.dup, 1) := dk_89 (dk_at dksJ18_newCapacity_1 3 rfl rfl)
theorem dJ18_newCapacity_27 : decode cJ18_newCapacity 27 = .ok (.ldc 35, 2) := dk_18 35 (dk_at dksJ18_newCapacity_1 4 rfl rfl)
theorem dJ18_newCapacity_29 : decode cJ18_newCapacity 29 = .ok (.invokespecial 37, 3) := dk_183 0 37 (dk_at dksJ18_newCapacity_1 6 rfl rfl)
theorem dJ18_newCapacity_32 : decode cJ18_newCapacity 32 = .ok (.athrow, 1) := dk_191 (dk_at dksJ18_newCapacity_1 9 rfl rfl)
theorem dJ18_newCapacity_33 : decode cJ18_newCapacity 33 = .ok (.ldc 41, 2) := dk_18 41 (dk_at dksJ18_newCapacity_1 10 rfl rfl)
theorem dJ18_newCapacity_35 : decode cJ18_newCapacity 35 = .ok (.ireturn, 1) := dk_172 (dk_at dksJ18_newCapacity_1 12 rfl rfl)
theorem dJ18_newCapacity_36 : decode cJ18_newCapacity 36 = .ok (.iload_n 1, 1) := dk_27 (dk_at dksJ18_newCapacity_1 13 rfl rfl)
theorem dJ18_newCapacity_37 : decode cJ18_newCapacity 37 = .ok (.iload_n 2, 1) := dk_28 (dk_at dksJ18_newCapacity_1 14 rfl rfl)
theorem dJ18_newCapacity_38 : decode cJ18_newCapacity 38 = .ok (.if_icmp .le 6, 3) := dk_164 0 6 (dk_at dksJ18_newCapacity_1 15 rfl rfl)
theorem dJ18_newCapacity_41 : decode cJ18_newCapacity 41 = .ok (.iload 4, 2) := dk_21 4 (dk_at dksJ18_newCapacity_1 18 rfl rfl)
theorem dJ18_newCapacity_43 : decode cJ18_newCapacity 43 = .ok (.ireturn, 1) := dk_172 (dk_at dksJ18_newCapacity_1 20 rfl rfl)
theorem dJ18_newCapacity_44 : decode cJ18_newCapacity 44 = .ok (.iload_n 3, 1) := dk_29 (dk_at dksJ18_newCapacity_1 21 rfl rfl)
theorem dJ18_newCapacity_45 : decode cJ18_newCapacity 45 = .ok (.iload_n 2, 1) := dk_28 (dk_at dksJ18_newCapacity_1 22 rfl rfl)
theorem dJ18_newCapacity_46 : decode cJ18_newCapacity 46 = .ok (.iadd, 1) := dk_96 (dk_at dksJ18_newCapacity_1 23 rfl rfl)
theorem dJ18_newCapacity_47 : decode cJ18_newCapacity 47 = .ok (.ldc 9, 2) := dk_18 9 (dk_at dksJ18_newCapacity_2 0 rfl rfl)
theorem dJ18_newCapacity_49 : decode cJ18_newCapacity 49 = .ok (.isub, 1) := dk_100 (dk_at dksJ18_newCapacity_2 2 rfl rfl)
theorem dJ18_newCapacity_50 : decode cJ18_newCapacity 50 = .ok (.ifCond .ge 9, 3) := dk_156 0 9 (dk_at dksJ18_newCapacity_2 3 rfl rfl)
theorem dJ18_newCapacity_53 : decode cJ18_newCapacity 53 = .ok (.iload_n 3, 1) := dk_29 (dk_at dksJ18_newCapacity_2 6 rfl rfl)
theorem dJ18_newCapacity_54 : decode cJ18_newCapacity 54 = .ok (.iload_n 2, 1) := dk_28 (dk_at dksJ18_newCapacity_2 7 rfl rfl)
theorem dJ18_newCapacity_55 : decode cJ18_newCapacity 55 = .ok (.iadd, 1) := dk_96 (dk_at dksJ18_newCapacity_2 8 rfl rfl)
theorem dJ18_newCapacity_56 : decode cJ18_newCapacity 56 = .ok (.goto 5, 3) := dk_167 0 5 (dk_at dksJ18_newCapacity_2 9 rfl rfl)
theorem dJ18_newCapacity_59 : decode cJ18_newCapacity 59 = .ok (.ldc 9, 2) := dk_18 9 (dk_at dksJ18_newCapacity_2 12 rfl rfl)
theorem dJ18_newCapacity_61 : decode cJ18_newCapacity 61 = .ok (.ireturn, 1) := dk_172 (dk_at dksJ18_newCapacity_2 14 rfl rfl)
abbrev cJ18_size : ByteArray := prog_60_method_37_code
def yJ18_size : MethodName := ⟨RJ18, "size", "()I"⟩
def dkwJ18_size_0 : List UInt8 := [42, 180, 0, 20, 42, 180, 0, 24, 42, 180, 0, 3, 190, 184, 0, 127, 172]
abbrev dktJ18_size_0 : List UInt8 := dkwJ18_size_0 ++ []
theorem dksJ18_size_0 : cJ18_size.data.toList.drop 0 = dktJ18_size_0 := by decide +kernel
theorem dJ18_size_0 : decode cJ18_size 0 = .ok (.aload_n 0, 1) := dk_42 (dk_at dksJ18_size_0 0 rfl rfl)
theorem dJ18_size_1 : decode cJ18_size 1 = .ok (.getfield 20, 3) := dk_180 0 20 (dk_at dksJ18_size_0 1 rfl rfl)
theorem dJ18_size_4 : decode cJ18_size 4 = .ok (.aload_n 0, 1) := dk_42 (dk_at dksJ18_size_0 4 rfl rfl)
theorem dJ18_size_5 : decode cJ18_size 5 = .ok (.getfield 24, 3) := dk_180 0 24 (dk_at dksJ18_size_0 5 rfl rfl)
theorem dJ18_size_8 : decode cJ18_size 8 = .ok (.aload_n 0, 1) := dk_42 (dk_at dksJ18_size_0 8 rfl rfl)
theorem dJ18_size_9 : decode cJ18_size 9 = .ok (.getfield 3, 3) := dk_180 0 3 (dk_at dksJ18_size_0 9 rfl rfl)
theorem dJ18_size_12 : decode cJ18_size 12 = .ok (.arraylength, 1) := dk_190 (dk_at dksJ18_size_0 12 rfl rfl)
theorem dJ18_size_13 : decode cJ18_size 13 = .ok (.invokestatic 127, 3) := dk_184 0 127 (dk_at dksJ18_size_0 13 rfl rfl)
theorem dJ18_size_16 : decode cJ18_size 16 = .ok (.ireturn, 1) := dk_172 (dk_at dksJ18_size_0 16 rfl rfl)
abbrev cJ18_sub : ByteArray := prog_60_method_9_code
def yJ18_sub : MethodName := ⟨RJ18, "sub", "(III)I"⟩
def dkwJ18_sub_0 : List UInt8 := [26, 27, 100, 89, 59, 156, 0, 7, 26, 28, 96, 59, 26, 172]
abbrev dktJ18_sub_0 : List UInt8 := dkwJ18_sub_0 ++ []
theorem dksJ18_sub_0 : cJ18_sub.data.toList.drop 0 = dktJ18_sub_0 := by decide +kernel
theorem dJ18_sub_0 : decode cJ18_sub 0 = .ok (.iload_n 0, 1) := dk_26 (dk_at dksJ18_sub_0 0 rfl rfl)
theorem dJ18_sub_1 : decode cJ18_sub 1 = .ok (.iload_n 1, 1) := dk_27 (dk_at dksJ18_sub_0 1 rfl rfl)
theorem dJ18_sub_2 : decode cJ18_sub 2 = .ok (.isub, 1) := dk_100 (dk_at dksJ18_sub_0 2 rfl rfl)
theorem dJ18_sub_3 : decode cJ18_sub 3 = .ok (.dup, 1) := dk_89 (dk_at dksJ18_sub_0 3 rfl rfl)
theorem dJ18_sub_4 : decode cJ18_sub 4 = .ok (.istore_n 0, 1) := dk_59 (dk_at dksJ18_sub_0 4 rfl rfl)
theorem dJ18_sub_5 : decode cJ18_sub 5 = .ok (.ifCond .ge 7, 3) := dk_156 0 7 (dk_at dksJ18_sub_0 5 rfl rfl)
theorem dJ18_sub_8 : decode cJ18_sub 8 = .ok (.iload_n 0, 1) := dk_26 (dk_at dksJ18_sub_0 8 rfl rfl)
theorem dJ18_sub_9 : decode cJ18_sub 9 = .ok (.iload_n 2, 1) := dk_28 (dk_at dksJ18_sub_0 9 rfl rfl)
theorem dJ18_sub_10 : decode cJ18_sub 10 = .ok (.iadd, 1) := dk_96 (dk_at dksJ18_sub_0 10 rfl rfl)
theorem dJ18_sub_11 : decode cJ18_sub 11 = .ok (.istore_n 0, 1) := dk_59 (dk_at dksJ18_sub_0 11 rfl rfl)
theorem dJ18_sub_12 : decode cJ18_sub 12 = .ok (.iload_n 0, 1) := dk_26 (dk_at dksJ18_sub_0 12 rfl rfl)
theorem dJ18_sub_13 : decode cJ18_sub 13 = .ok (.ireturn, 1) := dk_172 (dk_at dksJ18_sub_0 13 rfl rfl)
abbrev cJ18_removeFirst : ByteArray := prog_60_method_18_code
def yJ18_removeFirst : MethodName := ⟨RJ18, "removeFirst", "()Ljava/lang/Object;"⟩
def dkwJ18_removeFirst_0 : List UInt8 := [42, 182, 0, 93, 76, 43, 199, 0, 11, 187, 0, 97, 89, 183, 0, 99, 191, 43, 176]
abbrev dktJ18_removeFirst_0 : List UInt8 := dkwJ18_removeFirst_0 ++ []
theorem dksJ18_removeFirst_0 : cJ18_removeFirst.data.toList.drop 0 = dktJ18_removeFirst_0 := by decide +kernel
theorem dJ18_removeFirst_0 : decode cJ18_removeFirst 0 = .ok (.aload_n 0, 1) := dk_42 (dk_at dksJ18_removeFirst_0 0 rfl rfl)
theorem dJ18_removeFirst_1 : decode cJ18_removeFirst 1 = .ok (.invokevirtual 93, 3) := dk_182 0 93 (dk_at dksJ18_removeFirst_0 1 rfl rfl)
theorem dJ18_removeFirst_4 : decode cJ18_removeFirst 4 = .ok (.astore_n 1, 1) := dk_76 (dk_at dksJ18_removeFirst_0 4 rfl rfl)
theorem dJ18_removeFirst_5 : decode cJ18_removeFirst 5 = .ok (.aload_n 1, 1) := dk_43 (dk_at dksJ18_removeFirst_0 5 rfl rfl)
theorem dJ18_removeFirst_6 : decode cJ18_removeFirst 6 = .ok (.ifnonnull 11, 3) := dk_199 0 11 (dk_at dksJ18_removeFirst_0 6 rfl rfl)
theorem dJ18_removeFirst_9 : decode cJ18_removeFirst 9 = .ok (.new 97, 3) := dk_187 0 97 (dk_at dksJ18_removeFirst_0 9 rfl rfl)
theorem dJ18_removeFirst_12 : decode cJ18_removeFirst 12 = .ok (.dup, 1) := dk_89 (dk_at dksJ18_removeFirst_0 12 rfl rfl)
theorem dJ18_removeFirst_13 : decode cJ18_removeFirst 13 = .ok (.invokespecial 99, 3) := dk_183 0 99 (dk_at dksJ18_removeFirst_0 13 rfl rfl)
theorem dJ18_removeFirst_16 : decode cJ18_removeFirst 16 = .ok (.athrow, 1) := dk_191 (dk_at dksJ18_removeFirst_0 16 rfl rfl)
theorem dJ18_removeFirst_17 : decode cJ18_removeFirst 17 = .ok (.aload_n 1, 1) := dk_43 (dk_at dksJ18_removeFirst_0 17 rfl rfl)
theorem dJ18_removeFirst_18 : decode cJ18_removeFirst 18 = .ok (.areturn, 1) := dk_176 (dk_at dksJ18_removeFirst_0 18 rfl rfl)
abbrev cJ18_pollFirst : ByteArray := prog_60_method_20_code
def yJ18_pollFirst : MethodName := ⟨RJ18, "pollFirst", "()Ljava/lang/Object;"⟩
def dkwJ18_pollFirst_1 : List UInt8 := [42, 28, 43, 190, 184, 0, 74, 181, 0, 24, 45, 176]
abbrev dktJ18_pollFirst_1 : List UInt8 := dkwJ18_pollFirst_1 ++ []
def dkwJ18_pollFirst_0 : List UInt8 := [42, 180, 0, 3, 89, 76, 42, 180, 0, 24, 89, 61, 184, 0, 103, 78, 45, 198, 0, 17, 43, 28, 1, 83]
abbrev dktJ18_pollFirst_0 : List UInt8 := dkwJ18_pollFirst_0 ++ dktJ18_pollFirst_1
theorem dksJ18_pollFirst_0 : cJ18_pollFirst.data.toList.drop 0 = dktJ18_pollFirst_0 := by decide +kernel
theorem dksJ18_pollFirst_1 : cJ18_pollFirst.data.toList.drop 24 = dktJ18_pollFirst_1 := dk_seg dksJ18_pollFirst_0 24 rfl rfl
theorem dJ18_pollFirst_0 : decode cJ18_pollFirst 0 = .ok (.aload_n 0, 1) := dk_42 (dk_at dksJ18_pollFirst_0 0 rfl rfl)
theorem dJ18_pollFirst_1 : decode cJ18_pollFirst 1 = .ok (.getfield 3, 3) := dk_180 0 3 (dk_at dksJ18_pollFirst_0 1 rfl rfl)
theorem dJ18_pollFirst_4 : decode cJ18_pollFirst 4 = .ok (.dup, 1) := dk_89 (dk_at dksJ18_pollFirst_0 4 rfl rfl)
theorem dJ18_pollFirst_5 : decode cJ18_pollFirst 5 = .ok (.astore_n 1, 1) := dk_76 (dk_at dksJ18_pollFirst_0 5 rfl rfl)
theorem dJ18_pollFirst_6 : decode cJ18_pollFirst 6 = .ok (.aload_n 0, 1) := dk_42 (dk_at dksJ18_pollFirst_0 6 rfl rfl)
theorem dJ18_pollFirst_7 : decode cJ18_pollFirst 7 = .ok (.getfield 24, 3) := dk_180 0 24 (dk_at dksJ18_pollFirst_0 7 rfl rfl)
theorem dJ18_pollFirst_10 : decode cJ18_pollFirst 10 = .ok (.dup, 1) := dk_89 (dk_at dksJ18_pollFirst_0 10 rfl rfl)
theorem dJ18_pollFirst_11 : decode cJ18_pollFirst 11 = .ok (.istore_n 2, 1) := dk_61 (dk_at dksJ18_pollFirst_0 11 rfl rfl)
theorem dJ18_pollFirst_12 : decode cJ18_pollFirst 12 = .ok (.invokestatic 103, 3) := dk_184 0 103 (dk_at dksJ18_pollFirst_0 12 rfl rfl)
theorem dJ18_pollFirst_15 : decode cJ18_pollFirst 15 = .ok (.astore_n 3, 1) := dk_78 (dk_at dksJ18_pollFirst_0 15 rfl rfl)
theorem dJ18_pollFirst_16 : decode cJ18_pollFirst 16 = .ok (.aload_n 3, 1) := dk_45 (dk_at dksJ18_pollFirst_0 16 rfl rfl)
theorem dJ18_pollFirst_17 : decode cJ18_pollFirst 17 = .ok (.ifnull 17, 3) := dk_198 0 17 (dk_at dksJ18_pollFirst_0 17 rfl rfl)
theorem dJ18_pollFirst_20 : decode cJ18_pollFirst 20 = .ok (.aload_n 1, 1) := dk_43 (dk_at dksJ18_pollFirst_0 20 rfl rfl)
theorem dJ18_pollFirst_21 : decode cJ18_pollFirst 21 = .ok (.iload_n 2, 1) := dk_28 (dk_at dksJ18_pollFirst_0 21 rfl rfl)
theorem dJ18_pollFirst_22 : decode cJ18_pollFirst 22 = .ok (.aconst_null, 1) := dk_1 (dk_at dksJ18_pollFirst_0 22 rfl rfl)
theorem dJ18_pollFirst_23 : decode cJ18_pollFirst 23 = .ok (.aastore, 1) := dk_83 (dk_at dksJ18_pollFirst_0 23 rfl rfl)
theorem dJ18_pollFirst_24 : decode cJ18_pollFirst 24 = .ok (.aload_n 0, 1) := dk_42 (dk_at dksJ18_pollFirst_1 0 rfl rfl)
theorem dJ18_pollFirst_25 : decode cJ18_pollFirst 25 = .ok (.iload_n 2, 1) := dk_28 (dk_at dksJ18_pollFirst_1 1 rfl rfl)
theorem dJ18_pollFirst_26 : decode cJ18_pollFirst 26 = .ok (.aload_n 1, 1) := dk_43 (dk_at dksJ18_pollFirst_1 2 rfl rfl)
theorem dJ18_pollFirst_27 : decode cJ18_pollFirst 27 = .ok (.arraylength, 1) := dk_190 (dk_at dksJ18_pollFirst_1 3 rfl rfl)
theorem dJ18_pollFirst_28 : decode cJ18_pollFirst 28 = .ok (.invokestatic 74, 3) := dk_184 0 74 (dk_at dksJ18_pollFirst_1 4 rfl rfl)
theorem dJ18_pollFirst_31 : decode cJ18_pollFirst 31 = .ok (.putfield 24, 3) := dk_181 0 24 (dk_at dksJ18_pollFirst_1 7 rfl rfl)
theorem dJ18_pollFirst_34 : decode cJ18_pollFirst 34 = .ok (.aload_n 3, 1) := dk_45 (dk_at dksJ18_pollFirst_1 10 rfl rfl)
theorem dJ18_pollFirst_35 : decode cJ18_pollFirst 35 = .ok (.areturn, 1) := dk_176 (dk_at dksJ18_pollFirst_1 11 rfl rfl)
abbrev cJ18_elementAt : ByteArray := prog_60_method_10_code
def yJ18_elementAt : MethodName := ⟨RJ18, "elementAt", "([Ljava/lang/Object;I)Ljava/lang/Object;"⟩
def dkwJ18_elementAt_0 : List UInt8 := [42, 27, 50, 176]
abbrev dktJ18_elementAt_0 : List UInt8 := dkwJ18_elementAt_0 ++ []
theorem dksJ18_elementAt_0 : cJ18_elementAt.data.toList.drop 0 = dktJ18_elementAt_0 := by decide +kernel
theorem dJ18_elementAt_0 : decode cJ18_elementAt 0 = .ok (.aload_n 0, 1) := dk_42 (dk_at dksJ18_elementAt_0 0 rfl rfl)
theorem dJ18_elementAt_1 : decode cJ18_elementAt 1 = .ok (.iload_n 1, 1) := dk_27 (dk_at dksJ18_elementAt_0 1 rfl rfl)
theorem dJ18_elementAt_2 : decode cJ18_elementAt 2 = .ok (.aaload, 1) := dk_50 (dk_at dksJ18_elementAt_0 2 rfl rfl)
theorem dJ18_elementAt_3 : decode cJ18_elementAt 3 = .ok (.areturn, 1) := dk_176 (dk_at dksJ18_elementAt_0 3 rfl rfl)
abbrev cJ18_isEmpty : ByteArray := prog_60_method_38_code
def yJ18_isEmpty : MethodName := ⟨RJ18, "isEmpty", "()Z"⟩
def dkwJ18_isEmpty_0 : List UInt8 := [42, 180, 0, 24, 42, 180, 0, 20, 160, 0, 7, 4, 167, 0, 4, 3, 172]
abbrev dktJ18_isEmpty_0 : List UInt8 := dkwJ18_isEmpty_0 ++ []
theorem dksJ18_isEmpty_0 : cJ18_isEmpty.data.toList.drop 0 = dktJ18_isEmpty_0 := by decide +kernel
theorem dJ18_isEmpty_0 : decode cJ18_isEmpty 0 = .ok (.aload_n 0, 1) := dk_42 (dk_at dksJ18_isEmpty_0 0 rfl rfl)
theorem dJ18_isEmpty_1 : decode cJ18_isEmpty 1 = .ok (.getfield 24, 3) := dk_180 0 24 (dk_at dksJ18_isEmpty_0 1 rfl rfl)
theorem dJ18_isEmpty_4 : decode cJ18_isEmpty 4 = .ok (.aload_n 0, 1) := dk_42 (dk_at dksJ18_isEmpty_0 4 rfl rfl)
theorem dJ18_isEmpty_5 : decode cJ18_isEmpty 5 = .ok (.getfield 20, 3) := dk_180 0 20 (dk_at dksJ18_isEmpty_0 5 rfl rfl)
theorem dJ18_isEmpty_8 : decode cJ18_isEmpty 8 = .ok (.if_icmp .ne 7, 3) := dk_160 0 7 (dk_at dksJ18_isEmpty_0 8 rfl rfl)
theorem dJ18_isEmpty_11 : decode cJ18_isEmpty 11 = .ok (.iconst 1, 1) := dk_4 (dk_at dksJ18_isEmpty_0 11 rfl rfl)
theorem dJ18_isEmpty_12 : decode cJ18_isEmpty 12 = .ok (.goto 4, 3) := dk_167 0 4 (dk_at dksJ18_isEmpty_0 12 rfl rfl)
theorem dJ18_isEmpty_15 : decode cJ18_isEmpty 15 = .ok (.iconst 0, 1) := dk_3 (dk_at dksJ18_isEmpty_0 15 rfl rfl)
theorem dJ18_isEmpty_16 : decode cJ18_isEmpty 16 = .ok (.ireturn, 1) := dk_172 (dk_at dksJ18_isEmpty_0 16 rfl rfl)
abbrev cJ18_removeLast : ByteArray := prog_60_method_19_code
def yJ18_removeLast : MethodName := ⟨RJ18, "removeLast", "()Ljava/lang/Object;"⟩
def dkwJ18_removeLast_0 : List UInt8 := [42, 182, 0, 100, 76, 43, 199, 0, 11, 187, 0, 97, 89, 183, 0, 99, 191, 43, 176]
abbrev dktJ18_removeLast_0 : List UInt8 := dkwJ18_removeLast_0 ++ []
theorem dksJ18_removeLast_0 : cJ18_removeLast.data.toList.drop 0 = dktJ18_removeLast_0 := by decide +kernel
theorem dJ18_removeLast_0 : decode cJ18_removeLast 0 = .ok (.aload_n 0, 1) := dk_42 (dk_at dksJ18_removeLast_0 0 rfl rfl)
theorem dJ18_removeLast_1 : decode cJ18_removeLast 1 = .ok (.invokevirtual 100, 3) := dk_182 0 100 (dk_at dksJ18_removeLast_0 1 rfl rfl)
theorem dJ18_removeLast_4 : decode cJ18_removeLast 4 = .ok (.astore_n 1, 1) := dk_76 (dk_at dksJ18_removeLast_0 4 rfl rfl)
theorem dJ18_removeLast_5 : decode cJ18_removeLast 5 = .ok (.aload_n 1, 1) := dk_43 (dk_at dksJ18_removeLast_0 5 rfl rfl)
theorem dJ18_removeLast_6 : decode cJ18_removeLast 6 = .ok (.ifnonnull 11, 3) := dk_199 0 11 (dk_at dksJ18_removeLast_0 6 rfl rfl)
theorem dJ18_removeLast_9 : decode cJ18_removeLast 9 = .ok (.new 97, 3) := dk_187 0 97 (dk_at dksJ18_removeLast_0 9 rfl rfl)
theorem dJ18_removeLast_12 : decode cJ18_removeLast 12 = .ok (.dup, 1) := dk_89 (dk_at dksJ18_removeLast_0 12 rfl rfl)
theorem dJ18_removeLast_13 : decode cJ18_removeLast 13 = .ok (.invokespecial 99, 3) := dk_183 0 99 (dk_at dksJ18_removeLast_0 13 rfl rfl)
theorem dJ18_removeLast_16 : decode cJ18_removeLast 16 = .ok (.athrow, 1) := dk_191 (dk_at dksJ18_removeLast_0 16 rfl rfl)
theorem dJ18_removeLast_17 : decode cJ18_removeLast 17 = .ok (.aload_n 1, 1) := dk_43 (dk_at dksJ18_removeLast_0 17 rfl rfl)
theorem dJ18_removeLast_18 : decode cJ18_removeLast 18 = .ok (.areturn, 1) := dk_176 (dk_at dksJ18_removeLast_0 18 rfl rfl)
abbrev cJ18_pollLast : ByteArray := prog_60_method_21_code
def yJ18_pollLast : MethodName := ⟨RJ18, "pollLast", "()Ljava/lang/Object;"⟩
def dkwJ18_pollLast_1 : List UInt8 := [198, 0, 12, 43, 42, 28, 90, 181, 0, 20, 1, 83, 45, 176]
abbrev dktJ18_pollLast_1 : List UInt8 := dkwJ18_pollLast_1 ++ []
def dkwJ18_pollLast_0 : List UInt8 := [42, 180, 0, 3, 89, 76, 42, 180, 0, 20, 43, 190, 184, 0, 68, 89, 61, 184, 0, 103, 78, 45]
abbrev dktJ18_pollLast_0 : List UInt8 := dkwJ18_pollLast_0 ++ dktJ18_pollLast_1
theorem dksJ18_pollLast_0 : cJ18_pollLast.data.toList.drop 0 = dktJ18_pollLast_0 := by decide +kernel
theorem dksJ18_pollLast_1 : cJ18_pollLast.data.toList.drop 22 = dktJ18_pollLast_1 := dk_seg dksJ18_pollLast_0 22 rfl rfl
theorem dJ18_pollLast_0 : decode cJ18_pollLast 0 = .ok (.aload_n 0, 1) := dk_42 (dk_at dksJ18_pollLast_0 0 rfl rfl)
theorem dJ18_pollLast_1 : decode cJ18_pollLast 1 = .ok (.getfield 3, 3) := dk_180 0 3 (dk_at dksJ18_pollLast_0 1 rfl rfl)
theorem dJ18_pollLast_4 : decode cJ18_pollLast 4 = .ok (.dup, 1) := dk_89 (dk_at dksJ18_pollLast_0 4 rfl rfl)
theorem dJ18_pollLast_5 : decode cJ18_pollLast 5 = .ok (.astore_n 1, 1) := dk_76 (dk_at dksJ18_pollLast_0 5 rfl rfl)
theorem dJ18_pollLast_6 : decode cJ18_pollLast 6 = .ok (.aload_n 0, 1) := dk_42 (dk_at dksJ18_pollLast_0 6 rfl rfl)
theorem dJ18_pollLast_7 : decode cJ18_pollLast 7 = .ok (.getfield 20, 3) := dk_180 0 20 (dk_at dksJ18_pollLast_0 7 rfl rfl)
theorem dJ18_pollLast_10 : decode cJ18_pollLast 10 = .ok (.aload_n 1, 1) := dk_43 (dk_at dksJ18_pollLast_0 10 rfl rfl)
theorem dJ18_pollLast_11 : decode cJ18_pollLast 11 = .ok (.arraylength, 1) := dk_190 (dk_at dksJ18_pollLast_0 11 rfl rfl)
theorem dJ18_pollLast_12 : decode cJ18_pollLast 12 = .ok (.invokestatic 68, 3) := dk_184 0 68 (dk_at dksJ18_pollLast_0 12 rfl rfl)
theorem dJ18_pollLast_15 : decode cJ18_pollLast 15 = .ok (.dup, 1) := dk_89 (dk_at dksJ18_pollLast_0 15 rfl rfl)
theorem dJ18_pollLast_16 : decode cJ18_pollLast 16 = .ok (.istore_n 2, 1) := dk_61 (dk_at dksJ18_pollLast_0 16 rfl rfl)
theorem dJ18_pollLast_17 : decode cJ18_pollLast 17 = .ok (.invokestatic 103, 3) := dk_184 0 103 (dk_at dksJ18_pollLast_0 17 rfl rfl)
theorem dJ18_pollLast_20 : decode cJ18_pollLast 20 = .ok (.astore_n 3, 1) := dk_78 (dk_at dksJ18_pollLast_0 20 rfl rfl)
theorem dJ18_pollLast_21 : decode cJ18_pollLast 21 = .ok (.aload_n 3, 1) := dk_45 (dk_at dksJ18_pollLast_0 21 rfl rfl)
theorem dJ18_pollLast_22 : decode cJ18_pollLast 22 = .ok (.ifnull 12, 3) := dk_198 0 12 (dk_at dksJ18_pollLast_1 0 rfl rfl)
theorem dJ18_pollLast_25 : decode cJ18_pollLast 25 = .ok (.aload_n 1, 1) := dk_43 (dk_at dksJ18_pollLast_1 3 rfl rfl)
theorem dJ18_pollLast_26 : decode cJ18_pollLast 26 = .ok (.aload_n 0, 1) := dk_42 (dk_at dksJ18_pollLast_1 4 rfl rfl)
theorem dJ18_pollLast_27 : decode cJ18_pollLast 27 = .ok (.iload_n 2, 1) := dk_28 (dk_at dksJ18_pollLast_1 5 rfl rfl)
theorem dJ18_pollLast_28 : decode cJ18_pollLast 28 = .ok (.dup_x1, 1) := dk_90 (dk_at dksJ18_pollLast_1 6 rfl rfl)
theorem dJ18_pollLast_29 : decode cJ18_pollLast 29 = .ok (.putfield 20, 3) := dk_181 0 20 (dk_at dksJ18_pollLast_1 7 rfl rfl)
theorem dJ18_pollLast_32 : decode cJ18_pollLast 32 = .ok (.aconst_null, 1) := dk_1 (dk_at dksJ18_pollLast_1 10 rfl rfl)
theorem dJ18_pollLast_33 : decode cJ18_pollLast 33 = .ok (.aastore, 1) := dk_83 (dk_at dksJ18_pollLast_1 11 rfl rfl)
theorem dJ18_pollLast_34 : decode cJ18_pollLast 34 = .ok (.aload_n 3, 1) := dk_45 (dk_at dksJ18_pollLast_1 12 rfl rfl)
theorem dJ18_pollLast_35 : decode cJ18_pollLast 35 = .ok (.areturn, 1) := dk_176 (dk_at dksJ18_pollLast_1 13 rfl rfl)
abbrev cJ18_dec : ByteArray := prog_60_method_7_code
def yJ18_dec : MethodName := ⟨RJ18, "dec", "(II)I"⟩
def dkwJ18_dec_0 : List UInt8 := [132, 0, 255, 26, 156, 0, 7, 27, 4, 100, 59, 26, 172]
abbrev dktJ18_dec_0 : List UInt8 := dkwJ18_dec_0 ++ []
theorem dksJ18_dec_0 : cJ18_dec.data.toList.drop 0 = dktJ18_dec_0 := by decide +kernel
theorem dJ18_dec_0 : decode cJ18_dec 0 = .ok (.iinc 0 (-1), 3) := dk_132 0 255 (dk_at dksJ18_dec_0 0 rfl rfl)
theorem dJ18_dec_3 : decode cJ18_dec 3 = .ok (.iload_n 0, 1) := dk_26 (dk_at dksJ18_dec_0 3 rfl rfl)
theorem dJ18_dec_4 : decode cJ18_dec 4 = .ok (.ifCond .ge 7, 3) := dk_156 0 7 (dk_at dksJ18_dec_0 4 rfl rfl)
theorem dJ18_dec_7 : decode cJ18_dec 7 = .ok (.iload_n 1, 1) := dk_27 (dk_at dksJ18_dec_0 7 rfl rfl)
theorem dJ18_dec_8 : decode cJ18_dec 8 = .ok (.iconst 1, 1) := dk_4 (dk_at dksJ18_dec_0 8 rfl rfl)
theorem dJ18_dec_9 : decode cJ18_dec 9 = .ok (.isub, 1) := dk_100 (dk_at dksJ18_dec_0 9 rfl rfl)
theorem dJ18_dec_10 : decode cJ18_dec 10 = .ok (.istore_n 0, 1) := dk_59 (dk_at dksJ18_dec_0 10 rfl rfl)
theorem dJ18_dec_11 : decode cJ18_dec 11 = .ok (.iload_n 0, 1) := dk_26 (dk_at dksJ18_dec_0 11 rfl rfl)
theorem dJ18_dec_12 : decode cJ18_dec 12 = .ok (.ireturn, 1) := dk_172 (dk_at dksJ18_dec_0 12 rfl rfl)
abbrev cJ18_clear : ByteArray := prog_60_method_53_code
def yJ18_clear : MethodName := ⟨RJ18, "clear", "()V"⟩
def dkwJ18_clear_1 : List UInt8 := [181, 0, 24, 177]
abbrev dktJ18_clear_1 : List UInt8 := dkwJ18_clear_1 ++ []
def dkwJ18_clear_0 : List UInt8 := [42, 180, 0, 3, 42, 180, 0, 24, 42, 180, 0, 20, 184, 0, 181, 42, 42, 3, 90, 181, 0, 20]
abbrev dktJ18_clear_0 : List UInt8 := dkwJ18_clear_0 ++ dktJ18_clear_1
theorem dksJ18_clear_0 : cJ18_clear.data.toList.drop 0 = dktJ18_clear_0 := by decide +kernel
theorem dksJ18_clear_1 : cJ18_clear.data.toList.drop 22 = dktJ18_clear_1 := dk_seg dksJ18_clear_0 22 rfl rfl
theorem dJ18_clear_0 : decode cJ18_clear 0 = .ok (.aload_n 0, 1) := dk_42 (dk_at dksJ18_clear_0 0 rfl rfl)
theorem dJ18_clear_1 : decode cJ18_clear 1 = .ok (.getfield 3, 3) := dk_180 0 3 (dk_at dksJ18_clear_0 1 rfl rfl)
theorem dJ18_clear_4 : decode cJ18_clear 4 = .ok (.aload_n 0, 1) := dk_42 (dk_at dksJ18_clear_0 4 rfl rfl)
theorem dJ18_clear_5 : decode cJ18_clear 5 = .ok (.getfield 24, 3) := dk_180 0 24 (dk_at dksJ18_clear_0 5 rfl rfl)
theorem dJ18_clear_8 : decode cJ18_clear 8 = .ok (.aload_n 0, 1) := dk_42 (dk_at dksJ18_clear_0 8 rfl rfl)
theorem dJ18_clear_9 : decode cJ18_clear 9 = .ok (.getfield 20, 3) := dk_180 0 20 (dk_at dksJ18_clear_0 9 rfl rfl)
theorem dJ18_clear_12 : decode cJ18_clear 12 = .ok (.invokestatic 181, 3) := dk_184 0 181 (dk_at dksJ18_clear_0 12 rfl rfl)
theorem dJ18_clear_15 : decode cJ18_clear 15 = .ok (.aload_n 0, 1) := dk_42 (dk_at dksJ18_clear_0 15 rfl rfl)
theorem dJ18_clear_16 : decode cJ18_clear 16 = .ok (.aload_n 0, 1) := dk_42 (dk_at dksJ18_clear_0 16 rfl rfl)
theorem dJ18_clear_17 : decode cJ18_clear 17 = .ok (.iconst 0, 1) := dk_3 (dk_at dksJ18_clear_0 17 rfl rfl)
theorem dJ18_clear_18 : decode cJ18_clear 18 = .ok (.dup_x1, 1) := dk_90 (dk_at dksJ18_clear_0 18 rfl rfl)
theorem dJ18_clear_19 : decode cJ18_clear 19 = .ok (.putfield 20, 3) := dk_181 0 20 (dk_at dksJ18_clear_0 19 rfl rfl)
theorem dJ18_clear_22 : decode cJ18_clear 22 = .ok (.putfield 24, 3) := dk_181 0 24 (dk_at dksJ18_clear_1 0 rfl rfl)
theorem dJ18_clear_25 : decode cJ18_clear 25 = .ok (.return_, 1) := dk_177 (dk_at dksJ18_clear_1 3 rfl rfl)
abbrev cJ18_circularClear : ByteArray := prog_60_method_54_code
def yJ18_circularClear : MethodName := ⟨RJ18, "circularClear", "([Ljava/lang/Object;II)V"⟩
def dkwJ18_circularClear_1 : List UInt8 := [167, 255, 244, 29, 28, 160, 0, 6, 167, 0, 10, 3, 60, 28, 62, 167, 255, 229, 177]
abbrev dktJ18_circularClear_1 : List UInt8 := dkwJ18_circularClear_1 ++ []
def dkwJ18_circularClear_0 : List UInt8 := [27, 28, 163, 0, 7, 28, 167, 0, 5, 42, 190, 62, 27, 29, 162, 0, 13, 42, 27, 1, 83, 132, 1, 1]
abbrev dktJ18_circularClear_0 : List UInt8 := dkwJ18_circularClear_0 ++ dktJ18_circularClear_1
theorem dksJ18_circularClear_0 : cJ18_circularClear.data.toList.drop 0 = dktJ18_circularClear_0 := by decide +kernel
theorem dksJ18_circularClear_1 : cJ18_circularClear.data.toList.drop 24 = dktJ18_circularClear_1 := dk_seg dksJ18_circularClear_0 24 rfl rfl
theorem dJ18_circularClear_0 : decode cJ18_circularClear 0 = .ok (.iload_n 1, 1) := dk_27 (dk_at dksJ18_circularClear_0 0 rfl rfl)
theorem dJ18_circularClear_1 : decode cJ18_circularClear 1 = .ok (.iload_n 2, 1) := dk_28 (dk_at dksJ18_circularClear_0 1 rfl rfl)
theorem dJ18_circularClear_2 : decode cJ18_circularClear 2 = .ok (.if_icmp .gt 7, 3) := dk_163 0 7 (dk_at dksJ18_circularClear_0 2 rfl rfl)
theorem dJ18_circularClear_5 : decode cJ18_circularClear 5 = .ok (.iload_n 2, 1) := dk_28 (dk_at dksJ18_circularClear_0 5 rfl rfl)
theorem dJ18_circularClear_6 : decode cJ18_circularClear 6 = .ok (.goto 5, 3) := dk_167 0 5 (dk_at dksJ18_circularClear_0 6 rfl rfl)
theorem dJ18_circularClear_9 : decode cJ18_circularClear 9 = .ok (.aload_n 0, 1) := dk_42 (dk_at dksJ18_circularClear_0 9 rfl rfl)
theorem dJ18_circularClear_10 : decode cJ18_circularClear 10 = .ok (.arraylength, 1) := dk_190 (dk_at dksJ18_circularClear_0 10 rfl rfl)
theorem dJ18_circularClear_11 : decode cJ18_circularClear 11 = .ok (.istore_n 3, 1) := dk_62 (dk_at dksJ18_circularClear_0 11 rfl rfl)
theorem dJ18_circularClear_12 : decode cJ18_circularClear 12 = .ok (.iload_n 1, 1) := dk_27 (dk_at dksJ18_circularClear_0 12 rfl rfl)
theorem dJ18_circularClear_13 : decode cJ18_circularClear 13 = .ok (.iload_n 3, 1) := dk_29 (dk_at dksJ18_circularClear_0 13 rfl rfl)
theorem dJ18_circularClear_14 : decode cJ18_circularClear 14 = .ok (.if_icmp .ge 13, 3) := dk_162 0 13 (dk_at dksJ18_circularClear_0 14 rfl rfl)
theorem dJ18_circularClear_17 : decode cJ18_circularClear 17 = .ok (.aload_n 0, 1) := dk_42 (dk_at dksJ18_circularClear_0 17 rfl rfl)
theorem dJ18_circularClear_18 : decode cJ18_circularClear 18 = .ok (.iload_n 1, 1) := dk_27 (dk_at dksJ18_circularClear_0 18 rfl rfl)
theorem dJ18_circularClear_19 : decode cJ18_circularClear 19 = .ok (.aconst_null, 1) := dk_1 (dk_at dksJ18_circularClear_0 19 rfl rfl)
theorem dJ18_circularClear_20 : decode cJ18_circularClear 20 = .ok (.aastore, 1) := dk_83 (dk_at dksJ18_circularClear_0 20 rfl rfl)
theorem dJ18_circularClear_21 : decode cJ18_circularClear 21 = .ok (.iinc 1 1, 3) := dk_132 1 1 (dk_at dksJ18_circularClear_0 21 rfl rfl)
theorem dJ18_circularClear_24 : decode cJ18_circularClear 24 = .ok (.goto (-12), 3) := dk_167 255 244 (dk_at dksJ18_circularClear_1 0 rfl rfl)
theorem dJ18_circularClear_27 : decode cJ18_circularClear 27 = .ok (.iload_n 3, 1) := dk_29 (dk_at dksJ18_circularClear_1 3 rfl rfl)
theorem dJ18_circularClear_28 : decode cJ18_circularClear 28 = .ok (.iload_n 2, 1) := dk_28 (dk_at dksJ18_circularClear_1 4 rfl rfl)
theorem dJ18_circularClear_29 : decode cJ18_circularClear 29 = .ok (.if_icmp .ne 6, 3) := dk_160 0 6 (dk_at dksJ18_circularClear_1 5 rfl rfl)
theorem dJ18_circularClear_32 : decode cJ18_circularClear 32 = .ok (.goto 10, 3) := dk_167 0 10 (dk_at dksJ18_circularClear_1 8 rfl rfl)
theorem dJ18_circularClear_35 : decode cJ18_circularClear 35 = .ok (.iconst 0, 1) := dk_3 (dk_at dksJ18_circularClear_1 11 rfl rfl)
theorem dJ18_circularClear_36 : decode cJ18_circularClear 36 = .ok (.istore_n 1, 1) := dk_60 (dk_at dksJ18_circularClear_1 12 rfl rfl)
theorem dJ18_circularClear_37 : decode cJ18_circularClear 37 = .ok (.iload_n 2, 1) := dk_28 (dk_at dksJ18_circularClear_1 13 rfl rfl)
theorem dJ18_circularClear_38 : decode cJ18_circularClear 38 = .ok (.istore_n 3, 1) := dk_62 (dk_at dksJ18_circularClear_1 14 rfl rfl)
theorem dJ18_circularClear_39 : decode cJ18_circularClear 39 = .ok (.goto (-27), 3) := dk_167 255 229 (dk_at dksJ18_circularClear_1 15 rfl rfl)
theorem dJ18_circularClear_42 : decode cJ18_circularClear 42 = .ok (.return_, 1) := dk_177 (dk_at dksJ18_circularClear_1 18 rfl rfl)
theorem q116 : (Jvm.Cond.initialized "java/util/ArrayDeque") ∈ lw_all := lw_g (lw_at lw_m1 25 rfl) rfl
theorem q582 : (Jvm.Cond.selects "java/util/ArrayDeque" ({ cls := "java/lang/Object", name := "getClass", desc := "()Ljava/lang/Class;" } : Jvm.MethodName) ({ cls := "java/lang/Object", name := "getClass", desc := "()Ljava/lang/Class;" } : Jvm.MethodName)) ∈ lw_all := lw_g (lw_at lw_m3 11 rfl) rfl
theorem q608 : (Jvm.Cond.instantiable "java/util/ArrayDeque" (3 : Nat)) ∈ lw_all := lw_g (lw_at lw_m3 37 rfl) rfl
theorem q610 : (Jvm.Cond.instanceMethod ({ cls := "java/util/ArrayDeque", name := "<init>", desc := "()V" } : Jvm.MethodName)) ∈ lw_all := lw_g (lw_at lw_m3 39 rfl) rfl
theorem q611 : (Jvm.Cond.code ({ cls := "java/util/ArrayDeque", name := "<init>", desc := "()V" } : Jvm.MethodName) prog_60_method_3_code (1 : Nat) (Option.none : Option Jvm.ClassFile.FieldType)) ∈ lw_all := lw_g (lw_at lw_m3 40 rfl) rfl
theorem q612 : (Jvm.Cond.methodLink "java/util/ArrayDeque" (42 : Nat) ({ cls := "java/util/AbstractCollection", name := "<init>", desc := "()V" } : Jvm.MethodName)) ∈ lw_all := lw_g (lw_at lw_m3 41 rfl) rfl
theorem q613 : (Jvm.Cond.classLink "java/util/ArrayDeque" (47 : Nat) "java/lang/Object") ∈ lw_all := lw_g (lw_at lw_m3 42 rfl) rfl
theorem q614 : (Jvm.Cond.fieldLink "java/util/ArrayDeque" (3 : Nat) "java/util/ArrayDeque" "elements" "[Ljava/lang/Object;") ∈ lw_all := lw_g (lw_at lw_m3 43 rfl) rfl
theorem q615 : (Jvm.Cond.fieldLink "java/util/ArrayDeque" (24 : Nat) "java/util/ArrayDeque" "head" "I") ∈ lw_all := lw_g (lw_at lw_m3 44 rfl) rfl
theorem q616 : (Jvm.Cond.fieldLink "java/util/ArrayDeque" (20 : Nat) "java/util/ArrayDeque" "tail" "I") ∈ lw_all := lw_g (lw_at lw_m3 45 rfl) rfl
theorem q617 : (Jvm.Cond.lays "java/util/ArrayDeque" "java/util/ArrayDeque" "elements" "[Ljava/lang/Object;") ∈ lw_all := lw_g (lw_at lw_m3 46 rfl) rfl
theorem q618 : (Jvm.Cond.soleField "java/util/ArrayDeque" "elements") ∈ lw_all := lw_g (lw_at lw_m3 47 rfl) rfl
theorem q619 : (Jvm.Cond.lays "java/util/ArrayDeque" "java/util/ArrayDeque" "head" "I") ∈ lw_all := lw_g (lw_at lw_m3 48 rfl) rfl
theorem q620 : (Jvm.Cond.soleField "java/util/ArrayDeque" "head") ∈ lw_all := lw_g (lw_at lw_m3 49 rfl) rfl
theorem q621 : (Jvm.Cond.lays "java/util/ArrayDeque" "java/util/ArrayDeque" "tail" "I") ∈ lw_all := lw_g (lw_at lw_m3 50 rfl) rfl
theorem q622 : (Jvm.Cond.soleField "java/util/ArrayDeque" "tail") ∈ lw_all := lw_g (lw_at lw_m3 51 rfl) rfl
theorem q623 : (Jvm.Cond.superclass "java/util/ArrayDeque" "java/util/AbstractCollection") ∈ lw_all := lw_g (lw_at lw_m3 52 rfl) rfl
theorem q1115 : (Jvm.Cond.instanceMethod ({ cls := "java/util/ArrayDeque", name := "addLast", desc := "(Ljava/lang/Object;)V" } : Jvm.MethodName)) ∈ lw_all := lw_g (lw_at lw_m5 64 rfl) rfl
theorem q1116 : (Jvm.Cond.selects "java/util/ArrayDeque" ({ cls := "java/util/ArrayDeque", name := "addLast", desc := "(Ljava/lang/Object;)V" } : Jvm.MethodName) ({ cls := "java/util/ArrayDeque", name := "addLast", desc := "(Ljava/lang/Object;)V" } : Jvm.MethodName)) ∈ lw_all := lw_g (lw_at lw_m5 65 rfl) rfl
theorem q1117 : (Jvm.Cond.code ({ cls := "java/util/ArrayDeque", name := "addLast", desc := "(Ljava/lang/Object;)V" } : Jvm.MethodName) prog_60_method_13_code (3 : Nat) (Option.none : Option Jvm.ClassFile.FieldType)) ∈ lw_all := lw_g (lw_at lw_m5 66 rfl) rfl
theorem q1118 : (Jvm.Cond.methodLink "java/util/ArrayDeque" (74 : Nat) ({ cls := "java/util/ArrayDeque", name := "inc", desc := "(II)I" } : Jvm.MethodName)) ∈ lw_all := lw_g (lw_at lw_m5 67 rfl) rfl
theorem q1119 : (Jvm.Cond.static ({ cls := "java/util/ArrayDeque", name := "inc", desc := "(II)I" } : Jvm.MethodName)) ∈ lw_all := lw_g (lw_at lw_m5 68 rfl) rfl
theorem q1120 : (Jvm.Cond.code ({ cls := "java/util/ArrayDeque", name := "inc", desc := "(II)I" } : Jvm.MethodName) prog_60_method_6_code (2 : Nat) (Option.some Jvm.ClassFile.FieldType.int)) ∈ lw_all := lw_g (lw_at lw_m5 69 rfl) rfl
theorem q1121 : (Jvm.Cond.methodLink "java/util/ArrayDeque" (71 : Nat) ({ cls := "java/util/ArrayDeque", name := "grow", desc := "(I)V" } : Jvm.MethodName)) ∈ lw_all := lw_g (lw_at lw_m5 70 rfl) rfl
theorem q1122 : (Jvm.Cond.privateMethod ({ cls := "java/util/ArrayDeque", name := "grow", desc := "(I)V" } : Jvm.MethodName)) ∈ lw_tbl := lw_at lw_m5 71 rfl
theorem q1123 : (Jvm.Cond.instanceMethod ({ cls := "java/util/ArrayDeque", name := "grow", desc := "(I)V" } : Jvm.MethodName)) ∈ lw_all := lw_g (lw_at lw_m5 72 rfl) rfl
theorem q1124 : (Jvm.Cond.code ({ cls := "java/util/ArrayDeque", name := "grow", desc := "(I)V" } : Jvm.MethodName) prog_60_method_1_code (9 : Nat) (Option.none : Option Jvm.ClassFile.FieldType)) ∈ lw_all := lw_g (lw_at lw_m5 73 rfl) rfl
theorem q1125 : (Jvm.Cond.constant "java/util/ArrayDeque" (9 : Nat) (2147483639 : Int32)) ∈ lw_all := lw_g (lw_at lw_m5 74 rfl) rfl
theorem q1126 : (Jvm.Cond.methodLink "java/util/ArrayDeque" (10 : Nat) ({ cls := "java/util/ArrayDeque", name := "newCapacity", desc := "(II)I" } : Jvm.MethodName)) ∈ lw_all := lw_g (lw_at lw_m5 75 rfl) rfl
theorem q1127 : (Jvm.Cond.privateMethod ({ cls := "java/util/ArrayDeque", name := "newCapacity", desc := "(II)I" } : Jvm.MethodName)) ∈ lw_tbl := lw_at lw_m5 76 rfl
theorem q1128 : (Jvm.Cond.instanceMethod ({ cls := "java/util/ArrayDeque", name := "newCapacity", desc := "(II)I" } : Jvm.MethodName)) ∈ lw_all := lw_g (lw_at lw_m5 77 rfl) rfl
theorem q1129 : (Jvm.Cond.code ({ cls := "java/util/ArrayDeque", name := "newCapacity", desc := "(II)I" } : Jvm.MethodName) prog_60_method_2_code (5 : Nat) (Option.some Jvm.ClassFile.FieldType.int)) ∈ lw_all := lw_g (lw_at lw_m5 78 rfl) rfl
theorem q1130 : (Jvm.Cond.classLink "java/util/ArrayDeque" (33 : Nat) "java/lang/IllegalStateException") ∈ lw_all := lw_g (lw_at lw_m5 79 rfl) rfl
theorem q1131 : (Jvm.Cond.stringRef "java/util/ArrayDeque" (35 : Nat) "Sorry, deque too big") ∈ lw_tbl := lw_at lw_m5 80 rfl
theorem q1132 : (Jvm.Cond.methodLink "java/util/ArrayDeque" (37 : Nat) ({ cls := "java/lang/IllegalStateException", name := "<init>", desc := "(Ljava/lang/String;)V" } : Jvm.MethodName)) ∈ lw_all := lw_g (lw_at lw_m5 81 rfl) rfl
theorem q1136 : (Jvm.Cond.constant "java/util/ArrayDeque" (41 : Nat) (2147483647 : Int32)) ∈ lw_all := lw_g (lw_at lw_m5 85 rfl) rfl
theorem q1137 : (Jvm.Cond.methodLink "java/util/ArrayDeque" (14 : Nat) ({ cls := "java/util/Arrays", name := "copyOf", desc := "([Ljava/lang/Object;I)[Ljava/lang/Object;" } : Jvm.MethodName)) ∈ lw_all := lw_g (lw_at lw_m5 86 rfl) rfl
theorem q1138 : (Jvm.Cond.methodLink "java/util/ArrayDeque" (27 : Nat) ({ cls := "java/lang/System", name := "arraycopy", desc := "(Ljava/lang/Object;ILjava/lang/Object;II)V" } : Jvm.MethodName)) ∈ lw_all := lw_g (lw_at lw_m5 87 rfl) rfl
theorem q1140 : (Jvm.Cond.instanceMethod ({ cls := "java/util/ArrayDeque", name := "size", desc := "()I" } : Jvm.MethodName)) ∈ lw_all := lw_g (lw_at lw_m5 89 rfl) rfl
theorem q1141 : (Jvm.Cond.selects "java/util/ArrayDeque" ({ cls := "java/util/ArrayDeque", name := "size", desc := "()I" } : Jvm.MethodName) ({ cls := "java/util/ArrayDeque", name := "size", desc := "()I" } : Jvm.MethodName)) ∈ lw_all := lw_g (lw_at lw_m5 90 rfl) rfl
theorem q1142 : (Jvm.Cond.code ({ cls := "java/util/ArrayDeque", name := "size", desc := "()I" } : Jvm.MethodName) prog_60_method_37_code (1 : Nat) (Option.some Jvm.ClassFile.FieldType.int)) ∈ lw_all := lw_g (lw_at lw_m5 91 rfl) rfl
theorem q1143 : (Jvm.Cond.methodLink "java/util/ArrayDeque" (127 : Nat) ({ cls := "java/util/ArrayDeque", name := "sub", desc := "(III)I" } : Jvm.MethodName)) ∈ lw_all := lw_g (lw_at lw_m5 92 rfl) rfl
theorem q1144 : (Jvm.Cond.static ({ cls := "java/util/ArrayDeque", name := "sub", desc := "(III)I" } : Jvm.MethodName)) ∈ lw_all := lw_g (lw_at lw_m5 93 rfl) rfl
theorem q1145 : (Jvm.Cond.code ({ cls := "java/util/ArrayDeque", name := "sub", desc := "(III)I" } : Jvm.MethodName) prog_60_method_9_code (3 : Nat) (Option.some Jvm.ClassFile.FieldType.int)) ∈ lw_all := lw_g (lw_at lw_m5 94 rfl) rfl
theorem q1147 : (Jvm.Cond.instanceMethod ({ cls := "java/util/ArrayDeque", name := "removeFirst", desc := "()Ljava/lang/Object;" } : Jvm.MethodName)) ∈ lw_all := lw_g (lw_at lw_m5 96 rfl) rfl
theorem q1148 : (Jvm.Cond.selects "java/util/ArrayDeque" ({ cls := "java/util/ArrayDeque", name := "removeFirst", desc := "()Ljava/lang/Object;" } : Jvm.MethodName) ({ cls := "java/util/ArrayDeque", name := "removeFirst", desc := "()Ljava/lang/Object;" } : Jvm.MethodName)) ∈ lw_all := lw_g (lw_at lw_m5 97 rfl) rfl
theorem q1149 : (Jvm.Cond.code ({ cls := "java/util/ArrayDeque", name := "removeFirst", desc := "()Ljava/lang/Object;" } : Jvm.MethodName) prog_60_method_18_code (2 : Nat) (Option.some (Jvm.ClassFile.FieldType.object "java/lang/Object"))) ∈ lw_all := lw_g (lw_at lw_m5 98 rfl) rfl
theorem q1150 : (Jvm.Cond.methodLink "java/util/ArrayDeque" (93 : Nat) ({ cls := "java/util/ArrayDeque", name := "pollFirst", desc := "()Ljava/lang/Object;" } : Jvm.MethodName)) ∈ lw_all := lw_g (lw_at lw_m5 99 rfl) rfl
theorem q1151 : (Jvm.Cond.instanceMethod ({ cls := "java/util/ArrayDeque", name := "pollFirst", desc := "()Ljava/lang/Object;" } : Jvm.MethodName)) ∈ lw_all := lw_g (lw_at lw_m5 100 rfl) rfl
theorem q1152 : (Jvm.Cond.selects "java/util/ArrayDeque" ({ cls := "java/util/ArrayDeque", name := "pollFirst", desc := "()Ljava/lang/Object;" } : Jvm.MethodName) ({ cls := "java/util/ArrayDeque", name := "pollFirst", desc := "()Ljava/lang/Object;" } : Jvm.MethodName)) ∈ lw_all := lw_g (lw_at lw_m5 101 rfl) rfl
theorem q1153 : (Jvm.Cond.code ({ cls := "java/util/ArrayDeque", name := "pollFirst", desc := "()Ljava/lang/Object;" } : Jvm.MethodName) prog_60_method_20_code (4 : Nat) (Option.some (Jvm.ClassFile.FieldType.object "java/lang/Object"))) ∈ lw_all := lw_g (lw_at lw_m5 102 rfl) rfl
theorem q1154 : (Jvm.Cond.methodLink "java/util/ArrayDeque" (103 : Nat) ({ cls := "java/util/ArrayDeque", name := "elementAt", desc := "([Ljava/lang/Object;I)Ljava/lang/Object;" } : Jvm.MethodName)) ∈ lw_all := lw_g (lw_at lw_m5 103 rfl) rfl
theorem q1155 : (Jvm.Cond.static ({ cls := "java/util/ArrayDeque", name := "elementAt", desc := "([Ljava/lang/Object;I)Ljava/lang/Object;" } : Jvm.MethodName)) ∈ lw_all := lw_g (lw_at lw_m5 104 rfl) rfl
theorem q1156 : (Jvm.Cond.code ({ cls := "java/util/ArrayDeque", name := "elementAt", desc := "([Ljava/lang/Object;I)Ljava/lang/Object;" } : Jvm.MethodName) prog_60_method_10_code (2 : Nat) (Option.some (Jvm.ClassFile.FieldType.object "java/lang/Object"))) ∈ lw_all := lw_g (lw_at lw_m5 105 rfl) rfl
theorem q1157 : (Jvm.Cond.classLink "java/util/ArrayDeque" (97 : Nat) "java/util/NoSuchElementException") ∈ lw_all := lw_g (lw_at lw_m5 106 rfl) rfl
theorem q1166 : (Jvm.Cond.methodLink "java/util/ArrayDeque" (99 : Nat) ({ cls := "java/util/NoSuchElementException", name := "<init>", desc := "()V" } : Jvm.MethodName)) ∈ lw_all := lw_g (lw_at lw_m5 115 rfl) rfl
theorem q2213 : (Jvm.Cond.instanceMethod ({ cls := "java/util/ArrayDeque", name := "isEmpty", desc := "()Z" } : Jvm.MethodName)) ∈ lw_all := lw_g (lw_at lw_m9 202 rfl) rfl
theorem q2214 : (Jvm.Cond.selects "java/util/ArrayDeque" ({ cls := "java/util/ArrayDeque", name := "isEmpty", desc := "()Z" } : Jvm.MethodName) ({ cls := "java/util/ArrayDeque", name := "isEmpty", desc := "()Z" } : Jvm.MethodName)) ∈ lw_all := lw_g (lw_at lw_m9 203 rfl) rfl
theorem q2215 : (Jvm.Cond.code ({ cls := "java/util/ArrayDeque", name := "isEmpty", desc := "()Z" } : Jvm.MethodName) prog_60_method_38_code (1 : Nat) (Option.some Jvm.ClassFile.FieldType.boolean)) ∈ lw_all := lw_g (lw_at lw_m9 204 rfl) rfl
theorem q2217 : (Jvm.Cond.instanceMethod ({ cls := "java/util/ArrayDeque", name := "removeLast", desc := "()Ljava/lang/Object;" } : Jvm.MethodName)) ∈ lw_all := lw_g (lw_at lw_m9 206 rfl) rfl
theorem q2218 : (Jvm.Cond.selects "java/util/ArrayDeque" ({ cls := "java/util/ArrayDeque", name := "removeLast", desc := "()Ljava/lang/Object;" } : Jvm.MethodName) ({ cls := "java/util/ArrayDeque", name := "removeLast", desc := "()Ljava/lang/Object;" } : Jvm.MethodName)) ∈ lw_all := lw_g (lw_at lw_m9 207 rfl) rfl
theorem q2219 : (Jvm.Cond.code ({ cls := "java/util/ArrayDeque", name := "removeLast", desc := "()Ljava/lang/Object;" } : Jvm.MethodName) prog_60_method_19_code (2 : Nat) (Option.some (Jvm.ClassFile.FieldType.object "java/lang/Object"))) ∈ lw_all := lw_g (lw_at lw_m9 208 rfl) rfl
theorem q2220 : (Jvm.Cond.methodLink "java/util/ArrayDeque" (100 : Nat) ({ cls := "java/util/ArrayDeque", name := "pollLast", desc := "()Ljava/lang/Object;" } : Jvm.MethodName)) ∈ lw_all := lw_g (lw_at lw_m9 209 rfl) rfl
theorem q2221 : (Jvm.Cond.instanceMethod ({ cls := "java/util/ArrayDeque", name := "pollLast", desc := "()Ljava/lang/Object;" } : Jvm.MethodName)) ∈ lw_all := lw_g (lw_at lw_m9 210 rfl) rfl
theorem q2222 : (Jvm.Cond.selects "java/util/ArrayDeque" ({ cls := "java/util/ArrayDeque", name := "pollLast", desc := "()Ljava/lang/Object;" } : Jvm.MethodName) ({ cls := "java/util/ArrayDeque", name := "pollLast", desc := "()Ljava/lang/Object;" } : Jvm.MethodName)) ∈ lw_all := lw_g (lw_at lw_m9 211 rfl) rfl
theorem q2223 : (Jvm.Cond.code ({ cls := "java/util/ArrayDeque", name := "pollLast", desc := "()Ljava/lang/Object;" } : Jvm.MethodName) prog_60_method_21_code (4 : Nat) (Option.some (Jvm.ClassFile.FieldType.object "java/lang/Object"))) ∈ lw_all := lw_g (lw_at lw_m9 212 rfl) rfl
theorem q2224 : (Jvm.Cond.methodLink "java/util/ArrayDeque" (68 : Nat) ({ cls := "java/util/ArrayDeque", name := "dec", desc := "(II)I" } : Jvm.MethodName)) ∈ lw_all := lw_g (lw_at lw_m9 213 rfl) rfl
theorem q2225 : (Jvm.Cond.static ({ cls := "java/util/ArrayDeque", name := "dec", desc := "(II)I" } : Jvm.MethodName)) ∈ lw_all := lw_g (lw_at lw_m9 214 rfl) rfl
theorem q2226 : (Jvm.Cond.code ({ cls := "java/util/ArrayDeque", name := "dec", desc := "(II)I" } : Jvm.MethodName) prog_60_method_7_code (2 : Nat) (Option.some Jvm.ClassFile.FieldType.int)) ∈ lw_all := lw_g (lw_at lw_m9 215 rfl) rfl
theorem q2235 : (Jvm.Cond.instanceMethod ({ cls := "java/util/ArrayDeque", name := "clear", desc := "()V" } : Jvm.MethodName)) ∈ lw_all := lw_g (lw_at lw_m9 224 rfl) rfl
theorem q2236 : (Jvm.Cond.selects "java/util/ArrayDeque" ({ cls := "java/util/ArrayDeque", name := "clear", desc := "()V" } : Jvm.MethodName) ({ cls := "java/util/ArrayDeque", name := "clear", desc := "()V" } : Jvm.MethodName)) ∈ lw_all := lw_g (lw_at lw_m9 225 rfl) rfl
theorem q2237 : (Jvm.Cond.code ({ cls := "java/util/ArrayDeque", name := "clear", desc := "()V" } : Jvm.MethodName) prog_60_method_53_code (1 : Nat) (Option.none : Option Jvm.ClassFile.FieldType)) ∈ lw_all := lw_g (lw_at lw_m9 226 rfl) rfl
theorem q2238 : (Jvm.Cond.methodLink "java/util/ArrayDeque" (181 : Nat) ({ cls := "java/util/ArrayDeque", name := "circularClear", desc := "([Ljava/lang/Object;II)V" } : Jvm.MethodName)) ∈ lw_all := lw_g (lw_at lw_m9 227 rfl) rfl
theorem q2239 : (Jvm.Cond.static ({ cls := "java/util/ArrayDeque", name := "circularClear", desc := "([Ljava/lang/Object;II)V" } : Jvm.MethodName)) ∈ lw_all := lw_g (lw_at lw_m9 228 rfl) rfl
theorem q2240 : (Jvm.Cond.code ({ cls := "java/util/ArrayDeque", name := "circularClear", desc := "([Ljava/lang/Object;II)V" } : Jvm.MethodName) prog_60_method_54_code (4 : Nat) (Option.none : Option Jvm.ClassFile.FieldType)) ∈ lw_all := lw_g (lw_at lw_m9 229 rfl) rfl
theorem q2807 : (Jvm.Cond.castable "java/util/ArrayDeque" "java/lang/Object") ∈ lw_tbl := lw_at lw_m12 76 rfl
theorem in_J18 : ∀ w ∈ wsJ180, w ∈ lw_all := lw_in wsJ180 [617, 619, 621] (by decide +kernel) (by decide +kernel)
/-! PolicyNotation$Look -/
def RX5 : String := "PolicyNotation$Look"
def TX5 : u_T := fun k => match k with
  | 0 => ("PolicyNotation$Look", "features", "[I", true)
  | 1 => ("PolicyNotation$Look", "known", "[I", true)
  | 2 => ("PolicyNotation$Look", "scope", "LPolicyNotation$Scope;", false)
  | 3 => ("PolicyNotation$Look", "day", "I", false)
  | 4 => ("PolicyNotation$Look", "barred", "I", false)
  | 5 => ("PolicyNotation$Look", "links", "[I", true)
  | 6 => ("PolicyNotation$Look", "many", "I", false)
  | _ => ("PolicyNotation$Look", "this$0", "LPolicyNotation;", true)
def tyX5 : Nat → FieldType := fun k => match k with
  | 0 => .array .int
  | 1 => .array .int
  | 2 => .object "PolicyNotation$Scope"
  | 3 => .int
  | 4 => .int
  | 5 => .array .int
  | 6 => .int
  | _ => .object "PolicyNotation"
abbrev wsX50 : List Cond := u_ws RX5 TX5 8
theorem nmX5 : ∀ a, a < 8 → ∀ b, b < 8 → a ≠ b → (TX5 a).2.1 ≠ (TX5 b).2.1 := by decide +kernel
theorem tyX5_ok : ∀ k, k < 8 → parseFieldDescriptor (TX5 k).2.2.1 = some (tyX5 k) := by decide +kernel
abbrev cX5_init : ByteArray := prog_13_method_1_code
def yX5_init : MethodName := ⟨RX5, "<init>", "(LPolicyNotation;)V"⟩
def dkwX5_init_1 : List UInt8 := [181, 0, 19, 42, 8, 188, 10, 181, 0, 22, 177]
abbrev dktX5_init_1 : List UInt8 := dkwX5_init_1 ++ []
def dkwX5_init_0 : List UInt8 := [42, 43, 181, 0, 3, 42, 183, 0, 9, 42, 16, 6, 188, 10, 181, 0, 15, 42, 16, 16, 188, 10]
abbrev dktX5_init_0 : List UInt8 := dkwX5_init_0 ++ dktX5_init_1
theorem dksX5_init_0 : cX5_init.data.toList.drop 0 = dktX5_init_0 := by decide +kernel
theorem dksX5_init_1 : cX5_init.data.toList.drop 22 = dktX5_init_1 := dk_seg dksX5_init_0 22 rfl rfl
theorem dX5_init_0 : decode cX5_init 0 = .ok (.aload_n 0, 1) := dk_42 (dk_at dksX5_init_0 0 rfl rfl)
theorem dX5_init_1 : decode cX5_init 1 = .ok (.aload_n 1, 1) := dk_43 (dk_at dksX5_init_0 1 rfl rfl)
theorem dX5_init_2 : decode cX5_init 2 = .ok (.putfield 3, 3) := dk_181 0 3 (dk_at dksX5_init_0 2 rfl rfl)
theorem dX5_init_5 : decode cX5_init 5 = .ok (.aload_n 0, 1) := dk_42 (dk_at dksX5_init_0 5 rfl rfl)
theorem dX5_init_6 : decode cX5_init 6 = .ok (.invokespecial 9, 3) := dk_183 0 9 (dk_at dksX5_init_0 6 rfl rfl)
theorem dX5_init_9 : decode cX5_init 9 = .ok (.aload_n 0, 1) := dk_42 (dk_at dksX5_init_0 9 rfl rfl)
theorem dX5_init_10 : decode cX5_init 10 = .ok (.bipush 6, 2) := dk_16 6 (dk_at dksX5_init_0 10 rfl rfl)
theorem dX5_init_12 : decode cX5_init 12 = .ok (.newarray .int, 2) := dk_188_10 (dk_at dksX5_init_0 12 rfl rfl)
theorem dX5_init_14 : decode cX5_init 14 = .ok (.putfield 15, 3) := dk_181 0 15 (dk_at dksX5_init_0 14 rfl rfl)
theorem dX5_init_17 : decode cX5_init 17 = .ok (.aload_n 0, 1) := dk_42 (dk_at dksX5_init_0 17 rfl rfl)
theorem dX5_init_18 : decode cX5_init 18 = .ok (.bipush 16, 2) := dk_16 16 (dk_at dksX5_init_0 18 rfl rfl)
theorem dX5_init_20 : decode cX5_init 20 = .ok (.newarray .int, 2) := dk_188_10 (dk_at dksX5_init_0 20 rfl rfl)
theorem dX5_init_22 : decode cX5_init 22 = .ok (.putfield 19, 3) := dk_181 0 19 (dk_at dksX5_init_1 0 rfl rfl)
theorem dX5_init_25 : decode cX5_init 25 = .ok (.aload_n 0, 1) := dk_42 (dk_at dksX5_init_1 3 rfl rfl)
theorem dX5_init_26 : decode cX5_init 26 = .ok (.iconst 5, 1) := dk_8 (dk_at dksX5_init_1 4 rfl rfl)
theorem dX5_init_27 : decode cX5_init 27 = .ok (.newarray .int, 2) := dk_188_10 (dk_at dksX5_init_1 5 rfl rfl)
theorem dX5_init_29 : decode cX5_init 29 = .ok (.putfield 22, 3) := dk_181 0 22 (dk_at dksX5_init_1 7 rfl rfl)
theorem dX5_init_32 : decode cX5_init 32 = .ok (.return_, 1) := dk_177 (dk_at dksX5_init_1 10 rfl rfl)
abbrev cX5_at : ByteArray := prog_13_method_3_code
def yX5_at : MethodName := ⟨RX5, "at", "(LPolicyNotation$Work;I)LPolicyNotation$Look;"⟩
def dkwX5_at_0 : List UInt8 := [42, 43, 180, 0, 57, 43, 180, 0, 61, 43, 180, 0, 62, 28, 182, 0, 64, 176]
abbrev dktX5_at_0 : List UInt8 := dkwX5_at_0 ++ []
theorem dksX5_at_0 : cX5_at.data.toList.drop 0 = dktX5_at_0 := by decide +kernel
theorem dX5_at_0 : decode cX5_at 0 = .ok (.aload_n 0, 1) := dk_42 (dk_at dksX5_at_0 0 rfl rfl)
theorem dX5_at_1 : decode cX5_at 1 = .ok (.aload_n 1, 1) := dk_43 (dk_at dksX5_at_0 1 rfl rfl)
theorem dX5_at_2 : decode cX5_at 2 = .ok (.getfield 57, 3) := dk_180 0 57 (dk_at dksX5_at_0 2 rfl rfl)
theorem dX5_at_5 : decode cX5_at 5 = .ok (.aload_n 1, 1) := dk_43 (dk_at dksX5_at_0 5 rfl rfl)
theorem dX5_at_6 : decode cX5_at 6 = .ok (.getfield 61, 3) := dk_180 0 61 (dk_at dksX5_at_0 6 rfl rfl)
theorem dX5_at_9 : decode cX5_at 9 = .ok (.aload_n 1, 1) := dk_43 (dk_at dksX5_at_0 9 rfl rfl)
theorem dX5_at_10 : decode cX5_at 10 = .ok (.getfield 62, 3) := dk_180 0 62 (dk_at dksX5_at_0 10 rfl rfl)
theorem dX5_at_13 : decode cX5_at 13 = .ok (.iload_n 2, 1) := dk_28 (dk_at dksX5_at_0 13 rfl rfl)
theorem dX5_at_14 : decode cX5_at 14 = .ok (.invokevirtual 64, 3) := dk_182 0 64 (dk_at dksX5_at_0 14 rfl rfl)
theorem dX5_at_17 : decode cX5_at 17 = .ok (.areturn, 1) := dk_176 (dk_at dksX5_at_0 17 rfl rfl)
abbrev cX5_at_2 : ByteArray := prog_13_method_2_code
def yX5_at_2 : MethodName := ⟨RX5, "at", "(IIII)LPolicyNotation$Look;"⟩
def dkwX5_at_2_3 : List UInt8 := [182, 0, 54, 42, 176]
abbrev dktX5_at_2_3 : List UInt8 := dkwX5_at_2_3 ++ []
def dkwX5_at_2_2 : List UInt8 := [21, 6, 21, 5, 16, 10, 112, 79, 21, 5, 16, 10, 108, 54, 5, 132, 6, 255, 167, 255, 229, 42]
abbrev dktX5_at_2_2 : List UInt8 := dkwX5_at_2_2 ++ dktX5_at_2_3
def dkwX5_at_2_1 : List UInt8 := [181, 0, 47, 42, 21, 4, 181, 0, 51, 29, 54, 5, 8, 54, 6, 21, 6, 155, 0, 28, 42, 180, 0, 15]
abbrev dktX5_at_2_1 : List UInt8 := dkwX5_at_2_1 ++ dktX5_at_2_2
def dkwX5_at_2_0 : List UInt8 := [42, 42, 180, 0, 3, 180, 0, 25, 180, 0, 29, 27, 182, 0, 35, 192, 0, 41, 181, 0, 43, 42, 28]
abbrev dktX5_at_2_0 : List UInt8 := dkwX5_at_2_0 ++ dktX5_at_2_1
theorem dksX5_at_2_0 : cX5_at_2.data.toList.drop 0 = dktX5_at_2_0 := by decide +kernel
theorem dksX5_at_2_1 : cX5_at_2.data.toList.drop 23 = dktX5_at_2_1 := dk_seg dksX5_at_2_0 23 rfl rfl
theorem dksX5_at_2_2 : cX5_at_2.data.toList.drop 47 = dktX5_at_2_2 := dk_seg dksX5_at_2_1 24 rfl rfl
theorem dksX5_at_2_3 : cX5_at_2.data.toList.drop 69 = dktX5_at_2_3 := dk_seg dksX5_at_2_2 22 rfl rfl
theorem dX5_at_2_0 : decode cX5_at_2 0 = .ok (.aload_n 0, 1) := dk_42 (dk_at dksX5_at_2_0 0 rfl rfl)
theorem dX5_at_2_1 : decode cX5_at_2 1 = .ok (.aload_n 0, 1) := dk_42 (dk_at dksX5_at_2_0 1 rfl rfl)
theorem dX5_at_2_2 : decode cX5_at_2 2 = .ok (.getfield 3, 3) := dk_180 0 3 (dk_at dksX5_at_2_0 2 rfl rfl)
theorem dX5_at_2_5 : decode cX5_at_2 5 = .ok (.getfield 25, 3) := dk_180 0 25 (dk_at dksX5_at_2_0 5 rfl rfl)
theorem dX5_at_2_8 : decode cX5_at_2 8 = .ok (.getfield 29, 3) := dk_180 0 29 (dk_at dksX5_at_2_0 8 rfl rfl)
theorem dX5_at_2_11 : decode cX5_at_2 11 = .ok (.iload_n 1, 1) := dk_27 (dk_at dksX5_at_2_0 11 rfl rfl)
theorem dX5_at_2_12 : decode cX5_at_2 12 = .ok (.invokevirtual 35, 3) := dk_182 0 35 (dk_at dksX5_at_2_0 12 rfl rfl)
theorem dX5_at_2_15 : decode cX5_at_2 15 = .ok (.checkcast 41, 3) := dk_192 0 41 (dk_at dksX5_at_2_0 15 rfl rfl)
theorem dX5_at_2_18 : decode cX5_at_2 18 = .ok (.putfield 43, 3) := dk_181 0 43 (dk_at dksX5_at_2_0 18 rfl rfl)
theorem dX5_at_2_21 : decode cX5_at_2 21 = .ok (.aload_n 0, 1) := dk_42 (dk_at dksX5_at_2_0 21 rfl rfl)
theorem dX5_at_2_22 : decode cX5_at_2 22 = .ok (.iload_n 2, 1) := dk_28 (dk_at dksX5_at_2_0 22 rfl rfl)
theorem dX5_at_2_23 : decode cX5_at_2 23 = .ok (.putfield 47, 3) := dk_181 0 47 (dk_at dksX5_at_2_1 0 rfl rfl)
theorem dX5_at_2_26 : decode cX5_at_2 26 = .ok (.aload_n 0, 1) := dk_42 (dk_at dksX5_at_2_1 3 rfl rfl)
theorem dX5_at_2_27 : decode cX5_at_2 27 = .ok (.iload 4, 2) := dk_21 4 (dk_at dksX5_at_2_1 4 rfl rfl)
theorem dX5_at_2_29 : decode cX5_at_2 29 = .ok (.putfield 51, 3) := dk_181 0 51 (dk_at dksX5_at_2_1 6 rfl rfl)
theorem dX5_at_2_32 : decode cX5_at_2 32 = .ok (.iload_n 3, 1) := dk_29 (dk_at dksX5_at_2_1 9 rfl rfl)
theorem dX5_at_2_33 : decode cX5_at_2 33 = .ok (.istore 5, 2) := dk_54 5 (dk_at dksX5_at_2_1 10 rfl rfl)
theorem dX5_at_2_35 : decode cX5_at_2 35 = .ok (.iconst 5, 1) := dk_8 (dk_at dksX5_at_2_1 12 rfl rfl)
theorem dX5_at_2_36 : decode cX5_at_2 36 = .ok (.istore 6, 2) := dk_54 6 (dk_at dksX5_at_2_1 13 rfl rfl)
theorem dX5_at_2_38 : decode cX5_at_2 38 = .ok (.iload 6, 2) := dk_21 6 (dk_at dksX5_at_2_1 15 rfl rfl)
theorem dX5_at_2_40 : decode cX5_at_2 40 = .ok (.ifCond .lt 28, 3) := dk_155 0 28 (dk_at dksX5_at_2_1 17 rfl rfl)
theorem dX5_at_2_43 : decode cX5_at_2 43 = .ok (.aload_n 0, 1) := dk_42 (dk_at dksX5_at_2_1 20 rfl rfl)
theorem dX5_at_2_44 : decode cX5_at_2 44 = .ok (.getfield 15, 3) := dk_180 0 15 (dk_at dksX5_at_2_1 21 rfl rfl)
theorem dX5_at_2_47 : decode cX5_at_2 47 = .ok (.iload 6, 2) := dk_21 6 (dk_at dksX5_at_2_2 0 rfl rfl)
theorem dX5_at_2_49 : decode cX5_at_2 49 = .ok (.iload 5, 2) := dk_21 5 (dk_at dksX5_at_2_2 2 rfl rfl)
theorem dX5_at_2_51 : decode cX5_at_2 51 = .ok (.bipush 10, 2) := dk_16 10 (dk_at dksX5_at_2_2 4 rfl rfl)
theorem dX5_at_2_53 : decode cX5_at_2 53 = .ok (.irem, 1) := dk_112 (dk_at dksX5_at_2_2 6 rfl rfl)
theorem dX5_at_2_54 : decode cX5_at_2 54 = .ok (.iastore, 1) := dk_79 (dk_at dksX5_at_2_2 7 rfl rfl)
theorem dX5_at_2_55 : decode cX5_at_2 55 = .ok (.iload 5, 2) := dk_21 5 (dk_at dksX5_at_2_2 8 rfl rfl)
theorem dX5_at_2_57 : decode cX5_at_2 57 = .ok (.bipush 10, 2) := dk_16 10 (dk_at dksX5_at_2_2 10 rfl rfl)
theorem dX5_at_2_59 : decode cX5_at_2 59 = .ok (.idiv, 1) := dk_108 (dk_at dksX5_at_2_2 12 rfl rfl)
theorem dX5_at_2_60 : decode cX5_at_2 60 = .ok (.istore 5, 2) := dk_54 5 (dk_at dksX5_at_2_2 13 rfl rfl)
theorem dX5_at_2_62 : decode cX5_at_2 62 = .ok (.iinc 6 (-1), 3) := dk_132 6 255 (dk_at dksX5_at_2_2 15 rfl rfl)
theorem dX5_at_2_65 : decode cX5_at_2 65 = .ok (.goto (-27), 3) := dk_167 255 229 (dk_at dksX5_at_2_2 18 rfl rfl)
theorem dX5_at_2_68 : decode cX5_at_2 68 = .ok (.aload_n 0, 1) := dk_42 (dk_at dksX5_at_2_2 21 rfl rfl)
theorem dX5_at_2_69 : decode cX5_at_2 69 = .ok (.invokevirtual 54, 3) := dk_182 0 54 (dk_at dksX5_at_2_3 0 rfl rfl)
theorem dX5_at_2_72 : decode cX5_at_2 72 = .ok (.aload_n 0, 1) := dk_42 (dk_at dksX5_at_2_3 3 rfl rfl)
theorem dX5_at_2_73 : decode cX5_at_2 73 = .ok (.areturn, 1) := dk_176 (dk_at dksX5_at_2_3 4 rfl rfl)
abbrev cX5_forgets : ByteArray := prog_13_method_5_code
def yX5_forgets : MethodName := ⟨RX5, "forgets", "()V"⟩
def dkwX5_forgets_0 : List UInt8 := [3, 60, 27, 16, 16, 162, 0, 16, 42, 180, 0, 19, 27, 3, 79, 132, 1, 1, 167, 255, 240, 177]
abbrev dktX5_forgets_0 : List UInt8 := dkwX5_forgets_0 ++ []
theorem dksX5_forgets_0 : cX5_forgets.data.toList.drop 0 = dktX5_forgets_0 := by decide +kernel
theorem dX5_forgets_0 : decode cX5_forgets 0 = .ok (.iconst 0, 1) := dk_3 (dk_at dksX5_forgets_0 0 rfl rfl)
theorem dX5_forgets_1 : decode cX5_forgets 1 = .ok (.istore_n 1, 1) := dk_60 (dk_at dksX5_forgets_0 1 rfl rfl)
theorem dX5_forgets_2 : decode cX5_forgets 2 = .ok (.iload_n 1, 1) := dk_27 (dk_at dksX5_forgets_0 2 rfl rfl)
theorem dX5_forgets_3 : decode cX5_forgets 3 = .ok (.bipush 16, 2) := dk_16 16 (dk_at dksX5_forgets_0 3 rfl rfl)
theorem dX5_forgets_5 : decode cX5_forgets 5 = .ok (.if_icmp .ge 16, 3) := dk_162 0 16 (dk_at dksX5_forgets_0 5 rfl rfl)
theorem dX5_forgets_8 : decode cX5_forgets 8 = .ok (.aload_n 0, 1) := dk_42 (dk_at dksX5_forgets_0 8 rfl rfl)
theorem dX5_forgets_9 : decode cX5_forgets 9 = .ok (.getfield 19, 3) := dk_180 0 19 (dk_at dksX5_forgets_0 9 rfl rfl)
theorem dX5_forgets_12 : decode cX5_forgets 12 = .ok (.iload_n 1, 1) := dk_27 (dk_at dksX5_forgets_0 12 rfl rfl)
theorem dX5_forgets_13 : decode cX5_forgets 13 = .ok (.iconst 0, 1) := dk_3 (dk_at dksX5_forgets_0 13 rfl rfl)
theorem dX5_forgets_14 : decode cX5_forgets 14 = .ok (.iastore, 1) := dk_79 (dk_at dksX5_forgets_0 14 rfl rfl)
theorem dX5_forgets_15 : decode cX5_forgets 15 = .ok (.iinc 1 1, 3) := dk_132 1 1 (dk_at dksX5_forgets_0 15 rfl rfl)
theorem dX5_forgets_18 : decode cX5_forgets 18 = .ok (.goto (-16), 3) := dk_167 255 240 (dk_at dksX5_forgets_0 18 rfl rfl)
theorem dX5_forgets_21 : decode cX5_forgets 21 = .ok (.return_, 1) := dk_177 (dk_at dksX5_forgets_0 21 rfl rfl)
abbrev cX5_outcome : ByteArray := prog_13_method_12_code
def yX5_outcome : MethodName := ⟨RX5, "outcome", "()LPolicyNotation$Effect;"⟩
def dkwX5_outcome_0 : List UInt8 := [42, 182, 0, 126, 76, 43, 199, 0, 13, 42, 180, 0, 43, 182, 0, 130, 167, 0, 7, 43, 182, 0, 118, 176]
abbrev dktX5_outcome_0 : List UInt8 := dkwX5_outcome_0 ++ []
theorem dksX5_outcome_0 : cX5_outcome.data.toList.drop 0 = dktX5_outcome_0 := by decide +kernel
theorem dX5_outcome_0 : decode cX5_outcome 0 = .ok (.aload_n 0, 1) := dk_42 (dk_at dksX5_outcome_0 0 rfl rfl)
theorem dX5_outcome_1 : decode cX5_outcome 1 = .ok (.invokevirtual 126, 3) := dk_182 0 126 (dk_at dksX5_outcome_0 1 rfl rfl)
theorem dX5_outcome_4 : decode cX5_outcome 4 = .ok (.astore_n 1, 1) := dk_76 (dk_at dksX5_outcome_0 4 rfl rfl)
theorem dX5_outcome_5 : decode cX5_outcome 5 = .ok (.aload_n 1, 1) := dk_43 (dk_at dksX5_outcome_0 5 rfl rfl)
theorem dX5_outcome_6 : decode cX5_outcome 6 = .ok (.ifnonnull 13, 3) := dk_199 0 13 (dk_at dksX5_outcome_0 6 rfl rfl)
theorem dX5_outcome_9 : decode cX5_outcome 9 = .ok (.aload_n 0, 1) := dk_42 (dk_at dksX5_outcome_0 9 rfl rfl)
theorem dX5_outcome_10 : decode cX5_outcome 10 = .ok (.getfield 43, 3) := dk_180 0 43 (dk_at dksX5_outcome_0 10 rfl rfl)
theorem dX5_outcome_13 : decode cX5_outcome 13 = .ok (.invokevirtual 130, 3) := dk_182 0 130 (dk_at dksX5_outcome_0 13 rfl rfl)
theorem dX5_outcome_16 : decode cX5_outcome 16 = .ok (.goto 7, 3) := dk_167 0 7 (dk_at dksX5_outcome_0 16 rfl rfl)
theorem dX5_outcome_19 : decode cX5_outcome 19 = .ok (.aload_n 1, 1) := dk_43 (dk_at dksX5_outcome_0 19 rfl rfl)
theorem dX5_outcome_20 : decode cX5_outcome 20 = .ok (.invokevirtual 118, 3) := dk_182 0 118 (dk_at dksX5_outcome_0 20 rfl rfl)
theorem dX5_outcome_23 : decode cX5_outcome 23 = .ok (.areturn, 1) := dk_176 (dk_at dksX5_outcome_0 23 rfl rfl)
abbrev cX5_prevailing : ByteArray := prog_13_method_11_code
def yX5_prevailing : MethodName := ⟨RX5, "prevailing", "()LPolicyNotation$Rule;"⟩
def dkwX5_prevailing_3 : List UInt8 := [132, 2, 1, 167, 255, 188, 43, 176]
abbrev dktX5_prevailing_3 : List UInt8 := dkwX5_prevailing_3 ++ []
def dkwX5_prevailing_2 : List UInt8 := [42, 45, 182, 0, 102, 153, 0, 18, 43, 198, 0, 12, 42, 45, 43, 182, 0, 122, 156, 0, 5, 45, 76]
abbrev dktX5_prevailing_2 : List UInt8 := dkwX5_prevailing_2 ++ dktX5_prevailing_3
def dkwX5_prevailing_1 : List UInt8 := [180, 0, 3, 180, 0, 25, 180, 0, 92, 28, 182, 0, 35, 192, 0, 69, 78, 45, 182, 0, 118, 198, 0, 26]
abbrev dktX5_prevailing_1 : List UInt8 := dkwX5_prevailing_1 ++ dktX5_prevailing_2
def dkwX5_prevailing_0 : List UInt8 := [1, 76, 3, 61, 28, 42, 180, 0, 3, 180, 0, 25, 180, 0, 92, 182, 0, 95, 162, 0, 57, 42]
abbrev dktX5_prevailing_0 : List UInt8 := dkwX5_prevailing_0 ++ dktX5_prevailing_1
theorem dksX5_prevailing_0 : cX5_prevailing.data.toList.drop 0 = dktX5_prevailing_0 := by decide +kernel
theorem dksX5_prevailing_1 : cX5_prevailing.data.toList.drop 22 = dktX5_prevailing_1 := dk_seg dksX5_prevailing_0 22 rfl rfl
theorem dksX5_prevailing_2 : cX5_prevailing.data.toList.drop 46 = dktX5_prevailing_2 := dk_seg dksX5_prevailing_1 24 rfl rfl
theorem dksX5_prevailing_3 : cX5_prevailing.data.toList.drop 69 = dktX5_prevailing_3 := dk_seg dksX5_prevailing_2 23 rfl rfl
theorem dX5_prevailing_0 : decode cX5_prevailing 0 = .ok (.aconst_null, 1) := dk_1 (dk_at dksX5_prevailing_0 0 rfl rfl)
theorem dX5_prevailing_1 : decode cX5_prevailing 1 = .ok (.astore_n 1, 1) := dk_76 (dk_at dksX5_prevailing_0 1 rfl rfl)
theorem dX5_prevailing_2 : decode cX5_prevailing 2 = .ok (.iconst 0, 1) := dk_3 (dk_at dksX5_prevailing_0 2 rfl rfl)
theorem dX5_prevailing_3 : decode cX5_prevailing 3 = .ok (.istore_n 2, 1) := dk_61 (dk_at dksX5_prevailing_0 3 rfl rfl)
theorem dX5_prevailing_4 : decode cX5_prevailing 4 = .ok (.iload_n 2, 1) := dk_28 (dk_at dksX5_prevailing_0 4 rfl rfl)
theorem dX5_prevailing_5 : decode cX5_prevailing 5 = .ok (.aload_n 0, 1) := dk_42 (dk_at dksX5_prevailing_0 5 rfl rfl)
theorem dX5_prevailing_6 : decode cX5_prevailing 6 = .ok (.getfield 3, 3) := dk_180 0 3 (dk_at dksX5_prevailing_0 6 rfl rfl)
theorem dX5_prevailing_9 : decode cX5_prevailing 9 = .ok (.getfield 25, 3) := dk_180 0 25 (dk_at dksX5_prevailing_0 9 rfl rfl)
theorem dX5_prevailing_12 : decode cX5_prevailing 12 = .ok (.getfield 92, 3) := dk_180 0 92 (dk_at dksX5_prevailing_0 12 rfl rfl)
theorem dX5_prevailing_15 : decode cX5_prevailing 15 = .ok (.invokevirtual 95, 3) := dk_182 0 95 (dk_at dksX5_prevailing_0 15 rfl rfl)
theorem dX5_prevailing_18 : decode cX5_prevailing 18 = .ok (.if_icmp .ge 57, 3) := dk_162 0 57 (dk_at dksX5_prevailing_0 18 rfl rfl)
theorem dX5_prevailing_21 : decode cX5_prevailing 21 = .ok (.aload_n 0, 1) := dk_42 (dk_at dksX5_prevailing_0 21 rfl rfl)
theorem dX5_prevailing_22 : decode cX5_prevailing 22 = .ok (.getfield 3, 3) := dk_180 0 3 (dk_at dksX5_prevailing_1 0 rfl rfl)
theorem dX5_prevailing_25 : decode cX5_prevailing 25 = .ok (.getfield 25, 3) := dk_180 0 25 (dk_at dksX5_prevailing_1 3 rfl rfl)
theorem dX5_prevailing_28 : decode cX5_prevailing 28 = .ok (.getfield 92, 3) := dk_180 0 92 (dk_at dksX5_prevailing_1 6 rfl rfl)
theorem dX5_prevailing_31 : decode cX5_prevailing 31 = .ok (.iload_n 2, 1) := dk_28 (dk_at dksX5_prevailing_1 9 rfl rfl)
theorem dX5_prevailing_32 : decode cX5_prevailing 32 = .ok (.invokevirtual 35, 3) := dk_182 0 35 (dk_at dksX5_prevailing_1 10 rfl rfl)
theorem dX5_prevailing_35 : decode cX5_prevailing 35 = .ok (.checkcast 69, 3) := dk_192 0 69 (dk_at dksX5_prevailing_1 13 rfl rfl)
theorem dX5_prevailing_38 : decode cX5_prevailing 38 = .ok (.astore_n 3, 1) := dk_78 (dk_at dksX5_prevailing_1 16 rfl rfl)
theorem dX5_prevailing_39 : decode cX5_prevailing 39 = .ok (.aload_n 3, 1) := dk_45 (dk_at dksX5_prevailing_1 17 rfl rfl)
theorem dX5_prevailing_40 : decode cX5_prevailing 40 = .ok (.invokevirtual 118, 3) := dk_182 0 118 (dk_at dksX5_prevailing_1 18 rfl rfl)
theorem dX5_prevailing_43 : decode cX5_prevailing 43 = .ok (.ifnull 26, 3) := dk_198 0 26 (dk_at dksX5_prevailing_1 21 rfl rfl)
theorem dX5_prevailing_46 : decode cX5_prevailing 46 = .ok (.aload_n 0, 1) := dk_42 (dk_at dksX5_prevailing_2 0 rfl rfl)
theorem dX5_prevailing_47 : decode cX5_prevailing 47 = .ok (.aload_n 3, 1) := dk_45 (dk_at dksX5_prevailing_2 1 rfl rfl)
theorem dX5_prevailing_48 : decode cX5_prevailing 48 = .ok (.invokevirtual 102, 3) := dk_182 0 102 (dk_at dksX5_prevailing_2 2 rfl rfl)
theorem dX5_prevailing_51 : decode cX5_prevailing 51 = .ok (.ifCond .eq 18, 3) := dk_153 0 18 (dk_at dksX5_prevailing_2 5 rfl rfl)
theorem dX5_prevailing_54 : decode cX5_prevailing 54 = .ok (.aload_n 1, 1) := dk_43 (dk_at dksX5_prevailing_2 8 rfl rfl)
theorem dX5_prevailing_55 : decode cX5_prevailing 55 = .ok (.ifnull 12, 3) := dk_198 0 12 (dk_at dksX5_prevailing_2 9 rfl rfl)
theorem dX5_prevailing_58 : decode cX5_prevailing 58 = .ok (.aload_n 0, 1) := dk_42 (dk_at dksX5_prevailing_2 12 rfl rfl)
theorem dX5_prevailing_59 : decode cX5_prevailing 59 = .ok (.aload_n 3, 1) := dk_45 (dk_at dksX5_prevailing_2 13 rfl rfl)
theorem dX5_prevailing_60 : decode cX5_prevailing 60 = .ok (.aload_n 1, 1) := dk_43 (dk_at dksX5_prevailing_2 14 rfl rfl)
theorem dX5_prevailing_61 : decode cX5_prevailing 61 = .ok (.invokevirtual 122, 3) := dk_182 0 122 (dk_at dksX5_prevailing_2 15 rfl rfl)
theorem dX5_prevailing_64 : decode cX5_prevailing 64 = .ok (.ifCond .ge 5, 3) := dk_156 0 5 (dk_at dksX5_prevailing_2 18 rfl rfl)
theorem dX5_prevailing_67 : decode cX5_prevailing 67 = .ok (.aload_n 3, 1) := dk_45 (dk_at dksX5_prevailing_2 21 rfl rfl)
theorem dX5_prevailing_68 : decode cX5_prevailing 68 = .ok (.astore_n 1, 1) := dk_76 (dk_at dksX5_prevailing_2 22 rfl rfl)
theorem dX5_prevailing_69 : decode cX5_prevailing 69 = .ok (.iinc 2 1, 3) := dk_132 2 1 (dk_at dksX5_prevailing_3 0 rfl rfl)
theorem dX5_prevailing_72 : decode cX5_prevailing 72 = .ok (.goto (-68), 3) := dk_167 255 188 (dk_at dksX5_prevailing_3 3 rfl rfl)
theorem dX5_prevailing_75 : decode cX5_prevailing 75 = .ok (.aload_n 1, 1) := dk_43 (dk_at dksX5_prevailing_3 6 rfl rfl)
theorem dX5_prevailing_76 : decode cX5_prevailing 76 = .ok (.areturn, 1) := dk_176 (dk_at dksX5_prevailing_3 7 rfl rfl)
abbrev cX5_holds : ByteArray := prog_13_method_7_code
def yX5_holds : MethodName := ⟨RX5, "holds", "(LPolicyNotation$Rule;)Z"⟩
def dkwX5_holds_2 : List UInt8 := [160, 0, 7, 4, 167, 0, 4, 3, 172]
abbrev dktX5_holds_2 : List UInt8 := dkwX5_holds_2 ++ []
def dkwX5_holds_1 : List UInt8 := [182, 0, 85, 153, 0, 7, 4, 167, 0, 4, 5, 79, 42, 180, 0, 19, 43, 180, 0, 68, 46, 4]
abbrev dktX5_holds_1 : List UInt8 := dkwX5_holds_1 ++ dktX5_holds_2
def dkwX5_holds_0 : List UInt8 := [42, 180, 0, 19, 43, 180, 0, 68, 46, 154, 0, 25, 42, 180, 0, 19, 43, 180, 0, 68, 42, 43]
abbrev dktX5_holds_0 : List UInt8 := dkwX5_holds_0 ++ dktX5_holds_1
theorem dksX5_holds_0 : cX5_holds.data.toList.drop 0 = dktX5_holds_0 := by decide +kernel
theorem dksX5_holds_1 : cX5_holds.data.toList.drop 22 = dktX5_holds_1 := dk_seg dksX5_holds_0 22 rfl rfl
theorem dksX5_holds_2 : cX5_holds.data.toList.drop 44 = dktX5_holds_2 := dk_seg dksX5_holds_1 22 rfl rfl
theorem dX5_holds_0 : decode cX5_holds 0 = .ok (.aload_n 0, 1) := dk_42 (dk_at dksX5_holds_0 0 rfl rfl)
theorem dX5_holds_1 : decode cX5_holds 1 = .ok (.getfield 19, 3) := dk_180 0 19 (dk_at dksX5_holds_0 1 rfl rfl)
theorem dX5_holds_4 : decode cX5_holds 4 = .ok (.aload_n 1, 1) := dk_43 (dk_at dksX5_holds_0 4 rfl rfl)
theorem dX5_holds_5 : decode cX5_holds 5 = .ok (.getfield 68, 3) := dk_180 0 68 (dk_at dksX5_holds_0 5 rfl rfl)
theorem dX5_holds_8 : decode cX5_holds 8 = .ok (.iaload, 1) := dk_46 (dk_at dksX5_holds_0 8 rfl rfl)
theorem dX5_holds_9 : decode cX5_holds 9 = .ok (.ifCond .ne 25, 3) := dk_154 0 25 (dk_at dksX5_holds_0 9 rfl rfl)
theorem dX5_holds_12 : decode cX5_holds 12 = .ok (.aload_n 0, 1) := dk_42 (dk_at dksX5_holds_0 12 rfl rfl)
theorem dX5_holds_13 : decode cX5_holds 13 = .ok (.getfield 19, 3) := dk_180 0 19 (dk_at dksX5_holds_0 13 rfl rfl)
theorem dX5_holds_16 : decode cX5_holds 16 = .ok (.aload_n 1, 1) := dk_43 (dk_at dksX5_holds_0 16 rfl rfl)
theorem dX5_holds_17 : decode cX5_holds 17 = .ok (.getfield 68, 3) := dk_180 0 68 (dk_at dksX5_holds_0 17 rfl rfl)
theorem dX5_holds_20 : decode cX5_holds 20 = .ok (.aload_n 0, 1) := dk_42 (dk_at dksX5_holds_0 20 rfl rfl)
theorem dX5_holds_21 : decode cX5_holds 21 = .ok (.aload_n 1, 1) := dk_43 (dk_at dksX5_holds_0 21 rfl rfl)
theorem dX5_holds_22 : decode cX5_holds 22 = .ok (.invokevirtual 85, 3) := dk_182 0 85 (dk_at dksX5_holds_1 0 rfl rfl)
theorem dX5_holds_25 : decode cX5_holds 25 = .ok (.ifCond .eq 7, 3) := dk_153 0 7 (dk_at dksX5_holds_1 3 rfl rfl)
theorem dX5_holds_28 : decode cX5_holds 28 = .ok (.iconst 1, 1) := dk_4 (dk_at dksX5_holds_1 6 rfl rfl)
theorem dX5_holds_29 : decode cX5_holds 29 = .ok (.goto 4, 3) := dk_167 0 4 (dk_at dksX5_holds_1 7 rfl rfl)
theorem dX5_holds_32 : decode cX5_holds 32 = .ok (.iconst 2, 1) := dk_5 (dk_at dksX5_holds_1 10 rfl rfl)
theorem dX5_holds_33 : decode cX5_holds 33 = .ok (.iastore, 1) := dk_79 (dk_at dksX5_holds_1 11 rfl rfl)
theorem dX5_holds_34 : decode cX5_holds 34 = .ok (.aload_n 0, 1) := dk_42 (dk_at dksX5_holds_1 12 rfl rfl)
theorem dX5_holds_35 : decode cX5_holds 35 = .ok (.getfield 19, 3) := dk_180 0 19 (dk_at dksX5_holds_1 13 rfl rfl)
theorem dX5_holds_38 : decode cX5_holds 38 = .ok (.aload_n 1, 1) := dk_43 (dk_at dksX5_holds_1 16 rfl rfl)
theorem dX5_holds_39 : decode cX5_holds 39 = .ok (.getfield 68, 3) := dk_180 0 68 (dk_at dksX5_holds_1 17 rfl rfl)
theorem dX5_holds_42 : decode cX5_holds 42 = .ok (.iaload, 1) := dk_46 (dk_at dksX5_holds_1 20 rfl rfl)
theorem dX5_holds_43 : decode cX5_holds 43 = .ok (.iconst 1, 1) := dk_4 (dk_at dksX5_holds_1 21 rfl rfl)
theorem dX5_holds_44 : decode cX5_holds 44 = .ok (.if_icmp .ne 7, 3) := dk_160 0 7 (dk_at dksX5_holds_2 0 rfl rfl)
theorem dX5_holds_47 : decode cX5_holds 47 = .ok (.iconst 1, 1) := dk_4 (dk_at dksX5_holds_2 3 rfl rfl)
theorem dX5_holds_48 : decode cX5_holds 48 = .ok (.goto 4, 3) := dk_167 0 4 (dk_at dksX5_holds_2 4 rfl rfl)
theorem dX5_holds_51 : decode cX5_holds 51 = .ok (.iconst 0, 1) := dk_3 (dk_at dksX5_holds_2 7 rfl rfl)
theorem dX5_holds_52 : decode cX5_holds 52 = .ok (.ireturn, 1) := dk_172 (dk_at dksX5_holds_2 8 rfl rfl)
abbrev cX5_finds : ByteArray := prog_13_method_8_code
def yX5_finds : MethodName := ⟨RX5, "finds", "(LPolicyNotation$Rule;)Z"⟩
def dkwX5_finds_3 : List UInt8 := [153, 0, 5, 3, 172, 132, 2, 1, 167, 255, 197, 4, 172]
abbrev dktX5_finds_3 : List UInt8 := dkwX5_finds_3 ++ []
def dkwX5_finds_2 : List UInt8 := [182, 0, 35, 192, 0, 69, 78, 45, 182, 0, 99, 43, 180, 0, 68, 160, 0, 13, 42, 45, 182, 0, 102]
abbrev dktX5_finds_2 : List UInt8 := dkwX5_finds_2 ++ dktX5_finds_3
def dkwX5_finds_1 : List UInt8 := [180, 0, 25, 180, 0, 92, 182, 0, 95, 162, 0, 48, 42, 180, 0, 3, 180, 0, 25, 180, 0, 92, 28]
abbrev dktX5_finds_1 : List UInt8 := dkwX5_finds_1 ++ dktX5_finds_2
def dkwX5_finds_0 : List UInt8 := [42, 43, 182, 0, 89, 154, 0, 5, 3, 172, 43, 180, 0, 68, 4, 96, 61, 28, 42, 180, 0, 3]
abbrev dktX5_finds_0 : List UInt8 := dkwX5_finds_0 ++ dktX5_finds_1
theorem dksX5_finds_0 : cX5_finds.data.toList.drop 0 = dktX5_finds_0 := by decide +kernel
theorem dksX5_finds_1 : cX5_finds.data.toList.drop 22 = dktX5_finds_1 := dk_seg dksX5_finds_0 22 rfl rfl
theorem dksX5_finds_2 : cX5_finds.data.toList.drop 45 = dktX5_finds_2 := dk_seg dksX5_finds_1 23 rfl rfl
theorem dksX5_finds_3 : cX5_finds.data.toList.drop 68 = dktX5_finds_3 := dk_seg dksX5_finds_2 23 rfl rfl
theorem dX5_finds_0 : decode cX5_finds 0 = .ok (.aload_n 0, 1) := dk_42 (dk_at dksX5_finds_0 0 rfl rfl)
theorem dX5_finds_1 : decode cX5_finds 1 = .ok (.aload_n 1, 1) := dk_43 (dk_at dksX5_finds_0 1 rfl rfl)
theorem dX5_finds_2 : decode cX5_finds 2 = .ok (.invokevirtual 89, 3) := dk_182 0 89 (dk_at dksX5_finds_0 2 rfl rfl)
theorem dX5_finds_5 : decode cX5_finds 5 = .ok (.ifCond .ne 5, 3) := dk_154 0 5 (dk_at dksX5_finds_0 5 rfl rfl)
theorem dX5_finds_8 : decode cX5_finds 8 = .ok (.iconst 0, 1) := dk_3 (dk_at dksX5_finds_0 8 rfl rfl)
theorem dX5_finds_9 : decode cX5_finds 9 = .ok (.ireturn, 1) := dk_172 (dk_at dksX5_finds_0 9 rfl rfl)
theorem dX5_finds_10 : decode cX5_finds 10 = .ok (.aload_n 1, 1) := dk_43 (dk_at dksX5_finds_0 10 rfl rfl)
theorem dX5_finds_11 : decode cX5_finds 11 = .ok (.getfield 68, 3) := dk_180 0 68 (dk_at dksX5_finds_0 11 rfl rfl)
theorem dX5_finds_14 : decode cX5_finds 14 = .ok (.iconst 1, 1) := dk_4 (dk_at dksX5_finds_0 14 rfl rfl)
theorem dX5_finds_15 : decode cX5_finds 15 = .ok (.iadd, 1) := dk_96 (dk_at dksX5_finds_0 15 rfl rfl)
theorem dX5_finds_16 : decode cX5_finds 16 = .ok (.istore_n 2, 1) := dk_61 (dk_at dksX5_finds_0 16 rfl rfl)
theorem dX5_finds_17 : decode cX5_finds 17 = .ok (.iload_n 2, 1) := dk_28 (dk_at dksX5_finds_0 17 rfl rfl)
theorem dX5_finds_18 : decode cX5_finds 18 = .ok (.aload_n 0, 1) := dk_42 (dk_at dksX5_finds_0 18 rfl rfl)
theorem dX5_finds_19 : decode cX5_finds 19 = .ok (.getfield 3, 3) := dk_180 0 3 (dk_at dksX5_finds_0 19 rfl rfl)
theorem dX5_finds_22 : decode cX5_finds 22 = .ok (.getfield 25, 3) := dk_180 0 25 (dk_at dksX5_finds_1 0 rfl rfl)
theorem dX5_finds_25 : decode cX5_finds 25 = .ok (.getfield 92, 3) := dk_180 0 92 (dk_at dksX5_finds_1 3 rfl rfl)
theorem dX5_finds_28 : decode cX5_finds 28 = .ok (.invokevirtual 95, 3) := dk_182 0 95 (dk_at dksX5_finds_1 6 rfl rfl)
theorem dX5_finds_31 : decode cX5_finds 31 = .ok (.if_icmp .ge 48, 3) := dk_162 0 48 (dk_at dksX5_finds_1 9 rfl rfl)
theorem dX5_finds_34 : decode cX5_finds 34 = .ok (.aload_n 0, 1) := dk_42 (dk_at dksX5_finds_1 12 rfl rfl)
theorem dX5_finds_35 : decode cX5_finds 35 = .ok (.getfield 3, 3) := dk_180 0 3 (dk_at dksX5_finds_1 13 rfl rfl)
theorem dX5_finds_38 : decode cX5_finds 38 = .ok (.getfield 25, 3) := dk_180 0 25 (dk_at dksX5_finds_1 16 rfl rfl)
theorem dX5_finds_41 : decode cX5_finds 41 = .ok (.getfield 92, 3) := dk_180 0 92 (dk_at dksX5_finds_1 19 rfl rfl)
theorem dX5_finds_44 : decode cX5_finds 44 = .ok (.iload_n 2, 1) := dk_28 (dk_at dksX5_finds_1 22 rfl rfl)
theorem dX5_finds_45 : decode cX5_finds 45 = .ok (.invokevirtual 35, 3) := dk_182 0 35 (dk_at dksX5_finds_2 0 rfl rfl)
theorem dX5_finds_48 : decode cX5_finds 48 = .ok (.checkcast 69, 3) := dk_192 0 69 (dk_at dksX5_finds_2 3 rfl rfl)
theorem dX5_finds_51 : decode cX5_finds 51 = .ok (.astore_n 3, 1) := dk_78 (dk_at dksX5_finds_2 6 rfl rfl)
theorem dX5_finds_52 : decode cX5_finds 52 = .ok (.aload_n 3, 1) := dk_45 (dk_at dksX5_finds_2 7 rfl rfl)
theorem dX5_finds_53 : decode cX5_finds 53 = .ok (.invokevirtual 99, 3) := dk_182 0 99 (dk_at dksX5_finds_2 8 rfl rfl)
theorem dX5_finds_56 : decode cX5_finds 56 = .ok (.aload_n 1, 1) := dk_43 (dk_at dksX5_finds_2 11 rfl rfl)
theorem dX5_finds_57 : decode cX5_finds 57 = .ok (.getfield 68, 3) := dk_180 0 68 (dk_at dksX5_finds_2 12 rfl rfl)
theorem dX5_finds_60 : decode cX5_finds 60 = .ok (.if_icmp .ne 13, 3) := dk_160 0 13 (dk_at dksX5_finds_2 15 rfl rfl)
theorem dX5_finds_63 : decode cX5_finds 63 = .ok (.aload_n 0, 1) := dk_42 (dk_at dksX5_finds_2 18 rfl rfl)
theorem dX5_finds_64 : decode cX5_finds 64 = .ok (.aload_n 3, 1) := dk_45 (dk_at dksX5_finds_2 19 rfl rfl)
theorem dX5_finds_65 : decode cX5_finds 65 = .ok (.invokevirtual 102, 3) := dk_182 0 102 (dk_at dksX5_finds_2 20 rfl rfl)
theorem dX5_finds_68 : decode cX5_finds 68 = .ok (.ifCond .eq 5, 3) := dk_153 0 5 (dk_at dksX5_finds_3 0 rfl rfl)
theorem dX5_finds_71 : decode cX5_finds 71 = .ok (.iconst 0, 1) := dk_3 (dk_at dksX5_finds_3 3 rfl rfl)
theorem dX5_finds_72 : decode cX5_finds 72 = .ok (.ireturn, 1) := dk_172 (dk_at dksX5_finds_3 4 rfl rfl)
theorem dX5_finds_73 : decode cX5_finds 73 = .ok (.iinc 2 1, 3) := dk_132 2 1 (dk_at dksX5_finds_3 5 rfl rfl)
theorem dX5_finds_76 : decode cX5_finds 76 = .ok (.goto (-59), 3) := dk_167 255 197 (dk_at dksX5_finds_3 8 rfl rfl)
theorem dX5_finds_79 : decode cX5_finds 79 = .ok (.iconst 1, 1) := dk_4 (dk_at dksX5_finds_3 11 rfl rfl)
theorem dX5_finds_80 : decode cX5_finds 80 = .ok (.ireturn, 1) := dk_172 (dk_at dksX5_finds_3 12 rfl rfl)
abbrev cX5_covers : ByteArray := prog_13_method_6_code
def yX5_covers : MethodName := ⟨RX5, "covers", "(LPolicyNotation$Rule;)Z"⟩
def dkwX5_covers_2 : List UInt8 := [4, 167, 0, 4, 3, 172]
abbrev dktX5_covers_2 : List UInt8 := dkwX5_covers_2 ++ []
def dkwX5_covers_1 : List UInt8 := [180, 0, 43, 43, 180, 0, 77, 182, 0, 78, 153, 0, 18, 43, 42, 180, 0, 15, 182, 0, 81, 153, 0, 7]
abbrev dktX5_covers_1 : List UInt8 := dkwX5_covers_1 ++ dktX5_covers_2
def dkwX5_covers_0 : List UInt8 := [43, 180, 0, 68, 42, 180, 0, 51, 159, 0, 43, 43, 42, 180, 0, 47, 182, 0, 73, 153, 0, 32, 42]
abbrev dktX5_covers_0 : List UInt8 := dkwX5_covers_0 ++ dktX5_covers_1
theorem dksX5_covers_0 : cX5_covers.data.toList.drop 0 = dktX5_covers_0 := by decide +kernel
theorem dksX5_covers_1 : cX5_covers.data.toList.drop 23 = dktX5_covers_1 := dk_seg dksX5_covers_0 23 rfl rfl
theorem dksX5_covers_2 : cX5_covers.data.toList.drop 47 = dktX5_covers_2 := dk_seg dksX5_covers_1 24 rfl rfl
theorem dX5_covers_0 : decode cX5_covers 0 = .ok (.aload_n 1, 1) := dk_43 (dk_at dksX5_covers_0 0 rfl rfl)
theorem dX5_covers_1 : decode cX5_covers 1 = .ok (.getfield 68, 3) := dk_180 0 68 (dk_at dksX5_covers_0 1 rfl rfl)
theorem dX5_covers_4 : decode cX5_covers 4 = .ok (.aload_n 0, 1) := dk_42 (dk_at dksX5_covers_0 4 rfl rfl)
theorem dX5_covers_5 : decode cX5_covers 5 = .ok (.getfield 51, 3) := dk_180 0 51 (dk_at dksX5_covers_0 5 rfl rfl)
theorem dX5_covers_8 : decode cX5_covers 8 = .ok (.if_icmp .eq 43, 3) := dk_159 0 43 (dk_at dksX5_covers_0 8 rfl rfl)
theorem dX5_covers_11 : decode cX5_covers 11 = .ok (.aload_n 1, 1) := dk_43 (dk_at dksX5_covers_0 11 rfl rfl)
theorem dX5_covers_12 : decode cX5_covers 12 = .ok (.aload_n 0, 1) := dk_42 (dk_at dksX5_covers_0 12 rfl rfl)
theorem dX5_covers_13 : decode cX5_covers 13 = .ok (.getfield 47, 3) := dk_180 0 47 (dk_at dksX5_covers_0 13 rfl rfl)
theorem dX5_covers_16 : decode cX5_covers 16 = .ok (.invokevirtual 73, 3) := dk_182 0 73 (dk_at dksX5_covers_0 16 rfl rfl)
theorem dX5_covers_19 : decode cX5_covers 19 = .ok (.ifCond .eq 32, 3) := dk_153 0 32 (dk_at dksX5_covers_0 19 rfl rfl)
theorem dX5_covers_22 : decode cX5_covers 22 = .ok (.aload_n 0, 1) := dk_42 (dk_at dksX5_covers_0 22 rfl rfl)
theorem dX5_covers_23 : decode cX5_covers 23 = .ok (.getfield 43, 3) := dk_180 0 43 (dk_at dksX5_covers_1 0 rfl rfl)
theorem dX5_covers_26 : decode cX5_covers 26 = .ok (.aload_n 1, 1) := dk_43 (dk_at dksX5_covers_1 3 rfl rfl)
theorem dX5_covers_27 : decode cX5_covers 27 = .ok (.getfield 77, 3) := dk_180 0 77 (dk_at dksX5_covers_1 4 rfl rfl)
theorem dX5_covers_30 : decode cX5_covers 30 = .ok (.invokevirtual 78, 3) := dk_182 0 78 (dk_at dksX5_covers_1 7 rfl rfl)
theorem dX5_covers_33 : decode cX5_covers 33 = .ok (.ifCond .eq 18, 3) := dk_153 0 18 (dk_at dksX5_covers_1 10 rfl rfl)
theorem dX5_covers_36 : decode cX5_covers 36 = .ok (.aload_n 1, 1) := dk_43 (dk_at dksX5_covers_1 13 rfl rfl)
theorem dX5_covers_37 : decode cX5_covers 37 = .ok (.aload_n 0, 1) := dk_42 (dk_at dksX5_covers_1 14 rfl rfl)
theorem dX5_covers_38 : decode cX5_covers 38 = .ok (.getfield 15, 3) := dk_180 0 15 (dk_at dksX5_covers_1 15 rfl rfl)
theorem dX5_covers_41 : decode cX5_covers 41 = .ok (.invokevirtual 81, 3) := dk_182 0 81 (dk_at dksX5_covers_1 18 rfl rfl)
theorem dX5_covers_44 : decode cX5_covers 44 = .ok (.ifCond .eq 7, 3) := dk_153 0 7 (dk_at dksX5_covers_1 21 rfl rfl)
theorem dX5_covers_47 : decode cX5_covers 47 = .ok (.iconst 1, 1) := dk_4 (dk_at dksX5_covers_2 0 rfl rfl)
theorem dX5_covers_48 : decode cX5_covers 48 = .ok (.goto 4, 3) := dk_167 0 4 (dk_at dksX5_covers_2 1 rfl rfl)
theorem dX5_covers_51 : decode cX5_covers 51 = .ok (.iconst 0, 1) := dk_3 (dk_at dksX5_covers_2 4 rfl rfl)
theorem dX5_covers_52 : decode cX5_covers 52 = .ok (.ireturn, 1) := dk_172 (dk_at dksX5_covers_2 5 rfl rfl)
abbrev cX5_compared : ByteArray := prog_13_method_10_code
def yX5_compared : MethodName := ⟨RX5, "compared", "(LPolicyNotation$Rule;LPolicyNotation$Rule;)I"⟩
def dkwX5_compared_3 : List UInt8 := [180, 0, 112, 100, 167, 0, 12, 44, 180, 0, 115, 43, 180, 0, 115, 100, 172]
abbrev dktX5_compared_3 : List UInt8 := dkwX5_compared_3 ++ []
def dkwX5_compared_2 : List UInt8 := [29, 153, 0, 5, 29, 172, 43, 180, 0, 112, 44, 180, 0, 112, 159, 0, 15, 44, 180, 0, 112, 43]
abbrev dktX5_compared_2 : List UInt8 := dkwX5_compared_2 ++ dktX5_compared_3
def dkwX5_compared_1 : List UInt8 := [180, 0, 3, 180, 0, 25, 180, 0, 29, 43, 180, 0, 77, 182, 0, 35, 192, 0, 41, 182, 0, 109, 100, 62]
abbrev dktX5_compared_1 : List UInt8 := dkwX5_compared_1 ++ dktX5_compared_2
def dkwX5_compared_0 : List UInt8 := [42, 180, 0, 3, 180, 0, 25, 180, 0, 29, 44, 180, 0, 77, 182, 0, 35, 192, 0, 41, 182, 0, 109, 42]
abbrev dktX5_compared_0 : List UInt8 := dkwX5_compared_0 ++ dktX5_compared_1
theorem dksX5_compared_0 : cX5_compared.data.toList.drop 0 = dktX5_compared_0 := by decide +kernel
theorem dksX5_compared_1 : cX5_compared.data.toList.drop 24 = dktX5_compared_1 := dk_seg dksX5_compared_0 24 rfl rfl
theorem dksX5_compared_2 : cX5_compared.data.toList.drop 48 = dktX5_compared_2 := dk_seg dksX5_compared_1 24 rfl rfl
theorem dksX5_compared_3 : cX5_compared.data.toList.drop 70 = dktX5_compared_3 := dk_seg dksX5_compared_2 22 rfl rfl
theorem dX5_compared_0 : decode cX5_compared 0 = .ok (.aload_n 0, 1) := dk_42 (dk_at dksX5_compared_0 0 rfl rfl)
theorem dX5_compared_1 : decode cX5_compared 1 = .ok (.getfield 3, 3) := dk_180 0 3 (dk_at dksX5_compared_0 1 rfl rfl)
theorem dX5_compared_4 : decode cX5_compared 4 = .ok (.getfield 25, 3) := dk_180 0 25 (dk_at dksX5_compared_0 4 rfl rfl)
theorem dX5_compared_7 : decode cX5_compared 7 = .ok (.getfield 29, 3) := dk_180 0 29 (dk_at dksX5_compared_0 7 rfl rfl)
theorem dX5_compared_10 : decode cX5_compared 10 = .ok (.aload_n 2, 1) := dk_44 (dk_at dksX5_compared_0 10 rfl rfl)
theorem dX5_compared_11 : decode cX5_compared 11 = .ok (.getfield 77, 3) := dk_180 0 77 (dk_at dksX5_compared_0 11 rfl rfl)
theorem dX5_compared_14 : decode cX5_compared 14 = .ok (.invokevirtual 35, 3) := dk_182 0 35 (dk_at dksX5_compared_0 14 rfl rfl)
theorem dX5_compared_17 : decode cX5_compared 17 = .ok (.checkcast 41, 3) := dk_192 0 41 (dk_at dksX5_compared_0 17 rfl rfl)
theorem dX5_compared_20 : decode cX5_compared 20 = .ok (.invokevirtual 109, 3) := dk_182 0 109 (dk_at dksX5_compared_0 20 rfl rfl)
theorem dX5_compared_23 : decode cX5_compared 23 = .ok (.aload_n 0, 1) := dk_42 (dk_at dksX5_compared_0 23 rfl rfl)
theorem dX5_compared_24 : decode cX5_compared 24 = .ok (.getfield 3, 3) := dk_180 0 3 (dk_at dksX5_compared_1 0 rfl rfl)
theorem dX5_compared_27 : decode cX5_compared 27 = .ok (.getfield 25, 3) := dk_180 0 25 (dk_at dksX5_compared_1 3 rfl rfl)
theorem dX5_compared_30 : decode cX5_compared 30 = .ok (.getfield 29, 3) := dk_180 0 29 (dk_at dksX5_compared_1 6 rfl rfl)
theorem dX5_compared_33 : decode cX5_compared 33 = .ok (.aload_n 1, 1) := dk_43 (dk_at dksX5_compared_1 9 rfl rfl)
theorem dX5_compared_34 : decode cX5_compared 34 = .ok (.getfield 77, 3) := dk_180 0 77 (dk_at dksX5_compared_1 10 rfl rfl)
theorem dX5_compared_37 : decode cX5_compared 37 = .ok (.invokevirtual 35, 3) := dk_182 0 35 (dk_at dksX5_compared_1 13 rfl rfl)
theorem dX5_compared_40 : decode cX5_compared 40 = .ok (.checkcast 41, 3) := dk_192 0 41 (dk_at dksX5_compared_1 16 rfl rfl)
theorem dX5_compared_43 : decode cX5_compared 43 = .ok (.invokevirtual 109, 3) := dk_182 0 109 (dk_at dksX5_compared_1 19 rfl rfl)
theorem dX5_compared_46 : decode cX5_compared 46 = .ok (.isub, 1) := dk_100 (dk_at dksX5_compared_1 22 rfl rfl)
theorem dX5_compared_47 : decode cX5_compared 47 = .ok (.istore_n 3, 1) := dk_62 (dk_at dksX5_compared_1 23 rfl rfl)
theorem dX5_compared_48 : decode cX5_compared 48 = .ok (.iload_n 3, 1) := dk_29 (dk_at dksX5_compared_2 0 rfl rfl)
theorem dX5_compared_49 : decode cX5_compared 49 = .ok (.ifCond .eq 5, 3) := dk_153 0 5 (dk_at dksX5_compared_2 1 rfl rfl)
theorem dX5_compared_52 : decode cX5_compared 52 = .ok (.iload_n 3, 1) := dk_29 (dk_at dksX5_compared_2 4 rfl rfl)
theorem dX5_compared_53 : decode cX5_compared 53 = .ok (.ireturn, 1) := dk_172 (dk_at dksX5_compared_2 5 rfl rfl)
theorem dX5_compared_54 : decode cX5_compared 54 = .ok (.aload_n 1, 1) := dk_43 (dk_at dksX5_compared_2 6 rfl rfl)
theorem dX5_compared_55 : decode cX5_compared 55 = .ok (.getfield 112, 3) := dk_180 0 112 (dk_at dksX5_compared_2 7 rfl rfl)
theorem dX5_compared_58 : decode cX5_compared 58 = .ok (.aload_n 2, 1) := dk_44 (dk_at dksX5_compared_2 10 rfl rfl)
theorem dX5_compared_59 : decode cX5_compared 59 = .ok (.getfield 112, 3) := dk_180 0 112 (dk_at dksX5_compared_2 11 rfl rfl)
theorem dX5_compared_62 : decode cX5_compared 62 = .ok (.if_icmp .eq 15, 3) := dk_159 0 15 (dk_at dksX5_compared_2 14 rfl rfl)
theorem dX5_compared_65 : decode cX5_compared 65 = .ok (.aload_n 2, 1) := dk_44 (dk_at dksX5_compared_2 17 rfl rfl)
theorem dX5_compared_66 : decode cX5_compared 66 = .ok (.getfield 112, 3) := dk_180 0 112 (dk_at dksX5_compared_2 18 rfl rfl)
theorem dX5_compared_69 : decode cX5_compared 69 = .ok (.aload_n 1, 1) := dk_43 (dk_at dksX5_compared_2 21 rfl rfl)
theorem dX5_compared_70 : decode cX5_compared 70 = .ok (.getfield 112, 3) := dk_180 0 112 (dk_at dksX5_compared_3 0 rfl rfl)
theorem dX5_compared_73 : decode cX5_compared 73 = .ok (.isub, 1) := dk_100 (dk_at dksX5_compared_3 3 rfl rfl)
theorem dX5_compared_74 : decode cX5_compared 74 = .ok (.goto 12, 3) := dk_167 0 12 (dk_at dksX5_compared_3 4 rfl rfl)
theorem dX5_compared_77 : decode cX5_compared 77 = .ok (.aload_n 2, 1) := dk_44 (dk_at dksX5_compared_3 7 rfl rfl)
theorem dX5_compared_78 : decode cX5_compared 78 = .ok (.getfield 115, 3) := dk_180 0 115 (dk_at dksX5_compared_3 8 rfl rfl)
theorem dX5_compared_81 : decode cX5_compared 81 = .ok (.aload_n 1, 1) := dk_43 (dk_at dksX5_compared_3 11 rfl rfl)
theorem dX5_compared_82 : decode cX5_compared 82 = .ok (.getfield 115, 3) := dk_180 0 115 (dk_at dksX5_compared_3 12 rfl rfl)
theorem dX5_compared_85 : decode cX5_compared 85 = .ok (.isub, 1) := dk_100 (dk_at dksX5_compared_3 15 rfl rfl)
theorem dX5_compared_86 : decode cX5_compared 86 = .ok (.ireturn, 1) := dk_172 (dk_at dksX5_compared_3 16 rfl rfl)
abbrev cX5_chained : ByteArray := prog_13_method_19_code
def yX5_chained : MethodName := ⟨RX5, "chained", "()I"⟩
def dkwX5_chained_1 : List UInt8 := [61, 132, 3, 1, 167, 255, 237, 28, 172]
abbrev dktX5_chained_1 : List UInt8 := dkwX5_chained_1 ++ []
def dkwX5_chained_0 : List UInt8 := [42, 182, 0, 151, 60, 3, 61, 3, 62, 29, 27, 162, 0, 20, 28, 4, 42, 180, 0, 22, 29, 46, 120, 128]
abbrev dktX5_chained_0 : List UInt8 := dkwX5_chained_0 ++ dktX5_chained_1
theorem dksX5_chained_0 : cX5_chained.data.toList.drop 0 = dktX5_chained_0 := by decide +kernel
theorem dksX5_chained_1 : cX5_chained.data.toList.drop 24 = dktX5_chained_1 := dk_seg dksX5_chained_0 24 rfl rfl
theorem dX5_chained_0 : decode cX5_chained 0 = .ok (.aload_n 0, 1) := dk_42 (dk_at dksX5_chained_0 0 rfl rfl)
theorem dX5_chained_1 : decode cX5_chained 1 = .ok (.invokevirtual 151, 3) := dk_182 0 151 (dk_at dksX5_chained_0 1 rfl rfl)
theorem dX5_chained_4 : decode cX5_chained 4 = .ok (.istore_n 1, 1) := dk_60 (dk_at dksX5_chained_0 4 rfl rfl)
theorem dX5_chained_5 : decode cX5_chained 5 = .ok (.iconst 0, 1) := dk_3 (dk_at dksX5_chained_0 5 rfl rfl)
theorem dX5_chained_6 : decode cX5_chained 6 = .ok (.istore_n 2, 1) := dk_61 (dk_at dksX5_chained_0 6 rfl rfl)
theorem dX5_chained_7 : decode cX5_chained 7 = .ok (.iconst 0, 1) := dk_3 (dk_at dksX5_chained_0 7 rfl rfl)
theorem dX5_chained_8 : decode cX5_chained 8 = .ok (.istore_n 3, 1) := dk_62 (dk_at dksX5_chained_0 8 rfl rfl)
theorem dX5_chained_9 : decode cX5_chained 9 = .ok (.iload_n 3, 1) := dk_29 (dk_at dksX5_chained_0 9 rfl rfl)
theorem dX5_chained_10 : decode cX5_chained 10 = .ok (.iload_n 1, 1) := dk_27 (dk_at dksX5_chained_0 10 rfl rfl)
theorem dX5_chained_11 : decode cX5_chained 11 = .ok (.if_icmp .ge 20, 3) := dk_162 0 20 (dk_at dksX5_chained_0 11 rfl rfl)
theorem dX5_chained_14 : decode cX5_chained 14 = .ok (.iload_n 2, 1) := dk_28 (dk_at dksX5_chained_0 14 rfl rfl)
theorem dX5_chained_15 : decode cX5_chained 15 = .ok (.iconst 1, 1) := dk_4 (dk_at dksX5_chained_0 15 rfl rfl)
theorem dX5_chained_16 : decode cX5_chained 16 = .ok (.aload_n 0, 1) := dk_42 (dk_at dksX5_chained_0 16 rfl rfl)
theorem dX5_chained_17 : decode cX5_chained 17 = .ok (.getfield 22, 3) := dk_180 0 22 (dk_at dksX5_chained_0 17 rfl rfl)
theorem dX5_chained_20 : decode cX5_chained 20 = .ok (.iload_n 3, 1) := dk_29 (dk_at dksX5_chained_0 20 rfl rfl)
theorem dX5_chained_21 : decode cX5_chained 21 = .ok (.iaload, 1) := dk_46 (dk_at dksX5_chained_0 21 rfl rfl)
theorem dX5_chained_22 : decode cX5_chained 22 = .ok (.ishl, 1) := dk_120 (dk_at dksX5_chained_0 22 rfl rfl)
theorem dX5_chained_23 : decode cX5_chained 23 = .ok (.ior, 1) := dk_128 (dk_at dksX5_chained_0 23 rfl rfl)
theorem dX5_chained_24 : decode cX5_chained 24 = .ok (.istore_n 2, 1) := dk_61 (dk_at dksX5_chained_1 0 rfl rfl)
theorem dX5_chained_25 : decode cX5_chained 25 = .ok (.iinc 3 1, 3) := dk_132 3 1 (dk_at dksX5_chained_1 1 rfl rfl)
theorem dX5_chained_28 : decode cX5_chained 28 = .ok (.goto (-19), 3) := dk_167 255 237 (dk_at dksX5_chained_1 4 rfl rfl)
theorem dX5_chained_31 : decode cX5_chained 31 = .ok (.iload_n 2, 1) := dk_28 (dk_at dksX5_chained_1 7 rfl rfl)
theorem dX5_chained_32 : decode cX5_chained 32 = .ok (.ireturn, 1) := dk_172 (dk_at dksX5_chained_1 8 rfl rfl)
abbrev cX5_chain : ByteArray := prog_13_method_17_code
def yX5_chain : MethodName := ⟨RX5, "chain", "()I"⟩
def dkwX5_chain_0 : List UInt8 := [42, 3, 181, 0, 140, 42, 42, 182, 0, 126, 182, 0, 147, 42, 180, 0, 140, 172]
abbrev dktX5_chain_0 : List UInt8 := dkwX5_chain_0 ++ []
theorem dksX5_chain_0 : cX5_chain.data.toList.drop 0 = dktX5_chain_0 := by decide +kernel
theorem dX5_chain_0 : decode cX5_chain 0 = .ok (.aload_n 0, 1) := dk_42 (dk_at dksX5_chain_0 0 rfl rfl)
theorem dX5_chain_1 : decode cX5_chain 1 = .ok (.iconst 0, 1) := dk_3 (dk_at dksX5_chain_0 1 rfl rfl)
theorem dX5_chain_2 : decode cX5_chain 2 = .ok (.putfield 140, 3) := dk_181 0 140 (dk_at dksX5_chain_0 2 rfl rfl)
theorem dX5_chain_5 : decode cX5_chain 5 = .ok (.aload_n 0, 1) := dk_42 (dk_at dksX5_chain_0 5 rfl rfl)
theorem dX5_chain_6 : decode cX5_chain 6 = .ok (.aload_n 0, 1) := dk_42 (dk_at dksX5_chain_0 6 rfl rfl)
theorem dX5_chain_7 : decode cX5_chain 7 = .ok (.invokevirtual 126, 3) := dk_182 0 126 (dk_at dksX5_chain_0 7 rfl rfl)
theorem dX5_chain_10 : decode cX5_chain 10 = .ok (.invokevirtual 147, 3) := dk_182 0 147 (dk_at dksX5_chain_0 10 rfl rfl)
theorem dX5_chain_13 : decode cX5_chain 13 = .ok (.aload_n 0, 1) := dk_42 (dk_at dksX5_chain_0 13 rfl rfl)
theorem dX5_chain_14 : decode cX5_chain 14 = .ok (.getfield 140, 3) := dk_180 0 140 (dk_at dksX5_chain_0 14 rfl rfl)
theorem dX5_chain_17 : decode cX5_chain 17 = .ok (.ireturn, 1) := dk_172 (dk_at dksX5_chain_0 17 rfl rfl)
abbrev cX5_goesOn : ByteArray := prog_13_method_16_code
def yX5_goesOn : MethodName := ⟨RX5, "goesOn", "(LPolicyNotation$Rule;)V"⟩
def dkwX5_goesOn_1 : List UInt8 := [96, 181, 0, 140, 42, 42, 43, 182, 0, 143, 182, 0, 147, 177]
abbrev dktX5_goesOn_1 : List UInt8 := dkwX5_goesOn_1 ++ []
def dkwX5_goesOn_0 : List UInt8 := [43, 199, 0, 4, 177, 42, 180, 0, 22, 42, 180, 0, 140, 43, 180, 0, 68, 79, 42, 89, 180, 0, 140, 4]
abbrev dktX5_goesOn_0 : List UInt8 := dkwX5_goesOn_0 ++ dktX5_goesOn_1
theorem dksX5_goesOn_0 : cX5_goesOn.data.toList.drop 0 = dktX5_goesOn_0 := by decide +kernel
theorem dksX5_goesOn_1 : cX5_goesOn.data.toList.drop 24 = dktX5_goesOn_1 := dk_seg dksX5_goesOn_0 24 rfl rfl
theorem dX5_goesOn_0 : decode cX5_goesOn 0 = .ok (.aload_n 1, 1) := dk_43 (dk_at dksX5_goesOn_0 0 rfl rfl)
theorem dX5_goesOn_1 : decode cX5_goesOn 1 = .ok (.ifnonnull 4, 3) := dk_199 0 4 (dk_at dksX5_goesOn_0 1 rfl rfl)
theorem dX5_goesOn_4 : decode cX5_goesOn 4 = .ok (.return_, 1) := dk_177 (dk_at dksX5_goesOn_0 4 rfl rfl)
theorem dX5_goesOn_5 : decode cX5_goesOn 5 = .ok (.aload_n 0, 1) := dk_42 (dk_at dksX5_goesOn_0 5 rfl rfl)
theorem dX5_goesOn_6 : decode cX5_goesOn 6 = .ok (.getfield 22, 3) := dk_180 0 22 (dk_at dksX5_goesOn_0 6 rfl rfl)
theorem dX5_goesOn_9 : decode cX5_goesOn 9 = .ok (.aload_n 0, 1) := dk_42 (dk_at dksX5_goesOn_0 9 rfl rfl)
theorem dX5_goesOn_10 : decode cX5_goesOn 10 = .ok (.getfield 140, 3) := dk_180 0 140 (dk_at dksX5_goesOn_0 10 rfl rfl)
theorem dX5_goesOn_13 : decode cX5_goesOn 13 = .ok (.aload_n 1, 1) := dk_43 (dk_at dksX5_goesOn_0 13 rfl rfl)
theorem dX5_goesOn_14 : decode cX5_goesOn 14 = .ok (.getfield 68, 3) := dk_180 0 68 (dk_at dksX5_goesOn_0 14 rfl rfl)
theorem dX5_goesOn_17 : decode cX5_goesOn 17 = .ok (.iastore, 1) := dk_79 (dk_at dksX5_goesOn_0 17 rfl rfl)
theorem dX5_goesOn_18 : decode cX5_goesOn 18 = .ok (.aload_n 0, 1) := dk_42 (dk_at dksX5_goesOn_0 18 rfl rfl)
theorem dX5_goesOn_19 : decode cX5_goesOn 19 = .ok (.dup, 1) := dk_89 (dk_at dksX5_goesOn_0 19 rfl rfl)
theorem dX5_goesOn_20 : decode cX5_goesOn 20 = .ok (.getfield 140, 3) := dk_180 0 140 (dk_at dksX5_goesOn_0 20 rfl rfl)
theorem dX5_goesOn_23 : decode cX5_goesOn 23 = .ok (.iconst 1, 1) := dk_4 (dk_at dksX5_goesOn_0 23 rfl rfl)
theorem dX5_goesOn_24 : decode cX5_goesOn 24 = .ok (.iadd, 1) := dk_96 (dk_at dksX5_goesOn_1 0 rfl rfl)
theorem dX5_goesOn_25 : decode cX5_goesOn 25 = .ok (.putfield 140, 3) := dk_181 0 140 (dk_at dksX5_goesOn_1 1 rfl rfl)
theorem dX5_goesOn_28 : decode cX5_goesOn 28 = .ok (.aload_n 0, 1) := dk_42 (dk_at dksX5_goesOn_1 4 rfl rfl)
theorem dX5_goesOn_29 : decode cX5_goesOn 29 = .ok (.aload_n 0, 1) := dk_42 (dk_at dksX5_goesOn_1 5 rfl rfl)
theorem dX5_goesOn_30 : decode cX5_goesOn 30 = .ok (.aload_n 1, 1) := dk_43 (dk_at dksX5_goesOn_1 6 rfl rfl)
theorem dX5_goesOn_31 : decode cX5_goesOn 31 = .ok (.invokevirtual 143, 3) := dk_182 0 143 (dk_at dksX5_goesOn_1 7 rfl rfl)
theorem dX5_goesOn_34 : decode cX5_goesOn 34 = .ok (.invokevirtual 147, 3) := dk_182 0 147 (dk_at dksX5_goesOn_1 10 rfl rfl)
theorem dX5_goesOn_37 : decode cX5_goesOn 37 = .ok (.return_, 1) := dk_177 (dk_at dksX5_goesOn_1 13 rfl rfl)
abbrev cX5_next : ByteArray := prog_13_method_15_code
def yX5_next : MethodName := ⟨RX5, "next", "(LPolicyNotation$Rule;)LPolicyNotation$Rule;"⟩
def dkwX5_next_6 : List UInt8 := [167, 255, 127, 44, 176]
abbrev dktX5_next_6 : List UInt8 := dkwX5_next_6 ++ []
def dkwX5_next_5 : List UInt8 := [25, 5, 167, 0, 4, 44, 77, 21, 7, 153, 0, 8, 21, 6, 167, 0, 4, 29, 62, 132, 4, 1]
abbrev dktX5_next_5 : List UInt8 := dkwX5_next_5 ++ dktX5_next_6
def dkwX5_next_4 : List UInt8 := [160, 0, 16, 25, 5, 44, 182, 0, 137, 153, 0, 7, 4, 167, 0, 4, 3, 54, 7, 21, 7, 153, 0, 8]
abbrev dktX5_next_4 : List UInt8 := dkwX5_next_4 ++ dktX5_next_5
def dkwX5_next_3 : List UInt8 := [25, 5, 182, 0, 102, 54, 6, 44, 198, 0, 27, 21, 6, 153, 0, 7, 29, 153, 0, 18, 21, 6, 29]
abbrev dktX5_next_3 : List UInt8 := dkwX5_next_3 ++ dktX5_next_4
def dkwX5_next_2 : List UInt8 := [58, 5, 25, 5, 182, 0, 99, 43, 180, 0, 68, 160, 0, 79, 42, 25, 5, 182, 0, 89, 153, 0, 70, 42]
abbrev dktX5_next_2 : List UInt8 := dkwX5_next_2 ++ dktX5_next_3
def dkwX5_next_1 : List UInt8 := [182, 0, 95, 162, 0, 117, 42, 180, 0, 3, 180, 0, 25, 180, 0, 92, 21, 4, 182, 0, 35, 192, 0, 69]
abbrev dktX5_next_1 : List UInt8 := dkwX5_next_1 ++ dktX5_next_2
def dkwX5_next_0 : List UInt8 := [1, 77, 3, 62, 43, 180, 0, 68, 4, 96, 54, 4, 21, 4, 42, 180, 0, 3, 180, 0, 25, 180, 0, 92]
abbrev dktX5_next_0 : List UInt8 := dkwX5_next_0 ++ dktX5_next_1
theorem dksX5_next_0 : cX5_next.data.toList.drop 0 = dktX5_next_0 := by decide +kernel
theorem dksX5_next_1 : cX5_next.data.toList.drop 24 = dktX5_next_1 := dk_seg dksX5_next_0 24 rfl rfl
theorem dksX5_next_2 : cX5_next.data.toList.drop 48 = dktX5_next_2 := dk_seg dksX5_next_1 24 rfl rfl
theorem dksX5_next_3 : cX5_next.data.toList.drop 72 = dktX5_next_3 := dk_seg dksX5_next_2 24 rfl rfl
theorem dksX5_next_4 : cX5_next.data.toList.drop 95 = dktX5_next_4 := dk_seg dksX5_next_3 23 rfl rfl
theorem dksX5_next_5 : cX5_next.data.toList.drop 119 = dktX5_next_5 := dk_seg dksX5_next_4 24 rfl rfl
theorem dksX5_next_6 : cX5_next.data.toList.drop 141 = dktX5_next_6 := dk_seg dksX5_next_5 22 rfl rfl
theorem dX5_next_0 : decode cX5_next 0 = .ok (.aconst_null, 1) := dk_1 (dk_at dksX5_next_0 0 rfl rfl)
theorem dX5_next_1 : decode cX5_next 1 = .ok (.astore_n 2, 1) := dk_77 (dk_at dksX5_next_0 1 rfl rfl)
theorem dX5_next_2 : decode cX5_next 2 = .ok (.iconst 0, 1) := dk_3 (dk_at dksX5_next_0 2 rfl rfl)
theorem dX5_next_3 : decode cX5_next 3 = .ok (.istore_n 3, 1) := dk_62 (dk_at dksX5_next_0 3 rfl rfl)
theorem dX5_next_4 : decode cX5_next 4 = .ok (.aload_n 1, 1) := dk_43 (dk_at dksX5_next_0 4 rfl rfl)
theorem dX5_next_5 : decode cX5_next 5 = .ok (.getfield 68, 3) := dk_180 0 68 (dk_at dksX5_next_0 5 rfl rfl)
theorem dX5_next_8 : decode cX5_next 8 = .ok (.iconst 1, 1) := dk_4 (dk_at dksX5_next_0 8 rfl rfl)
theorem dX5_next_9 : decode cX5_next 9 = .ok (.iadd, 1) := dk_96 (dk_at dksX5_next_0 9 rfl rfl)
theorem dX5_next_10 : decode cX5_next 10 = .ok (.istore 4, 2) := dk_54 4 (dk_at dksX5_next_0 10 rfl rfl)
theorem dX5_next_12 : decode cX5_next 12 = .ok (.iload 4, 2) := dk_21 4 (dk_at dksX5_next_0 12 rfl rfl)
theorem dX5_next_14 : decode cX5_next 14 = .ok (.aload_n 0, 1) := dk_42 (dk_at dksX5_next_0 14 rfl rfl)
theorem dX5_next_15 : decode cX5_next 15 = .ok (.getfield 3, 3) := dk_180 0 3 (dk_at dksX5_next_0 15 rfl rfl)
theorem dX5_next_18 : decode cX5_next 18 = .ok (.getfield 25, 3) := dk_180 0 25 (dk_at dksX5_next_0 18 rfl rfl)
theorem dX5_next_21 : decode cX5_next 21 = .ok (.getfield 92, 3) := dk_180 0 92 (dk_at dksX5_next_0 21 rfl rfl)
theorem dX5_next_24 : decode cX5_next 24 = .ok (.invokevirtual 95, 3) := dk_182 0 95 (dk_at dksX5_next_1 0 rfl rfl)
theorem dX5_next_27 : decode cX5_next 27 = .ok (.if_icmp .ge 117, 3) := dk_162 0 117 (dk_at dksX5_next_1 3 rfl rfl)
theorem dX5_next_30 : decode cX5_next 30 = .ok (.aload_n 0, 1) := dk_42 (dk_at dksX5_next_1 6 rfl rfl)
theorem dX5_next_31 : decode cX5_next 31 = .ok (.getfield 3, 3) := dk_180 0 3 (dk_at dksX5_next_1 7 rfl rfl)
theorem dX5_next_34 : decode cX5_next 34 = .ok (.getfield 25, 3) := dk_180 0 25 (dk_at dksX5_next_1 10 rfl rfl)
theorem dX5_next_37 : decode cX5_next 37 = .ok (.getfield 92, 3) := dk_180 0 92 (dk_at dksX5_next_1 13 rfl rfl)
theorem dX5_next_40 : decode cX5_next 40 = .ok (.iload 4, 2) := dk_21 4 (dk_at dksX5_next_1 16 rfl rfl)
theorem dX5_next_42 : decode cX5_next 42 = .ok (.invokevirtual 35, 3) := dk_182 0 35 (dk_at dksX5_next_1 18 rfl rfl)
theorem dX5_next_45 : decode cX5_next 45 = .ok (.checkcast 69, 3) := dk_192 0 69 (dk_at dksX5_next_1 21 rfl rfl)
theorem dX5_next_48 : decode cX5_next 48 = .ok (.astore 5, 2) := dk_58 5 (dk_at dksX5_next_2 0 rfl rfl)
theorem dX5_next_50 : decode cX5_next 50 = .ok (.aload 5, 2) := dk_25 5 (dk_at dksX5_next_2 2 rfl rfl)
theorem dX5_next_52 : decode cX5_next 52 = .ok (.invokevirtual 99, 3) := dk_182 0 99 (dk_at dksX5_next_2 4 rfl rfl)
theorem dX5_next_55 : decode cX5_next 55 = .ok (.aload_n 1, 1) := dk_43 (dk_at dksX5_next_2 7 rfl rfl)
theorem dX5_next_56 : decode cX5_next 56 = .ok (.getfield 68, 3) := dk_180 0 68 (dk_at dksX5_next_2 8 rfl rfl)
theorem dX5_next_59 : decode cX5_next 59 = .ok (.if_icmp .ne 79, 3) := dk_160 0 79 (dk_at dksX5_next_2 11 rfl rfl)
theorem dX5_next_62 : decode cX5_next 62 = .ok (.aload_n 0, 1) := dk_42 (dk_at dksX5_next_2 14 rfl rfl)
theorem dX5_next_63 : decode cX5_next 63 = .ok (.aload 5, 2) := dk_25 5 (dk_at dksX5_next_2 15 rfl rfl)
theorem dX5_next_65 : decode cX5_next 65 = .ok (.invokevirtual 89, 3) := dk_182 0 89 (dk_at dksX5_next_2 17 rfl rfl)
theorem dX5_next_68 : decode cX5_next 68 = .ok (.ifCond .eq 70, 3) := dk_153 0 70 (dk_at dksX5_next_2 20 rfl rfl)
theorem dX5_next_71 : decode cX5_next 71 = .ok (.aload_n 0, 1) := dk_42 (dk_at dksX5_next_2 23 rfl rfl)
theorem dX5_next_72 : decode cX5_next 72 = .ok (.aload 5, 2) := dk_25 5 (dk_at dksX5_next_3 0 rfl rfl)
theorem dX5_next_74 : decode cX5_next 74 = .ok (.invokevirtual 102, 3) := dk_182 0 102 (dk_at dksX5_next_3 2 rfl rfl)
theorem dX5_next_77 : decode cX5_next 77 = .ok (.istore 6, 2) := dk_54 6 (dk_at dksX5_next_3 5 rfl rfl)
theorem dX5_next_79 : decode cX5_next 79 = .ok (.aload_n 2, 1) := dk_44 (dk_at dksX5_next_3 7 rfl rfl)
theorem dX5_next_80 : decode cX5_next 80 = .ok (.ifnull 27, 3) := dk_198 0 27 (dk_at dksX5_next_3 8 rfl rfl)
theorem dX5_next_83 : decode cX5_next 83 = .ok (.iload 6, 2) := dk_21 6 (dk_at dksX5_next_3 11 rfl rfl)
theorem dX5_next_85 : decode cX5_next 85 = .ok (.ifCond .eq 7, 3) := dk_153 0 7 (dk_at dksX5_next_3 13 rfl rfl)
theorem dX5_next_88 : decode cX5_next 88 = .ok (.iload_n 3, 1) := dk_29 (dk_at dksX5_next_3 16 rfl rfl)
theorem dX5_next_89 : decode cX5_next 89 = .ok (.ifCond .eq 18, 3) := dk_153 0 18 (dk_at dksX5_next_3 17 rfl rfl)
theorem dX5_next_92 : decode cX5_next 92 = .ok (.iload 6, 2) := dk_21 6 (dk_at dksX5_next_3 20 rfl rfl)
theorem dX5_next_94 : decode cX5_next 94 = .ok (.iload_n 3, 1) := dk_29 (dk_at dksX5_next_3 22 rfl rfl)
theorem dX5_next_95 : decode cX5_next 95 = .ok (.if_icmp .ne 16, 3) := dk_160 0 16 (dk_at dksX5_next_4 0 rfl rfl)
theorem dX5_next_98 : decode cX5_next 98 = .ok (.aload 5, 2) := dk_25 5 (dk_at dksX5_next_4 3 rfl rfl)
theorem dX5_next_100 : decode cX5_next 100 = .ok (.aload_n 2, 1) := dk_44 (dk_at dksX5_next_4 5 rfl rfl)
theorem dX5_next_101 : decode cX5_next 101 = .ok (.invokevirtual 137, 3) := dk_182 0 137 (dk_at dksX5_next_4 6 rfl rfl)
theorem dX5_next_104 : decode cX5_next 104 = .ok (.ifCond .eq 7, 3) := dk_153 0 7 (dk_at dksX5_next_4 9 rfl rfl)
theorem dX5_next_107 : decode cX5_next 107 = .ok (.iconst 1, 1) := dk_4 (dk_at dksX5_next_4 12 rfl rfl)
theorem dX5_next_108 : decode cX5_next 108 = .ok (.goto 4, 3) := dk_167 0 4 (dk_at dksX5_next_4 13 rfl rfl)
theorem dX5_next_111 : decode cX5_next 111 = .ok (.iconst 0, 1) := dk_3 (dk_at dksX5_next_4 16 rfl rfl)
theorem dX5_next_112 : decode cX5_next 112 = .ok (.istore 7, 2) := dk_54 7 (dk_at dksX5_next_4 17 rfl rfl)
theorem dX5_next_114 : decode cX5_next 114 = .ok (.iload 7, 2) := dk_21 7 (dk_at dksX5_next_4 19 rfl rfl)
theorem dX5_next_116 : decode cX5_next 116 = .ok (.ifCond .eq 8, 3) := dk_153 0 8 (dk_at dksX5_next_4 21 rfl rfl)
theorem dX5_next_119 : decode cX5_next 119 = .ok (.aload 5, 2) := dk_25 5 (dk_at dksX5_next_5 0 rfl rfl)
theorem dX5_next_121 : decode cX5_next 121 = .ok (.goto 4, 3) := dk_167 0 4 (dk_at dksX5_next_5 2 rfl rfl)
theorem dX5_next_124 : decode cX5_next 124 = .ok (.aload_n 2, 1) := dk_44 (dk_at dksX5_next_5 5 rfl rfl)
theorem dX5_next_125 : decode cX5_next 125 = .ok (.astore_n 2, 1) := dk_77 (dk_at dksX5_next_5 6 rfl rfl)
theorem dX5_next_126 : decode cX5_next 126 = .ok (.iload 7, 2) := dk_21 7 (dk_at dksX5_next_5 7 rfl rfl)
theorem dX5_next_128 : decode cX5_next 128 = .ok (.ifCond .eq 8, 3) := dk_153 0 8 (dk_at dksX5_next_5 9 rfl rfl)
theorem dX5_next_131 : decode cX5_next 131 = .ok (.iload 6, 2) := dk_21 6 (dk_at dksX5_next_5 12 rfl rfl)
theorem dX5_next_133 : decode cX5_next 133 = .ok (.goto 4, 3) := dk_167 0 4 (dk_at dksX5_next_5 14 rfl rfl)
theorem dX5_next_136 : decode cX5_next 136 = .ok (.iload_n 3, 1) := dk_29 (dk_at dksX5_next_5 17 rfl rfl)
theorem dX5_next_137 : decode cX5_next 137 = .ok (.istore_n 3, 1) := dk_62 (dk_at dksX5_next_5 18 rfl rfl)
theorem dX5_next_138 : decode cX5_next 138 = .ok (.iinc 4 1, 3) := dk_132 4 1 (dk_at dksX5_next_5 19 rfl rfl)
theorem dX5_next_141 : decode cX5_next 141 = .ok (.goto (-129), 3) := dk_167 255 127 (dk_at dksX5_next_6 0 rfl rfl)
theorem dX5_next_144 : decode cX5_next 144 = .ok (.aload_n 2, 1) := dk_44 (dk_at dksX5_next_6 3 rfl rfl)
theorem dX5_next_145 : decode cX5_next 145 = .ok (.areturn, 1) := dk_176 (dk_at dksX5_next_6 4 rfl rfl)
abbrev cX5_holdsAgain : ByteArray := prog_13_method_9_code
def yX5_holdsAgain : MethodName := ⟨RX5, "holdsAgain", "(LPolicyNotation$Rule;)Z"⟩
def dkwX5_holdsAgain_4 : List UInt8 := [28, 43, 180, 0, 68, 184, 0, 105, 154, 0, 7, 4, 167, 0, 4, 3, 172]
abbrev dktX5_holdsAgain_4 : List UInt8 := dkwX5_holdsAgain_4 ++ []
def dkwX5_holdsAgain_3 : List UInt8 := [28, 4, 25, 4, 182, 0, 99, 120, 128, 61, 132, 3, 255, 167, 255, 190, 42, 43, 182, 0, 89, 153, 0, 18]
abbrev dktX5_holdsAgain_3 : List UInt8 := dkwX5_holdsAgain_3 ++ dktX5_holdsAgain_4
def dkwX5_holdsAgain_2 : List UInt8 := [182, 0, 99, 2, 159, 0, 30, 28, 29, 184, 0, 105, 154, 0, 22, 42, 25, 4, 182, 0, 89, 153, 0, 13]
abbrev dktX5_holdsAgain_2 : List UInt8 := dkwX5_holdsAgain_2 ++ dktX5_holdsAgain_3
def dkwX5_holdsAgain_1 : List UInt8 := [164, 0, 64, 42, 180, 0, 3, 180, 0, 25, 180, 0, 92, 29, 182, 0, 35, 192, 0, 69, 58, 4, 25, 4]
abbrev dktX5_holdsAgain_1 : List UInt8 := dkwX5_holdsAgain_1 ++ dktX5_holdsAgain_2
def dkwX5_holdsAgain_0 : List UInt8 := [3, 61, 42, 180, 0, 3, 180, 0, 25, 180, 0, 92, 182, 0, 95, 4, 100, 62, 29, 43, 180, 0, 68]
abbrev dktX5_holdsAgain_0 : List UInt8 := dkwX5_holdsAgain_0 ++ dktX5_holdsAgain_1
theorem dksX5_holdsAgain_0 : cX5_holdsAgain.data.toList.drop 0 = dktX5_holdsAgain_0 := by decide +kernel
theorem dksX5_holdsAgain_1 : cX5_holdsAgain.data.toList.drop 23 = dktX5_holdsAgain_1 := dk_seg dksX5_holdsAgain_0 23 rfl rfl
theorem dksX5_holdsAgain_2 : cX5_holdsAgain.data.toList.drop 47 = dktX5_holdsAgain_2 := dk_seg dksX5_holdsAgain_1 24 rfl rfl
theorem dksX5_holdsAgain_3 : cX5_holdsAgain.data.toList.drop 71 = dktX5_holdsAgain_3 := dk_seg dksX5_holdsAgain_2 24 rfl rfl
theorem dksX5_holdsAgain_4 : cX5_holdsAgain.data.toList.drop 95 = dktX5_holdsAgain_4 := dk_seg dksX5_holdsAgain_3 24 rfl rfl
theorem dX5_holdsAgain_0 : decode cX5_holdsAgain 0 = .ok (.iconst 0, 1) := dk_3 (dk_at dksX5_holdsAgain_0 0 rfl rfl)
theorem dX5_holdsAgain_1 : decode cX5_holdsAgain 1 = .ok (.istore_n 2, 1) := dk_61 (dk_at dksX5_holdsAgain_0 1 rfl rfl)
theorem dX5_holdsAgain_2 : decode cX5_holdsAgain 2 = .ok (.aload_n 0, 1) := dk_42 (dk_at dksX5_holdsAgain_0 2 rfl rfl)
theorem dX5_holdsAgain_3 : decode cX5_holdsAgain 3 = .ok (.getfield 3, 3) := dk_180 0 3 (dk_at dksX5_holdsAgain_0 3 rfl rfl)
theorem dX5_holdsAgain_6 : decode cX5_holdsAgain 6 = .ok (.getfield 25, 3) := dk_180 0 25 (dk_at dksX5_holdsAgain_0 6 rfl rfl)
theorem dX5_holdsAgain_9 : decode cX5_holdsAgain 9 = .ok (.getfield 92, 3) := dk_180 0 92 (dk_at dksX5_holdsAgain_0 9 rfl rfl)
theorem dX5_holdsAgain_12 : decode cX5_holdsAgain 12 = .ok (.invokevirtual 95, 3) := dk_182 0 95 (dk_at dksX5_holdsAgain_0 12 rfl rfl)
theorem dX5_holdsAgain_15 : decode cX5_holdsAgain 15 = .ok (.iconst 1, 1) := dk_4 (dk_at dksX5_holdsAgain_0 15 rfl rfl)
theorem dX5_holdsAgain_16 : decode cX5_holdsAgain 16 = .ok (.isub, 1) := dk_100 (dk_at dksX5_holdsAgain_0 16 rfl rfl)
theorem dX5_holdsAgain_17 : decode cX5_holdsAgain 17 = .ok (.istore_n 3, 1) := dk_62 (dk_at dksX5_holdsAgain_0 17 rfl rfl)
theorem dX5_holdsAgain_18 : decode cX5_holdsAgain 18 = .ok (.iload_n 3, 1) := dk_29 (dk_at dksX5_holdsAgain_0 18 rfl rfl)
theorem dX5_holdsAgain_19 : decode cX5_holdsAgain 19 = .ok (.aload_n 1, 1) := dk_43 (dk_at dksX5_holdsAgain_0 19 rfl rfl)
theorem dX5_holdsAgain_20 : decode cX5_holdsAgain 20 = .ok (.getfield 68, 3) := dk_180 0 68 (dk_at dksX5_holdsAgain_0 20 rfl rfl)
theorem dX5_holdsAgain_23 : decode cX5_holdsAgain 23 = .ok (.if_icmp .le 64, 3) := dk_164 0 64 (dk_at dksX5_holdsAgain_1 0 rfl rfl)
theorem dX5_holdsAgain_26 : decode cX5_holdsAgain 26 = .ok (.aload_n 0, 1) := dk_42 (dk_at dksX5_holdsAgain_1 3 rfl rfl)
theorem dX5_holdsAgain_27 : decode cX5_holdsAgain 27 = .ok (.getfield 3, 3) := dk_180 0 3 (dk_at dksX5_holdsAgain_1 4 rfl rfl)
theorem dX5_holdsAgain_30 : decode cX5_holdsAgain 30 = .ok (.getfield 25, 3) := dk_180 0 25 (dk_at dksX5_holdsAgain_1 7 rfl rfl)
theorem dX5_holdsAgain_33 : decode cX5_holdsAgain 33 = .ok (.getfield 92, 3) := dk_180 0 92 (dk_at dksX5_holdsAgain_1 10 rfl rfl)
theorem dX5_holdsAgain_36 : decode cX5_holdsAgain 36 = .ok (.iload_n 3, 1) := dk_29 (dk_at dksX5_holdsAgain_1 13 rfl rfl)
theorem dX5_holdsAgain_37 : decode cX5_holdsAgain 37 = .ok (.invokevirtual 35, 3) := dk_182 0 35 (dk_at dksX5_holdsAgain_1 14 rfl rfl)
theorem dX5_holdsAgain_40 : decode cX5_holdsAgain 40 = .ok (.checkcast 69, 3) := dk_192 0 69 (dk_at dksX5_holdsAgain_1 17 rfl rfl)
theorem dX5_holdsAgain_43 : decode cX5_holdsAgain 43 = .ok (.astore 4, 2) := dk_58 4 (dk_at dksX5_holdsAgain_1 20 rfl rfl)
theorem dX5_holdsAgain_45 : decode cX5_holdsAgain 45 = .ok (.aload 4, 2) := dk_25 4 (dk_at dksX5_holdsAgain_1 22 rfl rfl)
theorem dX5_holdsAgain_47 : decode cX5_holdsAgain 47 = .ok (.invokevirtual 99, 3) := dk_182 0 99 (dk_at dksX5_holdsAgain_2 0 rfl rfl)
theorem dX5_holdsAgain_50 : decode cX5_holdsAgain 50 = .ok (.iconst (-1), 1) := dk_2 (dk_at dksX5_holdsAgain_2 3 rfl rfl)
theorem dX5_holdsAgain_51 : decode cX5_holdsAgain 51 = .ok (.if_icmp .eq 30, 3) := dk_159 0 30 (dk_at dksX5_holdsAgain_2 4 rfl rfl)
theorem dX5_holdsAgain_54 : decode cX5_holdsAgain 54 = .ok (.iload_n 2, 1) := dk_28 (dk_at dksX5_holdsAgain_2 7 rfl rfl)
theorem dX5_holdsAgain_55 : decode cX5_holdsAgain 55 = .ok (.iload_n 3, 1) := dk_29 (dk_at dksX5_holdsAgain_2 8 rfl rfl)
theorem dX5_holdsAgain_56 : decode cX5_holdsAgain 56 = .ok (.invokestatic 105, 3) := dk_184 0 105 (dk_at dksX5_holdsAgain_2 9 rfl rfl)
theorem dX5_holdsAgain_59 : decode cX5_holdsAgain 59 = .ok (.ifCond .ne 22, 3) := dk_154 0 22 (dk_at dksX5_holdsAgain_2 12 rfl rfl)
theorem dX5_holdsAgain_62 : decode cX5_holdsAgain 62 = .ok (.aload_n 0, 1) := dk_42 (dk_at dksX5_holdsAgain_2 15 rfl rfl)
theorem dX5_holdsAgain_63 : decode cX5_holdsAgain 63 = .ok (.aload 4, 2) := dk_25 4 (dk_at dksX5_holdsAgain_2 16 rfl rfl)
theorem dX5_holdsAgain_65 : decode cX5_holdsAgain 65 = .ok (.invokevirtual 89, 3) := dk_182 0 89 (dk_at dksX5_holdsAgain_2 18 rfl rfl)
theorem dX5_holdsAgain_68 : decode cX5_holdsAgain 68 = .ok (.ifCond .eq 13, 3) := dk_153 0 13 (dk_at dksX5_holdsAgain_2 21 rfl rfl)
theorem dX5_holdsAgain_71 : decode cX5_holdsAgain 71 = .ok (.iload_n 2, 1) := dk_28 (dk_at dksX5_holdsAgain_3 0 rfl rfl)
theorem dX5_holdsAgain_72 : decode cX5_holdsAgain 72 = .ok (.iconst 1, 1) := dk_4 (dk_at dksX5_holdsAgain_3 1 rfl rfl)
theorem dX5_holdsAgain_73 : decode cX5_holdsAgain 73 = .ok (.aload 4, 2) := dk_25 4 (dk_at dksX5_holdsAgain_3 2 rfl rfl)
theorem dX5_holdsAgain_75 : decode cX5_holdsAgain 75 = .ok (.invokevirtual 99, 3) := dk_182 0 99 (dk_at dksX5_holdsAgain_3 4 rfl rfl)
theorem dX5_holdsAgain_78 : decode cX5_holdsAgain 78 = .ok (.ishl, 1) := dk_120 (dk_at dksX5_holdsAgain_3 7 rfl rfl)
theorem dX5_holdsAgain_79 : decode cX5_holdsAgain 79 = .ok (.ior, 1) := dk_128 (dk_at dksX5_holdsAgain_3 8 rfl rfl)
theorem dX5_holdsAgain_80 : decode cX5_holdsAgain 80 = .ok (.istore_n 2, 1) := dk_61 (dk_at dksX5_holdsAgain_3 9 rfl rfl)
theorem dX5_holdsAgain_81 : decode cX5_holdsAgain 81 = .ok (.iinc 3 (-1), 3) := dk_132 3 255 (dk_at dksX5_holdsAgain_3 10 rfl rfl)
theorem dX5_holdsAgain_84 : decode cX5_holdsAgain 84 = .ok (.goto (-66), 3) := dk_167 255 190 (dk_at dksX5_holdsAgain_3 13 rfl rfl)
theorem dX5_holdsAgain_87 : decode cX5_holdsAgain 87 = .ok (.aload_n 0, 1) := dk_42 (dk_at dksX5_holdsAgain_3 16 rfl rfl)
theorem dX5_holdsAgain_88 : decode cX5_holdsAgain 88 = .ok (.aload_n 1, 1) := dk_43 (dk_at dksX5_holdsAgain_3 17 rfl rfl)
theorem dX5_holdsAgain_89 : decode cX5_holdsAgain 89 = .ok (.invokevirtual 89, 3) := dk_182 0 89 (dk_at dksX5_holdsAgain_3 18 rfl rfl)
theorem dX5_holdsAgain_92 : decode cX5_holdsAgain 92 = .ok (.ifCond .eq 18, 3) := dk_153 0 18 (dk_at dksX5_holdsAgain_3 21 rfl rfl)
theorem dX5_holdsAgain_95 : decode cX5_holdsAgain 95 = .ok (.iload_n 2, 1) := dk_28 (dk_at dksX5_holdsAgain_4 0 rfl rfl)
theorem dX5_holdsAgain_96 : decode cX5_holdsAgain 96 = .ok (.aload_n 1, 1) := dk_43 (dk_at dksX5_holdsAgain_4 1 rfl rfl)
theorem dX5_holdsAgain_97 : decode cX5_holdsAgain 97 = .ok (.getfield 68, 3) := dk_180 0 68 (dk_at dksX5_holdsAgain_4 2 rfl rfl)
theorem dX5_holdsAgain_100 : decode cX5_holdsAgain 100 = .ok (.invokestatic 105, 3) := dk_184 0 105 (dk_at dksX5_holdsAgain_4 5 rfl rfl)
theorem dX5_holdsAgain_103 : decode cX5_holdsAgain 103 = .ok (.ifCond .ne 7, 3) := dk_154 0 7 (dk_at dksX5_holdsAgain_4 8 rfl rfl)
theorem dX5_holdsAgain_106 : decode cX5_holdsAgain 106 = .ok (.iconst 1, 1) := dk_4 (dk_at dksX5_holdsAgain_4 11 rfl rfl)
theorem dX5_holdsAgain_107 : decode cX5_holdsAgain 107 = .ok (.goto 4, 3) := dk_167 0 4 (dk_at dksX5_holdsAgain_4 12 rfl rfl)
theorem dX5_holdsAgain_110 : decode cX5_holdsAgain 110 = .ok (.iconst 0, 1) := dk_3 (dk_at dksX5_holdsAgain_4 15 rfl rfl)
theorem dX5_holdsAgain_111 : decode cX5_holdsAgain 111 = .ok (.ireturn, 1) := dk_172 (dk_at dksX5_holdsAgain_4 16 rfl rfl)
abbrev cX5_link : ByteArray := prog_13_method_18_code
def yX5_link : MethodName := ⟨RX5, "link", "(I)I"⟩
def dkwX5_link_0 : List UInt8 := [42, 180, 0, 22, 27, 46, 172]
abbrev dktX5_link_0 : List UInt8 := dkwX5_link_0 ++ []
theorem dksX5_link_0 : cX5_link.data.toList.drop 0 = dktX5_link_0 := by decide +kernel
theorem dX5_link_0 : decode cX5_link 0 = .ok (.aload_n 0, 1) := dk_42 (dk_at dksX5_link_0 0 rfl rfl)
theorem dX5_link_1 : decode cX5_link 1 = .ok (.getfield 22, 3) := dk_180 0 22 (dk_at dksX5_link_0 1 rfl rfl)
theorem dX5_link_4 : decode cX5_link 4 = .ok (.iload_n 1, 1) := dk_27 (dk_at dksX5_link_0 4 rfl rfl)
theorem dX5_link_5 : decode cX5_link 5 = .ok (.iaload, 1) := dk_46 (dk_at dksX5_link_0 5 rfl rfl)
theorem dX5_link_6 : decode cX5_link 6 = .ok (.ireturn, 1) := dk_172 (dk_at dksX5_link_0 6 rfl rfl)
abbrev cX5_rivals : ByteArray := prog_13_method_14_code
def yX5_rivals : MethodName := ⟨RX5, "rivals", "()I"⟩
def dkwX5_rivals_3 : List UInt8 := [167, 255, 197, 28, 172]
abbrev dktX5_rivals_3 : List UInt8 := dkwX5_rivals_3 ++ []
def dkwX5_rivals_2 : List UInt8 := [192, 0, 69, 43, 182, 0, 133, 153, 0, 9, 4, 29, 120, 167, 0, 4, 3, 128, 61, 132, 3, 1]
abbrev dktX5_rivals_2 : List UInt8 := dkwX5_rivals_2 ++ dktX5_rivals_3
def dkwX5_rivals_1 : List UInt8 := [162, 0, 48, 43, 198, 0, 44, 28, 42, 42, 180, 0, 3, 180, 0, 25, 180, 0, 92, 29, 182, 0, 35]
abbrev dktX5_rivals_1 : List UInt8 := dkwX5_rivals_1 ++ dktX5_rivals_2
def dkwX5_rivals_0 : List UInt8 := [42, 182, 0, 126, 76, 3, 61, 3, 62, 29, 42, 180, 0, 3, 180, 0, 25, 180, 0, 92, 182, 0, 95]
abbrev dktX5_rivals_0 : List UInt8 := dkwX5_rivals_0 ++ dktX5_rivals_1
theorem dksX5_rivals_0 : cX5_rivals.data.toList.drop 0 = dktX5_rivals_0 := by decide +kernel
theorem dksX5_rivals_1 : cX5_rivals.data.toList.drop 23 = dktX5_rivals_1 := dk_seg dksX5_rivals_0 23 rfl rfl
theorem dksX5_rivals_2 : cX5_rivals.data.toList.drop 46 = dktX5_rivals_2 := dk_seg dksX5_rivals_1 23 rfl rfl
theorem dksX5_rivals_3 : cX5_rivals.data.toList.drop 68 = dktX5_rivals_3 := dk_seg dksX5_rivals_2 22 rfl rfl
theorem dX5_rivals_0 : decode cX5_rivals 0 = .ok (.aload_n 0, 1) := dk_42 (dk_at dksX5_rivals_0 0 rfl rfl)
theorem dX5_rivals_1 : decode cX5_rivals 1 = .ok (.invokevirtual 126, 3) := dk_182 0 126 (dk_at dksX5_rivals_0 1 rfl rfl)
theorem dX5_rivals_4 : decode cX5_rivals 4 = .ok (.astore_n 1, 1) := dk_76 (dk_at dksX5_rivals_0 4 rfl rfl)
theorem dX5_rivals_5 : decode cX5_rivals 5 = .ok (.iconst 0, 1) := dk_3 (dk_at dksX5_rivals_0 5 rfl rfl)
theorem dX5_rivals_6 : decode cX5_rivals 6 = .ok (.istore_n 2, 1) := dk_61 (dk_at dksX5_rivals_0 6 rfl rfl)
theorem dX5_rivals_7 : decode cX5_rivals 7 = .ok (.iconst 0, 1) := dk_3 (dk_at dksX5_rivals_0 7 rfl rfl)
theorem dX5_rivals_8 : decode cX5_rivals 8 = .ok (.istore_n 3, 1) := dk_62 (dk_at dksX5_rivals_0 8 rfl rfl)
theorem dX5_rivals_9 : decode cX5_rivals 9 = .ok (.iload_n 3, 1) := dk_29 (dk_at dksX5_rivals_0 9 rfl rfl)
theorem dX5_rivals_10 : decode cX5_rivals 10 = .ok (.aload_n 0, 1) := dk_42 (dk_at dksX5_rivals_0 10 rfl rfl)
theorem dX5_rivals_11 : decode cX5_rivals 11 = .ok (.getfield 3, 3) := dk_180 0 3 (dk_at dksX5_rivals_0 11 rfl rfl)
theorem dX5_rivals_14 : decode cX5_rivals 14 = .ok (.getfield 25, 3) := dk_180 0 25 (dk_at dksX5_rivals_0 14 rfl rfl)
theorem dX5_rivals_17 : decode cX5_rivals 17 = .ok (.getfield 92, 3) := dk_180 0 92 (dk_at dksX5_rivals_0 17 rfl rfl)
theorem dX5_rivals_20 : decode cX5_rivals 20 = .ok (.invokevirtual 95, 3) := dk_182 0 95 (dk_at dksX5_rivals_0 20 rfl rfl)
theorem dX5_rivals_23 : decode cX5_rivals 23 = .ok (.if_icmp .ge 48, 3) := dk_162 0 48 (dk_at dksX5_rivals_1 0 rfl rfl)
theorem dX5_rivals_26 : decode cX5_rivals 26 = .ok (.aload_n 1, 1) := dk_43 (dk_at dksX5_rivals_1 3 rfl rfl)
theorem dX5_rivals_27 : decode cX5_rivals 27 = .ok (.ifnull 44, 3) := dk_198 0 44 (dk_at dksX5_rivals_1 4 rfl rfl)
theorem dX5_rivals_30 : decode cX5_rivals 30 = .ok (.iload_n 2, 1) := dk_28 (dk_at dksX5_rivals_1 7 rfl rfl)
theorem dX5_rivals_31 : decode cX5_rivals 31 = .ok (.aload_n 0, 1) := dk_42 (dk_at dksX5_rivals_1 8 rfl rfl)
theorem dX5_rivals_32 : decode cX5_rivals 32 = .ok (.aload_n 0, 1) := dk_42 (dk_at dksX5_rivals_1 9 rfl rfl)
theorem dX5_rivals_33 : decode cX5_rivals 33 = .ok (.getfield 3, 3) := dk_180 0 3 (dk_at dksX5_rivals_1 10 rfl rfl)
theorem dX5_rivals_36 : decode cX5_rivals 36 = .ok (.getfield 25, 3) := dk_180 0 25 (dk_at dksX5_rivals_1 13 rfl rfl)
theorem dX5_rivals_39 : decode cX5_rivals 39 = .ok (.getfield 92, 3) := dk_180 0 92 (dk_at dksX5_rivals_1 16 rfl rfl)
theorem dX5_rivals_42 : decode cX5_rivals 42 = .ok (.iload_n 3, 1) := dk_29 (dk_at dksX5_rivals_1 19 rfl rfl)
theorem dX5_rivals_43 : decode cX5_rivals 43 = .ok (.invokevirtual 35, 3) := dk_182 0 35 (dk_at dksX5_rivals_1 20 rfl rfl)
theorem dX5_rivals_46 : decode cX5_rivals 46 = .ok (.checkcast 69, 3) := dk_192 0 69 (dk_at dksX5_rivals_2 0 rfl rfl)
theorem dX5_rivals_49 : decode cX5_rivals 49 = .ok (.aload_n 1, 1) := dk_43 (dk_at dksX5_rivals_2 3 rfl rfl)
theorem dX5_rivals_50 : decode cX5_rivals 50 = .ok (.invokevirtual 133, 3) := dk_182 0 133 (dk_at dksX5_rivals_2 4 rfl rfl)
theorem dX5_rivals_53 : decode cX5_rivals 53 = .ok (.ifCond .eq 9, 3) := dk_153 0 9 (dk_at dksX5_rivals_2 7 rfl rfl)
theorem dX5_rivals_56 : decode cX5_rivals 56 = .ok (.iconst 1, 1) := dk_4 (dk_at dksX5_rivals_2 10 rfl rfl)
theorem dX5_rivals_57 : decode cX5_rivals 57 = .ok (.iload_n 3, 1) := dk_29 (dk_at dksX5_rivals_2 11 rfl rfl)
theorem dX5_rivals_58 : decode cX5_rivals 58 = .ok (.ishl, 1) := dk_120 (dk_at dksX5_rivals_2 12 rfl rfl)
theorem dX5_rivals_59 : decode cX5_rivals 59 = .ok (.goto 4, 3) := dk_167 0 4 (dk_at dksX5_rivals_2 13 rfl rfl)
theorem dX5_rivals_62 : decode cX5_rivals 62 = .ok (.iconst 0, 1) := dk_3 (dk_at dksX5_rivals_2 16 rfl rfl)
theorem dX5_rivals_63 : decode cX5_rivals 63 = .ok (.ior, 1) := dk_128 (dk_at dksX5_rivals_2 17 rfl rfl)
theorem dX5_rivals_64 : decode cX5_rivals 64 = .ok (.istore_n 2, 1) := dk_61 (dk_at dksX5_rivals_2 18 rfl rfl)
theorem dX5_rivals_65 : decode cX5_rivals 65 = .ok (.iinc 3 1, 3) := dk_132 3 1 (dk_at dksX5_rivals_2 19 rfl rfl)
theorem dX5_rivals_68 : decode cX5_rivals 68 = .ok (.goto (-59), 3) := dk_167 255 197 (dk_at dksX5_rivals_3 0 rfl rfl)
theorem dX5_rivals_71 : decode cX5_rivals 71 = .ok (.iload_n 2, 1) := dk_28 (dk_at dksX5_rivals_3 3 rfl rfl)
theorem dX5_rivals_72 : decode cX5_rivals 72 = .ok (.ireturn, 1) := dk_172 (dk_at dksX5_rivals_3 4 rfl rfl)
abbrev cX5_isRival : ByteArray := prog_13_method_13_code
def yX5_isRival : MethodName := ⟨RX5, "isRival", "(LPolicyNotation$Rule;LPolicyNotation$Rule;)Z"⟩
def dkwX5_isRival_1 : List UInt8 := [153, 0, 16, 42, 44, 43, 182, 0, 122, 154, 0, 7, 4, 167, 0, 4, 3, 172]
abbrev dktX5_isRival_1 : List UInt8 := dkwX5_isRival_1 ++ []
def dkwX5_isRival_0 : List UInt8 := [43, 182, 0, 118, 198, 0, 35, 43, 182, 0, 118, 44, 182, 0, 118, 165, 0, 24, 42, 43, 182, 0, 102]
abbrev dktX5_isRival_0 : List UInt8 := dkwX5_isRival_0 ++ dktX5_isRival_1
theorem dksX5_isRival_0 : cX5_isRival.data.toList.drop 0 = dktX5_isRival_0 := by decide +kernel
theorem dksX5_isRival_1 : cX5_isRival.data.toList.drop 23 = dktX5_isRival_1 := dk_seg dksX5_isRival_0 23 rfl rfl
theorem dX5_isRival_0 : decode cX5_isRival 0 = .ok (.aload_n 1, 1) := dk_43 (dk_at dksX5_isRival_0 0 rfl rfl)
theorem dX5_isRival_1 : decode cX5_isRival 1 = .ok (.invokevirtual 118, 3) := dk_182 0 118 (dk_at dksX5_isRival_0 1 rfl rfl)
theorem dX5_isRival_4 : decode cX5_isRival 4 = .ok (.ifnull 35, 3) := dk_198 0 35 (dk_at dksX5_isRival_0 4 rfl rfl)
theorem dX5_isRival_7 : decode cX5_isRival 7 = .ok (.aload_n 1, 1) := dk_43 (dk_at dksX5_isRival_0 7 rfl rfl)
theorem dX5_isRival_8 : decode cX5_isRival 8 = .ok (.invokevirtual 118, 3) := dk_182 0 118 (dk_at dksX5_isRival_0 8 rfl rfl)
theorem dX5_isRival_11 : decode cX5_isRival 11 = .ok (.aload_n 2, 1) := dk_44 (dk_at dksX5_isRival_0 11 rfl rfl)
theorem dX5_isRival_12 : decode cX5_isRival 12 = .ok (.invokevirtual 118, 3) := dk_182 0 118 (dk_at dksX5_isRival_0 12 rfl rfl)
theorem dX5_isRival_15 : decode cX5_isRival 15 = .ok (.if_acmp .eq 24, 3) := dk_165 0 24 (dk_at dksX5_isRival_0 15 rfl rfl)
theorem dX5_isRival_18 : decode cX5_isRival 18 = .ok (.aload_n 0, 1) := dk_42 (dk_at dksX5_isRival_0 18 rfl rfl)
theorem dX5_isRival_19 : decode cX5_isRival 19 = .ok (.aload_n 1, 1) := dk_43 (dk_at dksX5_isRival_0 19 rfl rfl)
theorem dX5_isRival_20 : decode cX5_isRival 20 = .ok (.invokevirtual 102, 3) := dk_182 0 102 (dk_at dksX5_isRival_0 20 rfl rfl)
theorem dX5_isRival_23 : decode cX5_isRival 23 = .ok (.ifCond .eq 16, 3) := dk_153 0 16 (dk_at dksX5_isRival_1 0 rfl rfl)
theorem dX5_isRival_26 : decode cX5_isRival 26 = .ok (.aload_n 0, 1) := dk_42 (dk_at dksX5_isRival_1 3 rfl rfl)
theorem dX5_isRival_27 : decode cX5_isRival 27 = .ok (.aload_n 2, 1) := dk_44 (dk_at dksX5_isRival_1 4 rfl rfl)
theorem dX5_isRival_28 : decode cX5_isRival 28 = .ok (.aload_n 1, 1) := dk_43 (dk_at dksX5_isRival_1 5 rfl rfl)
theorem dX5_isRival_29 : decode cX5_isRival 29 = .ok (.invokevirtual 122, 3) := dk_182 0 122 (dk_at dksX5_isRival_1 6 rfl rfl)
theorem dX5_isRival_32 : decode cX5_isRival 32 = .ok (.ifCond .ne 7, 3) := dk_154 0 7 (dk_at dksX5_isRival_1 9 rfl rfl)
theorem dX5_isRival_35 : decode cX5_isRival 35 = .ok (.iconst 1, 1) := dk_4 (dk_at dksX5_isRival_1 12 rfl rfl)
theorem dX5_isRival_36 : decode cX5_isRival 36 = .ok (.goto 4, 3) := dk_167 0 4 (dk_at dksX5_isRival_1 13 rfl rfl)
theorem dX5_isRival_39 : decode cX5_isRival 39 = .ok (.iconst 0, 1) := dk_3 (dk_at dksX5_isRival_1 16 rfl rfl)
theorem dX5_isRival_40 : decode cX5_isRival 40 = .ok (.ireturn, 1) := dk_172 (dk_at dksX5_isRival_1 17 rfl rfl)
abbrev cX5_on : ByteArray := prog_13_method_4_code
def yX5_on : MethodName := ⟨RX5, "on", "(I)LPolicyNotation$Look;"⟩
def dkwX5_on_0 : List UInt8 := [42, 27, 181, 0, 47, 42, 182, 0, 54, 42, 176]
abbrev dktX5_on_0 : List UInt8 := dkwX5_on_0 ++ []
theorem dksX5_on_0 : cX5_on.data.toList.drop 0 = dktX5_on_0 := by decide +kernel
theorem dX5_on_0 : decode cX5_on 0 = .ok (.aload_n 0, 1) := dk_42 (dk_at dksX5_on_0 0 rfl rfl)
theorem dX5_on_1 : decode cX5_on 1 = .ok (.iload_n 1, 1) := dk_27 (dk_at dksX5_on_0 1 rfl rfl)
theorem dX5_on_2 : decode cX5_on 2 = .ok (.putfield 47, 3) := dk_181 0 47 (dk_at dksX5_on_0 2 rfl rfl)
theorem dX5_on_5 : decode cX5_on 5 = .ok (.aload_n 0, 1) := dk_42 (dk_at dksX5_on_0 5 rfl rfl)
theorem dX5_on_6 : decode cX5_on 6 = .ok (.invokevirtual 54, 3) := dk_182 0 54 (dk_at dksX5_on_0 6 rfl rfl)
theorem dX5_on_9 : decode cX5_on 9 = .ok (.aload_n 0, 1) := dk_42 (dk_at dksX5_on_0 9 rfl rfl)
theorem dX5_on_10 : decode cX5_on 10 = .ok (.areturn, 1) := dk_176 (dk_at dksX5_on_0 10 rfl rfl)
abbrev cX5_burden : ByteArray := prog_13_method_20_code
def yX5_burden : MethodName := ⟨RX5, "burden", "()F"⟩
def dkwX5_burden_3 : List UInt8 := [158, 0, 8, 18, 158, 167, 0, 4, 35, 174]
abbrev dktX5_burden_3 : List UInt8 := dkwX5_burden_3 ++ []
def dkwX5_burden_2 : List UInt8 := [153, 0, 14, 35, 45, 180, 0, 154, 134, 106, 18, 157, 110, 68, 132, 2, 1, 167, 255, 199, 35, 18, 158, 149]
abbrev dktX5_burden_2 : List UInt8 := dkwX5_burden_2 ++ dktX5_burden_3
def dkwX5_burden_1 : List UInt8 := [180, 0, 3, 180, 0, 25, 180, 0, 92, 28, 182, 0, 35, 192, 0, 69, 78, 42, 45, 182, 0, 102]
abbrev dktX5_burden_1 : List UInt8 := dkwX5_burden_1 ++ dktX5_burden_2
def dkwX5_burden_0 : List UInt8 := [12, 68, 3, 61, 28, 42, 180, 0, 3, 180, 0, 25, 180, 0, 92, 182, 0, 95, 162, 0, 46, 42]
abbrev dktX5_burden_0 : List UInt8 := dkwX5_burden_0 ++ dktX5_burden_1
theorem dksX5_burden_0 : cX5_burden.data.toList.drop 0 = dktX5_burden_0 := by decide +kernel
theorem dksX5_burden_1 : cX5_burden.data.toList.drop 22 = dktX5_burden_1 := dk_seg dksX5_burden_0 22 rfl rfl
theorem dksX5_burden_2 : cX5_burden.data.toList.drop 44 = dktX5_burden_2 := dk_seg dksX5_burden_1 22 rfl rfl
theorem dksX5_burden_3 : cX5_burden.data.toList.drop 68 = dktX5_burden_3 := dk_seg dksX5_burden_2 24 rfl rfl
theorem dX5_burden_0 : decode cX5_burden 0 = .ok (.fconst 1, 1) := dk_12 (dk_at dksX5_burden_0 0 rfl rfl)
theorem dX5_burden_1 : decode cX5_burden 1 = .ok (.fstore_n 1, 1) := dk_68 (dk_at dksX5_burden_0 1 rfl rfl)
theorem dX5_burden_2 : decode cX5_burden 2 = .ok (.iconst 0, 1) := dk_3 (dk_at dksX5_burden_0 2 rfl rfl)
theorem dX5_burden_3 : decode cX5_burden 3 = .ok (.istore_n 2, 1) := dk_61 (dk_at dksX5_burden_0 3 rfl rfl)
theorem dX5_burden_4 : decode cX5_burden 4 = .ok (.iload_n 2, 1) := dk_28 (dk_at dksX5_burden_0 4 rfl rfl)
theorem dX5_burden_5 : decode cX5_burden 5 = .ok (.aload_n 0, 1) := dk_42 (dk_at dksX5_burden_0 5 rfl rfl)
theorem dX5_burden_6 : decode cX5_burden 6 = .ok (.getfield 3, 3) := dk_180 0 3 (dk_at dksX5_burden_0 6 rfl rfl)
theorem dX5_burden_9 : decode cX5_burden 9 = .ok (.getfield 25, 3) := dk_180 0 25 (dk_at dksX5_burden_0 9 rfl rfl)
theorem dX5_burden_12 : decode cX5_burden 12 = .ok (.getfield 92, 3) := dk_180 0 92 (dk_at dksX5_burden_0 12 rfl rfl)
theorem dX5_burden_15 : decode cX5_burden 15 = .ok (.invokevirtual 95, 3) := dk_182 0 95 (dk_at dksX5_burden_0 15 rfl rfl)
theorem dX5_burden_18 : decode cX5_burden 18 = .ok (.if_icmp .ge 46, 3) := dk_162 0 46 (dk_at dksX5_burden_0 18 rfl rfl)
theorem dX5_burden_21 : decode cX5_burden 21 = .ok (.aload_n 0, 1) := dk_42 (dk_at dksX5_burden_0 21 rfl rfl)
theorem dX5_burden_22 : decode cX5_burden 22 = .ok (.getfield 3, 3) := dk_180 0 3 (dk_at dksX5_burden_1 0 rfl rfl)
theorem dX5_burden_25 : decode cX5_burden 25 = .ok (.getfield 25, 3) := dk_180 0 25 (dk_at dksX5_burden_1 3 rfl rfl)
theorem dX5_burden_28 : decode cX5_burden 28 = .ok (.getfield 92, 3) := dk_180 0 92 (dk_at dksX5_burden_1 6 rfl rfl)
theorem dX5_burden_31 : decode cX5_burden 31 = .ok (.iload_n 2, 1) := dk_28 (dk_at dksX5_burden_1 9 rfl rfl)
theorem dX5_burden_32 : decode cX5_burden 32 = .ok (.invokevirtual 35, 3) := dk_182 0 35 (dk_at dksX5_burden_1 10 rfl rfl)
theorem dX5_burden_35 : decode cX5_burden 35 = .ok (.checkcast 69, 3) := dk_192 0 69 (dk_at dksX5_burden_1 13 rfl rfl)
theorem dX5_burden_38 : decode cX5_burden 38 = .ok (.astore_n 3, 1) := dk_78 (dk_at dksX5_burden_1 16 rfl rfl)
theorem dX5_burden_39 : decode cX5_burden 39 = .ok (.aload_n 0, 1) := dk_42 (dk_at dksX5_burden_1 17 rfl rfl)
theorem dX5_burden_40 : decode cX5_burden 40 = .ok (.aload_n 3, 1) := dk_45 (dk_at dksX5_burden_1 18 rfl rfl)
theorem dX5_burden_41 : decode cX5_burden 41 = .ok (.invokevirtual 102, 3) := dk_182 0 102 (dk_at dksX5_burden_1 19 rfl rfl)
theorem dX5_burden_44 : decode cX5_burden 44 = .ok (.ifCond .eq 14, 3) := dk_153 0 14 (dk_at dksX5_burden_2 0 rfl rfl)
theorem dX5_burden_47 : decode cX5_burden 47 = .ok (.fload_n 1, 1) := dk_35 (dk_at dksX5_burden_2 3 rfl rfl)
theorem dX5_burden_48 : decode cX5_burden 48 = .ok (.aload_n 3, 1) := dk_45 (dk_at dksX5_burden_2 4 rfl rfl)
theorem dX5_burden_49 : decode cX5_burden 49 = .ok (.getfield 154, 3) := dk_180 0 154 (dk_at dksX5_burden_2 5 rfl rfl)
theorem dX5_burden_52 : decode cX5_burden 52 = .ok (.i2f, 1) := dk_134 (dk_at dksX5_burden_2 8 rfl rfl)
theorem dX5_burden_53 : decode cX5_burden 53 = .ok (.fmul, 1) := dk_106 (dk_at dksX5_burden_2 9 rfl rfl)
theorem dX5_burden_54 : decode cX5_burden 54 = .ok (.ldc 157, 2) := dk_18 157 (dk_at dksX5_burden_2 10 rfl rfl)
theorem dX5_burden_56 : decode cX5_burden 56 = .ok (.fdiv, 1) := dk_110 (dk_at dksX5_burden_2 12 rfl rfl)
theorem dX5_burden_57 : decode cX5_burden 57 = .ok (.fstore_n 1, 1) := dk_68 (dk_at dksX5_burden_2 13 rfl rfl)
theorem dX5_burden_58 : decode cX5_burden 58 = .ok (.iinc 2 1, 3) := dk_132 2 1 (dk_at dksX5_burden_2 14 rfl rfl)
theorem dX5_burden_61 : decode cX5_burden 61 = .ok (.goto (-57), 3) := dk_167 255 199 (dk_at dksX5_burden_2 17 rfl rfl)
theorem dX5_burden_64 : decode cX5_burden 64 = .ok (.fload_n 1, 1) := dk_35 (dk_at dksX5_burden_2 20 rfl rfl)
theorem dX5_burden_65 : decode cX5_burden 65 = .ok (.ldc 158, 2) := dk_18 158 (dk_at dksX5_burden_2 21 rfl rfl)
theorem dX5_burden_67 : decode cX5_burden 67 = .ok (.fcmp .l, 1) := dk_149 (dk_at dksX5_burden_2 23 rfl rfl)
theorem dX5_burden_68 : decode cX5_burden 68 = .ok (.ifCond .le 8, 3) := dk_158 0 8 (dk_at dksX5_burden_3 0 rfl rfl)
theorem dX5_burden_71 : decode cX5_burden 71 = .ok (.ldc 158, 2) := dk_18 158 (dk_at dksX5_burden_3 3 rfl rfl)
theorem dX5_burden_73 : decode cX5_burden 73 = .ok (.goto 4, 3) := dk_167 0 4 (dk_at dksX5_burden_3 5 rfl rfl)
theorem dX5_burden_76 : decode cX5_burden 76 = .ok (.fload_n 1, 1) := dk_35 (dk_at dksX5_burden_3 8 rfl rfl)
theorem dX5_burden_77 : decode cX5_burden 77 = .ok (.freturn, 1) := dk_174 (dk_at dksX5_burden_3 9 rfl rfl)
theorem q117 : (Jvm.Cond.initialized "PolicyNotation$Look") ∈ lw_all := lw_g (lw_at lw_m1 26 rfl) rfl
theorem q562 : (Jvm.Cond.selects "PolicyNotation$Look" ({ cls := "java/lang/Object", name := "getClass", desc := "()Ljava/lang/Class;" } : Jvm.MethodName) ({ cls := "java/lang/Object", name := "getClass", desc := "()Ljava/lang/Class;" } : Jvm.MethodName)) ∈ lw_all := lw_g (lw_at lw_m2 231 rfl) rfl
theorem q593 : (Jvm.Cond.fieldLinkNest "PolicyNotation$Look" (29 : Nat) "PolicyNotation$Policy" "scopes" "Ljava/util/ArrayList;" "PolicyNotation") ∈ lw_tbl := lw_at lw_m3 22 rfl
theorem q596 : (Jvm.Cond.fieldLinkNest "PolicyNotation$Look" (92 : Nat) "PolicyNotation$Policy" "rules" "Ljava/util/ArrayList;" "PolicyNotation") ∈ lw_tbl := lw_at lw_m3 25 rfl
theorem q625 : (Jvm.Cond.instantiable "PolicyNotation$Look" (8 : Nat)) ∈ lw_all := lw_g (lw_at lw_m3 54 rfl) rfl
theorem q627 : (Jvm.Cond.instanceMethod ({ cls := "PolicyNotation$Look", name := "<init>", desc := "(LPolicyNotation;)V" } : Jvm.MethodName)) ∈ lw_all := lw_g (lw_at lw_m3 56 rfl) rfl
theorem q628 : (Jvm.Cond.code ({ cls := "PolicyNotation$Look", name := "<init>", desc := "(LPolicyNotation;)V" } : Jvm.MethodName) prog_13_method_1_code (2 : Nat) (Option.none : Option Jvm.ClassFile.FieldType)) ∈ lw_all := lw_g (lw_at lw_m3 57 rfl) rfl
theorem q629 : (Jvm.Cond.methodLink "PolicyNotation$Look" (9 : Nat) ({ cls := "java/lang/Object", name := "<init>", desc := "()V" } : Jvm.MethodName)) ∈ lw_all := lw_g (lw_at lw_m3 58 rfl) rfl
theorem q630 : (Jvm.Cond.fieldLink "PolicyNotation$Look" (15 : Nat) "PolicyNotation$Look" "features" "[I") ∈ lw_all := lw_g (lw_at lw_m3 59 rfl) rfl
theorem q631 : (Jvm.Cond.fieldLink "PolicyNotation$Look" (19 : Nat) "PolicyNotation$Look" "known" "[I") ∈ lw_all := lw_g (lw_at lw_m3 60 rfl) rfl
theorem q632 : (Jvm.Cond.fieldLink "PolicyNotation$Look" (43 : Nat) "PolicyNotation$Look" "scope" "LPolicyNotation$Scope;") ∈ lw_all := lw_g (lw_at lw_m3 61 rfl) rfl
theorem q633 : (Jvm.Cond.fieldLink "PolicyNotation$Look" (47 : Nat) "PolicyNotation$Look" "day" "I") ∈ lw_all := lw_g (lw_at lw_m3 62 rfl) rfl
theorem q634 : (Jvm.Cond.fieldLink "PolicyNotation$Look" (51 : Nat) "PolicyNotation$Look" "barred" "I") ∈ lw_all := lw_g (lw_at lw_m3 63 rfl) rfl
theorem q635 : (Jvm.Cond.fieldLink "PolicyNotation$Look" (22 : Nat) "PolicyNotation$Look" "links" "[I") ∈ lw_all := lw_g (lw_at lw_m3 64 rfl) rfl
theorem q636 : (Jvm.Cond.fieldLink "PolicyNotation$Look" (140 : Nat) "PolicyNotation$Look" "many" "I") ∈ lw_all := lw_g (lw_at lw_m3 65 rfl) rfl
theorem q637 : (Jvm.Cond.fieldLink "PolicyNotation$Look" (3 : Nat) "PolicyNotation$Look" "this$0" "LPolicyNotation;") ∈ lw_all := lw_g (lw_at lw_m3 66 rfl) rfl
theorem q638 : (Jvm.Cond.laysFinal "PolicyNotation$Look" "PolicyNotation$Look" "features" "[I") ∈ lw_all := lw_g (lw_at lw_m3 67 rfl) rfl
theorem q639 : (Jvm.Cond.soleField "PolicyNotation$Look" "features") ∈ lw_all := lw_g (lw_at lw_m3 68 rfl) rfl
theorem q640 : (Jvm.Cond.laysFinal "PolicyNotation$Look" "PolicyNotation$Look" "known" "[I") ∈ lw_all := lw_g (lw_at lw_m3 69 rfl) rfl
theorem q641 : (Jvm.Cond.soleField "PolicyNotation$Look" "known") ∈ lw_all := lw_g (lw_at lw_m3 70 rfl) rfl
theorem q642 : (Jvm.Cond.lays "PolicyNotation$Look" "PolicyNotation$Look" "scope" "LPolicyNotation$Scope;") ∈ lw_all := lw_g (lw_at lw_m3 71 rfl) rfl
theorem q643 : (Jvm.Cond.soleField "PolicyNotation$Look" "scope") ∈ lw_all := lw_g (lw_at lw_m3 72 rfl) rfl
theorem q644 : (Jvm.Cond.lays "PolicyNotation$Look" "PolicyNotation$Look" "day" "I") ∈ lw_all := lw_g (lw_at lw_m3 73 rfl) rfl
theorem q645 : (Jvm.Cond.soleField "PolicyNotation$Look" "day") ∈ lw_all := lw_g (lw_at lw_m3 74 rfl) rfl
theorem q646 : (Jvm.Cond.lays "PolicyNotation$Look" "PolicyNotation$Look" "barred" "I") ∈ lw_all := lw_g (lw_at lw_m3 75 rfl) rfl
theorem q647 : (Jvm.Cond.soleField "PolicyNotation$Look" "barred") ∈ lw_all := lw_g (lw_at lw_m3 76 rfl) rfl
theorem q648 : (Jvm.Cond.laysFinal "PolicyNotation$Look" "PolicyNotation$Look" "links" "[I") ∈ lw_all := lw_g (lw_at lw_m3 77 rfl) rfl
theorem q649 : (Jvm.Cond.soleField "PolicyNotation$Look" "links") ∈ lw_all := lw_g (lw_at lw_m3 78 rfl) rfl
theorem q650 : (Jvm.Cond.lays "PolicyNotation$Look" "PolicyNotation$Look" "many" "I") ∈ lw_all := lw_g (lw_at lw_m3 79 rfl) rfl
theorem q651 : (Jvm.Cond.soleField "PolicyNotation$Look" "many") ∈ lw_all := lw_g (lw_at lw_m3 80 rfl) rfl
theorem q652 : (Jvm.Cond.laysFinal "PolicyNotation$Look" "PolicyNotation$Look" "this$0" "LPolicyNotation;") ∈ lw_all := lw_g (lw_at lw_m3 81 rfl) rfl
theorem q653 : (Jvm.Cond.soleField "PolicyNotation$Look" "this$0") ∈ lw_all := lw_g (lw_at lw_m3 82 rfl) rfl
theorem q654 : (Jvm.Cond.superclass "PolicyNotation$Look" "java/lang/Object") ∈ lw_all := lw_g (lw_at lw_m3 83 rfl) rfl
theorem q663 : (Jvm.Cond.fieldLinkNest "PolicyNotation$Look" (25 : Nat) "PolicyNotation" "policy" "LPolicyNotation$Policy;" "PolicyNotation") ∈ lw_tbl := lw_at lw_m3 92 rfl
theorem q733 : (Jvm.Cond.instanceMethod ({ cls := "PolicyNotation$Look", name := "at", desc := "(LPolicyNotation$Work;I)LPolicyNotation$Look;" } : Jvm.MethodName)) ∈ lw_all := lw_g (lw_at lw_m3 162 rfl) rfl
theorem q734 : (Jvm.Cond.selects "PolicyNotation$Look" ({ cls := "PolicyNotation$Look", name := "at", desc := "(LPolicyNotation$Work;I)LPolicyNotation$Look;" } : Jvm.MethodName) ({ cls := "PolicyNotation$Look", name := "at", desc := "(LPolicyNotation$Work;I)LPolicyNotation$Look;" } : Jvm.MethodName)) ∈ lw_all := lw_g (lw_at lw_m3 163 rfl) rfl
theorem q735 : (Jvm.Cond.code ({ cls := "PolicyNotation$Look", name := "at", desc := "(LPolicyNotation$Work;I)LPolicyNotation$Look;" } : Jvm.MethodName) prog_13_method_3_code (3 : Nat) (Option.some (Jvm.ClassFile.FieldType.object "PolicyNotation$Look"))) ∈ lw_all := lw_g (lw_at lw_m3 164 rfl) rfl
theorem q736 : (Jvm.Cond.methodLink "PolicyNotation$Look" (64 : Nat) ({ cls := "PolicyNotation$Look", name := "at", desc := "(IIII)LPolicyNotation$Look;" } : Jvm.MethodName)) ∈ lw_all := lw_g (lw_at lw_m3 165 rfl) rfl
theorem q737 : (Jvm.Cond.instanceMethod ({ cls := "PolicyNotation$Look", name := "at", desc := "(IIII)LPolicyNotation$Look;" } : Jvm.MethodName)) ∈ lw_all := lw_g (lw_at lw_m3 166 rfl) rfl
theorem q738 : (Jvm.Cond.selects "PolicyNotation$Look" ({ cls := "PolicyNotation$Look", name := "at", desc := "(IIII)LPolicyNotation$Look;" } : Jvm.MethodName) ({ cls := "PolicyNotation$Look", name := "at", desc := "(IIII)LPolicyNotation$Look;" } : Jvm.MethodName)) ∈ lw_all := lw_g (lw_at lw_m3 167 rfl) rfl
theorem q739 : (Jvm.Cond.code ({ cls := "PolicyNotation$Look", name := "at", desc := "(IIII)LPolicyNotation$Look;" } : Jvm.MethodName) prog_13_method_2_code (7 : Nat) (Option.some (Jvm.ClassFile.FieldType.object "PolicyNotation$Look"))) ∈ lw_all := lw_g (lw_at lw_m3 168 rfl) rfl
theorem q740 : (Jvm.Cond.methodLink "PolicyNotation$Look" (35 : Nat) ({ cls := "java/util/ArrayList", name := "get", desc := "(I)Ljava/lang/Object;" } : Jvm.MethodName)) ∈ lw_all := lw_g (lw_at lw_m3 169 rfl) rfl
theorem q741 : (Jvm.Cond.classLink "PolicyNotation$Look" (41 : Nat) "PolicyNotation$Scope") ∈ lw_all := lw_g (lw_at lw_m3 170 rfl) rfl
theorem q742 : (Jvm.Cond.methodLink "PolicyNotation$Look" (54 : Nat) ({ cls := "PolicyNotation$Look", name := "forgets", desc := "()V" } : Jvm.MethodName)) ∈ lw_all := lw_g (lw_at lw_m3 171 rfl) rfl
theorem q743 : (Jvm.Cond.privateMethod ({ cls := "PolicyNotation$Look", name := "forgets", desc := "()V" } : Jvm.MethodName)) ∈ lw_tbl := lw_at lw_m3 172 rfl
theorem q744 : (Jvm.Cond.instanceMethod ({ cls := "PolicyNotation$Look", name := "forgets", desc := "()V" } : Jvm.MethodName)) ∈ lw_all := lw_g (lw_at lw_m3 173 rfl) rfl
theorem q745 : (Jvm.Cond.code ({ cls := "PolicyNotation$Look", name := "forgets", desc := "()V" } : Jvm.MethodName) prog_13_method_5_code (2 : Nat) (Option.none : Option Jvm.ClassFile.FieldType)) ∈ lw_all := lw_g (lw_at lw_m3 174 rfl) rfl
theorem q747 : (Jvm.Cond.instanceMethod ({ cls := "PolicyNotation$Look", name := "outcome", desc := "()LPolicyNotation$Effect;" } : Jvm.MethodName)) ∈ lw_all := lw_g (lw_at lw_m3 176 rfl) rfl
theorem q748 : (Jvm.Cond.selects "PolicyNotation$Look" ({ cls := "PolicyNotation$Look", name := "outcome", desc := "()LPolicyNotation$Effect;" } : Jvm.MethodName) ({ cls := "PolicyNotation$Look", name := "outcome", desc := "()LPolicyNotation$Effect;" } : Jvm.MethodName)) ∈ lw_all := lw_g (lw_at lw_m3 177 rfl) rfl
theorem q749 : (Jvm.Cond.code ({ cls := "PolicyNotation$Look", name := "outcome", desc := "()LPolicyNotation$Effect;" } : Jvm.MethodName) prog_13_method_12_code (2 : Nat) (Option.some (Jvm.ClassFile.FieldType.object "PolicyNotation$Effect"))) ∈ lw_all := lw_g (lw_at lw_m3 178 rfl) rfl
theorem q750 : (Jvm.Cond.methodLink "PolicyNotation$Look" (126 : Nat) ({ cls := "PolicyNotation$Look", name := "prevailing", desc := "()LPolicyNotation$Rule;" } : Jvm.MethodName)) ∈ lw_all := lw_g (lw_at lw_m3 179 rfl) rfl
theorem q751 : (Jvm.Cond.instanceMethod ({ cls := "PolicyNotation$Look", name := "prevailing", desc := "()LPolicyNotation$Rule;" } : Jvm.MethodName)) ∈ lw_all := lw_g (lw_at lw_m3 180 rfl) rfl
theorem q752 : (Jvm.Cond.selects "PolicyNotation$Look" ({ cls := "PolicyNotation$Look", name := "prevailing", desc := "()LPolicyNotation$Rule;" } : Jvm.MethodName) ({ cls := "PolicyNotation$Look", name := "prevailing", desc := "()LPolicyNotation$Rule;" } : Jvm.MethodName)) ∈ lw_all := lw_g (lw_at lw_m3 181 rfl) rfl
theorem q753 : (Jvm.Cond.code ({ cls := "PolicyNotation$Look", name := "prevailing", desc := "()LPolicyNotation$Rule;" } : Jvm.MethodName) prog_13_method_11_code (4 : Nat) (Option.some (Jvm.ClassFile.FieldType.object "PolicyNotation$Rule"))) ∈ lw_all := lw_g (lw_at lw_m3 182 rfl) rfl
theorem q754 : (Jvm.Cond.methodLink "PolicyNotation$Look" (95 : Nat) ({ cls := "java/util/ArrayList", name := "size", desc := "()I" } : Jvm.MethodName)) ∈ lw_all := lw_g (lw_at lw_m3 183 rfl) rfl
theorem q755 : (Jvm.Cond.classLink "PolicyNotation$Look" (69 : Nat) "PolicyNotation$Rule") ∈ lw_all := lw_g (lw_at lw_m3 184 rfl) rfl
theorem q756 : (Jvm.Cond.methodLink "PolicyNotation$Look" (118 : Nat) ({ cls := "PolicyNotation$Rule", name := "effect", desc := "()LPolicyNotation$Effect;" } : Jvm.MethodName)) ∈ lw_all := lw_g (lw_at lw_m3 185 rfl) rfl
theorem q765 : (Jvm.Cond.methodLink "PolicyNotation$Look" (102 : Nat) ({ cls := "PolicyNotation$Look", name := "holds", desc := "(LPolicyNotation$Rule;)Z" } : Jvm.MethodName)) ∈ lw_all := lw_g (lw_at lw_m3 194 rfl) rfl
theorem q766 : (Jvm.Cond.instanceMethod ({ cls := "PolicyNotation$Look", name := "holds", desc := "(LPolicyNotation$Rule;)Z" } : Jvm.MethodName)) ∈ lw_all := lw_g (lw_at lw_m3 195 rfl) rfl
theorem q767 : (Jvm.Cond.selects "PolicyNotation$Look" ({ cls := "PolicyNotation$Look", name := "holds", desc := "(LPolicyNotation$Rule;)Z" } : Jvm.MethodName) ({ cls := "PolicyNotation$Look", name := "holds", desc := "(LPolicyNotation$Rule;)Z" } : Jvm.MethodName)) ∈ lw_all := lw_g (lw_at lw_m3 196 rfl) rfl
theorem q768 : (Jvm.Cond.code ({ cls := "PolicyNotation$Look", name := "holds", desc := "(LPolicyNotation$Rule;)Z" } : Jvm.MethodName) prog_13_method_7_code (2 : Nat) (Option.some Jvm.ClassFile.FieldType.boolean)) ∈ lw_all := lw_g (lw_at lw_m3 197 rfl) rfl
theorem q769 : (Jvm.Cond.methodLink "PolicyNotation$Look" (85 : Nat) ({ cls := "PolicyNotation$Look", name := "finds", desc := "(LPolicyNotation$Rule;)Z" } : Jvm.MethodName)) ∈ lw_all := lw_g (lw_at lw_m3 198 rfl) rfl
theorem q770 : (Jvm.Cond.privateMethod ({ cls := "PolicyNotation$Look", name := "finds", desc := "(LPolicyNotation$Rule;)Z" } : Jvm.MethodName)) ∈ lw_tbl := lw_at lw_m3 199 rfl
theorem q771 : (Jvm.Cond.instanceMethod ({ cls := "PolicyNotation$Look", name := "finds", desc := "(LPolicyNotation$Rule;)Z" } : Jvm.MethodName)) ∈ lw_all := lw_g (lw_at lw_m3 200 rfl) rfl
theorem q772 : (Jvm.Cond.code ({ cls := "PolicyNotation$Look", name := "finds", desc := "(LPolicyNotation$Rule;)Z" } : Jvm.MethodName) prog_13_method_8_code (4 : Nat) (Option.some Jvm.ClassFile.FieldType.boolean)) ∈ lw_all := lw_g (lw_at lw_m3 201 rfl) rfl
theorem q773 : (Jvm.Cond.methodLink "PolicyNotation$Look" (89 : Nat) ({ cls := "PolicyNotation$Look", name := "covers", desc := "(LPolicyNotation$Rule;)Z" } : Jvm.MethodName)) ∈ lw_all := lw_g (lw_at lw_m3 202 rfl) rfl
theorem q774 : (Jvm.Cond.instanceMethod ({ cls := "PolicyNotation$Look", name := "covers", desc := "(LPolicyNotation$Rule;)Z" } : Jvm.MethodName)) ∈ lw_all := lw_g (lw_at lw_m3 203 rfl) rfl
theorem q775 : (Jvm.Cond.selects "PolicyNotation$Look" ({ cls := "PolicyNotation$Look", name := "covers", desc := "(LPolicyNotation$Rule;)Z" } : Jvm.MethodName) ({ cls := "PolicyNotation$Look", name := "covers", desc := "(LPolicyNotation$Rule;)Z" } : Jvm.MethodName)) ∈ lw_all := lw_g (lw_at lw_m3 204 rfl) rfl
theorem q776 : (Jvm.Cond.code ({ cls := "PolicyNotation$Look", name := "covers", desc := "(LPolicyNotation$Rule;)Z" } : Jvm.MethodName) prog_13_method_6_code (2 : Nat) (Option.some Jvm.ClassFile.FieldType.boolean)) ∈ lw_all := lw_g (lw_at lw_m3 205 rfl) rfl
theorem q777 : (Jvm.Cond.methodLink "PolicyNotation$Look" (73 : Nat) ({ cls := "PolicyNotation$Rule", name := "isOn", desc := "(I)Z" } : Jvm.MethodName)) ∈ lw_all := lw_g (lw_at lw_m3 206 rfl) rfl
theorem q786 : (Jvm.Cond.methodLink "PolicyNotation$Look" (78 : Nat) ({ cls := "PolicyNotation$Scope", name := "isWithin", desc := "(I)Z" } : Jvm.MethodName)) ∈ lw_all := lw_g (lw_at lw_m3 215 rfl) rfl
theorem q791 : (Jvm.Cond.methodLink "PolicyNotation$Look" (81 : Nat) ({ cls := "PolicyNotation$Rule", name := "fits", desc := "([I)Z" } : Jvm.MethodName)) ∈ lw_all := lw_g (lw_at lw_m3 220 rfl) rfl
theorem q838 : (Jvm.Cond.methodLink "PolicyNotation$Look" (99 : Nat) ({ cls := "PolicyNotation$Rule", name := "of", desc := "()I" } : Jvm.MethodName)) ∈ lw_all := lw_g (lw_at lw_m4 27 rfl) rfl
theorem q847 : (Jvm.Cond.methodLink "PolicyNotation$Look" (122 : Nat) ({ cls := "PolicyNotation$Look", name := "compared", desc := "(LPolicyNotation$Rule;LPolicyNotation$Rule;)I" } : Jvm.MethodName)) ∈ lw_all := lw_g (lw_at lw_m4 36 rfl) rfl
theorem q848 : (Jvm.Cond.privateMethod ({ cls := "PolicyNotation$Look", name := "compared", desc := "(LPolicyNotation$Rule;LPolicyNotation$Rule;)I" } : Jvm.MethodName)) ∈ lw_tbl := lw_at lw_m4 37 rfl
theorem q849 : (Jvm.Cond.instanceMethod ({ cls := "PolicyNotation$Look", name := "compared", desc := "(LPolicyNotation$Rule;LPolicyNotation$Rule;)I" } : Jvm.MethodName)) ∈ lw_all := lw_g (lw_at lw_m4 38 rfl) rfl
theorem q850 : (Jvm.Cond.code ({ cls := "PolicyNotation$Look", name := "compared", desc := "(LPolicyNotation$Rule;LPolicyNotation$Rule;)I" } : Jvm.MethodName) prog_13_method_10_code (4 : Nat) (Option.some Jvm.ClassFile.FieldType.int)) ∈ lw_all := lw_g (lw_at lw_m4 39 rfl) rfl
theorem q851 : (Jvm.Cond.methodLink "PolicyNotation$Look" (109 : Nat) ({ cls := "PolicyNotation$Scope", name := "depth", desc := "()I" } : Jvm.MethodName)) ∈ lw_all := lw_g (lw_at lw_m4 40 rfl) rfl
theorem q856 : (Jvm.Cond.methodLink "PolicyNotation$Look" (130 : Nat) ({ cls := "PolicyNotation$Scope", name := "counts", desc := "()LPolicyNotation$Effect;" } : Jvm.MethodName)) ∈ lw_all := lw_g (lw_at lw_m4 45 rfl) rfl
theorem q869 : (Jvm.Cond.instanceMethod ({ cls := "PolicyNotation$Look", name := "chained", desc := "()I" } : Jvm.MethodName)) ∈ lw_all := lw_g (lw_at lw_m4 58 rfl) rfl
theorem q870 : (Jvm.Cond.selects "PolicyNotation$Look" ({ cls := "PolicyNotation$Look", name := "chained", desc := "()I" } : Jvm.MethodName) ({ cls := "PolicyNotation$Look", name := "chained", desc := "()I" } : Jvm.MethodName)) ∈ lw_all := lw_g (lw_at lw_m4 59 rfl) rfl
theorem q871 : (Jvm.Cond.code ({ cls := "PolicyNotation$Look", name := "chained", desc := "()I" } : Jvm.MethodName) prog_13_method_19_code (4 : Nat) (Option.some Jvm.ClassFile.FieldType.int)) ∈ lw_all := lw_g (lw_at lw_m4 60 rfl) rfl
theorem q872 : (Jvm.Cond.methodLink "PolicyNotation$Look" (151 : Nat) ({ cls := "PolicyNotation$Look", name := "chain", desc := "()I" } : Jvm.MethodName)) ∈ lw_all := lw_g (lw_at lw_m4 61 rfl) rfl
theorem q873 : (Jvm.Cond.instanceMethod ({ cls := "PolicyNotation$Look", name := "chain", desc := "()I" } : Jvm.MethodName)) ∈ lw_all := lw_g (lw_at lw_m4 62 rfl) rfl
theorem q874 : (Jvm.Cond.selects "PolicyNotation$Look" ({ cls := "PolicyNotation$Look", name := "chain", desc := "()I" } : Jvm.MethodName) ({ cls := "PolicyNotation$Look", name := "chain", desc := "()I" } : Jvm.MethodName)) ∈ lw_all := lw_g (lw_at lw_m4 63 rfl) rfl
theorem q875 : (Jvm.Cond.code ({ cls := "PolicyNotation$Look", name := "chain", desc := "()I" } : Jvm.MethodName) prog_13_method_17_code (1 : Nat) (Option.some Jvm.ClassFile.FieldType.int)) ∈ lw_all := lw_g (lw_at lw_m4 64 rfl) rfl
theorem q876 : (Jvm.Cond.methodLink "PolicyNotation$Look" (147 : Nat) ({ cls := "PolicyNotation$Look", name := "goesOn", desc := "(LPolicyNotation$Rule;)V" } : Jvm.MethodName)) ∈ lw_all := lw_g (lw_at lw_m4 65 rfl) rfl
theorem q877 : (Jvm.Cond.privateMethod ({ cls := "PolicyNotation$Look", name := "goesOn", desc := "(LPolicyNotation$Rule;)V" } : Jvm.MethodName)) ∈ lw_tbl := lw_at lw_m4 66 rfl
theorem q878 : (Jvm.Cond.instanceMethod ({ cls := "PolicyNotation$Look", name := "goesOn", desc := "(LPolicyNotation$Rule;)V" } : Jvm.MethodName)) ∈ lw_all := lw_g (lw_at lw_m4 67 rfl) rfl
theorem q879 : (Jvm.Cond.code ({ cls := "PolicyNotation$Look", name := "goesOn", desc := "(LPolicyNotation$Rule;)V" } : Jvm.MethodName) prog_13_method_16_code (2 : Nat) (Option.none : Option Jvm.ClassFile.FieldType)) ∈ lw_all := lw_g (lw_at lw_m4 68 rfl) rfl
theorem q880 : (Jvm.Cond.methodLink "PolicyNotation$Look" (143 : Nat) ({ cls := "PolicyNotation$Look", name := "next", desc := "(LPolicyNotation$Rule;)LPolicyNotation$Rule;" } : Jvm.MethodName)) ∈ lw_all := lw_g (lw_at lw_m4 69 rfl) rfl
theorem q881 : (Jvm.Cond.privateMethod ({ cls := "PolicyNotation$Look", name := "next", desc := "(LPolicyNotation$Rule;)LPolicyNotation$Rule;" } : Jvm.MethodName)) ∈ lw_tbl := lw_at lw_m4 70 rfl
theorem q882 : (Jvm.Cond.instanceMethod ({ cls := "PolicyNotation$Look", name := "next", desc := "(LPolicyNotation$Rule;)LPolicyNotation$Rule;" } : Jvm.MethodName)) ∈ lw_all := lw_g (lw_at lw_m4 71 rfl) rfl
theorem q883 : (Jvm.Cond.code ({ cls := "PolicyNotation$Look", name := "next", desc := "(LPolicyNotation$Rule;)LPolicyNotation$Rule;" } : Jvm.MethodName) prog_13_method_15_code (8 : Nat) (Option.some (Jvm.ClassFile.FieldType.object "PolicyNotation$Rule"))) ∈ lw_all := lw_g (lw_at lw_m4 72 rfl) rfl
theorem q884 : (Jvm.Cond.methodLink "PolicyNotation$Look" (137 : Nat) ({ cls := "PolicyNotation$Rule", name := "isAhead", desc := "(LPolicyNotation$Rule;)Z" } : Jvm.MethodName)) ∈ lw_all := lw_g (lw_at lw_m4 73 rfl) rfl
theorem q961 : (Jvm.Cond.fieldLinkNest "PolicyNotation$Look" (68 : Nat) "PolicyNotation$Rule" "number" "I" "PolicyNotation") ∈ lw_tbl := lw_at lw_m4 150 rfl
theorem q966 : (Jvm.Cond.fieldLinkNest "PolicyNotation$Look" (77 : Nat) "PolicyNotation$Rule" "scope" "I" "PolicyNotation") ∈ lw_tbl := lw_at lw_m4 155 rfl
theorem q972 : (Jvm.Cond.fieldLinkNest "PolicyNotation$Look" (112 : Nat) "PolicyNotation$Rule" "rank" "I" "PolicyNotation") ∈ lw_tbl := lw_at lw_m4 161 rfl
theorem q977 : (Jvm.Cond.fieldLinkNest "PolicyNotation$Look" (115 : Nat) "PolicyNotation$Rule" "first" "I" "PolicyNotation") ∈ lw_tbl := lw_at lw_m4 166 rfl
theorem q984 : (Jvm.Cond.fieldLinkNest "PolicyNotation$Look" (154 : Nat) "PolicyNotation$Rule" "factor" "I" "PolicyNotation") ∈ lw_tbl := lw_at lw_m4 173 rfl
theorem q1538 : (Jvm.Cond.instanceMethod ({ cls := "PolicyNotation$Look", name := "holdsAgain", desc := "(LPolicyNotation$Rule;)Z" } : Jvm.MethodName)) ∈ lw_all := lw_g (lw_at lw_m7 7 rfl) rfl
theorem q1539 : (Jvm.Cond.selects "PolicyNotation$Look" ({ cls := "PolicyNotation$Look", name := "holdsAgain", desc := "(LPolicyNotation$Rule;)Z" } : Jvm.MethodName) ({ cls := "PolicyNotation$Look", name := "holdsAgain", desc := "(LPolicyNotation$Rule;)Z" } : Jvm.MethodName)) ∈ lw_all := lw_g (lw_at lw_m7 8 rfl) rfl
theorem q1540 : (Jvm.Cond.code ({ cls := "PolicyNotation$Look", name := "holdsAgain", desc := "(LPolicyNotation$Rule;)Z" } : Jvm.MethodName) prog_13_method_9_code (5 : Nat) (Option.some Jvm.ClassFile.FieldType.boolean)) ∈ lw_all := lw_g (lw_at lw_m7 9 rfl) rfl
theorem q1541 : (Jvm.Cond.methodLinkNest "PolicyNotation$Look" (105 : Nat) ({ cls := "PolicyNotation", name := "has", desc := "(II)Z" } : Jvm.MethodName) "PolicyNotation") ∈ lw_tbl := lw_at lw_m7 10 rfl
theorem q1560 : (Jvm.Cond.instanceMethod ({ cls := "PolicyNotation$Look", name := "link", desc := "(I)I" } : Jvm.MethodName)) ∈ lw_all := lw_g (lw_at lw_m7 29 rfl) rfl
theorem q1561 : (Jvm.Cond.selects "PolicyNotation$Look" ({ cls := "PolicyNotation$Look", name := "link", desc := "(I)I" } : Jvm.MethodName) ({ cls := "PolicyNotation$Look", name := "link", desc := "(I)I" } : Jvm.MethodName)) ∈ lw_all := lw_g (lw_at lw_m7 30 rfl) rfl
theorem q1562 : (Jvm.Cond.code ({ cls := "PolicyNotation$Look", name := "link", desc := "(I)I" } : Jvm.MethodName) prog_13_method_18_code (2 : Nat) (Option.some Jvm.ClassFile.FieldType.int)) ∈ lw_all := lw_g (lw_at lw_m7 31 rfl) rfl
theorem q1571 : (Jvm.Cond.instanceMethod ({ cls := "PolicyNotation$Look", name := "rivals", desc := "()I" } : Jvm.MethodName)) ∈ lw_all := lw_g (lw_at lw_m7 40 rfl) rfl
theorem q1572 : (Jvm.Cond.selects "PolicyNotation$Look" ({ cls := "PolicyNotation$Look", name := "rivals", desc := "()I" } : Jvm.MethodName) ({ cls := "PolicyNotation$Look", name := "rivals", desc := "()I" } : Jvm.MethodName)) ∈ lw_all := lw_g (lw_at lw_m7 41 rfl) rfl
theorem q1573 : (Jvm.Cond.code ({ cls := "PolicyNotation$Look", name := "rivals", desc := "()I" } : Jvm.MethodName) prog_13_method_14_code (4 : Nat) (Option.some Jvm.ClassFile.FieldType.int)) ∈ lw_all := lw_g (lw_at lw_m7 42 rfl) rfl
theorem q1574 : (Jvm.Cond.methodLink "PolicyNotation$Look" (133 : Nat) ({ cls := "PolicyNotation$Look", name := "isRival", desc := "(LPolicyNotation$Rule;LPolicyNotation$Rule;)Z" } : Jvm.MethodName)) ∈ lw_all := lw_g (lw_at lw_m7 43 rfl) rfl
theorem q1575 : (Jvm.Cond.instanceMethod ({ cls := "PolicyNotation$Look", name := "isRival", desc := "(LPolicyNotation$Rule;LPolicyNotation$Rule;)Z" } : Jvm.MethodName)) ∈ lw_all := lw_g (lw_at lw_m7 44 rfl) rfl
theorem q1576 : (Jvm.Cond.selects "PolicyNotation$Look" ({ cls := "PolicyNotation$Look", name := "isRival", desc := "(LPolicyNotation$Rule;LPolicyNotation$Rule;)Z" } : Jvm.MethodName) ({ cls := "PolicyNotation$Look", name := "isRival", desc := "(LPolicyNotation$Rule;LPolicyNotation$Rule;)Z" } : Jvm.MethodName)) ∈ lw_all := lw_g (lw_at lw_m7 45 rfl) rfl
theorem q1577 : (Jvm.Cond.code ({ cls := "PolicyNotation$Look", name := "isRival", desc := "(LPolicyNotation$Rule;LPolicyNotation$Rule;)Z" } : Jvm.MethodName) prog_13_method_13_code (3 : Nat) (Option.some Jvm.ClassFile.FieldType.boolean)) ∈ lw_all := lw_g (lw_at lw_m7 46 rfl) rfl
theorem q1593 : (Jvm.Cond.instanceMethod ({ cls := "PolicyNotation$Look", name := "on", desc := "(I)LPolicyNotation$Look;" } : Jvm.MethodName)) ∈ lw_all := lw_g (lw_at lw_m7 62 rfl) rfl
theorem q1594 : (Jvm.Cond.selects "PolicyNotation$Look" ({ cls := "PolicyNotation$Look", name := "on", desc := "(I)LPolicyNotation$Look;" } : Jvm.MethodName) ({ cls := "PolicyNotation$Look", name := "on", desc := "(I)LPolicyNotation$Look;" } : Jvm.MethodName)) ∈ lw_all := lw_g (lw_at lw_m7 63 rfl) rfl
theorem q1595 : (Jvm.Cond.code ({ cls := "PolicyNotation$Look", name := "on", desc := "(I)LPolicyNotation$Look;" } : Jvm.MethodName) prog_13_method_4_code (2 : Nat) (Option.some (Jvm.ClassFile.FieldType.object "PolicyNotation$Look"))) ∈ lw_all := lw_g (lw_at lw_m7 64 rfl) rfl
theorem q1611 : (Jvm.Cond.instanceMethod ({ cls := "PolicyNotation$Look", name := "burden", desc := "()F" } : Jvm.MethodName)) ∈ lw_all := lw_g (lw_at lw_m7 80 rfl) rfl
theorem q1612 : (Jvm.Cond.selects "PolicyNotation$Look" ({ cls := "PolicyNotation$Look", name := "burden", desc := "()F" } : Jvm.MethodName) ({ cls := "PolicyNotation$Look", name := "burden", desc := "()F" } : Jvm.MethodName)) ∈ lw_all := lw_g (lw_at lw_m7 81 rfl) rfl
theorem q1613 : (Jvm.Cond.code ({ cls := "PolicyNotation$Look", name := "burden", desc := "()F" } : Jvm.MethodName) prog_13_method_20_code (4 : Nat) (Option.some Jvm.ClassFile.FieldType.float)) ∈ lw_all := lw_g (lw_at lw_m7 82 rfl) rfl
theorem q1614 : (Jvm.Cond.constantFloat "PolicyNotation$Look" (157 : Nat) (1120403456 : UInt32)) ∈ lw_all := lw_g (lw_at lw_m7 83 rfl) rfl
theorem q1615 : (Jvm.Cond.constantFloat "PolicyNotation$Look" (158 : Nat) (1232348160 : UInt32)) ∈ lw_all := lw_g (lw_at lw_m7 84 rfl) rfl
theorem q1637 : (Jvm.Cond.fieldLinkNest "PolicyNotation$Look" (57 : Nat) "PolicyNotation$Work" "scope" "I" "PolicyNotation") ∈ lw_tbl := lw_at lw_m7 106 rfl
theorem q1639 : (Jvm.Cond.fieldLinkNest "PolicyNotation$Look" (61 : Nat) "PolicyNotation$Work" "day" "I" "PolicyNotation") ∈ lw_tbl := lw_at lw_m7 108 rfl
theorem q1641 : (Jvm.Cond.fieldLinkNest "PolicyNotation$Look" (62 : Nat) "PolicyNotation$Work" "features" "I" "PolicyNotation") ∈ lw_tbl := lw_at lw_m7 110 rfl
theorem q2808 : (Jvm.Cond.castable "PolicyNotation$Look" "java/lang/Object") ∈ lw_tbl := lw_at lw_m12 77 rfl
theorem in_X5 : ∀ w ∈ wsX50, w ∈ lw_all := lw_in wsX50 [638, 640, 642, 644, 646, 648, 650, 652] (by decide +kernel) (by decide +kernel)
