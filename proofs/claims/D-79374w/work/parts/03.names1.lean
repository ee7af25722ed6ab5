set_option maxRecDepth 100000
/-! PolicyNotationLaw -/
def RX0 : String := "PolicyNotationLaw"
abbrev cX0_scope : ByteArray := method_3_code
def yX0_scope : MethodName := ⟨RX0, "scope", "(LPolicyNotation;I[J)I"⟩
def dkwX0_scope_0 : List UInt8 := [44, 3, 42, 27, 182, 0, 7, 133, 80, 167, 0, 9, 78, 4, 172, 78, 5, 172, 3, 172]
abbrev dktX0_scope_0 : List UInt8 := dkwX0_scope_0 ++ []
theorem dksX0_scope_0 : cX0_scope.data.toList.drop 0 = dktX0_scope_0 := by decide +kernel
theorem dX0_scope_0 : decode cX0_scope 0 = .ok (.aload_n 2, 1) := dk_44 (dk_at dksX0_scope_0 0 rfl rfl)
theorem dX0_scope_1 : decode cX0_scope 1 = .ok (.iconst 0, 1) := dk_3 (dk_at dksX0_scope_0 1 rfl rfl)
theorem dX0_scope_2 : decode cX0_scope 2 = .ok (.aload_n 0, 1) := dk_42 (dk_at dksX0_scope_0 2 rfl rfl)
theorem dX0_scope_3 : decode cX0_scope 3 = .ok (.iload_n 1, 1) := dk_27 (dk_at dksX0_scope_0 3 rfl rfl)
theorem dX0_scope_4 : decode cX0_scope 4 = .ok (.invokevirtual 7, 3) := dk_182 0 7 (dk_at dksX0_scope_0 4 rfl rfl)
theorem dX0_scope_7 : decode cX0_scope 7 = .ok (.i2l, 1) := dk_133 (dk_at dksX0_scope_0 7 rfl rfl)
theorem dX0_scope_8 : decode cX0_scope 8 = .ok (.lastore, 1) := dk_80 (dk_at dksX0_scope_0 8 rfl rfl)
theorem dX0_scope_9 : decode cX0_scope 9 = .ok (.goto 9, 3) := dk_167 0 9 (dk_at dksX0_scope_0 9 rfl rfl)
theorem dX0_scope_12 : decode cX0_scope 12 = .ok (.astore_n 3, 1) := dk_78 (dk_at dksX0_scope_0 12 rfl rfl)
theorem dX0_scope_13 : decode cX0_scope 13 = .ok (.iconst 1, 1) := dk_4 (dk_at dksX0_scope_0 13 rfl rfl)
theorem dX0_scope_14 : decode cX0_scope 14 = .ok (.ireturn, 1) := dk_172 (dk_at dksX0_scope_0 14 rfl rfl)
theorem dX0_scope_15 : decode cX0_scope 15 = .ok (.astore_n 3, 1) := dk_78 (dk_at dksX0_scope_0 15 rfl rfl)
theorem dX0_scope_16 : decode cX0_scope 16 = .ok (.iconst 2, 1) := dk_5 (dk_at dksX0_scope_0 16 rfl rfl)
theorem dX0_scope_17 : decode cX0_scope 17 = .ok (.ireturn, 1) := dk_172 (dk_at dksX0_scope_0 17 rfl rfl)
theorem dX0_scope_18 : decode cX0_scope 18 = .ok (.iconst 0, 1) := dk_3 (dk_at dksX0_scope_0 18 rfl rfl)
theorem dX0_scope_19 : decode cX0_scope 19 = .ok (.ireturn, 1) := dk_172 (dk_at dksX0_scope_0 19 rfl rfl)
abbrev cX0_setDefault : ByteArray := method_4_code
def yX0_setDefault : MethodName := ⟨RX0, "setDefault", "(LPolicyNotation;II[J)I"⟩
def dkwX0_setDefault_0 : List UInt8 := [45, 3, 42, 27, 28, 182, 0, 17, 133, 80, 167, 0, 11, 58, 4, 4, 172, 58, 4, 5, 172, 3, 172]
abbrev dktX0_setDefault_0 : List UInt8 := dkwX0_setDefault_0 ++ []
theorem dksX0_setDefault_0 : cX0_setDefault.data.toList.drop 0 = dktX0_setDefault_0 := by decide +kernel
theorem dX0_setDefault_0 : decode cX0_setDefault 0 = .ok (.aload_n 3, 1) := dk_45 (dk_at dksX0_setDefault_0 0 rfl rfl)
theorem dX0_setDefault_1 : decode cX0_setDefault 1 = .ok (.iconst 0, 1) := dk_3 (dk_at dksX0_setDefault_0 1 rfl rfl)
theorem dX0_setDefault_2 : decode cX0_setDefault 2 = .ok (.aload_n 0, 1) := dk_42 (dk_at dksX0_setDefault_0 2 rfl rfl)
theorem dX0_setDefault_3 : decode cX0_setDefault 3 = .ok (.iload_n 1, 1) := dk_27 (dk_at dksX0_setDefault_0 3 rfl rfl)
theorem dX0_setDefault_4 : decode cX0_setDefault 4 = .ok (.iload_n 2, 1) := dk_28 (dk_at dksX0_setDefault_0 4 rfl rfl)
theorem dX0_setDefault_5 : decode cX0_setDefault 5 = .ok (.invokevirtual 17, 3) := dk_182 0 17 (dk_at dksX0_setDefault_0 5 rfl rfl)
theorem dX0_setDefault_8 : decode cX0_setDefault 8 = .ok (.i2l, 1) := dk_133 (dk_at dksX0_setDefault_0 8 rfl rfl)
theorem dX0_setDefault_9 : decode cX0_setDefault 9 = .ok (.lastore, 1) := dk_80 (dk_at dksX0_setDefault_0 9 rfl rfl)
theorem dX0_setDefault_10 : decode cX0_setDefault 10 = .ok (.goto 11, 3) := dk_167 0 11 (dk_at dksX0_setDefault_0 10 rfl rfl)
theorem dX0_setDefault_13 : decode cX0_setDefault 13 = .ok (.astore 4, 2) := dk_58 4 (dk_at dksX0_setDefault_0 13 rfl rfl)
theorem dX0_setDefault_15 : decode cX0_setDefault 15 = .ok (.iconst 1, 1) := dk_4 (dk_at dksX0_setDefault_0 15 rfl rfl)
theorem dX0_setDefault_16 : decode cX0_setDefault 16 = .ok (.ireturn, 1) := dk_172 (dk_at dksX0_setDefault_0 16 rfl rfl)
theorem dX0_setDefault_17 : decode cX0_setDefault 17 = .ok (.astore 4, 2) := dk_58 4 (dk_at dksX0_setDefault_0 17 rfl rfl)
theorem dX0_setDefault_19 : decode cX0_setDefault 19 = .ok (.iconst 2, 1) := dk_5 (dk_at dksX0_setDefault_0 19 rfl rfl)
theorem dX0_setDefault_20 : decode cX0_setDefault 20 = .ok (.ireturn, 1) := dk_172 (dk_at dksX0_setDefault_0 20 rfl rfl)
theorem dX0_setDefault_21 : decode cX0_setDefault 21 = .ok (.iconst 0, 1) := dk_3 (dk_at dksX0_setDefault_0 21 rfl rfl)
theorem dX0_setDefault_22 : decode cX0_setDefault 22 = .ok (.ireturn, 1) := dk_172 (dk_at dksX0_setDefault_0 22 rfl rfl)
abbrev cX0_scopeOf : ByteArray := method_5_code
def yX0_scopeOf : MethodName := ⟨RX0, "scopeOf", "(LPolicyNotation;II[J)I"⟩
def dkwX0_scopeOf_0 : List UInt8 := [45, 3, 42, 27, 28, 182, 0, 23, 133, 80, 167, 0, 11, 58, 4, 4, 172, 58, 4, 5, 172, 3, 172]
abbrev dktX0_scopeOf_0 : List UInt8 := dkwX0_scopeOf_0 ++ []
theorem dksX0_scopeOf_0 : cX0_scopeOf.data.toList.drop 0 = dktX0_scopeOf_0 := by decide +kernel
theorem dX0_scopeOf_0 : decode cX0_scopeOf 0 = .ok (.aload_n 3, 1) := dk_45 (dk_at dksX0_scopeOf_0 0 rfl rfl)
theorem dX0_scopeOf_1 : decode cX0_scopeOf 1 = .ok (.iconst 0, 1) := dk_3 (dk_at dksX0_scopeOf_0 1 rfl rfl)
theorem dX0_scopeOf_2 : decode cX0_scopeOf 2 = .ok (.aload_n 0, 1) := dk_42 (dk_at dksX0_scopeOf_0 2 rfl rfl)
theorem dX0_scopeOf_3 : decode cX0_scopeOf 3 = .ok (.iload_n 1, 1) := dk_27 (dk_at dksX0_scopeOf_0 3 rfl rfl)
theorem dX0_scopeOf_4 : decode cX0_scopeOf 4 = .ok (.iload_n 2, 1) := dk_28 (dk_at dksX0_scopeOf_0 4 rfl rfl)
theorem dX0_scopeOf_5 : decode cX0_scopeOf 5 = .ok (.invokevirtual 23, 3) := dk_182 0 23 (dk_at dksX0_scopeOf_0 5 rfl rfl)
theorem dX0_scopeOf_8 : decode cX0_scopeOf 8 = .ok (.i2l, 1) := dk_133 (dk_at dksX0_scopeOf_0 8 rfl rfl)
theorem dX0_scopeOf_9 : decode cX0_scopeOf 9 = .ok (.lastore, 1) := dk_80 (dk_at dksX0_scopeOf_0 9 rfl rfl)
theorem dX0_scopeOf_10 : decode cX0_scopeOf 10 = .ok (.goto 11, 3) := dk_167 0 11 (dk_at dksX0_scopeOf_0 10 rfl rfl)
theorem dX0_scopeOf_13 : decode cX0_scopeOf 13 = .ok (.astore 4, 2) := dk_58 4 (dk_at dksX0_scopeOf_0 13 rfl rfl)
theorem dX0_scopeOf_15 : decode cX0_scopeOf 15 = .ok (.iconst 1, 1) := dk_4 (dk_at dksX0_scopeOf_0 15 rfl rfl)
theorem dX0_scopeOf_16 : decode cX0_scopeOf 16 = .ok (.ireturn, 1) := dk_172 (dk_at dksX0_scopeOf_0 16 rfl rfl)
theorem dX0_scopeOf_17 : decode cX0_scopeOf 17 = .ok (.astore 4, 2) := dk_58 4 (dk_at dksX0_scopeOf_0 17 rfl rfl)
theorem dX0_scopeOf_19 : decode cX0_scopeOf 19 = .ok (.iconst 2, 1) := dk_5 (dk_at dksX0_scopeOf_0 19 rfl rfl)
theorem dX0_scopeOf_20 : decode cX0_scopeOf 20 = .ok (.ireturn, 1) := dk_172 (dk_at dksX0_scopeOf_0 20 rfl rfl)
theorem dX0_scopeOf_21 : decode cX0_scopeOf 21 = .ok (.iconst 0, 1) := dk_3 (dk_at dksX0_scopeOf_0 21 rfl rfl)
theorem dX0_scopeOf_22 : decode cX0_scopeOf 22 = .ok (.ireturn, 1) := dk_172 (dk_at dksX0_scopeOf_0 22 rfl rfl)
abbrev cX0_isWithin : ByteArray := method_6_code
def yX0_isWithin : MethodName := ⟨RX0, "isWithin", "(LPolicyNotation;II[J)I"⟩
def dkwX0_isWithin_1 : List UInt8 := [3, 172]
abbrev dktX0_isWithin_1 : List UInt8 := dkwX0_isWithin_1 ++ []
def dkwX0_isWithin_0 : List UInt8 := [45, 3, 42, 27, 28, 182, 0, 26, 153, 0, 7, 10, 167, 0, 4, 9, 80, 167, 0, 7, 58, 4, 4, 172]
abbrev dktX0_isWithin_0 : List UInt8 := dkwX0_isWithin_0 ++ dktX0_isWithin_1
theorem dksX0_isWithin_0 : cX0_isWithin.data.toList.drop 0 = dktX0_isWithin_0 := by decide +kernel
theorem dksX0_isWithin_1 : cX0_isWithin.data.toList.drop 24 = dktX0_isWithin_1 := dk_seg dksX0_isWithin_0 24 rfl rfl
theorem dX0_isWithin_0 : decode cX0_isWithin 0 = .ok (.aload_n 3, 1) := dk_45 (dk_at dksX0_isWithin_0 0 rfl rfl)
theorem dX0_isWithin_1 : decode cX0_isWithin 1 = .ok (.iconst 0, 1) := dk_3 (dk_at dksX0_isWithin_0 1 rfl rfl)
theorem dX0_isWithin_2 : decode cX0_isWithin 2 = .ok (.aload_n 0, 1) := dk_42 (dk_at dksX0_isWithin_0 2 rfl rfl)
theorem dX0_isWithin_3 : decode cX0_isWithin 3 = .ok (.iload_n 1, 1) := dk_27 (dk_at dksX0_isWithin_0 3 rfl rfl)
theorem dX0_isWithin_4 : decode cX0_isWithin 4 = .ok (.iload_n 2, 1) := dk_28 (dk_at dksX0_isWithin_0 4 rfl rfl)
theorem dX0_isWithin_5 : decode cX0_isWithin 5 = .ok (.invokevirtual 26, 3) := dk_182 0 26 (dk_at dksX0_isWithin_0 5 rfl rfl)
theorem dX0_isWithin_8 : decode cX0_isWithin 8 = .ok (.ifCond .eq 7, 3) := dk_153 0 7 (dk_at dksX0_isWithin_0 8 rfl rfl)
theorem dX0_isWithin_11 : decode cX0_isWithin 11 = .ok (.lconst 1, 1) := dk_10 (dk_at dksX0_isWithin_0 11 rfl rfl)
theorem dX0_isWithin_12 : decode cX0_isWithin 12 = .ok (.goto 4, 3) := dk_167 0 4 (dk_at dksX0_isWithin_0 12 rfl rfl)
theorem dX0_isWithin_15 : decode cX0_isWithin 15 = .ok (.lconst 0, 1) := dk_9 (dk_at dksX0_isWithin_0 15 rfl rfl)
theorem dX0_isWithin_16 : decode cX0_isWithin 16 = .ok (.lastore, 1) := dk_80 (dk_at dksX0_isWithin_0 16 rfl rfl)
theorem dX0_isWithin_17 : decode cX0_isWithin 17 = .ok (.goto 7, 3) := dk_167 0 7 (dk_at dksX0_isWithin_0 17 rfl rfl)
theorem dX0_isWithin_20 : decode cX0_isWithin 20 = .ok (.astore 4, 2) := dk_58 4 (dk_at dksX0_isWithin_0 20 rfl rfl)
theorem dX0_isWithin_22 : decode cX0_isWithin 22 = .ok (.iconst 1, 1) := dk_4 (dk_at dksX0_isWithin_0 22 rfl rfl)
theorem dX0_isWithin_23 : decode cX0_isWithin 23 = .ok (.ireturn, 1) := dk_172 (dk_at dksX0_isWithin_0 23 rfl rfl)
theorem dX0_isWithin_24 : decode cX0_isWithin 24 = .ok (.iconst 0, 1) := dk_3 (dk_at dksX0_isWithin_1 0 rfl rfl)
theorem dX0_isWithin_25 : decode cX0_isWithin 25 = .ok (.ireturn, 1) := dk_172 (dk_at dksX0_isWithin_1 1 rfl rfl)
abbrev cX0_rule : ByteArray := method_7_code
def yX0_rule : MethodName := ⟨RX0, "rule", "(LPolicyNotation;IIIII[J)I"⟩
def dkwX0_rule_1 : List UInt8 := [58, 7, 5, 172, 58, 7, 6, 172, 3, 172]
abbrev dktX0_rule_1 : List UInt8 := dkwX0_rule_1 ++ []
def dkwX0_rule_0 : List UInt8 := [25, 6, 3, 42, 27, 28, 29, 21, 4, 21, 5, 182, 0, 30, 133, 80, 167, 0, 15, 58, 7, 4, 172]
abbrev dktX0_rule_0 : List UInt8 := dkwX0_rule_0 ++ dktX0_rule_1
theorem dksX0_rule_0 : cX0_rule.data.toList.drop 0 = dktX0_rule_0 := by decide +kernel
theorem dksX0_rule_1 : cX0_rule.data.toList.drop 23 = dktX0_rule_1 := dk_seg dksX0_rule_0 23 rfl rfl
theorem dX0_rule_0 : decode cX0_rule 0 = .ok (.aload 6, 2) := dk_25 6 (dk_at dksX0_rule_0 0 rfl rfl)
theorem dX0_rule_2 : decode cX0_rule 2 = .ok (.iconst 0, 1) := dk_3 (dk_at dksX0_rule_0 2 rfl rfl)
theorem dX0_rule_3 : decode cX0_rule 3 = .ok (.aload_n 0, 1) := dk_42 (dk_at dksX0_rule_0 3 rfl rfl)
theorem dX0_rule_4 : decode cX0_rule 4 = .ok (.iload_n 1, 1) := dk_27 (dk_at dksX0_rule_0 4 rfl rfl)
theorem dX0_rule_5 : decode cX0_rule 5 = .ok (.iload_n 2, 1) := dk_28 (dk_at dksX0_rule_0 5 rfl rfl)
theorem dX0_rule_6 : decode cX0_rule 6 = .ok (.iload_n 3, 1) := dk_29 (dk_at dksX0_rule_0 6 rfl rfl)
theorem dX0_rule_7 : decode cX0_rule 7 = .ok (.iload 4, 2) := dk_21 4 (dk_at dksX0_rule_0 7 rfl rfl)
theorem dX0_rule_9 : decode cX0_rule 9 = .ok (.iload 5, 2) := dk_21 5 (dk_at dksX0_rule_0 9 rfl rfl)
theorem dX0_rule_11 : decode cX0_rule 11 = .ok (.invokevirtual 30, 3) := dk_182 0 30 (dk_at dksX0_rule_0 11 rfl rfl)
theorem dX0_rule_14 : decode cX0_rule 14 = .ok (.i2l, 1) := dk_133 (dk_at dksX0_rule_0 14 rfl rfl)
theorem dX0_rule_15 : decode cX0_rule 15 = .ok (.lastore, 1) := dk_80 (dk_at dksX0_rule_0 15 rfl rfl)
theorem dX0_rule_16 : decode cX0_rule 16 = .ok (.goto 15, 3) := dk_167 0 15 (dk_at dksX0_rule_0 16 rfl rfl)
theorem dX0_rule_19 : decode cX0_rule 19 = .ok (.astore 7, 2) := dk_58 7 (dk_at dksX0_rule_0 19 rfl rfl)
theorem dX0_rule_21 : decode cX0_rule 21 = .ok (.iconst 1, 1) := dk_4 (dk_at dksX0_rule_0 21 rfl rfl)
theorem dX0_rule_22 : decode cX0_rule 22 = .ok (.ireturn, 1) := dk_172 (dk_at dksX0_rule_0 22 rfl rfl)
theorem dX0_rule_23 : decode cX0_rule 23 = .ok (.astore 7, 2) := dk_58 7 (dk_at dksX0_rule_1 0 rfl rfl)
theorem dX0_rule_25 : decode cX0_rule 25 = .ok (.iconst 2, 1) := dk_5 (dk_at dksX0_rule_1 2 rfl rfl)
theorem dX0_rule_26 : decode cX0_rule 26 = .ok (.ireturn, 1) := dk_172 (dk_at dksX0_rule_1 3 rfl rfl)
theorem dX0_rule_27 : decode cX0_rule 27 = .ok (.astore 7, 2) := dk_58 7 (dk_at dksX0_rule_1 4 rfl rfl)
theorem dX0_rule_29 : decode cX0_rule 29 = .ok (.iconst 3, 1) := dk_6 (dk_at dksX0_rule_1 6 rfl rfl)
theorem dX0_rule_30 : decode cX0_rule 30 = .ok (.ireturn, 1) := dk_172 (dk_at dksX0_rule_1 7 rfl rfl)
theorem dX0_rule_31 : decode cX0_rule 31 = .ok (.iconst 0, 1) := dk_3 (dk_at dksX0_rule_1 8 rfl rfl)
theorem dX0_rule_32 : decode cX0_rule 32 = .ok (.ireturn, 1) := dk_172 (dk_at dksX0_rule_1 9 rfl rfl)
abbrev cX0_except : ByteArray := method_8_code
def yX0_except : MethodName := ⟨RX0, "except", "(LPolicyNotation;IIIII[J)I"⟩
def dkwX0_except_1 : List UInt8 := [58, 7, 5, 172, 58, 7, 6, 172, 3, 172]
abbrev dktX0_except_1 : List UInt8 := dkwX0_except_1 ++ []
def dkwX0_except_0 : List UInt8 := [25, 6, 3, 42, 27, 28, 29, 21, 4, 21, 5, 182, 0, 36, 133, 80, 167, 0, 15, 58, 7, 4, 172]
abbrev dktX0_except_0 : List UInt8 := dkwX0_except_0 ++ dktX0_except_1
theorem dksX0_except_0 : cX0_except.data.toList.drop 0 = dktX0_except_0 := by decide +kernel
theorem dksX0_except_1 : cX0_except.data.toList.drop 23 = dktX0_except_1 := dk_seg dksX0_except_0 23 rfl rfl
theorem dX0_except_0 : decode cX0_except 0 = .ok (.aload 6, 2) := dk_25 6 (dk_at dksX0_except_0 0 rfl rfl)
theorem dX0_except_2 : decode cX0_except 2 = .ok (.iconst 0, 1) := dk_3 (dk_at dksX0_except_0 2 rfl rfl)
theorem dX0_except_3 : decode cX0_except 3 = .ok (.aload_n 0, 1) := dk_42 (dk_at dksX0_except_0 3 rfl rfl)
theorem dX0_except_4 : decode cX0_except 4 = .ok (.iload_n 1, 1) := dk_27 (dk_at dksX0_except_0 4 rfl rfl)
theorem dX0_except_5 : decode cX0_except 5 = .ok (.iload_n 2, 1) := dk_28 (dk_at dksX0_except_0 5 rfl rfl)
theorem dX0_except_6 : decode cX0_except 6 = .ok (.iload_n 3, 1) := dk_29 (dk_at dksX0_except_0 6 rfl rfl)
theorem dX0_except_7 : decode cX0_except 7 = .ok (.iload 4, 2) := dk_21 4 (dk_at dksX0_except_0 7 rfl rfl)
theorem dX0_except_9 : decode cX0_except 9 = .ok (.iload 5, 2) := dk_21 5 (dk_at dksX0_except_0 9 rfl rfl)
theorem dX0_except_11 : decode cX0_except 11 = .ok (.invokevirtual 36, 3) := dk_182 0 36 (dk_at dksX0_except_0 11 rfl rfl)
theorem dX0_except_14 : decode cX0_except 14 = .ok (.i2l, 1) := dk_133 (dk_at dksX0_except_0 14 rfl rfl)
theorem dX0_except_15 : decode cX0_except 15 = .ok (.lastore, 1) := dk_80 (dk_at dksX0_except_0 15 rfl rfl)
theorem dX0_except_16 : decode cX0_except 16 = .ok (.goto 15, 3) := dk_167 0 15 (dk_at dksX0_except_0 16 rfl rfl)
theorem dX0_except_19 : decode cX0_except 19 = .ok (.astore 7, 2) := dk_58 7 (dk_at dksX0_except_0 19 rfl rfl)
theorem dX0_except_21 : decode cX0_except 21 = .ok (.iconst 1, 1) := dk_4 (dk_at dksX0_except_0 21 rfl rfl)
theorem dX0_except_22 : decode cX0_except 22 = .ok (.ireturn, 1) := dk_172 (dk_at dksX0_except_0 22 rfl rfl)
theorem dX0_except_23 : decode cX0_except 23 = .ok (.astore 7, 2) := dk_58 7 (dk_at dksX0_except_1 0 rfl rfl)
theorem dX0_except_25 : decode cX0_except 25 = .ok (.iconst 2, 1) := dk_5 (dk_at dksX0_except_1 2 rfl rfl)
theorem dX0_except_26 : decode cX0_except 26 = .ok (.ireturn, 1) := dk_172 (dk_at dksX0_except_1 3 rfl rfl)
theorem dX0_except_27 : decode cX0_except 27 = .ok (.astore 7, 2) := dk_58 7 (dk_at dksX0_except_1 4 rfl rfl)
theorem dX0_except_29 : decode cX0_except 29 = .ok (.iconst 3, 1) := dk_6 (dk_at dksX0_except_1 6 rfl rfl)
theorem dX0_except_30 : decode cX0_except 30 = .ok (.ireturn, 1) := dk_172 (dk_at dksX0_except_1 7 rfl rfl)
theorem dX0_except_31 : decode cX0_except 31 = .ok (.iconst 0, 1) := dk_3 (dk_at dksX0_except_1 8 rfl rfl)
theorem dX0_except_32 : decode cX0_except 32 = .ok (.ireturn, 1) := dk_172 (dk_at dksX0_except_1 9 rfl rfl)
abbrev cX0_test : ByteArray := method_9_code
def yX0_test : MethodName := ⟨RX0, "test", "(LPolicyNotation;IIII[J)I"⟩
def dkwX0_test_1 : List UInt8 := [172, 58, 6, 6, 172, 3, 172]
abbrev dktX0_test_1 : List UInt8 := dkwX0_test_1 ++ []
def dkwX0_test_0 : List UInt8 := [25, 5, 3, 42, 27, 28, 29, 21, 4, 182, 0, 39, 133, 80, 167, 0, 15, 58, 6, 4, 172, 58, 6, 5]
abbrev dktX0_test_0 : List UInt8 := dkwX0_test_0 ++ dktX0_test_1
theorem dksX0_test_0 : cX0_test.data.toList.drop 0 = dktX0_test_0 := by decide +kernel
theorem dksX0_test_1 : cX0_test.data.toList.drop 24 = dktX0_test_1 := dk_seg dksX0_test_0 24 rfl rfl
theorem dX0_test_0 : decode cX0_test 0 = .ok (.aload 5, 2) := dk_25 5 (dk_at dksX0_test_0 0 rfl rfl)
theorem dX0_test_2 : decode cX0_test 2 = .ok (.iconst 0, 1) := dk_3 (dk_at dksX0_test_0 2 rfl rfl)
theorem dX0_test_3 : decode cX0_test 3 = .ok (.aload_n 0, 1) := dk_42 (dk_at dksX0_test_0 3 rfl rfl)
theorem dX0_test_4 : decode cX0_test 4 = .ok (.iload_n 1, 1) := dk_27 (dk_at dksX0_test_0 4 rfl rfl)
theorem dX0_test_5 : decode cX0_test 5 = .ok (.iload_n 2, 1) := dk_28 (dk_at dksX0_test_0 5 rfl rfl)
theorem dX0_test_6 : decode cX0_test 6 = .ok (.iload_n 3, 1) := dk_29 (dk_at dksX0_test_0 6 rfl rfl)
theorem dX0_test_7 : decode cX0_test 7 = .ok (.iload 4, 2) := dk_21 4 (dk_at dksX0_test_0 7 rfl rfl)
theorem dX0_test_9 : decode cX0_test 9 = .ok (.invokevirtual 39, 3) := dk_182 0 39 (dk_at dksX0_test_0 9 rfl rfl)
theorem dX0_test_12 : decode cX0_test 12 = .ok (.i2l, 1) := dk_133 (dk_at dksX0_test_0 12 rfl rfl)
theorem dX0_test_13 : decode cX0_test 13 = .ok (.lastore, 1) := dk_80 (dk_at dksX0_test_0 13 rfl rfl)
theorem dX0_test_14 : decode cX0_test 14 = .ok (.goto 15, 3) := dk_167 0 15 (dk_at dksX0_test_0 14 rfl rfl)
theorem dX0_test_17 : decode cX0_test 17 = .ok (.astore 6, 2) := dk_58 6 (dk_at dksX0_test_0 17 rfl rfl)
theorem dX0_test_19 : decode cX0_test 19 = .ok (.iconst 1, 1) := dk_4 (dk_at dksX0_test_0 19 rfl rfl)
theorem dX0_test_20 : decode cX0_test 20 = .ok (.ireturn, 1) := dk_172 (dk_at dksX0_test_0 20 rfl rfl)
theorem dX0_test_21 : decode cX0_test 21 = .ok (.astore 6, 2) := dk_58 6 (dk_at dksX0_test_0 21 rfl rfl)
theorem dX0_test_23 : decode cX0_test 23 = .ok (.iconst 2, 1) := dk_5 (dk_at dksX0_test_0 23 rfl rfl)
theorem dX0_test_24 : decode cX0_test 24 = .ok (.ireturn, 1) := dk_172 (dk_at dksX0_test_1 0 rfl rfl)
theorem dX0_test_25 : decode cX0_test 25 = .ok (.astore 6, 2) := dk_58 6 (dk_at dksX0_test_1 1 rfl rfl)
theorem dX0_test_27 : decode cX0_test 27 = .ok (.iconst 3, 1) := dk_6 (dk_at dksX0_test_1 3 rfl rfl)
theorem dX0_test_28 : decode cX0_test 28 = .ok (.ireturn, 1) := dk_172 (dk_at dksX0_test_1 4 rfl rfl)
theorem dX0_test_29 : decode cX0_test 29 = .ok (.iconst 0, 1) := dk_3 (dk_at dksX0_test_1 5 rfl rfl)
theorem dX0_test_30 : decode cX0_test 30 = .ok (.ireturn, 1) := dk_172 (dk_at dksX0_test_1 6 rfl rfl)
abbrev cX0_setFactor : ByteArray := method_10_code
def yX0_setFactor : MethodName := ⟨RX0, "setFactor", "(LPolicyNotation;II[J)I"⟩
def dkwX0_setFactor_0 : List UInt8 := [45, 3, 42, 27, 28, 182, 0, 43, 133, 80, 167, 0, 11, 58, 4, 4, 172, 58, 4, 5, 172, 3, 172]
abbrev dktX0_setFactor_0 : List UInt8 := dkwX0_setFactor_0 ++ []
theorem dksX0_setFactor_0 : cX0_setFactor.data.toList.drop 0 = dktX0_setFactor_0 := by decide +kernel
theorem dX0_setFactor_0 : decode cX0_setFactor 0 = .ok (.aload_n 3, 1) := dk_45 (dk_at dksX0_setFactor_0 0 rfl rfl)
theorem dX0_setFactor_1 : decode cX0_setFactor 1 = .ok (.iconst 0, 1) := dk_3 (dk_at dksX0_setFactor_0 1 rfl rfl)
theorem dX0_setFactor_2 : decode cX0_setFactor 2 = .ok (.aload_n 0, 1) := dk_42 (dk_at dksX0_setFactor_0 2 rfl rfl)
theorem dX0_setFactor_3 : decode cX0_setFactor 3 = .ok (.iload_n 1, 1) := dk_27 (dk_at dksX0_setFactor_0 3 rfl rfl)
theorem dX0_setFactor_4 : decode cX0_setFactor 4 = .ok (.iload_n 2, 1) := dk_28 (dk_at dksX0_setFactor_0 4 rfl rfl)
theorem dX0_setFactor_5 : decode cX0_setFactor 5 = .ok (.invokevirtual 43, 3) := dk_182 0 43 (dk_at dksX0_setFactor_0 5 rfl rfl)
theorem dX0_setFactor_8 : decode cX0_setFactor 8 = .ok (.i2l, 1) := dk_133 (dk_at dksX0_setFactor_0 8 rfl rfl)
theorem dX0_setFactor_9 : decode cX0_setFactor 9 = .ok (.lastore, 1) := dk_80 (dk_at dksX0_setFactor_0 9 rfl rfl)
theorem dX0_setFactor_10 : decode cX0_setFactor 10 = .ok (.goto 11, 3) := dk_167 0 11 (dk_at dksX0_setFactor_0 10 rfl rfl)
theorem dX0_setFactor_13 : decode cX0_setFactor 13 = .ok (.astore 4, 2) := dk_58 4 (dk_at dksX0_setFactor_0 13 rfl rfl)
theorem dX0_setFactor_15 : decode cX0_setFactor 15 = .ok (.iconst 1, 1) := dk_4 (dk_at dksX0_setFactor_0 15 rfl rfl)
theorem dX0_setFactor_16 : decode cX0_setFactor 16 = .ok (.ireturn, 1) := dk_172 (dk_at dksX0_setFactor_0 16 rfl rfl)
theorem dX0_setFactor_17 : decode cX0_setFactor 17 = .ok (.astore 4, 2) := dk_58 4 (dk_at dksX0_setFactor_0 17 rfl rfl)
theorem dX0_setFactor_19 : decode cX0_setFactor 19 = .ok (.iconst 2, 1) := dk_5 (dk_at dksX0_setFactor_0 19 rfl rfl)
theorem dX0_setFactor_20 : decode cX0_setFactor 20 = .ok (.ireturn, 1) := dk_172 (dk_at dksX0_setFactor_0 20 rfl rfl)
theorem dX0_setFactor_21 : decode cX0_setFactor 21 = .ok (.iconst 0, 1) := dk_3 (dk_at dksX0_setFactor_0 21 rfl rfl)
theorem dX0_setFactor_22 : decode cX0_setFactor 22 = .ok (.ireturn, 1) := dk_172 (dk_at dksX0_setFactor_0 22 rfl rfl)
abbrev cX0_end : ByteArray := method_11_code
def yX0_end : MethodName := ⟨RX0, "end", "(LPolicyNotation;II[J)I"⟩
def dkwX0_end_1 : List UInt8 := [172, 3, 172]
abbrev dktX0_end_1 : List UInt8 := dkwX0_end_1 ++ []
def dkwX0_end_0 : List UInt8 := [45, 3, 42, 27, 28, 182, 0, 46, 133, 80, 167, 0, 15, 58, 4, 4, 172, 58, 4, 5, 172, 58, 4, 6]
abbrev dktX0_end_0 : List UInt8 := dkwX0_end_0 ++ dktX0_end_1
theorem dksX0_end_0 : cX0_end.data.toList.drop 0 = dktX0_end_0 := by decide +kernel
theorem dksX0_end_1 : cX0_end.data.toList.drop 24 = dktX0_end_1 := dk_seg dksX0_end_0 24 rfl rfl
theorem dX0_end_0 : decode cX0_end 0 = .ok (.aload_n 3, 1) := dk_45 (dk_at dksX0_end_0 0 rfl rfl)
theorem dX0_end_1 : decode cX0_end 1 = .ok (.iconst 0, 1) := dk_3 (dk_at dksX0_end_0 1 rfl rfl)
theorem dX0_end_2 : decode cX0_end 2 = .ok (.aload_n 0, 1) := dk_42 (dk_at dksX0_end_0 2 rfl rfl)
theorem dX0_end_3 : decode cX0_end 3 = .ok (.iload_n 1, 1) := dk_27 (dk_at dksX0_end_0 3 rfl rfl)
theorem dX0_end_4 : decode cX0_end 4 = .ok (.iload_n 2, 1) := dk_28 (dk_at dksX0_end_0 4 rfl rfl)
theorem dX0_end_5 : decode cX0_end 5 = .ok (.invokevirtual 46, 3) := dk_182 0 46 (dk_at dksX0_end_0 5 rfl rfl)
theorem dX0_end_8 : decode cX0_end 8 = .ok (.i2l, 1) := dk_133 (dk_at dksX0_end_0 8 rfl rfl)
theorem dX0_end_9 : decode cX0_end 9 = .ok (.lastore, 1) := dk_80 (dk_at dksX0_end_0 9 rfl rfl)
theorem dX0_end_10 : decode cX0_end 10 = .ok (.goto 15, 3) := dk_167 0 15 (dk_at dksX0_end_0 10 rfl rfl)
theorem dX0_end_13 : decode cX0_end 13 = .ok (.astore 4, 2) := dk_58 4 (dk_at dksX0_end_0 13 rfl rfl)
theorem dX0_end_15 : decode cX0_end 15 = .ok (.iconst 1, 1) := dk_4 (dk_at dksX0_end_0 15 rfl rfl)
theorem dX0_end_16 : decode cX0_end 16 = .ok (.ireturn, 1) := dk_172 (dk_at dksX0_end_0 16 rfl rfl)
theorem dX0_end_17 : decode cX0_end 17 = .ok (.astore 4, 2) := dk_58 4 (dk_at dksX0_end_0 17 rfl rfl)
theorem dX0_end_19 : decode cX0_end 19 = .ok (.iconst 2, 1) := dk_5 (dk_at dksX0_end_0 19 rfl rfl)
theorem dX0_end_20 : decode cX0_end 20 = .ok (.ireturn, 1) := dk_172 (dk_at dksX0_end_0 20 rfl rfl)
theorem dX0_end_21 : decode cX0_end 21 = .ok (.astore 4, 2) := dk_58 4 (dk_at dksX0_end_0 21 rfl rfl)
theorem dX0_end_23 : decode cX0_end 23 = .ok (.iconst 3, 1) := dk_6 (dk_at dksX0_end_0 23 rfl rfl)
theorem dX0_end_24 : decode cX0_end 24 = .ok (.ireturn, 1) := dk_172 (dk_at dksX0_end_1 0 rfl rfl)
theorem dX0_end_25 : decode cX0_end 25 = .ok (.iconst 0, 1) := dk_3 (dk_at dksX0_end_1 1 rfl rfl)
theorem dX0_end_26 : decode cX0_end 26 = .ok (.ireturn, 1) := dk_172 (dk_at dksX0_end_1 2 rfl rfl)
abbrev cX0_ruleOf : ByteArray := method_12_code
def yX0_ruleOf : MethodName := ⟨RX0, "ruleOf", "(LPolicyNotation;II[J)I"⟩
def dkwX0_ruleOf_0 : List UInt8 := [45, 3, 42, 27, 28, 182, 0, 49, 133, 80, 167, 0, 11, 58, 4, 4, 172, 58, 4, 5, 172, 3, 172]
abbrev dktX0_ruleOf_0 : List UInt8 := dkwX0_ruleOf_0 ++ []
theorem dksX0_ruleOf_0 : cX0_ruleOf.data.toList.drop 0 = dktX0_ruleOf_0 := by decide +kernel
theorem dX0_ruleOf_0 : decode cX0_ruleOf 0 = .ok (.aload_n 3, 1) := dk_45 (dk_at dksX0_ruleOf_0 0 rfl rfl)
theorem dX0_ruleOf_1 : decode cX0_ruleOf 1 = .ok (.iconst 0, 1) := dk_3 (dk_at dksX0_ruleOf_0 1 rfl rfl)
theorem dX0_ruleOf_2 : decode cX0_ruleOf 2 = .ok (.aload_n 0, 1) := dk_42 (dk_at dksX0_ruleOf_0 2 rfl rfl)
theorem dX0_ruleOf_3 : decode cX0_ruleOf 3 = .ok (.iload_n 1, 1) := dk_27 (dk_at dksX0_ruleOf_0 3 rfl rfl)
theorem dX0_ruleOf_4 : decode cX0_ruleOf 4 = .ok (.iload_n 2, 1) := dk_28 (dk_at dksX0_ruleOf_0 4 rfl rfl)
theorem dX0_ruleOf_5 : decode cX0_ruleOf 5 = .ok (.invokevirtual 49, 3) := dk_182 0 49 (dk_at dksX0_ruleOf_0 5 rfl rfl)
theorem dX0_ruleOf_8 : decode cX0_ruleOf 8 = .ok (.i2l, 1) := dk_133 (dk_at dksX0_ruleOf_0 8 rfl rfl)
theorem dX0_ruleOf_9 : decode cX0_ruleOf 9 = .ok (.lastore, 1) := dk_80 (dk_at dksX0_ruleOf_0 9 rfl rfl)
theorem dX0_ruleOf_10 : decode cX0_ruleOf 10 = .ok (.goto 11, 3) := dk_167 0 11 (dk_at dksX0_ruleOf_0 10 rfl rfl)
theorem dX0_ruleOf_13 : decode cX0_ruleOf 13 = .ok (.astore 4, 2) := dk_58 4 (dk_at dksX0_ruleOf_0 13 rfl rfl)
theorem dX0_ruleOf_15 : decode cX0_ruleOf 15 = .ok (.iconst 1, 1) := dk_4 (dk_at dksX0_ruleOf_0 15 rfl rfl)
theorem dX0_ruleOf_16 : decode cX0_ruleOf 16 = .ok (.ireturn, 1) := dk_172 (dk_at dksX0_ruleOf_0 16 rfl rfl)
theorem dX0_ruleOf_17 : decode cX0_ruleOf 17 = .ok (.astore 4, 2) := dk_58 4 (dk_at dksX0_ruleOf_0 17 rfl rfl)
theorem dX0_ruleOf_19 : decode cX0_ruleOf 19 = .ok (.iconst 2, 1) := dk_5 (dk_at dksX0_ruleOf_0 19 rfl rfl)
theorem dX0_ruleOf_20 : decode cX0_ruleOf 20 = .ok (.ireturn, 1) := dk_172 (dk_at dksX0_ruleOf_0 20 rfl rfl)
theorem dX0_ruleOf_21 : decode cX0_ruleOf 21 = .ok (.iconst 0, 1) := dk_3 (dk_at dksX0_ruleOf_0 21 rfl rfl)
theorem dX0_ruleOf_22 : decode cX0_ruleOf 22 = .ok (.ireturn, 1) := dk_172 (dk_at dksX0_ruleOf_0 22 rfl rfl)
abbrev cX0_testOf : ByteArray := method_13_code
def yX0_testOf : MethodName := ⟨RX0, "testOf", "(LPolicyNotation;III[J)I"⟩
def dkwX0_testOf_1 : List UInt8 := [58, 5, 6, 172, 3, 172]
abbrev dktX0_testOf_1 : List UInt8 := dkwX0_testOf_1 ++ []
def dkwX0_testOf_0 : List UInt8 := [25, 4, 3, 42, 27, 28, 29, 182, 0, 52, 133, 80, 167, 0, 15, 58, 5, 4, 172, 58, 5, 5, 172]
abbrev dktX0_testOf_0 : List UInt8 := dkwX0_testOf_0 ++ dktX0_testOf_1
theorem dksX0_testOf_0 : cX0_testOf.data.toList.drop 0 = dktX0_testOf_0 := by decide +kernel
theorem dksX0_testOf_1 : cX0_testOf.data.toList.drop 23 = dktX0_testOf_1 := dk_seg dksX0_testOf_0 23 rfl rfl
theorem dX0_testOf_0 : decode cX0_testOf 0 = .ok (.aload 4, 2) := dk_25 4 (dk_at dksX0_testOf_0 0 rfl rfl)
theorem dX0_testOf_2 : decode cX0_testOf 2 = .ok (.iconst 0, 1) := dk_3 (dk_at dksX0_testOf_0 2 rfl rfl)
theorem dX0_testOf_3 : decode cX0_testOf 3 = .ok (.aload_n 0, 1) := dk_42 (dk_at dksX0_testOf_0 3 rfl rfl)
theorem dX0_testOf_4 : decode cX0_testOf 4 = .ok (.iload_n 1, 1) := dk_27 (dk_at dksX0_testOf_0 4 rfl rfl)
theorem dX0_testOf_5 : decode cX0_testOf 5 = .ok (.iload_n 2, 1) := dk_28 (dk_at dksX0_testOf_0 5 rfl rfl)
theorem dX0_testOf_6 : decode cX0_testOf 6 = .ok (.iload_n 3, 1) := dk_29 (dk_at dksX0_testOf_0 6 rfl rfl)
theorem dX0_testOf_7 : decode cX0_testOf 7 = .ok (.invokevirtual 52, 3) := dk_182 0 52 (dk_at dksX0_testOf_0 7 rfl rfl)
theorem dX0_testOf_10 : decode cX0_testOf 10 = .ok (.i2l, 1) := dk_133 (dk_at dksX0_testOf_0 10 rfl rfl)
theorem dX0_testOf_11 : decode cX0_testOf 11 = .ok (.lastore, 1) := dk_80 (dk_at dksX0_testOf_0 11 rfl rfl)
theorem dX0_testOf_12 : decode cX0_testOf 12 = .ok (.goto 15, 3) := dk_167 0 15 (dk_at dksX0_testOf_0 12 rfl rfl)
theorem dX0_testOf_15 : decode cX0_testOf 15 = .ok (.astore 5, 2) := dk_58 5 (dk_at dksX0_testOf_0 15 rfl rfl)
theorem dX0_testOf_17 : decode cX0_testOf 17 = .ok (.iconst 1, 1) := dk_4 (dk_at dksX0_testOf_0 17 rfl rfl)
theorem dX0_testOf_18 : decode cX0_testOf 18 = .ok (.ireturn, 1) := dk_172 (dk_at dksX0_testOf_0 18 rfl rfl)
theorem dX0_testOf_19 : decode cX0_testOf 19 = .ok (.astore 5, 2) := dk_58 5 (dk_at dksX0_testOf_0 19 rfl rfl)
theorem dX0_testOf_21 : decode cX0_testOf 21 = .ok (.iconst 2, 1) := dk_5 (dk_at dksX0_testOf_0 21 rfl rfl)
theorem dX0_testOf_22 : decode cX0_testOf 22 = .ok (.ireturn, 1) := dk_172 (dk_at dksX0_testOf_0 22 rfl rfl)
theorem dX0_testOf_23 : decode cX0_testOf 23 = .ok (.astore 5, 2) := dk_58 5 (dk_at dksX0_testOf_1 0 rfl rfl)
theorem dX0_testOf_25 : decode cX0_testOf 25 = .ok (.iconst 3, 1) := dk_6 (dk_at dksX0_testOf_1 2 rfl rfl)
theorem dX0_testOf_26 : decode cX0_testOf 26 = .ok (.ireturn, 1) := dk_172 (dk_at dksX0_testOf_1 3 rfl rfl)
theorem dX0_testOf_27 : decode cX0_testOf 27 = .ok (.iconst 0, 1) := dk_3 (dk_at dksX0_testOf_1 4 rfl rfl)
theorem dX0_testOf_28 : decode cX0_testOf 28 = .ok (.ireturn, 1) := dk_172 (dk_at dksX0_testOf_1 5 rfl rfl)
abbrev cX0_covers : ByteArray := method_14_code
def yX0_covers : MethodName := ⟨RX0, "covers", "(LPolicyNotation;IIII[J)I"⟩
def dkwX0_covers_1 : List UInt8 := [58, 6, 4, 172, 58, 6, 5, 172, 3, 172]
abbrev dktX0_covers_1 : List UInt8 := dkwX0_covers_1 ++ []
def dkwX0_covers_0 : List UInt8 := [25, 5, 3, 42, 27, 28, 29, 21, 4, 182, 0, 58, 153, 0, 7, 10, 167, 0, 4, 9, 80, 167, 0, 11]
abbrev dktX0_covers_0 : List UInt8 := dkwX0_covers_0 ++ dktX0_covers_1
theorem dksX0_covers_0 : cX0_covers.data.toList.drop 0 = dktX0_covers_0 := by decide +kernel
theorem dksX0_covers_1 : cX0_covers.data.toList.drop 24 = dktX0_covers_1 := dk_seg dksX0_covers_0 24 rfl rfl
theorem dX0_covers_0 : decode cX0_covers 0 = .ok (.aload 5, 2) := dk_25 5 (dk_at dksX0_covers_0 0 rfl rfl)
theorem dX0_covers_2 : decode cX0_covers 2 = .ok (.iconst 0, 1) := dk_3 (dk_at dksX0_covers_0 2 rfl rfl)
theorem dX0_covers_3 : decode cX0_covers 3 = .ok (.aload_n 0, 1) := dk_42 (dk_at dksX0_covers_0 3 rfl rfl)
theorem dX0_covers_4 : decode cX0_covers 4 = .ok (.iload_n 1, 1) := dk_27 (dk_at dksX0_covers_0 4 rfl rfl)
theorem dX0_covers_5 : decode cX0_covers 5 = .ok (.iload_n 2, 1) := dk_28 (dk_at dksX0_covers_0 5 rfl rfl)
theorem dX0_covers_6 : decode cX0_covers 6 = .ok (.iload_n 3, 1) := dk_29 (dk_at dksX0_covers_0 6 rfl rfl)
theorem dX0_covers_7 : decode cX0_covers 7 = .ok (.iload 4, 2) := dk_21 4 (dk_at dksX0_covers_0 7 rfl rfl)
theorem dX0_covers_9 : decode cX0_covers 9 = .ok (.invokevirtual 58, 3) := dk_182 0 58 (dk_at dksX0_covers_0 9 rfl rfl)
theorem dX0_covers_12 : decode cX0_covers 12 = .ok (.ifCond .eq 7, 3) := dk_153 0 7 (dk_at dksX0_covers_0 12 rfl rfl)
theorem dX0_covers_15 : decode cX0_covers 15 = .ok (.lconst 1, 1) := dk_10 (dk_at dksX0_covers_0 15 rfl rfl)
theorem dX0_covers_16 : decode cX0_covers 16 = .ok (.goto 4, 3) := dk_167 0 4 (dk_at dksX0_covers_0 16 rfl rfl)
theorem dX0_covers_19 : decode cX0_covers 19 = .ok (.lconst 0, 1) := dk_9 (dk_at dksX0_covers_0 19 rfl rfl)
theorem dX0_covers_20 : decode cX0_covers 20 = .ok (.lastore, 1) := dk_80 (dk_at dksX0_covers_0 20 rfl rfl)
theorem dX0_covers_21 : decode cX0_covers 21 = .ok (.goto 11, 3) := dk_167 0 11 (dk_at dksX0_covers_0 21 rfl rfl)
theorem dX0_covers_24 : decode cX0_covers 24 = .ok (.astore 6, 2) := dk_58 6 (dk_at dksX0_covers_1 0 rfl rfl)
theorem dX0_covers_26 : decode cX0_covers 26 = .ok (.iconst 1, 1) := dk_4 (dk_at dksX0_covers_1 2 rfl rfl)
theorem dX0_covers_27 : decode cX0_covers 27 = .ok (.ireturn, 1) := dk_172 (dk_at dksX0_covers_1 3 rfl rfl)
theorem dX0_covers_28 : decode cX0_covers 28 = .ok (.astore 6, 2) := dk_58 6 (dk_at dksX0_covers_1 4 rfl rfl)
theorem dX0_covers_30 : decode cX0_covers 30 = .ok (.iconst 2, 1) := dk_5 (dk_at dksX0_covers_1 6 rfl rfl)
theorem dX0_covers_31 : decode cX0_covers 31 = .ok (.ireturn, 1) := dk_172 (dk_at dksX0_covers_1 7 rfl rfl)
theorem dX0_covers_32 : decode cX0_covers 32 = .ok (.iconst 0, 1) := dk_3 (dk_at dksX0_covers_1 8 rfl rfl)
theorem dX0_covers_33 : decode cX0_covers 33 = .ok (.ireturn, 1) := dk_172 (dk_at dksX0_covers_1 9 rfl rfl)
abbrev cX0_holds : ByteArray := method_15_code
def yX0_holds : MethodName := ⟨RX0, "holds", "(LPolicyNotation;IIII[J)I"⟩
def dkwX0_holds_1 : List UInt8 := [58, 6, 4, 172, 58, 6, 5, 172, 3, 172]
abbrev dktX0_holds_1 : List UInt8 := dkwX0_holds_1 ++ []
def dkwX0_holds_0 : List UInt8 := [25, 5, 3, 42, 27, 28, 29, 21, 4, 182, 0, 62, 153, 0, 7, 10, 167, 0, 4, 9, 80, 167, 0, 11]
abbrev dktX0_holds_0 : List UInt8 := dkwX0_holds_0 ++ dktX0_holds_1
theorem dksX0_holds_0 : cX0_holds.data.toList.drop 0 = dktX0_holds_0 := by decide +kernel
theorem dksX0_holds_1 : cX0_holds.data.toList.drop 24 = dktX0_holds_1 := dk_seg dksX0_holds_0 24 rfl rfl
theorem dX0_holds_0 : decode cX0_holds 0 = .ok (.aload 5, 2) := dk_25 5 (dk_at dksX0_holds_0 0 rfl rfl)
theorem dX0_holds_2 : decode cX0_holds 2 = .ok (.iconst 0, 1) := dk_3 (dk_at dksX0_holds_0 2 rfl rfl)
theorem dX0_holds_3 : decode cX0_holds 3 = .ok (.aload_n 0, 1) := dk_42 (dk_at dksX0_holds_0 3 rfl rfl)
theorem dX0_holds_4 : decode cX0_holds 4 = .ok (.iload_n 1, 1) := dk_27 (dk_at dksX0_holds_0 4 rfl rfl)
theorem dX0_holds_5 : decode cX0_holds 5 = .ok (.iload_n 2, 1) := dk_28 (dk_at dksX0_holds_0 5 rfl rfl)
theorem dX0_holds_6 : decode cX0_holds 6 = .ok (.iload_n 3, 1) := dk_29 (dk_at dksX0_holds_0 6 rfl rfl)
theorem dX0_holds_7 : decode cX0_holds 7 = .ok (.iload 4, 2) := dk_21 4 (dk_at dksX0_holds_0 7 rfl rfl)
theorem dX0_holds_9 : decode cX0_holds 9 = .ok (.invokevirtual 62, 3) := dk_182 0 62 (dk_at dksX0_holds_0 9 rfl rfl)
theorem dX0_holds_12 : decode cX0_holds 12 = .ok (.ifCond .eq 7, 3) := dk_153 0 7 (dk_at dksX0_holds_0 12 rfl rfl)
theorem dX0_holds_15 : decode cX0_holds 15 = .ok (.lconst 1, 1) := dk_10 (dk_at dksX0_holds_0 15 rfl rfl)
theorem dX0_holds_16 : decode cX0_holds 16 = .ok (.goto 4, 3) := dk_167 0 4 (dk_at dksX0_holds_0 16 rfl rfl)
theorem dX0_holds_19 : decode cX0_holds 19 = .ok (.lconst 0, 1) := dk_9 (dk_at dksX0_holds_0 19 rfl rfl)
theorem dX0_holds_20 : decode cX0_holds 20 = .ok (.lastore, 1) := dk_80 (dk_at dksX0_holds_0 20 rfl rfl)
theorem dX0_holds_21 : decode cX0_holds 21 = .ok (.goto 11, 3) := dk_167 0 11 (dk_at dksX0_holds_0 21 rfl rfl)
theorem dX0_holds_24 : decode cX0_holds 24 = .ok (.astore 6, 2) := dk_58 6 (dk_at dksX0_holds_1 0 rfl rfl)
theorem dX0_holds_26 : decode cX0_holds 26 = .ok (.iconst 1, 1) := dk_4 (dk_at dksX0_holds_1 2 rfl rfl)
theorem dX0_holds_27 : decode cX0_holds 27 = .ok (.ireturn, 1) := dk_172 (dk_at dksX0_holds_1 3 rfl rfl)
theorem dX0_holds_28 : decode cX0_holds 28 = .ok (.astore 6, 2) := dk_58 6 (dk_at dksX0_holds_1 4 rfl rfl)
theorem dX0_holds_30 : decode cX0_holds 30 = .ok (.iconst 2, 1) := dk_5 (dk_at dksX0_holds_1 6 rfl rfl)
theorem dX0_holds_31 : decode cX0_holds 31 = .ok (.ireturn, 1) := dk_172 (dk_at dksX0_holds_1 7 rfl rfl)
theorem dX0_holds_32 : decode cX0_holds 32 = .ok (.iconst 0, 1) := dk_3 (dk_at dksX0_holds_1 8 rfl rfl)
theorem dX0_holds_33 : decode cX0_holds 33 = .ok (.ireturn, 1) := dk_172 (dk_at dksX0_holds_1 9 rfl rfl)
abbrev cX0_holdsAgain : ByteArray := method_16_code
def yX0_holdsAgain : MethodName := ⟨RX0, "holdsAgain", "(LPolicyNotation;IIII[J)I"⟩
def dkwX0_holdsAgain_1 : List UInt8 := [58, 6, 4, 172, 58, 6, 5, 172, 3, 172]
abbrev dktX0_holdsAgain_1 : List UInt8 := dkwX0_holdsAgain_1 ++ []
def dkwX0_holdsAgain_0 : List UInt8 := [25, 5, 3, 42, 27, 28, 29, 21, 4, 182, 0, 65, 153, 0, 7, 10, 167, 0, 4, 9, 80, 167, 0, 11]
abbrev dktX0_holdsAgain_0 : List UInt8 := dkwX0_holdsAgain_0 ++ dktX0_holdsAgain_1
theorem dksX0_holdsAgain_0 : cX0_holdsAgain.data.toList.drop 0 = dktX0_holdsAgain_0 := by decide +kernel
theorem dksX0_holdsAgain_1 : cX0_holdsAgain.data.toList.drop 24 = dktX0_holdsAgain_1 := dk_seg dksX0_holdsAgain_0 24 rfl rfl
theorem dX0_holdsAgain_0 : decode cX0_holdsAgain 0 = .ok (.aload 5, 2) := dk_25 5 (dk_at dksX0_holdsAgain_0 0 rfl rfl)
theorem dX0_holdsAgain_2 : decode cX0_holdsAgain 2 = .ok (.iconst 0, 1) := dk_3 (dk_at dksX0_holdsAgain_0 2 rfl rfl)
theorem dX0_holdsAgain_3 : decode cX0_holdsAgain 3 = .ok (.aload_n 0, 1) := dk_42 (dk_at dksX0_holdsAgain_0 3 rfl rfl)
theorem dX0_holdsAgain_4 : decode cX0_holdsAgain 4 = .ok (.iload_n 1, 1) := dk_27 (dk_at dksX0_holdsAgain_0 4 rfl rfl)
theorem dX0_holdsAgain_5 : decode cX0_holdsAgain 5 = .ok (.iload_n 2, 1) := dk_28 (dk_at dksX0_holdsAgain_0 5 rfl rfl)
theorem dX0_holdsAgain_6 : decode cX0_holdsAgain 6 = .ok (.iload_n 3, 1) := dk_29 (dk_at dksX0_holdsAgain_0 6 rfl rfl)
theorem dX0_holdsAgain_7 : decode cX0_holdsAgain 7 = .ok (.iload 4, 2) := dk_21 4 (dk_at dksX0_holdsAgain_0 7 rfl rfl)
theorem dX0_holdsAgain_9 : decode cX0_holdsAgain 9 = .ok (.invokevirtual 65, 3) := dk_182 0 65 (dk_at dksX0_holdsAgain_0 9 rfl rfl)
theorem dX0_holdsAgain_12 : decode cX0_holdsAgain 12 = .ok (.ifCond .eq 7, 3) := dk_153 0 7 (dk_at dksX0_holdsAgain_0 12 rfl rfl)
theorem dX0_holdsAgain_15 : decode cX0_holdsAgain 15 = .ok (.lconst 1, 1) := dk_10 (dk_at dksX0_holdsAgain_0 15 rfl rfl)
theorem dX0_holdsAgain_16 : decode cX0_holdsAgain 16 = .ok (.goto 4, 3) := dk_167 0 4 (dk_at dksX0_holdsAgain_0 16 rfl rfl)
theorem dX0_holdsAgain_19 : decode cX0_holdsAgain 19 = .ok (.lconst 0, 1) := dk_9 (dk_at dksX0_holdsAgain_0 19 rfl rfl)
theorem dX0_holdsAgain_20 : decode cX0_holdsAgain 20 = .ok (.lastore, 1) := dk_80 (dk_at dksX0_holdsAgain_0 20 rfl rfl)
theorem dX0_holdsAgain_21 : decode cX0_holdsAgain 21 = .ok (.goto 11, 3) := dk_167 0 11 (dk_at dksX0_holdsAgain_0 21 rfl rfl)
theorem dX0_holdsAgain_24 : decode cX0_holdsAgain 24 = .ok (.astore 6, 2) := dk_58 6 (dk_at dksX0_holdsAgain_1 0 rfl rfl)
theorem dX0_holdsAgain_26 : decode cX0_holdsAgain 26 = .ok (.iconst 1, 1) := dk_4 (dk_at dksX0_holdsAgain_1 2 rfl rfl)
theorem dX0_holdsAgain_27 : decode cX0_holdsAgain 27 = .ok (.ireturn, 1) := dk_172 (dk_at dksX0_holdsAgain_1 3 rfl rfl)
theorem dX0_holdsAgain_28 : decode cX0_holdsAgain 28 = .ok (.astore 6, 2) := dk_58 6 (dk_at dksX0_holdsAgain_1 4 rfl rfl)
theorem dX0_holdsAgain_30 : decode cX0_holdsAgain 30 = .ok (.iconst 2, 1) := dk_5 (dk_at dksX0_holdsAgain_1 6 rfl rfl)
theorem dX0_holdsAgain_31 : decode cX0_holdsAgain 31 = .ok (.ireturn, 1) := dk_172 (dk_at dksX0_holdsAgain_1 7 rfl rfl)
theorem dX0_holdsAgain_32 : decode cX0_holdsAgain 32 = .ok (.iconst 0, 1) := dk_3 (dk_at dksX0_holdsAgain_1 8 rfl rfl)
theorem dX0_holdsAgain_33 : decode cX0_holdsAgain 33 = .ok (.ireturn, 1) := dk_172 (dk_at dksX0_holdsAgain_1 9 rfl rfl)
abbrev cX0_outcome : ByteArray := method_17_code
def yX0_outcome : MethodName := ⟨RX0, "outcome", "(LPolicyNotation;III[J)I"⟩
def dkwX0_outcome_1 : List UInt8 := [172]
abbrev dktX0_outcome_1 : List UInt8 := dkwX0_outcome_1 ++ []
def dkwX0_outcome_0 : List UInt8 := [25, 4, 3, 42, 27, 28, 29, 182, 0, 68, 133, 80, 167, 0, 11, 58, 5, 4, 172, 58, 5, 5, 172, 3]
abbrev dktX0_outcome_0 : List UInt8 := dkwX0_outcome_0 ++ dktX0_outcome_1
theorem dksX0_outcome_0 : cX0_outcome.data.toList.drop 0 = dktX0_outcome_0 := by decide +kernel
theorem dksX0_outcome_1 : cX0_outcome.data.toList.drop 24 = dktX0_outcome_1 := dk_seg dksX0_outcome_0 24 rfl rfl
theorem dX0_outcome_0 : decode cX0_outcome 0 = .ok (.aload 4, 2) := dk_25 4 (dk_at dksX0_outcome_0 0 rfl rfl)
theorem dX0_outcome_2 : decode cX0_outcome 2 = .ok (.iconst 0, 1) := dk_3 (dk_at dksX0_outcome_0 2 rfl rfl)
theorem dX0_outcome_3 : decode cX0_outcome 3 = .ok (.aload_n 0, 1) := dk_42 (dk_at dksX0_outcome_0 3 rfl rfl)
theorem dX0_outcome_4 : decode cX0_outcome 4 = .ok (.iload_n 1, 1) := dk_27 (dk_at dksX0_outcome_0 4 rfl rfl)
theorem dX0_outcome_5 : decode cX0_outcome 5 = .ok (.iload_n 2, 1) := dk_28 (dk_at dksX0_outcome_0 5 rfl rfl)
theorem dX0_outcome_6 : decode cX0_outcome 6 = .ok (.iload_n 3, 1) := dk_29 (dk_at dksX0_outcome_0 6 rfl rfl)
theorem dX0_outcome_7 : decode cX0_outcome 7 = .ok (.invokevirtual 68, 3) := dk_182 0 68 (dk_at dksX0_outcome_0 7 rfl rfl)
theorem dX0_outcome_10 : decode cX0_outcome 10 = .ok (.i2l, 1) := dk_133 (dk_at dksX0_outcome_0 10 rfl rfl)
theorem dX0_outcome_11 : decode cX0_outcome 11 = .ok (.lastore, 1) := dk_80 (dk_at dksX0_outcome_0 11 rfl rfl)
theorem dX0_outcome_12 : decode cX0_outcome 12 = .ok (.goto 11, 3) := dk_167 0 11 (dk_at dksX0_outcome_0 12 rfl rfl)
theorem dX0_outcome_15 : decode cX0_outcome 15 = .ok (.astore 5, 2) := dk_58 5 (dk_at dksX0_outcome_0 15 rfl rfl)
theorem dX0_outcome_17 : decode cX0_outcome 17 = .ok (.iconst 1, 1) := dk_4 (dk_at dksX0_outcome_0 17 rfl rfl)
theorem dX0_outcome_18 : decode cX0_outcome 18 = .ok (.ireturn, 1) := dk_172 (dk_at dksX0_outcome_0 18 rfl rfl)
theorem dX0_outcome_19 : decode cX0_outcome 19 = .ok (.astore 5, 2) := dk_58 5 (dk_at dksX0_outcome_0 19 rfl rfl)
theorem dX0_outcome_21 : decode cX0_outcome 21 = .ok (.iconst 2, 1) := dk_5 (dk_at dksX0_outcome_0 21 rfl rfl)
theorem dX0_outcome_22 : decode cX0_outcome 22 = .ok (.ireturn, 1) := dk_172 (dk_at dksX0_outcome_0 22 rfl rfl)
theorem dX0_outcome_23 : decode cX0_outcome 23 = .ok (.iconst 0, 1) := dk_3 (dk_at dksX0_outcome_0 23 rfl rfl)
theorem dX0_outcome_24 : decode cX0_outcome 24 = .ok (.ireturn, 1) := dk_172 (dk_at dksX0_outcome_1 0 rfl rfl)
abbrev cX0_chain : ByteArray := method_18_code
def yX0_chain : MethodName := ⟨RX0, "chain", "(LPolicyNotation;IIII[J)I"⟩
def dkwX0_chain_1 : List UInt8 := [172, 58, 6, 6, 172, 3, 172]
abbrev dktX0_chain_1 : List UInt8 := dkwX0_chain_1 ++ []
def dkwX0_chain_0 : List UInt8 := [25, 5, 3, 42, 27, 28, 29, 21, 4, 182, 0, 71, 133, 80, 167, 0, 15, 58, 6, 4, 172, 58, 6, 5]
abbrev dktX0_chain_0 : List UInt8 := dkwX0_chain_0 ++ dktX0_chain_1
theorem dksX0_chain_0 : cX0_chain.data.toList.drop 0 = dktX0_chain_0 := by decide +kernel
theorem dksX0_chain_1 : cX0_chain.data.toList.drop 24 = dktX0_chain_1 := dk_seg dksX0_chain_0 24 rfl rfl
theorem dX0_chain_0 : decode cX0_chain 0 = .ok (.aload 5, 2) := dk_25 5 (dk_at dksX0_chain_0 0 rfl rfl)
theorem dX0_chain_2 : decode cX0_chain 2 = .ok (.iconst 0, 1) := dk_3 (dk_at dksX0_chain_0 2 rfl rfl)
theorem dX0_chain_3 : decode cX0_chain 3 = .ok (.aload_n 0, 1) := dk_42 (dk_at dksX0_chain_0 3 rfl rfl)
theorem dX0_chain_4 : decode cX0_chain 4 = .ok (.iload_n 1, 1) := dk_27 (dk_at dksX0_chain_0 4 rfl rfl)
theorem dX0_chain_5 : decode cX0_chain 5 = .ok (.iload_n 2, 1) := dk_28 (dk_at dksX0_chain_0 5 rfl rfl)
theorem dX0_chain_6 : decode cX0_chain 6 = .ok (.iload_n 3, 1) := dk_29 (dk_at dksX0_chain_0 6 rfl rfl)
theorem dX0_chain_7 : decode cX0_chain 7 = .ok (.iload 4, 2) := dk_21 4 (dk_at dksX0_chain_0 7 rfl rfl)
theorem dX0_chain_9 : decode cX0_chain 9 = .ok (.invokevirtual 71, 3) := dk_182 0 71 (dk_at dksX0_chain_0 9 rfl rfl)
theorem dX0_chain_12 : decode cX0_chain 12 = .ok (.i2l, 1) := dk_133 (dk_at dksX0_chain_0 12 rfl rfl)
theorem dX0_chain_13 : decode cX0_chain 13 = .ok (.lastore, 1) := dk_80 (dk_at dksX0_chain_0 13 rfl rfl)
theorem dX0_chain_14 : decode cX0_chain 14 = .ok (.goto 15, 3) := dk_167 0 15 (dk_at dksX0_chain_0 14 rfl rfl)
theorem dX0_chain_17 : decode cX0_chain 17 = .ok (.astore 6, 2) := dk_58 6 (dk_at dksX0_chain_0 17 rfl rfl)
theorem dX0_chain_19 : decode cX0_chain 19 = .ok (.iconst 1, 1) := dk_4 (dk_at dksX0_chain_0 19 rfl rfl)
theorem dX0_chain_20 : decode cX0_chain 20 = .ok (.ireturn, 1) := dk_172 (dk_at dksX0_chain_0 20 rfl rfl)
theorem dX0_chain_21 : decode cX0_chain 21 = .ok (.astore 6, 2) := dk_58 6 (dk_at dksX0_chain_0 21 rfl rfl)
theorem dX0_chain_23 : decode cX0_chain 23 = .ok (.iconst 2, 1) := dk_5 (dk_at dksX0_chain_0 23 rfl rfl)
theorem dX0_chain_24 : decode cX0_chain 24 = .ok (.ireturn, 1) := dk_172 (dk_at dksX0_chain_1 0 rfl rfl)
theorem dX0_chain_25 : decode cX0_chain 25 = .ok (.astore 6, 2) := dk_58 6 (dk_at dksX0_chain_1 1 rfl rfl)
theorem dX0_chain_27 : decode cX0_chain 27 = .ok (.iconst 3, 1) := dk_6 (dk_at dksX0_chain_1 3 rfl rfl)
theorem dX0_chain_28 : decode cX0_chain 28 = .ok (.ireturn, 1) := dk_172 (dk_at dksX0_chain_1 4 rfl rfl)
theorem dX0_chain_29 : decode cX0_chain 29 = .ok (.iconst 0, 1) := dk_3 (dk_at dksX0_chain_1 5 rfl rfl)
theorem dX0_chain_30 : decode cX0_chain 30 = .ok (.ireturn, 1) := dk_172 (dk_at dksX0_chain_1 6 rfl rfl)
abbrev cX0_rival : ByteArray := method_19_code
def yX0_rival : MethodName := ⟨RX0, "rival", "(LPolicyNotation;IIII[J)I"⟩
def dkwX0_rival_1 : List UInt8 := [172, 58, 6, 6, 172, 3, 172]
abbrev dktX0_rival_1 : List UInt8 := dkwX0_rival_1 ++ []
def dkwX0_rival_0 : List UInt8 := [25, 5, 3, 42, 27, 28, 29, 21, 4, 182, 0, 74, 133, 80, 167, 0, 15, 58, 6, 4, 172, 58, 6, 5]
abbrev dktX0_rival_0 : List UInt8 := dkwX0_rival_0 ++ dktX0_rival_1
theorem dksX0_rival_0 : cX0_rival.data.toList.drop 0 = dktX0_rival_0 := by decide +kernel
theorem dksX0_rival_1 : cX0_rival.data.toList.drop 24 = dktX0_rival_1 := dk_seg dksX0_rival_0 24 rfl rfl
theorem dX0_rival_0 : decode cX0_rival 0 = .ok (.aload 5, 2) := dk_25 5 (dk_at dksX0_rival_0 0 rfl rfl)
theorem dX0_rival_2 : decode cX0_rival 2 = .ok (.iconst 0, 1) := dk_3 (dk_at dksX0_rival_0 2 rfl rfl)
theorem dX0_rival_3 : decode cX0_rival 3 = .ok (.aload_n 0, 1) := dk_42 (dk_at dksX0_rival_0 3 rfl rfl)
theorem dX0_rival_4 : decode cX0_rival 4 = .ok (.iload_n 1, 1) := dk_27 (dk_at dksX0_rival_0 4 rfl rfl)
theorem dX0_rival_5 : decode cX0_rival 5 = .ok (.iload_n 2, 1) := dk_28 (dk_at dksX0_rival_0 5 rfl rfl)
theorem dX0_rival_6 : decode cX0_rival 6 = .ok (.iload_n 3, 1) := dk_29 (dk_at dksX0_rival_0 6 rfl rfl)
theorem dX0_rival_7 : decode cX0_rival 7 = .ok (.iload 4, 2) := dk_21 4 (dk_at dksX0_rival_0 7 rfl rfl)
theorem dX0_rival_9 : decode cX0_rival 9 = .ok (.invokevirtual 74, 3) := dk_182 0 74 (dk_at dksX0_rival_0 9 rfl rfl)
theorem dX0_rival_12 : decode cX0_rival 12 = .ok (.i2l, 1) := dk_133 (dk_at dksX0_rival_0 12 rfl rfl)
theorem dX0_rival_13 : decode cX0_rival 13 = .ok (.lastore, 1) := dk_80 (dk_at dksX0_rival_0 13 rfl rfl)
theorem dX0_rival_14 : decode cX0_rival 14 = .ok (.goto 15, 3) := dk_167 0 15 (dk_at dksX0_rival_0 14 rfl rfl)
theorem dX0_rival_17 : decode cX0_rival 17 = .ok (.astore 6, 2) := dk_58 6 (dk_at dksX0_rival_0 17 rfl rfl)
theorem dX0_rival_19 : decode cX0_rival 19 = .ok (.iconst 1, 1) := dk_4 (dk_at dksX0_rival_0 19 rfl rfl)
theorem dX0_rival_20 : decode cX0_rival 20 = .ok (.ireturn, 1) := dk_172 (dk_at dksX0_rival_0 20 rfl rfl)
theorem dX0_rival_21 : decode cX0_rival 21 = .ok (.astore 6, 2) := dk_58 6 (dk_at dksX0_rival_0 21 rfl rfl)
theorem dX0_rival_23 : decode cX0_rival 23 = .ok (.iconst 2, 1) := dk_5 (dk_at dksX0_rival_0 23 rfl rfl)
theorem dX0_rival_24 : decode cX0_rival 24 = .ok (.ireturn, 1) := dk_172 (dk_at dksX0_rival_1 0 rfl rfl)
theorem dX0_rival_25 : decode cX0_rival 25 = .ok (.astore 6, 2) := dk_58 6 (dk_at dksX0_rival_1 1 rfl rfl)
theorem dX0_rival_27 : decode cX0_rival 27 = .ok (.iconst 3, 1) := dk_6 (dk_at dksX0_rival_1 3 rfl rfl)
theorem dX0_rival_28 : decode cX0_rival 28 = .ok (.ireturn, 1) := dk_172 (dk_at dksX0_rival_1 4 rfl rfl)
theorem dX0_rival_29 : decode cX0_rival 29 = .ok (.iconst 0, 1) := dk_3 (dk_at dksX0_rival_1 5 rfl rfl)
theorem dX0_rival_30 : decode cX0_rival 30 = .ok (.ireturn, 1) := dk_172 (dk_at dksX0_rival_1 6 rfl rfl)
abbrev cX0_nextChange : ByteArray := method_20_code
def yX0_nextChange : MethodName := ⟨RX0, "nextChange", "(LPolicyNotation;III[J)I"⟩
def dkwX0_nextChange_1 : List UInt8 := [58, 5, 6, 172, 3, 172]
abbrev dktX0_nextChange_1 : List UInt8 := dkwX0_nextChange_1 ++ []
def dkwX0_nextChange_0 : List UInt8 := [25, 4, 3, 42, 27, 28, 29, 182, 0, 77, 133, 80, 167, 0, 15, 58, 5, 4, 172, 58, 5, 5, 172]
abbrev dktX0_nextChange_0 : List UInt8 := dkwX0_nextChange_0 ++ dktX0_nextChange_1
theorem dksX0_nextChange_0 : cX0_nextChange.data.toList.drop 0 = dktX0_nextChange_0 := by decide +kernel
theorem dksX0_nextChange_1 : cX0_nextChange.data.toList.drop 23 = dktX0_nextChange_1 := dk_seg dksX0_nextChange_0 23 rfl rfl
theorem dX0_nextChange_0 : decode cX0_nextChange 0 = .ok (.aload 4, 2) := dk_25 4 (dk_at dksX0_nextChange_0 0 rfl rfl)
theorem dX0_nextChange_2 : decode cX0_nextChange 2 = .ok (.iconst 0, 1) := dk_3 (dk_at dksX0_nextChange_0 2 rfl rfl)
theorem dX0_nextChange_3 : decode cX0_nextChange 3 = .ok (.aload_n 0, 1) := dk_42 (dk_at dksX0_nextChange_0 3 rfl rfl)
theorem dX0_nextChange_4 : decode cX0_nextChange 4 = .ok (.iload_n 1, 1) := dk_27 (dk_at dksX0_nextChange_0 4 rfl rfl)
theorem dX0_nextChange_5 : decode cX0_nextChange 5 = .ok (.iload_n 2, 1) := dk_28 (dk_at dksX0_nextChange_0 5 rfl rfl)
theorem dX0_nextChange_6 : decode cX0_nextChange 6 = .ok (.iload_n 3, 1) := dk_29 (dk_at dksX0_nextChange_0 6 rfl rfl)
theorem dX0_nextChange_7 : decode cX0_nextChange 7 = .ok (.invokevirtual 77, 3) := dk_182 0 77 (dk_at dksX0_nextChange_0 7 rfl rfl)
theorem dX0_nextChange_10 : decode cX0_nextChange 10 = .ok (.i2l, 1) := dk_133 (dk_at dksX0_nextChange_0 10 rfl rfl)
theorem dX0_nextChange_11 : decode cX0_nextChange 11 = .ok (.lastore, 1) := dk_80 (dk_at dksX0_nextChange_0 11 rfl rfl)
theorem dX0_nextChange_12 : decode cX0_nextChange 12 = .ok (.goto 15, 3) := dk_167 0 15 (dk_at dksX0_nextChange_0 12 rfl rfl)
theorem dX0_nextChange_15 : decode cX0_nextChange 15 = .ok (.astore 5, 2) := dk_58 5 (dk_at dksX0_nextChange_0 15 rfl rfl)
theorem dX0_nextChange_17 : decode cX0_nextChange 17 = .ok (.iconst 1, 1) := dk_4 (dk_at dksX0_nextChange_0 17 rfl rfl)
theorem dX0_nextChange_18 : decode cX0_nextChange 18 = .ok (.ireturn, 1) := dk_172 (dk_at dksX0_nextChange_0 18 rfl rfl)
theorem dX0_nextChange_19 : decode cX0_nextChange 19 = .ok (.astore 5, 2) := dk_58 5 (dk_at dksX0_nextChange_0 19 rfl rfl)
theorem dX0_nextChange_21 : decode cX0_nextChange 21 = .ok (.iconst 2, 1) := dk_5 (dk_at dksX0_nextChange_0 21 rfl rfl)
theorem dX0_nextChange_22 : decode cX0_nextChange 22 = .ok (.ireturn, 1) := dk_172 (dk_at dksX0_nextChange_0 22 rfl rfl)
theorem dX0_nextChange_23 : decode cX0_nextChange 23 = .ok (.astore 5, 2) := dk_58 5 (dk_at dksX0_nextChange_1 0 rfl rfl)
theorem dX0_nextChange_25 : decode cX0_nextChange 25 = .ok (.iconst 3, 1) := dk_6 (dk_at dksX0_nextChange_1 2 rfl rfl)
theorem dX0_nextChange_26 : decode cX0_nextChange 26 = .ok (.ireturn, 1) := dk_172 (dk_at dksX0_nextChange_1 3 rfl rfl)
theorem dX0_nextChange_27 : decode cX0_nextChange 27 = .ok (.iconst 0, 1) := dk_3 (dk_at dksX0_nextChange_1 4 rfl rfl)
theorem dX0_nextChange_28 : decode cX0_nextChange 28 = .ok (.ireturn, 1) := dk_172 (dk_at dksX0_nextChange_1 5 rfl rfl)
abbrev cX0_days : ByteArray := method_21_code
def yX0_days : MethodName := ⟨RX0, "days", "(LPolicyNotation;III[J)I"⟩
def dkwX0_days_1 : List UInt8 := [172]
abbrev dktX0_days_1 : List UInt8 := dkwX0_days_1 ++ []
def dkwX0_days_0 : List UInt8 := [25, 4, 3, 42, 27, 28, 29, 182, 0, 80, 133, 80, 167, 0, 11, 58, 5, 4, 172, 58, 5, 5, 172, 3]
abbrev dktX0_days_0 : List UInt8 := dkwX0_days_0 ++ dktX0_days_1
theorem dksX0_days_0 : cX0_days.data.toList.drop 0 = dktX0_days_0 := by decide +kernel
theorem dksX0_days_1 : cX0_days.data.toList.drop 24 = dktX0_days_1 := dk_seg dksX0_days_0 24 rfl rfl
theorem dX0_days_0 : decode cX0_days 0 = .ok (.aload 4, 2) := dk_25 4 (dk_at dksX0_days_0 0 rfl rfl)
theorem dX0_days_2 : decode cX0_days 2 = .ok (.iconst 0, 1) := dk_3 (dk_at dksX0_days_0 2 rfl rfl)
theorem dX0_days_3 : decode cX0_days 3 = .ok (.aload_n 0, 1) := dk_42 (dk_at dksX0_days_0 3 rfl rfl)
theorem dX0_days_4 : decode cX0_days 4 = .ok (.iload_n 1, 1) := dk_27 (dk_at dksX0_days_0 4 rfl rfl)
theorem dX0_days_5 : decode cX0_days 5 = .ok (.iload_n 2, 1) := dk_28 (dk_at dksX0_days_0 5 rfl rfl)
theorem dX0_days_6 : decode cX0_days 6 = .ok (.iload_n 3, 1) := dk_29 (dk_at dksX0_days_0 6 rfl rfl)
theorem dX0_days_7 : decode cX0_days 7 = .ok (.invokevirtual 80, 3) := dk_182 0 80 (dk_at dksX0_days_0 7 rfl rfl)
theorem dX0_days_10 : decode cX0_days 10 = .ok (.i2l, 1) := dk_133 (dk_at dksX0_days_0 10 rfl rfl)
theorem dX0_days_11 : decode cX0_days 11 = .ok (.lastore, 1) := dk_80 (dk_at dksX0_days_0 11 rfl rfl)
theorem dX0_days_12 : decode cX0_days 12 = .ok (.goto 11, 3) := dk_167 0 11 (dk_at dksX0_days_0 12 rfl rfl)
theorem dX0_days_15 : decode cX0_days 15 = .ok (.astore 5, 2) := dk_58 5 (dk_at dksX0_days_0 15 rfl rfl)
theorem dX0_days_17 : decode cX0_days 17 = .ok (.iconst 1, 1) := dk_4 (dk_at dksX0_days_0 17 rfl rfl)
theorem dX0_days_18 : decode cX0_days 18 = .ok (.ireturn, 1) := dk_172 (dk_at dksX0_days_0 18 rfl rfl)
theorem dX0_days_19 : decode cX0_days 19 = .ok (.astore 5, 2) := dk_58 5 (dk_at dksX0_days_0 19 rfl rfl)
theorem dX0_days_21 : decode cX0_days 21 = .ok (.iconst 2, 1) := dk_5 (dk_at dksX0_days_0 21 rfl rfl)
theorem dX0_days_22 : decode cX0_days 22 = .ok (.ireturn, 1) := dk_172 (dk_at dksX0_days_0 22 rfl rfl)
theorem dX0_days_23 : decode cX0_days 23 = .ok (.iconst 0, 1) := dk_3 (dk_at dksX0_days_0 23 rfl rfl)
theorem dX0_days_24 : decode cX0_days 24 = .ok (.ireturn, 1) := dk_172 (dk_at dksX0_days_1 0 rfl rfl)
abbrev cX0_burden : ByteArray := method_22_code
def yX0_burden : MethodName := ⟨RX0, "burden", "(LPolicyNotation;III[D)I"⟩
def dkwX0_burden_1 : List UInt8 := [172]
abbrev dktX0_burden_1 : List UInt8 := dkwX0_burden_1 ++ []
def dkwX0_burden_0 : List UInt8 := [25, 4, 3, 42, 27, 28, 29, 182, 0, 83, 141, 82, 167, 0, 11, 58, 5, 4, 172, 58, 5, 5, 172, 3]
abbrev dktX0_burden_0 : List UInt8 := dkwX0_burden_0 ++ dktX0_burden_1
theorem dksX0_burden_0 : cX0_burden.data.toList.drop 0 = dktX0_burden_0 := by decide +kernel
theorem dksX0_burden_1 : cX0_burden.data.toList.drop 24 = dktX0_burden_1 := dk_seg dksX0_burden_0 24 rfl rfl
theorem dX0_burden_0 : decode cX0_burden 0 = .ok (.aload 4, 2) := dk_25 4 (dk_at dksX0_burden_0 0 rfl rfl)
theorem dX0_burden_2 : decode cX0_burden 2 = .ok (.iconst 0, 1) := dk_3 (dk_at dksX0_burden_0 2 rfl rfl)
theorem dX0_burden_3 : decode cX0_burden 3 = .ok (.aload_n 0, 1) := dk_42 (dk_at dksX0_burden_0 3 rfl rfl)
theorem dX0_burden_4 : decode cX0_burden 4 = .ok (.iload_n 1, 1) := dk_27 (dk_at dksX0_burden_0 4 rfl rfl)
theorem dX0_burden_5 : decode cX0_burden 5 = .ok (.iload_n 2, 1) := dk_28 (dk_at dksX0_burden_0 5 rfl rfl)
theorem dX0_burden_6 : decode cX0_burden 6 = .ok (.iload_n 3, 1) := dk_29 (dk_at dksX0_burden_0 6 rfl rfl)
theorem dX0_burden_7 : decode cX0_burden 7 = .ok (.invokevirtual 83, 3) := dk_182 0 83 (dk_at dksX0_burden_0 7 rfl rfl)
theorem dX0_burden_10 : decode cX0_burden 10 = .ok (.f2d, 1) := dk_141 (dk_at dksX0_burden_0 10 rfl rfl)
theorem dX0_burden_11 : decode cX0_burden 11 = .ok (.dastore, 1) := dk_82 (dk_at dksX0_burden_0 11 rfl rfl)
theorem dX0_burden_12 : decode cX0_burden 12 = .ok (.goto 11, 3) := dk_167 0 11 (dk_at dksX0_burden_0 12 rfl rfl)
theorem dX0_burden_15 : decode cX0_burden 15 = .ok (.astore 5, 2) := dk_58 5 (dk_at dksX0_burden_0 15 rfl rfl)
theorem dX0_burden_17 : decode cX0_burden 17 = .ok (.iconst 1, 1) := dk_4 (dk_at dksX0_burden_0 17 rfl rfl)
theorem dX0_burden_18 : decode cX0_burden 18 = .ok (.ireturn, 1) := dk_172 (dk_at dksX0_burden_0 18 rfl rfl)
theorem dX0_burden_19 : decode cX0_burden 19 = .ok (.astore 5, 2) := dk_58 5 (dk_at dksX0_burden_0 19 rfl rfl)
theorem dX0_burden_21 : decode cX0_burden 21 = .ok (.iconst 2, 1) := dk_5 (dk_at dksX0_burden_0 21 rfl rfl)
theorem dX0_burden_22 : decode cX0_burden 22 = .ok (.ireturn, 1) := dk_172 (dk_at dksX0_burden_0 22 rfl rfl)
theorem dX0_burden_23 : decode cX0_burden 23 = .ok (.iconst 0, 1) := dk_3 (dk_at dksX0_burden_0 23 rfl rfl)
theorem dX0_burden_24 : decode cX0_burden 24 = .ok (.ireturn, 1) := dk_172 (dk_at dksX0_burden_1 0 rfl rfl)
abbrev cX0_percent : ByteArray := method_23_code
def yX0_percent : MethodName := ⟨RX0, "percent", "(LPolicyNotation;III[J)I"⟩
def dkwX0_percent_1 : List UInt8 := [172]
abbrev dktX0_percent_1 : List UInt8 := dkwX0_percent_1 ++ []
def dkwX0_percent_0 : List UInt8 := [25, 4, 3, 42, 27, 28, 29, 182, 0, 87, 133, 80, 167, 0, 11, 58, 5, 4, 172, 58, 5, 5, 172, 3]
abbrev dktX0_percent_0 : List UInt8 := dkwX0_percent_0 ++ dktX0_percent_1
theorem dksX0_percent_0 : cX0_percent.data.toList.drop 0 = dktX0_percent_0 := by decide +kernel
theorem dksX0_percent_1 : cX0_percent.data.toList.drop 24 = dktX0_percent_1 := dk_seg dksX0_percent_0 24 rfl rfl
theorem dX0_percent_0 : decode cX0_percent 0 = .ok (.aload 4, 2) := dk_25 4 (dk_at dksX0_percent_0 0 rfl rfl)
theorem dX0_percent_2 : decode cX0_percent 2 = .ok (.iconst 0, 1) := dk_3 (dk_at dksX0_percent_0 2 rfl rfl)
theorem dX0_percent_3 : decode cX0_percent 3 = .ok (.aload_n 0, 1) := dk_42 (dk_at dksX0_percent_0 3 rfl rfl)
theorem dX0_percent_4 : decode cX0_percent 4 = .ok (.iload_n 1, 1) := dk_27 (dk_at dksX0_percent_0 4 rfl rfl)
theorem dX0_percent_5 : decode cX0_percent 5 = .ok (.iload_n 2, 1) := dk_28 (dk_at dksX0_percent_0 5 rfl rfl)
theorem dX0_percent_6 : decode cX0_percent 6 = .ok (.iload_n 3, 1) := dk_29 (dk_at dksX0_percent_0 6 rfl rfl)
theorem dX0_percent_7 : decode cX0_percent 7 = .ok (.invokevirtual 87, 3) := dk_182 0 87 (dk_at dksX0_percent_0 7 rfl rfl)
theorem dX0_percent_10 : decode cX0_percent 10 = .ok (.i2l, 1) := dk_133 (dk_at dksX0_percent_0 10 rfl rfl)
theorem dX0_percent_11 : decode cX0_percent 11 = .ok (.lastore, 1) := dk_80 (dk_at dksX0_percent_0 11 rfl rfl)
theorem dX0_percent_12 : decode cX0_percent 12 = .ok (.goto 11, 3) := dk_167 0 11 (dk_at dksX0_percent_0 12 rfl rfl)
theorem dX0_percent_15 : decode cX0_percent 15 = .ok (.astore 5, 2) := dk_58 5 (dk_at dksX0_percent_0 15 rfl rfl)
theorem dX0_percent_17 : decode cX0_percent 17 = .ok (.iconst 1, 1) := dk_4 (dk_at dksX0_percent_0 17 rfl rfl)
theorem dX0_percent_18 : decode cX0_percent 18 = .ok (.ireturn, 1) := dk_172 (dk_at dksX0_percent_0 18 rfl rfl)
theorem dX0_percent_19 : decode cX0_percent 19 = .ok (.astore 5, 2) := dk_58 5 (dk_at dksX0_percent_0 19 rfl rfl)
theorem dX0_percent_21 : decode cX0_percent 21 = .ok (.iconst 2, 1) := dk_5 (dk_at dksX0_percent_0 21 rfl rfl)
theorem dX0_percent_22 : decode cX0_percent 22 = .ok (.ireturn, 1) := dk_172 (dk_at dksX0_percent_0 22 rfl rfl)
theorem dX0_percent_23 : decode cX0_percent 23 = .ok (.iconst 0, 1) := dk_3 (dk_at dksX0_percent_0 23 rfl rfl)
theorem dX0_percent_24 : decode cX0_percent 24 = .ok (.ireturn, 1) := dk_172 (dk_at dksX0_percent_1 0 rfl rfl)
abbrev cX0_work : ByteArray := method_24_code
def yX0_work : MethodName := ⟨RX0, "work", "(LPolicyNotation;IIII[J)I"⟩
def dkwX0_work_1 : List UInt8 := [172, 58, 6, 6, 172, 3, 172]
abbrev dktX0_work_1 : List UInt8 := dkwX0_work_1 ++ []
def dkwX0_work_0 : List UInt8 := [25, 5, 3, 42, 27, 28, 29, 21, 4, 182, 0, 90, 133, 80, 167, 0, 15, 58, 6, 4, 172, 58, 6, 5]
abbrev dktX0_work_0 : List UInt8 := dkwX0_work_0 ++ dktX0_work_1
theorem dksX0_work_0 : cX0_work.data.toList.drop 0 = dktX0_work_0 := by decide +kernel
theorem dksX0_work_1 : cX0_work.data.toList.drop 24 = dktX0_work_1 := dk_seg dksX0_work_0 24 rfl rfl
theorem dX0_work_0 : decode cX0_work 0 = .ok (.aload 5, 2) := dk_25 5 (dk_at dksX0_work_0 0 rfl rfl)
theorem dX0_work_2 : decode cX0_work 2 = .ok (.iconst 0, 1) := dk_3 (dk_at dksX0_work_0 2 rfl rfl)
theorem dX0_work_3 : decode cX0_work 3 = .ok (.aload_n 0, 1) := dk_42 (dk_at dksX0_work_0 3 rfl rfl)
theorem dX0_work_4 : decode cX0_work 4 = .ok (.iload_n 1, 1) := dk_27 (dk_at dksX0_work_0 4 rfl rfl)
theorem dX0_work_5 : decode cX0_work 5 = .ok (.iload_n 2, 1) := dk_28 (dk_at dksX0_work_0 5 rfl rfl)
theorem dX0_work_6 : decode cX0_work 6 = .ok (.iload_n 3, 1) := dk_29 (dk_at dksX0_work_0 6 rfl rfl)
theorem dX0_work_7 : decode cX0_work 7 = .ok (.iload 4, 2) := dk_21 4 (dk_at dksX0_work_0 7 rfl rfl)
theorem dX0_work_9 : decode cX0_work 9 = .ok (.invokevirtual 90, 3) := dk_182 0 90 (dk_at dksX0_work_0 9 rfl rfl)
theorem dX0_work_12 : decode cX0_work 12 = .ok (.i2l, 1) := dk_133 (dk_at dksX0_work_0 12 rfl rfl)
theorem dX0_work_13 : decode cX0_work 13 = .ok (.lastore, 1) := dk_80 (dk_at dksX0_work_0 13 rfl rfl)
theorem dX0_work_14 : decode cX0_work 14 = .ok (.goto 15, 3) := dk_167 0 15 (dk_at dksX0_work_0 14 rfl rfl)
theorem dX0_work_17 : decode cX0_work 17 = .ok (.astore 6, 2) := dk_58 6 (dk_at dksX0_work_0 17 rfl rfl)
theorem dX0_work_19 : decode cX0_work 19 = .ok (.iconst 1, 1) := dk_4 (dk_at dksX0_work_0 19 rfl rfl)
theorem dX0_work_20 : decode cX0_work 20 = .ok (.ireturn, 1) := dk_172 (dk_at dksX0_work_0 20 rfl rfl)
theorem dX0_work_21 : decode cX0_work 21 = .ok (.astore 6, 2) := dk_58 6 (dk_at dksX0_work_0 21 rfl rfl)
theorem dX0_work_23 : decode cX0_work 23 = .ok (.iconst 2, 1) := dk_5 (dk_at dksX0_work_0 23 rfl rfl)
theorem dX0_work_24 : decode cX0_work 24 = .ok (.ireturn, 1) := dk_172 (dk_at dksX0_work_1 0 rfl rfl)
theorem dX0_work_25 : decode cX0_work 25 = .ok (.astore 6, 2) := dk_58 6 (dk_at dksX0_work_1 1 rfl rfl)
theorem dX0_work_27 : decode cX0_work 27 = .ok (.iconst 3, 1) := dk_6 (dk_at dksX0_work_1 3 rfl rfl)
theorem dX0_work_28 : decode cX0_work 28 = .ok (.ireturn, 1) := dk_172 (dk_at dksX0_work_1 4 rfl rfl)
theorem dX0_work_29 : decode cX0_work 29 = .ok (.iconst 0, 1) := dk_3 (dk_at dksX0_work_1 5 rfl rfl)
theorem dX0_work_30 : decode cX0_work 30 = .ok (.ireturn, 1) := dk_172 (dk_at dksX0_work_1 6 rfl rfl)
abbrev cX0_caseOf : ByteArray := method_25_code
def yX0_caseOf : MethodName := ⟨RX0, "caseOf", "(LPolicyNotation;II[J)I"⟩
def dkwX0_caseOf_0 : List UInt8 := [45, 3, 42, 27, 28, 182, 0, 93, 133, 80, 167, 0, 11, 58, 4, 4, 172, 58, 4, 5, 172, 3, 172]
abbrev dktX0_caseOf_0 : List UInt8 := dkwX0_caseOf_0 ++ []
theorem dksX0_caseOf_0 : cX0_caseOf.data.toList.drop 0 = dktX0_caseOf_0 := by decide +kernel
theorem dX0_caseOf_0 : decode cX0_caseOf 0 = .ok (.aload_n 3, 1) := dk_45 (dk_at dksX0_caseOf_0 0 rfl rfl)
theorem dX0_caseOf_1 : decode cX0_caseOf 1 = .ok (.iconst 0, 1) := dk_3 (dk_at dksX0_caseOf_0 1 rfl rfl)
theorem dX0_caseOf_2 : decode cX0_caseOf 2 = .ok (.aload_n 0, 1) := dk_42 (dk_at dksX0_caseOf_0 2 rfl rfl)
theorem dX0_caseOf_3 : decode cX0_caseOf 3 = .ok (.iload_n 1, 1) := dk_27 (dk_at dksX0_caseOf_0 3 rfl rfl)
theorem dX0_caseOf_4 : decode cX0_caseOf 4 = .ok (.iload_n 2, 1) := dk_28 (dk_at dksX0_caseOf_0 4 rfl rfl)
theorem dX0_caseOf_5 : decode cX0_caseOf 5 = .ok (.invokevirtual 93, 3) := dk_182 0 93 (dk_at dksX0_caseOf_0 5 rfl rfl)
theorem dX0_caseOf_8 : decode cX0_caseOf 8 = .ok (.i2l, 1) := dk_133 (dk_at dksX0_caseOf_0 8 rfl rfl)
theorem dX0_caseOf_9 : decode cX0_caseOf 9 = .ok (.lastore, 1) := dk_80 (dk_at dksX0_caseOf_0 9 rfl rfl)
theorem dX0_caseOf_10 : decode cX0_caseOf 10 = .ok (.goto 11, 3) := dk_167 0 11 (dk_at dksX0_caseOf_0 10 rfl rfl)
theorem dX0_caseOf_13 : decode cX0_caseOf 13 = .ok (.astore 4, 2) := dk_58 4 (dk_at dksX0_caseOf_0 13 rfl rfl)
theorem dX0_caseOf_15 : decode cX0_caseOf 15 = .ok (.iconst 1, 1) := dk_4 (dk_at dksX0_caseOf_0 15 rfl rfl)
theorem dX0_caseOf_16 : decode cX0_caseOf 16 = .ok (.ireturn, 1) := dk_172 (dk_at dksX0_caseOf_0 16 rfl rfl)
theorem dX0_caseOf_17 : decode cX0_caseOf 17 = .ok (.astore 4, 2) := dk_58 4 (dk_at dksX0_caseOf_0 17 rfl rfl)
theorem dX0_caseOf_19 : decode cX0_caseOf 19 = .ok (.iconst 2, 1) := dk_5 (dk_at dksX0_caseOf_0 19 rfl rfl)
theorem dX0_caseOf_20 : decode cX0_caseOf 20 = .ok (.ireturn, 1) := dk_172 (dk_at dksX0_caseOf_0 20 rfl rfl)
theorem dX0_caseOf_21 : decode cX0_caseOf 21 = .ok (.iconst 0, 1) := dk_3 (dk_at dksX0_caseOf_0 21 rfl rfl)
theorem dX0_caseOf_22 : decode cX0_caseOf 22 = .ok (.ireturn, 1) := dk_172 (dk_at dksX0_caseOf_0 22 rfl rfl)
abbrev cX0_dropCase : ByteArray := method_26_code
def yX0_dropCase : MethodName := ⟨RX0, "dropCase", "(LPolicyNotation;I[J)I"⟩
def dkwX0_dropCase_0 : List UInt8 := [44, 3, 42, 27, 182, 0, 96, 133, 80, 167, 0, 6, 78, 4, 172, 3, 172]
abbrev dktX0_dropCase_0 : List UInt8 := dkwX0_dropCase_0 ++ []
theorem dksX0_dropCase_0 : cX0_dropCase.data.toList.drop 0 = dktX0_dropCase_0 := by decide +kernel
theorem dX0_dropCase_0 : decode cX0_dropCase 0 = .ok (.aload_n 2, 1) := dk_44 (dk_at dksX0_dropCase_0 0 rfl rfl)
theorem dX0_dropCase_1 : decode cX0_dropCase 1 = .ok (.iconst 0, 1) := dk_3 (dk_at dksX0_dropCase_0 1 rfl rfl)
theorem dX0_dropCase_2 : decode cX0_dropCase 2 = .ok (.aload_n 0, 1) := dk_42 (dk_at dksX0_dropCase_0 2 rfl rfl)
theorem dX0_dropCase_3 : decode cX0_dropCase 3 = .ok (.iload_n 1, 1) := dk_27 (dk_at dksX0_dropCase_0 3 rfl rfl)
theorem dX0_dropCase_4 : decode cX0_dropCase 4 = .ok (.invokevirtual 96, 3) := dk_182 0 96 (dk_at dksX0_dropCase_0 4 rfl rfl)
theorem dX0_dropCase_7 : decode cX0_dropCase 7 = .ok (.i2l, 1) := dk_133 (dk_at dksX0_dropCase_0 7 rfl rfl)
theorem dX0_dropCase_8 : decode cX0_dropCase 8 = .ok (.lastore, 1) := dk_80 (dk_at dksX0_dropCase_0 8 rfl rfl)
theorem dX0_dropCase_9 : decode cX0_dropCase 9 = .ok (.goto 6, 3) := dk_167 0 6 (dk_at dksX0_dropCase_0 9 rfl rfl)
theorem dX0_dropCase_12 : decode cX0_dropCase 12 = .ok (.astore_n 3, 1) := dk_78 (dk_at dksX0_dropCase_0 12 rfl rfl)
theorem dX0_dropCase_13 : decode cX0_dropCase 13 = .ok (.iconst 1, 1) := dk_4 (dk_at dksX0_dropCase_0 13 rfl rfl)
theorem dX0_dropCase_14 : decode cX0_dropCase 14 = .ok (.ireturn, 1) := dk_172 (dk_at dksX0_dropCase_0 14 rfl rfl)
theorem dX0_dropCase_15 : decode cX0_dropCase 15 = .ok (.iconst 0, 1) := dk_3 (dk_at dksX0_dropCase_0 15 rfl rfl)
theorem dX0_dropCase_16 : decode cX0_dropCase 16 = .ok (.ireturn, 1) := dk_172 (dk_at dksX0_dropCase_0 16 rfl rfl)
abbrev cX0_without : ByteArray := method_27_code
def yX0_without : MethodName := ⟨RX0, "without", "(LPolicyNotation;I[J)I"⟩
def dkwX0_without_0 : List UInt8 := [44, 3, 42, 27, 182, 0, 99, 133, 80, 167, 0, 6, 78, 4, 172, 3, 172]
abbrev dktX0_without_0 : List UInt8 := dkwX0_without_0 ++ []
theorem dksX0_without_0 : cX0_without.data.toList.drop 0 = dktX0_without_0 := by decide +kernel
theorem dX0_without_0 : decode cX0_without 0 = .ok (.aload_n 2, 1) := dk_44 (dk_at dksX0_without_0 0 rfl rfl)
theorem dX0_without_1 : decode cX0_without 1 = .ok (.iconst 0, 1) := dk_3 (dk_at dksX0_without_0 1 rfl rfl)
theorem dX0_without_2 : decode cX0_without 2 = .ok (.aload_n 0, 1) := dk_42 (dk_at dksX0_without_0 2 rfl rfl)
theorem dX0_without_3 : decode cX0_without 3 = .ok (.iload_n 1, 1) := dk_27 (dk_at dksX0_without_0 3 rfl rfl)
theorem dX0_without_4 : decode cX0_without 4 = .ok (.invokevirtual 99, 3) := dk_182 0 99 (dk_at dksX0_without_0 4 rfl rfl)
theorem dX0_without_7 : decode cX0_without 7 = .ok (.i2l, 1) := dk_133 (dk_at dksX0_without_0 7 rfl rfl)
theorem dX0_without_8 : decode cX0_without 8 = .ok (.lastore, 1) := dk_80 (dk_at dksX0_without_0 8 rfl rfl)
theorem dX0_without_9 : decode cX0_without 9 = .ok (.goto 6, 3) := dk_167 0 6 (dk_at dksX0_without_0 9 rfl rfl)
theorem dX0_without_12 : decode cX0_without 12 = .ok (.astore_n 3, 1) := dk_78 (dk_at dksX0_without_0 12 rfl rfl)
theorem dX0_without_13 : decode cX0_without 13 = .ok (.iconst 1, 1) := dk_4 (dk_at dksX0_without_0 13 rfl rfl)
theorem dX0_without_14 : decode cX0_without 14 = .ok (.ireturn, 1) := dk_172 (dk_at dksX0_without_0 14 rfl rfl)
theorem dX0_without_15 : decode cX0_without 15 = .ok (.iconst 0, 1) := dk_3 (dk_at dksX0_without_0 15 rfl rfl)
theorem dX0_without_16 : decode cX0_without 16 = .ok (.ireturn, 1) := dk_172 (dk_at dksX0_without_0 16 rfl rfl)
abbrev cX0_sheet : ByteArray := method_28_code
def yX0_sheet : MethodName := ⟨RX0, "sheet", "(LPolicyNotation;I[J)I"⟩
def dkwX0_sheet_0 : List UInt8 := [44, 3, 42, 27, 182, 0, 102, 133, 80, 167, 0, 6, 78, 4, 172, 3, 172]
abbrev dktX0_sheet_0 : List UInt8 := dkwX0_sheet_0 ++ []
theorem dksX0_sheet_0 : cX0_sheet.data.toList.drop 0 = dktX0_sheet_0 := by decide +kernel
theorem dX0_sheet_0 : decode cX0_sheet 0 = .ok (.aload_n 2, 1) := dk_44 (dk_at dksX0_sheet_0 0 rfl rfl)
theorem dX0_sheet_1 : decode cX0_sheet 1 = .ok (.iconst 0, 1) := dk_3 (dk_at dksX0_sheet_0 1 rfl rfl)
theorem dX0_sheet_2 : decode cX0_sheet 2 = .ok (.aload_n 0, 1) := dk_42 (dk_at dksX0_sheet_0 2 rfl rfl)
theorem dX0_sheet_3 : decode cX0_sheet 3 = .ok (.iload_n 1, 1) := dk_27 (dk_at dksX0_sheet_0 3 rfl rfl)
theorem dX0_sheet_4 : decode cX0_sheet 4 = .ok (.invokevirtual 102, 3) := dk_182 0 102 (dk_at dksX0_sheet_0 4 rfl rfl)
theorem dX0_sheet_7 : decode cX0_sheet 7 = .ok (.i2l, 1) := dk_133 (dk_at dksX0_sheet_0 7 rfl rfl)
theorem dX0_sheet_8 : decode cX0_sheet 8 = .ok (.lastore, 1) := dk_80 (dk_at dksX0_sheet_0 8 rfl rfl)
theorem dX0_sheet_9 : decode cX0_sheet 9 = .ok (.goto 6, 3) := dk_167 0 6 (dk_at dksX0_sheet_0 9 rfl rfl)
theorem dX0_sheet_12 : decode cX0_sheet 12 = .ok (.astore_n 3, 1) := dk_78 (dk_at dksX0_sheet_0 12 rfl rfl)
theorem dX0_sheet_13 : decode cX0_sheet 13 = .ok (.iconst 1, 1) := dk_4 (dk_at dksX0_sheet_0 13 rfl rfl)
theorem dX0_sheet_14 : decode cX0_sheet 14 = .ok (.ireturn, 1) := dk_172 (dk_at dksX0_sheet_0 14 rfl rfl)
theorem dX0_sheet_15 : decode cX0_sheet 15 = .ok (.iconst 0, 1) := dk_3 (dk_at dksX0_sheet_0 15 rfl rfl)
theorem dX0_sheet_16 : decode cX0_sheet 16 = .ok (.ireturn, 1) := dk_172 (dk_at dksX0_sheet_0 16 rfl rfl)
abbrev cX0_lay : ByteArray := method_29_code
def yX0_lay : MethodName := ⟨RX0, "lay", "(LPolicyNotation;III[J)I"⟩
def dkwX0_lay_1 : List UInt8 := [58, 5, 6, 172, 3, 172]
abbrev dktX0_lay_1 : List UInt8 := dkwX0_lay_1 ++ []
def dkwX0_lay_0 : List UInt8 := [25, 4, 3, 42, 27, 28, 29, 182, 0, 105, 133, 80, 167, 0, 15, 58, 5, 4, 172, 58, 5, 5, 172]
abbrev dktX0_lay_0 : List UInt8 := dkwX0_lay_0 ++ dktX0_lay_1
theorem dksX0_lay_0 : cX0_lay.data.toList.drop 0 = dktX0_lay_0 := by decide +kernel
theorem dksX0_lay_1 : cX0_lay.data.toList.drop 23 = dktX0_lay_1 := dk_seg dksX0_lay_0 23 rfl rfl
theorem dX0_lay_0 : decode cX0_lay 0 = .ok (.aload 4, 2) := dk_25 4 (dk_at dksX0_lay_0 0 rfl rfl)
theorem dX0_lay_2 : decode cX0_lay 2 = .ok (.iconst 0, 1) := dk_3 (dk_at dksX0_lay_0 2 rfl rfl)
theorem dX0_lay_3 : decode cX0_lay 3 = .ok (.aload_n 0, 1) := dk_42 (dk_at dksX0_lay_0 3 rfl rfl)
theorem dX0_lay_4 : decode cX0_lay 4 = .ok (.iload_n 1, 1) := dk_27 (dk_at dksX0_lay_0 4 rfl rfl)
theorem dX0_lay_5 : decode cX0_lay 5 = .ok (.iload_n 2, 1) := dk_28 (dk_at dksX0_lay_0 5 rfl rfl)
theorem dX0_lay_6 : decode cX0_lay 6 = .ok (.iload_n 3, 1) := dk_29 (dk_at dksX0_lay_0 6 rfl rfl)
theorem dX0_lay_7 : decode cX0_lay 7 = .ok (.invokevirtual 105, 3) := dk_182 0 105 (dk_at dksX0_lay_0 7 rfl rfl)
theorem dX0_lay_10 : decode cX0_lay 10 = .ok (.i2l, 1) := dk_133 (dk_at dksX0_lay_0 10 rfl rfl)
theorem dX0_lay_11 : decode cX0_lay 11 = .ok (.lastore, 1) := dk_80 (dk_at dksX0_lay_0 11 rfl rfl)
theorem dX0_lay_12 : decode cX0_lay 12 = .ok (.goto 15, 3) := dk_167 0 15 (dk_at dksX0_lay_0 12 rfl rfl)
theorem dX0_lay_15 : decode cX0_lay 15 = .ok (.astore 5, 2) := dk_58 5 (dk_at dksX0_lay_0 15 rfl rfl)
theorem dX0_lay_17 : decode cX0_lay 17 = .ok (.iconst 1, 1) := dk_4 (dk_at dksX0_lay_0 17 rfl rfl)
theorem dX0_lay_18 : decode cX0_lay 18 = .ok (.ireturn, 1) := dk_172 (dk_at dksX0_lay_0 18 rfl rfl)
theorem dX0_lay_19 : decode cX0_lay 19 = .ok (.astore 5, 2) := dk_58 5 (dk_at dksX0_lay_0 19 rfl rfl)
theorem dX0_lay_21 : decode cX0_lay 21 = .ok (.iconst 2, 1) := dk_5 (dk_at dksX0_lay_0 21 rfl rfl)
theorem dX0_lay_22 : decode cX0_lay 22 = .ok (.ireturn, 1) := dk_172 (dk_at dksX0_lay_0 22 rfl rfl)
theorem dX0_lay_23 : decode cX0_lay 23 = .ok (.astore 5, 2) := dk_58 5 (dk_at dksX0_lay_1 0 rfl rfl)
theorem dX0_lay_25 : decode cX0_lay 25 = .ok (.iconst 3, 1) := dk_6 (dk_at dksX0_lay_1 2 rfl rfl)
theorem dX0_lay_26 : decode cX0_lay 26 = .ok (.ireturn, 1) := dk_172 (dk_at dksX0_lay_1 3 rfl rfl)
theorem dX0_lay_27 : decode cX0_lay 27 = .ok (.iconst 0, 1) := dk_3 (dk_at dksX0_lay_1 4 rfl rfl)
theorem dX0_lay_28 : decode cX0_lay 28 = .ok (.ireturn, 1) := dk_172 (dk_at dksX0_lay_1 5 rfl rfl)
abbrev cX0_takeSheet : ByteArray := method_30_code
def yX0_takeSheet : MethodName := ⟨RX0, "takeSheet", "(LPolicyNotation;I[J)I"⟩
def dkwX0_takeSheet_0 : List UInt8 := [44, 3, 42, 27, 182, 0, 108, 133, 80, 167, 0, 9, 78, 4, 172, 78, 5, 172, 3, 172]
abbrev dktX0_takeSheet_0 : List UInt8 := dkwX0_takeSheet_0 ++ []
theorem dksX0_takeSheet_0 : cX0_takeSheet.data.toList.drop 0 = dktX0_takeSheet_0 := by decide +kernel
theorem dX0_takeSheet_0 : decode cX0_takeSheet 0 = .ok (.aload_n 2, 1) := dk_44 (dk_at dksX0_takeSheet_0 0 rfl rfl)
theorem dX0_takeSheet_1 : decode cX0_takeSheet 1 = .ok (.iconst 0, 1) := dk_3 (dk_at dksX0_takeSheet_0 1 rfl rfl)
theorem dX0_takeSheet_2 : decode cX0_takeSheet 2 = .ok (.aload_n 0, 1) := dk_42 (dk_at dksX0_takeSheet_0 2 rfl rfl)
theorem dX0_takeSheet_3 : decode cX0_takeSheet 3 = .ok (.iload_n 1, 1) := dk_27 (dk_at dksX0_takeSheet_0 3 rfl rfl)
theorem dX0_takeSheet_4 : decode cX0_takeSheet 4 = .ok (.invokevirtual 108, 3) := dk_182 0 108 (dk_at dksX0_takeSheet_0 4 rfl rfl)
theorem dX0_takeSheet_7 : decode cX0_takeSheet 7 = .ok (.i2l, 1) := dk_133 (dk_at dksX0_takeSheet_0 7 rfl rfl)
theorem dX0_takeSheet_8 : decode cX0_takeSheet 8 = .ok (.lastore, 1) := dk_80 (dk_at dksX0_takeSheet_0 8 rfl rfl)
theorem dX0_takeSheet_9 : decode cX0_takeSheet 9 = .ok (.goto 9, 3) := dk_167 0 9 (dk_at dksX0_takeSheet_0 9 rfl rfl)
theorem dX0_takeSheet_12 : decode cX0_takeSheet 12 = .ok (.astore_n 3, 1) := dk_78 (dk_at dksX0_takeSheet_0 12 rfl rfl)
theorem dX0_takeSheet_13 : decode cX0_takeSheet 13 = .ok (.iconst 1, 1) := dk_4 (dk_at dksX0_takeSheet_0 13 rfl rfl)
theorem dX0_takeSheet_14 : decode cX0_takeSheet 14 = .ok (.ireturn, 1) := dk_172 (dk_at dksX0_takeSheet_0 14 rfl rfl)
theorem dX0_takeSheet_15 : decode cX0_takeSheet 15 = .ok (.astore_n 3, 1) := dk_78 (dk_at dksX0_takeSheet_0 15 rfl rfl)
theorem dX0_takeSheet_16 : decode cX0_takeSheet 16 = .ok (.iconst 2, 1) := dk_5 (dk_at dksX0_takeSheet_0 16 rfl rfl)
theorem dX0_takeSheet_17 : decode cX0_takeSheet 17 = .ok (.ireturn, 1) := dk_172 (dk_at dksX0_takeSheet_0 17 rfl rfl)
theorem dX0_takeSheet_18 : decode cX0_takeSheet 18 = .ok (.iconst 0, 1) := dk_3 (dk_at dksX0_takeSheet_0 18 rfl rfl)
theorem dX0_takeSheet_19 : decode cX0_takeSheet 19 = .ok (.ireturn, 1) := dk_172 (dk_at dksX0_takeSheet_0 19 rfl rfl)
abbrev cX0_keepRow : ByteArray := method_31_code
def yX0_keepRow : MethodName := ⟨RX0, "keepRow", "(LPolicyNotation;I[J)I"⟩
def dkwX0_keepRow_0 : List UInt8 := [44, 3, 42, 27, 182, 0, 111, 133, 80, 167, 0, 6, 78, 4, 172, 3, 172]
abbrev dktX0_keepRow_0 : List UInt8 := dkwX0_keepRow_0 ++ []
theorem dksX0_keepRow_0 : cX0_keepRow.data.toList.drop 0 = dktX0_keepRow_0 := by decide +kernel
theorem dX0_keepRow_0 : decode cX0_keepRow 0 = .ok (.aload_n 2, 1) := dk_44 (dk_at dksX0_keepRow_0 0 rfl rfl)
theorem dX0_keepRow_1 : decode cX0_keepRow 1 = .ok (.iconst 0, 1) := dk_3 (dk_at dksX0_keepRow_0 1 rfl rfl)
theorem dX0_keepRow_2 : decode cX0_keepRow 2 = .ok (.aload_n 0, 1) := dk_42 (dk_at dksX0_keepRow_0 2 rfl rfl)
theorem dX0_keepRow_3 : decode cX0_keepRow 3 = .ok (.iload_n 1, 1) := dk_27 (dk_at dksX0_keepRow_0 3 rfl rfl)
theorem dX0_keepRow_4 : decode cX0_keepRow 4 = .ok (.invokevirtual 111, 3) := dk_182 0 111 (dk_at dksX0_keepRow_0 4 rfl rfl)
theorem dX0_keepRow_7 : decode cX0_keepRow 7 = .ok (.i2l, 1) := dk_133 (dk_at dksX0_keepRow_0 7 rfl rfl)
theorem dX0_keepRow_8 : decode cX0_keepRow 8 = .ok (.lastore, 1) := dk_80 (dk_at dksX0_keepRow_0 8 rfl rfl)
theorem dX0_keepRow_9 : decode cX0_keepRow 9 = .ok (.goto 6, 3) := dk_167 0 6 (dk_at dksX0_keepRow_0 9 rfl rfl)
theorem dX0_keepRow_12 : decode cX0_keepRow 12 = .ok (.astore_n 3, 1) := dk_78 (dk_at dksX0_keepRow_0 12 rfl rfl)
theorem dX0_keepRow_13 : decode cX0_keepRow 13 = .ok (.iconst 1, 1) := dk_4 (dk_at dksX0_keepRow_0 13 rfl rfl)
theorem dX0_keepRow_14 : decode cX0_keepRow 14 = .ok (.ireturn, 1) := dk_172 (dk_at dksX0_keepRow_0 14 rfl rfl)
theorem dX0_keepRow_15 : decode cX0_keepRow 15 = .ok (.iconst 0, 1) := dk_3 (dk_at dksX0_keepRow_0 15 rfl rfl)
theorem dX0_keepRow_16 : decode cX0_keepRow 16 = .ok (.ireturn, 1) := dk_172 (dk_at dksX0_keepRow_0 16 rfl rfl)
abbrev cX0_copyRow : ByteArray := method_32_code
def yX0_copyRow : MethodName := ⟨RX0, "copyRow", "(LPolicyNotation;III[J)I"⟩
def dkwX0_copyRow_1 : List UInt8 := [58, 5, 6, 172, 3, 172]
abbrev dktX0_copyRow_1 : List UInt8 := dkwX0_copyRow_1 ++ []
def dkwX0_copyRow_0 : List UInt8 := [25, 4, 3, 42, 27, 28, 29, 182, 0, 114, 133, 80, 167, 0, 15, 58, 5, 4, 172, 58, 5, 5, 172]
abbrev dktX0_copyRow_0 : List UInt8 := dkwX0_copyRow_0 ++ dktX0_copyRow_1
theorem dksX0_copyRow_0 : cX0_copyRow.data.toList.drop 0 = dktX0_copyRow_0 := by decide +kernel
theorem dksX0_copyRow_1 : cX0_copyRow.data.toList.drop 23 = dktX0_copyRow_1 := dk_seg dksX0_copyRow_0 23 rfl rfl
theorem dX0_copyRow_0 : decode cX0_copyRow 0 = .ok (.aload 4, 2) := dk_25 4 (dk_at dksX0_copyRow_0 0 rfl rfl)
theorem dX0_copyRow_2 : decode cX0_copyRow 2 = .ok (.iconst 0, 1) := dk_3 (dk_at dksX0_copyRow_0 2 rfl rfl)
theorem dX0_copyRow_3 : decode cX0_copyRow 3 = .ok (.aload_n 0, 1) := dk_42 (dk_at dksX0_copyRow_0 3 rfl rfl)
theorem dX0_copyRow_4 : decode cX0_copyRow 4 = .ok (.iload_n 1, 1) := dk_27 (dk_at dksX0_copyRow_0 4 rfl rfl)
theorem dX0_copyRow_5 : decode cX0_copyRow 5 = .ok (.iload_n 2, 1) := dk_28 (dk_at dksX0_copyRow_0 5 rfl rfl)
theorem dX0_copyRow_6 : decode cX0_copyRow 6 = .ok (.iload_n 3, 1) := dk_29 (dk_at dksX0_copyRow_0 6 rfl rfl)
theorem dX0_copyRow_7 : decode cX0_copyRow 7 = .ok (.invokevirtual 114, 3) := dk_182 0 114 (dk_at dksX0_copyRow_0 7 rfl rfl)
theorem dX0_copyRow_10 : decode cX0_copyRow 10 = .ok (.i2l, 1) := dk_133 (dk_at dksX0_copyRow_0 10 rfl rfl)
theorem dX0_copyRow_11 : decode cX0_copyRow 11 = .ok (.lastore, 1) := dk_80 (dk_at dksX0_copyRow_0 11 rfl rfl)
theorem dX0_copyRow_12 : decode cX0_copyRow 12 = .ok (.goto 15, 3) := dk_167 0 15 (dk_at dksX0_copyRow_0 12 rfl rfl)
theorem dX0_copyRow_15 : decode cX0_copyRow 15 = .ok (.astore 5, 2) := dk_58 5 (dk_at dksX0_copyRow_0 15 rfl rfl)
theorem dX0_copyRow_17 : decode cX0_copyRow 17 = .ok (.iconst 1, 1) := dk_4 (dk_at dksX0_copyRow_0 17 rfl rfl)
theorem dX0_copyRow_18 : decode cX0_copyRow 18 = .ok (.ireturn, 1) := dk_172 (dk_at dksX0_copyRow_0 18 rfl rfl)
theorem dX0_copyRow_19 : decode cX0_copyRow 19 = .ok (.astore 5, 2) := dk_58 5 (dk_at dksX0_copyRow_0 19 rfl rfl)
theorem dX0_copyRow_21 : decode cX0_copyRow 21 = .ok (.iconst 2, 1) := dk_5 (dk_at dksX0_copyRow_0 21 rfl rfl)
theorem dX0_copyRow_22 : decode cX0_copyRow 22 = .ok (.ireturn, 1) := dk_172 (dk_at dksX0_copyRow_0 22 rfl rfl)
theorem dX0_copyRow_23 : decode cX0_copyRow 23 = .ok (.astore 5, 2) := dk_58 5 (dk_at dksX0_copyRow_1 0 rfl rfl)
theorem dX0_copyRow_25 : decode cX0_copyRow 25 = .ok (.iconst 3, 1) := dk_6 (dk_at dksX0_copyRow_1 2 rfl rfl)
theorem dX0_copyRow_26 : decode cX0_copyRow 26 = .ok (.ireturn, 1) := dk_172 (dk_at dksX0_copyRow_1 3 rfl rfl)
theorem dX0_copyRow_27 : decode cX0_copyRow 27 = .ok (.iconst 0, 1) := dk_3 (dk_at dksX0_copyRow_1 4 rfl rfl)
theorem dX0_copyRow_28 : decode cX0_copyRow 28 = .ok (.ireturn, 1) := dk_172 (dk_at dksX0_copyRow_1 5 rfl rfl)
abbrev cX0_element : ByteArray := method_33_code
def yX0_element : MethodName := ⟨RX0, "element", "(LPolicyNotation;II[J)I"⟩
def dkwX0_element_1 : List UInt8 := [172, 3, 172]
abbrev dktX0_element_1 : List UInt8 := dkwX0_element_1 ++ []
def dkwX0_element_0 : List UInt8 := [45, 3, 42, 27, 28, 182, 0, 117, 133, 80, 167, 0, 15, 58, 4, 4, 172, 58, 4, 5, 172, 58, 4, 6]
abbrev dktX0_element_0 : List UInt8 := dkwX0_element_0 ++ dktX0_element_1
theorem dksX0_element_0 : cX0_element.data.toList.drop 0 = dktX0_element_0 := by decide +kernel
theorem dksX0_element_1 : cX0_element.data.toList.drop 24 = dktX0_element_1 := dk_seg dksX0_element_0 24 rfl rfl
theorem dX0_element_0 : decode cX0_element 0 = .ok (.aload_n 3, 1) := dk_45 (dk_at dksX0_element_0 0 rfl rfl)
theorem dX0_element_1 : decode cX0_element 1 = .ok (.iconst 0, 1) := dk_3 (dk_at dksX0_element_0 1 rfl rfl)
theorem dX0_element_2 : decode cX0_element 2 = .ok (.aload_n 0, 1) := dk_42 (dk_at dksX0_element_0 2 rfl rfl)
theorem dX0_element_3 : decode cX0_element 3 = .ok (.iload_n 1, 1) := dk_27 (dk_at dksX0_element_0 3 rfl rfl)
theorem dX0_element_4 : decode cX0_element 4 = .ok (.iload_n 2, 1) := dk_28 (dk_at dksX0_element_0 4 rfl rfl)
theorem dX0_element_5 : decode cX0_element 5 = .ok (.invokevirtual 117, 3) := dk_182 0 117 (dk_at dksX0_element_0 5 rfl rfl)
theorem dX0_element_8 : decode cX0_element 8 = .ok (.i2l, 1) := dk_133 (dk_at dksX0_element_0 8 rfl rfl)
theorem dX0_element_9 : decode cX0_element 9 = .ok (.lastore, 1) := dk_80 (dk_at dksX0_element_0 9 rfl rfl)
theorem dX0_element_10 : decode cX0_element 10 = .ok (.goto 15, 3) := dk_167 0 15 (dk_at dksX0_element_0 10 rfl rfl)
theorem dX0_element_13 : decode cX0_element 13 = .ok (.astore 4, 2) := dk_58 4 (dk_at dksX0_element_0 13 rfl rfl)
theorem dX0_element_15 : decode cX0_element 15 = .ok (.iconst 1, 1) := dk_4 (dk_at dksX0_element_0 15 rfl rfl)
theorem dX0_element_16 : decode cX0_element 16 = .ok (.ireturn, 1) := dk_172 (dk_at dksX0_element_0 16 rfl rfl)
theorem dX0_element_17 : decode cX0_element 17 = .ok (.astore 4, 2) := dk_58 4 (dk_at dksX0_element_0 17 rfl rfl)
theorem dX0_element_19 : decode cX0_element 19 = .ok (.iconst 2, 1) := dk_5 (dk_at dksX0_element_0 19 rfl rfl)
theorem dX0_element_20 : decode cX0_element 20 = .ok (.ireturn, 1) := dk_172 (dk_at dksX0_element_0 20 rfl rfl)
theorem dX0_element_21 : decode cX0_element 21 = .ok (.astore 4, 2) := dk_58 4 (dk_at dksX0_element_0 21 rfl rfl)
theorem dX0_element_23 : decode cX0_element 23 = .ok (.iconst 3, 1) := dk_6 (dk_at dksX0_element_0 23 rfl rfl)
theorem dX0_element_24 : decode cX0_element 24 = .ok (.ireturn, 1) := dk_172 (dk_at dksX0_element_1 0 rfl rfl)
theorem dX0_element_25 : decode cX0_element 25 = .ok (.iconst 0, 1) := dk_3 (dk_at dksX0_element_1 1 rfl rfl)
theorem dX0_element_26 : decode cX0_element 26 = .ok (.ireturn, 1) := dk_172 (dk_at dksX0_element_1 2 rfl rfl)
abbrev cX0_total : ByteArray := method_34_code
def yX0_total : MethodName := ⟨RX0, "total", "(LPolicyNotation;I[D)I"⟩
def dkwX0_total_0 : List UInt8 := [44, 3, 42, 27, 182, 0, 120, 82, 167, 0, 9, 78, 4, 172, 78, 5, 172, 3, 172]
abbrev dktX0_total_0 : List UInt8 := dkwX0_total_0 ++ []
theorem dksX0_total_0 : cX0_total.data.toList.drop 0 = dktX0_total_0 := by decide +kernel
theorem dX0_total_0 : decode cX0_total 0 = .ok (.aload_n 2, 1) := dk_44 (dk_at dksX0_total_0 0 rfl rfl)
theorem dX0_total_1 : decode cX0_total 1 = .ok (.iconst 0, 1) := dk_3 (dk_at dksX0_total_0 1 rfl rfl)
theorem dX0_total_2 : decode cX0_total 2 = .ok (.aload_n 0, 1) := dk_42 (dk_at dksX0_total_0 2 rfl rfl)
theorem dX0_total_3 : decode cX0_total 3 = .ok (.iload_n 1, 1) := dk_27 (dk_at dksX0_total_0 3 rfl rfl)
theorem dX0_total_4 : decode cX0_total 4 = .ok (.invokevirtual 120, 3) := dk_182 0 120 (dk_at dksX0_total_0 4 rfl rfl)
theorem dX0_total_7 : decode cX0_total 7 = .ok (.dastore, 1) := dk_82 (dk_at dksX0_total_0 7 rfl rfl)
theorem dX0_total_8 : decode cX0_total 8 = .ok (.goto 9, 3) := dk_167 0 9 (dk_at dksX0_total_0 8 rfl rfl)
theorem dX0_total_11 : decode cX0_total 11 = .ok (.astore_n 3, 1) := dk_78 (dk_at dksX0_total_0 11 rfl rfl)
theorem dX0_total_12 : decode cX0_total 12 = .ok (.iconst 1, 1) := dk_4 (dk_at dksX0_total_0 12 rfl rfl)
theorem dX0_total_13 : decode cX0_total 13 = .ok (.ireturn, 1) := dk_172 (dk_at dksX0_total_0 13 rfl rfl)
theorem dX0_total_14 : decode cX0_total 14 = .ok (.astore_n 3, 1) := dk_78 (dk_at dksX0_total_0 14 rfl rfl)
theorem dX0_total_15 : decode cX0_total 15 = .ok (.iconst 2, 1) := dk_5 (dk_at dksX0_total_0 15 rfl rfl)
theorem dX0_total_16 : decode cX0_total 16 = .ok (.ireturn, 1) := dk_172 (dk_at dksX0_total_0 16 rfl rfl)
theorem dX0_total_17 : decode cX0_total 17 = .ok (.iconst 0, 1) := dk_3 (dk_at dksX0_total_0 17 rfl rfl)
theorem dX0_total_18 : decode cX0_total 18 = .ok (.ireturn, 1) := dk_172 (dk_at dksX0_total_0 18 rfl rfl)
abbrev cX0_append : ByteArray := method_35_code
def yX0_append : MethodName := ⟨RX0, "append", "(LPolicyNotation;C[J)I"⟩
def dkwX0_append_0 : List UInt8 := [44, 3, 42, 27, 182, 0, 124, 133, 80, 167, 0, 6, 78, 4, 172, 3, 172]
abbrev dktX0_append_0 : List UInt8 := dkwX0_append_0 ++ []
theorem dksX0_append_0 : cX0_append.data.toList.drop 0 = dktX0_append_0 := by decide +kernel
theorem dX0_append_0 : decode cX0_append 0 = .ok (.aload_n 2, 1) := dk_44 (dk_at dksX0_append_0 0 rfl rfl)
theorem dX0_append_1 : decode cX0_append 1 = .ok (.iconst 0, 1) := dk_3 (dk_at dksX0_append_0 1 rfl rfl)
theorem dX0_append_2 : decode cX0_append 2 = .ok (.aload_n 0, 1) := dk_42 (dk_at dksX0_append_0 2 rfl rfl)
theorem dX0_append_3 : decode cX0_append 3 = .ok (.iload_n 1, 1) := dk_27 (dk_at dksX0_append_0 3 rfl rfl)
theorem dX0_append_4 : decode cX0_append 4 = .ok (.invokevirtual 124, 3) := dk_182 0 124 (dk_at dksX0_append_0 4 rfl rfl)
theorem dX0_append_7 : decode cX0_append 7 = .ok (.i2l, 1) := dk_133 (dk_at dksX0_append_0 7 rfl rfl)
theorem dX0_append_8 : decode cX0_append 8 = .ok (.lastore, 1) := dk_80 (dk_at dksX0_append_0 8 rfl rfl)
theorem dX0_append_9 : decode cX0_append 9 = .ok (.goto 6, 3) := dk_167 0 6 (dk_at dksX0_append_0 9 rfl rfl)
theorem dX0_append_12 : decode cX0_append 12 = .ok (.astore_n 3, 1) := dk_78 (dk_at dksX0_append_0 12 rfl rfl)
theorem dX0_append_13 : decode cX0_append 13 = .ok (.iconst 1, 1) := dk_4 (dk_at dksX0_append_0 13 rfl rfl)
theorem dX0_append_14 : decode cX0_append 14 = .ok (.ireturn, 1) := dk_172 (dk_at dksX0_append_0 14 rfl rfl)
theorem dX0_append_15 : decode cX0_append 15 = .ok (.iconst 0, 1) := dk_3 (dk_at dksX0_append_0 15 rfl rfl)
theorem dX0_append_16 : decode cX0_append 16 = .ok (.ireturn, 1) := dk_172 (dk_at dksX0_append_0 16 rfl rfl)
abbrev cX0_read : ByteArray := method_36_code
def yX0_read : MethodName := ⟨RX0, "read", "(LPolicyNotation;[J)I"⟩
def dkwX0_read_0 : List UInt8 := [43, 3, 42, 182, 0, 128, 133, 80, 167, 0, 9, 77, 4, 172, 77, 5, 172, 3, 172]
abbrev dktX0_read_0 : List UInt8 := dkwX0_read_0 ++ []
theorem dksX0_read_0 : cX0_read.data.toList.drop 0 = dktX0_read_0 := by decide +kernel
theorem dX0_read_0 : decode cX0_read 0 = .ok (.aload_n 1, 1) := dk_43 (dk_at dksX0_read_0 0 rfl rfl)
theorem dX0_read_1 : decode cX0_read 1 = .ok (.iconst 0, 1) := dk_3 (dk_at dksX0_read_0 1 rfl rfl)
theorem dX0_read_2 : decode cX0_read 2 = .ok (.aload_n 0, 1) := dk_42 (dk_at dksX0_read_0 2 rfl rfl)
theorem dX0_read_3 : decode cX0_read 3 = .ok (.invokevirtual 128, 3) := dk_182 0 128 (dk_at dksX0_read_0 3 rfl rfl)
theorem dX0_read_6 : decode cX0_read 6 = .ok (.i2l, 1) := dk_133 (dk_at dksX0_read_0 6 rfl rfl)
theorem dX0_read_7 : decode cX0_read 7 = .ok (.lastore, 1) := dk_80 (dk_at dksX0_read_0 7 rfl rfl)
theorem dX0_read_8 : decode cX0_read 8 = .ok (.goto 9, 3) := dk_167 0 9 (dk_at dksX0_read_0 8 rfl rfl)
theorem dX0_read_11 : decode cX0_read 11 = .ok (.astore_n 2, 1) := dk_77 (dk_at dksX0_read_0 11 rfl rfl)
theorem dX0_read_12 : decode cX0_read 12 = .ok (.iconst 1, 1) := dk_4 (dk_at dksX0_read_0 12 rfl rfl)
theorem dX0_read_13 : decode cX0_read 13 = .ok (.ireturn, 1) := dk_172 (dk_at dksX0_read_0 13 rfl rfl)
theorem dX0_read_14 : decode cX0_read 14 = .ok (.astore_n 2, 1) := dk_77 (dk_at dksX0_read_0 14 rfl rfl)
theorem dX0_read_15 : decode cX0_read 15 = .ok (.iconst 2, 1) := dk_5 (dk_at dksX0_read_0 15 rfl rfl)
theorem dX0_read_16 : decode cX0_read 16 = .ok (.ireturn, 1) := dk_172 (dk_at dksX0_read_0 16 rfl rfl)
theorem dX0_read_17 : decode cX0_read 17 = .ok (.iconst 0, 1) := dk_3 (dk_at dksX0_read_0 17 rfl rfl)
theorem dX0_read_18 : decode cX0_read 18 = .ok (.ireturn, 1) := dk_172 (dk_at dksX0_read_0 18 rfl rfl)
abbrev cX0_faultPosition : ByteArray := method_37_code
def yX0_faultPosition : MethodName := ⟨RX0, "faultPosition", "(LPolicyNotation;[J)I"⟩
def dkwX0_faultPosition_0 : List UInt8 := [43, 3, 42, 182, 0, 132, 133, 80, 167, 0, 6, 77, 4, 172, 3, 172]
abbrev dktX0_faultPosition_0 : List UInt8 := dkwX0_faultPosition_0 ++ []
theorem dksX0_faultPosition_0 : cX0_faultPosition.data.toList.drop 0 = dktX0_faultPosition_0 := by decide +kernel
theorem dX0_faultPosition_0 : decode cX0_faultPosition 0 = .ok (.aload_n 1, 1) := dk_43 (dk_at dksX0_faultPosition_0 0 rfl rfl)
theorem dX0_faultPosition_1 : decode cX0_faultPosition 1 = .ok (.iconst 0, 1) := dk_3 (dk_at dksX0_faultPosition_0 1 rfl rfl)
theorem dX0_faultPosition_2 : decode cX0_faultPosition 2 = .ok (.aload_n 0, 1) := dk_42 (dk_at dksX0_faultPosition_0 2 rfl rfl)
theorem dX0_faultPosition_3 : decode cX0_faultPosition 3 = .ok (.invokevirtual 132, 3) := dk_182 0 132 (dk_at dksX0_faultPosition_0 3 rfl rfl)
theorem dX0_faultPosition_6 : decode cX0_faultPosition 6 = .ok (.i2l, 1) := dk_133 (dk_at dksX0_faultPosition_0 6 rfl rfl)
theorem dX0_faultPosition_7 : decode cX0_faultPosition 7 = .ok (.lastore, 1) := dk_80 (dk_at dksX0_faultPosition_0 7 rfl rfl)
theorem dX0_faultPosition_8 : decode cX0_faultPosition 8 = .ok (.goto 6, 3) := dk_167 0 6 (dk_at dksX0_faultPosition_0 8 rfl rfl)
theorem dX0_faultPosition_11 : decode cX0_faultPosition 11 = .ok (.astore_n 2, 1) := dk_77 (dk_at dksX0_faultPosition_0 11 rfl rfl)
theorem dX0_faultPosition_12 : decode cX0_faultPosition 12 = .ok (.iconst 1, 1) := dk_4 (dk_at dksX0_faultPosition_0 12 rfl rfl)
theorem dX0_faultPosition_13 : decode cX0_faultPosition 13 = .ok (.ireturn, 1) := dk_172 (dk_at dksX0_faultPosition_0 13 rfl rfl)
theorem dX0_faultPosition_14 : decode cX0_faultPosition 14 = .ok (.iconst 0, 1) := dk_3 (dk_at dksX0_faultPosition_0 14 rfl rfl)
theorem dX0_faultPosition_15 : decode cX0_faultPosition 15 = .ok (.ireturn, 1) := dk_172 (dk_at dksX0_faultPosition_0 15 rfl rfl)
abbrev cX0_explain : ByteArray := method_38_code
def yX0_explain : MethodName := ⟨RX0, "explain", "(LPolicyNotation;III[J)I"⟩
def dkwX0_explain_1 : List UInt8 := [172]
abbrev dktX0_explain_1 : List UInt8 := dkwX0_explain_1 ++ []
def dkwX0_explain_0 : List UInt8 := [25, 4, 3, 42, 27, 28, 29, 182, 0, 135, 133, 80, 167, 0, 11, 58, 5, 4, 172, 58, 5, 5, 172, 3]
abbrev dktX0_explain_0 : List UInt8 := dkwX0_explain_0 ++ dktX0_explain_1
theorem dksX0_explain_0 : cX0_explain.data.toList.drop 0 = dktX0_explain_0 := by decide +kernel
theorem dksX0_explain_1 : cX0_explain.data.toList.drop 24 = dktX0_explain_1 := dk_seg dksX0_explain_0 24 rfl rfl
theorem dX0_explain_0 : decode cX0_explain 0 = .ok (.aload 4, 2) := dk_25 4 (dk_at dksX0_explain_0 0 rfl rfl)
theorem dX0_explain_2 : decode cX0_explain 2 = .ok (.iconst 0, 1) := dk_3 (dk_at dksX0_explain_0 2 rfl rfl)
theorem dX0_explain_3 : decode cX0_explain 3 = .ok (.aload_n 0, 1) := dk_42 (dk_at dksX0_explain_0 3 rfl rfl)
theorem dX0_explain_4 : decode cX0_explain 4 = .ok (.iload_n 1, 1) := dk_27 (dk_at dksX0_explain_0 4 rfl rfl)
theorem dX0_explain_5 : decode cX0_explain 5 = .ok (.iload_n 2, 1) := dk_28 (dk_at dksX0_explain_0 5 rfl rfl)
theorem dX0_explain_6 : decode cX0_explain 6 = .ok (.iload_n 3, 1) := dk_29 (dk_at dksX0_explain_0 6 rfl rfl)
theorem dX0_explain_7 : decode cX0_explain 7 = .ok (.invokevirtual 135, 3) := dk_182 0 135 (dk_at dksX0_explain_0 7 rfl rfl)
theorem dX0_explain_10 : decode cX0_explain 10 = .ok (.i2l, 1) := dk_133 (dk_at dksX0_explain_0 10 rfl rfl)
theorem dX0_explain_11 : decode cX0_explain 11 = .ok (.lastore, 1) := dk_80 (dk_at dksX0_explain_0 11 rfl rfl)
theorem dX0_explain_12 : decode cX0_explain 12 = .ok (.goto 11, 3) := dk_167 0 11 (dk_at dksX0_explain_0 12 rfl rfl)
theorem dX0_explain_15 : decode cX0_explain 15 = .ok (.astore 5, 2) := dk_58 5 (dk_at dksX0_explain_0 15 rfl rfl)
theorem dX0_explain_17 : decode cX0_explain 17 = .ok (.iconst 1, 1) := dk_4 (dk_at dksX0_explain_0 17 rfl rfl)
theorem dX0_explain_18 : decode cX0_explain 18 = .ok (.ireturn, 1) := dk_172 (dk_at dksX0_explain_0 18 rfl rfl)
theorem dX0_explain_19 : decode cX0_explain 19 = .ok (.astore 5, 2) := dk_58 5 (dk_at dksX0_explain_0 19 rfl rfl)
theorem dX0_explain_21 : decode cX0_explain 21 = .ok (.iconst 2, 1) := dk_5 (dk_at dksX0_explain_0 21 rfl rfl)
theorem dX0_explain_22 : decode cX0_explain 22 = .ok (.ireturn, 1) := dk_172 (dk_at dksX0_explain_0 22 rfl rfl)
theorem dX0_explain_23 : decode cX0_explain 23 = .ok (.iconst 0, 1) := dk_3 (dk_at dksX0_explain_0 23 rfl rfl)
theorem dX0_explain_24 : decode cX0_explain 24 = .ok (.ireturn, 1) := dk_172 (dk_at dksX0_explain_1 0 rfl rfl)
abbrev cX0_character : ByteArray := method_39_code
def yX0_character : MethodName := ⟨RX0, "character", "(LPolicyNotation;I[J)I"⟩
def dkwX0_character_0 : List UInt8 := [44, 3, 42, 27, 182, 0, 138, 133, 80, 167, 0, 6, 78, 4, 172, 3, 172]
abbrev dktX0_character_0 : List UInt8 := dkwX0_character_0 ++ []
theorem dksX0_character_0 : cX0_character.data.toList.drop 0 = dktX0_character_0 := by decide +kernel
theorem dX0_character_0 : decode cX0_character 0 = .ok (.aload_n 2, 1) := dk_44 (dk_at dksX0_character_0 0 rfl rfl)
theorem dX0_character_1 : decode cX0_character 1 = .ok (.iconst 0, 1) := dk_3 (dk_at dksX0_character_0 1 rfl rfl)
theorem dX0_character_2 : decode cX0_character 2 = .ok (.aload_n 0, 1) := dk_42 (dk_at dksX0_character_0 2 rfl rfl)
theorem dX0_character_3 : decode cX0_character 3 = .ok (.iload_n 1, 1) := dk_27 (dk_at dksX0_character_0 3 rfl rfl)
theorem dX0_character_4 : decode cX0_character 4 = .ok (.invokevirtual 138, 3) := dk_182 0 138 (dk_at dksX0_character_0 4 rfl rfl)
theorem dX0_character_7 : decode cX0_character 7 = .ok (.i2l, 1) := dk_133 (dk_at dksX0_character_0 7 rfl rfl)
theorem dX0_character_8 : decode cX0_character 8 = .ok (.lastore, 1) := dk_80 (dk_at dksX0_character_0 8 rfl rfl)
theorem dX0_character_9 : decode cX0_character 9 = .ok (.goto 6, 3) := dk_167 0 6 (dk_at dksX0_character_0 9 rfl rfl)
theorem dX0_character_12 : decode cX0_character 12 = .ok (.astore_n 3, 1) := dk_78 (dk_at dksX0_character_0 12 rfl rfl)
theorem dX0_character_13 : decode cX0_character 13 = .ok (.iconst 1, 1) := dk_4 (dk_at dksX0_character_0 13 rfl rfl)
theorem dX0_character_14 : decode cX0_character 14 = .ok (.ireturn, 1) := dk_172 (dk_at dksX0_character_0 14 rfl rfl)
theorem dX0_character_15 : decode cX0_character 15 = .ok (.iconst 0, 1) := dk_3 (dk_at dksX0_character_0 15 rfl rfl)
theorem dX0_character_16 : decode cX0_character 16 = .ok (.ireturn, 1) := dk_172 (dk_at dksX0_character_0 16 rfl rfl)
abbrev cX0_reason : ByteArray := method_40_code
def yX0_reason : MethodName := ⟨RX0, "reason", "(LPolicyNotation;Z[J)I"⟩
def dkwX0_reason_0 : List UInt8 := [44, 3, 42, 27, 182, 0, 142, 133, 80, 167, 0, 6, 78, 4, 172, 3, 172]
abbrev dktX0_reason_0 : List UInt8 := dkwX0_reason_0 ++ []
theorem dksX0_reason_0 : cX0_reason.data.toList.drop 0 = dktX0_reason_0 := by decide +kernel
theorem dX0_reason_0 : decode cX0_reason 0 = .ok (.aload_n 2, 1) := dk_44 (dk_at dksX0_reason_0 0 rfl rfl)
theorem dX0_reason_1 : decode cX0_reason 1 = .ok (.iconst 0, 1) := dk_3 (dk_at dksX0_reason_0 1 rfl rfl)
theorem dX0_reason_2 : decode cX0_reason 2 = .ok (.aload_n 0, 1) := dk_42 (dk_at dksX0_reason_0 2 rfl rfl)
theorem dX0_reason_3 : decode cX0_reason 3 = .ok (.iload_n 1, 1) := dk_27 (dk_at dksX0_reason_0 3 rfl rfl)
theorem dX0_reason_4 : decode cX0_reason 4 = .ok (.invokevirtual 142, 3) := dk_182 0 142 (dk_at dksX0_reason_0 4 rfl rfl)
theorem dX0_reason_7 : decode cX0_reason 7 = .ok (.i2l, 1) := dk_133 (dk_at dksX0_reason_0 7 rfl rfl)
theorem dX0_reason_8 : decode cX0_reason 8 = .ok (.lastore, 1) := dk_80 (dk_at dksX0_reason_0 8 rfl rfl)
theorem dX0_reason_9 : decode cX0_reason 9 = .ok (.goto 6, 3) := dk_167 0 6 (dk_at dksX0_reason_0 9 rfl rfl)
theorem dX0_reason_12 : decode cX0_reason 12 = .ok (.astore_n 3, 1) := dk_78 (dk_at dksX0_reason_0 12 rfl rfl)
theorem dX0_reason_13 : decode cX0_reason 13 = .ok (.iconst 1, 1) := dk_4 (dk_at dksX0_reason_0 13 rfl rfl)
theorem dX0_reason_14 : decode cX0_reason 14 = .ok (.ireturn, 1) := dk_172 (dk_at dksX0_reason_0 14 rfl rfl)
theorem dX0_reason_15 : decode cX0_reason 15 = .ok (.iconst 0, 1) := dk_3 (dk_at dksX0_reason_0 15 rfl rfl)
theorem dX0_reason_16 : decode cX0_reason 16 = .ok (.ireturn, 1) := dk_172 (dk_at dksX0_reason_0 16 rfl rfl)
abbrev cX0_account : ByteArray := method_41_code
def yX0_account : MethodName := ⟨RX0, "account", "(LPolicyNotation;I[J)I"⟩
def dkwX0_account_0 : List UInt8 := [44, 3, 42, 27, 182, 0, 146, 133, 80, 167, 0, 6, 78, 4, 172, 3, 172]
abbrev dktX0_account_0 : List UInt8 := dkwX0_account_0 ++ []
theorem dksX0_account_0 : cX0_account.data.toList.drop 0 = dktX0_account_0 := by decide +kernel
theorem dX0_account_0 : decode cX0_account 0 = .ok (.aload_n 2, 1) := dk_44 (dk_at dksX0_account_0 0 rfl rfl)
theorem dX0_account_1 : decode cX0_account 1 = .ok (.iconst 0, 1) := dk_3 (dk_at dksX0_account_0 1 rfl rfl)
theorem dX0_account_2 : decode cX0_account 2 = .ok (.aload_n 0, 1) := dk_42 (dk_at dksX0_account_0 2 rfl rfl)
theorem dX0_account_3 : decode cX0_account 3 = .ok (.iload_n 1, 1) := dk_27 (dk_at dksX0_account_0 3 rfl rfl)
theorem dX0_account_4 : decode cX0_account 4 = .ok (.invokevirtual 146, 3) := dk_182 0 146 (dk_at dksX0_account_0 4 rfl rfl)
theorem dX0_account_7 : decode cX0_account 7 = .ok (.i2l, 1) := dk_133 (dk_at dksX0_account_0 7 rfl rfl)
theorem dX0_account_8 : decode cX0_account 8 = .ok (.lastore, 1) := dk_80 (dk_at dksX0_account_0 8 rfl rfl)
theorem dX0_account_9 : decode cX0_account 9 = .ok (.goto 6, 3) := dk_167 0 6 (dk_at dksX0_account_0 9 rfl rfl)
theorem dX0_account_12 : decode cX0_account 12 = .ok (.astore_n 3, 1) := dk_78 (dk_at dksX0_account_0 12 rfl rfl)
theorem dX0_account_13 : decode cX0_account 13 = .ok (.iconst 1, 1) := dk_4 (dk_at dksX0_account_0 13 rfl rfl)
theorem dX0_account_14 : decode cX0_account 14 = .ok (.ireturn, 1) := dk_172 (dk_at dksX0_account_0 14 rfl rfl)
theorem dX0_account_15 : decode cX0_account 15 = .ok (.iconst 0, 1) := dk_3 (dk_at dksX0_account_0 15 rfl rfl)
theorem dX0_account_16 : decode cX0_account 16 = .ok (.ireturn, 1) := dk_172 (dk_at dksX0_account_0 16 rfl rfl)
abbrev cX0_undo : ByteArray := method_42_code
def yX0_undo : MethodName := ⟨RX0, "undo", "(LPolicyNotation;[J)I"⟩
def dkwX0_undo_0 : List UInt8 := [43, 3, 42, 182, 0, 149, 133, 80, 167, 0, 6, 77, 4, 172, 3, 172]
abbrev dktX0_undo_0 : List UInt8 := dkwX0_undo_0 ++ []
theorem dksX0_undo_0 : cX0_undo.data.toList.drop 0 = dktX0_undo_0 := by decide +kernel
theorem dX0_undo_0 : decode cX0_undo 0 = .ok (.aload_n 1, 1) := dk_43 (dk_at dksX0_undo_0 0 rfl rfl)
theorem dX0_undo_1 : decode cX0_undo 1 = .ok (.iconst 0, 1) := dk_3 (dk_at dksX0_undo_0 1 rfl rfl)
theorem dX0_undo_2 : decode cX0_undo 2 = .ok (.aload_n 0, 1) := dk_42 (dk_at dksX0_undo_0 2 rfl rfl)
theorem dX0_undo_3 : decode cX0_undo 3 = .ok (.invokevirtual 149, 3) := dk_182 0 149 (dk_at dksX0_undo_0 3 rfl rfl)
theorem dX0_undo_6 : decode cX0_undo 6 = .ok (.i2l, 1) := dk_133 (dk_at dksX0_undo_0 6 rfl rfl)
theorem dX0_undo_7 : decode cX0_undo 7 = .ok (.lastore, 1) := dk_80 (dk_at dksX0_undo_0 7 rfl rfl)
theorem dX0_undo_8 : decode cX0_undo 8 = .ok (.goto 6, 3) := dk_167 0 6 (dk_at dksX0_undo_0 8 rfl rfl)
theorem dX0_undo_11 : decode cX0_undo 11 = .ok (.astore_n 2, 1) := dk_77 (dk_at dksX0_undo_0 11 rfl rfl)
theorem dX0_undo_12 : decode cX0_undo 12 = .ok (.iconst 1, 1) := dk_4 (dk_at dksX0_undo_0 12 rfl rfl)
theorem dX0_undo_13 : decode cX0_undo 13 = .ok (.ireturn, 1) := dk_172 (dk_at dksX0_undo_0 13 rfl rfl)
theorem dX0_undo_14 : decode cX0_undo 14 = .ok (.iconst 0, 1) := dk_3 (dk_at dksX0_undo_0 14 rfl rfl)
theorem dX0_undo_15 : decode cX0_undo 15 = .ok (.ireturn, 1) := dk_172 (dk_at dksX0_undo_0 15 rfl rfl)
abbrev cX0_restore : ByteArray := method_43_code
def yX0_restore : MethodName := ⟨RX0, "restore", "(LPolicyNotation;[J)I"⟩
def dkwX0_restore_0 : List UInt8 := [43, 3, 42, 182, 0, 152, 133, 80, 167, 0, 6, 77, 4, 172, 3, 172]
abbrev dktX0_restore_0 : List UInt8 := dkwX0_restore_0 ++ []
theorem dksX0_restore_0 : cX0_restore.data.toList.drop 0 = dktX0_restore_0 := by decide +kernel
theorem dX0_restore_0 : decode cX0_restore 0 = .ok (.aload_n 1, 1) := dk_43 (dk_at dksX0_restore_0 0 rfl rfl)
theorem dX0_restore_1 : decode cX0_restore 1 = .ok (.iconst 0, 1) := dk_3 (dk_at dksX0_restore_0 1 rfl rfl)
theorem dX0_restore_2 : decode cX0_restore 2 = .ok (.aload_n 0, 1) := dk_42 (dk_at dksX0_restore_0 2 rfl rfl)
theorem dX0_restore_3 : decode cX0_restore 3 = .ok (.invokevirtual 152, 3) := dk_182 0 152 (dk_at dksX0_restore_0 3 rfl rfl)
theorem dX0_restore_6 : decode cX0_restore 6 = .ok (.i2l, 1) := dk_133 (dk_at dksX0_restore_0 6 rfl rfl)
theorem dX0_restore_7 : decode cX0_restore 7 = .ok (.lastore, 1) := dk_80 (dk_at dksX0_restore_0 7 rfl rfl)
theorem dX0_restore_8 : decode cX0_restore 8 = .ok (.goto 6, 3) := dk_167 0 6 (dk_at dksX0_restore_0 8 rfl rfl)
theorem dX0_restore_11 : decode cX0_restore 11 = .ok (.astore_n 2, 1) := dk_77 (dk_at dksX0_restore_0 11 rfl rfl)
theorem dX0_restore_12 : decode cX0_restore 12 = .ok (.iconst 1, 1) := dk_4 (dk_at dksX0_restore_0 12 rfl rfl)
theorem dX0_restore_13 : decode cX0_restore 13 = .ok (.ireturn, 1) := dk_172 (dk_at dksX0_restore_0 13 rfl rfl)
theorem dX0_restore_14 : decode cX0_restore 14 = .ok (.iconst 0, 1) := dk_3 (dk_at dksX0_restore_0 14 rfl rfl)
theorem dX0_restore_15 : decode cX0_restore 15 = .ok (.ireturn, 1) := dk_172 (dk_at dksX0_restore_0 15 rfl rfl)
theorem q91 : (Jvm.Cond.initialized "PolicyNotationLaw") ∈ lw_all := lw_g (lw_at lw_m1 0 rfl) rfl
theorem q143 : (Jvm.Cond.classLink "PolicyNotationLaw" (8 : Nat) "PolicyNotation") ∈ lw_all := lw_g (lw_at lw_m1 52 rfl) rfl
theorem q145 : (Jvm.Cond.methodLink "PolicyNotationLaw" (155 : Nat) ({ cls := "PolicyNotation", name := "<init>", desc := "()V" } : Jvm.MethodName)) ∈ lw_all := lw_g (lw_at lw_m1 54 rfl) rfl
theorem q697 : (Jvm.Cond.methodLink "PolicyNotationLaw" (242 : Nat) ({ cls := "PolicyNotation", name := "wrong", desc := "()I" } : Jvm.MethodName)) ∈ lw_all := lw_g (lw_at lw_m3 126 rfl) rfl
theorem q861 : (Jvm.Cond.methodLink "PolicyNotationLaw" (246 : Nat) ({ cls := "PolicyNotation", name := "tested", desc := "()I" } : Jvm.MethodName)) ∈ lw_all := lw_g (lw_at lw_m4 50 rfl) rfl
theorem q898 : (Jvm.Cond.methodLink "PolicyNotationLaw" (302 : Nat) ({ cls := "PolicyNotation", name := "save", desc := "()I" } : Jvm.MethodName)) ∈ lw_all := lw_g (lw_at lw_m4 87 rfl) rfl
theorem q1029 : (Jvm.Cond.methodLink "PolicyNotationLaw" (159 : Nat) ({ cls := "PolicyNotationLaw", name := "scope", desc := "(LPolicyNotation;I[J)I" } : Jvm.MethodName)) ∈ lw_all := lw_g (lw_at lw_m4 218 rfl) rfl
theorem q1030 : (Jvm.Cond.static ({ cls := "PolicyNotationLaw", name := "scope", desc := "(LPolicyNotation;I[J)I" } : Jvm.MethodName)) ∈ lw_all := lw_g (lw_at lw_m4 219 rfl) rfl
theorem q1031 : (Jvm.Cond.codeWith ({ cls := "PolicyNotationLaw", name := "scope", desc := "(LPolicyNotation;I[J)I" } : Jvm.MethodName) method_3_code (4 : Nat) (Option.some Jvm.ClassFile.FieldType.int) [((0 : Nat), (9 : Nat), (12 : Nat), (13 : Nat)), ((0 : Nat), (9 : Nat), (15 : Nat), (15 : Nat))]) ∈ lw_all := lw_g (lw_at lw_m4 220 rfl) rfl
theorem q1032 : (Jvm.Cond.classLink "PolicyNotationLaw" (13 : Nat) "java/lang/IndexOutOfBoundsException") ∈ lw_all := lw_g (lw_at lw_m4 221 rfl) rfl
theorem q1051 : (Jvm.Cond.classLink "PolicyNotationLaw" (15 : Nat) "java/lang/IllegalStateException") ∈ lw_all := lw_g (lw_at lw_m5 0 rfl) rfl
theorem q1052 : (Jvm.Cond.methodLink "PolicyNotationLaw" (7 : Nat) ({ cls := "PolicyNotation", name := "scope", desc := "(I)I" } : Jvm.MethodName)) ∈ lw_all := lw_g (lw_at lw_m5 1 rfl) rfl
theorem q1172 : (Jvm.Cond.methodLink "PolicyNotationLaw" (168 : Nat) ({ cls := "PolicyNotationLaw", name := "setDefault", desc := "(LPolicyNotation;II[J)I" } : Jvm.MethodName)) ∈ lw_all := lw_g (lw_at lw_m5 121 rfl) rfl
theorem q1173 : (Jvm.Cond.static ({ cls := "PolicyNotationLaw", name := "setDefault", desc := "(LPolicyNotation;II[J)I" } : Jvm.MethodName)) ∈ lw_all := lw_g (lw_at lw_m5 122 rfl) rfl
theorem q1174 : (Jvm.Cond.codeWith ({ cls := "PolicyNotationLaw", name := "setDefault", desc := "(LPolicyNotation;II[J)I" } : Jvm.MethodName) method_4_code (5 : Nat) (Option.some Jvm.ClassFile.FieldType.int) [((0 : Nat), (10 : Nat), (13 : Nat), (13 : Nat)), ((0 : Nat), (10 : Nat), (17 : Nat), (21 : Nat))]) ∈ lw_all := lw_g (lw_at lw_m5 123 rfl) rfl
theorem q1175 : (Jvm.Cond.classLink "PolicyNotationLaw" (21 : Nat) "java/lang/IllegalArgumentException") ∈ lw_all := lw_g (lw_at lw_m5 124 rfl) rfl
theorem q1176 : (Jvm.Cond.methodLink "PolicyNotationLaw" (17 : Nat) ({ cls := "PolicyNotation", name := "setDefault", desc := "(II)I" } : Jvm.MethodName)) ∈ lw_all := lw_g (lw_at lw_m5 125 rfl) rfl
theorem q1215 : (Jvm.Cond.methodLink "PolicyNotationLaw" (172 : Nat) ({ cls := "PolicyNotationLaw", name := "scopeOf", desc := "(LPolicyNotation;II[J)I" } : Jvm.MethodName)) ∈ lw_all := lw_g (lw_at lw_m5 164 rfl) rfl
theorem q1216 : (Jvm.Cond.static ({ cls := "PolicyNotationLaw", name := "scopeOf", desc := "(LPolicyNotation;II[J)I" } : Jvm.MethodName)) ∈ lw_all := lw_g (lw_at lw_m5 165 rfl) rfl
theorem q1217 : (Jvm.Cond.codeWith ({ cls := "PolicyNotationLaw", name := "scopeOf", desc := "(LPolicyNotation;II[J)I" } : Jvm.MethodName) method_5_code (5 : Nat) (Option.some Jvm.ClassFile.FieldType.int) [((0 : Nat), (10 : Nat), (13 : Nat), (13 : Nat)), ((0 : Nat), (10 : Nat), (17 : Nat), (21 : Nat))]) ∈ lw_all := lw_g (lw_at lw_m5 166 rfl) rfl
theorem q1218 : (Jvm.Cond.methodLink "PolicyNotationLaw" (23 : Nat) ({ cls := "PolicyNotation", name := "scopeOf", desc := "(II)I" } : Jvm.MethodName)) ∈ lw_all := lw_g (lw_at lw_m5 167 rfl) rfl
theorem q1244 : (Jvm.Cond.methodLink "PolicyNotationLaw" (175 : Nat) ({ cls := "PolicyNotationLaw", name := "isWithin", desc := "(LPolicyNotation;II[J)I" } : Jvm.MethodName)) ∈ lw_all := lw_g (lw_at lw_m5 193 rfl) rfl
theorem q1245 : (Jvm.Cond.static ({ cls := "PolicyNotationLaw", name := "isWithin", desc := "(LPolicyNotation;II[J)I" } : Jvm.MethodName)) ∈ lw_all := lw_g (lw_at lw_m5 194 rfl) rfl
theorem q1246 : (Jvm.Cond.codeWith ({ cls := "PolicyNotationLaw", name := "isWithin", desc := "(LPolicyNotation;II[J)I" } : Jvm.MethodName) method_6_code (5 : Nat) (Option.some Jvm.ClassFile.FieldType.int) [((0 : Nat), (17 : Nat), (20 : Nat), (13 : Nat))]) ∈ lw_all := lw_g (lw_at lw_m5 195 rfl) rfl
theorem q1247 : (Jvm.Cond.methodLink "PolicyNotationLaw" (26 : Nat) ({ cls := "PolicyNotation", name := "isWithin", desc := "(II)Z" } : Jvm.MethodName)) ∈ lw_all := lw_g (lw_at lw_m5 196 rfl) rfl
theorem q1254 : (Jvm.Cond.methodLink "PolicyNotationLaw" (178 : Nat) ({ cls := "PolicyNotationLaw", name := "rule", desc := "(LPolicyNotation;IIIII[J)I" } : Jvm.MethodName)) ∈ lw_all := lw_g (lw_at lw_m5 203 rfl) rfl
theorem q1255 : (Jvm.Cond.static ({ cls := "PolicyNotationLaw", name := "rule", desc := "(LPolicyNotation;IIIII[J)I" } : Jvm.MethodName)) ∈ lw_all := lw_g (lw_at lw_m5 204 rfl) rfl
theorem q1256 : (Jvm.Cond.codeWith ({ cls := "PolicyNotationLaw", name := "rule", desc := "(LPolicyNotation;IIIII[J)I" } : Jvm.MethodName) method_7_code (8 : Nat) (Option.some Jvm.ClassFile.FieldType.int) [((0 : Nat), (16 : Nat), (19 : Nat), (13 : Nat)), ((0 : Nat), (16 : Nat), (23 : Nat), (21 : Nat)), ((0 : Nat), (16 : Nat), (27 : Nat), (34 : Nat))]) ∈ lw_all := lw_g (lw_at lw_m5 205 rfl) rfl
theorem q1257 : (Jvm.Cond.classLink "PolicyNotationLaw" (34 : Nat) "java/lang/UnsupportedOperationException") ∈ lw_all := lw_g (lw_at lw_m5 206 rfl) rfl
theorem q1258 : (Jvm.Cond.methodLink "PolicyNotationLaw" (30 : Nat) ({ cls := "PolicyNotation", name := "rule", desc := "(IIIII)I" } : Jvm.MethodName)) ∈ lw_all := lw_g (lw_at lw_m5 207 rfl) rfl
theorem q1331 : (Jvm.Cond.methodLink "PolicyNotationLaw" (182 : Nat) ({ cls := "PolicyNotationLaw", name := "except", desc := "(LPolicyNotation;IIIII[J)I" } : Jvm.MethodName)) ∈ lw_all := lw_g (lw_at lw_m6 40 rfl) rfl
theorem q1332 : (Jvm.Cond.static ({ cls := "PolicyNotationLaw", name := "except", desc := "(LPolicyNotation;IIIII[J)I" } : Jvm.MethodName)) ∈ lw_all := lw_g (lw_at lw_m6 41 rfl) rfl
theorem q1333 : (Jvm.Cond.codeWith ({ cls := "PolicyNotationLaw", name := "except", desc := "(LPolicyNotation;IIIII[J)I" } : Jvm.MethodName) method_8_code (8 : Nat) (Option.some Jvm.ClassFile.FieldType.int) [((0 : Nat), (16 : Nat), (19 : Nat), (13 : Nat)), ((0 : Nat), (16 : Nat), (23 : Nat), (21 : Nat)), ((0 : Nat), (16 : Nat), (27 : Nat), (34 : Nat))]) ∈ lw_all := lw_g (lw_at lw_m6 42 rfl) rfl
theorem q1334 : (Jvm.Cond.methodLink "PolicyNotationLaw" (36 : Nat) ({ cls := "PolicyNotation", name := "except", desc := "(IIIII)I" } : Jvm.MethodName)) ∈ lw_all := lw_g (lw_at lw_m6 43 rfl) rfl
theorem q1365 : (Jvm.Cond.methodLink "PolicyNotationLaw" (185 : Nat) ({ cls := "PolicyNotationLaw", name := "test", desc := "(LPolicyNotation;IIII[J)I" } : Jvm.MethodName)) ∈ lw_all := lw_g (lw_at lw_m6 74 rfl) rfl
theorem q1366 : (Jvm.Cond.static ({ cls := "PolicyNotationLaw", name := "test", desc := "(LPolicyNotation;IIII[J)I" } : Jvm.MethodName)) ∈ lw_all := lw_g (lw_at lw_m6 75 rfl) rfl
theorem q1367 : (Jvm.Cond.codeWith ({ cls := "PolicyNotationLaw", name := "test", desc := "(LPolicyNotation;IIII[J)I" } : Jvm.MethodName) method_9_code (7 : Nat) (Option.some Jvm.ClassFile.FieldType.int) [((0 : Nat), (14 : Nat), (17 : Nat), (13 : Nat)), ((0 : Nat), (14 : Nat), (21 : Nat), (21 : Nat)), ((0 : Nat), (14 : Nat), (25 : Nat), (34 : Nat))]) ∈ lw_all := lw_g (lw_at lw_m6 76 rfl) rfl
theorem q1368 : (Jvm.Cond.methodLink "PolicyNotationLaw" (39 : Nat) ({ cls := "PolicyNotation", name := "test", desc := "(IIII)I" } : Jvm.MethodName)) ∈ lw_all := lw_g (lw_at lw_m6 77 rfl) rfl
theorem q1457 : (Jvm.Cond.methodLink "PolicyNotationLaw" (189 : Nat) ({ cls := "PolicyNotationLaw", name := "setFactor", desc := "(LPolicyNotation;II[J)I" } : Jvm.MethodName)) ∈ lw_all := lw_g (lw_at lw_m6 166 rfl) rfl
theorem q1458 : (Jvm.Cond.static ({ cls := "PolicyNotationLaw", name := "setFactor", desc := "(LPolicyNotation;II[J)I" } : Jvm.MethodName)) ∈ lw_all := lw_g (lw_at lw_m6 167 rfl) rfl
theorem q1459 : (Jvm.Cond.codeWith ({ cls := "PolicyNotationLaw", name := "setFactor", desc := "(LPolicyNotation;II[J)I" } : Jvm.MethodName) method_10_code (5 : Nat) (Option.some Jvm.ClassFile.FieldType.int) [((0 : Nat), (10 : Nat), (13 : Nat), (13 : Nat)), ((0 : Nat), (10 : Nat), (17 : Nat), (21 : Nat))]) ∈ lw_all := lw_g (lw_at lw_m6 168 rfl) rfl
theorem q1460 : (Jvm.Cond.methodLink "PolicyNotationLaw" (43 : Nat) ({ cls := "PolicyNotation", name := "setFactor", desc := "(II)I" } : Jvm.MethodName)) ∈ lw_all := lw_g (lw_at lw_m6 169 rfl) rfl
theorem q1464 : (Jvm.Cond.methodLink "PolicyNotationLaw" (192 : Nat) ({ cls := "PolicyNotationLaw", name := "end", desc := "(LPolicyNotation;II[J)I" } : Jvm.MethodName)) ∈ lw_all := lw_g (lw_at lw_m6 173 rfl) rfl
theorem q1465 : (Jvm.Cond.static ({ cls := "PolicyNotationLaw", name := "end", desc := "(LPolicyNotation;II[J)I" } : Jvm.MethodName)) ∈ lw_all := lw_g (lw_at lw_m6 174 rfl) rfl
theorem q1466 : (Jvm.Cond.codeWith ({ cls := "PolicyNotationLaw", name := "end", desc := "(LPolicyNotation;II[J)I" } : Jvm.MethodName) method_11_code (5 : Nat) (Option.some Jvm.ClassFile.FieldType.int) [((0 : Nat), (10 : Nat), (13 : Nat), (13 : Nat)), ((0 : Nat), (10 : Nat), (17 : Nat), (21 : Nat)), ((0 : Nat), (10 : Nat), (21 : Nat), (34 : Nat))]) ∈ lw_all := lw_g (lw_at lw_m6 175 rfl) rfl
theorem q1467 : (Jvm.Cond.methodLink "PolicyNotationLaw" (46 : Nat) ({ cls := "PolicyNotation", name := "end", desc := "(II)I" } : Jvm.MethodName)) ∈ lw_all := lw_g (lw_at lw_m6 176 rfl) rfl
theorem q1471 : (Jvm.Cond.methodLink "PolicyNotationLaw" (195 : Nat) ({ cls := "PolicyNotationLaw", name := "ruleOf", desc := "(LPolicyNotation;II[J)I" } : Jvm.MethodName)) ∈ lw_all := lw_g (lw_at lw_m6 180 rfl) rfl
theorem q1472 : (Jvm.Cond.static ({ cls := "PolicyNotationLaw", name := "ruleOf", desc := "(LPolicyNotation;II[J)I" } : Jvm.MethodName)) ∈ lw_all := lw_g (lw_at lw_m6 181 rfl) rfl
theorem q1473 : (Jvm.Cond.codeWith ({ cls := "PolicyNotationLaw", name := "ruleOf", desc := "(LPolicyNotation;II[J)I" } : Jvm.MethodName) method_12_code (5 : Nat) (Option.some Jvm.ClassFile.FieldType.int) [((0 : Nat), (10 : Nat), (13 : Nat), (13 : Nat)), ((0 : Nat), (10 : Nat), (17 : Nat), (21 : Nat))]) ∈ lw_all := lw_g (lw_at lw_m6 182 rfl) rfl
theorem q1474 : (Jvm.Cond.methodLink "PolicyNotationLaw" (49 : Nat) ({ cls := "PolicyNotation", name := "ruleOf", desc := "(II)I" } : Jvm.MethodName)) ∈ lw_all := lw_g (lw_at lw_m6 183 rfl) rfl
theorem q1483 : (Jvm.Cond.methodLink "PolicyNotationLaw" (198 : Nat) ({ cls := "PolicyNotationLaw", name := "testOf", desc := "(LPolicyNotation;III[J)I" } : Jvm.MethodName)) ∈ lw_all := lw_g (lw_at lw_m6 192 rfl) rfl
theorem q1484 : (Jvm.Cond.static ({ cls := "PolicyNotationLaw", name := "testOf", desc := "(LPolicyNotation;III[J)I" } : Jvm.MethodName)) ∈ lw_all := lw_g (lw_at lw_m6 193 rfl) rfl
theorem q1485 : (Jvm.Cond.codeWith ({ cls := "PolicyNotationLaw", name := "testOf", desc := "(LPolicyNotation;III[J)I" } : Jvm.MethodName) method_13_code (6 : Nat) (Option.some Jvm.ClassFile.FieldType.int) [((0 : Nat), (12 : Nat), (15 : Nat), (13 : Nat)), ((0 : Nat), (12 : Nat), (19 : Nat), (56 : Nat)), ((0 : Nat), (12 : Nat), (23 : Nat), (21 : Nat))]) ∈ lw_all := lw_g (lw_at lw_m6 194 rfl) rfl
theorem q1486 : (Jvm.Cond.classLink "PolicyNotationLaw" (56 : Nat) "java/util/NoSuchElementException") ∈ lw_all := lw_g (lw_at lw_m6 195 rfl) rfl
theorem q1487 : (Jvm.Cond.methodLink "PolicyNotationLaw" (52 : Nat) ({ cls := "PolicyNotation", name := "testOf", desc := "(III)I" } : Jvm.MethodName)) ∈ lw_all := lw_g (lw_at lw_m6 196 rfl) rfl
theorem q1505 : (Jvm.Cond.methodLink "PolicyNotationLaw" (202 : Nat) ({ cls := "PolicyNotationLaw", name := "covers", desc := "(LPolicyNotation;IIII[J)I" } : Jvm.MethodName)) ∈ lw_all := lw_g (lw_at lw_m6 214 rfl) rfl
theorem q1506 : (Jvm.Cond.static ({ cls := "PolicyNotationLaw", name := "covers", desc := "(LPolicyNotation;IIII[J)I" } : Jvm.MethodName)) ∈ lw_all := lw_g (lw_at lw_m6 215 rfl) rfl
theorem q1507 : (Jvm.Cond.codeWith ({ cls := "PolicyNotationLaw", name := "covers", desc := "(LPolicyNotation;IIII[J)I" } : Jvm.MethodName) method_14_code (7 : Nat) (Option.some Jvm.ClassFile.FieldType.int) [((0 : Nat), (21 : Nat), (24 : Nat), (13 : Nat)), ((0 : Nat), (21 : Nat), (28 : Nat), (21 : Nat))]) ∈ lw_all := lw_g (lw_at lw_m6 216 rfl) rfl
theorem q1508 : (Jvm.Cond.methodLink "PolicyNotationLaw" (58 : Nat) ({ cls := "PolicyNotation", name := "covers", desc := "(IIII)Z" } : Jvm.MethodName)) ∈ lw_all := lw_g (lw_at lw_m6 217 rfl) rfl
theorem q1522 : (Jvm.Cond.methodLink "PolicyNotationLaw" (205 : Nat) ({ cls := "PolicyNotationLaw", name := "holds", desc := "(LPolicyNotation;IIII[J)I" } : Jvm.MethodName)) ∈ lw_all := lw_g (lw_at lw_m6 231 rfl) rfl
theorem q1523 : (Jvm.Cond.static ({ cls := "PolicyNotationLaw", name := "holds", desc := "(LPolicyNotation;IIII[J)I" } : Jvm.MethodName)) ∈ lw_all := lw_g (lw_at lw_m6 232 rfl) rfl
theorem q1524 : (Jvm.Cond.codeWith ({ cls := "PolicyNotationLaw", name := "holds", desc := "(LPolicyNotation;IIII[J)I" } : Jvm.MethodName) method_15_code (7 : Nat) (Option.some Jvm.ClassFile.FieldType.int) [((0 : Nat), (21 : Nat), (24 : Nat), (13 : Nat)), ((0 : Nat), (21 : Nat), (28 : Nat), (21 : Nat))]) ∈ lw_all := lw_g (lw_at lw_m6 233 rfl) rfl
theorem q1525 : (Jvm.Cond.methodLink "PolicyNotationLaw" (62 : Nat) ({ cls := "PolicyNotation", name := "holds", desc := "(IIII)Z" } : Jvm.MethodName)) ∈ lw_all := lw_g (lw_at lw_m6 234 rfl) rfl
theorem q1530 : (Jvm.Cond.methodLink "PolicyNotationLaw" (208 : Nat) ({ cls := "PolicyNotationLaw", name := "holdsAgain", desc := "(LPolicyNotation;IIII[J)I" } : Jvm.MethodName)) ∈ lw_all := lw_g (lw_at lw_m6 239 rfl) rfl
theorem q1531 : (Jvm.Cond.static ({ cls := "PolicyNotationLaw", name := "holdsAgain", desc := "(LPolicyNotation;IIII[J)I" } : Jvm.MethodName)) ∈ lw_all := lw_g (lw_at lw_m7 0 rfl) rfl
theorem q1532 : (Jvm.Cond.codeWith ({ cls := "PolicyNotationLaw", name := "holdsAgain", desc := "(LPolicyNotation;IIII[J)I" } : Jvm.MethodName) method_16_code (7 : Nat) (Option.some Jvm.ClassFile.FieldType.int) [((0 : Nat), (21 : Nat), (24 : Nat), (13 : Nat)), ((0 : Nat), (21 : Nat), (28 : Nat), (21 : Nat))]) ∈ lw_all := lw_g (lw_at lw_m7 1 rfl) rfl
theorem q1533 : (Jvm.Cond.methodLink "PolicyNotationLaw" (65 : Nat) ({ cls := "PolicyNotation", name := "holdsAgain", desc := "(IIII)Z" } : Jvm.MethodName)) ∈ lw_all := lw_g (lw_at lw_m7 2 rfl) rfl
theorem q1544 : (Jvm.Cond.methodLink "PolicyNotationLaw" (211 : Nat) ({ cls := "PolicyNotationLaw", name := "outcome", desc := "(LPolicyNotation;III[J)I" } : Jvm.MethodName)) ∈ lw_all := lw_g (lw_at lw_m7 13 rfl) rfl
theorem q1545 : (Jvm.Cond.static ({ cls := "PolicyNotationLaw", name := "outcome", desc := "(LPolicyNotation;III[J)I" } : Jvm.MethodName)) ∈ lw_all := lw_g (lw_at lw_m7 14 rfl) rfl
theorem q1546 : (Jvm.Cond.codeWith ({ cls := "PolicyNotationLaw", name := "outcome", desc := "(LPolicyNotation;III[J)I" } : Jvm.MethodName) method_17_code (6 : Nat) (Option.some Jvm.ClassFile.FieldType.int) [((0 : Nat), (12 : Nat), (15 : Nat), (13 : Nat)), ((0 : Nat), (12 : Nat), (19 : Nat), (21 : Nat))]) ∈ lw_all := lw_g (lw_at lw_m7 15 rfl) rfl
theorem q1547 : (Jvm.Cond.methodLink "PolicyNotationLaw" (68 : Nat) ({ cls := "PolicyNotation", name := "outcome", desc := "(III)I" } : Jvm.MethodName)) ∈ lw_all := lw_g (lw_at lw_m7 16 rfl) rfl
theorem q1551 : (Jvm.Cond.methodLink "PolicyNotationLaw" (214 : Nat) ({ cls := "PolicyNotationLaw", name := "chain", desc := "(LPolicyNotation;IIII[J)I" } : Jvm.MethodName)) ∈ lw_all := lw_g (lw_at lw_m7 20 rfl) rfl
theorem q1552 : (Jvm.Cond.static ({ cls := "PolicyNotationLaw", name := "chain", desc := "(LPolicyNotation;IIII[J)I" } : Jvm.MethodName)) ∈ lw_all := lw_g (lw_at lw_m7 21 rfl) rfl
theorem q1553 : (Jvm.Cond.codeWith ({ cls := "PolicyNotationLaw", name := "chain", desc := "(LPolicyNotation;IIII[J)I" } : Jvm.MethodName) method_18_code (7 : Nat) (Option.some Jvm.ClassFile.FieldType.int) [((0 : Nat), (14 : Nat), (17 : Nat), (13 : Nat)), ((0 : Nat), (14 : Nat), (21 : Nat), (21 : Nat)), ((0 : Nat), (14 : Nat), (25 : Nat), (56 : Nat))]) ∈ lw_all := lw_g (lw_at lw_m7 22 rfl) rfl
theorem q1554 : (Jvm.Cond.methodLink "PolicyNotationLaw" (71 : Nat) ({ cls := "PolicyNotation", name := "chain", desc := "(IIII)I" } : Jvm.MethodName)) ∈ lw_all := lw_g (lw_at lw_m7 23 rfl) rfl
theorem q1563 : (Jvm.Cond.methodLink "PolicyNotationLaw" (217 : Nat) ({ cls := "PolicyNotationLaw", name := "rival", desc := "(LPolicyNotation;IIII[J)I" } : Jvm.MethodName)) ∈ lw_all := lw_g (lw_at lw_m7 32 rfl) rfl
theorem q1564 : (Jvm.Cond.static ({ cls := "PolicyNotationLaw", name := "rival", desc := "(LPolicyNotation;IIII[J)I" } : Jvm.MethodName)) ∈ lw_all := lw_g (lw_at lw_m7 33 rfl) rfl
theorem q1565 : (Jvm.Cond.codeWith ({ cls := "PolicyNotationLaw", name := "rival", desc := "(LPolicyNotation;IIII[J)I" } : Jvm.MethodName) method_19_code (7 : Nat) (Option.some Jvm.ClassFile.FieldType.int) [((0 : Nat), (14 : Nat), (17 : Nat), (13 : Nat)), ((0 : Nat), (14 : Nat), (21 : Nat), (21 : Nat)), ((0 : Nat), (14 : Nat), (25 : Nat), (56 : Nat))]) ∈ lw_all := lw_g (lw_at lw_m7 34 rfl) rfl
theorem q1566 : (Jvm.Cond.methodLink "PolicyNotationLaw" (74 : Nat) ({ cls := "PolicyNotation", name := "rival", desc := "(IIII)I" } : Jvm.MethodName)) ∈ lw_all := lw_g (lw_at lw_m7 35 rfl) rfl
theorem q1585 : (Jvm.Cond.methodLink "PolicyNotationLaw" (220 : Nat) ({ cls := "PolicyNotationLaw", name := "nextChange", desc := "(LPolicyNotation;III[J)I" } : Jvm.MethodName)) ∈ lw_all := lw_g (lw_at lw_m7 54 rfl) rfl
theorem q1586 : (Jvm.Cond.static ({ cls := "PolicyNotationLaw", name := "nextChange", desc := "(LPolicyNotation;III[J)I" } : Jvm.MethodName)) ∈ lw_all := lw_g (lw_at lw_m7 55 rfl) rfl
theorem q1587 : (Jvm.Cond.codeWith ({ cls := "PolicyNotationLaw", name := "nextChange", desc := "(LPolicyNotation;III[J)I" } : Jvm.MethodName) method_20_code (6 : Nat) (Option.some Jvm.ClassFile.FieldType.int) [((0 : Nat), (12 : Nat), (15 : Nat), (13 : Nat)), ((0 : Nat), (12 : Nat), (19 : Nat), (21 : Nat)), ((0 : Nat), (12 : Nat), (23 : Nat), (56 : Nat))]) ∈ lw_all := lw_g (lw_at lw_m7 56 rfl) rfl
theorem q1588 : (Jvm.Cond.methodLink "PolicyNotationLaw" (77 : Nat) ({ cls := "PolicyNotation", name := "nextChange", desc := "(III)I" } : Jvm.MethodName)) ∈ lw_all := lw_g (lw_at lw_m7 57 rfl) rfl
theorem q1596 : (Jvm.Cond.methodLink "PolicyNotationLaw" (223 : Nat) ({ cls := "PolicyNotationLaw", name := "days", desc := "(LPolicyNotation;III[J)I" } : Jvm.MethodName)) ∈ lw_all := lw_g (lw_at lw_m7 65 rfl) rfl
theorem q1597 : (Jvm.Cond.static ({ cls := "PolicyNotationLaw", name := "days", desc := "(LPolicyNotation;III[J)I" } : Jvm.MethodName)) ∈ lw_all := lw_g (lw_at lw_m7 66 rfl) rfl
theorem q1598 : (Jvm.Cond.codeWith ({ cls := "PolicyNotationLaw", name := "days", desc := "(LPolicyNotation;III[J)I" } : Jvm.MethodName) method_21_code (6 : Nat) (Option.some Jvm.ClassFile.FieldType.int) [((0 : Nat), (12 : Nat), (15 : Nat), (13 : Nat)), ((0 : Nat), (12 : Nat), (19 : Nat), (21 : Nat))]) ∈ lw_all := lw_g (lw_at lw_m7 67 rfl) rfl
theorem q1599 : (Jvm.Cond.methodLink "PolicyNotationLaw" (80 : Nat) ({ cls := "PolicyNotation", name := "days", desc := "(III)I" } : Jvm.MethodName)) ∈ lw_all := lw_g (lw_at lw_m7 68 rfl) rfl
theorem q1603 : (Jvm.Cond.methodLink "PolicyNotationLaw" (226 : Nat) ({ cls := "PolicyNotationLaw", name := "burden", desc := "(LPolicyNotation;III[D)I" } : Jvm.MethodName)) ∈ lw_all := lw_g (lw_at lw_m7 72 rfl) rfl
theorem q1604 : (Jvm.Cond.static ({ cls := "PolicyNotationLaw", name := "burden", desc := "(LPolicyNotation;III[D)I" } : Jvm.MethodName)) ∈ lw_all := lw_g (lw_at lw_m7 73 rfl) rfl
theorem q1605 : (Jvm.Cond.codeWith ({ cls := "PolicyNotationLaw", name := "burden", desc := "(LPolicyNotation;III[D)I" } : Jvm.MethodName) method_22_code (6 : Nat) (Option.some Jvm.ClassFile.FieldType.int) [((0 : Nat), (12 : Nat), (15 : Nat), (13 : Nat)), ((0 : Nat), (12 : Nat), (19 : Nat), (21 : Nat))]) ∈ lw_all := lw_g (lw_at lw_m7 74 rfl) rfl
theorem q1606 : (Jvm.Cond.methodLink "PolicyNotationLaw" (83 : Nat) ({ cls := "PolicyNotation", name := "burden", desc := "(III)F" } : Jvm.MethodName)) ∈ lw_all := lw_g (lw_at lw_m7 75 rfl) rfl
theorem q1616 : (Jvm.Cond.methodLink "PolicyNotationLaw" (230 : Nat) ({ cls := "PolicyNotationLaw", name := "percent", desc := "(LPolicyNotation;III[J)I" } : Jvm.MethodName)) ∈ lw_all := lw_g (lw_at lw_m7 85 rfl) rfl
theorem q1617 : (Jvm.Cond.static ({ cls := "PolicyNotationLaw", name := "percent", desc := "(LPolicyNotation;III[J)I" } : Jvm.MethodName)) ∈ lw_all := lw_g (lw_at lw_m7 86 rfl) rfl
theorem q1618 : (Jvm.Cond.codeWith ({ cls := "PolicyNotationLaw", name := "percent", desc := "(LPolicyNotation;III[J)I" } : Jvm.MethodName) method_23_code (6 : Nat) (Option.some Jvm.ClassFile.FieldType.int) [((0 : Nat), (12 : Nat), (15 : Nat), (13 : Nat)), ((0 : Nat), (12 : Nat), (19 : Nat), (21 : Nat))]) ∈ lw_all := lw_g (lw_at lw_m7 87 rfl) rfl
theorem q1619 : (Jvm.Cond.methodLink "PolicyNotationLaw" (87 : Nat) ({ cls := "PolicyNotation", name := "percent", desc := "(III)I" } : Jvm.MethodName)) ∈ lw_all := lw_g (lw_at lw_m7 88 rfl) rfl
theorem q1624 : (Jvm.Cond.methodLink "PolicyNotationLaw" (233 : Nat) ({ cls := "PolicyNotationLaw", name := "work", desc := "(LPolicyNotation;IIII[J)I" } : Jvm.MethodName)) ∈ lw_all := lw_g (lw_at lw_m7 93 rfl) rfl
theorem q1625 : (Jvm.Cond.static ({ cls := "PolicyNotationLaw", name := "work", desc := "(LPolicyNotation;IIII[J)I" } : Jvm.MethodName)) ∈ lw_all := lw_g (lw_at lw_m7 94 rfl) rfl
theorem q1626 : (Jvm.Cond.codeWith ({ cls := "PolicyNotationLaw", name := "work", desc := "(LPolicyNotation;IIII[J)I" } : Jvm.MethodName) method_24_code (7 : Nat) (Option.some Jvm.ClassFile.FieldType.int) [((0 : Nat), (14 : Nat), (17 : Nat), (13 : Nat)), ((0 : Nat), (14 : Nat), (21 : Nat), (21 : Nat)), ((0 : Nat), (14 : Nat), (25 : Nat), (34 : Nat))]) ∈ lw_all := lw_g (lw_at lw_m7 95 rfl) rfl
theorem q1627 : (Jvm.Cond.methodLink "PolicyNotationLaw" (90 : Nat) ({ cls := "PolicyNotation", name := "work", desc := "(IIII)I" } : Jvm.MethodName)) ∈ lw_all := lw_g (lw_at lw_m7 96 rfl) rfl
theorem q1653 : (Jvm.Cond.methodLink "PolicyNotationLaw" (236 : Nat) ({ cls := "PolicyNotationLaw", name := "caseOf", desc := "(LPolicyNotation;II[J)I" } : Jvm.MethodName)) ∈ lw_all := lw_g (lw_at lw_m7 122 rfl) rfl
theorem q1654 : (Jvm.Cond.static ({ cls := "PolicyNotationLaw", name := "caseOf", desc := "(LPolicyNotation;II[J)I" } : Jvm.MethodName)) ∈ lw_all := lw_g (lw_at lw_m7 123 rfl) rfl
theorem q1655 : (Jvm.Cond.codeWith ({ cls := "PolicyNotationLaw", name := "caseOf", desc := "(LPolicyNotation;II[J)I" } : Jvm.MethodName) method_25_code (5 : Nat) (Option.some Jvm.ClassFile.FieldType.int) [((0 : Nat), (10 : Nat), (13 : Nat), (13 : Nat)), ((0 : Nat), (10 : Nat), (17 : Nat), (21 : Nat))]) ∈ lw_all := lw_g (lw_at lw_m7 124 rfl) rfl
theorem q1656 : (Jvm.Cond.methodLink "PolicyNotationLaw" (93 : Nat) ({ cls := "PolicyNotation", name := "caseOf", desc := "(II)I" } : Jvm.MethodName)) ∈ lw_all := lw_g (lw_at lw_m7 125 rfl) rfl
theorem q1673 : (Jvm.Cond.methodLink "PolicyNotationLaw" (239 : Nat) ({ cls := "PolicyNotationLaw", name := "dropCase", desc := "(LPolicyNotation;I[J)I" } : Jvm.MethodName)) ∈ lw_all := lw_g (lw_at lw_m7 142 rfl) rfl
theorem q1674 : (Jvm.Cond.static ({ cls := "PolicyNotationLaw", name := "dropCase", desc := "(LPolicyNotation;I[J)I" } : Jvm.MethodName)) ∈ lw_all := lw_g (lw_at lw_m7 143 rfl) rfl
theorem q1675 : (Jvm.Cond.codeWith ({ cls := "PolicyNotationLaw", name := "dropCase", desc := "(LPolicyNotation;I[J)I" } : Jvm.MethodName) method_26_code (4 : Nat) (Option.some Jvm.ClassFile.FieldType.int) [((0 : Nat), (9 : Nat), (12 : Nat), (13 : Nat))]) ∈ lw_all := lw_g (lw_at lw_m7 144 rfl) rfl
theorem q1676 : (Jvm.Cond.methodLink "PolicyNotationLaw" (96 : Nat) ({ cls := "PolicyNotation", name := "dropCase", desc := "(I)I" } : Jvm.MethodName)) ∈ lw_all := lw_g (lw_at lw_m7 145 rfl) rfl
theorem q1681 : (Jvm.Cond.methodLink "PolicyNotationLaw" (250 : Nat) ({ cls := "PolicyNotationLaw", name := "without", desc := "(LPolicyNotation;I[J)I" } : Jvm.MethodName)) ∈ lw_all := lw_g (lw_at lw_m7 150 rfl) rfl
theorem q1682 : (Jvm.Cond.static ({ cls := "PolicyNotationLaw", name := "without", desc := "(LPolicyNotation;I[J)I" } : Jvm.MethodName)) ∈ lw_all := lw_g (lw_at lw_m7 151 rfl) rfl
theorem q1683 : (Jvm.Cond.codeWith ({ cls := "PolicyNotationLaw", name := "without", desc := "(LPolicyNotation;I[J)I" } : Jvm.MethodName) method_27_code (4 : Nat) (Option.some Jvm.ClassFile.FieldType.int) [((0 : Nat), (9 : Nat), (12 : Nat), (13 : Nat))]) ∈ lw_all := lw_g (lw_at lw_m7 152 rfl) rfl
theorem q1684 : (Jvm.Cond.methodLink "PolicyNotationLaw" (99 : Nat) ({ cls := "PolicyNotation", name := "without", desc := "(I)I" } : Jvm.MethodName)) ∈ lw_all := lw_g (lw_at lw_m7 153 rfl) rfl
theorem q1696 : (Jvm.Cond.methodLink "PolicyNotationLaw" (253 : Nat) ({ cls := "PolicyNotationLaw", name := "sheet", desc := "(LPolicyNotation;I[J)I" } : Jvm.MethodName)) ∈ lw_all := lw_g (lw_at lw_m7 165 rfl) rfl
theorem q1697 : (Jvm.Cond.static ({ cls := "PolicyNotationLaw", name := "sheet", desc := "(LPolicyNotation;I[J)I" } : Jvm.MethodName)) ∈ lw_all := lw_g (lw_at lw_m7 166 rfl) rfl
theorem q1698 : (Jvm.Cond.codeWith ({ cls := "PolicyNotationLaw", name := "sheet", desc := "(LPolicyNotation;I[J)I" } : Jvm.MethodName) method_28_code (4 : Nat) (Option.some Jvm.ClassFile.FieldType.int) [((0 : Nat), (9 : Nat), (12 : Nat), (21 : Nat))]) ∈ lw_all := lw_g (lw_at lw_m7 167 rfl) rfl
theorem q1699 : (Jvm.Cond.methodLink "PolicyNotationLaw" (102 : Nat) ({ cls := "PolicyNotation", name := "sheet", desc := "(I)I" } : Jvm.MethodName)) ∈ lw_all := lw_g (lw_at lw_m7 168 rfl) rfl
theorem q1714 : (Jvm.Cond.methodLink "PolicyNotationLaw" (256 : Nat) ({ cls := "PolicyNotationLaw", name := "lay", desc := "(LPolicyNotation;III[J)I" } : Jvm.MethodName)) ∈ lw_all := lw_g (lw_at lw_m7 183 rfl) rfl
theorem q1715 : (Jvm.Cond.static ({ cls := "PolicyNotationLaw", name := "lay", desc := "(LPolicyNotation;III[J)I" } : Jvm.MethodName)) ∈ lw_all := lw_g (lw_at lw_m7 184 rfl) rfl
theorem q1716 : (Jvm.Cond.codeWith ({ cls := "PolicyNotationLaw", name := "lay", desc := "(LPolicyNotation;III[J)I" } : Jvm.MethodName) method_29_code (6 : Nat) (Option.some Jvm.ClassFile.FieldType.int) [((0 : Nat), (12 : Nat), (15 : Nat), (13 : Nat)), ((0 : Nat), (12 : Nat), (19 : Nat), (56 : Nat)), ((0 : Nat), (12 : Nat), (23 : Nat), (34 : Nat))]) ∈ lw_all := lw_g (lw_at lw_m7 185 rfl) rfl
theorem q1717 : (Jvm.Cond.methodLink "PolicyNotationLaw" (105 : Nat) ({ cls := "PolicyNotation", name := "lay", desc := "(III)I" } : Jvm.MethodName)) ∈ lw_all := lw_g (lw_at lw_m7 186 rfl) rfl
theorem q1739 : (Jvm.Cond.methodLink "PolicyNotationLaw" (259 : Nat) ({ cls := "PolicyNotationLaw", name := "takeSheet", desc := "(LPolicyNotation;I[J)I" } : Jvm.MethodName)) ∈ lw_all := lw_g (lw_at lw_m7 208 rfl) rfl
theorem q1740 : (Jvm.Cond.static ({ cls := "PolicyNotationLaw", name := "takeSheet", desc := "(LPolicyNotation;I[J)I" } : Jvm.MethodName)) ∈ lw_all := lw_g (lw_at lw_m7 209 rfl) rfl
theorem q1741 : (Jvm.Cond.codeWith ({ cls := "PolicyNotationLaw", name := "takeSheet", desc := "(LPolicyNotation;I[J)I" } : Jvm.MethodName) method_30_code (4 : Nat) (Option.some Jvm.ClassFile.FieldType.int) [((0 : Nat), (9 : Nat), (12 : Nat), (13 : Nat)), ((0 : Nat), (9 : Nat), (15 : Nat), (34 : Nat))]) ∈ lw_all := lw_g (lw_at lw_m7 210 rfl) rfl
theorem q1742 : (Jvm.Cond.methodLink "PolicyNotationLaw" (108 : Nat) ({ cls := "PolicyNotation", name := "takeSheet", desc := "(I)I" } : Jvm.MethodName)) ∈ lw_all := lw_g (lw_at lw_m7 211 rfl) rfl
theorem q1746 : (Jvm.Cond.methodLink "PolicyNotationLaw" (262 : Nat) ({ cls := "PolicyNotationLaw", name := "keepRow", desc := "(LPolicyNotation;I[J)I" } : Jvm.MethodName)) ∈ lw_all := lw_g (lw_at lw_m7 215 rfl) rfl
theorem q1747 : (Jvm.Cond.static ({ cls := "PolicyNotationLaw", name := "keepRow", desc := "(LPolicyNotation;I[J)I" } : Jvm.MethodName)) ∈ lw_all := lw_g (lw_at lw_m7 216 rfl) rfl
theorem q1748 : (Jvm.Cond.codeWith ({ cls := "PolicyNotationLaw", name := "keepRow", desc := "(LPolicyNotation;I[J)I" } : Jvm.MethodName) method_31_code (4 : Nat) (Option.some Jvm.ClassFile.FieldType.int) [((0 : Nat), (9 : Nat), (12 : Nat), (13 : Nat))]) ∈ lw_all := lw_g (lw_at lw_m7 217 rfl) rfl
theorem q1749 : (Jvm.Cond.methodLink "PolicyNotationLaw" (111 : Nat) ({ cls := "PolicyNotation", name := "keepRow", desc := "(I)I" } : Jvm.MethodName)) ∈ lw_all := lw_g (lw_at lw_m7 218 rfl) rfl
theorem q1757 : (Jvm.Cond.methodLink "PolicyNotationLaw" (265 : Nat) ({ cls := "PolicyNotationLaw", name := "copyRow", desc := "(LPolicyNotation;III[J)I" } : Jvm.MethodName)) ∈ lw_all := lw_g (lw_at lw_m7 226 rfl) rfl
theorem q1758 : (Jvm.Cond.static ({ cls := "PolicyNotationLaw", name := "copyRow", desc := "(LPolicyNotation;III[J)I" } : Jvm.MethodName)) ∈ lw_all := lw_g (lw_at lw_m7 227 rfl) rfl
theorem q1759 : (Jvm.Cond.codeWith ({ cls := "PolicyNotationLaw", name := "copyRow", desc := "(LPolicyNotation;III[J)I" } : Jvm.MethodName) method_32_code (6 : Nat) (Option.some Jvm.ClassFile.FieldType.int) [((0 : Nat), (12 : Nat), (15 : Nat), (13 : Nat)), ((0 : Nat), (12 : Nat), (19 : Nat), (21 : Nat)), ((0 : Nat), (12 : Nat), (23 : Nat), (15 : Nat))]) ∈ lw_all := lw_g (lw_at lw_m7 228 rfl) rfl
theorem q1760 : (Jvm.Cond.methodLink "PolicyNotationLaw" (114 : Nat) ({ cls := "PolicyNotation", name := "copyRow", desc := "(III)I" } : Jvm.MethodName)) ∈ lw_all := lw_g (lw_at lw_m7 229 rfl) rfl
theorem q1777 : (Jvm.Cond.methodLink "PolicyNotationLaw" (268 : Nat) ({ cls := "PolicyNotationLaw", name := "element", desc := "(LPolicyNotation;II[J)I" } : Jvm.MethodName)) ∈ lw_all := lw_g (lw_at lw_m8 6 rfl) rfl
theorem q1778 : (Jvm.Cond.static ({ cls := "PolicyNotationLaw", name := "element", desc := "(LPolicyNotation;II[J)I" } : Jvm.MethodName)) ∈ lw_all := lw_g (lw_at lw_m8 7 rfl) rfl
theorem q1779 : (Jvm.Cond.codeWith ({ cls := "PolicyNotationLaw", name := "element", desc := "(LPolicyNotation;II[J)I" } : Jvm.MethodName) method_33_code (5 : Nat) (Option.some Jvm.ClassFile.FieldType.int) [((0 : Nat), (10 : Nat), (13 : Nat), (13 : Nat)), ((0 : Nat), (10 : Nat), (17 : Nat), (15 : Nat)), ((0 : Nat), (10 : Nat), (21 : Nat), (56 : Nat))]) ∈ lw_all := lw_g (lw_at lw_m8 8 rfl) rfl
theorem q1780 : (Jvm.Cond.methodLink "PolicyNotationLaw" (117 : Nat) ({ cls := "PolicyNotation", name := "element", desc := "(II)I" } : Jvm.MethodName)) ∈ lw_all := lw_g (lw_at lw_m8 9 rfl) rfl
theorem q1794 : (Jvm.Cond.methodLink "PolicyNotationLaw" (271 : Nat) ({ cls := "PolicyNotationLaw", name := "total", desc := "(LPolicyNotation;I[D)I" } : Jvm.MethodName)) ∈ lw_all := lw_g (lw_at lw_m8 23 rfl) rfl
theorem q1795 : (Jvm.Cond.static ({ cls := "PolicyNotationLaw", name := "total", desc := "(LPolicyNotation;I[D)I" } : Jvm.MethodName)) ∈ lw_all := lw_g (lw_at lw_m8 24 rfl) rfl
theorem q1796 : (Jvm.Cond.codeWith ({ cls := "PolicyNotationLaw", name := "total", desc := "(LPolicyNotation;I[D)I" } : Jvm.MethodName) method_34_code (4 : Nat) (Option.some Jvm.ClassFile.FieldType.int) [((0 : Nat), (8 : Nat), (11 : Nat), (13 : Nat)), ((0 : Nat), (8 : Nat), (14 : Nat), (15 : Nat))]) ∈ lw_all := lw_g (lw_at lw_m8 25 rfl) rfl
theorem q1797 : (Jvm.Cond.methodLink "PolicyNotationLaw" (120 : Nat) ({ cls := "PolicyNotation", name := "total", desc := "(I)D" } : Jvm.MethodName)) ∈ lw_all := lw_g (lw_at lw_m8 26 rfl) rfl
theorem q1802 : (Jvm.Cond.methodLink "PolicyNotationLaw" (275 : Nat) ({ cls := "PolicyNotationLaw", name := "append", desc := "(LPolicyNotation;C[J)I" } : Jvm.MethodName)) ∈ lw_all := lw_g (lw_at lw_m8 31 rfl) rfl
theorem q1803 : (Jvm.Cond.static ({ cls := "PolicyNotationLaw", name := "append", desc := "(LPolicyNotation;C[J)I" } : Jvm.MethodName)) ∈ lw_all := lw_g (lw_at lw_m8 32 rfl) rfl
theorem q1804 : (Jvm.Cond.codeWith ({ cls := "PolicyNotationLaw", name := "append", desc := "(LPolicyNotation;C[J)I" } : Jvm.MethodName) method_35_code (4 : Nat) (Option.some Jvm.ClassFile.FieldType.int) [((0 : Nat), (9 : Nat), (12 : Nat), (15 : Nat))]) ∈ lw_all := lw_g (lw_at lw_m8 33 rfl) rfl
theorem q1805 : (Jvm.Cond.methodLink "PolicyNotationLaw" (124 : Nat) ({ cls := "PolicyNotation", name := "append", desc := "(C)I" } : Jvm.MethodName)) ∈ lw_all := lw_g (lw_at lw_m8 34 rfl) rfl
theorem q1830 : (Jvm.Cond.methodLink "PolicyNotationLaw" (279 : Nat) ({ cls := "PolicyNotationLaw", name := "read", desc := "(LPolicyNotation;[J)I" } : Jvm.MethodName)) ∈ lw_all := lw_g (lw_at lw_m8 59 rfl) rfl
theorem q1831 : (Jvm.Cond.static ({ cls := "PolicyNotationLaw", name := "read", desc := "(LPolicyNotation;[J)I" } : Jvm.MethodName)) ∈ lw_all := lw_g (lw_at lw_m8 60 rfl) rfl
theorem q1832 : (Jvm.Cond.codeWith ({ cls := "PolicyNotationLaw", name := "read", desc := "(LPolicyNotation;[J)I" } : Jvm.MethodName) method_36_code (3 : Nat) (Option.some Jvm.ClassFile.FieldType.int) [((0 : Nat), (8 : Nat), (11 : Nat), (21 : Nat)), ((0 : Nat), (8 : Nat), (14 : Nat), (34 : Nat))]) ∈ lw_all := lw_g (lw_at lw_m8 61 rfl) rfl
theorem q1833 : (Jvm.Cond.methodLink "PolicyNotationLaw" (128 : Nat) ({ cls := "PolicyNotation", name := "read", desc := "()I" } : Jvm.MethodName)) ∈ lw_all := lw_g (lw_at lw_m8 62 rfl) rfl
theorem q2131 : (Jvm.Cond.methodLink "PolicyNotationLaw" (283 : Nat) ({ cls := "PolicyNotationLaw", name := "faultPosition", desc := "(LPolicyNotation;[J)I" } : Jvm.MethodName)) ∈ lw_all := lw_g (lw_at lw_m9 120 rfl) rfl
theorem q2132 : (Jvm.Cond.static ({ cls := "PolicyNotationLaw", name := "faultPosition", desc := "(LPolicyNotation;[J)I" } : Jvm.MethodName)) ∈ lw_all := lw_g (lw_at lw_m9 121 rfl) rfl
theorem q2133 : (Jvm.Cond.codeWith ({ cls := "PolicyNotationLaw", name := "faultPosition", desc := "(LPolicyNotation;[J)I" } : Jvm.MethodName) method_37_code (3 : Nat) (Option.some Jvm.ClassFile.FieldType.int) [((0 : Nat), (8 : Nat), (11 : Nat), (56 : Nat))]) ∈ lw_all := lw_g (lw_at lw_m9 122 rfl) rfl
theorem q2134 : (Jvm.Cond.methodLink "PolicyNotationLaw" (132 : Nat) ({ cls := "PolicyNotation", name := "faultPosition", desc := "()I" } : Jvm.MethodName)) ∈ lw_all := lw_g (lw_at lw_m9 123 rfl) rfl
theorem q2138 : (Jvm.Cond.methodLink "PolicyNotationLaw" (286 : Nat) ({ cls := "PolicyNotationLaw", name := "explain", desc := "(LPolicyNotation;III[J)I" } : Jvm.MethodName)) ∈ lw_all := lw_g (lw_at lw_m9 127 rfl) rfl
theorem q2139 : (Jvm.Cond.static ({ cls := "PolicyNotationLaw", name := "explain", desc := "(LPolicyNotation;III[J)I" } : Jvm.MethodName)) ∈ lw_all := lw_g (lw_at lw_m9 128 rfl) rfl
theorem q2140 : (Jvm.Cond.codeWith ({ cls := "PolicyNotationLaw", name := "explain", desc := "(LPolicyNotation;III[J)I" } : Jvm.MethodName) method_38_code (6 : Nat) (Option.some Jvm.ClassFile.FieldType.int) [((0 : Nat), (12 : Nat), (15 : Nat), (13 : Nat)), ((0 : Nat), (12 : Nat), (19 : Nat), (21 : Nat))]) ∈ lw_all := lw_g (lw_at lw_m9 129 rfl) rfl
theorem q2141 : (Jvm.Cond.methodLink "PolicyNotationLaw" (135 : Nat) ({ cls := "PolicyNotation", name := "explain", desc := "(III)I" } : Jvm.MethodName)) ∈ lw_all := lw_g (lw_at lw_m9 130 rfl) rfl
theorem q2166 : (Jvm.Cond.methodLink "PolicyNotationLaw" (289 : Nat) ({ cls := "PolicyNotationLaw", name := "character", desc := "(LPolicyNotation;I[J)I" } : Jvm.MethodName)) ∈ lw_all := lw_g (lw_at lw_m9 155 rfl) rfl
theorem q2167 : (Jvm.Cond.static ({ cls := "PolicyNotationLaw", name := "character", desc := "(LPolicyNotation;I[J)I" } : Jvm.MethodName)) ∈ lw_all := lw_g (lw_at lw_m9 156 rfl) rfl
theorem q2168 : (Jvm.Cond.codeWith ({ cls := "PolicyNotationLaw", name := "character", desc := "(LPolicyNotation;I[J)I" } : Jvm.MethodName) method_39_code (4 : Nat) (Option.some Jvm.ClassFile.FieldType.int) [((0 : Nat), (9 : Nat), (12 : Nat), (56 : Nat))]) ∈ lw_all := lw_g (lw_at lw_m9 157 rfl) rfl
theorem q2169 : (Jvm.Cond.methodLink "PolicyNotationLaw" (138 : Nat) ({ cls := "PolicyNotation", name := "character", desc := "(I)C" } : Jvm.MethodName)) ∈ lw_all := lw_g (lw_at lw_m9 158 rfl) rfl
theorem q2174 : (Jvm.Cond.methodLink "PolicyNotationLaw" (292 : Nat) ({ cls := "PolicyNotationLaw", name := "reason", desc := "(LPolicyNotation;Z[J)I" } : Jvm.MethodName)) ∈ lw_all := lw_g (lw_at lw_m9 163 rfl) rfl
theorem q2175 : (Jvm.Cond.static ({ cls := "PolicyNotationLaw", name := "reason", desc := "(LPolicyNotation;Z[J)I" } : Jvm.MethodName)) ∈ lw_all := lw_g (lw_at lw_m9 164 rfl) rfl
theorem q2176 : (Jvm.Cond.codeWith ({ cls := "PolicyNotationLaw", name := "reason", desc := "(LPolicyNotation;Z[J)I" } : Jvm.MethodName) method_40_code (4 : Nat) (Option.some Jvm.ClassFile.FieldType.int) [((0 : Nat), (9 : Nat), (12 : Nat), (56 : Nat))]) ∈ lw_all := lw_g (lw_at lw_m9 165 rfl) rfl
theorem q2177 : (Jvm.Cond.methodLink "PolicyNotationLaw" (142 : Nat) ({ cls := "PolicyNotation", name := "reason", desc := "(Z)I" } : Jvm.MethodName)) ∈ lw_all := lw_g (lw_at lw_m9 166 rfl) rfl
theorem q2181 : (Jvm.Cond.methodLink "PolicyNotationLaw" (296 : Nat) ({ cls := "PolicyNotationLaw", name := "account", desc := "(LPolicyNotation;I[J)I" } : Jvm.MethodName)) ∈ lw_all := lw_g (lw_at lw_m9 170 rfl) rfl
theorem q2182 : (Jvm.Cond.static ({ cls := "PolicyNotationLaw", name := "account", desc := "(LPolicyNotation;I[J)I" } : Jvm.MethodName)) ∈ lw_all := lw_g (lw_at lw_m9 171 rfl) rfl
theorem q2183 : (Jvm.Cond.codeWith ({ cls := "PolicyNotationLaw", name := "account", desc := "(LPolicyNotation;I[J)I" } : Jvm.MethodName) method_41_code (4 : Nat) (Option.some Jvm.ClassFile.FieldType.int) [((0 : Nat), (9 : Nat), (12 : Nat), (21 : Nat))]) ∈ lw_all := lw_g (lw_at lw_m9 172 rfl) rfl
theorem q2184 : (Jvm.Cond.methodLink "PolicyNotationLaw" (146 : Nat) ({ cls := "PolicyNotation", name := "account", desc := "(I)I" } : Jvm.MethodName)) ∈ lw_all := lw_g (lw_at lw_m9 173 rfl) rfl
theorem q2205 : (Jvm.Cond.methodLink "PolicyNotationLaw" (299 : Nat) ({ cls := "PolicyNotationLaw", name := "undo", desc := "(LPolicyNotation;[J)I" } : Jvm.MethodName)) ∈ lw_all := lw_g (lw_at lw_m9 194 rfl) rfl
theorem q2206 : (Jvm.Cond.static ({ cls := "PolicyNotationLaw", name := "undo", desc := "(LPolicyNotation;[J)I" } : Jvm.MethodName)) ∈ lw_all := lw_g (lw_at lw_m9 195 rfl) rfl
theorem q2207 : (Jvm.Cond.codeWith ({ cls := "PolicyNotationLaw", name := "undo", desc := "(LPolicyNotation;[J)I" } : Jvm.MethodName) method_42_code (3 : Nat) (Option.some Jvm.ClassFile.FieldType.int) [((0 : Nat), (8 : Nat), (11 : Nat), (15 : Nat))]) ∈ lw_all := lw_g (lw_at lw_m9 196 rfl) rfl
theorem q2208 : (Jvm.Cond.methodLink "PolicyNotationLaw" (149 : Nat) ({ cls := "PolicyNotation", name := "undo", desc := "()I" } : Jvm.MethodName)) ∈ lw_all := lw_g (lw_at lw_m9 197 rfl) rfl
theorem q2227 : (Jvm.Cond.methodLink "PolicyNotationLaw" (306 : Nat) ({ cls := "PolicyNotationLaw", name := "restore", desc := "(LPolicyNotation;[J)I" } : Jvm.MethodName)) ∈ lw_all := lw_g (lw_at lw_m9 216 rfl) rfl
theorem q2228 : (Jvm.Cond.static ({ cls := "PolicyNotationLaw", name := "restore", desc := "(LPolicyNotation;[J)I" } : Jvm.MethodName)) ∈ lw_all := lw_g (lw_at lw_m9 217 rfl) rfl
theorem q2229 : (Jvm.Cond.codeWith ({ cls := "PolicyNotationLaw", name := "restore", desc := "(LPolicyNotation;[J)I" } : Jvm.MethodName) method_43_code (3 : Nat) (Option.some Jvm.ClassFile.FieldType.int) [((0 : Nat), (8 : Nat), (11 : Nat), (15 : Nat))]) ∈ lw_all := lw_g (lw_at lw_m9 218 rfl) rfl
theorem q2230 : (Jvm.Cond.methodLink "PolicyNotationLaw" (152 : Nat) ({ cls := "PolicyNotation", name := "restore", desc := "()I" } : Jvm.MethodName)) ∈ lw_all := lw_g (lw_at lw_m9 219 rfl) rfl
theorem q2241 : (Jvm.Cond.classLink "PolicyNotationLaw" (156 : Nat) "PolicyNotationModel") ∈ lw_all := lw_g (lw_at lw_m9 230 rfl) rfl
theorem q2243 : (Jvm.Cond.methodLink "PolicyNotationLaw" (158 : Nat) ({ cls := "PolicyNotationModel", name := "<init>", desc := "()V" } : Jvm.MethodName)) ∈ lw_all := lw_g (lw_at lw_m9 232 rfl) rfl
theorem q2352 : (Jvm.Cond.methodLink "PolicyNotationLaw" (165 : Nat) ({ cls := "PolicyNotationModel", name := "thrown", desc := "()I" } : Jvm.MethodName)) ∈ lw_all := lw_g (lw_at lw_m10 101 rfl) rfl
theorem q2356 : (Jvm.Cond.methodLink "PolicyNotationLaw" (164 : Nat) ({ cls := "PolicyNotationModel", name := "scope", desc := "(I)I" } : Jvm.MethodName)) ∈ lw_all := lw_g (lw_at lw_m10 105 rfl) rfl
theorem q2376 : (Jvm.Cond.methodLink "PolicyNotationLaw" (171 : Nat) ({ cls := "PolicyNotationModel", name := "setDefault", desc := "(II)I" } : Jvm.MethodName)) ∈ lw_all := lw_g (lw_at lw_m10 125 rfl) rfl
theorem q2380 : (Jvm.Cond.methodLink "PolicyNotationLaw" (174 : Nat) ({ cls := "PolicyNotationModel", name := "scopeOf", desc := "(II)I" } : Jvm.MethodName)) ∈ lw_all := lw_g (lw_at lw_m10 129 rfl) rfl
theorem q2403 : (Jvm.Cond.methodLink "PolicyNotationLaw" (177 : Nat) ({ cls := "PolicyNotationModel", name := "isWithin", desc := "(II)Z" } : Jvm.MethodName)) ∈ lw_all := lw_g (lw_at lw_m10 152 rfl) rfl
theorem q2411 : (Jvm.Cond.methodLink "PolicyNotationLaw" (181 : Nat) ({ cls := "PolicyNotationModel", name := "rule", desc := "(IIIII)I" } : Jvm.MethodName)) ∈ lw_all := lw_g (lw_at lw_m10 160 rfl) rfl
theorem q2441 : (Jvm.Cond.methodLink "PolicyNotationLaw" (184 : Nat) ({ cls := "PolicyNotationModel", name := "except", desc := "(IIIII)I" } : Jvm.MethodName)) ∈ lw_all := lw_g (lw_at lw_m10 190 rfl) rfl
theorem q2449 : (Jvm.Cond.methodLink "PolicyNotationLaw" (188 : Nat) ({ cls := "PolicyNotationModel", name := "test", desc := "(IIII)I" } : Jvm.MethodName)) ∈ lw_all := lw_g (lw_at lw_m10 198 rfl) rfl
theorem q2480 : (Jvm.Cond.methodLink "PolicyNotationLaw" (191 : Nat) ({ cls := "PolicyNotationModel", name := "setFactor", desc := "(II)I" } : Jvm.MethodName)) ∈ lw_all := lw_g (lw_at lw_m10 229 rfl) rfl
theorem q2484 : (Jvm.Cond.methodLink "PolicyNotationLaw" (194 : Nat) ({ cls := "PolicyNotationModel", name := "end", desc := "(II)I" } : Jvm.MethodName)) ∈ lw_all := lw_g (lw_at lw_m10 233 rfl) rfl
theorem q2488 : (Jvm.Cond.methodLink "PolicyNotationLaw" (197 : Nat) ({ cls := "PolicyNotationModel", name := "ruleOf", desc := "(II)I" } : Jvm.MethodName)) ∈ lw_all := lw_g (lw_at lw_m10 237 rfl) rfl
theorem q2492 : (Jvm.Cond.methodLink "PolicyNotationLaw" (201 : Nat) ({ cls := "PolicyNotationModel", name := "testOf", desc := "(III)I" } : Jvm.MethodName)) ∈ lw_all := lw_g (lw_at lw_m11 1 rfl) rfl
theorem q2496 : (Jvm.Cond.methodLink "PolicyNotationLaw" (204 : Nat) ({ cls := "PolicyNotationModel", name := "covers", desc := "(IIII)Z" } : Jvm.MethodName)) ∈ lw_all := lw_g (lw_at lw_m11 5 rfl) rfl
theorem q2515 : (Jvm.Cond.methodLink "PolicyNotationLaw" (207 : Nat) ({ cls := "PolicyNotationModel", name := "holds", desc := "(IIII)Z" } : Jvm.MethodName)) ∈ lw_all := lw_g (lw_at lw_m11 24 rfl) rfl
theorem q2523 : (Jvm.Cond.methodLink "PolicyNotationLaw" (210 : Nat) ({ cls := "PolicyNotationModel", name := "holdsAgain", desc := "(IIII)Z" } : Jvm.MethodName)) ∈ lw_all := lw_g (lw_at lw_m11 32 rfl) rfl
theorem q2528 : (Jvm.Cond.methodLink "PolicyNotationLaw" (213 : Nat) ({ cls := "PolicyNotationModel", name := "outcome", desc := "(III)I" } : Jvm.MethodName)) ∈ lw_all := lw_g (lw_at lw_m11 37 rfl) rfl
theorem q2544 : (Jvm.Cond.methodLink "PolicyNotationLaw" (216 : Nat) ({ cls := "PolicyNotationModel", name := "chain", desc := "(IIII)I" } : Jvm.MethodName)) ∈ lw_all := lw_g (lw_at lw_m11 53 rfl) rfl
theorem q2556 : (Jvm.Cond.methodLink "PolicyNotationLaw" (219 : Nat) ({ cls := "PolicyNotationModel", name := "rival", desc := "(IIII)I" } : Jvm.MethodName)) ∈ lw_all := lw_g (lw_at lw_m11 65 rfl) rfl
theorem q2560 : (Jvm.Cond.methodLink "PolicyNotationLaw" (222 : Nat) ({ cls := "PolicyNotationModel", name := "nextChange", desc := "(III)I" } : Jvm.MethodName)) ∈ lw_all := lw_g (lw_at lw_m11 69 rfl) rfl
theorem q2564 : (Jvm.Cond.methodLink "PolicyNotationLaw" (225 : Nat) ({ cls := "PolicyNotationModel", name := "days", desc := "(III)I" } : Jvm.MethodName)) ∈ lw_all := lw_g (lw_at lw_m11 73 rfl) rfl
theorem q2568 : (Jvm.Cond.methodLink "PolicyNotationLaw" (229 : Nat) ({ cls := "PolicyNotationModel", name := "burden", desc := "(III)F" } : Jvm.MethodName)) ∈ lw_all := lw_g (lw_at lw_m11 77 rfl) rfl
theorem q2578 : (Jvm.Cond.methodLink "PolicyNotationLaw" (232 : Nat) ({ cls := "PolicyNotationModel", name := "percent", desc := "(III)I" } : Jvm.MethodName)) ∈ lw_all := lw_g (lw_at lw_m11 87 rfl) rfl
theorem q2582 : (Jvm.Cond.methodLink "PolicyNotationLaw" (235 : Nat) ({ cls := "PolicyNotationModel", name := "work", desc := "(IIII)I" } : Jvm.MethodName)) ∈ lw_all := lw_g (lw_at lw_m11 91 rfl) rfl
theorem q2586 : (Jvm.Cond.methodLink "PolicyNotationLaw" (238 : Nat) ({ cls := "PolicyNotationModel", name := "caseOf", desc := "(II)I" } : Jvm.MethodName)) ∈ lw_all := lw_g (lw_at lw_m11 95 rfl) rfl
theorem q2606 : (Jvm.Cond.methodLink "PolicyNotationLaw" (241 : Nat) ({ cls := "PolicyNotationModel", name := "dropCase", desc := "(I)I" } : Jvm.MethodName)) ∈ lw_all := lw_g (lw_at lw_m11 115 rfl) rfl
theorem q2610 : (Jvm.Cond.methodLink "PolicyNotationLaw" (245 : Nat) ({ cls := "PolicyNotationModel", name := "wrong", desc := "()I" } : Jvm.MethodName)) ∈ lw_all := lw_g (lw_at lw_m11 119 rfl) rfl
theorem q2618 : (Jvm.Cond.methodLink "PolicyNotationLaw" (249 : Nat) ({ cls := "PolicyNotationModel", name := "tested", desc := "()I" } : Jvm.MethodName)) ∈ lw_all := lw_g (lw_at lw_m11 127 rfl) rfl
theorem q2622 : (Jvm.Cond.methodLink "PolicyNotationLaw" (252 : Nat) ({ cls := "PolicyNotationModel", name := "without", desc := "(I)I" } : Jvm.MethodName)) ∈ lw_all := lw_g (lw_at lw_m11 131 rfl) rfl
theorem q2629 : (Jvm.Cond.methodLink "PolicyNotationLaw" (255 : Nat) ({ cls := "PolicyNotationModel", name := "sheet", desc := "(I)I" } : Jvm.MethodName)) ∈ lw_all := lw_g (lw_at lw_m11 138 rfl) rfl
theorem q2637 : (Jvm.Cond.methodLink "PolicyNotationLaw" (258 : Nat) ({ cls := "PolicyNotationModel", name := "lay", desc := "(III)I" } : Jvm.MethodName)) ∈ lw_all := lw_g (lw_at lw_m11 146 rfl) rfl
theorem q2641 : (Jvm.Cond.methodLink "PolicyNotationLaw" (261 : Nat) ({ cls := "PolicyNotationModel", name := "takeSheet", desc := "(I)I" } : Jvm.MethodName)) ∈ lw_all := lw_g (lw_at lw_m11 150 rfl) rfl
theorem q2645 : (Jvm.Cond.methodLink "PolicyNotationLaw" (264 : Nat) ({ cls := "PolicyNotationModel", name := "keepRow", desc := "(I)I" } : Jvm.MethodName)) ∈ lw_all := lw_g (lw_at lw_m11 154 rfl) rfl
theorem q2652 : (Jvm.Cond.methodLink "PolicyNotationLaw" (267 : Nat) ({ cls := "PolicyNotationModel", name := "copyRow", desc := "(III)I" } : Jvm.MethodName)) ∈ lw_all := lw_g (lw_at lw_m11 161 rfl) rfl
theorem q2658 : (Jvm.Cond.methodLink "PolicyNotationLaw" (270 : Nat) ({ cls := "PolicyNotationModel", name := "element", desc := "(II)I" } : Jvm.MethodName)) ∈ lw_all := lw_g (lw_at lw_m11 167 rfl) rfl
theorem q2663 : (Jvm.Cond.methodLink "PolicyNotationLaw" (274 : Nat) ({ cls := "PolicyNotationModel", name := "total", desc := "(I)D" } : Jvm.MethodName)) ∈ lw_all := lw_g (lw_at lw_m11 172 rfl) rfl
theorem q2668 : (Jvm.Cond.methodLink "PolicyNotationLaw" (278 : Nat) ({ cls := "PolicyNotationModel", name := "append", desc := "(C)I" } : Jvm.MethodName)) ∈ lw_all := lw_g (lw_at lw_m11 177 rfl) rfl
theorem q2672 : (Jvm.Cond.methodLink "PolicyNotationLaw" (282 : Nat) ({ cls := "PolicyNotationModel", name := "read", desc := "()I" } : Jvm.MethodName)) ∈ lw_all := lw_g (lw_at lw_m11 181 rfl) rfl
theorem q2708 : (Jvm.Cond.methodLink "PolicyNotationLaw" (285 : Nat) ({ cls := "PolicyNotationModel", name := "faultPosition", desc := "()I" } : Jvm.MethodName)) ∈ lw_all := lw_g (lw_at lw_m11 217 rfl) rfl
theorem q2712 : (Jvm.Cond.methodLink "PolicyNotationLaw" (288 : Nat) ({ cls := "PolicyNotationModel", name := "explain", desc := "(III)I" } : Jvm.MethodName)) ∈ lw_all := lw_g (lw_at lw_m11 221 rfl) rfl
theorem q2733 : (Jvm.Cond.methodLink "PolicyNotationLaw" (291 : Nat) ({ cls := "PolicyNotationModel", name := "character", desc := "(I)C" } : Jvm.MethodName)) ∈ lw_all := lw_g (lw_at lw_m12 2 rfl) rfl
theorem q2737 : (Jvm.Cond.methodLink "PolicyNotationLaw" (295 : Nat) ({ cls := "PolicyNotationModel", name := "reason", desc := "(Z)I" } : Jvm.MethodName)) ∈ lw_all := lw_g (lw_at lw_m12 6 rfl) rfl
theorem q2741 : (Jvm.Cond.methodLink "PolicyNotationLaw" (298 : Nat) ({ cls := "PolicyNotationModel", name := "account", desc := "(I)I" } : Jvm.MethodName)) ∈ lw_all := lw_g (lw_at lw_m12 10 rfl) rfl
theorem q2750 : (Jvm.Cond.methodLink "PolicyNotationLaw" (301 : Nat) ({ cls := "PolicyNotationModel", name := "undo", desc := "()I" } : Jvm.MethodName)) ∈ lw_all := lw_g (lw_at lw_m12 19 rfl) rfl
theorem q2754 : (Jvm.Cond.methodLink "PolicyNotationLaw" (305 : Nat) ({ cls := "PolicyNotationModel", name := "save", desc := "()I" } : Jvm.MethodName)) ∈ lw_all := lw_g (lw_at lw_m12 23 rfl) rfl
theorem q2758 : (Jvm.Cond.methodLink "PolicyNotationLaw" (308 : Nat) ({ cls := "PolicyNotationModel", name := "restore", desc := "()I" } : Jvm.MethodName)) ∈ lw_all := lw_g (lw_at lw_m12 27 rfl) rfl
