set_option maxRecDepth 100000
/-! PolicyNotation -/
def RX1 : String := "PolicyNotation"
def TX1 : u_T := fun k => match k with
  | 0 => ("PolicyNotation", "policy", "LPolicyNotation$Policy;", false)
  | 1 => ("PolicyNotation", "saved", "LPolicyNotation$Policy;", false)
  | 2 => ("PolicyNotation", "past", "Ljava/util/ArrayDeque;", true)
  | 3 => ("PolicyNotation", "look", "LPolicyNotation$Look;", true)
  | 4 => ("PolicyNotation", "reason", "I", false)
  | 5 => ("PolicyNotation", "detail", "I", false)
  | 6 => ("PolicyNotation", "sheet", "[LPolicyNotation$Test;", false)
  | 7 => ("PolicyNotation", "rows", "[[F", true)
  | 8 => ("PolicyNotation", "text", "Ljava/lang/StringBuilder;", true)
  | 9 => ("PolicyNotation", "faultAt", "I", false)
  | _ => ("PolicyNotation", "explanation", "Ljava/lang/StringBuilder;", true)
def tyX1 : Nat → FieldType := fun k => match k with
  | 0 => .object "PolicyNotation$Policy"
  | 1 => .object "PolicyNotation$Policy"
  | 2 => .object "java/util/ArrayDeque"
  | 3 => .object "PolicyNotation$Look"
  | 4 => .int
  | 5 => .int
  | 6 => .array (.object "PolicyNotation$Test")
  | 7 => .array (.array .float)
  | 8 => .object "java/lang/StringBuilder"
  | 9 => .int
  | _ => .object "java/lang/StringBuilder"
abbrev wsX10 : List Cond := u_ws RX1 TX1 11
theorem nmX1 : ∀ a, a < 11 → ∀ b, b < 11 → a ≠ b → (TX1 a).2.1 ≠ (TX1 b).2.1 := by decide +kernel
theorem tyX1_ok : ∀ k, k < 11 → parseFieldDescriptor (TX1 k).2.2.1 = some (tyX1 k) := by decide +kernel
abbrev cX1_init : ByteArray := prog_1_method_1_code
def yX1_init : MethodName := ⟨RX1, "<init>", "()V"⟩
def dkwX1_init_3 : List UInt8 := [42, 187, 0, 44, 89, 183, 0, 46, 181, 0, 55, 177]
abbrev dktX1_init_3 : List UInt8 := dkwX1_init_3 ++ []
def dkwX1_init_2 : List UInt8 := [42, 6, 189, 0, 38, 181, 0, 40, 42, 187, 0, 44, 89, 183, 0, 46, 181, 0, 47, 42, 2, 181, 0, 51]
abbrev dktX1_init_2 : List UInt8 := dkwX1_init_2 ++ dktX1_init_3
def dkwX1_init_1 : List UInt8 := [181, 0, 19, 42, 187, 0, 23, 89, 42, 183, 0, 25, 181, 0, 28, 42, 16, 6, 189, 0, 32, 181, 0, 34]
abbrev dktX1_init_1 : List UInt8 := dkwX1_init_1 ++ dktX1_init_2
def dkwX1_init_0 : List UInt8 := [42, 183, 0, 1, 42, 187, 0, 7, 89, 183, 0, 9, 181, 0, 10, 42, 187, 0, 16, 89, 183, 0, 18]
abbrev dktX1_init_0 : List UInt8 := dkwX1_init_0 ++ dktX1_init_1
theorem dksX1_init_0 : cX1_init.data.toList.drop 0 = dktX1_init_0 := by decide +kernel
theorem dksX1_init_1 : cX1_init.data.toList.drop 23 = dktX1_init_1 := dk_seg dksX1_init_0 23 rfl rfl
theorem dksX1_init_2 : cX1_init.data.toList.drop 47 = dktX1_init_2 := dk_seg dksX1_init_1 24 rfl rfl
theorem dksX1_init_3 : cX1_init.data.toList.drop 71 = dktX1_init_3 := dk_seg dksX1_init_2 24 rfl rfl
theorem dX1_init_0 : decode cX1_init 0 = .ok (.aload_n 0, 1) := dk_42 (dk_at dksX1_init_0 0 rfl rfl)
theorem dX1_init_1 : decode cX1_init 1 = .ok (.invokespecial 1, 3) := dk_183 0 1 (dk_at dksX1_init_0 1 rfl rfl)
theorem dX1_init_4 : decode cX1_init 4 = .ok (.aload_n 0, 1) := dk_42 (dk_at dksX1_init_0 4 rfl rfl)
theorem dX1_init_5 : decode cX1_init 5 = .ok (.new 7, 3) := dk_187 0 7 (dk_at dksX1_init_0 5 rfl rfl)
theorem dX1_init_8 : decode cX1_init 8 = .ok (.dup, 1) := dk_89 (dk_at dksX1_init_0 8 rfl rfl)
theorem dX1_init_9 : decode cX1_init 9 = .ok (.invokespecial 9, 3) := dk_183 0 9 (dk_at dksX1_init_0 9 rfl rfl)
theorem dX1_init_12 : decode cX1_init 12 = .ok (.putfield 10, 3) := dk_181 0 10 (dk_at dksX1_init_0 12 rfl rfl)
theorem dX1_init_15 : decode cX1_init 15 = .ok (.aload_n 0, 1) := dk_42 (dk_at dksX1_init_0 15 rfl rfl)
theorem dX1_init_16 : decode cX1_init 16 = .ok (.new 16, 3) := dk_187 0 16 (dk_at dksX1_init_0 16 rfl rfl)
theorem dX1_init_19 : decode cX1_init 19 = .ok (.dup, 1) := dk_89 (dk_at dksX1_init_0 19 rfl rfl)
theorem dX1_init_20 : decode cX1_init 20 = .ok (.invokespecial 18, 3) := dk_183 0 18 (dk_at dksX1_init_0 20 rfl rfl)
theorem dX1_init_23 : decode cX1_init 23 = .ok (.putfield 19, 3) := dk_181 0 19 (dk_at dksX1_init_1 0 rfl rfl)
theorem dX1_init_26 : decode cX1_init 26 = .ok (.aload_n 0, 1) := dk_42 (dk_at dksX1_init_1 3 rfl rfl)
theorem dX1_init_27 : decode cX1_init 27 = .ok (.new 23, 3) := dk_187 0 23 (dk_at dksX1_init_1 4 rfl rfl)
theorem dX1_init_30 : decode cX1_init 30 = .ok (.dup, 1) := dk_89 (dk_at dksX1_init_1 7 rfl rfl)
theorem dX1_init_31 : decode cX1_init 31 = .ok (.aload_n 0, 1) := dk_42 (dk_at dksX1_init_1 8 rfl rfl)
theorem dX1_init_32 : decode cX1_init 32 = .ok (.invokespecial 25, 3) := dk_183 0 25 (dk_at dksX1_init_1 9 rfl rfl)
theorem dX1_init_35 : decode cX1_init 35 = .ok (.putfield 28, 3) := dk_181 0 28 (dk_at dksX1_init_1 12 rfl rfl)
theorem dX1_init_38 : decode cX1_init 38 = .ok (.aload_n 0, 1) := dk_42 (dk_at dksX1_init_1 15 rfl rfl)
theorem dX1_init_39 : decode cX1_init 39 = .ok (.bipush 6, 2) := dk_16 6 (dk_at dksX1_init_1 16 rfl rfl)
theorem dX1_init_41 : decode cX1_init 41 = .ok (.anewarray 32, 3) := dk_189 0 32 (dk_at dksX1_init_1 18 rfl rfl)
theorem dX1_init_44 : decode cX1_init 44 = .ok (.putfield 34, 3) := dk_181 0 34 (dk_at dksX1_init_1 21 rfl rfl)
theorem dX1_init_47 : decode cX1_init 47 = .ok (.aload_n 0, 1) := dk_42 (dk_at dksX1_init_2 0 rfl rfl)
theorem dX1_init_48 : decode cX1_init 48 = .ok (.iconst 3, 1) := dk_6 (dk_at dksX1_init_2 1 rfl rfl)
theorem dX1_init_49 : decode cX1_init 49 = .ok (.anewarray 38, 3) := dk_189 0 38 (dk_at dksX1_init_2 2 rfl rfl)
theorem dX1_init_52 : decode cX1_init 52 = .ok (.putfield 40, 3) := dk_181 0 40 (dk_at dksX1_init_2 5 rfl rfl)
theorem dX1_init_55 : decode cX1_init 55 = .ok (.aload_n 0, 1) := dk_42 (dk_at dksX1_init_2 8 rfl rfl)
theorem dX1_init_56 : decode cX1_init 56 = .ok (.new 44, 3) := dk_187 0 44 (dk_at dksX1_init_2 9 rfl rfl)
theorem dX1_init_59 : decode cX1_init 59 = .ok (.dup, 1) := dk_89 (dk_at dksX1_init_2 12 rfl rfl)
theorem dX1_init_60 : decode cX1_init 60 = .ok (.invokespecial 46, 3) := dk_183 0 46 (dk_at dksX1_init_2 13 rfl rfl)
theorem dX1_init_63 : decode cX1_init 63 = .ok (.putfield 47, 3) := dk_181 0 47 (dk_at dksX1_init_2 16 rfl rfl)
theorem dX1_init_66 : decode cX1_init 66 = .ok (.aload_n 0, 1) := dk_42 (dk_at dksX1_init_2 19 rfl rfl)
theorem dX1_init_67 : decode cX1_init 67 = .ok (.iconst (-1), 1) := dk_2 (dk_at dksX1_init_2 20 rfl rfl)
theorem dX1_init_68 : decode cX1_init 68 = .ok (.putfield 51, 3) := dk_181 0 51 (dk_at dksX1_init_2 21 rfl rfl)
theorem dX1_init_71 : decode cX1_init 71 = .ok (.aload_n 0, 1) := dk_42 (dk_at dksX1_init_3 0 rfl rfl)
theorem dX1_init_72 : decode cX1_init 72 = .ok (.new 44, 3) := dk_187 0 44 (dk_at dksX1_init_3 1 rfl rfl)
theorem dX1_init_75 : decode cX1_init 75 = .ok (.dup, 1) := dk_89 (dk_at dksX1_init_3 4 rfl rfl)
theorem dX1_init_76 : decode cX1_init 76 = .ok (.invokespecial 46, 3) := dk_183 0 46 (dk_at dksX1_init_3 5 rfl rfl)
theorem dX1_init_79 : decode cX1_init 79 = .ok (.putfield 55, 3) := dk_181 0 55 (dk_at dksX1_init_3 8 rfl rfl)
theorem dX1_init_82 : decode cX1_init 82 = .ok (.return_, 1) := dk_177 (dk_at dksX1_init_3 11 rfl rfl)
abbrev cX1_wrong : ByteArray := prog_1_method_51_code
def yX1_wrong : MethodName := ⟨RX1, "wrong", "()I"⟩
def dkwX1_wrong_2 : List UInt8 := [60, 132, 2, 1, 167, 255, 208, 27, 172]
abbrev dktX1_wrong_2 : List UInt8 := dkwX1_wrong_2 ++ []
def dkwX1_wrong_1 : List UInt8 := [180, 1, 118, 28, 182, 1, 54, 192, 1, 121, 182, 1, 144, 153, 0, 7, 3, 167, 0, 6, 4, 28, 120, 128]
abbrev dktX1_wrong_1 : List UInt8 := dkwX1_wrong_1 ++ dktX1_wrong_2
def dkwX1_wrong_0 : List UInt8 := [3, 60, 3, 61, 28, 42, 180, 0, 10, 180, 1, 118, 182, 0, 168, 162, 0, 40, 27, 42, 42, 180, 0, 10]
abbrev dktX1_wrong_0 : List UInt8 := dkwX1_wrong_0 ++ dktX1_wrong_1
theorem dksX1_wrong_0 : cX1_wrong.data.toList.drop 0 = dktX1_wrong_0 := by decide +kernel
theorem dksX1_wrong_1 : cX1_wrong.data.toList.drop 24 = dktX1_wrong_1 := dk_seg dksX1_wrong_0 24 rfl rfl
theorem dksX1_wrong_2 : cX1_wrong.data.toList.drop 48 = dktX1_wrong_2 := dk_seg dksX1_wrong_1 24 rfl rfl
theorem dX1_wrong_0 : decode cX1_wrong 0 = .ok (.iconst 0, 1) := dk_3 (dk_at dksX1_wrong_0 0 rfl rfl)
theorem dX1_wrong_1 : decode cX1_wrong 1 = .ok (.istore_n 1, 1) := dk_60 (dk_at dksX1_wrong_0 1 rfl rfl)
theorem dX1_wrong_2 : decode cX1_wrong 2 = .ok (.iconst 0, 1) := dk_3 (dk_at dksX1_wrong_0 2 rfl rfl)
theorem dX1_wrong_3 : decode cX1_wrong 3 = .ok (.istore_n 2, 1) := dk_61 (dk_at dksX1_wrong_0 3 rfl rfl)
theorem dX1_wrong_4 : decode cX1_wrong 4 = .ok (.iload_n 2, 1) := dk_28 (dk_at dksX1_wrong_0 4 rfl rfl)
theorem dX1_wrong_5 : decode cX1_wrong 5 = .ok (.aload_n 0, 1) := dk_42 (dk_at dksX1_wrong_0 5 rfl rfl)
theorem dX1_wrong_6 : decode cX1_wrong 6 = .ok (.getfield 10, 3) := dk_180 0 10 (dk_at dksX1_wrong_0 6 rfl rfl)
theorem dX1_wrong_9 : decode cX1_wrong 9 = .ok (.getfield 374, 3) := dk_180 1 118 (dk_at dksX1_wrong_0 9 rfl rfl)
theorem dX1_wrong_12 : decode cX1_wrong 12 = .ok (.invokevirtual 168, 3) := dk_182 0 168 (dk_at dksX1_wrong_0 12 rfl rfl)
theorem dX1_wrong_15 : decode cX1_wrong 15 = .ok (.if_icmp .ge 40, 3) := dk_162 0 40 (dk_at dksX1_wrong_0 15 rfl rfl)
theorem dX1_wrong_18 : decode cX1_wrong 18 = .ok (.iload_n 1, 1) := dk_27 (dk_at dksX1_wrong_0 18 rfl rfl)
theorem dX1_wrong_19 : decode cX1_wrong 19 = .ok (.aload_n 0, 1) := dk_42 (dk_at dksX1_wrong_0 19 rfl rfl)
theorem dX1_wrong_20 : decode cX1_wrong 20 = .ok (.aload_n 0, 1) := dk_42 (dk_at dksX1_wrong_0 20 rfl rfl)
theorem dX1_wrong_21 : decode cX1_wrong 21 = .ok (.getfield 10, 3) := dk_180 0 10 (dk_at dksX1_wrong_0 21 rfl rfl)
theorem dX1_wrong_24 : decode cX1_wrong 24 = .ok (.getfield 374, 3) := dk_180 1 118 (dk_at dksX1_wrong_1 0 rfl rfl)
theorem dX1_wrong_27 : decode cX1_wrong 27 = .ok (.iload_n 2, 1) := dk_28 (dk_at dksX1_wrong_1 3 rfl rfl)
theorem dX1_wrong_28 : decode cX1_wrong 28 = .ok (.invokevirtual 310, 3) := dk_182 1 54 (dk_at dksX1_wrong_1 4 rfl rfl)
theorem dX1_wrong_31 : decode cX1_wrong 31 = .ok (.checkcast 377, 3) := dk_192 1 121 (dk_at dksX1_wrong_1 7 rfl rfl)
theorem dX1_wrong_34 : decode cX1_wrong 34 = .ok (.invokevirtual 400, 3) := dk_182 1 144 (dk_at dksX1_wrong_1 10 rfl rfl)
theorem dX1_wrong_37 : decode cX1_wrong 37 = .ok (.ifCond .eq 7, 3) := dk_153 0 7 (dk_at dksX1_wrong_1 13 rfl rfl)
theorem dX1_wrong_40 : decode cX1_wrong 40 = .ok (.iconst 0, 1) := dk_3 (dk_at dksX1_wrong_1 16 rfl rfl)
theorem dX1_wrong_41 : decode cX1_wrong 41 = .ok (.goto 6, 3) := dk_167 0 6 (dk_at dksX1_wrong_1 17 rfl rfl)
theorem dX1_wrong_44 : decode cX1_wrong 44 = .ok (.iconst 1, 1) := dk_4 (dk_at dksX1_wrong_1 20 rfl rfl)
theorem dX1_wrong_45 : decode cX1_wrong 45 = .ok (.iload_n 2, 1) := dk_28 (dk_at dksX1_wrong_1 21 rfl rfl)
theorem dX1_wrong_46 : decode cX1_wrong 46 = .ok (.ishl, 1) := dk_120 (dk_at dksX1_wrong_1 22 rfl rfl)
theorem dX1_wrong_47 : decode cX1_wrong 47 = .ok (.ior, 1) := dk_128 (dk_at dksX1_wrong_1 23 rfl rfl)
theorem dX1_wrong_48 : decode cX1_wrong 48 = .ok (.istore_n 1, 1) := dk_60 (dk_at dksX1_wrong_2 0 rfl rfl)
theorem dX1_wrong_49 : decode cX1_wrong 49 = .ok (.iinc 2 1, 3) := dk_132 2 1 (dk_at dksX1_wrong_2 1 rfl rfl)
theorem dX1_wrong_52 : decode cX1_wrong 52 = .ok (.goto (-48), 3) := dk_167 255 208 (dk_at dksX1_wrong_2 4 rfl rfl)
theorem dX1_wrong_55 : decode cX1_wrong 55 = .ok (.iload_n 1, 1) := dk_27 (dk_at dksX1_wrong_2 7 rfl rfl)
theorem dX1_wrong_56 : decode cX1_wrong 56 = .ok (.ireturn, 1) := dk_172 (dk_at dksX1_wrong_2 8 rfl rfl)
abbrev cX1_isRight : ByteArray := prog_1_method_45_code
def yX1_isRight : MethodName := ⟨RX1, "isRight", "(LPolicyNotation$Work;)Z"⟩
def dkwX1_isRight_0 : List UInt8 := [42, 43, 2, 182, 1, 129, 172]
abbrev dktX1_isRight_0 : List UInt8 := dkwX1_isRight_0 ++ []
theorem dksX1_isRight_0 : cX1_isRight.data.toList.drop 0 = dktX1_isRight_0 := by decide +kernel
theorem dX1_isRight_0 : decode cX1_isRight 0 = .ok (.aload_n 0, 1) := dk_42 (dk_at dksX1_isRight_0 0 rfl rfl)
theorem dX1_isRight_1 : decode cX1_isRight 1 = .ok (.aload_n 1, 1) := dk_43 (dk_at dksX1_isRight_0 1 rfl rfl)
theorem dX1_isRight_2 : decode cX1_isRight 2 = .ok (.iconst (-1), 1) := dk_2 (dk_at dksX1_isRight_0 2 rfl rfl)
theorem dX1_isRight_3 : decode cX1_isRight 3 = .ok (.invokevirtual 385, 3) := dk_182 1 129 (dk_at dksX1_isRight_0 3 rfl rfl)
theorem dX1_isRight_6 : decode cX1_isRight 6 = .ok (.ireturn, 1) := dk_172 (dk_at dksX1_isRight_0 6 rfl rfl)
abbrev cX1_isRight_2 : ByteArray := prog_1_method_46_code
def yX1_isRight_2 : MethodName := ⟨RX1, "isRight", "(LPolicyNotation$Work;I)Z"⟩
def dkwX1_isRight_2_0 : List UInt8 := [42, 43, 28, 182, 1, 133, 43, 180, 1, 137, 166, 0, 7, 4, 167, 0, 4, 3, 172]
abbrev dktX1_isRight_2_0 : List UInt8 := dkwX1_isRight_2_0 ++ []
theorem dksX1_isRight_2_0 : cX1_isRight_2.data.toList.drop 0 = dktX1_isRight_2_0 := by decide +kernel
theorem dX1_isRight_2_0 : decode cX1_isRight_2 0 = .ok (.aload_n 0, 1) := dk_42 (dk_at dksX1_isRight_2_0 0 rfl rfl)
theorem dX1_isRight_2_1 : decode cX1_isRight_2 1 = .ok (.aload_n 1, 1) := dk_43 (dk_at dksX1_isRight_2_0 1 rfl rfl)
theorem dX1_isRight_2_2 : decode cX1_isRight_2 2 = .ok (.iload_n 2, 1) := dk_28 (dk_at dksX1_isRight_2_0 2 rfl rfl)
theorem dX1_isRight_2_3 : decode cX1_isRight_2 3 = .ok (.invokevirtual 389, 3) := dk_182 1 133 (dk_at dksX1_isRight_2_0 3 rfl rfl)
theorem dX1_isRight_2_6 : decode cX1_isRight_2 6 = .ok (.aload_n 1, 1) := dk_43 (dk_at dksX1_isRight_2_0 6 rfl rfl)
theorem dX1_isRight_2_7 : decode cX1_isRight_2 7 = .ok (.getfield 393, 3) := dk_180 1 137 (dk_at dksX1_isRight_2_0 7 rfl rfl)
theorem dX1_isRight_2_10 : decode cX1_isRight_2 10 = .ok (.if_acmp .ne 7, 3) := dk_166 0 7 (dk_at dksX1_isRight_2_0 10 rfl rfl)
theorem dX1_isRight_2_13 : decode cX1_isRight_2 13 = .ok (.iconst 1, 1) := dk_4 (dk_at dksX1_isRight_2_0 13 rfl rfl)
theorem dX1_isRight_2_14 : decode cX1_isRight_2 14 = .ok (.goto 4, 3) := dk_167 0 4 (dk_at dksX1_isRight_2_0 14 rfl rfl)
theorem dX1_isRight_2_17 : decode cX1_isRight_2 17 = .ok (.iconst 0, 1) := dk_3 (dk_at dksX1_isRight_2_0 17 rfl rfl)
theorem dX1_isRight_2_18 : decode cX1_isRight_2 18 = .ok (.ireturn, 1) := dk_172 (dk_at dksX1_isRight_2_0 18 rfl rfl)
abbrev cX1_outcomeOf : ByteArray := prog_1_method_44_code
def yX1_outcomeOf : MethodName := ⟨RX1, "outcomeOf", "(LPolicyNotation$Work;I)LPolicyNotation$Effect;"⟩
def dkwX1_outcomeOf_0 : List UInt8 := [42, 180, 0, 28, 43, 28, 182, 1, 126, 182, 1, 85, 176]
abbrev dktX1_outcomeOf_0 : List UInt8 := dkwX1_outcomeOf_0 ++ []
theorem dksX1_outcomeOf_0 : cX1_outcomeOf.data.toList.drop 0 = dktX1_outcomeOf_0 := by decide +kernel
theorem dX1_outcomeOf_0 : decode cX1_outcomeOf 0 = .ok (.aload_n 0, 1) := dk_42 (dk_at dksX1_outcomeOf_0 0 rfl rfl)
theorem dX1_outcomeOf_1 : decode cX1_outcomeOf 1 = .ok (.getfield 28, 3) := dk_180 0 28 (dk_at dksX1_outcomeOf_0 1 rfl rfl)
theorem dX1_outcomeOf_4 : decode cX1_outcomeOf 4 = .ok (.aload_n 1, 1) := dk_43 (dk_at dksX1_outcomeOf_0 4 rfl rfl)
theorem dX1_outcomeOf_5 : decode cX1_outcomeOf 5 = .ok (.iload_n 2, 1) := dk_28 (dk_at dksX1_outcomeOf_0 5 rfl rfl)
theorem dX1_outcomeOf_6 : decode cX1_outcomeOf 6 = .ok (.invokevirtual 382, 3) := dk_182 1 126 (dk_at dksX1_outcomeOf_0 6 rfl rfl)
theorem dX1_outcomeOf_9 : decode cX1_outcomeOf 9 = .ok (.invokevirtual 341, 3) := dk_182 1 85 (dk_at dksX1_outcomeOf_0 9 rfl rfl)
theorem dX1_outcomeOf_12 : decode cX1_outcomeOf 12 = .ok (.areturn, 1) := dk_176 (dk_at dksX1_outcomeOf_0 12 rfl rfl)
abbrev cX1_isIn : ByteArray := prog_1_method_2_code
def yX1_isIn : MethodName := ⟨RX1, "isIn", "(III)Z"⟩
def dkwX1_isIn_0 : List UInt8 := [26, 27, 161, 0, 12, 26, 28, 163, 0, 7, 4, 167, 0, 4, 3, 172]
abbrev dktX1_isIn_0 : List UInt8 := dkwX1_isIn_0 ++ []
theorem dksX1_isIn_0 : cX1_isIn.data.toList.drop 0 = dktX1_isIn_0 := by decide +kernel
theorem dX1_isIn_0 : decode cX1_isIn 0 = .ok (.iload_n 0, 1) := dk_26 (dk_at dksX1_isIn_0 0 rfl rfl)
theorem dX1_isIn_1 : decode cX1_isIn 1 = .ok (.iload_n 1, 1) := dk_27 (dk_at dksX1_isIn_0 1 rfl rfl)
theorem dX1_isIn_2 : decode cX1_isIn 2 = .ok (.if_icmp .lt 12, 3) := dk_161 0 12 (dk_at dksX1_isIn_0 2 rfl rfl)
theorem dX1_isIn_5 : decode cX1_isIn 5 = .ok (.iload_n 0, 1) := dk_26 (dk_at dksX1_isIn_0 5 rfl rfl)
theorem dX1_isIn_6 : decode cX1_isIn 6 = .ok (.iload_n 2, 1) := dk_28 (dk_at dksX1_isIn_0 6 rfl rfl)
theorem dX1_isIn_7 : decode cX1_isIn 7 = .ok (.if_icmp .gt 7, 3) := dk_163 0 7 (dk_at dksX1_isIn_0 7 rfl rfl)
theorem dX1_isIn_10 : decode cX1_isIn 10 = .ok (.iconst 1, 1) := dk_4 (dk_at dksX1_isIn_0 10 rfl rfl)
theorem dX1_isIn_11 : decode cX1_isIn 11 = .ok (.goto 4, 3) := dk_167 0 4 (dk_at dksX1_isIn_0 11 rfl rfl)
theorem dX1_isIn_14 : decode cX1_isIn 14 = .ok (.iconst 0, 1) := dk_3 (dk_at dksX1_isIn_0 14 rfl rfl)
theorem dX1_isIn_15 : decode cX1_isIn 15 = .ok (.ireturn, 1) := dk_172 (dk_at dksX1_isIn_0 15 rfl rfl)
abbrev cX1_tested : ByteArray := prog_1_method_52_code
def yX1_tested : MethodName := ⟨RX1, "tested", "()I"⟩
def dkwX1_tested_0 : List UInt8 := [42, 42, 186, 1, 158, 0, 0, 182, 1, 161, 172]
abbrev dktX1_tested_0 : List UInt8 := dkwX1_tested_0 ++ []
theorem dksX1_tested_0 : cX1_tested.data.toList.drop 0 = dktX1_tested_0 := by decide +kernel
theorem dX1_tested_0 : decode cX1_tested 0 = .ok (.aload_n 0, 1) := dk_42 (dk_at dksX1_tested_0 0 rfl rfl)
theorem dX1_tested_1 : decode cX1_tested 1 = .ok (.aload_n 0, 1) := dk_42 (dk_at dksX1_tested_0 1 rfl rfl)
theorem dX1_tested_2 : decode cX1_tested 2 = .ok (.invokedynamic 414, 5) := by decide +kernel
theorem dX1_tested_7 : decode cX1_tested 7 = .ok (.invokevirtual 417, 3) := dk_182 1 161 (dk_at dksX1_tested_0 7 rfl rfl)
theorem dX1_tested_10 : decode cX1_tested 10 = .ok (.ireturn, 1) := dk_172 (dk_at dksX1_tested_0 10 rfl rfl)
abbrev cX1_chained : ByteArray := prog_1_method_53_code
def yX1_chained : MethodName := ⟨RX1, "chained", "(LPolicyNotation$Work;)I"⟩
def dkwX1_chained_0 : List UInt8 := [42, 180, 0, 28, 43, 2, 182, 1, 126, 182, 1, 165, 172]
abbrev dktX1_chained_0 : List UInt8 := dkwX1_chained_0 ++ []
theorem dksX1_chained_0 : cX1_chained.data.toList.drop 0 = dktX1_chained_0 := by decide +kernel
theorem dX1_chained_0 : decode cX1_chained 0 = .ok (.aload_n 0, 1) := dk_42 (dk_at dksX1_chained_0 0 rfl rfl)
theorem dX1_chained_1 : decode cX1_chained 1 = .ok (.getfield 28, 3) := dk_180 0 28 (dk_at dksX1_chained_0 1 rfl rfl)
theorem dX1_chained_4 : decode cX1_chained 4 = .ok (.aload_n 1, 1) := dk_43 (dk_at dksX1_chained_0 4 rfl rfl)
theorem dX1_chained_5 : decode cX1_chained 5 = .ok (.iconst (-1), 1) := dk_2 (dk_at dksX1_chained_0 5 rfl rfl)
theorem dX1_chained_6 : decode cX1_chained 6 = .ok (.invokevirtual 382, 3) := dk_182 1 126 (dk_at dksX1_chained_0 6 rfl rfl)
theorem dX1_chained_9 : decode cX1_chained 9 = .ok (.invokevirtual 421, 3) := dk_182 1 165 (dk_at dksX1_chained_0 9 rfl rfl)
theorem dX1_chained_12 : decode cX1_chained 12 = .ok (.ireturn, 1) := dk_172 (dk_at dksX1_chained_0 12 rfl rfl)
abbrev cX1_together : ByteArray := prog_1_method_49_code
def yX1_together : MethodName := ⟨RX1, "together", "(LPolicyNotation$Told;)I"⟩
def dkwX1_together_2 : List UInt8 := [172]
abbrev dktX1_together_2 : List UInt8 := dkwX1_together_2 ++ []
def dkwX1_together_1 : List UInt8 := [180, 1, 118, 29, 182, 1, 54, 192, 1, 121, 185, 1, 153, 2, 0, 128, 61, 132, 3, 1, 167, 255, 216, 28]
abbrev dktX1_together_1 : List UInt8 := dkwX1_together_1 ++ dktX1_together_2
def dkwX1_together_0 : List UInt8 := [3, 61, 3, 62, 29, 42, 180, 0, 10, 180, 1, 118, 182, 0, 168, 162, 0, 32, 28, 43, 42, 180, 0, 10]
abbrev dktX1_together_0 : List UInt8 := dkwX1_together_0 ++ dktX1_together_1
theorem dksX1_together_0 : cX1_together.data.toList.drop 0 = dktX1_together_0 := by decide +kernel
theorem dksX1_together_1 : cX1_together.data.toList.drop 24 = dktX1_together_1 := dk_seg dksX1_together_0 24 rfl rfl
theorem dksX1_together_2 : cX1_together.data.toList.drop 48 = dktX1_together_2 := dk_seg dksX1_together_1 24 rfl rfl
theorem dX1_together_0 : decode cX1_together 0 = .ok (.iconst 0, 1) := dk_3 (dk_at dksX1_together_0 0 rfl rfl)
theorem dX1_together_1 : decode cX1_together 1 = .ok (.istore_n 2, 1) := dk_61 (dk_at dksX1_together_0 1 rfl rfl)
theorem dX1_together_2 : decode cX1_together 2 = .ok (.iconst 0, 1) := dk_3 (dk_at dksX1_together_0 2 rfl rfl)
theorem dX1_together_3 : decode cX1_together 3 = .ok (.istore_n 3, 1) := dk_62 (dk_at dksX1_together_0 3 rfl rfl)
theorem dX1_together_4 : decode cX1_together 4 = .ok (.iload_n 3, 1) := dk_29 (dk_at dksX1_together_0 4 rfl rfl)
theorem dX1_together_5 : decode cX1_together 5 = .ok (.aload_n 0, 1) := dk_42 (dk_at dksX1_together_0 5 rfl rfl)
theorem dX1_together_6 : decode cX1_together 6 = .ok (.getfield 10, 3) := dk_180 0 10 (dk_at dksX1_together_0 6 rfl rfl)
theorem dX1_together_9 : decode cX1_together 9 = .ok (.getfield 374, 3) := dk_180 1 118 (dk_at dksX1_together_0 9 rfl rfl)
theorem dX1_together_12 : decode cX1_together 12 = .ok (.invokevirtual 168, 3) := dk_182 0 168 (dk_at dksX1_together_0 12 rfl rfl)
theorem dX1_together_15 : decode cX1_together 15 = .ok (.if_icmp .ge 32, 3) := dk_162 0 32 (dk_at dksX1_together_0 15 rfl rfl)
theorem dX1_together_18 : decode cX1_together 18 = .ok (.iload_n 2, 1) := dk_28 (dk_at dksX1_together_0 18 rfl rfl)
theorem dX1_together_19 : decode cX1_together 19 = .ok (.aload_n 1, 1) := dk_43 (dk_at dksX1_together_0 19 rfl rfl)
theorem dX1_together_20 : decode cX1_together 20 = .ok (.aload_n 0, 1) := dk_42 (dk_at dksX1_together_0 20 rfl rfl)
theorem dX1_together_21 : decode cX1_together 21 = .ok (.getfield 10, 3) := dk_180 0 10 (dk_at dksX1_together_0 21 rfl rfl)
theorem dX1_together_24 : decode cX1_together 24 = .ok (.getfield 374, 3) := dk_180 1 118 (dk_at dksX1_together_1 0 rfl rfl)
theorem dX1_together_27 : decode cX1_together 27 = .ok (.iload_n 3, 1) := dk_29 (dk_at dksX1_together_1 3 rfl rfl)
theorem dX1_together_28 : decode cX1_together 28 = .ok (.invokevirtual 310, 3) := dk_182 1 54 (dk_at dksX1_together_1 4 rfl rfl)
theorem dX1_together_31 : decode cX1_together 31 = .ok (.checkcast 377, 3) := dk_192 1 121 (dk_at dksX1_together_1 7 rfl rfl)
theorem dX1_together_34 : decode cX1_together 34 = .ok (.invokeinterface 409 2, 5) := by decide +kernel
theorem dX1_together_39 : decode cX1_together 39 = .ok (.ior, 1) := dk_128 (dk_at dksX1_together_1 15 rfl rfl)
theorem dX1_together_40 : decode cX1_together 40 = .ok (.istore_n 2, 1) := dk_61 (dk_at dksX1_together_1 16 rfl rfl)
theorem dX1_together_41 : decode cX1_together 41 = .ok (.iinc 3 1, 3) := dk_132 3 1 (dk_at dksX1_together_1 17 rfl rfl)
theorem dX1_together_44 : decode cX1_together 44 = .ok (.goto (-40), 3) := dk_167 255 216 (dk_at dksX1_together_1 20 rfl rfl)
theorem dX1_together_47 : decode cX1_together 47 = .ok (.iload_n 2, 1) := dk_28 (dk_at dksX1_together_1 23 rfl rfl)
theorem dX1_together_48 : decode cX1_together 48 = .ok (.ireturn, 1) := dk_172 (dk_at dksX1_together_2 0 rfl rfl)
abbrev cX1_save : ByteArray := prog_1_method_80_code
def yX1_save : MethodName := ⟨RX1, "save", "()I"⟩
def dkwX1_save_0 : List UInt8 := [42, 42, 180, 0, 10, 182, 0, 174, 181, 2, 52, 42, 180, 2, 52, 180, 0, 240, 182, 0, 168, 172]
abbrev dktX1_save_0 : List UInt8 := dkwX1_save_0 ++ []
theorem dksX1_save_0 : cX1_save.data.toList.drop 0 = dktX1_save_0 := by decide +kernel
theorem dX1_save_0 : decode cX1_save 0 = .ok (.aload_n 0, 1) := dk_42 (dk_at dksX1_save_0 0 rfl rfl)
theorem dX1_save_1 : decode cX1_save 1 = .ok (.aload_n 0, 1) := dk_42 (dk_at dksX1_save_0 1 rfl rfl)
theorem dX1_save_2 : decode cX1_save 2 = .ok (.getfield 10, 3) := dk_180 0 10 (dk_at dksX1_save_0 2 rfl rfl)
theorem dX1_save_5 : decode cX1_save 5 = .ok (.invokevirtual 174, 3) := dk_182 0 174 (dk_at dksX1_save_0 5 rfl rfl)
theorem dX1_save_8 : decode cX1_save 8 = .ok (.putfield 564, 3) := dk_181 2 52 (dk_at dksX1_save_0 8 rfl rfl)
theorem dX1_save_11 : decode cX1_save 11 = .ok (.aload_n 0, 1) := dk_42 (dk_at dksX1_save_0 11 rfl rfl)
theorem dX1_save_12 : decode cX1_save 12 = .ok (.getfield 564, 3) := dk_180 2 52 (dk_at dksX1_save_0 12 rfl rfl)
theorem dX1_save_15 : decode cX1_save 15 = .ok (.getfield 240, 3) := dk_180 0 240 (dk_at dksX1_save_0 15 rfl rfl)
theorem dX1_save_18 : decode cX1_save 18 = .ok (.invokevirtual 168, 3) := dk_182 0 168 (dk_at dksX1_save_0 18 rfl rfl)
theorem dX1_save_21 : decode cX1_save 21 = .ok (.ireturn, 1) := dk_172 (dk_at dksX1_save_0 21 rfl rfl)
abbrev cX1_scope : ByteArray := prog_1_method_17_code
def yX1_scope : MethodName := ⟨RX1, "scope", "(I)I"⟩
def dkwX1_scope_3 : List UInt8 := [182, 0, 183, 87, 42, 45, 21, 4, 182, 0, 187, 172]
abbrev dktX1_scope_3 : List UInt8 := dkwX1_scope_3 ++ []
def dkwX1_scope_2 : List UInt8 := [182, 0, 168, 54, 4, 42, 180, 0, 10, 180, 0, 164, 187, 0, 178, 89, 44, 21, 4, 1, 183, 0, 180]
abbrev dktX1_scope_2 : List UInt8 := dkwX1_scope_2 ++ dktX1_scope_3
def dkwX1_scope_1 : List UInt8 := [4, 167, 0, 4, 3, 184, 0, 171, 42, 180, 0, 10, 182, 0, 174, 78, 42, 180, 0, 10, 180, 0, 164]
abbrev dktX1_scope_1 : List UInt8 := dkwX1_scope_1 ++ dktX1_scope_2
def dkwX1_scope_0 : List UInt8 := [42, 180, 0, 10, 27, 182, 0, 160, 77, 42, 180, 0, 10, 180, 0, 164, 182, 0, 168, 16, 10, 162, 0, 7]
abbrev dktX1_scope_0 : List UInt8 := dkwX1_scope_0 ++ dktX1_scope_1
theorem dksX1_scope_0 : cX1_scope.data.toList.drop 0 = dktX1_scope_0 := by decide +kernel
theorem dksX1_scope_1 : cX1_scope.data.toList.drop 24 = dktX1_scope_1 := dk_seg dksX1_scope_0 24 rfl rfl
theorem dksX1_scope_2 : cX1_scope.data.toList.drop 47 = dktX1_scope_2 := dk_seg dksX1_scope_1 23 rfl rfl
theorem dksX1_scope_3 : cX1_scope.data.toList.drop 70 = dktX1_scope_3 := dk_seg dksX1_scope_2 23 rfl rfl
theorem dX1_scope_0 : decode cX1_scope 0 = .ok (.aload_n 0, 1) := dk_42 (dk_at dksX1_scope_0 0 rfl rfl)
theorem dX1_scope_1 : decode cX1_scope 1 = .ok (.getfield 10, 3) := dk_180 0 10 (dk_at dksX1_scope_0 1 rfl rfl)
theorem dX1_scope_4 : decode cX1_scope 4 = .ok (.iload_n 1, 1) := dk_27 (dk_at dksX1_scope_0 4 rfl rfl)
theorem dX1_scope_5 : decode cX1_scope 5 = .ok (.invokevirtual 160, 3) := dk_182 0 160 (dk_at dksX1_scope_0 5 rfl rfl)
theorem dX1_scope_8 : decode cX1_scope 8 = .ok (.astore_n 2, 1) := dk_77 (dk_at dksX1_scope_0 8 rfl rfl)
theorem dX1_scope_9 : decode cX1_scope 9 = .ok (.aload_n 0, 1) := dk_42 (dk_at dksX1_scope_0 9 rfl rfl)
theorem dX1_scope_10 : decode cX1_scope 10 = .ok (.getfield 10, 3) := dk_180 0 10 (dk_at dksX1_scope_0 10 rfl rfl)
theorem dX1_scope_13 : decode cX1_scope 13 = .ok (.getfield 164, 3) := dk_180 0 164 (dk_at dksX1_scope_0 13 rfl rfl)
theorem dX1_scope_16 : decode cX1_scope 16 = .ok (.invokevirtual 168, 3) := dk_182 0 168 (dk_at dksX1_scope_0 16 rfl rfl)
theorem dX1_scope_19 : decode cX1_scope 19 = .ok (.bipush 10, 2) := dk_16 10 (dk_at dksX1_scope_0 19 rfl rfl)
theorem dX1_scope_21 : decode cX1_scope 21 = .ok (.if_icmp .ge 7, 3) := dk_162 0 7 (dk_at dksX1_scope_0 21 rfl rfl)
theorem dX1_scope_24 : decode cX1_scope 24 = .ok (.iconst 1, 1) := dk_4 (dk_at dksX1_scope_1 0 rfl rfl)
theorem dX1_scope_25 : decode cX1_scope 25 = .ok (.goto 4, 3) := dk_167 0 4 (dk_at dksX1_scope_1 1 rfl rfl)
theorem dX1_scope_28 : decode cX1_scope 28 = .ok (.iconst 0, 1) := dk_3 (dk_at dksX1_scope_1 4 rfl rfl)
theorem dX1_scope_29 : decode cX1_scope 29 = .ok (.invokestatic 171, 3) := dk_184 0 171 (dk_at dksX1_scope_1 5 rfl rfl)
theorem dX1_scope_32 : decode cX1_scope 32 = .ok (.aload_n 0, 1) := dk_42 (dk_at dksX1_scope_1 8 rfl rfl)
theorem dX1_scope_33 : decode cX1_scope 33 = .ok (.getfield 10, 3) := dk_180 0 10 (dk_at dksX1_scope_1 9 rfl rfl)
theorem dX1_scope_36 : decode cX1_scope 36 = .ok (.invokevirtual 174, 3) := dk_182 0 174 (dk_at dksX1_scope_1 12 rfl rfl)
theorem dX1_scope_39 : decode cX1_scope 39 = .ok (.astore_n 3, 1) := dk_78 (dk_at dksX1_scope_1 15 rfl rfl)
theorem dX1_scope_40 : decode cX1_scope 40 = .ok (.aload_n 0, 1) := dk_42 (dk_at dksX1_scope_1 16 rfl rfl)
theorem dX1_scope_41 : decode cX1_scope 41 = .ok (.getfield 10, 3) := dk_180 0 10 (dk_at dksX1_scope_1 17 rfl rfl)
theorem dX1_scope_44 : decode cX1_scope 44 = .ok (.getfield 164, 3) := dk_180 0 164 (dk_at dksX1_scope_1 20 rfl rfl)
theorem dX1_scope_47 : decode cX1_scope 47 = .ok (.invokevirtual 168, 3) := dk_182 0 168 (dk_at dksX1_scope_2 0 rfl rfl)
theorem dX1_scope_50 : decode cX1_scope 50 = .ok (.istore 4, 2) := dk_54 4 (dk_at dksX1_scope_2 3 rfl rfl)
theorem dX1_scope_52 : decode cX1_scope 52 = .ok (.aload_n 0, 1) := dk_42 (dk_at dksX1_scope_2 5 rfl rfl)
theorem dX1_scope_53 : decode cX1_scope 53 = .ok (.getfield 10, 3) := dk_180 0 10 (dk_at dksX1_scope_2 6 rfl rfl)
theorem dX1_scope_56 : decode cX1_scope 56 = .ok (.getfield 164, 3) := dk_180 0 164 (dk_at dksX1_scope_2 9 rfl rfl)
theorem dX1_scope_59 : decode cX1_scope 59 = .ok (.new 178, 3) := dk_187 0 178 (dk_at dksX1_scope_2 12 rfl rfl)
theorem dX1_scope_62 : decode cX1_scope 62 = .ok (.dup, 1) := dk_89 (dk_at dksX1_scope_2 15 rfl rfl)
theorem dX1_scope_63 : decode cX1_scope 63 = .ok (.aload_n 2, 1) := dk_44 (dk_at dksX1_scope_2 16 rfl rfl)
theorem dX1_scope_64 : decode cX1_scope 64 = .ok (.iload 4, 2) := dk_21 4 (dk_at dksX1_scope_2 17 rfl rfl)
theorem dX1_scope_66 : decode cX1_scope 66 = .ok (.aconst_null, 1) := dk_1 (dk_at dksX1_scope_2 19 rfl rfl)
theorem dX1_scope_67 : decode cX1_scope 67 = .ok (.invokespecial 180, 3) := dk_183 0 180 (dk_at dksX1_scope_2 20 rfl rfl)
theorem dX1_scope_70 : decode cX1_scope 70 = .ok (.invokevirtual 183, 3) := dk_182 0 183 (dk_at dksX1_scope_3 0 rfl rfl)
theorem dX1_scope_73 : decode cX1_scope 73 = .ok (.pop, 1) := dk_87 (dk_at dksX1_scope_3 3 rfl rfl)
theorem dX1_scope_74 : decode cX1_scope 74 = .ok (.aload_n 0, 1) := dk_42 (dk_at dksX1_scope_3 4 rfl rfl)
theorem dX1_scope_75 : decode cX1_scope 75 = .ok (.aload_n 3, 1) := dk_45 (dk_at dksX1_scope_3 5 rfl rfl)
theorem dX1_scope_76 : decode cX1_scope 76 = .ok (.iload 4, 2) := dk_21 4 (dk_at dksX1_scope_3 6 rfl rfl)
theorem dX1_scope_78 : decode cX1_scope 78 = .ok (.invokevirtual 187, 3) := dk_182 0 187 (dk_at dksX1_scope_3 8 rfl rfl)
theorem dX1_scope_81 : decode cX1_scope 81 = .ok (.ireturn, 1) := dk_172 (dk_at dksX1_scope_3 11 rfl rfl)
abbrev cX1_checkIndex : ByteArray := prog_1_method_4_code
def yX1_checkIndex : MethodName := ⟨RX1, "checkIndex", "(Z)V"⟩
def dkwX1_checkIndex_0 : List UInt8 := [26, 154, 0, 11, 187, 0, 58, 89, 183, 0, 60, 191, 177]
abbrev dktX1_checkIndex_0 : List UInt8 := dkwX1_checkIndex_0 ++ []
theorem dksX1_checkIndex_0 : cX1_checkIndex.data.toList.drop 0 = dktX1_checkIndex_0 := by decide +kernel
theorem dX1_checkIndex_0 : decode cX1_checkIndex 0 = .ok (.iload_n 0, 1) := dk_26 (dk_at dksX1_checkIndex_0 0 rfl rfl)
theorem dX1_checkIndex_1 : decode cX1_checkIndex 1 = .ok (.ifCond .ne 11, 3) := dk_154 0 11 (dk_at dksX1_checkIndex_0 1 rfl rfl)
theorem dX1_checkIndex_4 : decode cX1_checkIndex 4 = .ok (.new 58, 3) := dk_187 0 58 (dk_at dksX1_checkIndex_0 4 rfl rfl)
theorem dX1_checkIndex_7 : decode cX1_checkIndex 7 = .ok (.dup, 1) := dk_89 (dk_at dksX1_checkIndex_0 7 rfl rfl)
theorem dX1_checkIndex_8 : decode cX1_checkIndex 8 = .ok (.invokespecial 60, 3) := dk_183 0 60 (dk_at dksX1_checkIndex_0 8 rfl rfl)
theorem dX1_checkIndex_11 : decode cX1_checkIndex 11 = .ok (.athrow, 1) := dk_191 (dk_at dksX1_checkIndex_0 11 rfl rfl)
theorem dX1_checkIndex_12 : decode cX1_checkIndex 12 = .ok (.return_, 1) := dk_177 (dk_at dksX1_checkIndex_0 12 rfl rfl)
abbrev cX1_checkState : ByteArray := prog_1_method_6_code
def yX1_checkState : MethodName := ⟨RX1, "checkState", "(Z)V"⟩
def dkwX1_checkState_0 : List UInt8 := [26, 154, 0, 11, 187, 0, 64, 89, 183, 0, 66, 191, 177]
abbrev dktX1_checkState_0 : List UInt8 := dkwX1_checkState_0 ++ []
theorem dksX1_checkState_0 : cX1_checkState.data.toList.drop 0 = dktX1_checkState_0 := by decide +kernel
theorem dX1_checkState_0 : decode cX1_checkState 0 = .ok (.iload_n 0, 1) := dk_26 (dk_at dksX1_checkState_0 0 rfl rfl)
theorem dX1_checkState_1 : decode cX1_checkState 1 = .ok (.ifCond .ne 11, 3) := dk_154 0 11 (dk_at dksX1_checkState_0 1 rfl rfl)
theorem dX1_checkState_4 : decode cX1_checkState 4 = .ok (.new 64, 3) := dk_187 0 64 (dk_at dksX1_checkState_0 4 rfl rfl)
theorem dX1_checkState_7 : decode cX1_checkState 7 = .ok (.dup, 1) := dk_89 (dk_at dksX1_checkState_0 7 rfl rfl)
theorem dX1_checkState_8 : decode cX1_checkState 8 = .ok (.invokespecial 66, 3) := dk_183 0 66 (dk_at dksX1_checkState_0 8 rfl rfl)
theorem dX1_checkState_11 : decode cX1_checkState 11 = .ok (.athrow, 1) := dk_191 (dk_at dksX1_checkState_0 11 rfl rfl)
theorem dX1_checkState_12 : decode cX1_checkState 12 = .ok (.return_, 1) := dk_177 (dk_at dksX1_checkState_0 12 rfl rfl)
abbrev cX1_changed : ByteArray := prog_1_method_13_code
def yX1_changed : MethodName := ⟨RX1, "changed", "(LPolicyNotation$Policy;I)I"⟩
def dkwX1_changed_1 : List UInt8 := [182, 0, 130, 87, 28, 172]
abbrev dktX1_changed_1 : List UInt8 := dkwX1_changed_1 ++ []
def dkwX1_changed_0 : List UInt8 := [42, 180, 0, 19, 43, 182, 0, 123, 42, 180, 0, 19, 182, 0, 127, 16, 8, 164, 0, 11, 42, 180, 0, 19]
abbrev dktX1_changed_0 : List UInt8 := dkwX1_changed_0 ++ dktX1_changed_1
theorem dksX1_changed_0 : cX1_changed.data.toList.drop 0 = dktX1_changed_0 := by decide +kernel
theorem dksX1_changed_1 : cX1_changed.data.toList.drop 24 = dktX1_changed_1 := dk_seg dksX1_changed_0 24 rfl rfl
theorem dX1_changed_0 : decode cX1_changed 0 = .ok (.aload_n 0, 1) := dk_42 (dk_at dksX1_changed_0 0 rfl rfl)
theorem dX1_changed_1 : decode cX1_changed 1 = .ok (.getfield 19, 3) := dk_180 0 19 (dk_at dksX1_changed_0 1 rfl rfl)
theorem dX1_changed_4 : decode cX1_changed 4 = .ok (.aload_n 1, 1) := dk_43 (dk_at dksX1_changed_0 4 rfl rfl)
theorem dX1_changed_5 : decode cX1_changed 5 = .ok (.invokevirtual 123, 3) := dk_182 0 123 (dk_at dksX1_changed_0 5 rfl rfl)
theorem dX1_changed_8 : decode cX1_changed 8 = .ok (.aload_n 0, 1) := dk_42 (dk_at dksX1_changed_0 8 rfl rfl)
theorem dX1_changed_9 : decode cX1_changed 9 = .ok (.getfield 19, 3) := dk_180 0 19 (dk_at dksX1_changed_0 9 rfl rfl)
theorem dX1_changed_12 : decode cX1_changed 12 = .ok (.invokevirtual 127, 3) := dk_182 0 127 (dk_at dksX1_changed_0 12 rfl rfl)
theorem dX1_changed_15 : decode cX1_changed 15 = .ok (.bipush 8, 2) := dk_16 8 (dk_at dksX1_changed_0 15 rfl rfl)
theorem dX1_changed_17 : decode cX1_changed 17 = .ok (.if_icmp .le 11, 3) := dk_164 0 11 (dk_at dksX1_changed_0 17 rfl rfl)
theorem dX1_changed_20 : decode cX1_changed 20 = .ok (.aload_n 0, 1) := dk_42 (dk_at dksX1_changed_0 20 rfl rfl)
theorem dX1_changed_21 : decode cX1_changed 21 = .ok (.getfield 19, 3) := dk_180 0 19 (dk_at dksX1_changed_0 21 rfl rfl)
theorem dX1_changed_24 : decode cX1_changed 24 = .ok (.invokevirtual 130, 3) := dk_182 0 130 (dk_at dksX1_changed_1 0 rfl rfl)
theorem dX1_changed_27 : decode cX1_changed 27 = .ok (.pop, 1) := dk_87 (dk_at dksX1_changed_1 3 rfl rfl)
theorem dX1_changed_28 : decode cX1_changed 28 = .ok (.iload_n 2, 1) := dk_28 (dk_at dksX1_changed_1 4 rfl rfl)
theorem dX1_changed_29 : decode cX1_changed 29 = .ok (.ireturn, 1) := dk_172 (dk_at dksX1_changed_1 5 rfl rfl)
abbrev cX1_setDefault : ByteArray := prog_1_method_18_code
def yX1_setDefault : MethodName := ⟨RX1, "setDefault", "(II)I"⟩
def dkwX1_setDefault_2 : List UInt8 := [184, 0, 198, 181, 0, 191, 42, 25, 4, 21, 5, 182, 0, 187, 172]
abbrev dktX1_setDefault_2 : List UInt8 := dkwX1_setDefault_2 ++ []
def dkwX1_setDefault_1 : List UInt8 := [184, 0, 153, 42, 180, 0, 10, 182, 0, 174, 58, 4, 45, 180, 0, 191, 184, 0, 194, 54, 5, 45, 28]
abbrev dktX1_setDefault_1 : List UInt8 := dkwX1_setDefault_1 ++ dktX1_setDefault_2
def dkwX1_setDefault_0 : List UInt8 := [42, 180, 0, 10, 27, 182, 0, 160, 78, 28, 27, 154, 0, 7, 3, 167, 0, 4, 2, 5, 184, 0, 134]
abbrev dktX1_setDefault_0 : List UInt8 := dkwX1_setDefault_0 ++ dktX1_setDefault_1
theorem dksX1_setDefault_0 : cX1_setDefault.data.toList.drop 0 = dktX1_setDefault_0 := by decide +kernel
theorem dksX1_setDefault_1 : cX1_setDefault.data.toList.drop 23 = dktX1_setDefault_1 := dk_seg dksX1_setDefault_0 23 rfl rfl
theorem dksX1_setDefault_2 : cX1_setDefault.data.toList.drop 46 = dktX1_setDefault_2 := dk_seg dksX1_setDefault_1 23 rfl rfl
theorem dX1_setDefault_0 : decode cX1_setDefault 0 = .ok (.aload_n 0, 1) := dk_42 (dk_at dksX1_setDefault_0 0 rfl rfl)
theorem dX1_setDefault_1 : decode cX1_setDefault 1 = .ok (.getfield 10, 3) := dk_180 0 10 (dk_at dksX1_setDefault_0 1 rfl rfl)
theorem dX1_setDefault_4 : decode cX1_setDefault 4 = .ok (.iload_n 1, 1) := dk_27 (dk_at dksX1_setDefault_0 4 rfl rfl)
theorem dX1_setDefault_5 : decode cX1_setDefault 5 = .ok (.invokevirtual 160, 3) := dk_182 0 160 (dk_at dksX1_setDefault_0 5 rfl rfl)
theorem dX1_setDefault_8 : decode cX1_setDefault 8 = .ok (.astore_n 3, 1) := dk_78 (dk_at dksX1_setDefault_0 8 rfl rfl)
theorem dX1_setDefault_9 : decode cX1_setDefault 9 = .ok (.iload_n 2, 1) := dk_28 (dk_at dksX1_setDefault_0 9 rfl rfl)
theorem dX1_setDefault_10 : decode cX1_setDefault 10 = .ok (.iload_n 1, 1) := dk_27 (dk_at dksX1_setDefault_0 10 rfl rfl)
theorem dX1_setDefault_11 : decode cX1_setDefault 11 = .ok (.ifCond .ne 7, 3) := dk_154 0 7 (dk_at dksX1_setDefault_0 11 rfl rfl)
theorem dX1_setDefault_14 : decode cX1_setDefault 14 = .ok (.iconst 0, 1) := dk_3 (dk_at dksX1_setDefault_0 14 rfl rfl)
theorem dX1_setDefault_15 : decode cX1_setDefault 15 = .ok (.goto 4, 3) := dk_167 0 4 (dk_at dksX1_setDefault_0 15 rfl rfl)
theorem dX1_setDefault_18 : decode cX1_setDefault 18 = .ok (.iconst (-1), 1) := dk_2 (dk_at dksX1_setDefault_0 18 rfl rfl)
theorem dX1_setDefault_19 : decode cX1_setDefault 19 = .ok (.iconst 2, 1) := dk_5 (dk_at dksX1_setDefault_0 19 rfl rfl)
theorem dX1_setDefault_20 : decode cX1_setDefault 20 = .ok (.invokestatic 134, 3) := dk_184 0 134 (dk_at dksX1_setDefault_0 20 rfl rfl)
theorem dX1_setDefault_23 : decode cX1_setDefault 23 = .ok (.invokestatic 153, 3) := dk_184 0 153 (dk_at dksX1_setDefault_1 0 rfl rfl)
theorem dX1_setDefault_26 : decode cX1_setDefault 26 = .ok (.aload_n 0, 1) := dk_42 (dk_at dksX1_setDefault_1 3 rfl rfl)
theorem dX1_setDefault_27 : decode cX1_setDefault 27 = .ok (.getfield 10, 3) := dk_180 0 10 (dk_at dksX1_setDefault_1 4 rfl rfl)
theorem dX1_setDefault_30 : decode cX1_setDefault 30 = .ok (.invokevirtual 174, 3) := dk_182 0 174 (dk_at dksX1_setDefault_1 7 rfl rfl)
theorem dX1_setDefault_33 : decode cX1_setDefault 33 = .ok (.astore 4, 2) := dk_58 4 (dk_at dksX1_setDefault_1 10 rfl rfl)
theorem dX1_setDefault_35 : decode cX1_setDefault 35 = .ok (.aload_n 3, 1) := dk_45 (dk_at dksX1_setDefault_1 12 rfl rfl)
theorem dX1_setDefault_36 : decode cX1_setDefault 36 = .ok (.getfield 191, 3) := dk_180 0 191 (dk_at dksX1_setDefault_1 13 rfl rfl)
theorem dX1_setDefault_39 : decode cX1_setDefault 39 = .ok (.invokestatic 194, 3) := dk_184 0 194 (dk_at dksX1_setDefault_1 16 rfl rfl)
theorem dX1_setDefault_42 : decode cX1_setDefault 42 = .ok (.istore 5, 2) := dk_54 5 (dk_at dksX1_setDefault_1 19 rfl rfl)
theorem dX1_setDefault_44 : decode cX1_setDefault 44 = .ok (.aload_n 3, 1) := dk_45 (dk_at dksX1_setDefault_1 21 rfl rfl)
theorem dX1_setDefault_45 : decode cX1_setDefault 45 = .ok (.iload_n 2, 1) := dk_28 (dk_at dksX1_setDefault_1 22 rfl rfl)
theorem dX1_setDefault_46 : decode cX1_setDefault 46 = .ok (.invokestatic 198, 3) := dk_184 0 198 (dk_at dksX1_setDefault_2 0 rfl rfl)
theorem dX1_setDefault_49 : decode cX1_setDefault 49 = .ok (.putfield 191, 3) := dk_181 0 191 (dk_at dksX1_setDefault_2 3 rfl rfl)
theorem dX1_setDefault_52 : decode cX1_setDefault 52 = .ok (.aload_n 0, 1) := dk_42 (dk_at dksX1_setDefault_2 6 rfl rfl)
theorem dX1_setDefault_53 : decode cX1_setDefault 53 = .ok (.aload 4, 2) := dk_25 4 (dk_at dksX1_setDefault_2 7 rfl rfl)
theorem dX1_setDefault_55 : decode cX1_setDefault 55 = .ok (.iload 5, 2) := dk_21 5 (dk_at dksX1_setDefault_2 9 rfl rfl)
theorem dX1_setDefault_57 : decode cX1_setDefault 57 = .ok (.invokevirtual 187, 3) := dk_182 0 187 (dk_at dksX1_setDefault_2 11 rfl rfl)
theorem dX1_setDefault_60 : decode cX1_setDefault 60 = .ok (.ireturn, 1) := dk_172 (dk_at dksX1_setDefault_2 14 rfl rfl)
abbrev cX1_check : ByteArray := prog_1_method_5_code
def yX1_check : MethodName := ⟨RX1, "check", "(Z)V"⟩
def dkwX1_check_0 : List UInt8 := [26, 154, 0, 11, 187, 0, 61, 89, 183, 0, 63, 191, 177]
abbrev dktX1_check_0 : List UInt8 := dkwX1_check_0 ++ []
theorem dksX1_check_0 : cX1_check.data.toList.drop 0 = dktX1_check_0 := by decide +kernel
theorem dX1_check_0 : decode cX1_check 0 = .ok (.iload_n 0, 1) := dk_26 (dk_at dksX1_check_0 0 rfl rfl)
theorem dX1_check_1 : decode cX1_check 1 = .ok (.ifCond .ne 11, 3) := dk_154 0 11 (dk_at dksX1_check_0 1 rfl rfl)
theorem dX1_check_4 : decode cX1_check 4 = .ok (.new 61, 3) := dk_187 0 61 (dk_at dksX1_check_0 4 rfl rfl)
theorem dX1_check_7 : decode cX1_check 7 = .ok (.dup, 1) := dk_89 (dk_at dksX1_check_0 7 rfl rfl)
theorem dX1_check_8 : decode cX1_check 8 = .ok (.invokespecial 63, 3) := dk_183 0 63 (dk_at dksX1_check_0 8 rfl rfl)
theorem dX1_check_11 : decode cX1_check 11 = .ok (.athrow, 1) := dk_191 (dk_at dksX1_check_0 11 rfl rfl)
theorem dX1_check_12 : decode cX1_check 12 = .ok (.return_, 1) := dk_177 (dk_at dksX1_check_0 12 rfl rfl)
abbrev cX1_numberOf : ByteArray := prog_1_method_10_code
def yX1_numberOf : MethodName := ⟨RX1, "numberOf", "(LPolicyNotation$Effect;)I"⟩
def dkwX1_numberOf_0 : List UInt8 := [42, 199, 0, 7, 2, 167, 0, 7, 42, 182, 0, 105, 172]
abbrev dktX1_numberOf_0 : List UInt8 := dkwX1_numberOf_0 ++ []
theorem dksX1_numberOf_0 : cX1_numberOf.data.toList.drop 0 = dktX1_numberOf_0 := by decide +kernel
theorem dX1_numberOf_0 : decode cX1_numberOf 0 = .ok (.aload_n 0, 1) := dk_42 (dk_at dksX1_numberOf_0 0 rfl rfl)
theorem dX1_numberOf_1 : decode cX1_numberOf 1 = .ok (.ifnonnull 7, 3) := dk_199 0 7 (dk_at dksX1_numberOf_0 1 rfl rfl)
theorem dX1_numberOf_4 : decode cX1_numberOf 4 = .ok (.iconst (-1), 1) := dk_2 (dk_at dksX1_numberOf_0 4 rfl rfl)
theorem dX1_numberOf_5 : decode cX1_numberOf 5 = .ok (.goto 7, 3) := dk_167 0 7 (dk_at dksX1_numberOf_0 5 rfl rfl)
theorem dX1_numberOf_8 : decode cX1_numberOf 8 = .ok (.aload_n 0, 1) := dk_42 (dk_at dksX1_numberOf_0 8 rfl rfl)
theorem dX1_numberOf_9 : decode cX1_numberOf 9 = .ok (.invokevirtual 105, 3) := dk_182 0 105 (dk_at dksX1_numberOf_0 9 rfl rfl)
theorem dX1_numberOf_12 : decode cX1_numberOf 12 = .ok (.ireturn, 1) := dk_172 (dk_at dksX1_numberOf_0 12 rfl rfl)
abbrev cX1_effectOf : ByteArray := prog_1_method_9_code
def yX1_effectOf : MethodName := ⟨RX1, "effectOf", "(I)LPolicyNotation$Effect;"⟩
def dkwX1_effectOf_2 : List UInt8 := [178, 0, 93, 176, 178, 0, 99, 176, 178, 0, 102, 176, 1, 176]
abbrev dktX1_effectOf_2 : List UInt8 := dkwX1_effectOf_2 ++ []
def dkwX1_effectOf_1 : List UInt8 := [170, 0, 0, 0, 0, 0, 39, 0, 0, 0, 0, 0, 0, 0, 2, 0, 0, 0, 27, 0, 0, 0, 31, 0, 0, 0, 35]
abbrev dktX1_effectOf_1 : List UInt8 := dkwX1_effectOf_1 ++ dktX1_effectOf_2
def dkwX1_effectOf_0 : List UInt8 := [26]
abbrev dktX1_effectOf_0 : List UInt8 := dkwX1_effectOf_0 ++ dktX1_effectOf_1
theorem dksX1_effectOf_0 : cX1_effectOf.data.toList.drop 0 = dktX1_effectOf_0 := by decide +kernel
theorem dksX1_effectOf_1 : cX1_effectOf.data.toList.drop 1 = dktX1_effectOf_1 := dk_seg dksX1_effectOf_0 1 rfl rfl
theorem dksX1_effectOf_2 : cX1_effectOf.data.toList.drop 28 = dktX1_effectOf_2 := dk_seg dksX1_effectOf_1 27 rfl rfl
theorem dX1_effectOf_0 : decode cX1_effectOf 0 = .ok (.iload_n 0, 1) := dk_26 (dk_at dksX1_effectOf_0 0 rfl rfl)
theorem dX1_effectOf_1 : decode cX1_effectOf 1 = .ok (.tableswitch 39 0 2 #[27, 31, 35], 27) := by decide +kernel
theorem dX1_effectOf_28 : decode cX1_effectOf 28 = .ok (.getstatic 93, 3) := dk_178 0 93 (dk_at dksX1_effectOf_2 0 rfl rfl)
theorem dX1_effectOf_31 : decode cX1_effectOf 31 = .ok (.areturn, 1) := dk_176 (dk_at dksX1_effectOf_2 3 rfl rfl)
theorem dX1_effectOf_32 : decode cX1_effectOf 32 = .ok (.getstatic 99, 3) := dk_178 0 99 (dk_at dksX1_effectOf_2 4 rfl rfl)
theorem dX1_effectOf_35 : decode cX1_effectOf 35 = .ok (.areturn, 1) := dk_176 (dk_at dksX1_effectOf_2 7 rfl rfl)
theorem dX1_effectOf_36 : decode cX1_effectOf 36 = .ok (.getstatic 102, 3) := dk_178 0 102 (dk_at dksX1_effectOf_2 8 rfl rfl)
theorem dX1_effectOf_39 : decode cX1_effectOf 39 = .ok (.areturn, 1) := dk_176 (dk_at dksX1_effectOf_2 11 rfl rfl)
theorem dX1_effectOf_40 : decode cX1_effectOf 40 = .ok (.aconst_null, 1) := dk_1 (dk_at dksX1_effectOf_2 12 rfl rfl)
theorem dX1_effectOf_41 : decode cX1_effectOf 41 = .ok (.areturn, 1) := dk_176 (dk_at dksX1_effectOf_2 13 rfl rfl)
abbrev cX1_scopeOf : ByteArray := prog_1_method_19_code
def yX1_scopeOf : MethodName := ⟨RX1, "scopeOf", "(II)I"⟩
def dkwX1_scopeOf_4 : List UInt8 := [186, 0, 215, 0, 0, 182, 0, 219, 172]
abbrev dktX1_scopeOf_4 : List UInt8 := dkwX1_scopeOf_4 ++ []
def dkwX1_scopeOf_3 : List UInt8 := [45, 180, 0, 191, 184, 0, 194, 172, 45, 182, 0, 211, 182, 0, 105, 172, 42, 180, 0, 10, 27]
abbrev dktX1_scopeOf_3 : List UInt8 := dkwX1_scopeOf_3 ++ dktX1_scopeOf_4
def dkwX1_scopeOf_2 : List UInt8 := [45, 180, 0, 202, 199, 0, 7, 2, 167, 0, 10, 45, 180, 0, 202, 180, 0, 206, 172, 45, 182, 0, 208, 172]
abbrev dktX1_scopeOf_2 : List UInt8 := dkwX1_scopeOf_2 ++ dktX1_scopeOf_3
def dkwX1_scopeOf_1 : List UInt8 := [170, 0, 0, 0, 69, 0, 0, 0, 0, 0, 0, 0, 3, 0, 0, 0, 29, 0, 0, 0, 48, 0, 0, 0, 53, 0, 0, 0, 61]
abbrev dktX1_scopeOf_1 : List UInt8 := dkwX1_scopeOf_1 ++ dktX1_scopeOf_2
def dkwX1_scopeOf_0 : List UInt8 := [42, 180, 0, 10, 27, 182, 0, 160, 78, 28, 3, 7, 184, 0, 134, 184, 0, 153, 28]
abbrev dktX1_scopeOf_0 : List UInt8 := dkwX1_scopeOf_0 ++ dktX1_scopeOf_1
theorem dksX1_scopeOf_0 : cX1_scopeOf.data.toList.drop 0 = dktX1_scopeOf_0 := by decide +kernel
theorem dksX1_scopeOf_1 : cX1_scopeOf.data.toList.drop 19 = dktX1_scopeOf_1 := dk_seg dksX1_scopeOf_0 19 rfl rfl
theorem dksX1_scopeOf_2 : cX1_scopeOf.data.toList.drop 48 = dktX1_scopeOf_2 := dk_seg dksX1_scopeOf_1 29 rfl rfl
theorem dksX1_scopeOf_3 : cX1_scopeOf.data.toList.drop 72 = dktX1_scopeOf_3 := dk_seg dksX1_scopeOf_2 24 rfl rfl
theorem dksX1_scopeOf_4 : cX1_scopeOf.data.toList.drop 93 = dktX1_scopeOf_4 := dk_seg dksX1_scopeOf_3 21 rfl rfl
theorem dX1_scopeOf_0 : decode cX1_scopeOf 0 = .ok (.aload_n 0, 1) := dk_42 (dk_at dksX1_scopeOf_0 0 rfl rfl)
theorem dX1_scopeOf_1 : decode cX1_scopeOf 1 = .ok (.getfield 10, 3) := dk_180 0 10 (dk_at dksX1_scopeOf_0 1 rfl rfl)
theorem dX1_scopeOf_4 : decode cX1_scopeOf 4 = .ok (.iload_n 1, 1) := dk_27 (dk_at dksX1_scopeOf_0 4 rfl rfl)
theorem dX1_scopeOf_5 : decode cX1_scopeOf 5 = .ok (.invokevirtual 160, 3) := dk_182 0 160 (dk_at dksX1_scopeOf_0 5 rfl rfl)
theorem dX1_scopeOf_8 : decode cX1_scopeOf 8 = .ok (.astore_n 3, 1) := dk_78 (dk_at dksX1_scopeOf_0 8 rfl rfl)
theorem dX1_scopeOf_9 : decode cX1_scopeOf 9 = .ok (.iload_n 2, 1) := dk_28 (dk_at dksX1_scopeOf_0 9 rfl rfl)
theorem dX1_scopeOf_10 : decode cX1_scopeOf 10 = .ok (.iconst 0, 1) := dk_3 (dk_at dksX1_scopeOf_0 10 rfl rfl)
theorem dX1_scopeOf_11 : decode cX1_scopeOf 11 = .ok (.iconst 4, 1) := dk_7 (dk_at dksX1_scopeOf_0 11 rfl rfl)
theorem dX1_scopeOf_12 : decode cX1_scopeOf 12 = .ok (.invokestatic 134, 3) := dk_184 0 134 (dk_at dksX1_scopeOf_0 12 rfl rfl)
theorem dX1_scopeOf_15 : decode cX1_scopeOf 15 = .ok (.invokestatic 153, 3) := dk_184 0 153 (dk_at dksX1_scopeOf_0 15 rfl rfl)
theorem dX1_scopeOf_18 : decode cX1_scopeOf 18 = .ok (.iload_n 2, 1) := dk_28 (dk_at dksX1_scopeOf_0 18 rfl rfl)
theorem dX1_scopeOf_19 : decode cX1_scopeOf 19 = .ok (.tableswitch 69 0 3 #[29, 48, 53, 61], 29) := by decide +kernel
theorem dX1_scopeOf_48 : decode cX1_scopeOf 48 = .ok (.aload_n 3, 1) := dk_45 (dk_at dksX1_scopeOf_2 0 rfl rfl)
theorem dX1_scopeOf_49 : decode cX1_scopeOf 49 = .ok (.getfield 202, 3) := dk_180 0 202 (dk_at dksX1_scopeOf_2 1 rfl rfl)
theorem dX1_scopeOf_52 : decode cX1_scopeOf 52 = .ok (.ifnonnull 7, 3) := dk_199 0 7 (dk_at dksX1_scopeOf_2 4 rfl rfl)
theorem dX1_scopeOf_55 : decode cX1_scopeOf 55 = .ok (.iconst (-1), 1) := dk_2 (dk_at dksX1_scopeOf_2 7 rfl rfl)
theorem dX1_scopeOf_56 : decode cX1_scopeOf 56 = .ok (.goto 10, 3) := dk_167 0 10 (dk_at dksX1_scopeOf_2 8 rfl rfl)
theorem dX1_scopeOf_59 : decode cX1_scopeOf 59 = .ok (.aload_n 3, 1) := dk_45 (dk_at dksX1_scopeOf_2 11 rfl rfl)
theorem dX1_scopeOf_60 : decode cX1_scopeOf 60 = .ok (.getfield 202, 3) := dk_180 0 202 (dk_at dksX1_scopeOf_2 12 rfl rfl)
theorem dX1_scopeOf_63 : decode cX1_scopeOf 63 = .ok (.getfield 206, 3) := dk_180 0 206 (dk_at dksX1_scopeOf_2 15 rfl rfl)
theorem dX1_scopeOf_66 : decode cX1_scopeOf 66 = .ok (.ireturn, 1) := dk_172 (dk_at dksX1_scopeOf_2 18 rfl rfl)
theorem dX1_scopeOf_67 : decode cX1_scopeOf 67 = .ok (.aload_n 3, 1) := dk_45 (dk_at dksX1_scopeOf_2 19 rfl rfl)
theorem dX1_scopeOf_68 : decode cX1_scopeOf 68 = .ok (.invokevirtual 208, 3) := dk_182 0 208 (dk_at dksX1_scopeOf_2 20 rfl rfl)
theorem dX1_scopeOf_71 : decode cX1_scopeOf 71 = .ok (.ireturn, 1) := dk_172 (dk_at dksX1_scopeOf_2 23 rfl rfl)
theorem dX1_scopeOf_72 : decode cX1_scopeOf 72 = .ok (.aload_n 3, 1) := dk_45 (dk_at dksX1_scopeOf_3 0 rfl rfl)
theorem dX1_scopeOf_73 : decode cX1_scopeOf 73 = .ok (.getfield 191, 3) := dk_180 0 191 (dk_at dksX1_scopeOf_3 1 rfl rfl)
theorem dX1_scopeOf_76 : decode cX1_scopeOf 76 = .ok (.invokestatic 194, 3) := dk_184 0 194 (dk_at dksX1_scopeOf_3 4 rfl rfl)
theorem dX1_scopeOf_79 : decode cX1_scopeOf 79 = .ok (.ireturn, 1) := dk_172 (dk_at dksX1_scopeOf_3 7 rfl rfl)
theorem dX1_scopeOf_80 : decode cX1_scopeOf 80 = .ok (.aload_n 3, 1) := dk_45 (dk_at dksX1_scopeOf_3 8 rfl rfl)
theorem dX1_scopeOf_81 : decode cX1_scopeOf 81 = .ok (.invokevirtual 211, 3) := dk_182 0 211 (dk_at dksX1_scopeOf_3 9 rfl rfl)
theorem dX1_scopeOf_84 : decode cX1_scopeOf 84 = .ok (.invokevirtual 105, 3) := dk_182 0 105 (dk_at dksX1_scopeOf_3 12 rfl rfl)
theorem dX1_scopeOf_87 : decode cX1_scopeOf 87 = .ok (.ireturn, 1) := dk_172 (dk_at dksX1_scopeOf_3 15 rfl rfl)
theorem dX1_scopeOf_88 : decode cX1_scopeOf 88 = .ok (.aload_n 0, 1) := dk_42 (dk_at dksX1_scopeOf_3 16 rfl rfl)
theorem dX1_scopeOf_89 : decode cX1_scopeOf 89 = .ok (.getfield 10, 3) := dk_180 0 10 (dk_at dksX1_scopeOf_3 17 rfl rfl)
theorem dX1_scopeOf_92 : decode cX1_scopeOf 92 = .ok (.iload_n 1, 1) := dk_27 (dk_at dksX1_scopeOf_3 20 rfl rfl)
theorem dX1_scopeOf_93 : decode cX1_scopeOf 93 = .ok (.invokedynamic 215, 5) := by decide +kernel
theorem dX1_scopeOf_98 : decode cX1_scopeOf 98 = .ok (.invokevirtual 219, 3) := dk_182 0 219 (dk_at dksX1_scopeOf_4 5 rfl rfl)
theorem dX1_scopeOf_101 : decode cX1_scopeOf 101 = .ok (.ireturn, 1) := dk_172 (dk_at dksX1_scopeOf_4 8 rfl rfl)
abbrev cX1_lambda_scopeOf_0 : ByteArray := prog_1_method_87_code
def yX1_lambda_scopeOf_0 : MethodName := ⟨RX1, "lambda$scopeOf$0", "(ILPolicyNotation$Rule;)Z"⟩
def dkwX1_lambda_scopeOf_0_0 : List UInt8 := [43, 180, 1, 41, 26, 160, 0, 7, 4, 167, 0, 4, 3, 172]
abbrev dktX1_lambda_scopeOf_0_0 : List UInt8 := dkwX1_lambda_scopeOf_0_0 ++ []
theorem dksX1_lambda_scopeOf_0_0 : cX1_lambda_scopeOf_0.data.toList.drop 0 = dktX1_lambda_scopeOf_0_0 := by decide +kernel
theorem dX1_lambda_scopeOf_0_0 : decode cX1_lambda_scopeOf_0 0 = .ok (.aload_n 1, 1) := dk_43 (dk_at dksX1_lambda_scopeOf_0_0 0 rfl rfl)
theorem dX1_lambda_scopeOf_0_1 : decode cX1_lambda_scopeOf_0 1 = .ok (.getfield 297, 3) := dk_180 1 41 (dk_at dksX1_lambda_scopeOf_0_0 1 rfl rfl)
theorem dX1_lambda_scopeOf_0_4 : decode cX1_lambda_scopeOf_0 4 = .ok (.iload_n 0, 1) := dk_26 (dk_at dksX1_lambda_scopeOf_0_0 4 rfl rfl)
theorem dX1_lambda_scopeOf_0_5 : decode cX1_lambda_scopeOf_0 5 = .ok (.if_icmp .ne 7, 3) := dk_160 0 7 (dk_at dksX1_lambda_scopeOf_0_0 5 rfl rfl)
theorem dX1_lambda_scopeOf_0_8 : decode cX1_lambda_scopeOf_0 8 = .ok (.iconst 1, 1) := dk_4 (dk_at dksX1_lambda_scopeOf_0_0 8 rfl rfl)
theorem dX1_lambda_scopeOf_0_9 : decode cX1_lambda_scopeOf_0 9 = .ok (.goto 4, 3) := dk_167 0 4 (dk_at dksX1_lambda_scopeOf_0_0 9 rfl rfl)
theorem dX1_lambda_scopeOf_0_12 : decode cX1_lambda_scopeOf_0 12 = .ok (.iconst 0, 1) := dk_3 (dk_at dksX1_lambda_scopeOf_0_0 12 rfl rfl)
theorem dX1_lambda_scopeOf_0_13 : decode cX1_lambda_scopeOf_0 13 = .ok (.ireturn, 1) := dk_172 (dk_at dksX1_lambda_scopeOf_0_0 13 rfl rfl)
abbrev cX1_isWithin : ByteArray := prog_1_method_20_code
def yX1_isWithin : MethodName := ⟨RX1, "isWithin", "(II)Z"⟩
def dkwX1_isWithin_1 : List UInt8 := [182, 0, 223, 172]
abbrev dktX1_isWithin_1 : List UInt8 := dkwX1_isWithin_1 ++ []
def dkwX1_isWithin_0 : List UInt8 := [42, 180, 0, 10, 27, 182, 0, 160, 78, 42, 180, 0, 10, 28, 182, 0, 139, 184, 0, 143, 45, 28]
abbrev dktX1_isWithin_0 : List UInt8 := dkwX1_isWithin_0 ++ dktX1_isWithin_1
theorem dksX1_isWithin_0 : cX1_isWithin.data.toList.drop 0 = dktX1_isWithin_0 := by decide +kernel
theorem dksX1_isWithin_1 : cX1_isWithin.data.toList.drop 22 = dktX1_isWithin_1 := dk_seg dksX1_isWithin_0 22 rfl rfl
theorem dX1_isWithin_0 : decode cX1_isWithin 0 = .ok (.aload_n 0, 1) := dk_42 (dk_at dksX1_isWithin_0 0 rfl rfl)
theorem dX1_isWithin_1 : decode cX1_isWithin 1 = .ok (.getfield 10, 3) := dk_180 0 10 (dk_at dksX1_isWithin_0 1 rfl rfl)
theorem dX1_isWithin_4 : decode cX1_isWithin 4 = .ok (.iload_n 1, 1) := dk_27 (dk_at dksX1_isWithin_0 4 rfl rfl)
theorem dX1_isWithin_5 : decode cX1_isWithin 5 = .ok (.invokevirtual 160, 3) := dk_182 0 160 (dk_at dksX1_isWithin_0 5 rfl rfl)
theorem dX1_isWithin_8 : decode cX1_isWithin 8 = .ok (.astore_n 3, 1) := dk_78 (dk_at dksX1_isWithin_0 8 rfl rfl)
theorem dX1_isWithin_9 : decode cX1_isWithin 9 = .ok (.aload_n 0, 1) := dk_42 (dk_at dksX1_isWithin_0 9 rfl rfl)
theorem dX1_isWithin_10 : decode cX1_isWithin 10 = .ok (.getfield 10, 3) := dk_180 0 10 (dk_at dksX1_isWithin_0 10 rfl rfl)
theorem dX1_isWithin_13 : decode cX1_isWithin 13 = .ok (.iload_n 2, 1) := dk_28 (dk_at dksX1_isWithin_0 13 rfl rfl)
theorem dX1_isWithin_14 : decode cX1_isWithin 14 = .ok (.invokevirtual 139, 3) := dk_182 0 139 (dk_at dksX1_isWithin_0 14 rfl rfl)
theorem dX1_isWithin_17 : decode cX1_isWithin 17 = .ok (.invokestatic 143, 3) := dk_184 0 143 (dk_at dksX1_isWithin_0 17 rfl rfl)
theorem dX1_isWithin_20 : decode cX1_isWithin 20 = .ok (.aload_n 3, 1) := dk_45 (dk_at dksX1_isWithin_0 20 rfl rfl)
theorem dX1_isWithin_21 : decode cX1_isWithin 21 = .ok (.iload_n 2, 1) := dk_28 (dk_at dksX1_isWithin_0 21 rfl rfl)
theorem dX1_isWithin_22 : decode cX1_isWithin 22 = .ok (.invokevirtual 223, 3) := dk_182 0 223 (dk_at dksX1_isWithin_1 0 rfl rfl)
theorem dX1_isWithin_25 : decode cX1_isWithin 25 = .ok (.ireturn, 1) := dk_172 (dk_at dksX1_isWithin_1 3 rfl rfl)
abbrev cX1_rule : ByteArray := prog_1_method_22_code
def yX1_rule : MethodName := ⟨RX1, "rule", "(IIIII)I"⟩
def dkwX1_rule_5 : List UInt8 := [182, 0, 246, 182, 0, 187, 172]
abbrev dktX1_rule_5 : List UInt8 := dkwX1_rule_5 ++ []
def dkwX1_rule_4 : List UInt8 := [184, 0, 198, 42, 180, 0, 10, 180, 0, 240, 182, 0, 168, 28, 29, 21, 4, 21, 5, 183, 0, 243]
abbrev dktX1_rule_4 : List UInt8 := dkwX1_rule_4 ++ dktX1_rule_5
def dkwX1_rule_3 : List UInt8 := [182, 0, 234, 42, 180, 0, 10, 182, 0, 174, 58, 6, 42, 25, 6, 42, 180, 0, 10, 187, 0, 238, 89, 27]
abbrev dktX1_rule_3 : List UInt8 := dkwX1_rule_3 ++ dktX1_rule_4
def dkwX1_rule_2 : List UInt8 := [184, 0, 153, 42, 42, 180, 0, 10, 187, 0, 71, 89, 183, 0, 229, 21, 4, 21, 5, 182, 0, 230]
abbrev dktX1_rule_2 : List UInt8 := dkwX1_rule_2 ++ dktX1_rule_3
def dkwX1_rule_1 : List UInt8 := [153, 0, 23, 21, 4, 184, 0, 147, 153, 0, 15, 21, 5, 184, 0, 147, 153, 0, 7, 4, 167, 0, 4, 3]
abbrev dktX1_rule_1 : List UInt8 := dkwX1_rule_1 ++ dktX1_rule_2
def dkwX1_rule_0 : List UInt8 := [42, 180, 0, 10, 28, 182, 0, 139, 184, 0, 143, 27, 3, 5, 184, 0, 134, 153, 0, 30, 29, 184, 0, 226]
abbrev dktX1_rule_0 : List UInt8 := dkwX1_rule_0 ++ dktX1_rule_1
theorem dksX1_rule_0 : cX1_rule.data.toList.drop 0 = dktX1_rule_0 := by decide +kernel
theorem dksX1_rule_1 : cX1_rule.data.toList.drop 24 = dktX1_rule_1 := dk_seg dksX1_rule_0 24 rfl rfl
theorem dksX1_rule_2 : cX1_rule.data.toList.drop 48 = dktX1_rule_2 := dk_seg dksX1_rule_1 24 rfl rfl
theorem dksX1_rule_3 : cX1_rule.data.toList.drop 70 = dktX1_rule_3 := dk_seg dksX1_rule_2 22 rfl rfl
theorem dksX1_rule_4 : cX1_rule.data.toList.drop 94 = dktX1_rule_4 := dk_seg dksX1_rule_3 24 rfl rfl
theorem dksX1_rule_5 : cX1_rule.data.toList.drop 116 = dktX1_rule_5 := dk_seg dksX1_rule_4 22 rfl rfl
theorem dX1_rule_0 : decode cX1_rule 0 = .ok (.aload_n 0, 1) := dk_42 (dk_at dksX1_rule_0 0 rfl rfl)
theorem dX1_rule_1 : decode cX1_rule 1 = .ok (.getfield 10, 3) := dk_180 0 10 (dk_at dksX1_rule_0 1 rfl rfl)
theorem dX1_rule_4 : decode cX1_rule 4 = .ok (.iload_n 2, 1) := dk_28 (dk_at dksX1_rule_0 4 rfl rfl)
theorem dX1_rule_5 : decode cX1_rule 5 = .ok (.invokevirtual 139, 3) := dk_182 0 139 (dk_at dksX1_rule_0 5 rfl rfl)
theorem dX1_rule_8 : decode cX1_rule 8 = .ok (.invokestatic 143, 3) := dk_184 0 143 (dk_at dksX1_rule_0 8 rfl rfl)
theorem dX1_rule_11 : decode cX1_rule 11 = .ok (.iload_n 1, 1) := dk_27 (dk_at dksX1_rule_0 11 rfl rfl)
theorem dX1_rule_12 : decode cX1_rule 12 = .ok (.iconst 0, 1) := dk_3 (dk_at dksX1_rule_0 12 rfl rfl)
theorem dX1_rule_13 : decode cX1_rule 13 = .ok (.iconst 2, 1) := dk_5 (dk_at dksX1_rule_0 13 rfl rfl)
theorem dX1_rule_14 : decode cX1_rule 14 = .ok (.invokestatic 134, 3) := dk_184 0 134 (dk_at dksX1_rule_0 14 rfl rfl)
theorem dX1_rule_17 : decode cX1_rule 17 = .ok (.ifCond .eq 30, 3) := dk_153 0 30 (dk_at dksX1_rule_0 17 rfl rfl)
theorem dX1_rule_20 : decode cX1_rule 20 = .ok (.iload_n 3, 1) := dk_29 (dk_at dksX1_rule_0 20 rfl rfl)
theorem dX1_rule_21 : decode cX1_rule 21 = .ok (.invokestatic 226, 3) := dk_184 0 226 (dk_at dksX1_rule_0 21 rfl rfl)
theorem dX1_rule_24 : decode cX1_rule 24 = .ok (.ifCond .eq 23, 3) := dk_153 0 23 (dk_at dksX1_rule_1 0 rfl rfl)
theorem dX1_rule_27 : decode cX1_rule 27 = .ok (.iload 4, 2) := dk_21 4 (dk_at dksX1_rule_1 3 rfl rfl)
theorem dX1_rule_29 : decode cX1_rule 29 = .ok (.invokestatic 147, 3) := dk_184 0 147 (dk_at dksX1_rule_1 5 rfl rfl)
theorem dX1_rule_32 : decode cX1_rule 32 = .ok (.ifCond .eq 15, 3) := dk_153 0 15 (dk_at dksX1_rule_1 8 rfl rfl)
theorem dX1_rule_35 : decode cX1_rule 35 = .ok (.iload 5, 2) := dk_21 5 (dk_at dksX1_rule_1 11 rfl rfl)
theorem dX1_rule_37 : decode cX1_rule 37 = .ok (.invokestatic 147, 3) := dk_184 0 147 (dk_at dksX1_rule_1 13 rfl rfl)
theorem dX1_rule_40 : decode cX1_rule 40 = .ok (.ifCond .eq 7, 3) := dk_153 0 7 (dk_at dksX1_rule_1 16 rfl rfl)
theorem dX1_rule_43 : decode cX1_rule 43 = .ok (.iconst 1, 1) := dk_4 (dk_at dksX1_rule_1 19 rfl rfl)
theorem dX1_rule_44 : decode cX1_rule 44 = .ok (.goto 4, 3) := dk_167 0 4 (dk_at dksX1_rule_1 20 rfl rfl)
theorem dX1_rule_47 : decode cX1_rule 47 = .ok (.iconst 0, 1) := dk_3 (dk_at dksX1_rule_1 23 rfl rfl)
theorem dX1_rule_48 : decode cX1_rule 48 = .ok (.invokestatic 153, 3) := dk_184 0 153 (dk_at dksX1_rule_2 0 rfl rfl)
theorem dX1_rule_51 : decode cX1_rule 51 = .ok (.aload_n 0, 1) := dk_42 (dk_at dksX1_rule_2 3 rfl rfl)
theorem dX1_rule_52 : decode cX1_rule 52 = .ok (.aload_n 0, 1) := dk_42 (dk_at dksX1_rule_2 4 rfl rfl)
theorem dX1_rule_53 : decode cX1_rule 53 = .ok (.getfield 10, 3) := dk_180 0 10 (dk_at dksX1_rule_2 5 rfl rfl)
theorem dX1_rule_56 : decode cX1_rule 56 = .ok (.new 71, 3) := dk_187 0 71 (dk_at dksX1_rule_2 8 rfl rfl)
theorem dX1_rule_59 : decode cX1_rule 59 = .ok (.dup, 1) := dk_89 (dk_at dksX1_rule_2 11 rfl rfl)
theorem dX1_rule_60 : decode cX1_rule 60 = .ok (.invokespecial 229, 3) := dk_183 0 229 (dk_at dksX1_rule_2 12 rfl rfl)
theorem dX1_rule_63 : decode cX1_rule 63 = .ok (.iload 4, 2) := dk_21 4 (dk_at dksX1_rule_2 15 rfl rfl)
theorem dX1_rule_65 : decode cX1_rule 65 = .ok (.iload 5, 2) := dk_21 5 (dk_at dksX1_rule_2 17 rfl rfl)
theorem dX1_rule_67 : decode cX1_rule 67 = .ok (.invokevirtual 230, 3) := dk_182 0 230 (dk_at dksX1_rule_2 19 rfl rfl)
theorem dX1_rule_70 : decode cX1_rule 70 = .ok (.invokevirtual 234, 3) := dk_182 0 234 (dk_at dksX1_rule_3 0 rfl rfl)
theorem dX1_rule_73 : decode cX1_rule 73 = .ok (.aload_n 0, 1) := dk_42 (dk_at dksX1_rule_3 3 rfl rfl)
theorem dX1_rule_74 : decode cX1_rule 74 = .ok (.getfield 10, 3) := dk_180 0 10 (dk_at dksX1_rule_3 4 rfl rfl)
theorem dX1_rule_77 : decode cX1_rule 77 = .ok (.invokevirtual 174, 3) := dk_182 0 174 (dk_at dksX1_rule_3 7 rfl rfl)
theorem dX1_rule_80 : decode cX1_rule 80 = .ok (.astore 6, 2) := dk_58 6 (dk_at dksX1_rule_3 10 rfl rfl)
theorem dX1_rule_82 : decode cX1_rule 82 = .ok (.aload_n 0, 1) := dk_42 (dk_at dksX1_rule_3 12 rfl rfl)
theorem dX1_rule_83 : decode cX1_rule 83 = .ok (.aload 6, 2) := dk_25 6 (dk_at dksX1_rule_3 13 rfl rfl)
theorem dX1_rule_85 : decode cX1_rule 85 = .ok (.aload_n 0, 1) := dk_42 (dk_at dksX1_rule_3 15 rfl rfl)
theorem dX1_rule_86 : decode cX1_rule 86 = .ok (.getfield 10, 3) := dk_180 0 10 (dk_at dksX1_rule_3 16 rfl rfl)
theorem dX1_rule_89 : decode cX1_rule 89 = .ok (.new 238, 3) := dk_187 0 238 (dk_at dksX1_rule_3 19 rfl rfl)
theorem dX1_rule_92 : decode cX1_rule 92 = .ok (.dup, 1) := dk_89 (dk_at dksX1_rule_3 22 rfl rfl)
theorem dX1_rule_93 : decode cX1_rule 93 = .ok (.iload_n 1, 1) := dk_27 (dk_at dksX1_rule_3 23 rfl rfl)
theorem dX1_rule_94 : decode cX1_rule 94 = .ok (.invokestatic 198, 3) := dk_184 0 198 (dk_at dksX1_rule_4 0 rfl rfl)
theorem dX1_rule_97 : decode cX1_rule 97 = .ok (.aload_n 0, 1) := dk_42 (dk_at dksX1_rule_4 3 rfl rfl)
theorem dX1_rule_98 : decode cX1_rule 98 = .ok (.getfield 10, 3) := dk_180 0 10 (dk_at dksX1_rule_4 4 rfl rfl)
theorem dX1_rule_101 : decode cX1_rule 101 = .ok (.getfield 240, 3) := dk_180 0 240 (dk_at dksX1_rule_4 7 rfl rfl)
theorem dX1_rule_104 : decode cX1_rule 104 = .ok (.invokevirtual 168, 3) := dk_182 0 168 (dk_at dksX1_rule_4 10 rfl rfl)
theorem dX1_rule_107 : decode cX1_rule 107 = .ok (.iload_n 2, 1) := dk_28 (dk_at dksX1_rule_4 13 rfl rfl)
theorem dX1_rule_108 : decode cX1_rule 108 = .ok (.iload_n 3, 1) := dk_29 (dk_at dksX1_rule_4 14 rfl rfl)
theorem dX1_rule_109 : decode cX1_rule 109 = .ok (.iload 4, 2) := dk_21 4 (dk_at dksX1_rule_4 15 rfl rfl)
theorem dX1_rule_111 : decode cX1_rule 111 = .ok (.iload 5, 2) := dk_21 5 (dk_at dksX1_rule_4 17 rfl rfl)
theorem dX1_rule_113 : decode cX1_rule 113 = .ok (.invokespecial 243, 3) := dk_183 0 243 (dk_at dksX1_rule_4 19 rfl rfl)
theorem dX1_rule_116 : decode cX1_rule 116 = .ok (.invokevirtual 246, 3) := dk_182 0 246 (dk_at dksX1_rule_5 0 rfl rfl)
theorem dX1_rule_119 : decode cX1_rule 119 = .ok (.invokevirtual 187, 3) := dk_182 0 187 (dk_at dksX1_rule_5 3 rfl rfl)
theorem dX1_rule_122 : decode cX1_rule 122 = .ok (.ireturn, 1) := dk_172 (dk_at dksX1_rule_5 6 rfl rfl)
abbrev cX1_isRank : ByteArray := prog_1_method_21_code
def yX1_isRank : MethodName := ⟨RX1, "isRank", "(I)Z"⟩
def dkwX1_isRank_0 : List UInt8 := [26, 3, 16, 9, 184, 0, 134, 172]
abbrev dktX1_isRank_0 : List UInt8 := dkwX1_isRank_0 ++ []
theorem dksX1_isRank_0 : cX1_isRank.data.toList.drop 0 = dktX1_isRank_0 := by decide +kernel
theorem dX1_isRank_0 : decode cX1_isRank 0 = .ok (.iload_n 0, 1) := dk_26 (dk_at dksX1_isRank_0 0 rfl rfl)
theorem dX1_isRank_1 : decode cX1_isRank 1 = .ok (.iconst 0, 1) := dk_3 (dk_at dksX1_isRank_0 1 rfl rfl)
theorem dX1_isRank_2 : decode cX1_isRank 2 = .ok (.bipush 9, 2) := dk_16 9 (dk_at dksX1_isRank_0 2 rfl rfl)
theorem dX1_isRank_4 : decode cX1_isRank 4 = .ok (.invokestatic 134, 3) := dk_184 0 134 (dk_at dksX1_isRank_0 4 rfl rfl)
theorem dX1_isRank_7 : decode cX1_isRank 7 = .ok (.ireturn, 1) := dk_172 (dk_at dksX1_isRank_0 7 rfl rfl)
abbrev cX1_isDay : ByteArray := prog_1_method_14_code
def yX1_isDay : MethodName := ⟨RX1, "isDay", "(I)Z"⟩
def dkwX1_isDay_0 : List UInt8 := [26, 3, 17, 3, 231, 184, 0, 134, 172]
abbrev dktX1_isDay_0 : List UInt8 := dkwX1_isDay_0 ++ []
theorem dksX1_isDay_0 : cX1_isDay.data.toList.drop 0 = dktX1_isDay_0 := by decide +kernel
theorem dX1_isDay_0 : decode cX1_isDay 0 = .ok (.iload_n 0, 1) := dk_26 (dk_at dksX1_isDay_0 0 rfl rfl)
theorem dX1_isDay_1 : decode cX1_isDay 1 = .ok (.iconst 0, 1) := dk_3 (dk_at dksX1_isDay_0 1 rfl rfl)
theorem dX1_isDay_2 : decode cX1_isDay 2 = .ok (.sipush 999, 3) := dk_17 3 231 (dk_at dksX1_isDay_0 2 rfl rfl)
theorem dX1_isDay_5 : decode cX1_isDay 5 = .ok (.invokestatic 134, 3) := dk_184 0 134 (dk_at dksX1_isDay_0 5 rfl rfl)
theorem dX1_isDay_8 : decode cX1_isDay 8 = .ok (.ireturn, 1) := dk_172 (dk_at dksX1_isDay_0 8 rfl rfl)
abbrev cX1_refuse : ByteArray := prog_1_method_8_code
def yX1_refuse : MethodName := ⟨RX1, "refuse", "(LPolicyNotation$Whys;)V"⟩
def dkwX1_refuse_1 : List UInt8 := [180, 0, 86, 181, 0, 89, 187, 0, 90, 89, 183, 0, 92, 191]
abbrev dktX1_refuse_1 : List UInt8 := dkwX1_refuse_1 ++ []
def dkwX1_refuse_0 : List UInt8 := [43, 182, 0, 70, 153, 0, 4, 177, 42, 43, 180, 0, 76, 180, 0, 80, 181, 0, 85, 42, 43, 180, 0, 76]
abbrev dktX1_refuse_0 : List UInt8 := dkwX1_refuse_0 ++ dktX1_refuse_1
theorem dksX1_refuse_0 : cX1_refuse.data.toList.drop 0 = dktX1_refuse_0 := by decide +kernel
theorem dksX1_refuse_1 : cX1_refuse.data.toList.drop 24 = dktX1_refuse_1 := dk_seg dksX1_refuse_0 24 rfl rfl
theorem dX1_refuse_0 : decode cX1_refuse 0 = .ok (.aload_n 1, 1) := dk_43 (dk_at dksX1_refuse_0 0 rfl rfl)
theorem dX1_refuse_1 : decode cX1_refuse 1 = .ok (.invokevirtual 70, 3) := dk_182 0 70 (dk_at dksX1_refuse_0 1 rfl rfl)
theorem dX1_refuse_4 : decode cX1_refuse 4 = .ok (.ifCond .eq 4, 3) := dk_153 0 4 (dk_at dksX1_refuse_0 4 rfl rfl)
theorem dX1_refuse_7 : decode cX1_refuse 7 = .ok (.return_, 1) := dk_177 (dk_at dksX1_refuse_0 7 rfl rfl)
theorem dX1_refuse_8 : decode cX1_refuse 8 = .ok (.aload_n 0, 1) := dk_42 (dk_at dksX1_refuse_0 8 rfl rfl)
theorem dX1_refuse_9 : decode cX1_refuse 9 = .ok (.aload_n 1, 1) := dk_43 (dk_at dksX1_refuse_0 9 rfl rfl)
theorem dX1_refuse_10 : decode cX1_refuse 10 = .ok (.getfield 76, 3) := dk_180 0 76 (dk_at dksX1_refuse_0 10 rfl rfl)
theorem dX1_refuse_13 : decode cX1_refuse 13 = .ok (.getfield 80, 3) := dk_180 0 80 (dk_at dksX1_refuse_0 13 rfl rfl)
theorem dX1_refuse_16 : decode cX1_refuse 16 = .ok (.putfield 85, 3) := dk_181 0 85 (dk_at dksX1_refuse_0 16 rfl rfl)
theorem dX1_refuse_19 : decode cX1_refuse 19 = .ok (.aload_n 0, 1) := dk_42 (dk_at dksX1_refuse_0 19 rfl rfl)
theorem dX1_refuse_20 : decode cX1_refuse 20 = .ok (.aload_n 1, 1) := dk_43 (dk_at dksX1_refuse_0 20 rfl rfl)
theorem dX1_refuse_21 : decode cX1_refuse 21 = .ok (.getfield 76, 3) := dk_180 0 76 (dk_at dksX1_refuse_0 21 rfl rfl)
theorem dX1_refuse_24 : decode cX1_refuse 24 = .ok (.getfield 86, 3) := dk_180 0 86 (dk_at dksX1_refuse_1 0 rfl rfl)
theorem dX1_refuse_27 : decode cX1_refuse 27 = .ok (.putfield 89, 3) := dk_181 0 89 (dk_at dksX1_refuse_1 3 rfl rfl)
theorem dX1_refuse_30 : decode cX1_refuse 30 = .ok (.new 90, 3) := dk_187 0 90 (dk_at dksX1_refuse_1 6 rfl rfl)
theorem dX1_refuse_33 : decode cX1_refuse 33 = .ok (.dup, 1) := dk_89 (dk_at dksX1_refuse_1 9 rfl rfl)
theorem dX1_refuse_34 : decode cX1_refuse 34 = .ok (.invokespecial 92, 3) := dk_183 0 92 (dk_at dksX1_refuse_1 10 rfl rfl)
theorem dX1_refuse_37 : decode cX1_refuse 37 = .ok (.athrow, 1) := dk_191 (dk_at dksX1_refuse_1 13 rfl rfl)
abbrev cX1_except : ByteArray := prog_1_method_23_code
def yX1_except : MethodName := ⟨RX1, "except", "(IIIII)I"⟩
def dkwX1_except_5 : List UInt8 := [182, 0, 168, 28, 29, 21, 4, 21, 5, 183, 1, 3, 182, 0, 246, 182, 0, 187, 172]
abbrev dktX1_except_5 : List UInt8 := dkwX1_except_5 ++ []
def dkwX1_except_4 : List UInt8 := [58, 7, 42, 25, 7, 42, 180, 0, 10, 187, 1, 1, 89, 25, 6, 42, 180, 0, 10, 180, 0, 240]
abbrev dktX1_except_4 : List UInt8 := dkwX1_except_4 ++ dktX1_except_5
def dkwX1_except_3 : List UInt8 := [21, 4, 21, 5, 182, 0, 230, 25, 6, 28, 182, 0, 253, 182, 0, 234, 42, 180, 0, 10, 182, 0, 174]
abbrev dktX1_except_3 : List UInt8 := dkwX1_except_3 ++ dktX1_except_4
def dkwX1_except_2 : List UInt8 := [167, 0, 4, 3, 184, 0, 153, 42, 42, 180, 0, 10, 42, 180, 0, 10, 187, 0, 71, 89, 183, 0, 229]
abbrev dktX1_except_2 : List UInt8 := dkwX1_except_2 ++ dktX1_except_3
def dkwX1_except_1 : List UInt8 := [184, 0, 226, 153, 0, 23, 21, 4, 184, 0, 147, 153, 0, 15, 21, 5, 184, 0, 147, 153, 0, 7, 4]
abbrev dktX1_except_1 : List UInt8 := dkwX1_except_1 ++ dktX1_except_2
def dkwX1_except_0 : List UInt8 := [42, 180, 0, 10, 27, 182, 0, 249, 58, 6, 42, 180, 0, 10, 28, 182, 0, 139, 184, 0, 143, 29]
abbrev dktX1_except_0 : List UInt8 := dkwX1_except_0 ++ dktX1_except_1
theorem dksX1_except_0 : cX1_except.data.toList.drop 0 = dktX1_except_0 := by decide +kernel
theorem dksX1_except_1 : cX1_except.data.toList.drop 22 = dktX1_except_1 := dk_seg dksX1_except_0 22 rfl rfl
theorem dksX1_except_2 : cX1_except.data.toList.drop 45 = dktX1_except_2 := dk_seg dksX1_except_1 23 rfl rfl
theorem dksX1_except_3 : cX1_except.data.toList.drop 68 = dktX1_except_3 := dk_seg dksX1_except_2 23 rfl rfl
theorem dksX1_except_4 : cX1_except.data.toList.drop 91 = dktX1_except_4 := dk_seg dksX1_except_3 23 rfl rfl
theorem dksX1_except_5 : cX1_except.data.toList.drop 113 = dktX1_except_5 := dk_seg dksX1_except_4 22 rfl rfl
theorem dX1_except_0 : decode cX1_except 0 = .ok (.aload_n 0, 1) := dk_42 (dk_at dksX1_except_0 0 rfl rfl)
theorem dX1_except_1 : decode cX1_except 1 = .ok (.getfield 10, 3) := dk_180 0 10 (dk_at dksX1_except_0 1 rfl rfl)
theorem dX1_except_4 : decode cX1_except 4 = .ok (.iload_n 1, 1) := dk_27 (dk_at dksX1_except_0 4 rfl rfl)
theorem dX1_except_5 : decode cX1_except 5 = .ok (.invokevirtual 249, 3) := dk_182 0 249 (dk_at dksX1_except_0 5 rfl rfl)
theorem dX1_except_8 : decode cX1_except 8 = .ok (.astore 6, 2) := dk_58 6 (dk_at dksX1_except_0 8 rfl rfl)
theorem dX1_except_10 : decode cX1_except 10 = .ok (.aload_n 0, 1) := dk_42 (dk_at dksX1_except_0 10 rfl rfl)
theorem dX1_except_11 : decode cX1_except 11 = .ok (.getfield 10, 3) := dk_180 0 10 (dk_at dksX1_except_0 11 rfl rfl)
theorem dX1_except_14 : decode cX1_except 14 = .ok (.iload_n 2, 1) := dk_28 (dk_at dksX1_except_0 14 rfl rfl)
theorem dX1_except_15 : decode cX1_except 15 = .ok (.invokevirtual 139, 3) := dk_182 0 139 (dk_at dksX1_except_0 15 rfl rfl)
theorem dX1_except_18 : decode cX1_except 18 = .ok (.invokestatic 143, 3) := dk_184 0 143 (dk_at dksX1_except_0 18 rfl rfl)
theorem dX1_except_21 : decode cX1_except 21 = .ok (.iload_n 3, 1) := dk_29 (dk_at dksX1_except_0 21 rfl rfl)
theorem dX1_except_22 : decode cX1_except 22 = .ok (.invokestatic 226, 3) := dk_184 0 226 (dk_at dksX1_except_1 0 rfl rfl)
theorem dX1_except_25 : decode cX1_except 25 = .ok (.ifCond .eq 23, 3) := dk_153 0 23 (dk_at dksX1_except_1 3 rfl rfl)
theorem dX1_except_28 : decode cX1_except 28 = .ok (.iload 4, 2) := dk_21 4 (dk_at dksX1_except_1 6 rfl rfl)
theorem dX1_except_30 : decode cX1_except 30 = .ok (.invokestatic 147, 3) := dk_184 0 147 (dk_at dksX1_except_1 8 rfl rfl)
theorem dX1_except_33 : decode cX1_except 33 = .ok (.ifCond .eq 15, 3) := dk_153 0 15 (dk_at dksX1_except_1 11 rfl rfl)
theorem dX1_except_36 : decode cX1_except 36 = .ok (.iload 5, 2) := dk_21 5 (dk_at dksX1_except_1 14 rfl rfl)
theorem dX1_except_38 : decode cX1_except 38 = .ok (.invokestatic 147, 3) := dk_184 0 147 (dk_at dksX1_except_1 16 rfl rfl)
theorem dX1_except_41 : decode cX1_except 41 = .ok (.ifCond .eq 7, 3) := dk_153 0 7 (dk_at dksX1_except_1 19 rfl rfl)
theorem dX1_except_44 : decode cX1_except 44 = .ok (.iconst 1, 1) := dk_4 (dk_at dksX1_except_1 22 rfl rfl)
theorem dX1_except_45 : decode cX1_except 45 = .ok (.goto 4, 3) := dk_167 0 4 (dk_at dksX1_except_2 0 rfl rfl)
theorem dX1_except_48 : decode cX1_except 48 = .ok (.iconst 0, 1) := dk_3 (dk_at dksX1_except_2 3 rfl rfl)
theorem dX1_except_49 : decode cX1_except 49 = .ok (.invokestatic 153, 3) := dk_184 0 153 (dk_at dksX1_except_2 4 rfl rfl)
theorem dX1_except_52 : decode cX1_except 52 = .ok (.aload_n 0, 1) := dk_42 (dk_at dksX1_except_2 7 rfl rfl)
theorem dX1_except_53 : decode cX1_except 53 = .ok (.aload_n 0, 1) := dk_42 (dk_at dksX1_except_2 8 rfl rfl)
theorem dX1_except_54 : decode cX1_except 54 = .ok (.getfield 10, 3) := dk_180 0 10 (dk_at dksX1_except_2 9 rfl rfl)
theorem dX1_except_57 : decode cX1_except 57 = .ok (.aload_n 0, 1) := dk_42 (dk_at dksX1_except_2 12 rfl rfl)
theorem dX1_except_58 : decode cX1_except 58 = .ok (.getfield 10, 3) := dk_180 0 10 (dk_at dksX1_except_2 13 rfl rfl)
theorem dX1_except_61 : decode cX1_except 61 = .ok (.new 71, 3) := dk_187 0 71 (dk_at dksX1_except_2 16 rfl rfl)
theorem dX1_except_64 : decode cX1_except 64 = .ok (.dup, 1) := dk_89 (dk_at dksX1_except_2 19 rfl rfl)
theorem dX1_except_65 : decode cX1_except 65 = .ok (.invokespecial 229, 3) := dk_183 0 229 (dk_at dksX1_except_2 20 rfl rfl)
theorem dX1_except_68 : decode cX1_except 68 = .ok (.iload 4, 2) := dk_21 4 (dk_at dksX1_except_3 0 rfl rfl)
theorem dX1_except_70 : decode cX1_except 70 = .ok (.iload 5, 2) := dk_21 5 (dk_at dksX1_except_3 2 rfl rfl)
theorem dX1_except_72 : decode cX1_except 72 = .ok (.invokevirtual 230, 3) := dk_182 0 230 (dk_at dksX1_except_3 4 rfl rfl)
theorem dX1_except_75 : decode cX1_except 75 = .ok (.aload 6, 2) := dk_25 6 (dk_at dksX1_except_3 7 rfl rfl)
theorem dX1_except_77 : decode cX1_except 77 = .ok (.iload_n 2, 1) := dk_28 (dk_at dksX1_except_3 9 rfl rfl)
theorem dX1_except_78 : decode cX1_except 78 = .ok (.invokevirtual 253, 3) := dk_182 0 253 (dk_at dksX1_except_3 10 rfl rfl)
theorem dX1_except_81 : decode cX1_except 81 = .ok (.invokevirtual 234, 3) := dk_182 0 234 (dk_at dksX1_except_3 13 rfl rfl)
theorem dX1_except_84 : decode cX1_except 84 = .ok (.aload_n 0, 1) := dk_42 (dk_at dksX1_except_3 16 rfl rfl)
theorem dX1_except_85 : decode cX1_except 85 = .ok (.getfield 10, 3) := dk_180 0 10 (dk_at dksX1_except_3 17 rfl rfl)
theorem dX1_except_88 : decode cX1_except 88 = .ok (.invokevirtual 174, 3) := dk_182 0 174 (dk_at dksX1_except_3 20 rfl rfl)
theorem dX1_except_91 : decode cX1_except 91 = .ok (.astore 7, 2) := dk_58 7 (dk_at dksX1_except_4 0 rfl rfl)
theorem dX1_except_93 : decode cX1_except 93 = .ok (.aload_n 0, 1) := dk_42 (dk_at dksX1_except_4 2 rfl rfl)
theorem dX1_except_94 : decode cX1_except 94 = .ok (.aload 7, 2) := dk_25 7 (dk_at dksX1_except_4 3 rfl rfl)
theorem dX1_except_96 : decode cX1_except 96 = .ok (.aload_n 0, 1) := dk_42 (dk_at dksX1_except_4 5 rfl rfl)
theorem dX1_except_97 : decode cX1_except 97 = .ok (.getfield 10, 3) := dk_180 0 10 (dk_at dksX1_except_4 6 rfl rfl)
theorem dX1_except_100 : decode cX1_except 100 = .ok (.new 257, 3) := dk_187 1 1 (dk_at dksX1_except_4 9 rfl rfl)
theorem dX1_except_103 : decode cX1_except 103 = .ok (.dup, 1) := dk_89 (dk_at dksX1_except_4 12 rfl rfl)
theorem dX1_except_104 : decode cX1_except 104 = .ok (.aload 6, 2) := dk_25 6 (dk_at dksX1_except_4 13 rfl rfl)
theorem dX1_except_106 : decode cX1_except 106 = .ok (.aload_n 0, 1) := dk_42 (dk_at dksX1_except_4 15 rfl rfl)
theorem dX1_except_107 : decode cX1_except 107 = .ok (.getfield 10, 3) := dk_180 0 10 (dk_at dksX1_except_4 16 rfl rfl)
theorem dX1_except_110 : decode cX1_except 110 = .ok (.getfield 240, 3) := dk_180 0 240 (dk_at dksX1_except_4 19 rfl rfl)
theorem dX1_except_113 : decode cX1_except 113 = .ok (.invokevirtual 168, 3) := dk_182 0 168 (dk_at dksX1_except_5 0 rfl rfl)
theorem dX1_except_116 : decode cX1_except 116 = .ok (.iload_n 2, 1) := dk_28 (dk_at dksX1_except_5 3 rfl rfl)
theorem dX1_except_117 : decode cX1_except 117 = .ok (.iload_n 3, 1) := dk_29 (dk_at dksX1_except_5 4 rfl rfl)
theorem dX1_except_118 : decode cX1_except 118 = .ok (.iload 4, 2) := dk_21 4 (dk_at dksX1_except_5 5 rfl rfl)
theorem dX1_except_120 : decode cX1_except 120 = .ok (.iload 5, 2) := dk_21 5 (dk_at dksX1_except_5 7 rfl rfl)
theorem dX1_except_122 : decode cX1_except 122 = .ok (.invokespecial 259, 3) := dk_183 1 3 (dk_at dksX1_except_5 9 rfl rfl)
theorem dX1_except_125 : decode cX1_except 125 = .ok (.invokevirtual 246, 3) := dk_182 0 246 (dk_at dksX1_except_5 12 rfl rfl)
theorem dX1_except_128 : decode cX1_except 128 = .ok (.invokevirtual 187, 3) := dk_182 0 187 (dk_at dksX1_except_5 15 rfl rfl)
theorem dX1_except_131 : decode cX1_except 131 = .ok (.ireturn, 1) := dk_172 (dk_at dksX1_except_5 18 rfl rfl)
abbrev cX1_test : ByteArray := prog_1_method_25_code
def yX1_test : MethodName := ⟨RX1, "test", "(IIII)I"⟩
def dkwX1_test_4 : List UInt8 := [182, 0, 187, 172]
abbrev dktX1_test_4 : List UInt8 := dkwX1_test_4 ++ []
def dkwX1_test_3 : List UInt8 := [21, 4, 184, 1, 22, 83, 182, 1, 26, 182, 0, 234, 42, 25, 6, 25, 5, 180, 1, 6, 182, 0, 168]
abbrev dktX1_test_3 : List UInt8 := dkwX1_test_3 ++ dktX1_test_4
def dkwX1_test_2 : List UInt8 := [184, 0, 153, 42, 180, 0, 10, 182, 0, 174, 58, 6, 42, 42, 25, 5, 4, 189, 0, 32, 89, 3, 28, 29]
abbrev dktX1_test_2 : List UInt8 := dkwX1_test_2 ++ dktX1_test_3
def dkwX1_test_1 : List UInt8 := [184, 0, 134, 153, 0, 18, 21, 4, 3, 16, 9, 184, 0, 134, 153, 0, 7, 4, 167, 0, 4, 3]
abbrev dktX1_test_1 : List UInt8 := dkwX1_test_1 ++ dktX1_test_2
def dkwX1_test_0 : List UInt8 := [42, 180, 0, 10, 27, 182, 0, 249, 58, 5, 28, 3, 8, 184, 0, 134, 153, 0, 27, 29, 3, 6]
abbrev dktX1_test_0 : List UInt8 := dkwX1_test_0 ++ dktX1_test_1
theorem dksX1_test_0 : cX1_test.data.toList.drop 0 = dktX1_test_0 := by decide +kernel
theorem dksX1_test_1 : cX1_test.data.toList.drop 22 = dktX1_test_1 := dk_seg dksX1_test_0 22 rfl rfl
theorem dksX1_test_2 : cX1_test.data.toList.drop 44 = dktX1_test_2 := dk_seg dksX1_test_1 22 rfl rfl
theorem dksX1_test_3 : cX1_test.data.toList.drop 68 = dktX1_test_3 := dk_seg dksX1_test_2 24 rfl rfl
theorem dksX1_test_4 : cX1_test.data.toList.drop 91 = dktX1_test_4 := dk_seg dksX1_test_3 23 rfl rfl
theorem dX1_test_0 : decode cX1_test 0 = .ok (.aload_n 0, 1) := dk_42 (dk_at dksX1_test_0 0 rfl rfl)
theorem dX1_test_1 : decode cX1_test 1 = .ok (.getfield 10, 3) := dk_180 0 10 (dk_at dksX1_test_0 1 rfl rfl)
theorem dX1_test_4 : decode cX1_test 4 = .ok (.iload_n 1, 1) := dk_27 (dk_at dksX1_test_0 4 rfl rfl)
theorem dX1_test_5 : decode cX1_test 5 = .ok (.invokevirtual 249, 3) := dk_182 0 249 (dk_at dksX1_test_0 5 rfl rfl)
theorem dX1_test_8 : decode cX1_test 8 = .ok (.astore 5, 2) := dk_58 5 (dk_at dksX1_test_0 8 rfl rfl)
theorem dX1_test_10 : decode cX1_test 10 = .ok (.iload_n 2, 1) := dk_28 (dk_at dksX1_test_0 10 rfl rfl)
theorem dX1_test_11 : decode cX1_test 11 = .ok (.iconst 0, 1) := dk_3 (dk_at dksX1_test_0 11 rfl rfl)
theorem dX1_test_12 : decode cX1_test 12 = .ok (.iconst 5, 1) := dk_8 (dk_at dksX1_test_0 12 rfl rfl)
theorem dX1_test_13 : decode cX1_test 13 = .ok (.invokestatic 134, 3) := dk_184 0 134 (dk_at dksX1_test_0 13 rfl rfl)
theorem dX1_test_16 : decode cX1_test 16 = .ok (.ifCond .eq 27, 3) := dk_153 0 27 (dk_at dksX1_test_0 16 rfl rfl)
theorem dX1_test_19 : decode cX1_test 19 = .ok (.iload_n 3, 1) := dk_29 (dk_at dksX1_test_0 19 rfl rfl)
theorem dX1_test_20 : decode cX1_test 20 = .ok (.iconst 0, 1) := dk_3 (dk_at dksX1_test_0 20 rfl rfl)
theorem dX1_test_21 : decode cX1_test 21 = .ok (.iconst 3, 1) := dk_6 (dk_at dksX1_test_0 21 rfl rfl)
theorem dX1_test_22 : decode cX1_test 22 = .ok (.invokestatic 134, 3) := dk_184 0 134 (dk_at dksX1_test_1 0 rfl rfl)
theorem dX1_test_25 : decode cX1_test 25 = .ok (.ifCond .eq 18, 3) := dk_153 0 18 (dk_at dksX1_test_1 3 rfl rfl)
theorem dX1_test_28 : decode cX1_test 28 = .ok (.iload 4, 2) := dk_21 4 (dk_at dksX1_test_1 6 rfl rfl)
theorem dX1_test_30 : decode cX1_test 30 = .ok (.iconst 0, 1) := dk_3 (dk_at dksX1_test_1 8 rfl rfl)
theorem dX1_test_31 : decode cX1_test 31 = .ok (.bipush 9, 2) := dk_16 9 (dk_at dksX1_test_1 9 rfl rfl)
theorem dX1_test_33 : decode cX1_test 33 = .ok (.invokestatic 134, 3) := dk_184 0 134 (dk_at dksX1_test_1 11 rfl rfl)
theorem dX1_test_36 : decode cX1_test 36 = .ok (.ifCond .eq 7, 3) := dk_153 0 7 (dk_at dksX1_test_1 14 rfl rfl)
theorem dX1_test_39 : decode cX1_test 39 = .ok (.iconst 1, 1) := dk_4 (dk_at dksX1_test_1 17 rfl rfl)
theorem dX1_test_40 : decode cX1_test 40 = .ok (.goto 4, 3) := dk_167 0 4 (dk_at dksX1_test_1 18 rfl rfl)
theorem dX1_test_43 : decode cX1_test 43 = .ok (.iconst 0, 1) := dk_3 (dk_at dksX1_test_1 21 rfl rfl)
theorem dX1_test_44 : decode cX1_test 44 = .ok (.invokestatic 153, 3) := dk_184 0 153 (dk_at dksX1_test_2 0 rfl rfl)
theorem dX1_test_47 : decode cX1_test 47 = .ok (.aload_n 0, 1) := dk_42 (dk_at dksX1_test_2 3 rfl rfl)
theorem dX1_test_48 : decode cX1_test 48 = .ok (.getfield 10, 3) := dk_180 0 10 (dk_at dksX1_test_2 4 rfl rfl)
theorem dX1_test_51 : decode cX1_test 51 = .ok (.invokevirtual 174, 3) := dk_182 0 174 (dk_at dksX1_test_2 7 rfl rfl)
theorem dX1_test_54 : decode cX1_test 54 = .ok (.astore 6, 2) := dk_58 6 (dk_at dksX1_test_2 10 rfl rfl)
theorem dX1_test_56 : decode cX1_test 56 = .ok (.aload_n 0, 1) := dk_42 (dk_at dksX1_test_2 12 rfl rfl)
theorem dX1_test_57 : decode cX1_test 57 = .ok (.aload_n 0, 1) := dk_42 (dk_at dksX1_test_2 13 rfl rfl)
theorem dX1_test_58 : decode cX1_test 58 = .ok (.aload 5, 2) := dk_25 5 (dk_at dksX1_test_2 14 rfl rfl)
theorem dX1_test_60 : decode cX1_test 60 = .ok (.iconst 1, 1) := dk_4 (dk_at dksX1_test_2 16 rfl rfl)
theorem dX1_test_61 : decode cX1_test 61 = .ok (.anewarray 32, 3) := dk_189 0 32 (dk_at dksX1_test_2 17 rfl rfl)
theorem dX1_test_64 : decode cX1_test 64 = .ok (.dup, 1) := dk_89 (dk_at dksX1_test_2 20 rfl rfl)
theorem dX1_test_65 : decode cX1_test 65 = .ok (.iconst 0, 1) := dk_3 (dk_at dksX1_test_2 21 rfl rfl)
theorem dX1_test_66 : decode cX1_test 66 = .ok (.iload_n 2, 1) := dk_28 (dk_at dksX1_test_2 22 rfl rfl)
theorem dX1_test_67 : decode cX1_test 67 = .ok (.iload_n 3, 1) := dk_29 (dk_at dksX1_test_2 23 rfl rfl)
theorem dX1_test_68 : decode cX1_test 68 = .ok (.iload 4, 2) := dk_21 4 (dk_at dksX1_test_3 0 rfl rfl)
theorem dX1_test_70 : decode cX1_test 70 = .ok (.invokestatic 278, 3) := dk_184 1 22 (dk_at dksX1_test_3 2 rfl rfl)
theorem dX1_test_73 : decode cX1_test 73 = .ok (.aastore, 1) := dk_83 (dk_at dksX1_test_3 5 rfl rfl)
theorem dX1_test_74 : decode cX1_test 74 = .ok (.invokevirtual 282, 3) := dk_182 1 26 (dk_at dksX1_test_3 6 rfl rfl)
theorem dX1_test_77 : decode cX1_test 77 = .ok (.invokevirtual 234, 3) := dk_182 0 234 (dk_at dksX1_test_3 9 rfl rfl)
theorem dX1_test_80 : decode cX1_test 80 = .ok (.aload_n 0, 1) := dk_42 (dk_at dksX1_test_3 12 rfl rfl)
theorem dX1_test_81 : decode cX1_test 81 = .ok (.aload 6, 2) := dk_25 6 (dk_at dksX1_test_3 13 rfl rfl)
theorem dX1_test_83 : decode cX1_test 83 = .ok (.aload 5, 2) := dk_25 5 (dk_at dksX1_test_3 15 rfl rfl)
theorem dX1_test_85 : decode cX1_test 85 = .ok (.getfield 262, 3) := dk_180 1 6 (dk_at dksX1_test_3 17 rfl rfl)
theorem dX1_test_88 : decode cX1_test 88 = .ok (.invokevirtual 168, 3) := dk_182 0 168 (dk_at dksX1_test_3 20 rfl rfl)
theorem dX1_test_91 : decode cX1_test 91 = .ok (.invokevirtual 187, 3) := dk_182 0 187 (dk_at dksX1_test_4 0 rfl rfl)
theorem dX1_test_94 : decode cX1_test 94 = .ok (.ireturn, 1) := dk_172 (dk_at dksX1_test_4 3 rfl rfl)
abbrev cX1_testBy : ByteArray := prog_1_method_11_code
def yX1_testBy : MethodName := ⟨RX1, "testBy", "(III)LPolicyNotation$Test;"⟩
def dkwX1_testBy_3 : List UInt8 := [26, 28, 183, 0, 119, 176, 187, 0, 120, 89, 26, 28, 183, 0, 122, 176]
abbrev dktX1_testBy_3 : List UInt8 := dkwX1_testBy_3 ++ []
def dkwX1_testBy_2 : List UInt8 := [187, 0, 109, 89, 26, 28, 183, 0, 111, 176, 187, 0, 114, 89, 26, 28, 183, 0, 116, 176, 187, 0, 117, 89]
abbrev dktX1_testBy_2 : List UInt8 := dkwX1_testBy_2 ++ dktX1_testBy_3
def dkwX1_testBy_1 : List UInt8 := [170, 0, 0, 0, 0, 0, 57, 0, 0, 0, 0, 0, 0, 0, 2, 0, 0, 0, 27, 0, 0, 0, 37, 0, 0, 0, 47]
abbrev dktX1_testBy_1 : List UInt8 := dkwX1_testBy_1 ++ dktX1_testBy_2
def dkwX1_testBy_0 : List UInt8 := [27]
abbrev dktX1_testBy_0 : List UInt8 := dkwX1_testBy_0 ++ dktX1_testBy_1
theorem dksX1_testBy_0 : cX1_testBy.data.toList.drop 0 = dktX1_testBy_0 := by decide +kernel
theorem dksX1_testBy_1 : cX1_testBy.data.toList.drop 1 = dktX1_testBy_1 := dk_seg dksX1_testBy_0 1 rfl rfl
theorem dksX1_testBy_2 : cX1_testBy.data.toList.drop 28 = dktX1_testBy_2 := dk_seg dksX1_testBy_1 27 rfl rfl
theorem dksX1_testBy_3 : cX1_testBy.data.toList.drop 52 = dktX1_testBy_3 := dk_seg dksX1_testBy_2 24 rfl rfl
theorem dX1_testBy_0 : decode cX1_testBy 0 = .ok (.iload_n 1, 1) := dk_27 (dk_at dksX1_testBy_0 0 rfl rfl)
theorem dX1_testBy_1 : decode cX1_testBy 1 = .ok (.tableswitch 57 0 2 #[27, 37, 47], 27) := by decide +kernel
theorem dX1_testBy_28 : decode cX1_testBy 28 = .ok (.new 109, 3) := dk_187 0 109 (dk_at dksX1_testBy_2 0 rfl rfl)
theorem dX1_testBy_31 : decode cX1_testBy 31 = .ok (.dup, 1) := dk_89 (dk_at dksX1_testBy_2 3 rfl rfl)
theorem dX1_testBy_32 : decode cX1_testBy 32 = .ok (.iload_n 0, 1) := dk_26 (dk_at dksX1_testBy_2 4 rfl rfl)
theorem dX1_testBy_33 : decode cX1_testBy 33 = .ok (.iload_n 2, 1) := dk_28 (dk_at dksX1_testBy_2 5 rfl rfl)
theorem dX1_testBy_34 : decode cX1_testBy 34 = .ok (.invokespecial 111, 3) := dk_183 0 111 (dk_at dksX1_testBy_2 6 rfl rfl)
theorem dX1_testBy_37 : decode cX1_testBy 37 = .ok (.areturn, 1) := dk_176 (dk_at dksX1_testBy_2 9 rfl rfl)
theorem dX1_testBy_38 : decode cX1_testBy 38 = .ok (.new 114, 3) := dk_187 0 114 (dk_at dksX1_testBy_2 10 rfl rfl)
theorem dX1_testBy_41 : decode cX1_testBy 41 = .ok (.dup, 1) := dk_89 (dk_at dksX1_testBy_2 13 rfl rfl)
theorem dX1_testBy_42 : decode cX1_testBy 42 = .ok (.iload_n 0, 1) := dk_26 (dk_at dksX1_testBy_2 14 rfl rfl)
theorem dX1_testBy_43 : decode cX1_testBy 43 = .ok (.iload_n 2, 1) := dk_28 (dk_at dksX1_testBy_2 15 rfl rfl)
theorem dX1_testBy_44 : decode cX1_testBy 44 = .ok (.invokespecial 116, 3) := dk_183 0 116 (dk_at dksX1_testBy_2 16 rfl rfl)
theorem dX1_testBy_47 : decode cX1_testBy 47 = .ok (.areturn, 1) := dk_176 (dk_at dksX1_testBy_2 19 rfl rfl)
theorem dX1_testBy_48 : decode cX1_testBy 48 = .ok (.new 117, 3) := dk_187 0 117 (dk_at dksX1_testBy_2 20 rfl rfl)
theorem dX1_testBy_51 : decode cX1_testBy 51 = .ok (.dup, 1) := dk_89 (dk_at dksX1_testBy_2 23 rfl rfl)
theorem dX1_testBy_52 : decode cX1_testBy 52 = .ok (.iload_n 0, 1) := dk_26 (dk_at dksX1_testBy_3 0 rfl rfl)
theorem dX1_testBy_53 : decode cX1_testBy 53 = .ok (.iload_n 2, 1) := dk_28 (dk_at dksX1_testBy_3 1 rfl rfl)
theorem dX1_testBy_54 : decode cX1_testBy 54 = .ok (.invokespecial 119, 3) := dk_183 0 119 (dk_at dksX1_testBy_3 2 rfl rfl)
theorem dX1_testBy_57 : decode cX1_testBy 57 = .ok (.areturn, 1) := dk_176 (dk_at dksX1_testBy_3 5 rfl rfl)
theorem dX1_testBy_58 : decode cX1_testBy 58 = .ok (.new 120, 3) := dk_187 0 120 (dk_at dksX1_testBy_3 6 rfl rfl)
theorem dX1_testBy_61 : decode cX1_testBy 61 = .ok (.dup, 1) := dk_89 (dk_at dksX1_testBy_3 9 rfl rfl)
theorem dX1_testBy_62 : decode cX1_testBy 62 = .ok (.iload_n 0, 1) := dk_26 (dk_at dksX1_testBy_3 10 rfl rfl)
theorem dX1_testBy_63 : decode cX1_testBy 63 = .ok (.iload_n 2, 1) := dk_28 (dk_at dksX1_testBy_3 11 rfl rfl)
theorem dX1_testBy_64 : decode cX1_testBy 64 = .ok (.invokespecial 122, 3) := dk_183 0 122 (dk_at dksX1_testBy_3 12 rfl rfl)
theorem dX1_testBy_67 : decode cX1_testBy 67 = .ok (.areturn, 1) := dk_176 (dk_at dksX1_testBy_3 15 rfl rfl)
abbrev cX1_adds : ByteArray := prog_1_method_24_code
def yX1_adds : MethodName := ⟨RX1, "adds", "(LPolicyNotation$Rule;[LPolicyNotation$Test;)LPolicyNotation$Whys;"⟩
def dkwX1_adds_6 : List UInt8 := [167, 255, 220, 25, 5, 176]
abbrev dktX1_adds_6 : List UInt8 := dkwX1_adds_6 ++ []
def dkwX1_adds_5 : List UInt8 := [182, 0, 168, 29, 164, 0, 23, 43, 180, 1, 6, 43, 180, 1, 6, 182, 0, 168, 4, 100, 182, 1, 18, 87]
abbrev dktX1_adds_5 : List UInt8 := dkwX1_adds_5 ++ dktX1_adds_6
def dkwX1_adds_4 : List UInt8 := [3, 16, 7, 21, 4, 182, 1, 14, 58, 5, 25, 5, 182, 0, 70, 154, 0, 34, 43, 180, 1, 6]
abbrev dktX1_adds_4 : List UInt8 := dkwX1_adds_4 ++ dktX1_adds_5
def dkwX1_adds_3 : List UInt8 := [164, 0, 7, 4, 167, 0, 4, 3, 16, 6, 3, 182, 1, 14, 21, 4, 2, 159, 0, 7, 4, 167, 0, 4]
abbrev dktX1_adds_3 : List UInt8 := dkwX1_adds_3 ++ dktX1_adds_4
def dkwX1_adds_2 : List UInt8 := [167, 255, 229, 43, 182, 1, 11, 54, 4, 187, 0, 71, 89, 183, 0, 229, 43, 180, 1, 6, 182, 0, 168, 7]
abbrev dktX1_adds_2 : List UInt8 := dkwX1_adds_2 ++ dktX1_adds_3
def dkwX1_adds_1 : List UInt8 := [162, 0, 26, 25, 4, 21, 6, 50, 58, 7, 43, 180, 1, 6, 25, 7, 182, 0, 183, 87, 132, 6, 1]
abbrev dktX1_adds_1 : List UInt8 := dkwX1_adds_1 ++ dktX1_adds_2
def dkwX1_adds_0 : List UInt8 := [43, 180, 1, 6, 182, 0, 168, 62, 44, 58, 4, 25, 4, 190, 54, 5, 3, 54, 6, 21, 6, 21, 5]
abbrev dktX1_adds_0 : List UInt8 := dkwX1_adds_0 ++ dktX1_adds_1
theorem dksX1_adds_0 : cX1_adds.data.toList.drop 0 = dktX1_adds_0 := by decide +kernel
theorem dksX1_adds_1 : cX1_adds.data.toList.drop 23 = dktX1_adds_1 := dk_seg dksX1_adds_0 23 rfl rfl
theorem dksX1_adds_2 : cX1_adds.data.toList.drop 46 = dktX1_adds_2 := dk_seg dksX1_adds_1 23 rfl rfl
theorem dksX1_adds_3 : cX1_adds.data.toList.drop 70 = dktX1_adds_3 := dk_seg dksX1_adds_2 24 rfl rfl
theorem dksX1_adds_4 : cX1_adds.data.toList.drop 94 = dktX1_adds_4 := dk_seg dksX1_adds_3 24 rfl rfl
theorem dksX1_adds_5 : cX1_adds.data.toList.drop 116 = dktX1_adds_5 := dk_seg dksX1_adds_4 22 rfl rfl
theorem dksX1_adds_6 : cX1_adds.data.toList.drop 140 = dktX1_adds_6 := dk_seg dksX1_adds_5 24 rfl rfl
theorem dX1_adds_0 : decode cX1_adds 0 = .ok (.aload_n 1, 1) := dk_43 (dk_at dksX1_adds_0 0 rfl rfl)
theorem dX1_adds_1 : decode cX1_adds 1 = .ok (.getfield 262, 3) := dk_180 1 6 (dk_at dksX1_adds_0 1 rfl rfl)
theorem dX1_adds_4 : decode cX1_adds 4 = .ok (.invokevirtual 168, 3) := dk_182 0 168 (dk_at dksX1_adds_0 4 rfl rfl)
theorem dX1_adds_7 : decode cX1_adds 7 = .ok (.istore_n 3, 1) := dk_62 (dk_at dksX1_adds_0 7 rfl rfl)
theorem dX1_adds_8 : decode cX1_adds 8 = .ok (.aload_n 2, 1) := dk_44 (dk_at dksX1_adds_0 8 rfl rfl)
theorem dX1_adds_9 : decode cX1_adds 9 = .ok (.astore 4, 2) := dk_58 4 (dk_at dksX1_adds_0 9 rfl rfl)
theorem dX1_adds_11 : decode cX1_adds 11 = .ok (.aload 4, 2) := dk_25 4 (dk_at dksX1_adds_0 11 rfl rfl)
theorem dX1_adds_13 : decode cX1_adds 13 = .ok (.arraylength, 1) := dk_190 (dk_at dksX1_adds_0 13 rfl rfl)
theorem dX1_adds_14 : decode cX1_adds 14 = .ok (.istore 5, 2) := dk_54 5 (dk_at dksX1_adds_0 14 rfl rfl)
theorem dX1_adds_16 : decode cX1_adds 16 = .ok (.iconst 0, 1) := dk_3 (dk_at dksX1_adds_0 16 rfl rfl)
theorem dX1_adds_17 : decode cX1_adds 17 = .ok (.istore 6, 2) := dk_54 6 (dk_at dksX1_adds_0 17 rfl rfl)
theorem dX1_adds_19 : decode cX1_adds 19 = .ok (.iload 6, 2) := dk_21 6 (dk_at dksX1_adds_0 19 rfl rfl)
theorem dX1_adds_21 : decode cX1_adds 21 = .ok (.iload 5, 2) := dk_21 5 (dk_at dksX1_adds_0 21 rfl rfl)
theorem dX1_adds_23 : decode cX1_adds 23 = .ok (.if_icmp .ge 26, 3) := dk_162 0 26 (dk_at dksX1_adds_1 0 rfl rfl)
theorem dX1_adds_26 : decode cX1_adds 26 = .ok (.aload 4, 2) := dk_25 4 (dk_at dksX1_adds_1 3 rfl rfl)
theorem dX1_adds_28 : decode cX1_adds 28 = .ok (.iload 6, 2) := dk_21 6 (dk_at dksX1_adds_1 5 rfl rfl)
theorem dX1_adds_30 : decode cX1_adds 30 = .ok (.aaload, 1) := dk_50 (dk_at dksX1_adds_1 7 rfl rfl)
theorem dX1_adds_31 : decode cX1_adds 31 = .ok (.astore 7, 2) := dk_58 7 (dk_at dksX1_adds_1 8 rfl rfl)
theorem dX1_adds_33 : decode cX1_adds 33 = .ok (.aload_n 1, 1) := dk_43 (dk_at dksX1_adds_1 10 rfl rfl)
theorem dX1_adds_34 : decode cX1_adds 34 = .ok (.getfield 262, 3) := dk_180 1 6 (dk_at dksX1_adds_1 11 rfl rfl)
theorem dX1_adds_37 : decode cX1_adds 37 = .ok (.aload 7, 2) := dk_25 7 (dk_at dksX1_adds_1 14 rfl rfl)
theorem dX1_adds_39 : decode cX1_adds 39 = .ok (.invokevirtual 183, 3) := dk_182 0 183 (dk_at dksX1_adds_1 16 rfl rfl)
theorem dX1_adds_42 : decode cX1_adds 42 = .ok (.pop, 1) := dk_87 (dk_at dksX1_adds_1 19 rfl rfl)
theorem dX1_adds_43 : decode cX1_adds 43 = .ok (.iinc 6 1, 3) := dk_132 6 1 (dk_at dksX1_adds_1 20 rfl rfl)
theorem dX1_adds_46 : decode cX1_adds 46 = .ok (.goto (-27), 3) := dk_167 255 229 (dk_at dksX1_adds_2 0 rfl rfl)
theorem dX1_adds_49 : decode cX1_adds 49 = .ok (.aload_n 1, 1) := dk_43 (dk_at dksX1_adds_2 3 rfl rfl)
theorem dX1_adds_50 : decode cX1_adds 50 = .ok (.invokevirtual 267, 3) := dk_182 1 11 (dk_at dksX1_adds_2 4 rfl rfl)
theorem dX1_adds_53 : decode cX1_adds 53 = .ok (.istore 4, 2) := dk_54 4 (dk_at dksX1_adds_2 7 rfl rfl)
theorem dX1_adds_55 : decode cX1_adds 55 = .ok (.new 71, 3) := dk_187 0 71 (dk_at dksX1_adds_2 9 rfl rfl)
theorem dX1_adds_58 : decode cX1_adds 58 = .ok (.dup, 1) := dk_89 (dk_at dksX1_adds_2 12 rfl rfl)
theorem dX1_adds_59 : decode cX1_adds 59 = .ok (.invokespecial 229, 3) := dk_183 0 229 (dk_at dksX1_adds_2 13 rfl rfl)
theorem dX1_adds_62 : decode cX1_adds 62 = .ok (.aload_n 1, 1) := dk_43 (dk_at dksX1_adds_2 16 rfl rfl)
theorem dX1_adds_63 : decode cX1_adds 63 = .ok (.getfield 262, 3) := dk_180 1 6 (dk_at dksX1_adds_2 17 rfl rfl)
theorem dX1_adds_66 : decode cX1_adds 66 = .ok (.invokevirtual 168, 3) := dk_182 0 168 (dk_at dksX1_adds_2 20 rfl rfl)
theorem dX1_adds_69 : decode cX1_adds 69 = .ok (.iconst 4, 1) := dk_7 (dk_at dksX1_adds_2 23 rfl rfl)
theorem dX1_adds_70 : decode cX1_adds 70 = .ok (.if_icmp .le 7, 3) := dk_164 0 7 (dk_at dksX1_adds_3 0 rfl rfl)
theorem dX1_adds_73 : decode cX1_adds 73 = .ok (.iconst 1, 1) := dk_4 (dk_at dksX1_adds_3 3 rfl rfl)
theorem dX1_adds_74 : decode cX1_adds 74 = .ok (.goto 4, 3) := dk_167 0 4 (dk_at dksX1_adds_3 4 rfl rfl)
theorem dX1_adds_77 : decode cX1_adds 77 = .ok (.iconst 0, 1) := dk_3 (dk_at dksX1_adds_3 7 rfl rfl)
theorem dX1_adds_78 : decode cX1_adds 78 = .ok (.bipush 6, 2) := dk_16 6 (dk_at dksX1_adds_3 8 rfl rfl)
theorem dX1_adds_80 : decode cX1_adds 80 = .ok (.iconst 0, 1) := dk_3 (dk_at dksX1_adds_3 10 rfl rfl)
theorem dX1_adds_81 : decode cX1_adds 81 = .ok (.invokevirtual 270, 3) := dk_182 1 14 (dk_at dksX1_adds_3 11 rfl rfl)
theorem dX1_adds_84 : decode cX1_adds 84 = .ok (.iload 4, 2) := dk_21 4 (dk_at dksX1_adds_3 14 rfl rfl)
theorem dX1_adds_86 : decode cX1_adds 86 = .ok (.iconst (-1), 1) := dk_2 (dk_at dksX1_adds_3 16 rfl rfl)
theorem dX1_adds_87 : decode cX1_adds 87 = .ok (.if_icmp .eq 7, 3) := dk_159 0 7 (dk_at dksX1_adds_3 17 rfl rfl)
theorem dX1_adds_90 : decode cX1_adds 90 = .ok (.iconst 1, 1) := dk_4 (dk_at dksX1_adds_3 20 rfl rfl)
theorem dX1_adds_91 : decode cX1_adds 91 = .ok (.goto 4, 3) := dk_167 0 4 (dk_at dksX1_adds_3 21 rfl rfl)
theorem dX1_adds_94 : decode cX1_adds 94 = .ok (.iconst 0, 1) := dk_3 (dk_at dksX1_adds_4 0 rfl rfl)
theorem dX1_adds_95 : decode cX1_adds 95 = .ok (.bipush 7, 2) := dk_16 7 (dk_at dksX1_adds_4 1 rfl rfl)
theorem dX1_adds_97 : decode cX1_adds 97 = .ok (.iload 4, 2) := dk_21 4 (dk_at dksX1_adds_4 3 rfl rfl)
theorem dX1_adds_99 : decode cX1_adds 99 = .ok (.invokevirtual 270, 3) := dk_182 1 14 (dk_at dksX1_adds_4 5 rfl rfl)
theorem dX1_adds_102 : decode cX1_adds 102 = .ok (.astore 5, 2) := dk_58 5 (dk_at dksX1_adds_4 8 rfl rfl)
theorem dX1_adds_104 : decode cX1_adds 104 = .ok (.aload 5, 2) := dk_25 5 (dk_at dksX1_adds_4 10 rfl rfl)
theorem dX1_adds_106 : decode cX1_adds 106 = .ok (.invokevirtual 70, 3) := dk_182 0 70 (dk_at dksX1_adds_4 12 rfl rfl)
theorem dX1_adds_109 : decode cX1_adds 109 = .ok (.ifCond .ne 34, 3) := dk_154 0 34 (dk_at dksX1_adds_4 15 rfl rfl)
theorem dX1_adds_112 : decode cX1_adds 112 = .ok (.aload_n 1, 1) := dk_43 (dk_at dksX1_adds_4 18 rfl rfl)
theorem dX1_adds_113 : decode cX1_adds 113 = .ok (.getfield 262, 3) := dk_180 1 6 (dk_at dksX1_adds_4 19 rfl rfl)
theorem dX1_adds_116 : decode cX1_adds 116 = .ok (.invokevirtual 168, 3) := dk_182 0 168 (dk_at dksX1_adds_5 0 rfl rfl)
theorem dX1_adds_119 : decode cX1_adds 119 = .ok (.iload_n 3, 1) := dk_29 (dk_at dksX1_adds_5 3 rfl rfl)
theorem dX1_adds_120 : decode cX1_adds 120 = .ok (.if_icmp .le 23, 3) := dk_164 0 23 (dk_at dksX1_adds_5 4 rfl rfl)
theorem dX1_adds_123 : decode cX1_adds 123 = .ok (.aload_n 1, 1) := dk_43 (dk_at dksX1_adds_5 7 rfl rfl)
theorem dX1_adds_124 : decode cX1_adds 124 = .ok (.getfield 262, 3) := dk_180 1 6 (dk_at dksX1_adds_5 8 rfl rfl)
theorem dX1_adds_127 : decode cX1_adds 127 = .ok (.aload_n 1, 1) := dk_43 (dk_at dksX1_adds_5 11 rfl rfl)
theorem dX1_adds_128 : decode cX1_adds 128 = .ok (.getfield 262, 3) := dk_180 1 6 (dk_at dksX1_adds_5 12 rfl rfl)
theorem dX1_adds_131 : decode cX1_adds 131 = .ok (.invokevirtual 168, 3) := dk_182 0 168 (dk_at dksX1_adds_5 15 rfl rfl)
theorem dX1_adds_134 : decode cX1_adds 134 = .ok (.iconst 1, 1) := dk_4 (dk_at dksX1_adds_5 18 rfl rfl)
theorem dX1_adds_135 : decode cX1_adds 135 = .ok (.isub, 1) := dk_100 (dk_at dksX1_adds_5 19 rfl rfl)
theorem dX1_adds_136 : decode cX1_adds 136 = .ok (.invokevirtual 274, 3) := dk_182 1 18 (dk_at dksX1_adds_5 20 rfl rfl)
theorem dX1_adds_139 : decode cX1_adds 139 = .ok (.pop, 1) := dk_87 (dk_at dksX1_adds_5 23 rfl rfl)
theorem dX1_adds_140 : decode cX1_adds 140 = .ok (.goto (-36), 3) := dk_167 255 220 (dk_at dksX1_adds_6 0 rfl rfl)
theorem dX1_adds_143 : decode cX1_adds 143 = .ok (.aload 5, 2) := dk_25 5 (dk_at dksX1_adds_6 3 rfl rfl)
theorem dX1_adds_145 : decode cX1_adds 145 = .ok (.areturn, 1) := dk_176 (dk_at dksX1_adds_6 5 rfl rfl)
abbrev cX1_setFactor : ByteArray := prog_1_method_26_code
def yX1_setFactor : MethodName := ⟨RX1, "setFactor", "(II)I"⟩
def dkwX1_setFactor_2 : List UInt8 := [172]
abbrev dktX1_setFactor_2 : List UInt8 := dkwX1_setFactor_2 ++ []
def dkwX1_setFactor_1 : List UInt8 := [182, 0, 174, 58, 4, 45, 180, 1, 30, 54, 5, 45, 28, 181, 1, 30, 42, 25, 4, 21, 5, 182, 0, 187]
abbrev dktX1_setFactor_1 : List UInt8 := dkwX1_setFactor_1 ++ dktX1_setFactor_2
def dkwX1_setFactor_0 : List UInt8 := [42, 180, 0, 10, 27, 182, 0, 249, 78, 28, 3, 17, 3, 232, 184, 0, 134, 184, 0, 153, 42, 180, 0, 10]
abbrev dktX1_setFactor_0 : List UInt8 := dkwX1_setFactor_0 ++ dktX1_setFactor_1
theorem dksX1_setFactor_0 : cX1_setFactor.data.toList.drop 0 = dktX1_setFactor_0 := by decide +kernel
theorem dksX1_setFactor_1 : cX1_setFactor.data.toList.drop 24 = dktX1_setFactor_1 := dk_seg dksX1_setFactor_0 24 rfl rfl
theorem dksX1_setFactor_2 : cX1_setFactor.data.toList.drop 48 = dktX1_setFactor_2 := dk_seg dksX1_setFactor_1 24 rfl rfl
theorem dX1_setFactor_0 : decode cX1_setFactor 0 = .ok (.aload_n 0, 1) := dk_42 (dk_at dksX1_setFactor_0 0 rfl rfl)
theorem dX1_setFactor_1 : decode cX1_setFactor 1 = .ok (.getfield 10, 3) := dk_180 0 10 (dk_at dksX1_setFactor_0 1 rfl rfl)
theorem dX1_setFactor_4 : decode cX1_setFactor 4 = .ok (.iload_n 1, 1) := dk_27 (dk_at dksX1_setFactor_0 4 rfl rfl)
theorem dX1_setFactor_5 : decode cX1_setFactor 5 = .ok (.invokevirtual 249, 3) := dk_182 0 249 (dk_at dksX1_setFactor_0 5 rfl rfl)
theorem dX1_setFactor_8 : decode cX1_setFactor 8 = .ok (.astore_n 3, 1) := dk_78 (dk_at dksX1_setFactor_0 8 rfl rfl)
theorem dX1_setFactor_9 : decode cX1_setFactor 9 = .ok (.iload_n 2, 1) := dk_28 (dk_at dksX1_setFactor_0 9 rfl rfl)
theorem dX1_setFactor_10 : decode cX1_setFactor 10 = .ok (.iconst 0, 1) := dk_3 (dk_at dksX1_setFactor_0 10 rfl rfl)
theorem dX1_setFactor_11 : decode cX1_setFactor 11 = .ok (.sipush 1000, 3) := dk_17 3 232 (dk_at dksX1_setFactor_0 11 rfl rfl)
theorem dX1_setFactor_14 : decode cX1_setFactor 14 = .ok (.invokestatic 134, 3) := dk_184 0 134 (dk_at dksX1_setFactor_0 14 rfl rfl)
theorem dX1_setFactor_17 : decode cX1_setFactor 17 = .ok (.invokestatic 153, 3) := dk_184 0 153 (dk_at dksX1_setFactor_0 17 rfl rfl)
theorem dX1_setFactor_20 : decode cX1_setFactor 20 = .ok (.aload_n 0, 1) := dk_42 (dk_at dksX1_setFactor_0 20 rfl rfl)
theorem dX1_setFactor_21 : decode cX1_setFactor 21 = .ok (.getfield 10, 3) := dk_180 0 10 (dk_at dksX1_setFactor_0 21 rfl rfl)
theorem dX1_setFactor_24 : decode cX1_setFactor 24 = .ok (.invokevirtual 174, 3) := dk_182 0 174 (dk_at dksX1_setFactor_1 0 rfl rfl)
theorem dX1_setFactor_27 : decode cX1_setFactor 27 = .ok (.astore 4, 2) := dk_58 4 (dk_at dksX1_setFactor_1 3 rfl rfl)
theorem dX1_setFactor_29 : decode cX1_setFactor 29 = .ok (.aload_n 3, 1) := dk_45 (dk_at dksX1_setFactor_1 5 rfl rfl)
theorem dX1_setFactor_30 : decode cX1_setFactor 30 = .ok (.getfield 286, 3) := dk_180 1 30 (dk_at dksX1_setFactor_1 6 rfl rfl)
theorem dX1_setFactor_33 : decode cX1_setFactor 33 = .ok (.istore 5, 2) := dk_54 5 (dk_at dksX1_setFactor_1 9 rfl rfl)
theorem dX1_setFactor_35 : decode cX1_setFactor 35 = .ok (.aload_n 3, 1) := dk_45 (dk_at dksX1_setFactor_1 11 rfl rfl)
theorem dX1_setFactor_36 : decode cX1_setFactor 36 = .ok (.iload_n 2, 1) := dk_28 (dk_at dksX1_setFactor_1 12 rfl rfl)
theorem dX1_setFactor_37 : decode cX1_setFactor 37 = .ok (.putfield 286, 3) := dk_181 1 30 (dk_at dksX1_setFactor_1 13 rfl rfl)
theorem dX1_setFactor_40 : decode cX1_setFactor 40 = .ok (.aload_n 0, 1) := dk_42 (dk_at dksX1_setFactor_1 16 rfl rfl)
theorem dX1_setFactor_41 : decode cX1_setFactor 41 = .ok (.aload 4, 2) := dk_25 4 (dk_at dksX1_setFactor_1 17 rfl rfl)
theorem dX1_setFactor_43 : decode cX1_setFactor 43 = .ok (.iload 5, 2) := dk_21 5 (dk_at dksX1_setFactor_1 19 rfl rfl)
theorem dX1_setFactor_45 : decode cX1_setFactor 45 = .ok (.invokevirtual 187, 3) := dk_182 0 187 (dk_at dksX1_setFactor_1 21 rfl rfl)
theorem dX1_setFactor_48 : decode cX1_setFactor 48 = .ok (.ireturn, 1) := dk_172 (dk_at dksX1_setFactor_2 0 rfl rfl)
abbrev cX1_end : ByteArray := prog_1_method_27_code
def yX1_end : MethodName := ⟨RX1, "end", "(II)I"⟩
def dkwX1_end_4 : List UInt8 := [21, 5, 182, 0, 187, 172]
abbrev dktX1_end_4 : List UInt8 := dkwX1_end_4 ++ []
def dkwX1_end_3 : List UInt8 := [42, 180, 0, 10, 182, 0, 174, 58, 4, 45, 180, 1, 35, 54, 5, 45, 28, 181, 1, 35, 42, 25, 4]
abbrev dktX1_end_3 : List UInt8 := dkwX1_end_3 ++ dktX1_end_4
def dkwX1_end_2 : List UInt8 := [180, 1, 35, 28, 162, 0, 7, 4, 167, 0, 4, 3, 16, 8, 45, 180, 1, 35, 182, 1, 14, 182, 0, 234]
abbrev dktX1_end_2 : List UInt8 := dkwX1_end_2 ++ dktX1_end_3
def dkwX1_end_1 : List UInt8 := [45, 180, 1, 33, 28, 164, 0, 7, 4, 167, 0, 4, 3, 6, 45, 180, 1, 33, 182, 1, 14, 45]
abbrev dktX1_end_1 : List UInt8 := dkwX1_end_1 ++ dktX1_end_2
def dkwX1_end_0 : List UInt8 := [42, 180, 0, 10, 27, 182, 0, 249, 78, 28, 184, 0, 147, 184, 0, 153, 42, 187, 0, 71, 89, 183, 0, 229]
abbrev dktX1_end_0 : List UInt8 := dkwX1_end_0 ++ dktX1_end_1
theorem dksX1_end_0 : cX1_end.data.toList.drop 0 = dktX1_end_0 := by decide +kernel
theorem dksX1_end_1 : cX1_end.data.toList.drop 24 = dktX1_end_1 := dk_seg dksX1_end_0 24 rfl rfl
theorem dksX1_end_2 : cX1_end.data.toList.drop 46 = dktX1_end_2 := dk_seg dksX1_end_1 22 rfl rfl
theorem dksX1_end_3 : cX1_end.data.toList.drop 70 = dktX1_end_3 := dk_seg dksX1_end_2 24 rfl rfl
theorem dksX1_end_4 : cX1_end.data.toList.drop 93 = dktX1_end_4 := dk_seg dksX1_end_3 23 rfl rfl
theorem dX1_end_0 : decode cX1_end 0 = .ok (.aload_n 0, 1) := dk_42 (dk_at dksX1_end_0 0 rfl rfl)
theorem dX1_end_1 : decode cX1_end 1 = .ok (.getfield 10, 3) := dk_180 0 10 (dk_at dksX1_end_0 1 rfl rfl)
theorem dX1_end_4 : decode cX1_end 4 = .ok (.iload_n 1, 1) := dk_27 (dk_at dksX1_end_0 4 rfl rfl)
theorem dX1_end_5 : decode cX1_end 5 = .ok (.invokevirtual 249, 3) := dk_182 0 249 (dk_at dksX1_end_0 5 rfl rfl)
theorem dX1_end_8 : decode cX1_end 8 = .ok (.astore_n 3, 1) := dk_78 (dk_at dksX1_end_0 8 rfl rfl)
theorem dX1_end_9 : decode cX1_end 9 = .ok (.iload_n 2, 1) := dk_28 (dk_at dksX1_end_0 9 rfl rfl)
theorem dX1_end_10 : decode cX1_end 10 = .ok (.invokestatic 147, 3) := dk_184 0 147 (dk_at dksX1_end_0 10 rfl rfl)
theorem dX1_end_13 : decode cX1_end 13 = .ok (.invokestatic 153, 3) := dk_184 0 153 (dk_at dksX1_end_0 13 rfl rfl)
theorem dX1_end_16 : decode cX1_end 16 = .ok (.aload_n 0, 1) := dk_42 (dk_at dksX1_end_0 16 rfl rfl)
theorem dX1_end_17 : decode cX1_end 17 = .ok (.new 71, 3) := dk_187 0 71 (dk_at dksX1_end_0 17 rfl rfl)
theorem dX1_end_20 : decode cX1_end 20 = .ok (.dup, 1) := dk_89 (dk_at dksX1_end_0 20 rfl rfl)
theorem dX1_end_21 : decode cX1_end 21 = .ok (.invokespecial 229, 3) := dk_183 0 229 (dk_at dksX1_end_0 21 rfl rfl)
theorem dX1_end_24 : decode cX1_end 24 = .ok (.aload_n 3, 1) := dk_45 (dk_at dksX1_end_1 0 rfl rfl)
theorem dX1_end_25 : decode cX1_end 25 = .ok (.getfield 289, 3) := dk_180 1 33 (dk_at dksX1_end_1 1 rfl rfl)
theorem dX1_end_28 : decode cX1_end 28 = .ok (.iload_n 2, 1) := dk_28 (dk_at dksX1_end_1 4 rfl rfl)
theorem dX1_end_29 : decode cX1_end 29 = .ok (.if_icmp .le 7, 3) := dk_164 0 7 (dk_at dksX1_end_1 5 rfl rfl)
theorem dX1_end_32 : decode cX1_end 32 = .ok (.iconst 1, 1) := dk_4 (dk_at dksX1_end_1 8 rfl rfl)
theorem dX1_end_33 : decode cX1_end 33 = .ok (.goto 4, 3) := dk_167 0 4 (dk_at dksX1_end_1 9 rfl rfl)
theorem dX1_end_36 : decode cX1_end 36 = .ok (.iconst 0, 1) := dk_3 (dk_at dksX1_end_1 12 rfl rfl)
theorem dX1_end_37 : decode cX1_end 37 = .ok (.iconst 3, 1) := dk_6 (dk_at dksX1_end_1 13 rfl rfl)
theorem dX1_end_38 : decode cX1_end 38 = .ok (.aload_n 3, 1) := dk_45 (dk_at dksX1_end_1 14 rfl rfl)
theorem dX1_end_39 : decode cX1_end 39 = .ok (.getfield 289, 3) := dk_180 1 33 (dk_at dksX1_end_1 15 rfl rfl)
theorem dX1_end_42 : decode cX1_end 42 = .ok (.invokevirtual 270, 3) := dk_182 1 14 (dk_at dksX1_end_1 18 rfl rfl)
theorem dX1_end_45 : decode cX1_end 45 = .ok (.aload_n 3, 1) := dk_45 (dk_at dksX1_end_1 21 rfl rfl)
theorem dX1_end_46 : decode cX1_end 46 = .ok (.getfield 291, 3) := dk_180 1 35 (dk_at dksX1_end_2 0 rfl rfl)
theorem dX1_end_49 : decode cX1_end 49 = .ok (.iload_n 2, 1) := dk_28 (dk_at dksX1_end_2 3 rfl rfl)
theorem dX1_end_50 : decode cX1_end 50 = .ok (.if_icmp .ge 7, 3) := dk_162 0 7 (dk_at dksX1_end_2 4 rfl rfl)
theorem dX1_end_53 : decode cX1_end 53 = .ok (.iconst 1, 1) := dk_4 (dk_at dksX1_end_2 7 rfl rfl)
theorem dX1_end_54 : decode cX1_end 54 = .ok (.goto 4, 3) := dk_167 0 4 (dk_at dksX1_end_2 8 rfl rfl)
theorem dX1_end_57 : decode cX1_end 57 = .ok (.iconst 0, 1) := dk_3 (dk_at dksX1_end_2 11 rfl rfl)
theorem dX1_end_58 : decode cX1_end 58 = .ok (.bipush 8, 2) := dk_16 8 (dk_at dksX1_end_2 12 rfl rfl)
theorem dX1_end_60 : decode cX1_end 60 = .ok (.aload_n 3, 1) := dk_45 (dk_at dksX1_end_2 14 rfl rfl)
theorem dX1_end_61 : decode cX1_end 61 = .ok (.getfield 291, 3) := dk_180 1 35 (dk_at dksX1_end_2 15 rfl rfl)
theorem dX1_end_64 : decode cX1_end 64 = .ok (.invokevirtual 270, 3) := dk_182 1 14 (dk_at dksX1_end_2 18 rfl rfl)
theorem dX1_end_67 : decode cX1_end 67 = .ok (.invokevirtual 234, 3) := dk_182 0 234 (dk_at dksX1_end_2 21 rfl rfl)
theorem dX1_end_70 : decode cX1_end 70 = .ok (.aload_n 0, 1) := dk_42 (dk_at dksX1_end_3 0 rfl rfl)
theorem dX1_end_71 : decode cX1_end 71 = .ok (.getfield 10, 3) := dk_180 0 10 (dk_at dksX1_end_3 1 rfl rfl)
theorem dX1_end_74 : decode cX1_end 74 = .ok (.invokevirtual 174, 3) := dk_182 0 174 (dk_at dksX1_end_3 4 rfl rfl)
theorem dX1_end_77 : decode cX1_end 77 = .ok (.astore 4, 2) := dk_58 4 (dk_at dksX1_end_3 7 rfl rfl)
theorem dX1_end_79 : decode cX1_end 79 = .ok (.aload_n 3, 1) := dk_45 (dk_at dksX1_end_3 9 rfl rfl)
theorem dX1_end_80 : decode cX1_end 80 = .ok (.getfield 291, 3) := dk_180 1 35 (dk_at dksX1_end_3 10 rfl rfl)
theorem dX1_end_83 : decode cX1_end 83 = .ok (.istore 5, 2) := dk_54 5 (dk_at dksX1_end_3 13 rfl rfl)
theorem dX1_end_85 : decode cX1_end 85 = .ok (.aload_n 3, 1) := dk_45 (dk_at dksX1_end_3 15 rfl rfl)
theorem dX1_end_86 : decode cX1_end 86 = .ok (.iload_n 2, 1) := dk_28 (dk_at dksX1_end_3 16 rfl rfl)
theorem dX1_end_87 : decode cX1_end 87 = .ok (.putfield 291, 3) := dk_181 1 35 (dk_at dksX1_end_3 17 rfl rfl)
theorem dX1_end_90 : decode cX1_end 90 = .ok (.aload_n 0, 1) := dk_42 (dk_at dksX1_end_3 20 rfl rfl)
theorem dX1_end_91 : decode cX1_end 91 = .ok (.aload 4, 2) := dk_25 4 (dk_at dksX1_end_3 21 rfl rfl)
theorem dX1_end_93 : decode cX1_end 93 = .ok (.iload 5, 2) := dk_21 5 (dk_at dksX1_end_4 0 rfl rfl)
theorem dX1_end_95 : decode cX1_end 95 = .ok (.invokevirtual 187, 3) := dk_182 0 187 (dk_at dksX1_end_4 2 rfl rfl)
theorem dX1_end_98 : decode cX1_end 98 = .ok (.ireturn, 1) := dk_172 (dk_at dksX1_end_4 5 rfl rfl)
abbrev cX1_ruleOf : ByteArray := prog_1_method_28_code
def yX1_ruleOf : MethodName := ⟨RX1, "ruleOf", "(II)I"⟩
def dkwX1_ruleOf_4 : List UInt8 := [180, 0, 10, 27, 186, 1, 50, 0, 0, 182, 0, 219, 172, 45, 180, 1, 30, 172]
abbrev dktX1_ruleOf_4 : List UInt8 := dkwX1_ruleOf_4 ++ []
def dkwX1_ruleOf_3 : List UInt8 := [180, 1, 35, 172, 45, 182, 1, 46, 172, 45, 182, 1, 49, 172, 45, 180, 1, 6, 182, 0, 168, 172, 42]
abbrev dktX1_ruleOf_3 : List UInt8 := dkwX1_ruleOf_3 ++ dktX1_ruleOf_4
def dkwX1_ruleOf_2 : List UInt8 := [45, 182, 1, 38, 184, 0, 194, 172, 45, 180, 1, 41, 172, 45, 180, 1, 43, 172, 45, 180, 1, 33, 172, 45]
abbrev dktX1_ruleOf_2 : List UInt8 := dkwX1_ruleOf_2 ++ dktX1_ruleOf_3
def dkwX1_ruleOf_1 : List UInt8 := [170, 0, 0, 0, 0, 0, 0, 112, 0, 0, 0, 0, 0, 0, 0, 8, 0, 0, 0, 52, 0, 0, 0, 60, 0, 0, 0, 65, 0, 0, 0, 70, 0, 0, 0, 75, 0, 0, 0, 80, 0, 0, 0, 85, 0, 0, 0, 90, 0, 0, 0, 98]
abbrev dktX1_ruleOf_1 : List UInt8 := dkwX1_ruleOf_1 ++ dktX1_ruleOf_2
def dkwX1_ruleOf_0 : List UInt8 := [42, 180, 0, 10, 27, 182, 0, 249, 78, 28, 3, 16, 9, 184, 0, 134, 184, 0, 153, 28]
abbrev dktX1_ruleOf_0 : List UInt8 := dkwX1_ruleOf_0 ++ dktX1_ruleOf_1
theorem dksX1_ruleOf_0 : cX1_ruleOf.data.toList.drop 0 = dktX1_ruleOf_0 := by decide +kernel
theorem dksX1_ruleOf_1 : cX1_ruleOf.data.toList.drop 20 = dktX1_ruleOf_1 := dk_seg dksX1_ruleOf_0 20 rfl rfl
theorem dksX1_ruleOf_2 : cX1_ruleOf.data.toList.drop 72 = dktX1_ruleOf_2 := dk_seg dksX1_ruleOf_1 52 rfl rfl
theorem dksX1_ruleOf_3 : cX1_ruleOf.data.toList.drop 96 = dktX1_ruleOf_3 := dk_seg dksX1_ruleOf_2 24 rfl rfl
theorem dksX1_ruleOf_4 : cX1_ruleOf.data.toList.drop 119 = dktX1_ruleOf_4 := dk_seg dksX1_ruleOf_3 23 rfl rfl
theorem dX1_ruleOf_0 : decode cX1_ruleOf 0 = .ok (.aload_n 0, 1) := dk_42 (dk_at dksX1_ruleOf_0 0 rfl rfl)
theorem dX1_ruleOf_1 : decode cX1_ruleOf 1 = .ok (.getfield 10, 3) := dk_180 0 10 (dk_at dksX1_ruleOf_0 1 rfl rfl)
theorem dX1_ruleOf_4 : decode cX1_ruleOf 4 = .ok (.iload_n 1, 1) := dk_27 (dk_at dksX1_ruleOf_0 4 rfl rfl)
theorem dX1_ruleOf_5 : decode cX1_ruleOf 5 = .ok (.invokevirtual 249, 3) := dk_182 0 249 (dk_at dksX1_ruleOf_0 5 rfl rfl)
theorem dX1_ruleOf_8 : decode cX1_ruleOf 8 = .ok (.astore_n 3, 1) := dk_78 (dk_at dksX1_ruleOf_0 8 rfl rfl)
theorem dX1_ruleOf_9 : decode cX1_ruleOf 9 = .ok (.iload_n 2, 1) := dk_28 (dk_at dksX1_ruleOf_0 9 rfl rfl)
theorem dX1_ruleOf_10 : decode cX1_ruleOf 10 = .ok (.iconst 0, 1) := dk_3 (dk_at dksX1_ruleOf_0 10 rfl rfl)
theorem dX1_ruleOf_11 : decode cX1_ruleOf 11 = .ok (.bipush 9, 2) := dk_16 9 (dk_at dksX1_ruleOf_0 11 rfl rfl)
theorem dX1_ruleOf_13 : decode cX1_ruleOf 13 = .ok (.invokestatic 134, 3) := dk_184 0 134 (dk_at dksX1_ruleOf_0 13 rfl rfl)
theorem dX1_ruleOf_16 : decode cX1_ruleOf 16 = .ok (.invokestatic 153, 3) := dk_184 0 153 (dk_at dksX1_ruleOf_0 16 rfl rfl)
theorem dX1_ruleOf_19 : decode cX1_ruleOf 19 = .ok (.iload_n 2, 1) := dk_28 (dk_at dksX1_ruleOf_0 19 rfl rfl)
theorem dX1_ruleOf_20 : decode cX1_ruleOf 20 = .ok (.tableswitch 112 0 8 #[52, 60, 65, 70, 75, 80, 85, 90, 98], 52) := by decide +kernel
theorem dX1_ruleOf_72 : decode cX1_ruleOf 72 = .ok (.aload_n 3, 1) := dk_45 (dk_at dksX1_ruleOf_2 0 rfl rfl)
theorem dX1_ruleOf_73 : decode cX1_ruleOf 73 = .ok (.invokevirtual 294, 3) := dk_182 1 38 (dk_at dksX1_ruleOf_2 1 rfl rfl)
theorem dX1_ruleOf_76 : decode cX1_ruleOf 76 = .ok (.invokestatic 194, 3) := dk_184 0 194 (dk_at dksX1_ruleOf_2 4 rfl rfl)
theorem dX1_ruleOf_79 : decode cX1_ruleOf 79 = .ok (.ireturn, 1) := dk_172 (dk_at dksX1_ruleOf_2 7 rfl rfl)
theorem dX1_ruleOf_80 : decode cX1_ruleOf 80 = .ok (.aload_n 3, 1) := dk_45 (dk_at dksX1_ruleOf_2 8 rfl rfl)
theorem dX1_ruleOf_81 : decode cX1_ruleOf 81 = .ok (.getfield 297, 3) := dk_180 1 41 (dk_at dksX1_ruleOf_2 9 rfl rfl)
theorem dX1_ruleOf_84 : decode cX1_ruleOf 84 = .ok (.ireturn, 1) := dk_172 (dk_at dksX1_ruleOf_2 12 rfl rfl)
theorem dX1_ruleOf_85 : decode cX1_ruleOf 85 = .ok (.aload_n 3, 1) := dk_45 (dk_at dksX1_ruleOf_2 13 rfl rfl)
theorem dX1_ruleOf_86 : decode cX1_ruleOf 86 = .ok (.getfield 299, 3) := dk_180 1 43 (dk_at dksX1_ruleOf_2 14 rfl rfl)
theorem dX1_ruleOf_89 : decode cX1_ruleOf 89 = .ok (.ireturn, 1) := dk_172 (dk_at dksX1_ruleOf_2 17 rfl rfl)
theorem dX1_ruleOf_90 : decode cX1_ruleOf 90 = .ok (.aload_n 3, 1) := dk_45 (dk_at dksX1_ruleOf_2 18 rfl rfl)
theorem dX1_ruleOf_91 : decode cX1_ruleOf 91 = .ok (.getfield 289, 3) := dk_180 1 33 (dk_at dksX1_ruleOf_2 19 rfl rfl)
theorem dX1_ruleOf_94 : decode cX1_ruleOf 94 = .ok (.ireturn, 1) := dk_172 (dk_at dksX1_ruleOf_2 22 rfl rfl)
theorem dX1_ruleOf_95 : decode cX1_ruleOf 95 = .ok (.aload_n 3, 1) := dk_45 (dk_at dksX1_ruleOf_2 23 rfl rfl)
theorem dX1_ruleOf_96 : decode cX1_ruleOf 96 = .ok (.getfield 291, 3) := dk_180 1 35 (dk_at dksX1_ruleOf_3 0 rfl rfl)
theorem dX1_ruleOf_99 : decode cX1_ruleOf 99 = .ok (.ireturn, 1) := dk_172 (dk_at dksX1_ruleOf_3 3 rfl rfl)
theorem dX1_ruleOf_100 : decode cX1_ruleOf 100 = .ok (.aload_n 3, 1) := dk_45 (dk_at dksX1_ruleOf_3 4 rfl rfl)
theorem dX1_ruleOf_101 : decode cX1_ruleOf 101 = .ok (.invokevirtual 302, 3) := dk_182 1 46 (dk_at dksX1_ruleOf_3 5 rfl rfl)
theorem dX1_ruleOf_104 : decode cX1_ruleOf 104 = .ok (.ireturn, 1) := dk_172 (dk_at dksX1_ruleOf_3 8 rfl rfl)
theorem dX1_ruleOf_105 : decode cX1_ruleOf 105 = .ok (.aload_n 3, 1) := dk_45 (dk_at dksX1_ruleOf_3 9 rfl rfl)
theorem dX1_ruleOf_106 : decode cX1_ruleOf 106 = .ok (.invokevirtual 305, 3) := dk_182 1 49 (dk_at dksX1_ruleOf_3 10 rfl rfl)
theorem dX1_ruleOf_109 : decode cX1_ruleOf 109 = .ok (.ireturn, 1) := dk_172 (dk_at dksX1_ruleOf_3 13 rfl rfl)
theorem dX1_ruleOf_110 : decode cX1_ruleOf 110 = .ok (.aload_n 3, 1) := dk_45 (dk_at dksX1_ruleOf_3 14 rfl rfl)
theorem dX1_ruleOf_111 : decode cX1_ruleOf 111 = .ok (.getfield 262, 3) := dk_180 1 6 (dk_at dksX1_ruleOf_3 15 rfl rfl)
theorem dX1_ruleOf_114 : decode cX1_ruleOf 114 = .ok (.invokevirtual 168, 3) := dk_182 0 168 (dk_at dksX1_ruleOf_3 18 rfl rfl)
theorem dX1_ruleOf_117 : decode cX1_ruleOf 117 = .ok (.ireturn, 1) := dk_172 (dk_at dksX1_ruleOf_3 21 rfl rfl)
theorem dX1_ruleOf_118 : decode cX1_ruleOf 118 = .ok (.aload_n 0, 1) := dk_42 (dk_at dksX1_ruleOf_3 22 rfl rfl)
theorem dX1_ruleOf_119 : decode cX1_ruleOf 119 = .ok (.getfield 10, 3) := dk_180 0 10 (dk_at dksX1_ruleOf_4 0 rfl rfl)
theorem dX1_ruleOf_122 : decode cX1_ruleOf 122 = .ok (.iload_n 1, 1) := dk_27 (dk_at dksX1_ruleOf_4 3 rfl rfl)
theorem dX1_ruleOf_123 : decode cX1_ruleOf 123 = .ok (.invokedynamic 306, 5) := by decide +kernel
theorem dX1_ruleOf_128 : decode cX1_ruleOf 128 = .ok (.invokevirtual 219, 3) := dk_182 0 219 (dk_at dksX1_ruleOf_4 9 rfl rfl)
theorem dX1_ruleOf_131 : decode cX1_ruleOf 131 = .ok (.ireturn, 1) := dk_172 (dk_at dksX1_ruleOf_4 12 rfl rfl)
theorem dX1_ruleOf_132 : decode cX1_ruleOf 132 = .ok (.aload_n 3, 1) := dk_45 (dk_at dksX1_ruleOf_4 13 rfl rfl)
theorem dX1_ruleOf_133 : decode cX1_ruleOf 133 = .ok (.getfield 286, 3) := dk_180 1 30 (dk_at dksX1_ruleOf_4 14 rfl rfl)
theorem dX1_ruleOf_136 : decode cX1_ruleOf 136 = .ok (.ireturn, 1) := dk_172 (dk_at dksX1_ruleOf_4 17 rfl rfl)
abbrev cX1_lambda_ruleOf_1 : ByteArray := prog_1_method_86_code
def yX1_lambda_ruleOf_1 : MethodName := ⟨RX1, "lambda$ruleOf$1", "(ILPolicyNotation$Rule;)Z"⟩
def dkwX1_lambda_ruleOf_1_0 : List UInt8 := [43, 182, 1, 46, 26, 160, 0, 7, 4, 167, 0, 4, 3, 172]
abbrev dktX1_lambda_ruleOf_1_0 : List UInt8 := dkwX1_lambda_ruleOf_1_0 ++ []
theorem dksX1_lambda_ruleOf_1_0 : cX1_lambda_ruleOf_1.data.toList.drop 0 = dktX1_lambda_ruleOf_1_0 := by decide +kernel
theorem dX1_lambda_ruleOf_1_0 : decode cX1_lambda_ruleOf_1 0 = .ok (.aload_n 1, 1) := dk_43 (dk_at dksX1_lambda_ruleOf_1_0 0 rfl rfl)
theorem dX1_lambda_ruleOf_1_1 : decode cX1_lambda_ruleOf_1 1 = .ok (.invokevirtual 302, 3) := dk_182 1 46 (dk_at dksX1_lambda_ruleOf_1_0 1 rfl rfl)
theorem dX1_lambda_ruleOf_1_4 : decode cX1_lambda_ruleOf_1 4 = .ok (.iload_n 0, 1) := dk_26 (dk_at dksX1_lambda_ruleOf_1_0 4 rfl rfl)
theorem dX1_lambda_ruleOf_1_5 : decode cX1_lambda_ruleOf_1 5 = .ok (.if_icmp .ne 7, 3) := dk_160 0 7 (dk_at dksX1_lambda_ruleOf_1_0 5 rfl rfl)
theorem dX1_lambda_ruleOf_1_8 : decode cX1_lambda_ruleOf_1 8 = .ok (.iconst 1, 1) := dk_4 (dk_at dksX1_lambda_ruleOf_1_0 8 rfl rfl)
theorem dX1_lambda_ruleOf_1_9 : decode cX1_lambda_ruleOf_1 9 = .ok (.goto 4, 3) := dk_167 0 4 (dk_at dksX1_lambda_ruleOf_1_0 9 rfl rfl)
theorem dX1_lambda_ruleOf_1_12 : decode cX1_lambda_ruleOf_1 12 = .ok (.iconst 0, 1) := dk_3 (dk_at dksX1_lambda_ruleOf_1_0 12 rfl rfl)
theorem dX1_lambda_ruleOf_1_13 : decode cX1_lambda_ruleOf_1 13 = .ok (.ireturn, 1) := dk_172 (dk_at dksX1_lambda_ruleOf_1_0 13 rfl rfl)
abbrev cX1_testOf : ByteArray := prog_1_method_30_code
def yX1_testOf : MethodName := ⟨RX1, "testOf", "(III)I"⟩
def dkwX1_testOf_2 : List UInt8 := [167, 0, 8, 25, 4, 182, 1, 68, 172]
abbrev dktX1_testOf_2 : List UInt8 := dkwX1_testOf_2 ++ []
def dkwX1_testOf_1 : List UInt8 := [29, 154, 0, 11, 25, 4, 182, 1, 61, 167, 0, 21, 29, 4, 160, 0, 11, 25, 4, 184, 1, 64]
abbrev dktX1_testOf_1 : List UInt8 := dkwX1_testOf_1 ++ dktX1_testOf_2
def dkwX1_testOf_0 : List UInt8 := [42, 42, 180, 0, 10, 27, 182, 0, 249, 28, 182, 1, 57, 58, 4, 29, 3, 5, 184, 0, 134, 184, 0, 153]
abbrev dktX1_testOf_0 : List UInt8 := dkwX1_testOf_0 ++ dktX1_testOf_1
theorem dksX1_testOf_0 : cX1_testOf.data.toList.drop 0 = dktX1_testOf_0 := by decide +kernel
theorem dksX1_testOf_1 : cX1_testOf.data.toList.drop 24 = dktX1_testOf_1 := dk_seg dksX1_testOf_0 24 rfl rfl
theorem dksX1_testOf_2 : cX1_testOf.data.toList.drop 46 = dktX1_testOf_2 := dk_seg dksX1_testOf_1 22 rfl rfl
theorem dX1_testOf_0 : decode cX1_testOf 0 = .ok (.aload_n 0, 1) := dk_42 (dk_at dksX1_testOf_0 0 rfl rfl)
theorem dX1_testOf_1 : decode cX1_testOf 1 = .ok (.aload_n 0, 1) := dk_42 (dk_at dksX1_testOf_0 1 rfl rfl)
theorem dX1_testOf_2 : decode cX1_testOf 2 = .ok (.getfield 10, 3) := dk_180 0 10 (dk_at dksX1_testOf_0 2 rfl rfl)
theorem dX1_testOf_5 : decode cX1_testOf 5 = .ok (.iload_n 1, 1) := dk_27 (dk_at dksX1_testOf_0 5 rfl rfl)
theorem dX1_testOf_6 : decode cX1_testOf 6 = .ok (.invokevirtual 249, 3) := dk_182 0 249 (dk_at dksX1_testOf_0 6 rfl rfl)
theorem dX1_testOf_9 : decode cX1_testOf 9 = .ok (.iload_n 2, 1) := dk_28 (dk_at dksX1_testOf_0 9 rfl rfl)
theorem dX1_testOf_10 : decode cX1_testOf 10 = .ok (.invokevirtual 313, 3) := dk_182 1 57 (dk_at dksX1_testOf_0 10 rfl rfl)
theorem dX1_testOf_13 : decode cX1_testOf 13 = .ok (.astore 4, 2) := dk_58 4 (dk_at dksX1_testOf_0 13 rfl rfl)
theorem dX1_testOf_15 : decode cX1_testOf 15 = .ok (.iload_n 3, 1) := dk_29 (dk_at dksX1_testOf_0 15 rfl rfl)
theorem dX1_testOf_16 : decode cX1_testOf 16 = .ok (.iconst 0, 1) := dk_3 (dk_at dksX1_testOf_0 16 rfl rfl)
theorem dX1_testOf_17 : decode cX1_testOf 17 = .ok (.iconst 2, 1) := dk_5 (dk_at dksX1_testOf_0 17 rfl rfl)
theorem dX1_testOf_18 : decode cX1_testOf 18 = .ok (.invokestatic 134, 3) := dk_184 0 134 (dk_at dksX1_testOf_0 18 rfl rfl)
theorem dX1_testOf_21 : decode cX1_testOf 21 = .ok (.invokestatic 153, 3) := dk_184 0 153 (dk_at dksX1_testOf_0 21 rfl rfl)
theorem dX1_testOf_24 : decode cX1_testOf 24 = .ok (.iload_n 3, 1) := dk_29 (dk_at dksX1_testOf_1 0 rfl rfl)
theorem dX1_testOf_25 : decode cX1_testOf 25 = .ok (.ifCond .ne 11, 3) := dk_154 0 11 (dk_at dksX1_testOf_1 1 rfl rfl)
theorem dX1_testOf_28 : decode cX1_testOf 28 = .ok (.aload 4, 2) := dk_25 4 (dk_at dksX1_testOf_1 4 rfl rfl)
theorem dX1_testOf_30 : decode cX1_testOf 30 = .ok (.invokevirtual 317, 3) := dk_182 1 61 (dk_at dksX1_testOf_1 6 rfl rfl)
theorem dX1_testOf_33 : decode cX1_testOf 33 = .ok (.goto 21, 3) := dk_167 0 21 (dk_at dksX1_testOf_1 9 rfl rfl)
theorem dX1_testOf_36 : decode cX1_testOf 36 = .ok (.iload_n 3, 1) := dk_29 (dk_at dksX1_testOf_1 12 rfl rfl)
theorem dX1_testOf_37 : decode cX1_testOf 37 = .ok (.iconst 1, 1) := dk_4 (dk_at dksX1_testOf_1 13 rfl rfl)
theorem dX1_testOf_38 : decode cX1_testOf 38 = .ok (.if_icmp .ne 11, 3) := dk_160 0 11 (dk_at dksX1_testOf_1 14 rfl rfl)
theorem dX1_testOf_41 : decode cX1_testOf 41 = .ok (.aload 4, 2) := dk_25 4 (dk_at dksX1_testOf_1 17 rfl rfl)
theorem dX1_testOf_43 : decode cX1_testOf 43 = .ok (.invokestatic 320, 3) := dk_184 1 64 (dk_at dksX1_testOf_1 19 rfl rfl)
theorem dX1_testOf_46 : decode cX1_testOf 46 = .ok (.goto 8, 3) := dk_167 0 8 (dk_at dksX1_testOf_2 0 rfl rfl)
theorem dX1_testOf_49 : decode cX1_testOf 49 = .ok (.aload 4, 2) := dk_25 4 (dk_at dksX1_testOf_2 3 rfl rfl)
theorem dX1_testOf_51 : decode cX1_testOf 51 = .ok (.invokevirtual 324, 3) := dk_182 1 68 (dk_at dksX1_testOf_2 5 rfl rfl)
theorem dX1_testOf_54 : decode cX1_testOf 54 = .ok (.ireturn, 1) := dk_172 (dk_at dksX1_testOf_2 8 rfl rfl)
abbrev cX1_testAt : ByteArray := prog_1_method_29_code
def yX1_testAt : MethodName := ⟨RX1, "testAt", "(LPolicyNotation$Rule;I)LPolicyNotation$Test;"⟩
def dkwX1_testAt_1 : List UInt8 := [182, 1, 54, 192, 0, 32, 176]
abbrev dktX1_testAt_1 : List UInt8 := dkwX1_testAt_1 ++ []
def dkwX1_testAt_0 : List UInt8 := [28, 3, 43, 180, 1, 6, 182, 0, 168, 4, 100, 184, 0, 134, 184, 1, 51, 43, 180, 1, 6, 28]
abbrev dktX1_testAt_0 : List UInt8 := dkwX1_testAt_0 ++ dktX1_testAt_1
theorem dksX1_testAt_0 : cX1_testAt.data.toList.drop 0 = dktX1_testAt_0 := by decide +kernel
theorem dksX1_testAt_1 : cX1_testAt.data.toList.drop 22 = dktX1_testAt_1 := dk_seg dksX1_testAt_0 22 rfl rfl
theorem dX1_testAt_0 : decode cX1_testAt 0 = .ok (.iload_n 2, 1) := dk_28 (dk_at dksX1_testAt_0 0 rfl rfl)
theorem dX1_testAt_1 : decode cX1_testAt 1 = .ok (.iconst 0, 1) := dk_3 (dk_at dksX1_testAt_0 1 rfl rfl)
theorem dX1_testAt_2 : decode cX1_testAt 2 = .ok (.aload_n 1, 1) := dk_43 (dk_at dksX1_testAt_0 2 rfl rfl)
theorem dX1_testAt_3 : decode cX1_testAt 3 = .ok (.getfield 262, 3) := dk_180 1 6 (dk_at dksX1_testAt_0 3 rfl rfl)
theorem dX1_testAt_6 : decode cX1_testAt 6 = .ok (.invokevirtual 168, 3) := dk_182 0 168 (dk_at dksX1_testAt_0 6 rfl rfl)
theorem dX1_testAt_9 : decode cX1_testAt 9 = .ok (.iconst 1, 1) := dk_4 (dk_at dksX1_testAt_0 9 rfl rfl)
theorem dX1_testAt_10 : decode cX1_testAt 10 = .ok (.isub, 1) := dk_100 (dk_at dksX1_testAt_0 10 rfl rfl)
theorem dX1_testAt_11 : decode cX1_testAt 11 = .ok (.invokestatic 134, 3) := dk_184 0 134 (dk_at dksX1_testAt_0 11 rfl rfl)
theorem dX1_testAt_14 : decode cX1_testAt 14 = .ok (.invokestatic 307, 3) := dk_184 1 51 (dk_at dksX1_testAt_0 14 rfl rfl)
theorem dX1_testAt_17 : decode cX1_testAt 17 = .ok (.aload_n 1, 1) := dk_43 (dk_at dksX1_testAt_0 17 rfl rfl)
theorem dX1_testAt_18 : decode cX1_testAt 18 = .ok (.getfield 262, 3) := dk_180 1 6 (dk_at dksX1_testAt_0 18 rfl rfl)
theorem dX1_testAt_21 : decode cX1_testAt 21 = .ok (.iload_n 2, 1) := dk_28 (dk_at dksX1_testAt_0 21 rfl rfl)
theorem dX1_testAt_22 : decode cX1_testAt 22 = .ok (.invokevirtual 310, 3) := dk_182 1 54 (dk_at dksX1_testAt_1 0 rfl rfl)
theorem dX1_testAt_25 : decode cX1_testAt 25 = .ok (.checkcast 32, 3) := dk_192 0 32 (dk_at dksX1_testAt_1 3 rfl rfl)
theorem dX1_testAt_28 : decode cX1_testAt 28 = .ok (.areturn, 1) := dk_176 (dk_at dksX1_testAt_1 6 rfl rfl)
abbrev cX1_checkElement : ByteArray := prog_1_method_7_code
def yX1_checkElement : MethodName := ⟨RX1, "checkElement", "(Z)V"⟩
def dkwX1_checkElement_0 : List UInt8 := [26, 154, 0, 11, 187, 0, 67, 89, 183, 0, 69, 191, 177]
abbrev dktX1_checkElement_0 : List UInt8 := dkwX1_checkElement_0 ++ []
theorem dksX1_checkElement_0 : cX1_checkElement.data.toList.drop 0 = dktX1_checkElement_0 := by decide +kernel
theorem dX1_checkElement_0 : decode cX1_checkElement 0 = .ok (.iload_n 0, 1) := dk_26 (dk_at dksX1_checkElement_0 0 rfl rfl)
theorem dX1_checkElement_1 : decode cX1_checkElement 1 = .ok (.ifCond .ne 11, 3) := dk_154 0 11 (dk_at dksX1_checkElement_0 1 rfl rfl)
theorem dX1_checkElement_4 : decode cX1_checkElement 4 = .ok (.new 67, 3) := dk_187 0 67 (dk_at dksX1_checkElement_0 4 rfl rfl)
theorem dX1_checkElement_7 : decode cX1_checkElement 7 = .ok (.dup, 1) := dk_89 (dk_at dksX1_checkElement_0 7 rfl rfl)
theorem dX1_checkElement_8 : decode cX1_checkElement 8 = .ok (.invokespecial 69, 3) := dk_183 0 69 (dk_at dksX1_checkElement_0 8 rfl rfl)
theorem dX1_checkElement_11 : decode cX1_checkElement 11 = .ok (.athrow, 1) := dk_191 (dk_at dksX1_checkElement_0 11 rfl rfl)
theorem dX1_checkElement_12 : decode cX1_checkElement 12 = .ok (.return_, 1) := dk_177 (dk_at dksX1_checkElement_0 12 rfl rfl)
abbrev cX1_signOf : ByteArray := prog_1_method_12_code
def yX1_signOf : MethodName := ⟨RX1, "signOf", "(LPolicyNotation$Test;)I"⟩
def dkwX1_signOf_1 : List UInt8 := [153, 0, 7, 5, 167, 0, 4, 6, 172]
abbrev dktX1_signOf_1 : List UInt8 := dkwX1_signOf_1 ++ []
def dkwX1_signOf_0 : List UInt8 := [42, 193, 0, 109, 153, 0, 5, 3, 172, 42, 193, 0, 114, 153, 0, 5, 4, 172, 42, 193, 0, 117]
abbrev dktX1_signOf_0 : List UInt8 := dkwX1_signOf_0 ++ dktX1_signOf_1
theorem dksX1_signOf_0 : cX1_signOf.data.toList.drop 0 = dktX1_signOf_0 := by decide +kernel
theorem dksX1_signOf_1 : cX1_signOf.data.toList.drop 22 = dktX1_signOf_1 := dk_seg dksX1_signOf_0 22 rfl rfl
theorem dX1_signOf_0 : decode cX1_signOf 0 = .ok (.aload_n 0, 1) := dk_42 (dk_at dksX1_signOf_0 0 rfl rfl)
theorem dX1_signOf_1 : decode cX1_signOf 1 = .ok (.instanceof 109, 3) := dk_193 0 109 (dk_at dksX1_signOf_0 1 rfl rfl)
theorem dX1_signOf_4 : decode cX1_signOf 4 = .ok (.ifCond .eq 5, 3) := dk_153 0 5 (dk_at dksX1_signOf_0 4 rfl rfl)
theorem dX1_signOf_7 : decode cX1_signOf 7 = .ok (.iconst 0, 1) := dk_3 (dk_at dksX1_signOf_0 7 rfl rfl)
theorem dX1_signOf_8 : decode cX1_signOf 8 = .ok (.ireturn, 1) := dk_172 (dk_at dksX1_signOf_0 8 rfl rfl)
theorem dX1_signOf_9 : decode cX1_signOf 9 = .ok (.aload_n 0, 1) := dk_42 (dk_at dksX1_signOf_0 9 rfl rfl)
theorem dX1_signOf_10 : decode cX1_signOf 10 = .ok (.instanceof 114, 3) := dk_193 0 114 (dk_at dksX1_signOf_0 10 rfl rfl)
theorem dX1_signOf_13 : decode cX1_signOf 13 = .ok (.ifCond .eq 5, 3) := dk_153 0 5 (dk_at dksX1_signOf_0 13 rfl rfl)
theorem dX1_signOf_16 : decode cX1_signOf 16 = .ok (.iconst 1, 1) := dk_4 (dk_at dksX1_signOf_0 16 rfl rfl)
theorem dX1_signOf_17 : decode cX1_signOf 17 = .ok (.ireturn, 1) := dk_172 (dk_at dksX1_signOf_0 17 rfl rfl)
theorem dX1_signOf_18 : decode cX1_signOf 18 = .ok (.aload_n 0, 1) := dk_42 (dk_at dksX1_signOf_0 18 rfl rfl)
theorem dX1_signOf_19 : decode cX1_signOf 19 = .ok (.instanceof 117, 3) := dk_193 0 117 (dk_at dksX1_signOf_0 19 rfl rfl)
theorem dX1_signOf_22 : decode cX1_signOf 22 = .ok (.ifCond .eq 7, 3) := dk_153 0 7 (dk_at dksX1_signOf_1 0 rfl rfl)
theorem dX1_signOf_25 : decode cX1_signOf 25 = .ok (.iconst 2, 1) := dk_5 (dk_at dksX1_signOf_1 3 rfl rfl)
theorem dX1_signOf_26 : decode cX1_signOf 26 = .ok (.goto 4, 3) := dk_167 0 4 (dk_at dksX1_signOf_1 4 rfl rfl)
theorem dX1_signOf_29 : decode cX1_signOf 29 = .ok (.iconst 3, 1) := dk_6 (dk_at dksX1_signOf_1 7 rfl rfl)
theorem dX1_signOf_30 : decode cX1_signOf 30 = .ok (.ireturn, 1) := dk_172 (dk_at dksX1_signOf_1 8 rfl rfl)
abbrev cX1_covers : ByteArray := prog_1_method_31_code
def yX1_covers : MethodName := ⟨RX1, "covers", "(IIII)Z"⟩
def dkwX1_covers_0 : List UInt8 := [42, 180, 0, 10, 27, 182, 0, 249, 58, 5, 42, 28, 29, 21, 4, 182, 1, 71, 25, 5, 182, 1, 75, 172]
abbrev dktX1_covers_0 : List UInt8 := dkwX1_covers_0 ++ []
theorem dksX1_covers_0 : cX1_covers.data.toList.drop 0 = dktX1_covers_0 := by decide +kernel
theorem dX1_covers_0 : decode cX1_covers 0 = .ok (.aload_n 0, 1) := dk_42 (dk_at dksX1_covers_0 0 rfl rfl)
theorem dX1_covers_1 : decode cX1_covers 1 = .ok (.getfield 10, 3) := dk_180 0 10 (dk_at dksX1_covers_0 1 rfl rfl)
theorem dX1_covers_4 : decode cX1_covers 4 = .ok (.iload_n 1, 1) := dk_27 (dk_at dksX1_covers_0 4 rfl rfl)
theorem dX1_covers_5 : decode cX1_covers 5 = .ok (.invokevirtual 249, 3) := dk_182 0 249 (dk_at dksX1_covers_0 5 rfl rfl)
theorem dX1_covers_8 : decode cX1_covers 8 = .ok (.astore 5, 2) := dk_58 5 (dk_at dksX1_covers_0 8 rfl rfl)
theorem dX1_covers_10 : decode cX1_covers 10 = .ok (.aload_n 0, 1) := dk_42 (dk_at dksX1_covers_0 10 rfl rfl)
theorem dX1_covers_11 : decode cX1_covers 11 = .ok (.iload_n 2, 1) := dk_28 (dk_at dksX1_covers_0 11 rfl rfl)
theorem dX1_covers_12 : decode cX1_covers 12 = .ok (.iload_n 3, 1) := dk_29 (dk_at dksX1_covers_0 12 rfl rfl)
theorem dX1_covers_13 : decode cX1_covers 13 = .ok (.iload 4, 2) := dk_21 4 (dk_at dksX1_covers_0 13 rfl rfl)
theorem dX1_covers_15 : decode cX1_covers 15 = .ok (.invokevirtual 327, 3) := dk_182 1 71 (dk_at dksX1_covers_0 15 rfl rfl)
theorem dX1_covers_18 : decode cX1_covers 18 = .ok (.aload 5, 2) := dk_25 5 (dk_at dksX1_covers_0 18 rfl rfl)
theorem dX1_covers_20 : decode cX1_covers 20 = .ok (.invokevirtual 331, 3) := dk_182 1 75 (dk_at dksX1_covers_0 20 rfl rfl)
theorem dX1_covers_23 : decode cX1_covers 23 = .ok (.ireturn, 1) := dk_172 (dk_at dksX1_covers_0 23 rfl rfl)
abbrev cX1_looked : ByteArray := prog_1_method_16_code
def yX1_looked : MethodName := ⟨RX1, "looked", "(III)LPolicyNotation$Look;"⟩
def dkwX1_looked_1 : List UInt8 := [153, 0, 7, 4, 167, 0, 4, 3, 184, 0, 153, 42, 180, 0, 28, 27, 28, 29, 2, 182, 0, 156, 176]
abbrev dktX1_looked_1 : List UInt8 := dkwX1_looked_1 ++ []
def dkwX1_looked_0 : List UInt8 := [42, 180, 0, 10, 27, 182, 0, 139, 184, 0, 143, 28, 184, 0, 147, 153, 0, 14, 29, 184, 0, 150]
abbrev dktX1_looked_0 : List UInt8 := dkwX1_looked_0 ++ dktX1_looked_1
theorem dksX1_looked_0 : cX1_looked.data.toList.drop 0 = dktX1_looked_0 := by decide +kernel
theorem dksX1_looked_1 : cX1_looked.data.toList.drop 22 = dktX1_looked_1 := dk_seg dksX1_looked_0 22 rfl rfl
theorem dX1_looked_0 : decode cX1_looked 0 = .ok (.aload_n 0, 1) := dk_42 (dk_at dksX1_looked_0 0 rfl rfl)
theorem dX1_looked_1 : decode cX1_looked 1 = .ok (.getfield 10, 3) := dk_180 0 10 (dk_at dksX1_looked_0 1 rfl rfl)
theorem dX1_looked_4 : decode cX1_looked 4 = .ok (.iload_n 1, 1) := dk_27 (dk_at dksX1_looked_0 4 rfl rfl)
theorem dX1_looked_5 : decode cX1_looked 5 = .ok (.invokevirtual 139, 3) := dk_182 0 139 (dk_at dksX1_looked_0 5 rfl rfl)
theorem dX1_looked_8 : decode cX1_looked 8 = .ok (.invokestatic 143, 3) := dk_184 0 143 (dk_at dksX1_looked_0 8 rfl rfl)
theorem dX1_looked_11 : decode cX1_looked 11 = .ok (.iload_n 2, 1) := dk_28 (dk_at dksX1_looked_0 11 rfl rfl)
theorem dX1_looked_12 : decode cX1_looked 12 = .ok (.invokestatic 147, 3) := dk_184 0 147 (dk_at dksX1_looked_0 12 rfl rfl)
theorem dX1_looked_15 : decode cX1_looked 15 = .ok (.ifCond .eq 14, 3) := dk_153 0 14 (dk_at dksX1_looked_0 15 rfl rfl)
theorem dX1_looked_18 : decode cX1_looked 18 = .ok (.iload_n 3, 1) := dk_29 (dk_at dksX1_looked_0 18 rfl rfl)
theorem dX1_looked_19 : decode cX1_looked 19 = .ok (.invokestatic 150, 3) := dk_184 0 150 (dk_at dksX1_looked_0 19 rfl rfl)
theorem dX1_looked_22 : decode cX1_looked 22 = .ok (.ifCond .eq 7, 3) := dk_153 0 7 (dk_at dksX1_looked_1 0 rfl rfl)
theorem dX1_looked_25 : decode cX1_looked 25 = .ok (.iconst 1, 1) := dk_4 (dk_at dksX1_looked_1 3 rfl rfl)
theorem dX1_looked_26 : decode cX1_looked 26 = .ok (.goto 4, 3) := dk_167 0 4 (dk_at dksX1_looked_1 4 rfl rfl)
theorem dX1_looked_29 : decode cX1_looked 29 = .ok (.iconst 0, 1) := dk_3 (dk_at dksX1_looked_1 7 rfl rfl)
theorem dX1_looked_30 : decode cX1_looked 30 = .ok (.invokestatic 153, 3) := dk_184 0 153 (dk_at dksX1_looked_1 8 rfl rfl)
theorem dX1_looked_33 : decode cX1_looked 33 = .ok (.aload_n 0, 1) := dk_42 (dk_at dksX1_looked_1 11 rfl rfl)
theorem dX1_looked_34 : decode cX1_looked 34 = .ok (.getfield 28, 3) := dk_180 0 28 (dk_at dksX1_looked_1 12 rfl rfl)
theorem dX1_looked_37 : decode cX1_looked 37 = .ok (.iload_n 1, 1) := dk_27 (dk_at dksX1_looked_1 15 rfl rfl)
theorem dX1_looked_38 : decode cX1_looked 38 = .ok (.iload_n 2, 1) := dk_28 (dk_at dksX1_looked_1 16 rfl rfl)
theorem dX1_looked_39 : decode cX1_looked 39 = .ok (.iload_n 3, 1) := dk_29 (dk_at dksX1_looked_1 17 rfl rfl)
theorem dX1_looked_40 : decode cX1_looked 40 = .ok (.iconst (-1), 1) := dk_2 (dk_at dksX1_looked_1 18 rfl rfl)
theorem dX1_looked_41 : decode cX1_looked 41 = .ok (.invokevirtual 156, 3) := dk_182 0 156 (dk_at dksX1_looked_1 19 rfl rfl)
theorem dX1_looked_44 : decode cX1_looked 44 = .ok (.areturn, 1) := dk_176 (dk_at dksX1_looked_1 22 rfl rfl)
abbrev cX1_areFeatures : ByteArray := prog_1_method_15_code
def yX1_areFeatures : MethodName := ⟨RX1, "areFeatures", "(I)Z"⟩
def dkwX1_areFeatures_0 : List UInt8 := [26, 3, 18, 138, 184, 0, 134, 172]
abbrev dktX1_areFeatures_0 : List UInt8 := dkwX1_areFeatures_0 ++ []
theorem dksX1_areFeatures_0 : cX1_areFeatures.data.toList.drop 0 = dktX1_areFeatures_0 := by decide +kernel
theorem dX1_areFeatures_0 : decode cX1_areFeatures 0 = .ok (.iload_n 0, 1) := dk_26 (dk_at dksX1_areFeatures_0 0 rfl rfl)
theorem dX1_areFeatures_1 : decode cX1_areFeatures 1 = .ok (.iconst 0, 1) := dk_3 (dk_at dksX1_areFeatures_0 1 rfl rfl)
theorem dX1_areFeatures_2 : decode cX1_areFeatures 2 = .ok (.ldc 138, 2) := dk_18 138 (dk_at dksX1_areFeatures_0 2 rfl rfl)
theorem dX1_areFeatures_4 : decode cX1_areFeatures 4 = .ok (.invokestatic 134, 3) := dk_184 0 134 (dk_at dksX1_areFeatures_0 4 rfl rfl)
theorem dX1_areFeatures_7 : decode cX1_areFeatures 7 = .ok (.ireturn, 1) := dk_172 (dk_at dksX1_areFeatures_0 7 rfl rfl)
abbrev cX1_holds : ByteArray := prog_1_method_32_code
def yX1_holds : MethodName := ⟨RX1, "holds", "(IIII)Z"⟩
def dkwX1_holds_0 : List UInt8 := [42, 180, 0, 10, 27, 182, 0, 249, 58, 5, 42, 28, 29, 21, 4, 182, 1, 71, 25, 5, 182, 1, 79, 172]
abbrev dktX1_holds_0 : List UInt8 := dkwX1_holds_0 ++ []
theorem dksX1_holds_0 : cX1_holds.data.toList.drop 0 = dktX1_holds_0 := by decide +kernel
theorem dX1_holds_0 : decode cX1_holds 0 = .ok (.aload_n 0, 1) := dk_42 (dk_at dksX1_holds_0 0 rfl rfl)
theorem dX1_holds_1 : decode cX1_holds 1 = .ok (.getfield 10, 3) := dk_180 0 10 (dk_at dksX1_holds_0 1 rfl rfl)
theorem dX1_holds_4 : decode cX1_holds 4 = .ok (.iload_n 1, 1) := dk_27 (dk_at dksX1_holds_0 4 rfl rfl)
theorem dX1_holds_5 : decode cX1_holds 5 = .ok (.invokevirtual 249, 3) := dk_182 0 249 (dk_at dksX1_holds_0 5 rfl rfl)
theorem dX1_holds_8 : decode cX1_holds 8 = .ok (.astore 5, 2) := dk_58 5 (dk_at dksX1_holds_0 8 rfl rfl)
theorem dX1_holds_10 : decode cX1_holds 10 = .ok (.aload_n 0, 1) := dk_42 (dk_at dksX1_holds_0 10 rfl rfl)
theorem dX1_holds_11 : decode cX1_holds 11 = .ok (.iload_n 2, 1) := dk_28 (dk_at dksX1_holds_0 11 rfl rfl)
theorem dX1_holds_12 : decode cX1_holds 12 = .ok (.iload_n 3, 1) := dk_29 (dk_at dksX1_holds_0 12 rfl rfl)
theorem dX1_holds_13 : decode cX1_holds 13 = .ok (.iload 4, 2) := dk_21 4 (dk_at dksX1_holds_0 13 rfl rfl)
theorem dX1_holds_15 : decode cX1_holds 15 = .ok (.invokevirtual 327, 3) := dk_182 1 71 (dk_at dksX1_holds_0 15 rfl rfl)
theorem dX1_holds_18 : decode cX1_holds 18 = .ok (.aload 5, 2) := dk_25 5 (dk_at dksX1_holds_0 18 rfl rfl)
theorem dX1_holds_20 : decode cX1_holds 20 = .ok (.invokevirtual 335, 3) := dk_182 1 79 (dk_at dksX1_holds_0 20 rfl rfl)
theorem dX1_holds_23 : decode cX1_holds 23 = .ok (.ireturn, 1) := dk_172 (dk_at dksX1_holds_0 23 rfl rfl)
abbrev cX1_holdsAgain : ByteArray := prog_1_method_33_code
def yX1_holdsAgain : MethodName := ⟨RX1, "holdsAgain", "(IIII)Z"⟩
def dkwX1_holdsAgain_0 : List UInt8 := [42, 180, 0, 10, 27, 182, 0, 249, 58, 5, 42, 28, 29, 21, 4, 182, 1, 71, 25, 5, 182, 1, 82, 172]
abbrev dktX1_holdsAgain_0 : List UInt8 := dkwX1_holdsAgain_0 ++ []
theorem dksX1_holdsAgain_0 : cX1_holdsAgain.data.toList.drop 0 = dktX1_holdsAgain_0 := by decide +kernel
theorem dX1_holdsAgain_0 : decode cX1_holdsAgain 0 = .ok (.aload_n 0, 1) := dk_42 (dk_at dksX1_holdsAgain_0 0 rfl rfl)
theorem dX1_holdsAgain_1 : decode cX1_holdsAgain 1 = .ok (.getfield 10, 3) := dk_180 0 10 (dk_at dksX1_holdsAgain_0 1 rfl rfl)
theorem dX1_holdsAgain_4 : decode cX1_holdsAgain 4 = .ok (.iload_n 1, 1) := dk_27 (dk_at dksX1_holdsAgain_0 4 rfl rfl)
theorem dX1_holdsAgain_5 : decode cX1_holdsAgain 5 = .ok (.invokevirtual 249, 3) := dk_182 0 249 (dk_at dksX1_holdsAgain_0 5 rfl rfl)
theorem dX1_holdsAgain_8 : decode cX1_holdsAgain 8 = .ok (.astore 5, 2) := dk_58 5 (dk_at dksX1_holdsAgain_0 8 rfl rfl)
theorem dX1_holdsAgain_10 : decode cX1_holdsAgain 10 = .ok (.aload_n 0, 1) := dk_42 (dk_at dksX1_holdsAgain_0 10 rfl rfl)
theorem dX1_holdsAgain_11 : decode cX1_holdsAgain 11 = .ok (.iload_n 2, 1) := dk_28 (dk_at dksX1_holdsAgain_0 11 rfl rfl)
theorem dX1_holdsAgain_12 : decode cX1_holdsAgain 12 = .ok (.iload_n 3, 1) := dk_29 (dk_at dksX1_holdsAgain_0 12 rfl rfl)
theorem dX1_holdsAgain_13 : decode cX1_holdsAgain 13 = .ok (.iload 4, 2) := dk_21 4 (dk_at dksX1_holdsAgain_0 13 rfl rfl)
theorem dX1_holdsAgain_15 : decode cX1_holdsAgain 15 = .ok (.invokevirtual 327, 3) := dk_182 1 71 (dk_at dksX1_holdsAgain_0 15 rfl rfl)
theorem dX1_holdsAgain_18 : decode cX1_holdsAgain 18 = .ok (.aload 5, 2) := dk_25 5 (dk_at dksX1_holdsAgain_0 18 rfl rfl)
theorem dX1_holdsAgain_20 : decode cX1_holdsAgain 20 = .ok (.invokevirtual 338, 3) := dk_182 1 82 (dk_at dksX1_holdsAgain_0 20 rfl rfl)
theorem dX1_holdsAgain_23 : decode cX1_holdsAgain 23 = .ok (.ireturn, 1) := dk_172 (dk_at dksX1_holdsAgain_0 23 rfl rfl)
abbrev cX1_has : ByteArray := prog_1_method_3_code
def yX1_has : MethodName := ⟨RX1, "has", "(II)Z"⟩
def dkwX1_has_0 : List UInt8 := [26, 27, 122, 4, 126, 4, 160, 0, 7, 4, 167, 0, 4, 3, 172]
abbrev dktX1_has_0 : List UInt8 := dkwX1_has_0 ++ []
theorem dksX1_has_0 : cX1_has.data.toList.drop 0 = dktX1_has_0 := by decide +kernel
theorem dX1_has_0 : decode cX1_has 0 = .ok (.iload_n 0, 1) := dk_26 (dk_at dksX1_has_0 0 rfl rfl)
theorem dX1_has_1 : decode cX1_has 1 = .ok (.iload_n 1, 1) := dk_27 (dk_at dksX1_has_0 1 rfl rfl)
theorem dX1_has_2 : decode cX1_has 2 = .ok (.ishr, 1) := dk_122 (dk_at dksX1_has_0 2 rfl rfl)
theorem dX1_has_3 : decode cX1_has 3 = .ok (.iconst 1, 1) := dk_4 (dk_at dksX1_has_0 3 rfl rfl)
theorem dX1_has_4 : decode cX1_has 4 = .ok (.iand, 1) := dk_126 (dk_at dksX1_has_0 4 rfl rfl)
theorem dX1_has_5 : decode cX1_has 5 = .ok (.iconst 1, 1) := dk_4 (dk_at dksX1_has_0 5 rfl rfl)
theorem dX1_has_6 : decode cX1_has 6 = .ok (.if_icmp .ne 7, 3) := dk_160 0 7 (dk_at dksX1_has_0 6 rfl rfl)
theorem dX1_has_9 : decode cX1_has 9 = .ok (.iconst 1, 1) := dk_4 (dk_at dksX1_has_0 9 rfl rfl)
theorem dX1_has_10 : decode cX1_has 10 = .ok (.goto 4, 3) := dk_167 0 4 (dk_at dksX1_has_0 10 rfl rfl)
theorem dX1_has_13 : decode cX1_has 13 = .ok (.iconst 0, 1) := dk_3 (dk_at dksX1_has_0 13 rfl rfl)
theorem dX1_has_14 : decode cX1_has 14 = .ok (.ireturn, 1) := dk_172 (dk_at dksX1_has_0 14 rfl rfl)
abbrev cX1_outcome : ByteArray := prog_1_method_34_code
def yX1_outcome : MethodName := ⟨RX1, "outcome", "(III)I"⟩
def dkwX1_outcome_0 : List UInt8 := [42, 27, 28, 29, 182, 1, 71, 182, 1, 85, 182, 0, 105, 172]
abbrev dktX1_outcome_0 : List UInt8 := dkwX1_outcome_0 ++ []
theorem dksX1_outcome_0 : cX1_outcome.data.toList.drop 0 = dktX1_outcome_0 := by decide +kernel
theorem dX1_outcome_0 : decode cX1_outcome 0 = .ok (.aload_n 0, 1) := dk_42 (dk_at dksX1_outcome_0 0 rfl rfl)
theorem dX1_outcome_1 : decode cX1_outcome 1 = .ok (.iload_n 1, 1) := dk_27 (dk_at dksX1_outcome_0 1 rfl rfl)
theorem dX1_outcome_2 : decode cX1_outcome 2 = .ok (.iload_n 2, 1) := dk_28 (dk_at dksX1_outcome_0 2 rfl rfl)
theorem dX1_outcome_3 : decode cX1_outcome 3 = .ok (.iload_n 3, 1) := dk_29 (dk_at dksX1_outcome_0 3 rfl rfl)
theorem dX1_outcome_4 : decode cX1_outcome 4 = .ok (.invokevirtual 327, 3) := dk_182 1 71 (dk_at dksX1_outcome_0 4 rfl rfl)
theorem dX1_outcome_7 : decode cX1_outcome 7 = .ok (.invokevirtual 341, 3) := dk_182 1 85 (dk_at dksX1_outcome_0 7 rfl rfl)
theorem dX1_outcome_10 : decode cX1_outcome 10 = .ok (.invokevirtual 105, 3) := dk_182 0 105 (dk_at dksX1_outcome_0 10 rfl rfl)
theorem dX1_outcome_13 : decode cX1_outcome 13 = .ok (.ireturn, 1) := dk_172 (dk_at dksX1_outcome_0 13 rfl rfl)
abbrev cX1_chain : ByteArray := prog_1_method_35_code
def yX1_chain : MethodName := ⟨RX1, "chain", "(IIII)I"⟩
def dkwX1_chain_2 : List UInt8 := [172]
abbrev dktX1_chain_2 : List UInt8 := dkwX1_chain_2 ++ []
def dkwX1_chain_1 : List UInt8 := [184, 0, 134, 184, 1, 51, 21, 4, 2, 160, 0, 8, 21, 6, 167, 0, 10, 25, 5, 21, 4, 182, 1, 91]
abbrev dktX1_chain_1 : List UInt8 := dkwX1_chain_1 ++ dktX1_chain_2
def dkwX1_chain_0 : List UInt8 := [42, 27, 28, 29, 182, 1, 71, 58, 5, 25, 5, 182, 1, 88, 54, 6, 21, 4, 2, 21, 6, 4, 100]
abbrev dktX1_chain_0 : List UInt8 := dkwX1_chain_0 ++ dktX1_chain_1
theorem dksX1_chain_0 : cX1_chain.data.toList.drop 0 = dktX1_chain_0 := by decide +kernel
theorem dksX1_chain_1 : cX1_chain.data.toList.drop 23 = dktX1_chain_1 := dk_seg dksX1_chain_0 23 rfl rfl
theorem dksX1_chain_2 : cX1_chain.data.toList.drop 47 = dktX1_chain_2 := dk_seg dksX1_chain_1 24 rfl rfl
theorem dX1_chain_0 : decode cX1_chain 0 = .ok (.aload_n 0, 1) := dk_42 (dk_at dksX1_chain_0 0 rfl rfl)
theorem dX1_chain_1 : decode cX1_chain 1 = .ok (.iload_n 1, 1) := dk_27 (dk_at dksX1_chain_0 1 rfl rfl)
theorem dX1_chain_2 : decode cX1_chain 2 = .ok (.iload_n 2, 1) := dk_28 (dk_at dksX1_chain_0 2 rfl rfl)
theorem dX1_chain_3 : decode cX1_chain 3 = .ok (.iload_n 3, 1) := dk_29 (dk_at dksX1_chain_0 3 rfl rfl)
theorem dX1_chain_4 : decode cX1_chain 4 = .ok (.invokevirtual 327, 3) := dk_182 1 71 (dk_at dksX1_chain_0 4 rfl rfl)
theorem dX1_chain_7 : decode cX1_chain 7 = .ok (.astore 5, 2) := dk_58 5 (dk_at dksX1_chain_0 7 rfl rfl)
theorem dX1_chain_9 : decode cX1_chain 9 = .ok (.aload 5, 2) := dk_25 5 (dk_at dksX1_chain_0 9 rfl rfl)
theorem dX1_chain_11 : decode cX1_chain 11 = .ok (.invokevirtual 344, 3) := dk_182 1 88 (dk_at dksX1_chain_0 11 rfl rfl)
theorem dX1_chain_14 : decode cX1_chain 14 = .ok (.istore 6, 2) := dk_54 6 (dk_at dksX1_chain_0 14 rfl rfl)
theorem dX1_chain_16 : decode cX1_chain 16 = .ok (.iload 4, 2) := dk_21 4 (dk_at dksX1_chain_0 16 rfl rfl)
theorem dX1_chain_18 : decode cX1_chain 18 = .ok (.iconst (-1), 1) := dk_2 (dk_at dksX1_chain_0 18 rfl rfl)
theorem dX1_chain_19 : decode cX1_chain 19 = .ok (.iload 6, 2) := dk_21 6 (dk_at dksX1_chain_0 19 rfl rfl)
theorem dX1_chain_21 : decode cX1_chain 21 = .ok (.iconst 1, 1) := dk_4 (dk_at dksX1_chain_0 21 rfl rfl)
theorem dX1_chain_22 : decode cX1_chain 22 = .ok (.isub, 1) := dk_100 (dk_at dksX1_chain_0 22 rfl rfl)
theorem dX1_chain_23 : decode cX1_chain 23 = .ok (.invokestatic 134, 3) := dk_184 0 134 (dk_at dksX1_chain_1 0 rfl rfl)
theorem dX1_chain_26 : decode cX1_chain 26 = .ok (.invokestatic 307, 3) := dk_184 1 51 (dk_at dksX1_chain_1 3 rfl rfl)
theorem dX1_chain_29 : decode cX1_chain 29 = .ok (.iload 4, 2) := dk_21 4 (dk_at dksX1_chain_1 6 rfl rfl)
theorem dX1_chain_31 : decode cX1_chain 31 = .ok (.iconst (-1), 1) := dk_2 (dk_at dksX1_chain_1 8 rfl rfl)
theorem dX1_chain_32 : decode cX1_chain 32 = .ok (.if_icmp .ne 8, 3) := dk_160 0 8 (dk_at dksX1_chain_1 9 rfl rfl)
theorem dX1_chain_35 : decode cX1_chain 35 = .ok (.iload 6, 2) := dk_21 6 (dk_at dksX1_chain_1 12 rfl rfl)
theorem dX1_chain_37 : decode cX1_chain 37 = .ok (.goto 10, 3) := dk_167 0 10 (dk_at dksX1_chain_1 14 rfl rfl)
theorem dX1_chain_40 : decode cX1_chain 40 = .ok (.aload 5, 2) := dk_25 5 (dk_at dksX1_chain_1 17 rfl rfl)
theorem dX1_chain_42 : decode cX1_chain 42 = .ok (.iload 4, 2) := dk_21 4 (dk_at dksX1_chain_1 19 rfl rfl)
theorem dX1_chain_44 : decode cX1_chain 44 = .ok (.invokevirtual 347, 3) := dk_182 1 91 (dk_at dksX1_chain_1 21 rfl rfl)
theorem dX1_chain_47 : decode cX1_chain 47 = .ok (.ireturn, 1) := dk_172 (dk_at dksX1_chain_2 0 rfl rfl)
abbrev cX1_rival : ByteArray := prog_1_method_38_code
def yX1_rival : MethodName := ⟨RX1, "rival", "(IIII)I"⟩
def dkwX1_rival_2 : List UInt8 := [184, 1, 105, 172]
abbrev dktX1_rival_2 : List UInt8 := dkwX1_rival_2 ++ []
def dkwX1_rival_1 : List UInt8 := [4, 100, 184, 0, 134, 184, 1, 51, 21, 4, 2, 160, 0, 8, 21, 6, 167, 0, 10, 21, 5, 21, 4]
abbrev dktX1_rival_1 : List UInt8 := dkwX1_rival_1 ++ dktX1_rival_2
def dkwX1_rival_0 : List UInt8 := [42, 27, 28, 29, 182, 1, 71, 182, 1, 99, 54, 5, 21, 5, 184, 1, 102, 54, 6, 21, 4, 2, 21, 6]
abbrev dktX1_rival_0 : List UInt8 := dkwX1_rival_0 ++ dktX1_rival_1
theorem dksX1_rival_0 : cX1_rival.data.toList.drop 0 = dktX1_rival_0 := by decide +kernel
theorem dksX1_rival_1 : cX1_rival.data.toList.drop 24 = dktX1_rival_1 := dk_seg dksX1_rival_0 24 rfl rfl
theorem dksX1_rival_2 : cX1_rival.data.toList.drop 47 = dktX1_rival_2 := dk_seg dksX1_rival_1 23 rfl rfl
theorem dX1_rival_0 : decode cX1_rival 0 = .ok (.aload_n 0, 1) := dk_42 (dk_at dksX1_rival_0 0 rfl rfl)
theorem dX1_rival_1 : decode cX1_rival 1 = .ok (.iload_n 1, 1) := dk_27 (dk_at dksX1_rival_0 1 rfl rfl)
theorem dX1_rival_2 : decode cX1_rival 2 = .ok (.iload_n 2, 1) := dk_28 (dk_at dksX1_rival_0 2 rfl rfl)
theorem dX1_rival_3 : decode cX1_rival 3 = .ok (.iload_n 3, 1) := dk_29 (dk_at dksX1_rival_0 3 rfl rfl)
theorem dX1_rival_4 : decode cX1_rival 4 = .ok (.invokevirtual 327, 3) := dk_182 1 71 (dk_at dksX1_rival_0 4 rfl rfl)
theorem dX1_rival_7 : decode cX1_rival 7 = .ok (.invokevirtual 355, 3) := dk_182 1 99 (dk_at dksX1_rival_0 7 rfl rfl)
theorem dX1_rival_10 : decode cX1_rival 10 = .ok (.istore 5, 2) := dk_54 5 (dk_at dksX1_rival_0 10 rfl rfl)
theorem dX1_rival_12 : decode cX1_rival 12 = .ok (.iload 5, 2) := dk_21 5 (dk_at dksX1_rival_0 12 rfl rfl)
theorem dX1_rival_14 : decode cX1_rival 14 = .ok (.invokestatic 358, 3) := dk_184 1 102 (dk_at dksX1_rival_0 14 rfl rfl)
theorem dX1_rival_17 : decode cX1_rival 17 = .ok (.istore 6, 2) := dk_54 6 (dk_at dksX1_rival_0 17 rfl rfl)
theorem dX1_rival_19 : decode cX1_rival 19 = .ok (.iload 4, 2) := dk_21 4 (dk_at dksX1_rival_0 19 rfl rfl)
theorem dX1_rival_21 : decode cX1_rival 21 = .ok (.iconst (-1), 1) := dk_2 (dk_at dksX1_rival_0 21 rfl rfl)
theorem dX1_rival_22 : decode cX1_rival 22 = .ok (.iload 6, 2) := dk_21 6 (dk_at dksX1_rival_0 22 rfl rfl)
theorem dX1_rival_24 : decode cX1_rival 24 = .ok (.iconst 1, 1) := dk_4 (dk_at dksX1_rival_1 0 rfl rfl)
theorem dX1_rival_25 : decode cX1_rival 25 = .ok (.isub, 1) := dk_100 (dk_at dksX1_rival_1 1 rfl rfl)
theorem dX1_rival_26 : decode cX1_rival 26 = .ok (.invokestatic 134, 3) := dk_184 0 134 (dk_at dksX1_rival_1 2 rfl rfl)
theorem dX1_rival_29 : decode cX1_rival 29 = .ok (.invokestatic 307, 3) := dk_184 1 51 (dk_at dksX1_rival_1 5 rfl rfl)
theorem dX1_rival_32 : decode cX1_rival 32 = .ok (.iload 4, 2) := dk_21 4 (dk_at dksX1_rival_1 8 rfl rfl)
theorem dX1_rival_34 : decode cX1_rival 34 = .ok (.iconst (-1), 1) := dk_2 (dk_at dksX1_rival_1 10 rfl rfl)
theorem dX1_rival_35 : decode cX1_rival 35 = .ok (.if_icmp .ne 8, 3) := dk_160 0 8 (dk_at dksX1_rival_1 11 rfl rfl)
theorem dX1_rival_38 : decode cX1_rival 38 = .ok (.iload 6, 2) := dk_21 6 (dk_at dksX1_rival_1 14 rfl rfl)
theorem dX1_rival_40 : decode cX1_rival 40 = .ok (.goto 10, 3) := dk_167 0 10 (dk_at dksX1_rival_1 16 rfl rfl)
theorem dX1_rival_43 : decode cX1_rival 43 = .ok (.iload 5, 2) := dk_21 5 (dk_at dksX1_rival_1 19 rfl rfl)
theorem dX1_rival_45 : decode cX1_rival 45 = .ok (.iload 4, 2) := dk_21 4 (dk_at dksX1_rival_1 21 rfl rfl)
theorem dX1_rival_47 : decode cX1_rival 47 = .ok (.invokestatic 361, 3) := dk_184 1 105 (dk_at dksX1_rival_2 0 rfl rfl)
theorem dX1_rival_50 : decode cX1_rival 50 = .ok (.ireturn, 1) := dk_172 (dk_at dksX1_rival_2 3 rfl rfl)
abbrev cX1_many : ByteArray := prog_1_method_36_code
def yX1_many : MethodName := ⟨RX1, "many", "(I)I"⟩
def dkwX1_many_0 : List UInt8 := [3, 60, 26, 61, 28, 153, 0, 15, 132, 1, 1, 28, 28, 4, 100, 126, 61, 167, 255, 243, 27, 172]
abbrev dktX1_many_0 : List UInt8 := dkwX1_many_0 ++ []
theorem dksX1_many_0 : cX1_many.data.toList.drop 0 = dktX1_many_0 := by decide +kernel
theorem dX1_many_0 : decode cX1_many 0 = .ok (.iconst 0, 1) := dk_3 (dk_at dksX1_many_0 0 rfl rfl)
theorem dX1_many_1 : decode cX1_many 1 = .ok (.istore_n 1, 1) := dk_60 (dk_at dksX1_many_0 1 rfl rfl)
theorem dX1_many_2 : decode cX1_many 2 = .ok (.iload_n 0, 1) := dk_26 (dk_at dksX1_many_0 2 rfl rfl)
theorem dX1_many_3 : decode cX1_many 3 = .ok (.istore_n 2, 1) := dk_61 (dk_at dksX1_many_0 3 rfl rfl)
theorem dX1_many_4 : decode cX1_many 4 = .ok (.iload_n 2, 1) := dk_28 (dk_at dksX1_many_0 4 rfl rfl)
theorem dX1_many_5 : decode cX1_many 5 = .ok (.ifCond .eq 15, 3) := dk_153 0 15 (dk_at dksX1_many_0 5 rfl rfl)
theorem dX1_many_8 : decode cX1_many 8 = .ok (.iinc 1 1, 3) := dk_132 1 1 (dk_at dksX1_many_0 8 rfl rfl)
theorem dX1_many_11 : decode cX1_many 11 = .ok (.iload_n 2, 1) := dk_28 (dk_at dksX1_many_0 11 rfl rfl)
theorem dX1_many_12 : decode cX1_many 12 = .ok (.iload_n 2, 1) := dk_28 (dk_at dksX1_many_0 12 rfl rfl)
theorem dX1_many_13 : decode cX1_many 13 = .ok (.iconst 1, 1) := dk_4 (dk_at dksX1_many_0 13 rfl rfl)
theorem dX1_many_14 : decode cX1_many 14 = .ok (.isub, 1) := dk_100 (dk_at dksX1_many_0 14 rfl rfl)
theorem dX1_many_15 : decode cX1_many 15 = .ok (.iand, 1) := dk_126 (dk_at dksX1_many_0 15 rfl rfl)
theorem dX1_many_16 : decode cX1_many 16 = .ok (.istore_n 2, 1) := dk_61 (dk_at dksX1_many_0 16 rfl rfl)
theorem dX1_many_17 : decode cX1_many 17 = .ok (.goto (-13), 3) := dk_167 255 243 (dk_at dksX1_many_0 17 rfl rfl)
theorem dX1_many_20 : decode cX1_many 20 = .ok (.iload_n 1, 1) := dk_27 (dk_at dksX1_many_0 20 rfl rfl)
theorem dX1_many_21 : decode cX1_many 21 = .ok (.ireturn, 1) := dk_172 (dk_at dksX1_many_0 21 rfl rfl)
abbrev cX1_bitOf : ByteArray := prog_1_method_37_code
def yX1_bitOf : MethodName := ⟨RX1, "bitOf", "(II)I"⟩
def dkwX1_bitOf_1 : List UInt8 := [153, 0, 7, 4, 167, 0, 4, 3, 100, 61, 132, 3, 1, 167, 255, 225, 29, 172]
abbrev dktX1_bitOf_1 : List UInt8 := dkwX1_bitOf_1 ++ []
def dkwX1_bitOf_0 : List UInt8 := [27, 61, 3, 62, 26, 29, 184, 1, 95, 153, 0, 7, 28, 158, 0, 25, 28, 26, 29, 184, 1, 95]
abbrev dktX1_bitOf_0 : List UInt8 := dkwX1_bitOf_0 ++ dktX1_bitOf_1
theorem dksX1_bitOf_0 : cX1_bitOf.data.toList.drop 0 = dktX1_bitOf_0 := by decide +kernel
theorem dksX1_bitOf_1 : cX1_bitOf.data.toList.drop 22 = dktX1_bitOf_1 := dk_seg dksX1_bitOf_0 22 rfl rfl
theorem dX1_bitOf_0 : decode cX1_bitOf 0 = .ok (.iload_n 1, 1) := dk_27 (dk_at dksX1_bitOf_0 0 rfl rfl)
theorem dX1_bitOf_1 : decode cX1_bitOf 1 = .ok (.istore_n 2, 1) := dk_61 (dk_at dksX1_bitOf_0 1 rfl rfl)
theorem dX1_bitOf_2 : decode cX1_bitOf 2 = .ok (.iconst 0, 1) := dk_3 (dk_at dksX1_bitOf_0 2 rfl rfl)
theorem dX1_bitOf_3 : decode cX1_bitOf 3 = .ok (.istore_n 3, 1) := dk_62 (dk_at dksX1_bitOf_0 3 rfl rfl)
theorem dX1_bitOf_4 : decode cX1_bitOf 4 = .ok (.iload_n 0, 1) := dk_26 (dk_at dksX1_bitOf_0 4 rfl rfl)
theorem dX1_bitOf_5 : decode cX1_bitOf 5 = .ok (.iload_n 3, 1) := dk_29 (dk_at dksX1_bitOf_0 5 rfl rfl)
theorem dX1_bitOf_6 : decode cX1_bitOf 6 = .ok (.invokestatic 351, 3) := dk_184 1 95 (dk_at dksX1_bitOf_0 6 rfl rfl)
theorem dX1_bitOf_9 : decode cX1_bitOf 9 = .ok (.ifCond .eq 7, 3) := dk_153 0 7 (dk_at dksX1_bitOf_0 9 rfl rfl)
theorem dX1_bitOf_12 : decode cX1_bitOf 12 = .ok (.iload_n 2, 1) := dk_28 (dk_at dksX1_bitOf_0 12 rfl rfl)
theorem dX1_bitOf_13 : decode cX1_bitOf 13 = .ok (.ifCond .le 25, 3) := dk_158 0 25 (dk_at dksX1_bitOf_0 13 rfl rfl)
theorem dX1_bitOf_16 : decode cX1_bitOf 16 = .ok (.iload_n 2, 1) := dk_28 (dk_at dksX1_bitOf_0 16 rfl rfl)
theorem dX1_bitOf_17 : decode cX1_bitOf 17 = .ok (.iload_n 0, 1) := dk_26 (dk_at dksX1_bitOf_0 17 rfl rfl)
theorem dX1_bitOf_18 : decode cX1_bitOf 18 = .ok (.iload_n 3, 1) := dk_29 (dk_at dksX1_bitOf_0 18 rfl rfl)
theorem dX1_bitOf_19 : decode cX1_bitOf 19 = .ok (.invokestatic 351, 3) := dk_184 1 95 (dk_at dksX1_bitOf_0 19 rfl rfl)
theorem dX1_bitOf_22 : decode cX1_bitOf 22 = .ok (.ifCond .eq 7, 3) := dk_153 0 7 (dk_at dksX1_bitOf_1 0 rfl rfl)
theorem dX1_bitOf_25 : decode cX1_bitOf 25 = .ok (.iconst 1, 1) := dk_4 (dk_at dksX1_bitOf_1 3 rfl rfl)
theorem dX1_bitOf_26 : decode cX1_bitOf 26 = .ok (.goto 4, 3) := dk_167 0 4 (dk_at dksX1_bitOf_1 4 rfl rfl)
theorem dX1_bitOf_29 : decode cX1_bitOf 29 = .ok (.iconst 0, 1) := dk_3 (dk_at dksX1_bitOf_1 7 rfl rfl)
theorem dX1_bitOf_30 : decode cX1_bitOf 30 = .ok (.isub, 1) := dk_100 (dk_at dksX1_bitOf_1 8 rfl rfl)
theorem dX1_bitOf_31 : decode cX1_bitOf 31 = .ok (.istore_n 2, 1) := dk_61 (dk_at dksX1_bitOf_1 9 rfl rfl)
theorem dX1_bitOf_32 : decode cX1_bitOf 32 = .ok (.iinc 3 1, 3) := dk_132 3 1 (dk_at dksX1_bitOf_1 10 rfl rfl)
theorem dX1_bitOf_35 : decode cX1_bitOf 35 = .ok (.goto (-31), 3) := dk_167 255 225 (dk_at dksX1_bitOf_1 13 rfl rfl)
theorem dX1_bitOf_38 : decode cX1_bitOf 38 = .ok (.iload_n 3, 1) := dk_29 (dk_at dksX1_bitOf_1 16 rfl rfl)
theorem dX1_bitOf_39 : decode cX1_bitOf 39 = .ok (.ireturn, 1) := dk_172 (dk_at dksX1_bitOf_1 17 rfl rfl)
abbrev cX1_nextChange : ByteArray := prog_1_method_39_code
def yX1_nextChange : MethodName := ⟨RX1, "nextChange", "(III)I"⟩
def dkwX1_nextChange_2 : List UInt8 := [167, 255, 230, 21, 6, 17, 3, 232, 162, 0, 7, 4, 167, 0, 4, 3, 184, 1, 51, 21, 6, 172]
abbrev dktX1_nextChange_2 : List UInt8 := dkwX1_nextChange_2 ++ []
def dkwX1_nextChange_1 : List UInt8 := [17, 3, 232, 162, 0, 24, 25, 4, 21, 6, 182, 1, 109, 182, 1, 85, 25, 5, 166, 0, 9, 132, 6, 1]
abbrev dktX1_nextChange_1 : List UInt8 := dkwX1_nextChange_1 ++ dktX1_nextChange_2
def dkwX1_nextChange_0 : List UInt8 := [42, 27, 28, 29, 182, 1, 71, 58, 4, 25, 4, 182, 1, 85, 58, 5, 28, 4, 96, 54, 6, 21, 6]
abbrev dktX1_nextChange_0 : List UInt8 := dkwX1_nextChange_0 ++ dktX1_nextChange_1
theorem dksX1_nextChange_0 : cX1_nextChange.data.toList.drop 0 = dktX1_nextChange_0 := by decide +kernel
theorem dksX1_nextChange_1 : cX1_nextChange.data.toList.drop 23 = dktX1_nextChange_1 := dk_seg dksX1_nextChange_0 23 rfl rfl
theorem dksX1_nextChange_2 : cX1_nextChange.data.toList.drop 47 = dktX1_nextChange_2 := dk_seg dksX1_nextChange_1 24 rfl rfl
theorem dX1_nextChange_0 : decode cX1_nextChange 0 = .ok (.aload_n 0, 1) := dk_42 (dk_at dksX1_nextChange_0 0 rfl rfl)
theorem dX1_nextChange_1 : decode cX1_nextChange 1 = .ok (.iload_n 1, 1) := dk_27 (dk_at dksX1_nextChange_0 1 rfl rfl)
theorem dX1_nextChange_2 : decode cX1_nextChange 2 = .ok (.iload_n 2, 1) := dk_28 (dk_at dksX1_nextChange_0 2 rfl rfl)
theorem dX1_nextChange_3 : decode cX1_nextChange 3 = .ok (.iload_n 3, 1) := dk_29 (dk_at dksX1_nextChange_0 3 rfl rfl)
theorem dX1_nextChange_4 : decode cX1_nextChange 4 = .ok (.invokevirtual 327, 3) := dk_182 1 71 (dk_at dksX1_nextChange_0 4 rfl rfl)
theorem dX1_nextChange_7 : decode cX1_nextChange 7 = .ok (.astore 4, 2) := dk_58 4 (dk_at dksX1_nextChange_0 7 rfl rfl)
theorem dX1_nextChange_9 : decode cX1_nextChange 9 = .ok (.aload 4, 2) := dk_25 4 (dk_at dksX1_nextChange_0 9 rfl rfl)
theorem dX1_nextChange_11 : decode cX1_nextChange 11 = .ok (.invokevirtual 341, 3) := dk_182 1 85 (dk_at dksX1_nextChange_0 11 rfl rfl)
theorem dX1_nextChange_14 : decode cX1_nextChange 14 = .ok (.astore 5, 2) := dk_58 5 (dk_at dksX1_nextChange_0 14 rfl rfl)
theorem dX1_nextChange_16 : decode cX1_nextChange 16 = .ok (.iload_n 2, 1) := dk_28 (dk_at dksX1_nextChange_0 16 rfl rfl)
theorem dX1_nextChange_17 : decode cX1_nextChange 17 = .ok (.iconst 1, 1) := dk_4 (dk_at dksX1_nextChange_0 17 rfl rfl)
theorem dX1_nextChange_18 : decode cX1_nextChange 18 = .ok (.iadd, 1) := dk_96 (dk_at dksX1_nextChange_0 18 rfl rfl)
theorem dX1_nextChange_19 : decode cX1_nextChange 19 = .ok (.istore 6, 2) := dk_54 6 (dk_at dksX1_nextChange_0 19 rfl rfl)
theorem dX1_nextChange_21 : decode cX1_nextChange 21 = .ok (.iload 6, 2) := dk_21 6 (dk_at dksX1_nextChange_0 21 rfl rfl)
theorem dX1_nextChange_23 : decode cX1_nextChange 23 = .ok (.sipush 1000, 3) := dk_17 3 232 (dk_at dksX1_nextChange_1 0 rfl rfl)
theorem dX1_nextChange_26 : decode cX1_nextChange 26 = .ok (.if_icmp .ge 24, 3) := dk_162 0 24 (dk_at dksX1_nextChange_1 3 rfl rfl)
theorem dX1_nextChange_29 : decode cX1_nextChange 29 = .ok (.aload 4, 2) := dk_25 4 (dk_at dksX1_nextChange_1 6 rfl rfl)
theorem dX1_nextChange_31 : decode cX1_nextChange 31 = .ok (.iload 6, 2) := dk_21 6 (dk_at dksX1_nextChange_1 8 rfl rfl)
theorem dX1_nextChange_33 : decode cX1_nextChange 33 = .ok (.invokevirtual 365, 3) := dk_182 1 109 (dk_at dksX1_nextChange_1 10 rfl rfl)
theorem dX1_nextChange_36 : decode cX1_nextChange 36 = .ok (.invokevirtual 341, 3) := dk_182 1 85 (dk_at dksX1_nextChange_1 13 rfl rfl)
theorem dX1_nextChange_39 : decode cX1_nextChange 39 = .ok (.aload 5, 2) := dk_25 5 (dk_at dksX1_nextChange_1 16 rfl rfl)
theorem dX1_nextChange_41 : decode cX1_nextChange 41 = .ok (.if_acmp .ne 9, 3) := dk_166 0 9 (dk_at dksX1_nextChange_1 18 rfl rfl)
theorem dX1_nextChange_44 : decode cX1_nextChange 44 = .ok (.iinc 6 1, 3) := dk_132 6 1 (dk_at dksX1_nextChange_1 21 rfl rfl)
theorem dX1_nextChange_47 : decode cX1_nextChange 47 = .ok (.goto (-26), 3) := dk_167 255 230 (dk_at dksX1_nextChange_2 0 rfl rfl)
theorem dX1_nextChange_50 : decode cX1_nextChange 50 = .ok (.iload 6, 2) := dk_21 6 (dk_at dksX1_nextChange_2 3 rfl rfl)
theorem dX1_nextChange_52 : decode cX1_nextChange 52 = .ok (.sipush 1000, 3) := dk_17 3 232 (dk_at dksX1_nextChange_2 5 rfl rfl)
theorem dX1_nextChange_55 : decode cX1_nextChange 55 = .ok (.if_icmp .ge 7, 3) := dk_162 0 7 (dk_at dksX1_nextChange_2 8 rfl rfl)
theorem dX1_nextChange_58 : decode cX1_nextChange 58 = .ok (.iconst 1, 1) := dk_4 (dk_at dksX1_nextChange_2 11 rfl rfl)
theorem dX1_nextChange_59 : decode cX1_nextChange 59 = .ok (.goto 4, 3) := dk_167 0 4 (dk_at dksX1_nextChange_2 12 rfl rfl)
theorem dX1_nextChange_62 : decode cX1_nextChange 62 = .ok (.iconst 0, 1) := dk_3 (dk_at dksX1_nextChange_2 15 rfl rfl)
theorem dX1_nextChange_63 : decode cX1_nextChange 63 = .ok (.invokestatic 307, 3) := dk_184 1 51 (dk_at dksX1_nextChange_2 16 rfl rfl)
theorem dX1_nextChange_66 : decode cX1_nextChange 66 = .ok (.iload 6, 2) := dk_21 6 (dk_at dksX1_nextChange_2 19 rfl rfl)
theorem dX1_nextChange_68 : decode cX1_nextChange 68 = .ok (.ireturn, 1) := dk_172 (dk_at dksX1_nextChange_2 21 rfl rfl)
abbrev cX1_days : ByteArray := prog_1_method_40_code
def yX1_days : MethodName := ⟨RX1, "days", "(III)I"⟩
def dkwX1_days_4 : List UInt8 := [167, 255, 220, 21, 6, 172]
abbrev dktX1_days_4 : List UInt8 := dkwX1_days_4 ++ []
def dkwX1_days_3 : List UInt8 := [21, 7, 182, 1, 109, 182, 1, 85, 25, 5, 166, 0, 7, 4, 167, 0, 4, 3, 96, 54, 6, 132, 7, 1]
abbrev dktX1_days_3 : List UInt8 := dkwX1_days_3 ++ dktX1_days_4
def dkwX1_days_2 : List UInt8 := [27, 184, 0, 198, 58, 5, 3, 54, 6, 3, 54, 7, 21, 7, 17, 3, 232, 162, 0, 34, 21, 6, 25, 4]
abbrev dktX1_days_2 : List UInt8 := dkwX1_days_2 ++ dktX1_days_3
def dkwX1_days_1 : List UInt8 := [153, 0, 7, 4, 167, 0, 4, 3, 184, 0, 153, 42, 180, 0, 28, 28, 3, 29, 2, 182, 0, 156, 58, 4]
abbrev dktX1_days_1 : List UInt8 := dkwX1_days_1 ++ dktX1_days_2
def dkwX1_days_0 : List UInt8 := [42, 180, 0, 10, 28, 182, 0, 139, 184, 0, 143, 27, 3, 5, 184, 0, 134, 153, 0, 14, 29, 184, 0, 150]
abbrev dktX1_days_0 : List UInt8 := dkwX1_days_0 ++ dktX1_days_1
theorem dksX1_days_0 : cX1_days.data.toList.drop 0 = dktX1_days_0 := by decide +kernel
theorem dksX1_days_1 : cX1_days.data.toList.drop 24 = dktX1_days_1 := dk_seg dksX1_days_0 24 rfl rfl
theorem dksX1_days_2 : cX1_days.data.toList.drop 48 = dktX1_days_2 := dk_seg dksX1_days_1 24 rfl rfl
theorem dksX1_days_3 : cX1_days.data.toList.drop 72 = dktX1_days_3 := dk_seg dksX1_days_2 24 rfl rfl
theorem dksX1_days_4 : cX1_days.data.toList.drop 96 = dktX1_days_4 := dk_seg dksX1_days_3 24 rfl rfl
theorem dX1_days_0 : decode cX1_days 0 = .ok (.aload_n 0, 1) := dk_42 (dk_at dksX1_days_0 0 rfl rfl)
theorem dX1_days_1 : decode cX1_days 1 = .ok (.getfield 10, 3) := dk_180 0 10 (dk_at dksX1_days_0 1 rfl rfl)
theorem dX1_days_4 : decode cX1_days 4 = .ok (.iload_n 2, 1) := dk_28 (dk_at dksX1_days_0 4 rfl rfl)
theorem dX1_days_5 : decode cX1_days 5 = .ok (.invokevirtual 139, 3) := dk_182 0 139 (dk_at dksX1_days_0 5 rfl rfl)
theorem dX1_days_8 : decode cX1_days 8 = .ok (.invokestatic 143, 3) := dk_184 0 143 (dk_at dksX1_days_0 8 rfl rfl)
theorem dX1_days_11 : decode cX1_days 11 = .ok (.iload_n 1, 1) := dk_27 (dk_at dksX1_days_0 11 rfl rfl)
theorem dX1_days_12 : decode cX1_days 12 = .ok (.iconst 0, 1) := dk_3 (dk_at dksX1_days_0 12 rfl rfl)
theorem dX1_days_13 : decode cX1_days 13 = .ok (.iconst 2, 1) := dk_5 (dk_at dksX1_days_0 13 rfl rfl)
theorem dX1_days_14 : decode cX1_days 14 = .ok (.invokestatic 134, 3) := dk_184 0 134 (dk_at dksX1_days_0 14 rfl rfl)
theorem dX1_days_17 : decode cX1_days 17 = .ok (.ifCond .eq 14, 3) := dk_153 0 14 (dk_at dksX1_days_0 17 rfl rfl)
theorem dX1_days_20 : decode cX1_days 20 = .ok (.iload_n 3, 1) := dk_29 (dk_at dksX1_days_0 20 rfl rfl)
theorem dX1_days_21 : decode cX1_days 21 = .ok (.invokestatic 150, 3) := dk_184 0 150 (dk_at dksX1_days_0 21 rfl rfl)
theorem dX1_days_24 : decode cX1_days 24 = .ok (.ifCond .eq 7, 3) := dk_153 0 7 (dk_at dksX1_days_1 0 rfl rfl)
theorem dX1_days_27 : decode cX1_days 27 = .ok (.iconst 1, 1) := dk_4 (dk_at dksX1_days_1 3 rfl rfl)
theorem dX1_days_28 : decode cX1_days 28 = .ok (.goto 4, 3) := dk_167 0 4 (dk_at dksX1_days_1 4 rfl rfl)
theorem dX1_days_31 : decode cX1_days 31 = .ok (.iconst 0, 1) := dk_3 (dk_at dksX1_days_1 7 rfl rfl)
theorem dX1_days_32 : decode cX1_days 32 = .ok (.invokestatic 153, 3) := dk_184 0 153 (dk_at dksX1_days_1 8 rfl rfl)
theorem dX1_days_35 : decode cX1_days 35 = .ok (.aload_n 0, 1) := dk_42 (dk_at dksX1_days_1 11 rfl rfl)
theorem dX1_days_36 : decode cX1_days 36 = .ok (.getfield 28, 3) := dk_180 0 28 (dk_at dksX1_days_1 12 rfl rfl)
theorem dX1_days_39 : decode cX1_days 39 = .ok (.iload_n 2, 1) := dk_28 (dk_at dksX1_days_1 15 rfl rfl)
theorem dX1_days_40 : decode cX1_days 40 = .ok (.iconst 0, 1) := dk_3 (dk_at dksX1_days_1 16 rfl rfl)
theorem dX1_days_41 : decode cX1_days 41 = .ok (.iload_n 3, 1) := dk_29 (dk_at dksX1_days_1 17 rfl rfl)
theorem dX1_days_42 : decode cX1_days 42 = .ok (.iconst (-1), 1) := dk_2 (dk_at dksX1_days_1 18 rfl rfl)
theorem dX1_days_43 : decode cX1_days 43 = .ok (.invokevirtual 156, 3) := dk_182 0 156 (dk_at dksX1_days_1 19 rfl rfl)
theorem dX1_days_46 : decode cX1_days 46 = .ok (.astore 4, 2) := dk_58 4 (dk_at dksX1_days_1 22 rfl rfl)
theorem dX1_days_48 : decode cX1_days 48 = .ok (.iload_n 1, 1) := dk_27 (dk_at dksX1_days_2 0 rfl rfl)
theorem dX1_days_49 : decode cX1_days 49 = .ok (.invokestatic 198, 3) := dk_184 0 198 (dk_at dksX1_days_2 1 rfl rfl)
theorem dX1_days_52 : decode cX1_days 52 = .ok (.astore 5, 2) := dk_58 5 (dk_at dksX1_days_2 4 rfl rfl)
theorem dX1_days_54 : decode cX1_days 54 = .ok (.iconst 0, 1) := dk_3 (dk_at dksX1_days_2 6 rfl rfl)
theorem dX1_days_55 : decode cX1_days 55 = .ok (.istore 6, 2) := dk_54 6 (dk_at dksX1_days_2 7 rfl rfl)
theorem dX1_days_57 : decode cX1_days 57 = .ok (.iconst 0, 1) := dk_3 (dk_at dksX1_days_2 9 rfl rfl)
theorem dX1_days_58 : decode cX1_days 58 = .ok (.istore 7, 2) := dk_54 7 (dk_at dksX1_days_2 10 rfl rfl)
theorem dX1_days_60 : decode cX1_days 60 = .ok (.iload 7, 2) := dk_21 7 (dk_at dksX1_days_2 12 rfl rfl)
theorem dX1_days_62 : decode cX1_days 62 = .ok (.sipush 1000, 3) := dk_17 3 232 (dk_at dksX1_days_2 14 rfl rfl)
theorem dX1_days_65 : decode cX1_days 65 = .ok (.if_icmp .ge 34, 3) := dk_162 0 34 (dk_at dksX1_days_2 17 rfl rfl)
theorem dX1_days_68 : decode cX1_days 68 = .ok (.iload 6, 2) := dk_21 6 (dk_at dksX1_days_2 20 rfl rfl)
theorem dX1_days_70 : decode cX1_days 70 = .ok (.aload 4, 2) := dk_25 4 (dk_at dksX1_days_2 22 rfl rfl)
theorem dX1_days_72 : decode cX1_days 72 = .ok (.iload 7, 2) := dk_21 7 (dk_at dksX1_days_3 0 rfl rfl)
theorem dX1_days_74 : decode cX1_days 74 = .ok (.invokevirtual 365, 3) := dk_182 1 109 (dk_at dksX1_days_3 2 rfl rfl)
theorem dX1_days_77 : decode cX1_days 77 = .ok (.invokevirtual 341, 3) := dk_182 1 85 (dk_at dksX1_days_3 5 rfl rfl)
theorem dX1_days_80 : decode cX1_days 80 = .ok (.aload 5, 2) := dk_25 5 (dk_at dksX1_days_3 8 rfl rfl)
theorem dX1_days_82 : decode cX1_days 82 = .ok (.if_acmp .ne 7, 3) := dk_166 0 7 (dk_at dksX1_days_3 10 rfl rfl)
theorem dX1_days_85 : decode cX1_days 85 = .ok (.iconst 1, 1) := dk_4 (dk_at dksX1_days_3 13 rfl rfl)
theorem dX1_days_86 : decode cX1_days 86 = .ok (.goto 4, 3) := dk_167 0 4 (dk_at dksX1_days_3 14 rfl rfl)
theorem dX1_days_89 : decode cX1_days 89 = .ok (.iconst 0, 1) := dk_3 (dk_at dksX1_days_3 17 rfl rfl)
theorem dX1_days_90 : decode cX1_days 90 = .ok (.iadd, 1) := dk_96 (dk_at dksX1_days_3 18 rfl rfl)
theorem dX1_days_91 : decode cX1_days 91 = .ok (.istore 6, 2) := dk_54 6 (dk_at dksX1_days_3 19 rfl rfl)
theorem dX1_days_93 : decode cX1_days 93 = .ok (.iinc 7 1, 3) := dk_132 7 1 (dk_at dksX1_days_3 21 rfl rfl)
theorem dX1_days_96 : decode cX1_days 96 = .ok (.goto (-36), 3) := dk_167 255 220 (dk_at dksX1_days_4 0 rfl rfl)
theorem dX1_days_99 : decode cX1_days 99 = .ok (.iload 6, 2) := dk_21 6 (dk_at dksX1_days_4 3 rfl rfl)
theorem dX1_days_101 : decode cX1_days 101 = .ok (.ireturn, 1) := dk_172 (dk_at dksX1_days_4 5 rfl rfl)
abbrev cX1_burden : ByteArray := prog_1_method_41_code
def yX1_burden : MethodName := ⟨RX1, "burden", "(III)F"⟩
def dkwX1_burden_0 : List UInt8 := [42, 27, 28, 29, 182, 1, 71, 182, 1, 113, 174]
abbrev dktX1_burden_0 : List UInt8 := dkwX1_burden_0 ++ []
theorem dksX1_burden_0 : cX1_burden.data.toList.drop 0 = dktX1_burden_0 := by decide +kernel
theorem dX1_burden_0 : decode cX1_burden 0 = .ok (.aload_n 0, 1) := dk_42 (dk_at dksX1_burden_0 0 rfl rfl)
theorem dX1_burden_1 : decode cX1_burden 1 = .ok (.iload_n 1, 1) := dk_27 (dk_at dksX1_burden_0 1 rfl rfl)
theorem dX1_burden_2 : decode cX1_burden 2 = .ok (.iload_n 2, 1) := dk_28 (dk_at dksX1_burden_0 2 rfl rfl)
theorem dX1_burden_3 : decode cX1_burden 3 = .ok (.iload_n 3, 1) := dk_29 (dk_at dksX1_burden_0 3 rfl rfl)
theorem dX1_burden_4 : decode cX1_burden 4 = .ok (.invokevirtual 327, 3) := dk_182 1 71 (dk_at dksX1_burden_0 4 rfl rfl)
theorem dX1_burden_7 : decode cX1_burden 7 = .ok (.invokevirtual 369, 3) := dk_182 1 113 (dk_at dksX1_burden_0 7 rfl rfl)
theorem dX1_burden_10 : decode cX1_burden 10 = .ok (.freturn, 1) := dk_174 (dk_at dksX1_burden_0 10 rfl rfl)
abbrev cX1_percent : ByteArray := prog_1_method_42_code
def yX1_percent : MethodName := ⟨RX1, "percent", "(III)I"⟩
def dkwX1_percent_0 : List UInt8 := [42, 27, 28, 29, 182, 1, 71, 182, 1, 113, 19, 1, 117, 106, 139, 172]
abbrev dktX1_percent_0 : List UInt8 := dkwX1_percent_0 ++ []
theorem dksX1_percent_0 : cX1_percent.data.toList.drop 0 = dktX1_percent_0 := by decide +kernel
theorem dX1_percent_0 : decode cX1_percent 0 = .ok (.aload_n 0, 1) := dk_42 (dk_at dksX1_percent_0 0 rfl rfl)
theorem dX1_percent_1 : decode cX1_percent 1 = .ok (.iload_n 1, 1) := dk_27 (dk_at dksX1_percent_0 1 rfl rfl)
theorem dX1_percent_2 : decode cX1_percent 2 = .ok (.iload_n 2, 1) := dk_28 (dk_at dksX1_percent_0 2 rfl rfl)
theorem dX1_percent_3 : decode cX1_percent 3 = .ok (.iload_n 3, 1) := dk_29 (dk_at dksX1_percent_0 3 rfl rfl)
theorem dX1_percent_4 : decode cX1_percent 4 = .ok (.invokevirtual 327, 3) := dk_182 1 71 (dk_at dksX1_percent_0 4 rfl rfl)
theorem dX1_percent_7 : decode cX1_percent 7 = .ok (.invokevirtual 369, 3) := dk_182 1 113 (dk_at dksX1_percent_0 7 rfl rfl)
theorem dX1_percent_10 : decode cX1_percent 10 = .ok (.ldc_w 373, 3) := dk_19 1 117 (dk_at dksX1_percent_0 10 rfl rfl)
theorem dX1_percent_13 : decode cX1_percent 13 = .ok (.fmul, 1) := dk_106 (dk_at dksX1_percent_0 13 rfl rfl)
theorem dX1_percent_14 : decode cX1_percent 14 = .ok (.f2i, 1) := dk_139 (dk_at dksX1_percent_0 14 rfl rfl)
theorem dX1_percent_15 : decode cX1_percent 15 = .ok (.ireturn, 1) := dk_172 (dk_at dksX1_percent_0 15 rfl rfl)
abbrev cX1_work : ByteArray := prog_1_method_43_code
def yX1_work : MethodName := ⟨RX1, "work", "(IIII)I"⟩
def dkwX1_work_5 : List UInt8 := [87, 42, 25, 5, 42, 180, 0, 10, 180, 1, 118, 182, 0, 168, 4, 100, 182, 0, 187, 172]
abbrev dktX1_work_5 : List UInt8 := dkwX1_work_5 ++ []
def dkwX1_work_4 : List UInt8 := [180, 0, 10, 180, 1, 118, 187, 1, 121, 89, 27, 28, 29, 21, 4, 184, 0, 198, 183, 1, 123, 182, 0, 183]
abbrev dktX1_work_4 : List UInt8 := dkwX1_work_4 ++ dktX1_work_5
def dkwX1_work_3 : List UInt8 := [167, 0, 4, 3, 16, 10, 3, 182, 1, 14, 182, 0, 234, 42, 180, 0, 10, 182, 0, 174, 58, 5, 42]
abbrev dktX1_work_3 : List UInt8 := dkwX1_work_3 ++ dktX1_work_4
def dkwX1_work_2 : List UInt8 := [187, 0, 71, 89, 183, 0, 229, 42, 180, 0, 10, 180, 1, 118, 182, 0, 168, 16, 12, 160, 0, 7, 4]
abbrev dktX1_work_2 : List UInt8 := dkwX1_work_2 ++ dktX1_work_3
def dkwX1_work_1 : List UInt8 := [153, 0, 17, 21, 4, 3, 5, 184, 0, 134, 153, 0, 7, 4, 167, 0, 4, 3, 184, 0, 153, 42]
abbrev dktX1_work_1 : List UInt8 := dkwX1_work_1 ++ dktX1_work_2
def dkwX1_work_0 : List UInt8 := [42, 180, 0, 10, 27, 182, 0, 139, 184, 0, 143, 28, 184, 0, 147, 153, 0, 24, 29, 184, 0, 150]
abbrev dktX1_work_0 : List UInt8 := dkwX1_work_0 ++ dktX1_work_1
theorem dksX1_work_0 : cX1_work.data.toList.drop 0 = dktX1_work_0 := by decide +kernel
theorem dksX1_work_1 : cX1_work.data.toList.drop 22 = dktX1_work_1 := dk_seg dksX1_work_0 22 rfl rfl
theorem dksX1_work_2 : cX1_work.data.toList.drop 44 = dktX1_work_2 := dk_seg dksX1_work_1 22 rfl rfl
theorem dksX1_work_3 : cX1_work.data.toList.drop 67 = dktX1_work_3 := dk_seg dksX1_work_2 23 rfl rfl
theorem dksX1_work_4 : cX1_work.data.toList.drop 90 = dktX1_work_4 := dk_seg dksX1_work_3 23 rfl rfl
theorem dksX1_work_5 : cX1_work.data.toList.drop 114 = dktX1_work_5 := dk_seg dksX1_work_4 24 rfl rfl
theorem dX1_work_0 : decode cX1_work 0 = .ok (.aload_n 0, 1) := dk_42 (dk_at dksX1_work_0 0 rfl rfl)
theorem dX1_work_1 : decode cX1_work 1 = .ok (.getfield 10, 3) := dk_180 0 10 (dk_at dksX1_work_0 1 rfl rfl)
theorem dX1_work_4 : decode cX1_work 4 = .ok (.iload_n 1, 1) := dk_27 (dk_at dksX1_work_0 4 rfl rfl)
theorem dX1_work_5 : decode cX1_work 5 = .ok (.invokevirtual 139, 3) := dk_182 0 139 (dk_at dksX1_work_0 5 rfl rfl)
theorem dX1_work_8 : decode cX1_work 8 = .ok (.invokestatic 143, 3) := dk_184 0 143 (dk_at dksX1_work_0 8 rfl rfl)
theorem dX1_work_11 : decode cX1_work 11 = .ok (.iload_n 2, 1) := dk_28 (dk_at dksX1_work_0 11 rfl rfl)
theorem dX1_work_12 : decode cX1_work 12 = .ok (.invokestatic 147, 3) := dk_184 0 147 (dk_at dksX1_work_0 12 rfl rfl)
theorem dX1_work_15 : decode cX1_work 15 = .ok (.ifCond .eq 24, 3) := dk_153 0 24 (dk_at dksX1_work_0 15 rfl rfl)
theorem dX1_work_18 : decode cX1_work 18 = .ok (.iload_n 3, 1) := dk_29 (dk_at dksX1_work_0 18 rfl rfl)
theorem dX1_work_19 : decode cX1_work 19 = .ok (.invokestatic 150, 3) := dk_184 0 150 (dk_at dksX1_work_0 19 rfl rfl)
theorem dX1_work_22 : decode cX1_work 22 = .ok (.ifCond .eq 17, 3) := dk_153 0 17 (dk_at dksX1_work_1 0 rfl rfl)
theorem dX1_work_25 : decode cX1_work 25 = .ok (.iload 4, 2) := dk_21 4 (dk_at dksX1_work_1 3 rfl rfl)
theorem dX1_work_27 : decode cX1_work 27 = .ok (.iconst 0, 1) := dk_3 (dk_at dksX1_work_1 5 rfl rfl)
theorem dX1_work_28 : decode cX1_work 28 = .ok (.iconst 2, 1) := dk_5 (dk_at dksX1_work_1 6 rfl rfl)
theorem dX1_work_29 : decode cX1_work 29 = .ok (.invokestatic 134, 3) := dk_184 0 134 (dk_at dksX1_work_1 7 rfl rfl)
theorem dX1_work_32 : decode cX1_work 32 = .ok (.ifCond .eq 7, 3) := dk_153 0 7 (dk_at dksX1_work_1 10 rfl rfl)
theorem dX1_work_35 : decode cX1_work 35 = .ok (.iconst 1, 1) := dk_4 (dk_at dksX1_work_1 13 rfl rfl)
theorem dX1_work_36 : decode cX1_work 36 = .ok (.goto 4, 3) := dk_167 0 4 (dk_at dksX1_work_1 14 rfl rfl)
theorem dX1_work_39 : decode cX1_work 39 = .ok (.iconst 0, 1) := dk_3 (dk_at dksX1_work_1 17 rfl rfl)
theorem dX1_work_40 : decode cX1_work 40 = .ok (.invokestatic 153, 3) := dk_184 0 153 (dk_at dksX1_work_1 18 rfl rfl)
theorem dX1_work_43 : decode cX1_work 43 = .ok (.aload_n 0, 1) := dk_42 (dk_at dksX1_work_1 21 rfl rfl)
theorem dX1_work_44 : decode cX1_work 44 = .ok (.new 71, 3) := dk_187 0 71 (dk_at dksX1_work_2 0 rfl rfl)
theorem dX1_work_47 : decode cX1_work 47 = .ok (.dup, 1) := dk_89 (dk_at dksX1_work_2 3 rfl rfl)
theorem dX1_work_48 : decode cX1_work 48 = .ok (.invokespecial 229, 3) := dk_183 0 229 (dk_at dksX1_work_2 4 rfl rfl)
theorem dX1_work_51 : decode cX1_work 51 = .ok (.aload_n 0, 1) := dk_42 (dk_at dksX1_work_2 7 rfl rfl)
theorem dX1_work_52 : decode cX1_work 52 = .ok (.getfield 10, 3) := dk_180 0 10 (dk_at dksX1_work_2 8 rfl rfl)
theorem dX1_work_55 : decode cX1_work 55 = .ok (.getfield 374, 3) := dk_180 1 118 (dk_at dksX1_work_2 11 rfl rfl)
theorem dX1_work_58 : decode cX1_work 58 = .ok (.invokevirtual 168, 3) := dk_182 0 168 (dk_at dksX1_work_2 14 rfl rfl)
theorem dX1_work_61 : decode cX1_work 61 = .ok (.bipush 12, 2) := dk_16 12 (dk_at dksX1_work_2 17 rfl rfl)
theorem dX1_work_63 : decode cX1_work 63 = .ok (.if_icmp .ne 7, 3) := dk_160 0 7 (dk_at dksX1_work_2 19 rfl rfl)
theorem dX1_work_66 : decode cX1_work 66 = .ok (.iconst 1, 1) := dk_4 (dk_at dksX1_work_2 22 rfl rfl)
theorem dX1_work_67 : decode cX1_work 67 = .ok (.goto 4, 3) := dk_167 0 4 (dk_at dksX1_work_3 0 rfl rfl)
theorem dX1_work_70 : decode cX1_work 70 = .ok (.iconst 0, 1) := dk_3 (dk_at dksX1_work_3 3 rfl rfl)
theorem dX1_work_71 : decode cX1_work 71 = .ok (.bipush 10, 2) := dk_16 10 (dk_at dksX1_work_3 4 rfl rfl)
theorem dX1_work_73 : decode cX1_work 73 = .ok (.iconst 0, 1) := dk_3 (dk_at dksX1_work_3 6 rfl rfl)
theorem dX1_work_74 : decode cX1_work 74 = .ok (.invokevirtual 270, 3) := dk_182 1 14 (dk_at dksX1_work_3 7 rfl rfl)
theorem dX1_work_77 : decode cX1_work 77 = .ok (.invokevirtual 234, 3) := dk_182 0 234 (dk_at dksX1_work_3 10 rfl rfl)
theorem dX1_work_80 : decode cX1_work 80 = .ok (.aload_n 0, 1) := dk_42 (dk_at dksX1_work_3 13 rfl rfl)
theorem dX1_work_81 : decode cX1_work 81 = .ok (.getfield 10, 3) := dk_180 0 10 (dk_at dksX1_work_3 14 rfl rfl)
theorem dX1_work_84 : decode cX1_work 84 = .ok (.invokevirtual 174, 3) := dk_182 0 174 (dk_at dksX1_work_3 17 rfl rfl)
theorem dX1_work_87 : decode cX1_work 87 = .ok (.astore 5, 2) := dk_58 5 (dk_at dksX1_work_3 20 rfl rfl)
theorem dX1_work_89 : decode cX1_work 89 = .ok (.aload_n 0, 1) := dk_42 (dk_at dksX1_work_3 22 rfl rfl)
theorem dX1_work_90 : decode cX1_work 90 = .ok (.getfield 10, 3) := dk_180 0 10 (dk_at dksX1_work_4 0 rfl rfl)
theorem dX1_work_93 : decode cX1_work 93 = .ok (.getfield 374, 3) := dk_180 1 118 (dk_at dksX1_work_4 3 rfl rfl)
theorem dX1_work_96 : decode cX1_work 96 = .ok (.new 377, 3) := dk_187 1 121 (dk_at dksX1_work_4 6 rfl rfl)
theorem dX1_work_99 : decode cX1_work 99 = .ok (.dup, 1) := dk_89 (dk_at dksX1_work_4 9 rfl rfl)
theorem dX1_work_100 : decode cX1_work 100 = .ok (.iload_n 1, 1) := dk_27 (dk_at dksX1_work_4 10 rfl rfl)
theorem dX1_work_101 : decode cX1_work 101 = .ok (.iload_n 2, 1) := dk_28 (dk_at dksX1_work_4 11 rfl rfl)
theorem dX1_work_102 : decode cX1_work 102 = .ok (.iload_n 3, 1) := dk_29 (dk_at dksX1_work_4 12 rfl rfl)
theorem dX1_work_103 : decode cX1_work 103 = .ok (.iload 4, 2) := dk_21 4 (dk_at dksX1_work_4 13 rfl rfl)
theorem dX1_work_105 : decode cX1_work 105 = .ok (.invokestatic 198, 3) := dk_184 0 198 (dk_at dksX1_work_4 15 rfl rfl)
theorem dX1_work_108 : decode cX1_work 108 = .ok (.invokespecial 379, 3) := dk_183 1 123 (dk_at dksX1_work_4 18 rfl rfl)
theorem dX1_work_111 : decode cX1_work 111 = .ok (.invokevirtual 183, 3) := dk_182 0 183 (dk_at dksX1_work_4 21 rfl rfl)
theorem dX1_work_114 : decode cX1_work 114 = .ok (.pop, 1) := dk_87 (dk_at dksX1_work_5 0 rfl rfl)
theorem dX1_work_115 : decode cX1_work 115 = .ok (.aload_n 0, 1) := dk_42 (dk_at dksX1_work_5 1 rfl rfl)
theorem dX1_work_116 : decode cX1_work 116 = .ok (.aload 5, 2) := dk_25 5 (dk_at dksX1_work_5 2 rfl rfl)
theorem dX1_work_118 : decode cX1_work 118 = .ok (.aload_n 0, 1) := dk_42 (dk_at dksX1_work_5 4 rfl rfl)
theorem dX1_work_119 : decode cX1_work 119 = .ok (.getfield 10, 3) := dk_180 0 10 (dk_at dksX1_work_5 5 rfl rfl)
theorem dX1_work_122 : decode cX1_work 122 = .ok (.getfield 374, 3) := dk_180 1 118 (dk_at dksX1_work_5 8 rfl rfl)
theorem dX1_work_125 : decode cX1_work 125 = .ok (.invokevirtual 168, 3) := dk_182 0 168 (dk_at dksX1_work_5 11 rfl rfl)
theorem dX1_work_128 : decode cX1_work 128 = .ok (.iconst 1, 1) := dk_4 (dk_at dksX1_work_5 14 rfl rfl)
theorem dX1_work_129 : decode cX1_work 129 = .ok (.isub, 1) := dk_100 (dk_at dksX1_work_5 15 rfl rfl)
theorem dX1_work_130 : decode cX1_work 130 = .ok (.invokevirtual 187, 3) := dk_182 0 187 (dk_at dksX1_work_5 16 rfl rfl)
theorem dX1_work_133 : decode cX1_work 133 = .ok (.ireturn, 1) := dk_172 (dk_at dksX1_work_5 19 rfl rfl)
abbrev cX1_caseOf : ByteArray := prog_1_method_47_code
def yX1_caseOf : MethodName := ⟨RX1, "caseOf", "(II)I"⟩
def dkwX1_caseOf_3 : List UInt8 := [42, 180, 0, 28, 45, 2, 182, 1, 126, 182, 1, 88, 172, 45, 28, 182, 1, 147, 172]
abbrev dktX1_caseOf_3 : List UInt8 := dkwX1_caseOf_3 ++ []
def dkwX1_caseOf_2 : List UInt8 := [42, 45, 2, 182, 1, 133, 182, 0, 105, 172, 42, 45, 182, 1, 144, 153, 0, 7, 4, 167, 0, 4, 3, 172]
abbrev dktX1_caseOf_2 : List UInt8 := dkwX1_caseOf_2 ++ dktX1_caseOf_3
def dkwX1_caseOf_1 : List UInt8 := [170, 0, 0, 0, 0, 0, 0, 65, 0, 0, 0, 4, 0, 0, 0, 6, 0, 0, 0, 28, 0, 0, 0, 38, 0, 0, 0, 52]
abbrev dktX1_caseOf_1 : List UInt8 := dkwX1_caseOf_1 ++ dktX1_caseOf_2
def dkwX1_caseOf_0 : List UInt8 := [42, 180, 0, 10, 27, 182, 1, 140, 78, 28, 3, 16, 6, 184, 0, 134, 184, 0, 153, 28]
abbrev dktX1_caseOf_0 : List UInt8 := dkwX1_caseOf_0 ++ dktX1_caseOf_1
theorem dksX1_caseOf_0 : cX1_caseOf.data.toList.drop 0 = dktX1_caseOf_0 := by decide +kernel
theorem dksX1_caseOf_1 : cX1_caseOf.data.toList.drop 20 = dktX1_caseOf_1 := dk_seg dksX1_caseOf_0 20 rfl rfl
theorem dksX1_caseOf_2 : cX1_caseOf.data.toList.drop 48 = dktX1_caseOf_2 := dk_seg dksX1_caseOf_1 28 rfl rfl
theorem dksX1_caseOf_3 : cX1_caseOf.data.toList.drop 72 = dktX1_caseOf_3 := dk_seg dksX1_caseOf_2 24 rfl rfl
theorem dX1_caseOf_0 : decode cX1_caseOf 0 = .ok (.aload_n 0, 1) := dk_42 (dk_at dksX1_caseOf_0 0 rfl rfl)
theorem dX1_caseOf_1 : decode cX1_caseOf 1 = .ok (.getfield 10, 3) := dk_180 0 10 (dk_at dksX1_caseOf_0 1 rfl rfl)
theorem dX1_caseOf_4 : decode cX1_caseOf 4 = .ok (.iload_n 1, 1) := dk_27 (dk_at dksX1_caseOf_0 4 rfl rfl)
theorem dX1_caseOf_5 : decode cX1_caseOf 5 = .ok (.invokevirtual 396, 3) := dk_182 1 140 (dk_at dksX1_caseOf_0 5 rfl rfl)
theorem dX1_caseOf_8 : decode cX1_caseOf 8 = .ok (.astore_n 3, 1) := dk_78 (dk_at dksX1_caseOf_0 8 rfl rfl)
theorem dX1_caseOf_9 : decode cX1_caseOf 9 = .ok (.iload_n 2, 1) := dk_28 (dk_at dksX1_caseOf_0 9 rfl rfl)
theorem dX1_caseOf_10 : decode cX1_caseOf 10 = .ok (.iconst 0, 1) := dk_3 (dk_at dksX1_caseOf_0 10 rfl rfl)
theorem dX1_caseOf_11 : decode cX1_caseOf 11 = .ok (.bipush 6, 2) := dk_16 6 (dk_at dksX1_caseOf_0 11 rfl rfl)
theorem dX1_caseOf_13 : decode cX1_caseOf 13 = .ok (.invokestatic 134, 3) := dk_184 0 134 (dk_at dksX1_caseOf_0 13 rfl rfl)
theorem dX1_caseOf_16 : decode cX1_caseOf 16 = .ok (.invokestatic 153, 3) := dk_184 0 153 (dk_at dksX1_caseOf_0 16 rfl rfl)
theorem dX1_caseOf_19 : decode cX1_caseOf 19 = .ok (.iload_n 2, 1) := dk_28 (dk_at dksX1_caseOf_0 19 rfl rfl)
theorem dX1_caseOf_20 : decode cX1_caseOf 20 = .ok (.tableswitch 65 4 6 #[28, 38, 52], 28) := by decide +kernel
theorem dX1_caseOf_48 : decode cX1_caseOf 48 = .ok (.aload_n 0, 1) := dk_42 (dk_at dksX1_caseOf_2 0 rfl rfl)
theorem dX1_caseOf_49 : decode cX1_caseOf 49 = .ok (.aload_n 3, 1) := dk_45 (dk_at dksX1_caseOf_2 1 rfl rfl)
theorem dX1_caseOf_50 : decode cX1_caseOf 50 = .ok (.iconst (-1), 1) := dk_2 (dk_at dksX1_caseOf_2 2 rfl rfl)
theorem dX1_caseOf_51 : decode cX1_caseOf 51 = .ok (.invokevirtual 389, 3) := dk_182 1 133 (dk_at dksX1_caseOf_2 3 rfl rfl)
theorem dX1_caseOf_54 : decode cX1_caseOf 54 = .ok (.invokevirtual 105, 3) := dk_182 0 105 (dk_at dksX1_caseOf_2 6 rfl rfl)
theorem dX1_caseOf_57 : decode cX1_caseOf 57 = .ok (.ireturn, 1) := dk_172 (dk_at dksX1_caseOf_2 9 rfl rfl)
theorem dX1_caseOf_58 : decode cX1_caseOf 58 = .ok (.aload_n 0, 1) := dk_42 (dk_at dksX1_caseOf_2 10 rfl rfl)
theorem dX1_caseOf_59 : decode cX1_caseOf 59 = .ok (.aload_n 3, 1) := dk_45 (dk_at dksX1_caseOf_2 11 rfl rfl)
theorem dX1_caseOf_60 : decode cX1_caseOf 60 = .ok (.invokevirtual 400, 3) := dk_182 1 144 (dk_at dksX1_caseOf_2 12 rfl rfl)
theorem dX1_caseOf_63 : decode cX1_caseOf 63 = .ok (.ifCond .eq 7, 3) := dk_153 0 7 (dk_at dksX1_caseOf_2 15 rfl rfl)
theorem dX1_caseOf_66 : decode cX1_caseOf 66 = .ok (.iconst 1, 1) := dk_4 (dk_at dksX1_caseOf_2 18 rfl rfl)
theorem dX1_caseOf_67 : decode cX1_caseOf 67 = .ok (.goto 4, 3) := dk_167 0 4 (dk_at dksX1_caseOf_2 19 rfl rfl)
theorem dX1_caseOf_70 : decode cX1_caseOf 70 = .ok (.iconst 0, 1) := dk_3 (dk_at dksX1_caseOf_2 22 rfl rfl)
theorem dX1_caseOf_71 : decode cX1_caseOf 71 = .ok (.ireturn, 1) := dk_172 (dk_at dksX1_caseOf_2 23 rfl rfl)
theorem dX1_caseOf_72 : decode cX1_caseOf 72 = .ok (.aload_n 0, 1) := dk_42 (dk_at dksX1_caseOf_3 0 rfl rfl)
theorem dX1_caseOf_73 : decode cX1_caseOf 73 = .ok (.getfield 28, 3) := dk_180 0 28 (dk_at dksX1_caseOf_3 1 rfl rfl)
theorem dX1_caseOf_76 : decode cX1_caseOf 76 = .ok (.aload_n 3, 1) := dk_45 (dk_at dksX1_caseOf_3 4 rfl rfl)
theorem dX1_caseOf_77 : decode cX1_caseOf 77 = .ok (.iconst (-1), 1) := dk_2 (dk_at dksX1_caseOf_3 5 rfl rfl)
theorem dX1_caseOf_78 : decode cX1_caseOf 78 = .ok (.invokevirtual 382, 3) := dk_182 1 126 (dk_at dksX1_caseOf_3 6 rfl rfl)
theorem dX1_caseOf_81 : decode cX1_caseOf 81 = .ok (.invokevirtual 344, 3) := dk_182 1 88 (dk_at dksX1_caseOf_3 9 rfl rfl)
theorem dX1_caseOf_84 : decode cX1_caseOf 84 = .ok (.ireturn, 1) := dk_172 (dk_at dksX1_caseOf_3 12 rfl rfl)
theorem dX1_caseOf_85 : decode cX1_caseOf 85 = .ok (.aload_n 3, 1) := dk_45 (dk_at dksX1_caseOf_3 13 rfl rfl)
theorem dX1_caseOf_86 : decode cX1_caseOf 86 = .ok (.iload_n 2, 1) := dk_28 (dk_at dksX1_caseOf_3 14 rfl rfl)
theorem dX1_caseOf_87 : decode cX1_caseOf 87 = .ok (.invokevirtual 403, 3) := dk_182 1 147 (dk_at dksX1_caseOf_3 15 rfl rfl)
theorem dX1_caseOf_90 : decode cX1_caseOf 90 = .ok (.ireturn, 1) := dk_172 (dk_at dksX1_caseOf_3 18 rfl rfl)
abbrev cX1_dropCase : ByteArray := prog_1_method_48_code
def yX1_dropCase : MethodName := ⟨RX1, "dropCase", "(I)I"⟩
def dkwX1_dropCase_1 : List UInt8 := [180, 1, 118, 27, 182, 1, 18, 87, 42, 44, 42, 180, 0, 10, 180, 1, 118, 182, 0, 168, 182, 0, 187, 172]
abbrev dktX1_dropCase_1 : List UInt8 := dkwX1_dropCase_1 ++ []
def dkwX1_dropCase_0 : List UInt8 := [42, 180, 0, 10, 27, 182, 1, 150, 184, 0, 143, 42, 180, 0, 10, 182, 0, 174, 77, 42, 180, 0, 10]
abbrev dktX1_dropCase_0 : List UInt8 := dkwX1_dropCase_0 ++ dktX1_dropCase_1
theorem dksX1_dropCase_0 : cX1_dropCase.data.toList.drop 0 = dktX1_dropCase_0 := by decide +kernel
theorem dksX1_dropCase_1 : cX1_dropCase.data.toList.drop 23 = dktX1_dropCase_1 := dk_seg dksX1_dropCase_0 23 rfl rfl
theorem dX1_dropCase_0 : decode cX1_dropCase 0 = .ok (.aload_n 0, 1) := dk_42 (dk_at dksX1_dropCase_0 0 rfl rfl)
theorem dX1_dropCase_1 : decode cX1_dropCase 1 = .ok (.getfield 10, 3) := dk_180 0 10 (dk_at dksX1_dropCase_0 1 rfl rfl)
theorem dX1_dropCase_4 : decode cX1_dropCase 4 = .ok (.iload_n 1, 1) := dk_27 (dk_at dksX1_dropCase_0 4 rfl rfl)
theorem dX1_dropCase_5 : decode cX1_dropCase 5 = .ok (.invokevirtual 406, 3) := dk_182 1 150 (dk_at dksX1_dropCase_0 5 rfl rfl)
theorem dX1_dropCase_8 : decode cX1_dropCase 8 = .ok (.invokestatic 143, 3) := dk_184 0 143 (dk_at dksX1_dropCase_0 8 rfl rfl)
theorem dX1_dropCase_11 : decode cX1_dropCase 11 = .ok (.aload_n 0, 1) := dk_42 (dk_at dksX1_dropCase_0 11 rfl rfl)
theorem dX1_dropCase_12 : decode cX1_dropCase 12 = .ok (.getfield 10, 3) := dk_180 0 10 (dk_at dksX1_dropCase_0 12 rfl rfl)
theorem dX1_dropCase_15 : decode cX1_dropCase 15 = .ok (.invokevirtual 174, 3) := dk_182 0 174 (dk_at dksX1_dropCase_0 15 rfl rfl)
theorem dX1_dropCase_18 : decode cX1_dropCase 18 = .ok (.astore_n 2, 1) := dk_77 (dk_at dksX1_dropCase_0 18 rfl rfl)
theorem dX1_dropCase_19 : decode cX1_dropCase 19 = .ok (.aload_n 0, 1) := dk_42 (dk_at dksX1_dropCase_0 19 rfl rfl)
theorem dX1_dropCase_20 : decode cX1_dropCase 20 = .ok (.getfield 10, 3) := dk_180 0 10 (dk_at dksX1_dropCase_0 20 rfl rfl)
theorem dX1_dropCase_23 : decode cX1_dropCase 23 = .ok (.getfield 374, 3) := dk_180 1 118 (dk_at dksX1_dropCase_1 0 rfl rfl)
theorem dX1_dropCase_26 : decode cX1_dropCase 26 = .ok (.iload_n 1, 1) := dk_27 (dk_at dksX1_dropCase_1 3 rfl rfl)
theorem dX1_dropCase_27 : decode cX1_dropCase 27 = .ok (.invokevirtual 274, 3) := dk_182 1 18 (dk_at dksX1_dropCase_1 4 rfl rfl)
theorem dX1_dropCase_30 : decode cX1_dropCase 30 = .ok (.pop, 1) := dk_87 (dk_at dksX1_dropCase_1 7 rfl rfl)
theorem dX1_dropCase_31 : decode cX1_dropCase 31 = .ok (.aload_n 0, 1) := dk_42 (dk_at dksX1_dropCase_1 8 rfl rfl)
theorem dX1_dropCase_32 : decode cX1_dropCase 32 = .ok (.aload_n 2, 1) := dk_44 (dk_at dksX1_dropCase_1 9 rfl rfl)
theorem dX1_dropCase_33 : decode cX1_dropCase 33 = .ok (.aload_n 0, 1) := dk_42 (dk_at dksX1_dropCase_1 10 rfl rfl)
theorem dX1_dropCase_34 : decode cX1_dropCase 34 = .ok (.getfield 10, 3) := dk_180 0 10 (dk_at dksX1_dropCase_1 11 rfl rfl)
theorem dX1_dropCase_37 : decode cX1_dropCase 37 = .ok (.getfield 374, 3) := dk_180 1 118 (dk_at dksX1_dropCase_1 14 rfl rfl)
theorem dX1_dropCase_40 : decode cX1_dropCase 40 = .ok (.invokevirtual 168, 3) := dk_182 0 168 (dk_at dksX1_dropCase_1 17 rfl rfl)
theorem dX1_dropCase_43 : decode cX1_dropCase 43 = .ok (.invokevirtual 187, 3) := dk_182 0 187 (dk_at dksX1_dropCase_1 20 rfl rfl)
theorem dX1_dropCase_46 : decode cX1_dropCase 46 = .ok (.ireturn, 1) := dk_172 (dk_at dksX1_dropCase_1 23 rfl rfl)
abbrev cX1_without : ByteArray := prog_1_method_54_code
def yX1_without : MethodName := ⟨RX1, "without", "(I)I"⟩
def dkwX1_without_0 : List UInt8 := [42, 180, 0, 10, 27, 182, 1, 168, 184, 0, 143, 42, 42, 27, 186, 1, 171, 0, 0, 182, 1, 174, 172]
abbrev dktX1_without_0 : List UInt8 := dkwX1_without_0 ++ []
theorem dksX1_without_0 : cX1_without.data.toList.drop 0 = dktX1_without_0 := by decide +kernel
theorem dX1_without_0 : decode cX1_without 0 = .ok (.aload_n 0, 1) := dk_42 (dk_at dksX1_without_0 0 rfl rfl)
theorem dX1_without_1 : decode cX1_without 1 = .ok (.getfield 10, 3) := dk_180 0 10 (dk_at dksX1_without_0 1 rfl rfl)
theorem dX1_without_4 : decode cX1_without 4 = .ok (.iload_n 1, 1) := dk_27 (dk_at dksX1_without_0 4 rfl rfl)
theorem dX1_without_5 : decode cX1_without 5 = .ok (.invokevirtual 424, 3) := dk_182 1 168 (dk_at dksX1_without_0 5 rfl rfl)
theorem dX1_without_8 : decode cX1_without 8 = .ok (.invokestatic 143, 3) := dk_184 0 143 (dk_at dksX1_without_0 8 rfl rfl)
theorem dX1_without_11 : decode cX1_without 11 = .ok (.aload_n 0, 1) := dk_42 (dk_at dksX1_without_0 11 rfl rfl)
theorem dX1_without_12 : decode cX1_without 12 = .ok (.aload_n 0, 1) := dk_42 (dk_at dksX1_without_0 12 rfl rfl)
theorem dX1_without_13 : decode cX1_without 13 = .ok (.iload_n 1, 1) := dk_27 (dk_at dksX1_without_0 13 rfl rfl)
theorem dX1_without_14 : decode cX1_without 14 = .ok (.invokedynamic 427, 5) := by decide +kernel
theorem dX1_without_19 : decode cX1_without 19 = .ok (.invokevirtual 430, 3) := dk_182 1 174 (dk_at dksX1_without_0 19 rfl rfl)
theorem dX1_without_22 : decode cX1_without 22 = .ok (.ireturn, 1) := dk_172 (dk_at dksX1_without_0 22 rfl rfl)
abbrev cX1_lambda_without_2 : ByteArray := prog_1_method_85_code
def yX1_lambda_without_2 : MethodName := ⟨RX1, "lambda$without$2", "(ILPolicyNotation$Work;)I"⟩
def dkwX1_lambda_without_2_0 : List UInt8 := [42, 44, 27, 182, 1, 129, 153, 0, 7, 4, 167, 0, 4, 3, 172]
abbrev dktX1_lambda_without_2_0 : List UInt8 := dkwX1_lambda_without_2_0 ++ []
theorem dksX1_lambda_without_2_0 : cX1_lambda_without_2.data.toList.drop 0 = dktX1_lambda_without_2_0 := by decide +kernel
theorem dX1_lambda_without_2_0 : decode cX1_lambda_without_2 0 = .ok (.aload_n 0, 1) := dk_42 (dk_at dksX1_lambda_without_2_0 0 rfl rfl)
theorem dX1_lambda_without_2_1 : decode cX1_lambda_without_2 1 = .ok (.aload_n 2, 1) := dk_44 (dk_at dksX1_lambda_without_2_0 1 rfl rfl)
theorem dX1_lambda_without_2_2 : decode cX1_lambda_without_2 2 = .ok (.iload_n 1, 1) := dk_27 (dk_at dksX1_lambda_without_2_0 2 rfl rfl)
theorem dX1_lambda_without_2_3 : decode cX1_lambda_without_2 3 = .ok (.invokevirtual 385, 3) := dk_182 1 129 (dk_at dksX1_lambda_without_2_0 3 rfl rfl)
theorem dX1_lambda_without_2_6 : decode cX1_lambda_without_2 6 = .ok (.ifCond .eq 7, 3) := dk_153 0 7 (dk_at dksX1_lambda_without_2_0 6 rfl rfl)
theorem dX1_lambda_without_2_9 : decode cX1_lambda_without_2 9 = .ok (.iconst 1, 1) := dk_4 (dk_at dksX1_lambda_without_2_0 9 rfl rfl)
theorem dX1_lambda_without_2_10 : decode cX1_lambda_without_2 10 = .ok (.goto 4, 3) := dk_167 0 4 (dk_at dksX1_lambda_without_2_0 10 rfl rfl)
theorem dX1_lambda_without_2_13 : decode cX1_lambda_without_2 13 = .ok (.iconst 0, 1) := dk_3 (dk_at dksX1_lambda_without_2_0 13 rfl rfl)
theorem dX1_lambda_without_2_14 : decode cX1_lambda_without_2 14 = .ok (.ireturn, 1) := dk_172 (dk_at dksX1_lambda_without_2_0 14 rfl rfl)
abbrev cX1_sum : ByteArray := prog_1_method_50_code
def yX1_sum : MethodName := ⟨RX1, "sum", "(LPolicyNotation$Told;)I"⟩
def dkwX1_sum_2 : List UInt8 := [172]
abbrev dktX1_sum_2 : List UInt8 := dkwX1_sum_2 ++ []
def dkwX1_sum_1 : List UInt8 := [180, 1, 118, 29, 182, 1, 54, 192, 1, 121, 185, 1, 153, 2, 0, 96, 61, 132, 3, 1, 167, 255, 216, 28]
abbrev dktX1_sum_1 : List UInt8 := dkwX1_sum_1 ++ dktX1_sum_2
def dkwX1_sum_0 : List UInt8 := [3, 61, 3, 62, 29, 42, 180, 0, 10, 180, 1, 118, 182, 0, 168, 162, 0, 32, 28, 43, 42, 180, 0, 10]
abbrev dktX1_sum_0 : List UInt8 := dkwX1_sum_0 ++ dktX1_sum_1
theorem dksX1_sum_0 : cX1_sum.data.toList.drop 0 = dktX1_sum_0 := by decide +kernel
theorem dksX1_sum_1 : cX1_sum.data.toList.drop 24 = dktX1_sum_1 := dk_seg dksX1_sum_0 24 rfl rfl
theorem dksX1_sum_2 : cX1_sum.data.toList.drop 48 = dktX1_sum_2 := dk_seg dksX1_sum_1 24 rfl rfl
theorem dX1_sum_0 : decode cX1_sum 0 = .ok (.iconst 0, 1) := dk_3 (dk_at dksX1_sum_0 0 rfl rfl)
theorem dX1_sum_1 : decode cX1_sum 1 = .ok (.istore_n 2, 1) := dk_61 (dk_at dksX1_sum_0 1 rfl rfl)
theorem dX1_sum_2 : decode cX1_sum 2 = .ok (.iconst 0, 1) := dk_3 (dk_at dksX1_sum_0 2 rfl rfl)
theorem dX1_sum_3 : decode cX1_sum 3 = .ok (.istore_n 3, 1) := dk_62 (dk_at dksX1_sum_0 3 rfl rfl)
theorem dX1_sum_4 : decode cX1_sum 4 = .ok (.iload_n 3, 1) := dk_29 (dk_at dksX1_sum_0 4 rfl rfl)
theorem dX1_sum_5 : decode cX1_sum 5 = .ok (.aload_n 0, 1) := dk_42 (dk_at dksX1_sum_0 5 rfl rfl)
theorem dX1_sum_6 : decode cX1_sum 6 = .ok (.getfield 10, 3) := dk_180 0 10 (dk_at dksX1_sum_0 6 rfl rfl)
theorem dX1_sum_9 : decode cX1_sum 9 = .ok (.getfield 374, 3) := dk_180 1 118 (dk_at dksX1_sum_0 9 rfl rfl)
theorem dX1_sum_12 : decode cX1_sum 12 = .ok (.invokevirtual 168, 3) := dk_182 0 168 (dk_at dksX1_sum_0 12 rfl rfl)
theorem dX1_sum_15 : decode cX1_sum 15 = .ok (.if_icmp .ge 32, 3) := dk_162 0 32 (dk_at dksX1_sum_0 15 rfl rfl)
theorem dX1_sum_18 : decode cX1_sum 18 = .ok (.iload_n 2, 1) := dk_28 (dk_at dksX1_sum_0 18 rfl rfl)
theorem dX1_sum_19 : decode cX1_sum 19 = .ok (.aload_n 1, 1) := dk_43 (dk_at dksX1_sum_0 19 rfl rfl)
theorem dX1_sum_20 : decode cX1_sum 20 = .ok (.aload_n 0, 1) := dk_42 (dk_at dksX1_sum_0 20 rfl rfl)
theorem dX1_sum_21 : decode cX1_sum 21 = .ok (.getfield 10, 3) := dk_180 0 10 (dk_at dksX1_sum_0 21 rfl rfl)
theorem dX1_sum_24 : decode cX1_sum 24 = .ok (.getfield 374, 3) := dk_180 1 118 (dk_at dksX1_sum_1 0 rfl rfl)
theorem dX1_sum_27 : decode cX1_sum 27 = .ok (.iload_n 3, 1) := dk_29 (dk_at dksX1_sum_1 3 rfl rfl)
theorem dX1_sum_28 : decode cX1_sum 28 = .ok (.invokevirtual 310, 3) := dk_182 1 54 (dk_at dksX1_sum_1 4 rfl rfl)
theorem dX1_sum_31 : decode cX1_sum 31 = .ok (.checkcast 377, 3) := dk_192 1 121 (dk_at dksX1_sum_1 7 rfl rfl)
theorem dX1_sum_34 : decode cX1_sum 34 = .ok (.invokeinterface 409 2, 5) := by decide +kernel
theorem dX1_sum_39 : decode cX1_sum 39 = .ok (.iadd, 1) := dk_96 (dk_at dksX1_sum_1 15 rfl rfl)
theorem dX1_sum_40 : decode cX1_sum 40 = .ok (.istore_n 2, 1) := dk_61 (dk_at dksX1_sum_1 16 rfl rfl)
theorem dX1_sum_41 : decode cX1_sum 41 = .ok (.iinc 3 1, 3) := dk_132 3 1 (dk_at dksX1_sum_1 17 rfl rfl)
theorem dX1_sum_44 : decode cX1_sum 44 = .ok (.goto (-40), 3) := dk_167 255 216 (dk_at dksX1_sum_1 20 rfl rfl)
theorem dX1_sum_47 : decode cX1_sum 47 = .ok (.iload_n 2, 1) := dk_28 (dk_at dksX1_sum_1 23 rfl rfl)
theorem dX1_sum_48 : decode cX1_sum 48 = .ok (.ireturn, 1) := dk_172 (dk_at dksX1_sum_2 0 rfl rfl)
abbrev cX1_sheet : ByteArray := prog_1_method_57_code
def yX1_sheet : MethodName := ⟨RX1, "sheet", "(I)I"⟩
def dkwX1_sheet_0 : List UInt8 := [27, 3, 7, 184, 0, 134, 184, 0, 153, 42, 182, 1, 177, 61, 42, 27, 184, 1, 180, 181, 0, 34, 28, 172]
abbrev dktX1_sheet_0 : List UInt8 := dkwX1_sheet_0 ++ []
theorem dksX1_sheet_0 : cX1_sheet.data.toList.drop 0 = dktX1_sheet_0 := by decide +kernel
theorem dX1_sheet_0 : decode cX1_sheet 0 = .ok (.iload_n 1, 1) := dk_27 (dk_at dksX1_sheet_0 0 rfl rfl)
theorem dX1_sheet_1 : decode cX1_sheet 1 = .ok (.iconst 0, 1) := dk_3 (dk_at dksX1_sheet_0 1 rfl rfl)
theorem dX1_sheet_2 : decode cX1_sheet 2 = .ok (.iconst 4, 1) := dk_7 (dk_at dksX1_sheet_0 2 rfl rfl)
theorem dX1_sheet_3 : decode cX1_sheet 3 = .ok (.invokestatic 134, 3) := dk_184 0 134 (dk_at dksX1_sheet_0 3 rfl rfl)
theorem dX1_sheet_6 : decode cX1_sheet 6 = .ok (.invokestatic 153, 3) := dk_184 0 153 (dk_at dksX1_sheet_0 6 rfl rfl)
theorem dX1_sheet_9 : decode cX1_sheet 9 = .ok (.aload_n 0, 1) := dk_42 (dk_at dksX1_sheet_0 9 rfl rfl)
theorem dX1_sheet_10 : decode cX1_sheet 10 = .ok (.invokevirtual 433, 3) := dk_182 1 177 (dk_at dksX1_sheet_0 10 rfl rfl)
theorem dX1_sheet_13 : decode cX1_sheet 13 = .ok (.istore_n 2, 1) := dk_61 (dk_at dksX1_sheet_0 13 rfl rfl)
theorem dX1_sheet_14 : decode cX1_sheet 14 = .ok (.aload_n 0, 1) := dk_42 (dk_at dksX1_sheet_0 14 rfl rfl)
theorem dX1_sheet_15 : decode cX1_sheet 15 = .ok (.iload_n 1, 1) := dk_27 (dk_at dksX1_sheet_0 15 rfl rfl)
theorem dX1_sheet_16 : decode cX1_sheet 16 = .ok (.invokestatic 436, 3) := dk_184 1 180 (dk_at dksX1_sheet_0 16 rfl rfl)
theorem dX1_sheet_19 : decode cX1_sheet 19 = .ok (.putfield 34, 3) := dk_181 0 34 (dk_at dksX1_sheet_0 19 rfl rfl)
theorem dX1_sheet_22 : decode cX1_sheet 22 = .ok (.iload_n 2, 1) := dk_28 (dk_at dksX1_sheet_0 22 rfl rfl)
theorem dX1_sheet_23 : decode cX1_sheet 23 = .ok (.ireturn, 1) := dk_172 (dk_at dksX1_sheet_0 23 rfl rfl)
abbrev cX1_onSheet : ByteArray := prog_1_method_56_code
def yX1_onSheet : MethodName := ⟨RX1, "onSheet", "()I"⟩
def dkwX1_onSheet_1 : List UInt8 := [4, 96, 60, 132, 2, 1, 167, 255, 230, 27, 172]
abbrev dktX1_onSheet_1 : List UInt8 := dkwX1_onSheet_1 ++ []
def dkwX1_onSheet_0 : List UInt8 := [3, 60, 3, 61, 28, 16, 6, 162, 0, 26, 27, 42, 180, 0, 34, 28, 50, 199, 0, 7, 3, 167, 0, 4]
abbrev dktX1_onSheet_0 : List UInt8 := dkwX1_onSheet_0 ++ dktX1_onSheet_1
theorem dksX1_onSheet_0 : cX1_onSheet.data.toList.drop 0 = dktX1_onSheet_0 := by decide +kernel
theorem dksX1_onSheet_1 : cX1_onSheet.data.toList.drop 24 = dktX1_onSheet_1 := dk_seg dksX1_onSheet_0 24 rfl rfl
theorem dX1_onSheet_0 : decode cX1_onSheet 0 = .ok (.iconst 0, 1) := dk_3 (dk_at dksX1_onSheet_0 0 rfl rfl)
theorem dX1_onSheet_1 : decode cX1_onSheet 1 = .ok (.istore_n 1, 1) := dk_60 (dk_at dksX1_onSheet_0 1 rfl rfl)
theorem dX1_onSheet_2 : decode cX1_onSheet 2 = .ok (.iconst 0, 1) := dk_3 (dk_at dksX1_onSheet_0 2 rfl rfl)
theorem dX1_onSheet_3 : decode cX1_onSheet 3 = .ok (.istore_n 2, 1) := dk_61 (dk_at dksX1_onSheet_0 3 rfl rfl)
theorem dX1_onSheet_4 : decode cX1_onSheet 4 = .ok (.iload_n 2, 1) := dk_28 (dk_at dksX1_onSheet_0 4 rfl rfl)
theorem dX1_onSheet_5 : decode cX1_onSheet 5 = .ok (.bipush 6, 2) := dk_16 6 (dk_at dksX1_onSheet_0 5 rfl rfl)
theorem dX1_onSheet_7 : decode cX1_onSheet 7 = .ok (.if_icmp .ge 26, 3) := dk_162 0 26 (dk_at dksX1_onSheet_0 7 rfl rfl)
theorem dX1_onSheet_10 : decode cX1_onSheet 10 = .ok (.iload_n 1, 1) := dk_27 (dk_at dksX1_onSheet_0 10 rfl rfl)
theorem dX1_onSheet_11 : decode cX1_onSheet 11 = .ok (.aload_n 0, 1) := dk_42 (dk_at dksX1_onSheet_0 11 rfl rfl)
theorem dX1_onSheet_12 : decode cX1_onSheet 12 = .ok (.getfield 34, 3) := dk_180 0 34 (dk_at dksX1_onSheet_0 12 rfl rfl)
theorem dX1_onSheet_15 : decode cX1_onSheet 15 = .ok (.iload_n 2, 1) := dk_28 (dk_at dksX1_onSheet_0 15 rfl rfl)
theorem dX1_onSheet_16 : decode cX1_onSheet 16 = .ok (.aaload, 1) := dk_50 (dk_at dksX1_onSheet_0 16 rfl rfl)
theorem dX1_onSheet_17 : decode cX1_onSheet 17 = .ok (.ifnonnull 7, 3) := dk_199 0 7 (dk_at dksX1_onSheet_0 17 rfl rfl)
theorem dX1_onSheet_20 : decode cX1_onSheet 20 = .ok (.iconst 0, 1) := dk_3 (dk_at dksX1_onSheet_0 20 rfl rfl)
theorem dX1_onSheet_21 : decode cX1_onSheet 21 = .ok (.goto 4, 3) := dk_167 0 4 (dk_at dksX1_onSheet_0 21 rfl rfl)
theorem dX1_onSheet_24 : decode cX1_onSheet 24 = .ok (.iconst 1, 1) := dk_4 (dk_at dksX1_onSheet_1 0 rfl rfl)
theorem dX1_onSheet_25 : decode cX1_onSheet 25 = .ok (.iadd, 1) := dk_96 (dk_at dksX1_onSheet_1 1 rfl rfl)
theorem dX1_onSheet_26 : decode cX1_onSheet 26 = .ok (.istore_n 1, 1) := dk_60 (dk_at dksX1_onSheet_1 2 rfl rfl)
theorem dX1_onSheet_27 : decode cX1_onSheet 27 = .ok (.iinc 2 1, 3) := dk_132 2 1 (dk_at dksX1_onSheet_1 3 rfl rfl)
theorem dX1_onSheet_30 : decode cX1_onSheet 30 = .ok (.goto (-26), 3) := dk_167 255 230 (dk_at dksX1_onSheet_1 6 rfl rfl)
theorem dX1_onSheet_33 : decode cX1_onSheet 33 = .ok (.iload_n 1, 1) := dk_27 (dk_at dksX1_onSheet_1 9 rfl rfl)
theorem dX1_onSheet_34 : decode cX1_onSheet 34 = .ok (.ireturn, 1) := dk_172 (dk_at dksX1_onSheet_1 10 rfl rfl)
abbrev cX1_sheetOf : ByteArray := prog_1_method_55_code
def yX1_sheetOf : MethodName := ⟨RX1, "sheetOf", "(I)[LPolicyNotation$Test;"⟩
def dkwX1_sheetOf_3 : List UInt8 := [16, 6, 189, 0, 32, 176]
abbrev dktX1_sheetOf_3 : List UInt8 := dkwX1_sheetOf_3 ++ []
def dkwX1_sheetOf_2 : List UInt8 := [16, 6, 189, 0, 109, 176, 16, 6, 189, 0, 114, 176, 16, 6, 189, 0, 117, 176, 16, 6, 189, 0, 120, 176]
abbrev dktX1_sheetOf_2 : List UInt8 := dkwX1_sheetOf_2 ++ dktX1_sheetOf_3
def dkwX1_sheetOf_1 : List UInt8 := [170, 0, 0, 0, 0, 0, 55, 0, 0, 0, 0, 0, 0, 0, 3, 0, 0, 0, 31, 0, 0, 0, 37, 0, 0, 0, 43, 0, 0, 0, 49]
abbrev dktX1_sheetOf_1 : List UInt8 := dkwX1_sheetOf_1 ++ dktX1_sheetOf_2
def dkwX1_sheetOf_0 : List UInt8 := [26]
abbrev dktX1_sheetOf_0 : List UInt8 := dkwX1_sheetOf_0 ++ dktX1_sheetOf_1
theorem dksX1_sheetOf_0 : cX1_sheetOf.data.toList.drop 0 = dktX1_sheetOf_0 := by decide +kernel
theorem dksX1_sheetOf_1 : cX1_sheetOf.data.toList.drop 1 = dktX1_sheetOf_1 := dk_seg dksX1_sheetOf_0 1 rfl rfl
theorem dksX1_sheetOf_2 : cX1_sheetOf.data.toList.drop 32 = dktX1_sheetOf_2 := dk_seg dksX1_sheetOf_1 31 rfl rfl
theorem dksX1_sheetOf_3 : cX1_sheetOf.data.toList.drop 56 = dktX1_sheetOf_3 := dk_seg dksX1_sheetOf_2 24 rfl rfl
theorem dX1_sheetOf_0 : decode cX1_sheetOf 0 = .ok (.iload_n 0, 1) := dk_26 (dk_at dksX1_sheetOf_0 0 rfl rfl)
theorem dX1_sheetOf_1 : decode cX1_sheetOf 1 = .ok (.tableswitch 55 0 3 #[31, 37, 43, 49], 31) := by decide +kernel
theorem dX1_sheetOf_32 : decode cX1_sheetOf 32 = .ok (.bipush 6, 2) := dk_16 6 (dk_at dksX1_sheetOf_2 0 rfl rfl)
theorem dX1_sheetOf_34 : decode cX1_sheetOf 34 = .ok (.anewarray 109, 3) := dk_189 0 109 (dk_at dksX1_sheetOf_2 2 rfl rfl)
theorem dX1_sheetOf_37 : decode cX1_sheetOf 37 = .ok (.areturn, 1) := dk_176 (dk_at dksX1_sheetOf_2 5 rfl rfl)
theorem dX1_sheetOf_38 : decode cX1_sheetOf 38 = .ok (.bipush 6, 2) := dk_16 6 (dk_at dksX1_sheetOf_2 6 rfl rfl)
theorem dX1_sheetOf_40 : decode cX1_sheetOf 40 = .ok (.anewarray 114, 3) := dk_189 0 114 (dk_at dksX1_sheetOf_2 8 rfl rfl)
theorem dX1_sheetOf_43 : decode cX1_sheetOf 43 = .ok (.areturn, 1) := dk_176 (dk_at dksX1_sheetOf_2 11 rfl rfl)
theorem dX1_sheetOf_44 : decode cX1_sheetOf 44 = .ok (.bipush 6, 2) := dk_16 6 (dk_at dksX1_sheetOf_2 12 rfl rfl)
theorem dX1_sheetOf_46 : decode cX1_sheetOf 46 = .ok (.anewarray 117, 3) := dk_189 0 117 (dk_at dksX1_sheetOf_2 14 rfl rfl)
theorem dX1_sheetOf_49 : decode cX1_sheetOf 49 = .ok (.areturn, 1) := dk_176 (dk_at dksX1_sheetOf_2 17 rfl rfl)
theorem dX1_sheetOf_50 : decode cX1_sheetOf 50 = .ok (.bipush 6, 2) := dk_16 6 (dk_at dksX1_sheetOf_2 18 rfl rfl)
theorem dX1_sheetOf_52 : decode cX1_sheetOf 52 = .ok (.anewarray 120, 3) := dk_189 0 120 (dk_at dksX1_sheetOf_2 20 rfl rfl)
theorem dX1_sheetOf_55 : decode cX1_sheetOf 55 = .ok (.areturn, 1) := dk_176 (dk_at dksX1_sheetOf_2 23 rfl rfl)
theorem dX1_sheetOf_56 : decode cX1_sheetOf 56 = .ok (.bipush 6, 2) := dk_16 6 (dk_at dksX1_sheetOf_3 0 rfl rfl)
theorem dX1_sheetOf_58 : decode cX1_sheetOf 58 = .ok (.anewarray 32, 3) := dk_189 0 32 (dk_at dksX1_sheetOf_3 2 rfl rfl)
theorem dX1_sheetOf_61 : decode cX1_sheetOf 61 = .ok (.areturn, 1) := dk_176 (dk_at dksX1_sheetOf_3 5 rfl rfl)
abbrev cX1_lay : ByteArray := prog_1_method_59_code
def yX1_lay : MethodName := ⟨RX1, "lay", "(III)I"⟩
def dkwX1_lay_2 : List UInt8 := [16, 9, 25, 4, 184, 1, 64, 182, 1, 14, 182, 0, 234, 42, 182, 1, 177, 172]
abbrev dktX1_lay_2 : List UInt8 := dkwX1_lay_2 ++ []
def dkwX1_lay_1 : List UInt8 := [42, 187, 0, 71, 89, 183, 0, 229, 42, 27, 25, 4, 182, 1, 186, 154, 0, 7, 4, 167, 0, 4, 3]
abbrev dktX1_lay_1 : List UInt8 := dkwX1_lay_1 ++ dktX1_lay_2
def dkwX1_lay_0 : List UInt8 := [27, 3, 8, 184, 0, 134, 184, 0, 143, 42, 42, 180, 0, 10, 28, 182, 0, 249, 29, 182, 1, 57, 58, 4]
abbrev dktX1_lay_0 : List UInt8 := dkwX1_lay_0 ++ dktX1_lay_1
theorem dksX1_lay_0 : cX1_lay.data.toList.drop 0 = dktX1_lay_0 := by decide +kernel
theorem dksX1_lay_1 : cX1_lay.data.toList.drop 24 = dktX1_lay_1 := dk_seg dksX1_lay_0 24 rfl rfl
theorem dksX1_lay_2 : cX1_lay.data.toList.drop 47 = dktX1_lay_2 := dk_seg dksX1_lay_1 23 rfl rfl
theorem dX1_lay_0 : decode cX1_lay 0 = .ok (.iload_n 1, 1) := dk_27 (dk_at dksX1_lay_0 0 rfl rfl)
theorem dX1_lay_1 : decode cX1_lay 1 = .ok (.iconst 0, 1) := dk_3 (dk_at dksX1_lay_0 1 rfl rfl)
theorem dX1_lay_2 : decode cX1_lay 2 = .ok (.iconst 5, 1) := dk_8 (dk_at dksX1_lay_0 2 rfl rfl)
theorem dX1_lay_3 : decode cX1_lay 3 = .ok (.invokestatic 134, 3) := dk_184 0 134 (dk_at dksX1_lay_0 3 rfl rfl)
theorem dX1_lay_6 : decode cX1_lay 6 = .ok (.invokestatic 143, 3) := dk_184 0 143 (dk_at dksX1_lay_0 6 rfl rfl)
theorem dX1_lay_9 : decode cX1_lay 9 = .ok (.aload_n 0, 1) := dk_42 (dk_at dksX1_lay_0 9 rfl rfl)
theorem dX1_lay_10 : decode cX1_lay 10 = .ok (.aload_n 0, 1) := dk_42 (dk_at dksX1_lay_0 10 rfl rfl)
theorem dX1_lay_11 : decode cX1_lay 11 = .ok (.getfield 10, 3) := dk_180 0 10 (dk_at dksX1_lay_0 11 rfl rfl)
theorem dX1_lay_14 : decode cX1_lay 14 = .ok (.iload_n 2, 1) := dk_28 (dk_at dksX1_lay_0 14 rfl rfl)
theorem dX1_lay_15 : decode cX1_lay 15 = .ok (.invokevirtual 249, 3) := dk_182 0 249 (dk_at dksX1_lay_0 15 rfl rfl)
theorem dX1_lay_18 : decode cX1_lay 18 = .ok (.iload_n 3, 1) := dk_29 (dk_at dksX1_lay_0 18 rfl rfl)
theorem dX1_lay_19 : decode cX1_lay 19 = .ok (.invokevirtual 313, 3) := dk_182 1 57 (dk_at dksX1_lay_0 19 rfl rfl)
theorem dX1_lay_22 : decode cX1_lay 22 = .ok (.astore 4, 2) := dk_58 4 (dk_at dksX1_lay_0 22 rfl rfl)
theorem dX1_lay_24 : decode cX1_lay 24 = .ok (.aload_n 0, 1) := dk_42 (dk_at dksX1_lay_1 0 rfl rfl)
theorem dX1_lay_25 : decode cX1_lay 25 = .ok (.new 71, 3) := dk_187 0 71 (dk_at dksX1_lay_1 1 rfl rfl)
theorem dX1_lay_28 : decode cX1_lay 28 = .ok (.dup, 1) := dk_89 (dk_at dksX1_lay_1 4 rfl rfl)
theorem dX1_lay_29 : decode cX1_lay 29 = .ok (.invokespecial 229, 3) := dk_183 0 229 (dk_at dksX1_lay_1 5 rfl rfl)
theorem dX1_lay_32 : decode cX1_lay 32 = .ok (.aload_n 0, 1) := dk_42 (dk_at dksX1_lay_1 8 rfl rfl)
theorem dX1_lay_33 : decode cX1_lay 33 = .ok (.iload_n 1, 1) := dk_27 (dk_at dksX1_lay_1 9 rfl rfl)
theorem dX1_lay_34 : decode cX1_lay 34 = .ok (.aload 4, 2) := dk_25 4 (dk_at dksX1_lay_1 10 rfl rfl)
theorem dX1_lay_36 : decode cX1_lay 36 = .ok (.invokevirtual 442, 3) := dk_182 1 186 (dk_at dksX1_lay_1 12 rfl rfl)
theorem dX1_lay_39 : decode cX1_lay 39 = .ok (.ifCond .ne 7, 3) := dk_154 0 7 (dk_at dksX1_lay_1 15 rfl rfl)
theorem dX1_lay_42 : decode cX1_lay 42 = .ok (.iconst 1, 1) := dk_4 (dk_at dksX1_lay_1 18 rfl rfl)
theorem dX1_lay_43 : decode cX1_lay 43 = .ok (.goto 4, 3) := dk_167 0 4 (dk_at dksX1_lay_1 19 rfl rfl)
theorem dX1_lay_46 : decode cX1_lay 46 = .ok (.iconst 0, 1) := dk_3 (dk_at dksX1_lay_1 22 rfl rfl)
theorem dX1_lay_47 : decode cX1_lay 47 = .ok (.bipush 9, 2) := dk_16 9 (dk_at dksX1_lay_2 0 rfl rfl)
theorem dX1_lay_49 : decode cX1_lay 49 = .ok (.aload 4, 2) := dk_25 4 (dk_at dksX1_lay_2 2 rfl rfl)
theorem dX1_lay_51 : decode cX1_lay 51 = .ok (.invokestatic 320, 3) := dk_184 1 64 (dk_at dksX1_lay_2 4 rfl rfl)
theorem dX1_lay_54 : decode cX1_lay 54 = .ok (.invokevirtual 270, 3) := dk_182 1 14 (dk_at dksX1_lay_2 7 rfl rfl)
theorem dX1_lay_57 : decode cX1_lay 57 = .ok (.invokevirtual 234, 3) := dk_182 0 234 (dk_at dksX1_lay_2 10 rfl rfl)
theorem dX1_lay_60 : decode cX1_lay 60 = .ok (.aload_n 0, 1) := dk_42 (dk_at dksX1_lay_2 13 rfl rfl)
theorem dX1_lay_61 : decode cX1_lay 61 = .ok (.invokevirtual 433, 3) := dk_182 1 177 (dk_at dksX1_lay_2 14 rfl rfl)
theorem dX1_lay_64 : decode cX1_lay 64 = .ok (.ireturn, 1) := dk_172 (dk_at dksX1_lay_2 17 rfl rfl)
abbrev cX1_lays : ByteArray := prog_1_method_58_code
def yX1_lays : MethodName := ⟨RX1, "lays", "(ILPolicyNotation$Test;)Z"⟩
def dkwX1_lays_0 : List UInt8 := [42, 180, 0, 34, 27, 44, 83, 4, 172, 78, 3, 172]
abbrev dktX1_lays_0 : List UInt8 := dkwX1_lays_0 ++ []
theorem dksX1_lays_0 : cX1_lays.data.toList.drop 0 = dktX1_lays_0 := by decide +kernel
theorem dX1_lays_0 : decode cX1_lays 0 = .ok (.aload_n 0, 1) := dk_42 (dk_at dksX1_lays_0 0 rfl rfl)
theorem dX1_lays_1 : decode cX1_lays 1 = .ok (.getfield 34, 3) := dk_180 0 34 (dk_at dksX1_lays_0 1 rfl rfl)
theorem dX1_lays_4 : decode cX1_lays 4 = .ok (.iload_n 1, 1) := dk_27 (dk_at dksX1_lays_0 4 rfl rfl)
theorem dX1_lays_5 : decode cX1_lays 5 = .ok (.aload_n 2, 1) := dk_44 (dk_at dksX1_lays_0 5 rfl rfl)
theorem dX1_lays_6 : decode cX1_lays 6 = .ok (.aastore, 1) := dk_83 (dk_at dksX1_lays_0 6 rfl rfl)
theorem dX1_lays_7 : decode cX1_lays 7 = .ok (.iconst 1, 1) := dk_4 (dk_at dksX1_lays_0 7 rfl rfl)
theorem dX1_lays_8 : decode cX1_lays 8 = .ok (.ireturn, 1) := dk_172 (dk_at dksX1_lays_0 8 rfl rfl)
theorem dX1_lays_9 : decode cX1_lays 9 = .ok (.astore_n 3, 1) := dk_78 (dk_at dksX1_lays_0 9 rfl rfl)
theorem dX1_lays_10 : decode cX1_lays 10 = .ok (.iconst 0, 1) := dk_3 (dk_at dksX1_lays_0 10 rfl rfl)
theorem dX1_lays_11 : decode cX1_lays 11 = .ok (.ireturn, 1) := dk_172 (dk_at dksX1_lays_0 11 rfl rfl)
abbrev cX1_takeSheet : ByteArray := prog_1_method_60_code
def yX1_takeSheet : MethodName := ⟨RX1, "takeSheet", "(I)I"⟩
def dkwX1_takeSheet_3 : List UInt8 := [44, 45, 182, 1, 26, 182, 0, 234, 42, 25, 5, 44, 180, 1, 6, 182, 0, 168, 182, 0, 187, 172]
abbrev dktX1_takeSheet_3 : List UInt8 := dkwX1_takeSheet_3 ++ []
def dkwX1_takeSheet_2 : List UInt8 := [21, 5, 50, 83, 132, 4, 1, 132, 5, 1, 167, 255, 222, 42, 180, 0, 10, 182, 0, 174, 58, 5, 42, 42]
abbrev dktX1_takeSheet_2 : List UInt8 := dkwX1_takeSheet_2 ++ dktX1_takeSheet_3
def dkwX1_takeSheet_1 : List UInt8 := [21, 5, 16, 6, 162, 0, 33, 42, 180, 0, 34, 21, 5, 50, 198, 0, 17, 45, 21, 4, 42, 180, 0, 34]
abbrev dktX1_takeSheet_1 : List UInt8 := dkwX1_takeSheet_1 ++ dktX1_takeSheet_2
def dkwX1_takeSheet_0 : List UInt8 := [42, 180, 0, 10, 27, 182, 0, 249, 77, 42, 182, 1, 177, 189, 0, 32, 78, 3, 54, 4, 3, 54, 5]
abbrev dktX1_takeSheet_0 : List UInt8 := dkwX1_takeSheet_0 ++ dktX1_takeSheet_1
theorem dksX1_takeSheet_0 : cX1_takeSheet.data.toList.drop 0 = dktX1_takeSheet_0 := by decide +kernel
theorem dksX1_takeSheet_1 : cX1_takeSheet.data.toList.drop 23 = dktX1_takeSheet_1 := dk_seg dksX1_takeSheet_0 23 rfl rfl
theorem dksX1_takeSheet_2 : cX1_takeSheet.data.toList.drop 47 = dktX1_takeSheet_2 := dk_seg dksX1_takeSheet_1 24 rfl rfl
theorem dksX1_takeSheet_3 : cX1_takeSheet.data.toList.drop 71 = dktX1_takeSheet_3 := dk_seg dksX1_takeSheet_2 24 rfl rfl
theorem dX1_takeSheet_0 : decode cX1_takeSheet 0 = .ok (.aload_n 0, 1) := dk_42 (dk_at dksX1_takeSheet_0 0 rfl rfl)
theorem dX1_takeSheet_1 : decode cX1_takeSheet 1 = .ok (.getfield 10, 3) := dk_180 0 10 (dk_at dksX1_takeSheet_0 1 rfl rfl)
theorem dX1_takeSheet_4 : decode cX1_takeSheet 4 = .ok (.iload_n 1, 1) := dk_27 (dk_at dksX1_takeSheet_0 4 rfl rfl)
theorem dX1_takeSheet_5 : decode cX1_takeSheet 5 = .ok (.invokevirtual 249, 3) := dk_182 0 249 (dk_at dksX1_takeSheet_0 5 rfl rfl)
theorem dX1_takeSheet_8 : decode cX1_takeSheet 8 = .ok (.astore_n 2, 1) := dk_77 (dk_at dksX1_takeSheet_0 8 rfl rfl)
theorem dX1_takeSheet_9 : decode cX1_takeSheet 9 = .ok (.aload_n 0, 1) := dk_42 (dk_at dksX1_takeSheet_0 9 rfl rfl)
theorem dX1_takeSheet_10 : decode cX1_takeSheet 10 = .ok (.invokevirtual 433, 3) := dk_182 1 177 (dk_at dksX1_takeSheet_0 10 rfl rfl)
theorem dX1_takeSheet_13 : decode cX1_takeSheet 13 = .ok (.anewarray 32, 3) := dk_189 0 32 (dk_at dksX1_takeSheet_0 13 rfl rfl)
theorem dX1_takeSheet_16 : decode cX1_takeSheet 16 = .ok (.astore_n 3, 1) := dk_78 (dk_at dksX1_takeSheet_0 16 rfl rfl)
theorem dX1_takeSheet_17 : decode cX1_takeSheet 17 = .ok (.iconst 0, 1) := dk_3 (dk_at dksX1_takeSheet_0 17 rfl rfl)
theorem dX1_takeSheet_18 : decode cX1_takeSheet 18 = .ok (.istore 4, 2) := dk_54 4 (dk_at dksX1_takeSheet_0 18 rfl rfl)
theorem dX1_takeSheet_20 : decode cX1_takeSheet 20 = .ok (.iconst 0, 1) := dk_3 (dk_at dksX1_takeSheet_0 20 rfl rfl)
theorem dX1_takeSheet_21 : decode cX1_takeSheet 21 = .ok (.istore 5, 2) := dk_54 5 (dk_at dksX1_takeSheet_0 21 rfl rfl)
theorem dX1_takeSheet_23 : decode cX1_takeSheet 23 = .ok (.iload 5, 2) := dk_21 5 (dk_at dksX1_takeSheet_1 0 rfl rfl)
theorem dX1_takeSheet_25 : decode cX1_takeSheet 25 = .ok (.bipush 6, 2) := dk_16 6 (dk_at dksX1_takeSheet_1 2 rfl rfl)
theorem dX1_takeSheet_27 : decode cX1_takeSheet 27 = .ok (.if_icmp .ge 33, 3) := dk_162 0 33 (dk_at dksX1_takeSheet_1 4 rfl rfl)
theorem dX1_takeSheet_30 : decode cX1_takeSheet 30 = .ok (.aload_n 0, 1) := dk_42 (dk_at dksX1_takeSheet_1 7 rfl rfl)
theorem dX1_takeSheet_31 : decode cX1_takeSheet 31 = .ok (.getfield 34, 3) := dk_180 0 34 (dk_at dksX1_takeSheet_1 8 rfl rfl)
theorem dX1_takeSheet_34 : decode cX1_takeSheet 34 = .ok (.iload 5, 2) := dk_21 5 (dk_at dksX1_takeSheet_1 11 rfl rfl)
theorem dX1_takeSheet_36 : decode cX1_takeSheet 36 = .ok (.aaload, 1) := dk_50 (dk_at dksX1_takeSheet_1 13 rfl rfl)
theorem dX1_takeSheet_37 : decode cX1_takeSheet 37 = .ok (.ifnull 17, 3) := dk_198 0 17 (dk_at dksX1_takeSheet_1 14 rfl rfl)
theorem dX1_takeSheet_40 : decode cX1_takeSheet 40 = .ok (.aload_n 3, 1) := dk_45 (dk_at dksX1_takeSheet_1 17 rfl rfl)
theorem dX1_takeSheet_41 : decode cX1_takeSheet 41 = .ok (.iload 4, 2) := dk_21 4 (dk_at dksX1_takeSheet_1 18 rfl rfl)
theorem dX1_takeSheet_43 : decode cX1_takeSheet 43 = .ok (.aload_n 0, 1) := dk_42 (dk_at dksX1_takeSheet_1 20 rfl rfl)
theorem dX1_takeSheet_44 : decode cX1_takeSheet 44 = .ok (.getfield 34, 3) := dk_180 0 34 (dk_at dksX1_takeSheet_1 21 rfl rfl)
theorem dX1_takeSheet_47 : decode cX1_takeSheet 47 = .ok (.iload 5, 2) := dk_21 5 (dk_at dksX1_takeSheet_2 0 rfl rfl)
theorem dX1_takeSheet_49 : decode cX1_takeSheet 49 = .ok (.aaload, 1) := dk_50 (dk_at dksX1_takeSheet_2 2 rfl rfl)
theorem dX1_takeSheet_50 : decode cX1_takeSheet 50 = .ok (.aastore, 1) := dk_83 (dk_at dksX1_takeSheet_2 3 rfl rfl)
theorem dX1_takeSheet_51 : decode cX1_takeSheet 51 = .ok (.iinc 4 1, 3) := dk_132 4 1 (dk_at dksX1_takeSheet_2 4 rfl rfl)
theorem dX1_takeSheet_54 : decode cX1_takeSheet 54 = .ok (.iinc 5 1, 3) := dk_132 5 1 (dk_at dksX1_takeSheet_2 7 rfl rfl)
theorem dX1_takeSheet_57 : decode cX1_takeSheet 57 = .ok (.goto (-34), 3) := dk_167 255 222 (dk_at dksX1_takeSheet_2 10 rfl rfl)
theorem dX1_takeSheet_60 : decode cX1_takeSheet 60 = .ok (.aload_n 0, 1) := dk_42 (dk_at dksX1_takeSheet_2 13 rfl rfl)
theorem dX1_takeSheet_61 : decode cX1_takeSheet 61 = .ok (.getfield 10, 3) := dk_180 0 10 (dk_at dksX1_takeSheet_2 14 rfl rfl)
theorem dX1_takeSheet_64 : decode cX1_takeSheet 64 = .ok (.invokevirtual 174, 3) := dk_182 0 174 (dk_at dksX1_takeSheet_2 17 rfl rfl)
theorem dX1_takeSheet_67 : decode cX1_takeSheet 67 = .ok (.astore 5, 2) := dk_58 5 (dk_at dksX1_takeSheet_2 20 rfl rfl)
theorem dX1_takeSheet_69 : decode cX1_takeSheet 69 = .ok (.aload_n 0, 1) := dk_42 (dk_at dksX1_takeSheet_2 22 rfl rfl)
theorem dX1_takeSheet_70 : decode cX1_takeSheet 70 = .ok (.aload_n 0, 1) := dk_42 (dk_at dksX1_takeSheet_2 23 rfl rfl)
theorem dX1_takeSheet_71 : decode cX1_takeSheet 71 = .ok (.aload_n 2, 1) := dk_44 (dk_at dksX1_takeSheet_3 0 rfl rfl)
theorem dX1_takeSheet_72 : decode cX1_takeSheet 72 = .ok (.aload_n 3, 1) := dk_45 (dk_at dksX1_takeSheet_3 1 rfl rfl)
theorem dX1_takeSheet_73 : decode cX1_takeSheet 73 = .ok (.invokevirtual 282, 3) := dk_182 1 26 (dk_at dksX1_takeSheet_3 2 rfl rfl)
theorem dX1_takeSheet_76 : decode cX1_takeSheet 76 = .ok (.invokevirtual 234, 3) := dk_182 0 234 (dk_at dksX1_takeSheet_3 5 rfl rfl)
theorem dX1_takeSheet_79 : decode cX1_takeSheet 79 = .ok (.aload_n 0, 1) := dk_42 (dk_at dksX1_takeSheet_3 8 rfl rfl)
theorem dX1_takeSheet_80 : decode cX1_takeSheet 80 = .ok (.aload 5, 2) := dk_25 5 (dk_at dksX1_takeSheet_3 9 rfl rfl)
theorem dX1_takeSheet_82 : decode cX1_takeSheet 82 = .ok (.aload_n 2, 1) := dk_44 (dk_at dksX1_takeSheet_3 11 rfl rfl)
theorem dX1_takeSheet_83 : decode cX1_takeSheet 83 = .ok (.getfield 262, 3) := dk_180 1 6 (dk_at dksX1_takeSheet_3 12 rfl rfl)
theorem dX1_takeSheet_86 : decode cX1_takeSheet 86 = .ok (.invokevirtual 168, 3) := dk_182 0 168 (dk_at dksX1_takeSheet_3 15 rfl rfl)
theorem dX1_takeSheet_89 : decode cX1_takeSheet 89 = .ok (.invokevirtual 187, 3) := dk_182 0 187 (dk_at dksX1_takeSheet_3 18 rfl rfl)
theorem dX1_takeSheet_92 : decode cX1_takeSheet 92 = .ok (.ireturn, 1) := dk_172 (dk_at dksX1_takeSheet_3 21 rfl rfl)
abbrev cX1_keepRow : ByteArray := prog_1_method_63_code
def yX1_keepRow : MethodName := ⟨RX1, "keepRow", "(I)I"⟩
def dkwX1_keepRow_2 : List UInt8 := [2, 182, 1, 126, 182, 1, 113, 81, 132, 3, 1, 167, 255, 219, 42, 180, 0, 40, 27, 44, 83, 44, 190, 172]
abbrev dktX1_keepRow_2 : List UInt8 := dkwX1_keepRow_2 ++ []
def dkwX1_keepRow_1 : List UInt8 := [190, 162, 0, 37, 44, 29, 42, 180, 0, 28, 42, 180, 0, 10, 180, 1, 118, 29, 182, 1, 54, 192, 1, 121]
abbrev dktX1_keepRow_1 : List UInt8 := dkwX1_keepRow_1 ++ dktX1_keepRow_2
def dkwX1_keepRow_0 : List UInt8 := [27, 184, 1, 190, 184, 0, 143, 42, 180, 0, 10, 180, 1, 118, 182, 0, 168, 188, 6, 77, 3, 62, 29, 44]
abbrev dktX1_keepRow_0 : List UInt8 := dkwX1_keepRow_0 ++ dktX1_keepRow_1
theorem dksX1_keepRow_0 : cX1_keepRow.data.toList.drop 0 = dktX1_keepRow_0 := by decide +kernel
theorem dksX1_keepRow_1 : cX1_keepRow.data.toList.drop 24 = dktX1_keepRow_1 := dk_seg dksX1_keepRow_0 24 rfl rfl
theorem dksX1_keepRow_2 : cX1_keepRow.data.toList.drop 48 = dktX1_keepRow_2 := dk_seg dksX1_keepRow_1 24 rfl rfl
theorem dX1_keepRow_0 : decode cX1_keepRow 0 = .ok (.iload_n 1, 1) := dk_27 (dk_at dksX1_keepRow_0 0 rfl rfl)
theorem dX1_keepRow_1 : decode cX1_keepRow 1 = .ok (.invokestatic 446, 3) := dk_184 1 190 (dk_at dksX1_keepRow_0 1 rfl rfl)
theorem dX1_keepRow_4 : decode cX1_keepRow 4 = .ok (.invokestatic 143, 3) := dk_184 0 143 (dk_at dksX1_keepRow_0 4 rfl rfl)
theorem dX1_keepRow_7 : decode cX1_keepRow 7 = .ok (.aload_n 0, 1) := dk_42 (dk_at dksX1_keepRow_0 7 rfl rfl)
theorem dX1_keepRow_8 : decode cX1_keepRow 8 = .ok (.getfield 10, 3) := dk_180 0 10 (dk_at dksX1_keepRow_0 8 rfl rfl)
theorem dX1_keepRow_11 : decode cX1_keepRow 11 = .ok (.getfield 374, 3) := dk_180 1 118 (dk_at dksX1_keepRow_0 11 rfl rfl)
theorem dX1_keepRow_14 : decode cX1_keepRow 14 = .ok (.invokevirtual 168, 3) := dk_182 0 168 (dk_at dksX1_keepRow_0 14 rfl rfl)
theorem dX1_keepRow_17 : decode cX1_keepRow 17 = .ok (.newarray .float, 2) := dk_188_6 (dk_at dksX1_keepRow_0 17 rfl rfl)
theorem dX1_keepRow_19 : decode cX1_keepRow 19 = .ok (.astore_n 2, 1) := dk_77 (dk_at dksX1_keepRow_0 19 rfl rfl)
theorem dX1_keepRow_20 : decode cX1_keepRow 20 = .ok (.iconst 0, 1) := dk_3 (dk_at dksX1_keepRow_0 20 rfl rfl)
theorem dX1_keepRow_21 : decode cX1_keepRow 21 = .ok (.istore_n 3, 1) := dk_62 (dk_at dksX1_keepRow_0 21 rfl rfl)
theorem dX1_keepRow_22 : decode cX1_keepRow 22 = .ok (.iload_n 3, 1) := dk_29 (dk_at dksX1_keepRow_0 22 rfl rfl)
theorem dX1_keepRow_23 : decode cX1_keepRow 23 = .ok (.aload_n 2, 1) := dk_44 (dk_at dksX1_keepRow_0 23 rfl rfl)
theorem dX1_keepRow_24 : decode cX1_keepRow 24 = .ok (.arraylength, 1) := dk_190 (dk_at dksX1_keepRow_1 0 rfl rfl)
theorem dX1_keepRow_25 : decode cX1_keepRow 25 = .ok (.if_icmp .ge 37, 3) := dk_162 0 37 (dk_at dksX1_keepRow_1 1 rfl rfl)
theorem dX1_keepRow_28 : decode cX1_keepRow 28 = .ok (.aload_n 2, 1) := dk_44 (dk_at dksX1_keepRow_1 4 rfl rfl)
theorem dX1_keepRow_29 : decode cX1_keepRow 29 = .ok (.iload_n 3, 1) := dk_29 (dk_at dksX1_keepRow_1 5 rfl rfl)
theorem dX1_keepRow_30 : decode cX1_keepRow 30 = .ok (.aload_n 0, 1) := dk_42 (dk_at dksX1_keepRow_1 6 rfl rfl)
theorem dX1_keepRow_31 : decode cX1_keepRow 31 = .ok (.getfield 28, 3) := dk_180 0 28 (dk_at dksX1_keepRow_1 7 rfl rfl)
theorem dX1_keepRow_34 : decode cX1_keepRow 34 = .ok (.aload_n 0, 1) := dk_42 (dk_at dksX1_keepRow_1 10 rfl rfl)
theorem dX1_keepRow_35 : decode cX1_keepRow 35 = .ok (.getfield 10, 3) := dk_180 0 10 (dk_at dksX1_keepRow_1 11 rfl rfl)
theorem dX1_keepRow_38 : decode cX1_keepRow 38 = .ok (.getfield 374, 3) := dk_180 1 118 (dk_at dksX1_keepRow_1 14 rfl rfl)
theorem dX1_keepRow_41 : decode cX1_keepRow 41 = .ok (.iload_n 3, 1) := dk_29 (dk_at dksX1_keepRow_1 17 rfl rfl)
theorem dX1_keepRow_42 : decode cX1_keepRow 42 = .ok (.invokevirtual 310, 3) := dk_182 1 54 (dk_at dksX1_keepRow_1 18 rfl rfl)
theorem dX1_keepRow_45 : decode cX1_keepRow 45 = .ok (.checkcast 377, 3) := dk_192 1 121 (dk_at dksX1_keepRow_1 21 rfl rfl)
theorem dX1_keepRow_48 : decode cX1_keepRow 48 = .ok (.iconst (-1), 1) := dk_2 (dk_at dksX1_keepRow_2 0 rfl rfl)
theorem dX1_keepRow_49 : decode cX1_keepRow 49 = .ok (.invokevirtual 382, 3) := dk_182 1 126 (dk_at dksX1_keepRow_2 1 rfl rfl)
theorem dX1_keepRow_52 : decode cX1_keepRow 52 = .ok (.invokevirtual 369, 3) := dk_182 1 113 (dk_at dksX1_keepRow_2 4 rfl rfl)
theorem dX1_keepRow_55 : decode cX1_keepRow 55 = .ok (.fastore, 1) := dk_81 (dk_at dksX1_keepRow_2 7 rfl rfl)
theorem dX1_keepRow_56 : decode cX1_keepRow 56 = .ok (.iinc 3 1, 3) := dk_132 3 1 (dk_at dksX1_keepRow_2 8 rfl rfl)
theorem dX1_keepRow_59 : decode cX1_keepRow 59 = .ok (.goto (-37), 3) := dk_167 255 219 (dk_at dksX1_keepRow_2 11 rfl rfl)
theorem dX1_keepRow_62 : decode cX1_keepRow 62 = .ok (.aload_n 0, 1) := dk_42 (dk_at dksX1_keepRow_2 14 rfl rfl)
theorem dX1_keepRow_63 : decode cX1_keepRow 63 = .ok (.getfield 40, 3) := dk_180 0 40 (dk_at dksX1_keepRow_2 15 rfl rfl)
theorem dX1_keepRow_66 : decode cX1_keepRow 66 = .ok (.iload_n 1, 1) := dk_27 (dk_at dksX1_keepRow_2 18 rfl rfl)
theorem dX1_keepRow_67 : decode cX1_keepRow 67 = .ok (.aload_n 2, 1) := dk_44 (dk_at dksX1_keepRow_2 19 rfl rfl)
theorem dX1_keepRow_68 : decode cX1_keepRow 68 = .ok (.aastore, 1) := dk_83 (dk_at dksX1_keepRow_2 20 rfl rfl)
theorem dX1_keepRow_69 : decode cX1_keepRow 69 = .ok (.aload_n 2, 1) := dk_44 (dk_at dksX1_keepRow_2 21 rfl rfl)
theorem dX1_keepRow_70 : decode cX1_keepRow 70 = .ok (.arraylength, 1) := dk_190 (dk_at dksX1_keepRow_2 22 rfl rfl)
theorem dX1_keepRow_71 : decode cX1_keepRow 71 = .ok (.ireturn, 1) := dk_172 (dk_at dksX1_keepRow_2 23 rfl rfl)
abbrev cX1_isRow : ByteArray := prog_1_method_61_code
def yX1_isRow : MethodName := ⟨RX1, "isRow", "(I)Z"⟩
def dkwX1_isRow_0 : List UInt8 := [26, 3, 5, 184, 0, 134, 172]
abbrev dktX1_isRow_0 : List UInt8 := dkwX1_isRow_0 ++ []
theorem dksX1_isRow_0 : cX1_isRow.data.toList.drop 0 = dktX1_isRow_0 := by decide +kernel
theorem dX1_isRow_0 : decode cX1_isRow 0 = .ok (.iload_n 0, 1) := dk_26 (dk_at dksX1_isRow_0 0 rfl rfl)
theorem dX1_isRow_1 : decode cX1_isRow 1 = .ok (.iconst 0, 1) := dk_3 (dk_at dksX1_isRow_0 1 rfl rfl)
theorem dX1_isRow_2 : decode cX1_isRow 2 = .ok (.iconst 2, 1) := dk_5 (dk_at dksX1_isRow_0 2 rfl rfl)
theorem dX1_isRow_3 : decode cX1_isRow 3 = .ok (.invokestatic 134, 3) := dk_184 0 134 (dk_at dksX1_isRow_0 3 rfl rfl)
theorem dX1_isRow_6 : decode cX1_isRow 6 = .ok (.ireturn, 1) := dk_172 (dk_at dksX1_isRow_0 6 rfl rfl)
abbrev cX1_copyRow : ByteArray := prog_1_method_64_code
def yX1_copyRow : MethodName := ⟨RX1, "copyRow", "(III)I"⟩
def dkwX1_copyRow_4 : List UInt8 := [132, 6, 1, 167, 255, 211, 42, 180, 0, 40, 28, 25, 4, 83, 21, 5, 172]
abbrev dktX1_copyRow_4 : List UInt8 := dkwX1_copyRow_4 ++ []
def dkwX1_copyRow_3 : List UInt8 := [184, 1, 200, 81, 21, 5, 25, 4, 21, 6, 48, 12, 149, 158, 0, 7, 4, 167, 0, 4, 3, 96, 54, 5]
abbrev dktX1_copyRow_3 : List UInt8 := dkwX1_copyRow_3 ++ dktX1_copyRow_4
def dkwX1_copyRow_2 : List UInt8 := [54, 5, 3, 54, 6, 21, 6, 25, 4, 190, 162, 0, 43, 25, 4, 21, 6, 25, 4, 21, 6, 48, 29]
abbrev dktX1_copyRow_2 : List UInt8 := dkwX1_copyRow_2 ++ dktX1_copyRow_3
def dkwX1_copyRow_1 : List UInt8 := [17, 3, 232, 184, 0, 134, 184, 0, 153, 42, 27, 182, 1, 193, 182, 1, 197, 192, 0, 38, 58, 4, 3]
abbrev dktX1_copyRow_1 : List UInt8 := dkwX1_copyRow_1 ++ dktX1_copyRow_2
def dkwX1_copyRow_0 : List UInt8 := [27, 184, 1, 190, 153, 0, 14, 28, 184, 1, 190, 153, 0, 7, 4, 167, 0, 4, 3, 184, 0, 143, 29, 3]
abbrev dktX1_copyRow_0 : List UInt8 := dkwX1_copyRow_0 ++ dktX1_copyRow_1
theorem dksX1_copyRow_0 : cX1_copyRow.data.toList.drop 0 = dktX1_copyRow_0 := by decide +kernel
theorem dksX1_copyRow_1 : cX1_copyRow.data.toList.drop 24 = dktX1_copyRow_1 := dk_seg dksX1_copyRow_0 24 rfl rfl
theorem dksX1_copyRow_2 : cX1_copyRow.data.toList.drop 47 = dktX1_copyRow_2 := dk_seg dksX1_copyRow_1 23 rfl rfl
theorem dksX1_copyRow_3 : cX1_copyRow.data.toList.drop 70 = dktX1_copyRow_3 := dk_seg dksX1_copyRow_2 23 rfl rfl
theorem dksX1_copyRow_4 : cX1_copyRow.data.toList.drop 94 = dktX1_copyRow_4 := dk_seg dksX1_copyRow_3 24 rfl rfl
theorem dX1_copyRow_0 : decode cX1_copyRow 0 = .ok (.iload_n 1, 1) := dk_27 (dk_at dksX1_copyRow_0 0 rfl rfl)
theorem dX1_copyRow_1 : decode cX1_copyRow 1 = .ok (.invokestatic 446, 3) := dk_184 1 190 (dk_at dksX1_copyRow_0 1 rfl rfl)
theorem dX1_copyRow_4 : decode cX1_copyRow 4 = .ok (.ifCond .eq 14, 3) := dk_153 0 14 (dk_at dksX1_copyRow_0 4 rfl rfl)
theorem dX1_copyRow_7 : decode cX1_copyRow 7 = .ok (.iload_n 2, 1) := dk_28 (dk_at dksX1_copyRow_0 7 rfl rfl)
theorem dX1_copyRow_8 : decode cX1_copyRow 8 = .ok (.invokestatic 446, 3) := dk_184 1 190 (dk_at dksX1_copyRow_0 8 rfl rfl)
theorem dX1_copyRow_11 : decode cX1_copyRow 11 = .ok (.ifCond .eq 7, 3) := dk_153 0 7 (dk_at dksX1_copyRow_0 11 rfl rfl)
theorem dX1_copyRow_14 : decode cX1_copyRow 14 = .ok (.iconst 1, 1) := dk_4 (dk_at dksX1_copyRow_0 14 rfl rfl)
theorem dX1_copyRow_15 : decode cX1_copyRow 15 = .ok (.goto 4, 3) := dk_167 0 4 (dk_at dksX1_copyRow_0 15 rfl rfl)
theorem dX1_copyRow_18 : decode cX1_copyRow 18 = .ok (.iconst 0, 1) := dk_3 (dk_at dksX1_copyRow_0 18 rfl rfl)
theorem dX1_copyRow_19 : decode cX1_copyRow 19 = .ok (.invokestatic 143, 3) := dk_184 0 143 (dk_at dksX1_copyRow_0 19 rfl rfl)
theorem dX1_copyRow_22 : decode cX1_copyRow 22 = .ok (.iload_n 3, 1) := dk_29 (dk_at dksX1_copyRow_0 22 rfl rfl)
theorem dX1_copyRow_23 : decode cX1_copyRow 23 = .ok (.iconst 0, 1) := dk_3 (dk_at dksX1_copyRow_0 23 rfl rfl)
theorem dX1_copyRow_24 : decode cX1_copyRow 24 = .ok (.sipush 1000, 3) := dk_17 3 232 (dk_at dksX1_copyRow_1 0 rfl rfl)
theorem dX1_copyRow_27 : decode cX1_copyRow 27 = .ok (.invokestatic 134, 3) := dk_184 0 134 (dk_at dksX1_copyRow_1 3 rfl rfl)
theorem dX1_copyRow_30 : decode cX1_copyRow 30 = .ok (.invokestatic 153, 3) := dk_184 0 153 (dk_at dksX1_copyRow_1 6 rfl rfl)
theorem dX1_copyRow_33 : decode cX1_copyRow 33 = .ok (.aload_n 0, 1) := dk_42 (dk_at dksX1_copyRow_1 9 rfl rfl)
theorem dX1_copyRow_34 : decode cX1_copyRow 34 = .ok (.iload_n 1, 1) := dk_27 (dk_at dksX1_copyRow_1 10 rfl rfl)
theorem dX1_copyRow_35 : decode cX1_copyRow 35 = .ok (.invokevirtual 449, 3) := dk_182 1 193 (dk_at dksX1_copyRow_1 11 rfl rfl)
theorem dX1_copyRow_38 : decode cX1_copyRow 38 = .ok (.invokevirtual 453, 3) := dk_182 1 197 (dk_at dksX1_copyRow_1 14 rfl rfl)
theorem dX1_copyRow_41 : decode cX1_copyRow 41 = .ok (.checkcast 38, 3) := dk_192 0 38 (dk_at dksX1_copyRow_1 17 rfl rfl)
theorem dX1_copyRow_44 : decode cX1_copyRow 44 = .ok (.astore 4, 2) := dk_58 4 (dk_at dksX1_copyRow_1 20 rfl rfl)
theorem dX1_copyRow_46 : decode cX1_copyRow 46 = .ok (.iconst 0, 1) := dk_3 (dk_at dksX1_copyRow_1 22 rfl rfl)
theorem dX1_copyRow_47 : decode cX1_copyRow 47 = .ok (.istore 5, 2) := dk_54 5 (dk_at dksX1_copyRow_2 0 rfl rfl)
theorem dX1_copyRow_49 : decode cX1_copyRow 49 = .ok (.iconst 0, 1) := dk_3 (dk_at dksX1_copyRow_2 2 rfl rfl)
theorem dX1_copyRow_50 : decode cX1_copyRow 50 = .ok (.istore 6, 2) := dk_54 6 (dk_at dksX1_copyRow_2 3 rfl rfl)
theorem dX1_copyRow_52 : decode cX1_copyRow 52 = .ok (.iload 6, 2) := dk_21 6 (dk_at dksX1_copyRow_2 5 rfl rfl)
theorem dX1_copyRow_54 : decode cX1_copyRow 54 = .ok (.aload 4, 2) := dk_25 4 (dk_at dksX1_copyRow_2 7 rfl rfl)
theorem dX1_copyRow_56 : decode cX1_copyRow 56 = .ok (.arraylength, 1) := dk_190 (dk_at dksX1_copyRow_2 9 rfl rfl)
theorem dX1_copyRow_57 : decode cX1_copyRow 57 = .ok (.if_icmp .ge 43, 3) := dk_162 0 43 (dk_at dksX1_copyRow_2 10 rfl rfl)
theorem dX1_copyRow_60 : decode cX1_copyRow 60 = .ok (.aload 4, 2) := dk_25 4 (dk_at dksX1_copyRow_2 13 rfl rfl)
theorem dX1_copyRow_62 : decode cX1_copyRow 62 = .ok (.iload 6, 2) := dk_21 6 (dk_at dksX1_copyRow_2 15 rfl rfl)
theorem dX1_copyRow_64 : decode cX1_copyRow 64 = .ok (.aload 4, 2) := dk_25 4 (dk_at dksX1_copyRow_2 17 rfl rfl)
theorem dX1_copyRow_66 : decode cX1_copyRow 66 = .ok (.iload 6, 2) := dk_21 6 (dk_at dksX1_copyRow_2 19 rfl rfl)
theorem dX1_copyRow_68 : decode cX1_copyRow 68 = .ok (.faload, 1) := dk_48 (dk_at dksX1_copyRow_2 21 rfl rfl)
theorem dX1_copyRow_69 : decode cX1_copyRow 69 = .ok (.iload_n 3, 1) := dk_29 (dk_at dksX1_copyRow_2 22 rfl rfl)
theorem dX1_copyRow_70 : decode cX1_copyRow 70 = .ok (.invokestatic 456, 3) := dk_184 1 200 (dk_at dksX1_copyRow_3 0 rfl rfl)
theorem dX1_copyRow_73 : decode cX1_copyRow 73 = .ok (.fastore, 1) := dk_81 (dk_at dksX1_copyRow_3 3 rfl rfl)
theorem dX1_copyRow_74 : decode cX1_copyRow 74 = .ok (.iload 5, 2) := dk_21 5 (dk_at dksX1_copyRow_3 4 rfl rfl)
theorem dX1_copyRow_76 : decode cX1_copyRow 76 = .ok (.aload 4, 2) := dk_25 4 (dk_at dksX1_copyRow_3 6 rfl rfl)
theorem dX1_copyRow_78 : decode cX1_copyRow 78 = .ok (.iload 6, 2) := dk_21 6 (dk_at dksX1_copyRow_3 8 rfl rfl)
theorem dX1_copyRow_80 : decode cX1_copyRow 80 = .ok (.faload, 1) := dk_48 (dk_at dksX1_copyRow_3 10 rfl rfl)
theorem dX1_copyRow_81 : decode cX1_copyRow 81 = .ok (.fconst 1, 1) := dk_12 (dk_at dksX1_copyRow_3 11 rfl rfl)
theorem dX1_copyRow_82 : decode cX1_copyRow 82 = .ok (.fcmp .l, 1) := dk_149 (dk_at dksX1_copyRow_3 12 rfl rfl)
theorem dX1_copyRow_83 : decode cX1_copyRow 83 = .ok (.ifCond .le 7, 3) := dk_158 0 7 (dk_at dksX1_copyRow_3 13 rfl rfl)
theorem dX1_copyRow_86 : decode cX1_copyRow 86 = .ok (.iconst 1, 1) := dk_4 (dk_at dksX1_copyRow_3 16 rfl rfl)
theorem dX1_copyRow_87 : decode cX1_copyRow 87 = .ok (.goto 4, 3) := dk_167 0 4 (dk_at dksX1_copyRow_3 17 rfl rfl)
theorem dX1_copyRow_90 : decode cX1_copyRow 90 = .ok (.iconst 0, 1) := dk_3 (dk_at dksX1_copyRow_3 20 rfl rfl)
theorem dX1_copyRow_91 : decode cX1_copyRow 91 = .ok (.iadd, 1) := dk_96 (dk_at dksX1_copyRow_3 21 rfl rfl)
theorem dX1_copyRow_92 : decode cX1_copyRow 92 = .ok (.istore 5, 2) := dk_54 5 (dk_at dksX1_copyRow_3 22 rfl rfl)
theorem dX1_copyRow_94 : decode cX1_copyRow 94 = .ok (.iinc 6 1, 3) := dk_132 6 1 (dk_at dksX1_copyRow_4 0 rfl rfl)
theorem dX1_copyRow_97 : decode cX1_copyRow 97 = .ok (.goto (-45), 3) := dk_167 255 211 (dk_at dksX1_copyRow_4 3 rfl rfl)
theorem dX1_copyRow_100 : decode cX1_copyRow 100 = .ok (.aload_n 0, 1) := dk_42 (dk_at dksX1_copyRow_4 6 rfl rfl)
theorem dX1_copyRow_101 : decode cX1_copyRow 101 = .ok (.getfield 40, 3) := dk_180 0 40 (dk_at dksX1_copyRow_4 7 rfl rfl)
theorem dX1_copyRow_104 : decode cX1_copyRow 104 = .ok (.iload_n 2, 1) := dk_28 (dk_at dksX1_copyRow_4 10 rfl rfl)
theorem dX1_copyRow_105 : decode cX1_copyRow 105 = .ok (.aload 4, 2) := dk_25 4 (dk_at dksX1_copyRow_4 11 rfl rfl)
theorem dX1_copyRow_107 : decode cX1_copyRow 107 = .ok (.aastore, 1) := dk_83 (dk_at dksX1_copyRow_4 13 rfl rfl)
theorem dX1_copyRow_108 : decode cX1_copyRow 108 = .ok (.iload 5, 2) := dk_21 5 (dk_at dksX1_copyRow_4 14 rfl rfl)
theorem dX1_copyRow_110 : decode cX1_copyRow 110 = .ok (.ireturn, 1) := dk_172 (dk_at dksX1_copyRow_4 16 rfl rfl)
abbrev cX1_rowAt : ByteArray := prog_1_method_62_code
def yX1_rowAt : MethodName := ⟨RX1, "rowAt", "(I)[F"⟩
def dkwX1_rowAt_1 : List UInt8 := [42, 180, 0, 40, 27, 50, 176]
abbrev dktX1_rowAt_1 : List UInt8 := dkwX1_rowAt_1 ++ []
def dkwX1_rowAt_0 : List UInt8 := [27, 184, 1, 190, 184, 0, 143, 42, 180, 0, 40, 27, 50, 198, 0, 7, 4, 167, 0, 4, 3, 184, 0, 171]
abbrev dktX1_rowAt_0 : List UInt8 := dkwX1_rowAt_0 ++ dktX1_rowAt_1
theorem dksX1_rowAt_0 : cX1_rowAt.data.toList.drop 0 = dktX1_rowAt_0 := by decide +kernel
theorem dksX1_rowAt_1 : cX1_rowAt.data.toList.drop 24 = dktX1_rowAt_1 := dk_seg dksX1_rowAt_0 24 rfl rfl
theorem dX1_rowAt_0 : decode cX1_rowAt 0 = .ok (.iload_n 1, 1) := dk_27 (dk_at dksX1_rowAt_0 0 rfl rfl)
theorem dX1_rowAt_1 : decode cX1_rowAt 1 = .ok (.invokestatic 446, 3) := dk_184 1 190 (dk_at dksX1_rowAt_0 1 rfl rfl)
theorem dX1_rowAt_4 : decode cX1_rowAt 4 = .ok (.invokestatic 143, 3) := dk_184 0 143 (dk_at dksX1_rowAt_0 4 rfl rfl)
theorem dX1_rowAt_7 : decode cX1_rowAt 7 = .ok (.aload_n 0, 1) := dk_42 (dk_at dksX1_rowAt_0 7 rfl rfl)
theorem dX1_rowAt_8 : decode cX1_rowAt 8 = .ok (.getfield 40, 3) := dk_180 0 40 (dk_at dksX1_rowAt_0 8 rfl rfl)
theorem dX1_rowAt_11 : decode cX1_rowAt 11 = .ok (.iload_n 1, 1) := dk_27 (dk_at dksX1_rowAt_0 11 rfl rfl)
theorem dX1_rowAt_12 : decode cX1_rowAt 12 = .ok (.aaload, 1) := dk_50 (dk_at dksX1_rowAt_0 12 rfl rfl)
theorem dX1_rowAt_13 : decode cX1_rowAt 13 = .ok (.ifnull 7, 3) := dk_198 0 7 (dk_at dksX1_rowAt_0 13 rfl rfl)
theorem dX1_rowAt_16 : decode cX1_rowAt 16 = .ok (.iconst 1, 1) := dk_4 (dk_at dksX1_rowAt_0 16 rfl rfl)
theorem dX1_rowAt_17 : decode cX1_rowAt 17 = .ok (.goto 4, 3) := dk_167 0 4 (dk_at dksX1_rowAt_0 17 rfl rfl)
theorem dX1_rowAt_20 : decode cX1_rowAt 20 = .ok (.iconst 0, 1) := dk_3 (dk_at dksX1_rowAt_0 20 rfl rfl)
theorem dX1_rowAt_21 : decode cX1_rowAt 21 = .ok (.invokestatic 171, 3) := dk_184 0 171 (dk_at dksX1_rowAt_0 21 rfl rfl)
theorem dX1_rowAt_24 : decode cX1_rowAt 24 = .ok (.aload_n 0, 1) := dk_42 (dk_at dksX1_rowAt_1 0 rfl rfl)
theorem dX1_rowAt_25 : decode cX1_rowAt 25 = .ok (.getfield 40, 3) := dk_180 0 40 (dk_at dksX1_rowAt_1 1 rfl rfl)
theorem dX1_rowAt_28 : decode cX1_rowAt 28 = .ok (.iload_n 1, 1) := dk_27 (dk_at dksX1_rowAt_1 4 rfl rfl)
theorem dX1_rowAt_29 : decode cX1_rowAt 29 = .ok (.aaload, 1) := dk_50 (dk_at dksX1_rowAt_1 5 rfl rfl)
theorem dX1_rowAt_30 : decode cX1_rowAt 30 = .ok (.areturn, 1) := dk_176 (dk_at dksX1_rowAt_1 6 rfl rfl)
abbrev cX1_scaled : ByteArray := prog_1_method_65_code
def yX1_scaled : MethodName := ⟨RX1, "scaled", "(FI)F"⟩
def dkwX1_scaled_1 : List UInt8 := [28, 153, 0, 9, 19, 1, 207, 167, 0, 11, 34, 27, 134, 106, 19, 1, 117, 110, 174]
abbrev dktX1_scaled_1 : List UInt8 := dkwX1_scaled_1 ++ []
def dkwX1_scaled_0 : List UInt8 := [34, 34, 149, 154, 0, 15, 34, 19, 1, 206, 149, 158, 0, 11, 27, 154, 0, 7, 4, 167, 0, 4, 3, 61]
abbrev dktX1_scaled_0 : List UInt8 := dkwX1_scaled_0 ++ dktX1_scaled_1
theorem dksX1_scaled_0 : cX1_scaled.data.toList.drop 0 = dktX1_scaled_0 := by decide +kernel
theorem dksX1_scaled_1 : cX1_scaled.data.toList.drop 24 = dktX1_scaled_1 := dk_seg dksX1_scaled_0 24 rfl rfl
theorem dX1_scaled_0 : decode cX1_scaled 0 = .ok (.fload_n 0, 1) := dk_34 (dk_at dksX1_scaled_0 0 rfl rfl)
theorem dX1_scaled_1 : decode cX1_scaled 1 = .ok (.fload_n 0, 1) := dk_34 (dk_at dksX1_scaled_0 1 rfl rfl)
theorem dX1_scaled_2 : decode cX1_scaled 2 = .ok (.fcmp .l, 1) := dk_149 (dk_at dksX1_scaled_0 2 rfl rfl)
theorem dX1_scaled_3 : decode cX1_scaled 3 = .ok (.ifCond .ne 15, 3) := dk_154 0 15 (dk_at dksX1_scaled_0 3 rfl rfl)
theorem dX1_scaled_6 : decode cX1_scaled 6 = .ok (.fload_n 0, 1) := dk_34 (dk_at dksX1_scaled_0 6 rfl rfl)
theorem dX1_scaled_7 : decode cX1_scaled 7 = .ok (.ldc_w 462, 3) := dk_19 1 206 (dk_at dksX1_scaled_0 7 rfl rfl)
theorem dX1_scaled_10 : decode cX1_scaled 10 = .ok (.fcmp .l, 1) := dk_149 (dk_at dksX1_scaled_0 10 rfl rfl)
theorem dX1_scaled_11 : decode cX1_scaled 11 = .ok (.ifCond .le 11, 3) := dk_158 0 11 (dk_at dksX1_scaled_0 11 rfl rfl)
theorem dX1_scaled_14 : decode cX1_scaled 14 = .ok (.iload_n 1, 1) := dk_27 (dk_at dksX1_scaled_0 14 rfl rfl)
theorem dX1_scaled_15 : decode cX1_scaled 15 = .ok (.ifCond .ne 7, 3) := dk_154 0 7 (dk_at dksX1_scaled_0 15 rfl rfl)
theorem dX1_scaled_18 : decode cX1_scaled 18 = .ok (.iconst 1, 1) := dk_4 (dk_at dksX1_scaled_0 18 rfl rfl)
theorem dX1_scaled_19 : decode cX1_scaled 19 = .ok (.goto 4, 3) := dk_167 0 4 (dk_at dksX1_scaled_0 19 rfl rfl)
theorem dX1_scaled_22 : decode cX1_scaled 22 = .ok (.iconst 0, 1) := dk_3 (dk_at dksX1_scaled_0 22 rfl rfl)
theorem dX1_scaled_23 : decode cX1_scaled 23 = .ok (.istore_n 2, 1) := dk_61 (dk_at dksX1_scaled_0 23 rfl rfl)
theorem dX1_scaled_24 : decode cX1_scaled 24 = .ok (.iload_n 2, 1) := dk_28 (dk_at dksX1_scaled_1 0 rfl rfl)
theorem dX1_scaled_25 : decode cX1_scaled 25 = .ok (.ifCond .eq 9, 3) := dk_153 0 9 (dk_at dksX1_scaled_1 1 rfl rfl)
theorem dX1_scaled_28 : decode cX1_scaled 28 = .ok (.ldc_w 463, 3) := dk_19 1 207 (dk_at dksX1_scaled_1 4 rfl rfl)
theorem dX1_scaled_31 : decode cX1_scaled 31 = .ok (.goto 11, 3) := dk_167 0 11 (dk_at dksX1_scaled_1 7 rfl rfl)
theorem dX1_scaled_34 : decode cX1_scaled 34 = .ok (.fload_n 0, 1) := dk_34 (dk_at dksX1_scaled_1 10 rfl rfl)
theorem dX1_scaled_35 : decode cX1_scaled 35 = .ok (.iload_n 1, 1) := dk_27 (dk_at dksX1_scaled_1 11 rfl rfl)
theorem dX1_scaled_36 : decode cX1_scaled 36 = .ok (.i2f, 1) := dk_134 (dk_at dksX1_scaled_1 12 rfl rfl)
theorem dX1_scaled_37 : decode cX1_scaled 37 = .ok (.fmul, 1) := dk_106 (dk_at dksX1_scaled_1 13 rfl rfl)
theorem dX1_scaled_38 : decode cX1_scaled 38 = .ok (.ldc_w 373, 3) := dk_19 1 117 (dk_at dksX1_scaled_1 14 rfl rfl)
theorem dX1_scaled_41 : decode cX1_scaled 41 = .ok (.fdiv, 1) := dk_110 (dk_at dksX1_scaled_1 17 rfl rfl)
theorem dX1_scaled_42 : decode cX1_scaled 42 = .ok (.freturn, 1) := dk_174 (dk_at dksX1_scaled_1 18 rfl rfl)
abbrev cX1_element : ByteArray := prog_1_method_66_code
def yX1_element : MethodName := ⟨RX1, "element", "(II)I"⟩
def dkwX1_element_1 : List UInt8 := [172]
abbrev dktX1_element_1 : List UInt8 := dkwX1_element_1 ++ []
def dkwX1_element_0 : List UInt8 := [42, 27, 182, 1, 193, 78, 28, 3, 45, 190, 4, 100, 184, 0, 134, 184, 1, 51, 45, 28, 48, 184, 1, 208]
abbrev dktX1_element_0 : List UInt8 := dkwX1_element_0 ++ dktX1_element_1
theorem dksX1_element_0 : cX1_element.data.toList.drop 0 = dktX1_element_0 := by decide +kernel
theorem dksX1_element_1 : cX1_element.data.toList.drop 24 = dktX1_element_1 := dk_seg dksX1_element_0 24 rfl rfl
theorem dX1_element_0 : decode cX1_element 0 = .ok (.aload_n 0, 1) := dk_42 (dk_at dksX1_element_0 0 rfl rfl)
theorem dX1_element_1 : decode cX1_element 1 = .ok (.iload_n 1, 1) := dk_27 (dk_at dksX1_element_0 1 rfl rfl)
theorem dX1_element_2 : decode cX1_element 2 = .ok (.invokevirtual 449, 3) := dk_182 1 193 (dk_at dksX1_element_0 2 rfl rfl)
theorem dX1_element_5 : decode cX1_element 5 = .ok (.astore_n 3, 1) := dk_78 (dk_at dksX1_element_0 5 rfl rfl)
theorem dX1_element_6 : decode cX1_element 6 = .ok (.iload_n 2, 1) := dk_28 (dk_at dksX1_element_0 6 rfl rfl)
theorem dX1_element_7 : decode cX1_element 7 = .ok (.iconst 0, 1) := dk_3 (dk_at dksX1_element_0 7 rfl rfl)
theorem dX1_element_8 : decode cX1_element 8 = .ok (.aload_n 3, 1) := dk_45 (dk_at dksX1_element_0 8 rfl rfl)
theorem dX1_element_9 : decode cX1_element 9 = .ok (.arraylength, 1) := dk_190 (dk_at dksX1_element_0 9 rfl rfl)
theorem dX1_element_10 : decode cX1_element 10 = .ok (.iconst 1, 1) := dk_4 (dk_at dksX1_element_0 10 rfl rfl)
theorem dX1_element_11 : decode cX1_element 11 = .ok (.isub, 1) := dk_100 (dk_at dksX1_element_0 11 rfl rfl)
theorem dX1_element_12 : decode cX1_element 12 = .ok (.invokestatic 134, 3) := dk_184 0 134 (dk_at dksX1_element_0 12 rfl rfl)
theorem dX1_element_15 : decode cX1_element 15 = .ok (.invokestatic 307, 3) := dk_184 1 51 (dk_at dksX1_element_0 15 rfl rfl)
theorem dX1_element_18 : decode cX1_element 18 = .ok (.aload_n 3, 1) := dk_45 (dk_at dksX1_element_0 18 rfl rfl)
theorem dX1_element_19 : decode cX1_element 19 = .ok (.iload_n 2, 1) := dk_28 (dk_at dksX1_element_0 19 rfl rfl)
theorem dX1_element_20 : decode cX1_element 20 = .ok (.faload, 1) := dk_48 (dk_at dksX1_element_0 20 rfl rfl)
theorem dX1_element_21 : decode cX1_element 21 = .ok (.invokestatic 464, 3) := dk_184 1 208 (dk_at dksX1_element_0 21 rfl rfl)
theorem dX1_element_24 : decode cX1_element 24 = .ok (.ireturn, 1) := dk_172 (dk_at dksX1_element_1 0 rfl rfl)
abbrev cX1_total : ByteArray := prog_1_method_67_code
def yX1_total : MethodName := ⟨RX1, "total", "(I)D"⟩
def dkwX1_total_2 : List UInt8 := [73, 132, 6, 1, 167, 255, 221, 40, 175]
abbrev dktX1_total_2 : List UInt8 := dkwX1_total_2 ++ []
def dkwX1_total_1 : List UInt8 := [25, 4, 21, 6, 48, 56, 7, 23, 7, 23, 7, 149, 153, 0, 7, 20, 1, 214, 175, 40, 23, 7, 141, 99]
abbrev dktX1_total_1 : List UInt8 := dkwX1_total_1 ++ dktX1_total_2
def dkwX1_total_0 : List UInt8 := [14, 73, 42, 27, 182, 1, 193, 58, 4, 25, 4, 190, 54, 5, 3, 54, 6, 21, 6, 21, 5, 162, 0, 34]
abbrev dktX1_total_0 : List UInt8 := dkwX1_total_0 ++ dktX1_total_1
theorem dksX1_total_0 : cX1_total.data.toList.drop 0 = dktX1_total_0 := by decide +kernel
theorem dksX1_total_1 : cX1_total.data.toList.drop 24 = dktX1_total_1 := dk_seg dksX1_total_0 24 rfl rfl
theorem dksX1_total_2 : cX1_total.data.toList.drop 48 = dktX1_total_2 := dk_seg dksX1_total_1 24 rfl rfl
theorem dX1_total_0 : decode cX1_total 0 = .ok (.dconst 0, 1) := dk_14 (dk_at dksX1_total_0 0 rfl rfl)
theorem dX1_total_1 : decode cX1_total 1 = .ok (.dstore_n 2, 1) := dk_73 (dk_at dksX1_total_0 1 rfl rfl)
theorem dX1_total_2 : decode cX1_total 2 = .ok (.aload_n 0, 1) := dk_42 (dk_at dksX1_total_0 2 rfl rfl)
theorem dX1_total_3 : decode cX1_total 3 = .ok (.iload_n 1, 1) := dk_27 (dk_at dksX1_total_0 3 rfl rfl)
theorem dX1_total_4 : decode cX1_total 4 = .ok (.invokevirtual 449, 3) := dk_182 1 193 (dk_at dksX1_total_0 4 rfl rfl)
theorem dX1_total_7 : decode cX1_total 7 = .ok (.astore 4, 2) := dk_58 4 (dk_at dksX1_total_0 7 rfl rfl)
theorem dX1_total_9 : decode cX1_total 9 = .ok (.aload 4, 2) := dk_25 4 (dk_at dksX1_total_0 9 rfl rfl)
theorem dX1_total_11 : decode cX1_total 11 = .ok (.arraylength, 1) := dk_190 (dk_at dksX1_total_0 11 rfl rfl)
theorem dX1_total_12 : decode cX1_total 12 = .ok (.istore 5, 2) := dk_54 5 (dk_at dksX1_total_0 12 rfl rfl)
theorem dX1_total_14 : decode cX1_total 14 = .ok (.iconst 0, 1) := dk_3 (dk_at dksX1_total_0 14 rfl rfl)
theorem dX1_total_15 : decode cX1_total 15 = .ok (.istore 6, 2) := dk_54 6 (dk_at dksX1_total_0 15 rfl rfl)
theorem dX1_total_17 : decode cX1_total 17 = .ok (.iload 6, 2) := dk_21 6 (dk_at dksX1_total_0 17 rfl rfl)
theorem dX1_total_19 : decode cX1_total 19 = .ok (.iload 5, 2) := dk_21 5 (dk_at dksX1_total_0 19 rfl rfl)
theorem dX1_total_21 : decode cX1_total 21 = .ok (.if_icmp .ge 34, 3) := dk_162 0 34 (dk_at dksX1_total_0 21 rfl rfl)
theorem dX1_total_24 : decode cX1_total 24 = .ok (.aload 4, 2) := dk_25 4 (dk_at dksX1_total_1 0 rfl rfl)
theorem dX1_total_26 : decode cX1_total 26 = .ok (.iload 6, 2) := dk_21 6 (dk_at dksX1_total_1 2 rfl rfl)
theorem dX1_total_28 : decode cX1_total 28 = .ok (.faload, 1) := dk_48 (dk_at dksX1_total_1 4 rfl rfl)
theorem dX1_total_29 : decode cX1_total 29 = .ok (.fstore 7, 2) := dk_56 7 (dk_at dksX1_total_1 5 rfl rfl)
theorem dX1_total_31 : decode cX1_total 31 = .ok (.fload 7, 2) := dk_23 7 (dk_at dksX1_total_1 7 rfl rfl)
theorem dX1_total_33 : decode cX1_total 33 = .ok (.fload 7, 2) := dk_23 7 (dk_at dksX1_total_1 9 rfl rfl)
theorem dX1_total_35 : decode cX1_total 35 = .ok (.fcmp .l, 1) := dk_149 (dk_at dksX1_total_1 11 rfl rfl)
theorem dX1_total_36 : decode cX1_total 36 = .ok (.ifCond .eq 7, 3) := dk_153 0 7 (dk_at dksX1_total_1 12 rfl rfl)
theorem dX1_total_39 : decode cX1_total 39 = .ok (.ldc2_w 470, 3) := dk_20 1 214 (dk_at dksX1_total_1 15 rfl rfl)
theorem dX1_total_42 : decode cX1_total 42 = .ok (.dreturn, 1) := dk_175 (dk_at dksX1_total_1 18 rfl rfl)
theorem dX1_total_43 : decode cX1_total 43 = .ok (.dload_n 2, 1) := dk_40 (dk_at dksX1_total_1 19 rfl rfl)
theorem dX1_total_44 : decode cX1_total 44 = .ok (.fload 7, 2) := dk_23 7 (dk_at dksX1_total_1 20 rfl rfl)
theorem dX1_total_46 : decode cX1_total 46 = .ok (.f2d, 1) := dk_141 (dk_at dksX1_total_1 22 rfl rfl)
theorem dX1_total_47 : decode cX1_total 47 = .ok (.dadd, 1) := dk_99 (dk_at dksX1_total_1 23 rfl rfl)
theorem dX1_total_48 : decode cX1_total 48 = .ok (.dstore_n 2, 1) := dk_73 (dk_at dksX1_total_2 0 rfl rfl)
theorem dX1_total_49 : decode cX1_total 49 = .ok (.iinc 6 1, 3) := dk_132 6 1 (dk_at dksX1_total_2 1 rfl rfl)
theorem dX1_total_52 : decode cX1_total 52 = .ok (.goto (-35), 3) := dk_167 255 221 (dk_at dksX1_total_2 4 rfl rfl)
theorem dX1_total_55 : decode cX1_total 55 = .ok (.dload_n 2, 1) := dk_40 (dk_at dksX1_total_2 7 rfl rfl)
theorem dX1_total_56 : decode cX1_total 56 = .ok (.dreturn, 1) := dk_175 (dk_at dksX1_total_2 8 rfl rfl)
abbrev cX1_append : ByteArray := prog_1_method_68_code
def yX1_append : MethodName := ⟨RX1, "append", "(C)I"⟩
def dkwX1_append_1 : List UInt8 := [27, 182, 1, 219, 87, 42, 180, 0, 47, 182, 1, 216, 172]
abbrev dktX1_append_1 : List UInt8 := dkwX1_append_1 ++ []
def dkwX1_append_0 : List UInt8 := [42, 180, 0, 47, 182, 1, 216, 16, 60, 162, 0, 7, 4, 167, 0, 4, 3, 184, 0, 171, 42, 180, 0, 47]
abbrev dktX1_append_0 : List UInt8 := dkwX1_append_0 ++ dktX1_append_1
theorem dksX1_append_0 : cX1_append.data.toList.drop 0 = dktX1_append_0 := by decide +kernel
theorem dksX1_append_1 : cX1_append.data.toList.drop 24 = dktX1_append_1 := dk_seg dksX1_append_0 24 rfl rfl
theorem dX1_append_0 : decode cX1_append 0 = .ok (.aload_n 0, 1) := dk_42 (dk_at dksX1_append_0 0 rfl rfl)
theorem dX1_append_1 : decode cX1_append 1 = .ok (.getfield 47, 3) := dk_180 0 47 (dk_at dksX1_append_0 1 rfl rfl)
theorem dX1_append_4 : decode cX1_append 4 = .ok (.invokevirtual 472, 3) := dk_182 1 216 (dk_at dksX1_append_0 4 rfl rfl)
theorem dX1_append_7 : decode cX1_append 7 = .ok (.bipush 60, 2) := dk_16 60 (dk_at dksX1_append_0 7 rfl rfl)
theorem dX1_append_9 : decode cX1_append 9 = .ok (.if_icmp .ge 7, 3) := dk_162 0 7 (dk_at dksX1_append_0 9 rfl rfl)
theorem dX1_append_12 : decode cX1_append 12 = .ok (.iconst 1, 1) := dk_4 (dk_at dksX1_append_0 12 rfl rfl)
theorem dX1_append_13 : decode cX1_append 13 = .ok (.goto 4, 3) := dk_167 0 4 (dk_at dksX1_append_0 13 rfl rfl)
theorem dX1_append_16 : decode cX1_append 16 = .ok (.iconst 0, 1) := dk_3 (dk_at dksX1_append_0 16 rfl rfl)
theorem dX1_append_17 : decode cX1_append 17 = .ok (.invokestatic 171, 3) := dk_184 0 171 (dk_at dksX1_append_0 17 rfl rfl)
theorem dX1_append_20 : decode cX1_append 20 = .ok (.aload_n 0, 1) := dk_42 (dk_at dksX1_append_0 20 rfl rfl)
theorem dX1_append_21 : decode cX1_append 21 = .ok (.getfield 47, 3) := dk_180 0 47 (dk_at dksX1_append_0 21 rfl rfl)
theorem dX1_append_24 : decode cX1_append 24 = .ok (.iload_n 1, 1) := dk_27 (dk_at dksX1_append_1 0 rfl rfl)
theorem dX1_append_25 : decode cX1_append 25 = .ok (.invokevirtual 475, 3) := dk_182 1 219 (dk_at dksX1_append_1 1 rfl rfl)
theorem dX1_append_28 : decode cX1_append 28 = .ok (.pop, 1) := dk_87 (dk_at dksX1_append_1 4 rfl rfl)
theorem dX1_append_29 : decode cX1_append 29 = .ok (.aload_n 0, 1) := dk_42 (dk_at dksX1_append_1 5 rfl rfl)
theorem dX1_append_30 : decode cX1_append 30 = .ok (.getfield 47, 3) := dk_180 0 47 (dk_at dksX1_append_1 6 rfl rfl)
theorem dX1_append_33 : decode cX1_append 33 = .ok (.invokevirtual 472, 3) := dk_182 1 216 (dk_at dksX1_append_1 9 rfl rfl)
theorem dX1_append_36 : decode cX1_append 36 = .ok (.ireturn, 1) := dk_172 (dk_at dksX1_append_1 12 rfl rfl)
abbrev cX1_read : ByteArray := prog_1_method_71_code
def yX1_read : MethodName := ⟨RX1, "read", "()I"⟩
def dkwX1_read_6 : List UInt8 := [180, 0, 47, 3, 182, 1, 251, 25, 6, 191]
abbrev dktX1_read_6 : List UInt8 := dkwX1_read_6 ++ []
def dkwX1_read_5 : List UInt8 := [21, 5, 172, 76, 42, 43, 180, 2, 1, 181, 0, 51, 187, 0, 61, 89, 183, 0, 63, 191, 58, 6, 42]
abbrev dktX1_read_5 : List UInt8 := dkwX1_read_5 ++ dktX1_read_6
def dkwX1_read_4 : List UInt8 := [25, 4, 42, 180, 0, 10, 44, 182, 0, 246, 182, 0, 187, 54, 5, 42, 180, 0, 47, 3, 182, 1, 251]
abbrev dktX1_read_4 : List UInt8 := dkwX1_read_4 ++ dktX1_read_5
def dkwX1_read_3 : List UInt8 := [167, 255, 230, 42, 42, 44, 45, 182, 1, 26, 182, 0, 234, 42, 180, 0, 10, 182, 0, 174, 58, 4, 42]
abbrev dktX1_read_3 : List UInt8 := dkwX1_read_3 ++ dktX1_read_4
def dkwX1_read_2 : List UInt8 := [162, 0, 25, 45, 21, 4, 43, 180, 1, 250, 21, 4, 182, 1, 54, 192, 0, 32, 83, 132, 4, 1]
abbrev dktX1_read_2 : List UInt8 := dkwX1_read_2 ++ dktX1_read_3
def dkwX1_read_1 : List UInt8 := [42, 43, 182, 1, 246, 77, 43, 180, 1, 250, 182, 0, 168, 189, 0, 32, 78, 3, 54, 4, 21, 4, 45, 190]
abbrev dktX1_read_1 : List UInt8 := dkwX1_read_1 ++ dktX1_read_2
def dkwX1_read_0 : List UInt8 := [187, 1, 233, 89, 42, 180, 0, 47, 183, 1, 235, 182, 1, 238, 76, 42, 42, 43, 182, 1, 242, 182, 0, 234]
abbrev dktX1_read_0 : List UInt8 := dkwX1_read_0 ++ dktX1_read_1
theorem dksX1_read_0 : cX1_read.data.toList.drop 0 = dktX1_read_0 := by decide +kernel
theorem dksX1_read_1 : cX1_read.data.toList.drop 24 = dktX1_read_1 := dk_seg dksX1_read_0 24 rfl rfl
theorem dksX1_read_2 : cX1_read.data.toList.drop 48 = dktX1_read_2 := dk_seg dksX1_read_1 24 rfl rfl
theorem dksX1_read_3 : cX1_read.data.toList.drop 70 = dktX1_read_3 := dk_seg dksX1_read_2 22 rfl rfl
theorem dksX1_read_4 : cX1_read.data.toList.drop 93 = dktX1_read_4 := dk_seg dksX1_read_3 23 rfl rfl
theorem dksX1_read_5 : cX1_read.data.toList.drop 116 = dktX1_read_5 := dk_seg dksX1_read_4 23 rfl rfl
theorem dksX1_read_6 : cX1_read.data.toList.drop 139 = dktX1_read_6 := dk_seg dksX1_read_5 23 rfl rfl
theorem dX1_read_0 : decode cX1_read 0 = .ok (.new 489, 3) := dk_187 1 233 (dk_at dksX1_read_0 0 rfl rfl)
theorem dX1_read_3 : decode cX1_read 3 = .ok (.dup, 1) := dk_89 (dk_at dksX1_read_0 3 rfl rfl)
theorem dX1_read_4 : decode cX1_read 4 = .ok (.aload_n 0, 1) := dk_42 (dk_at dksX1_read_0 4 rfl rfl)
theorem dX1_read_5 : decode cX1_read 5 = .ok (.getfield 47, 3) := dk_180 0 47 (dk_at dksX1_read_0 5 rfl rfl)
theorem dX1_read_8 : decode cX1_read 8 = .ok (.invokespecial 491, 3) := dk_183 1 235 (dk_at dksX1_read_0 8 rfl rfl)
theorem dX1_read_11 : decode cX1_read 11 = .ok (.invokevirtual 494, 3) := dk_182 1 238 (dk_at dksX1_read_0 11 rfl rfl)
theorem dX1_read_14 : decode cX1_read 14 = .ok (.astore_n 1, 1) := dk_76 (dk_at dksX1_read_0 14 rfl rfl)
theorem dX1_read_15 : decode cX1_read 15 = .ok (.aload_n 0, 1) := dk_42 (dk_at dksX1_read_0 15 rfl rfl)
theorem dX1_read_16 : decode cX1_read 16 = .ok (.aload_n 0, 1) := dk_42 (dk_at dksX1_read_0 16 rfl rfl)
theorem dX1_read_17 : decode cX1_read 17 = .ok (.aload_n 1, 1) := dk_43 (dk_at dksX1_read_0 17 rfl rfl)
theorem dX1_read_18 : decode cX1_read 18 = .ok (.invokevirtual 498, 3) := dk_182 1 242 (dk_at dksX1_read_0 18 rfl rfl)
theorem dX1_read_21 : decode cX1_read 21 = .ok (.invokevirtual 234, 3) := dk_182 0 234 (dk_at dksX1_read_0 21 rfl rfl)
theorem dX1_read_24 : decode cX1_read 24 = .ok (.aload_n 0, 1) := dk_42 (dk_at dksX1_read_1 0 rfl rfl)
theorem dX1_read_25 : decode cX1_read 25 = .ok (.aload_n 1, 1) := dk_43 (dk_at dksX1_read_1 1 rfl rfl)
theorem dX1_read_26 : decode cX1_read 26 = .ok (.invokevirtual 502, 3) := dk_182 1 246 (dk_at dksX1_read_1 2 rfl rfl)
theorem dX1_read_29 : decode cX1_read 29 = .ok (.astore_n 2, 1) := dk_77 (dk_at dksX1_read_1 5 rfl rfl)
theorem dX1_read_30 : decode cX1_read 30 = .ok (.aload_n 1, 1) := dk_43 (dk_at dksX1_read_1 6 rfl rfl)
theorem dX1_read_31 : decode cX1_read 31 = .ok (.getfield 506, 3) := dk_180 1 250 (dk_at dksX1_read_1 7 rfl rfl)
theorem dX1_read_34 : decode cX1_read 34 = .ok (.invokevirtual 168, 3) := dk_182 0 168 (dk_at dksX1_read_1 10 rfl rfl)
theorem dX1_read_37 : decode cX1_read 37 = .ok (.anewarray 32, 3) := dk_189 0 32 (dk_at dksX1_read_1 13 rfl rfl)
theorem dX1_read_40 : decode cX1_read 40 = .ok (.astore_n 3, 1) := dk_78 (dk_at dksX1_read_1 16 rfl rfl)
theorem dX1_read_41 : decode cX1_read 41 = .ok (.iconst 0, 1) := dk_3 (dk_at dksX1_read_1 17 rfl rfl)
theorem dX1_read_42 : decode cX1_read 42 = .ok (.istore 4, 2) := dk_54 4 (dk_at dksX1_read_1 18 rfl rfl)
theorem dX1_read_44 : decode cX1_read 44 = .ok (.iload 4, 2) := dk_21 4 (dk_at dksX1_read_1 20 rfl rfl)
theorem dX1_read_46 : decode cX1_read 46 = .ok (.aload_n 3, 1) := dk_45 (dk_at dksX1_read_1 22 rfl rfl)
theorem dX1_read_47 : decode cX1_read 47 = .ok (.arraylength, 1) := dk_190 (dk_at dksX1_read_1 23 rfl rfl)
theorem dX1_read_48 : decode cX1_read 48 = .ok (.if_icmp .ge 25, 3) := dk_162 0 25 (dk_at dksX1_read_2 0 rfl rfl)
theorem dX1_read_51 : decode cX1_read 51 = .ok (.aload_n 3, 1) := dk_45 (dk_at dksX1_read_2 3 rfl rfl)
theorem dX1_read_52 : decode cX1_read 52 = .ok (.iload 4, 2) := dk_21 4 (dk_at dksX1_read_2 4 rfl rfl)
theorem dX1_read_54 : decode cX1_read 54 = .ok (.aload_n 1, 1) := dk_43 (dk_at dksX1_read_2 6 rfl rfl)
theorem dX1_read_55 : decode cX1_read 55 = .ok (.getfield 506, 3) := dk_180 1 250 (dk_at dksX1_read_2 7 rfl rfl)
theorem dX1_read_58 : decode cX1_read 58 = .ok (.iload 4, 2) := dk_21 4 (dk_at dksX1_read_2 10 rfl rfl)
theorem dX1_read_60 : decode cX1_read 60 = .ok (.invokevirtual 310, 3) := dk_182 1 54 (dk_at dksX1_read_2 12 rfl rfl)
theorem dX1_read_63 : decode cX1_read 63 = .ok (.checkcast 32, 3) := dk_192 0 32 (dk_at dksX1_read_2 15 rfl rfl)
theorem dX1_read_66 : decode cX1_read 66 = .ok (.aastore, 1) := dk_83 (dk_at dksX1_read_2 18 rfl rfl)
theorem dX1_read_67 : decode cX1_read 67 = .ok (.iinc 4 1, 3) := dk_132 4 1 (dk_at dksX1_read_2 19 rfl rfl)
theorem dX1_read_70 : decode cX1_read 70 = .ok (.goto (-26), 3) := dk_167 255 230 (dk_at dksX1_read_3 0 rfl rfl)
theorem dX1_read_73 : decode cX1_read 73 = .ok (.aload_n 0, 1) := dk_42 (dk_at dksX1_read_3 3 rfl rfl)
theorem dX1_read_74 : decode cX1_read 74 = .ok (.aload_n 0, 1) := dk_42 (dk_at dksX1_read_3 4 rfl rfl)
theorem dX1_read_75 : decode cX1_read 75 = .ok (.aload_n 2, 1) := dk_44 (dk_at dksX1_read_3 5 rfl rfl)
theorem dX1_read_76 : decode cX1_read 76 = .ok (.aload_n 3, 1) := dk_45 (dk_at dksX1_read_3 6 rfl rfl)
theorem dX1_read_77 : decode cX1_read 77 = .ok (.invokevirtual 282, 3) := dk_182 1 26 (dk_at dksX1_read_3 7 rfl rfl)
theorem dX1_read_80 : decode cX1_read 80 = .ok (.invokevirtual 234, 3) := dk_182 0 234 (dk_at dksX1_read_3 10 rfl rfl)
theorem dX1_read_83 : decode cX1_read 83 = .ok (.aload_n 0, 1) := dk_42 (dk_at dksX1_read_3 13 rfl rfl)
theorem dX1_read_84 : decode cX1_read 84 = .ok (.getfield 10, 3) := dk_180 0 10 (dk_at dksX1_read_3 14 rfl rfl)
theorem dX1_read_87 : decode cX1_read 87 = .ok (.invokevirtual 174, 3) := dk_182 0 174 (dk_at dksX1_read_3 17 rfl rfl)
theorem dX1_read_90 : decode cX1_read 90 = .ok (.astore 4, 2) := dk_58 4 (dk_at dksX1_read_3 20 rfl rfl)
theorem dX1_read_92 : decode cX1_read 92 = .ok (.aload_n 0, 1) := dk_42 (dk_at dksX1_read_3 22 rfl rfl)
theorem dX1_read_93 : decode cX1_read 93 = .ok (.aload 4, 2) := dk_25 4 (dk_at dksX1_read_4 0 rfl rfl)
theorem dX1_read_95 : decode cX1_read 95 = .ok (.aload_n 0, 1) := dk_42 (dk_at dksX1_read_4 2 rfl rfl)
theorem dX1_read_96 : decode cX1_read 96 = .ok (.getfield 10, 3) := dk_180 0 10 (dk_at dksX1_read_4 3 rfl rfl)
theorem dX1_read_99 : decode cX1_read 99 = .ok (.aload_n 2, 1) := dk_44 (dk_at dksX1_read_4 6 rfl rfl)
theorem dX1_read_100 : decode cX1_read 100 = .ok (.invokevirtual 246, 3) := dk_182 0 246 (dk_at dksX1_read_4 7 rfl rfl)
theorem dX1_read_103 : decode cX1_read 103 = .ok (.invokevirtual 187, 3) := dk_182 0 187 (dk_at dksX1_read_4 10 rfl rfl)
theorem dX1_read_106 : decode cX1_read 106 = .ok (.istore 5, 2) := dk_54 5 (dk_at dksX1_read_4 13 rfl rfl)
theorem dX1_read_108 : decode cX1_read 108 = .ok (.aload_n 0, 1) := dk_42 (dk_at dksX1_read_4 15 rfl rfl)
theorem dX1_read_109 : decode cX1_read 109 = .ok (.getfield 47, 3) := dk_180 0 47 (dk_at dksX1_read_4 16 rfl rfl)
theorem dX1_read_112 : decode cX1_read 112 = .ok (.iconst 0, 1) := dk_3 (dk_at dksX1_read_4 19 rfl rfl)
theorem dX1_read_113 : decode cX1_read 113 = .ok (.invokevirtual 507, 3) := dk_182 1 251 (dk_at dksX1_read_4 20 rfl rfl)
theorem dX1_read_116 : decode cX1_read 116 = .ok (.iload 5, 2) := dk_21 5 (dk_at dksX1_read_5 0 rfl rfl)
theorem dX1_read_118 : decode cX1_read 118 = .ok (.ireturn, 1) := dk_172 (dk_at dksX1_read_5 2 rfl rfl)
theorem dX1_read_119 : decode cX1_read 119 = .ok (.astore_n 1, 1) := dk_76 (dk_at dksX1_read_5 3 rfl rfl)
theorem dX1_read_120 : decode cX1_read 120 = .ok (.aload_n 0, 1) := dk_42 (dk_at dksX1_read_5 4 rfl rfl)
theorem dX1_read_121 : decode cX1_read 121 = .ok (.aload_n 1, 1) := dk_43 (dk_at dksX1_read_5 5 rfl rfl)
theorem dX1_read_122 : decode cX1_read 122 = .ok (.getfield 513, 3) := dk_180 2 1 (dk_at dksX1_read_5 6 rfl rfl)
theorem dX1_read_125 : decode cX1_read 125 = .ok (.putfield 51, 3) := dk_181 0 51 (dk_at dksX1_read_5 9 rfl rfl)
theorem dX1_read_128 : decode cX1_read 128 = .ok (.new 61, 3) := dk_187 0 61 (dk_at dksX1_read_5 12 rfl rfl)
theorem dX1_read_131 : decode cX1_read 131 = .ok (.dup, 1) := dk_89 (dk_at dksX1_read_5 15 rfl rfl)
theorem dX1_read_132 : decode cX1_read 132 = .ok (.invokespecial 63, 3) := dk_183 0 63 (dk_at dksX1_read_5 16 rfl rfl)
theorem dX1_read_135 : decode cX1_read 135 = .ok (.athrow, 1) := dk_191 (dk_at dksX1_read_5 19 rfl rfl)
theorem dX1_read_136 : decode cX1_read 136 = .ok (.astore 6, 2) := dk_58 6 (dk_at dksX1_read_5 20 rfl rfl)
theorem dX1_read_138 : decode cX1_read 138 = .ok (.aload_n 0, 1) := dk_42 (dk_at dksX1_read_5 22 rfl rfl)
theorem dX1_read_139 : decode cX1_read 139 = .ok (.getfield 47, 3) := dk_180 0 47 (dk_at dksX1_read_6 0 rfl rfl)
theorem dX1_read_142 : decode cX1_read 142 = .ok (.iconst 0, 1) := dk_3 (dk_at dksX1_read_6 3 rfl rfl)
theorem dX1_read_143 : decode cX1_read 143 = .ok (.invokevirtual 507, 3) := dk_182 1 251 (dk_at dksX1_read_6 4 rfl rfl)
theorem dX1_read_146 : decode cX1_read 146 = .ok (.aload 6, 2) := dk_25 6 (dk_at dksX1_read_6 7 rfl rfl)
theorem dX1_read_148 : decode cX1_read 148 = .ok (.athrow, 1) := dk_191 (dk_at dksX1_read_6 9 rfl rfl)
abbrev cX1_bars : ByteArray := prog_1_method_69_code
def yX1_bars : MethodName := ⟨RX1, "bars", "(LPolicyNotation$Draft;)LPolicyNotation$Whys;"⟩
def dkwX1_bars_6 : List UInt8 := [176]
abbrev dktX1_bars_6 : List UInt8 := dkwX1_bars_6 ++ []
def dkwX1_bars_5 : List UInt8 := [180, 0, 240, 43, 180, 1, 223, 182, 1, 54, 192, 1, 7, 43, 180, 1, 227, 182, 0, 253, 167, 0, 4, 45]
abbrev dktX1_bars_5 : List UInt8 := dkwX1_bars_5 ++ dktX1_bars_6
def dkwX1_bars_4 : List UInt8 := [182, 0, 70, 153, 0, 43, 43, 180, 1, 223, 2, 159, 0, 35, 42, 180, 0, 10, 45, 42, 180, 0, 10]
abbrev dktX1_bars_4 : List UInt8 := dkwX1_bars_4 ++ dktX1_bars_5
def dkwX1_bars_3 : List UInt8 := [182, 1, 14, 78, 42, 180, 0, 10, 45, 43, 180, 1, 228, 43, 180, 1, 229, 182, 0, 230, 87, 45]
abbrev dktX1_bars_3 : List UInt8 := dkwX1_bars_3 ++ dktX1_bars_4
def dkwX1_bars_2 : List UInt8 := [180, 0, 10, 43, 180, 1, 227, 182, 0, 139, 154, 0, 7, 4, 167, 0, 4, 3, 4, 43, 180, 1, 227]
abbrev dktX1_bars_2 : List UInt8 := dkwX1_bars_2 ++ dktX1_bars_3
def dkwX1_bars_1 : List UInt8 := [167, 0, 4, 3, 61, 187, 0, 71, 89, 183, 0, 229, 28, 4, 43, 180, 1, 223, 182, 1, 14, 42]
abbrev dktX1_bars_1 : List UInt8 := dkwX1_bars_1 ++ dktX1_bars_2
def dkwX1_bars_0 : List UInt8 := [43, 180, 1, 223, 2, 159, 0, 21, 42, 180, 0, 10, 43, 180, 1, 223, 182, 1, 168, 154, 0, 7, 4]
abbrev dktX1_bars_0 : List UInt8 := dkwX1_bars_0 ++ dktX1_bars_1
theorem dksX1_bars_0 : cX1_bars.data.toList.drop 0 = dktX1_bars_0 := by decide +kernel
theorem dksX1_bars_1 : cX1_bars.data.toList.drop 23 = dktX1_bars_1 := dk_seg dksX1_bars_0 23 rfl rfl
theorem dksX1_bars_2 : cX1_bars.data.toList.drop 45 = dktX1_bars_2 := dk_seg dksX1_bars_1 22 rfl rfl
theorem dksX1_bars_3 : cX1_bars.data.toList.drop 68 = dktX1_bars_3 := dk_seg dksX1_bars_2 23 rfl rfl
theorem dksX1_bars_4 : cX1_bars.data.toList.drop 90 = dktX1_bars_4 := dk_seg dksX1_bars_3 22 rfl rfl
theorem dksX1_bars_5 : cX1_bars.data.toList.drop 113 = dktX1_bars_5 := dk_seg dksX1_bars_4 23 rfl rfl
theorem dksX1_bars_6 : cX1_bars.data.toList.drop 137 = dktX1_bars_6 := dk_seg dksX1_bars_5 24 rfl rfl
theorem dX1_bars_0 : decode cX1_bars 0 = .ok (.aload_n 1, 1) := dk_43 (dk_at dksX1_bars_0 0 rfl rfl)
theorem dX1_bars_1 : decode cX1_bars 1 = .ok (.getfield 479, 3) := dk_180 1 223 (dk_at dksX1_bars_0 1 rfl rfl)
theorem dX1_bars_4 : decode cX1_bars 4 = .ok (.iconst (-1), 1) := dk_2 (dk_at dksX1_bars_0 4 rfl rfl)
theorem dX1_bars_5 : decode cX1_bars 5 = .ok (.if_icmp .eq 21, 3) := dk_159 0 21 (dk_at dksX1_bars_0 5 rfl rfl)
theorem dX1_bars_8 : decode cX1_bars 8 = .ok (.aload_n 0, 1) := dk_42 (dk_at dksX1_bars_0 8 rfl rfl)
theorem dX1_bars_9 : decode cX1_bars 9 = .ok (.getfield 10, 3) := dk_180 0 10 (dk_at dksX1_bars_0 9 rfl rfl)
theorem dX1_bars_12 : decode cX1_bars 12 = .ok (.aload_n 1, 1) := dk_43 (dk_at dksX1_bars_0 12 rfl rfl)
theorem dX1_bars_13 : decode cX1_bars 13 = .ok (.getfield 479, 3) := dk_180 1 223 (dk_at dksX1_bars_0 13 rfl rfl)
theorem dX1_bars_16 : decode cX1_bars 16 = .ok (.invokevirtual 424, 3) := dk_182 1 168 (dk_at dksX1_bars_0 16 rfl rfl)
theorem dX1_bars_19 : decode cX1_bars 19 = .ok (.ifCond .ne 7, 3) := dk_154 0 7 (dk_at dksX1_bars_0 19 rfl rfl)
theorem dX1_bars_22 : decode cX1_bars 22 = .ok (.iconst 1, 1) := dk_4 (dk_at dksX1_bars_0 22 rfl rfl)
theorem dX1_bars_23 : decode cX1_bars 23 = .ok (.goto 4, 3) := dk_167 0 4 (dk_at dksX1_bars_1 0 rfl rfl)
theorem dX1_bars_26 : decode cX1_bars 26 = .ok (.iconst 0, 1) := dk_3 (dk_at dksX1_bars_1 3 rfl rfl)
theorem dX1_bars_27 : decode cX1_bars 27 = .ok (.istore_n 2, 1) := dk_61 (dk_at dksX1_bars_1 4 rfl rfl)
theorem dX1_bars_28 : decode cX1_bars 28 = .ok (.new 71, 3) := dk_187 0 71 (dk_at dksX1_bars_1 5 rfl rfl)
theorem dX1_bars_31 : decode cX1_bars 31 = .ok (.dup, 1) := dk_89 (dk_at dksX1_bars_1 8 rfl rfl)
theorem dX1_bars_32 : decode cX1_bars 32 = .ok (.invokespecial 229, 3) := dk_183 0 229 (dk_at dksX1_bars_1 9 rfl rfl)
theorem dX1_bars_35 : decode cX1_bars 35 = .ok (.iload_n 2, 1) := dk_28 (dk_at dksX1_bars_1 12 rfl rfl)
theorem dX1_bars_36 : decode cX1_bars 36 = .ok (.iconst 1, 1) := dk_4 (dk_at dksX1_bars_1 13 rfl rfl)
theorem dX1_bars_37 : decode cX1_bars 37 = .ok (.aload_n 1, 1) := dk_43 (dk_at dksX1_bars_1 14 rfl rfl)
theorem dX1_bars_38 : decode cX1_bars 38 = .ok (.getfield 479, 3) := dk_180 1 223 (dk_at dksX1_bars_1 15 rfl rfl)
theorem dX1_bars_41 : decode cX1_bars 41 = .ok (.invokevirtual 270, 3) := dk_182 1 14 (dk_at dksX1_bars_1 18 rfl rfl)
theorem dX1_bars_44 : decode cX1_bars 44 = .ok (.aload_n 0, 1) := dk_42 (dk_at dksX1_bars_1 21 rfl rfl)
theorem dX1_bars_45 : decode cX1_bars 45 = .ok (.getfield 10, 3) := dk_180 0 10 (dk_at dksX1_bars_2 0 rfl rfl)
theorem dX1_bars_48 : decode cX1_bars 48 = .ok (.aload_n 1, 1) := dk_43 (dk_at dksX1_bars_2 3 rfl rfl)
theorem dX1_bars_49 : decode cX1_bars 49 = .ok (.getfield 483, 3) := dk_180 1 227 (dk_at dksX1_bars_2 4 rfl rfl)
theorem dX1_bars_52 : decode cX1_bars 52 = .ok (.invokevirtual 139, 3) := dk_182 0 139 (dk_at dksX1_bars_2 7 rfl rfl)
theorem dX1_bars_55 : decode cX1_bars 55 = .ok (.ifCond .ne 7, 3) := dk_154 0 7 (dk_at dksX1_bars_2 10 rfl rfl)
theorem dX1_bars_58 : decode cX1_bars 58 = .ok (.iconst 1, 1) := dk_4 (dk_at dksX1_bars_2 13 rfl rfl)
theorem dX1_bars_59 : decode cX1_bars 59 = .ok (.goto 4, 3) := dk_167 0 4 (dk_at dksX1_bars_2 14 rfl rfl)
theorem dX1_bars_62 : decode cX1_bars 62 = .ok (.iconst 0, 1) := dk_3 (dk_at dksX1_bars_2 17 rfl rfl)
theorem dX1_bars_63 : decode cX1_bars 63 = .ok (.iconst 1, 1) := dk_4 (dk_at dksX1_bars_2 18 rfl rfl)
theorem dX1_bars_64 : decode cX1_bars 64 = .ok (.aload_n 1, 1) := dk_43 (dk_at dksX1_bars_2 19 rfl rfl)
theorem dX1_bars_65 : decode cX1_bars 65 = .ok (.getfield 483, 3) := dk_180 1 227 (dk_at dksX1_bars_2 20 rfl rfl)
theorem dX1_bars_68 : decode cX1_bars 68 = .ok (.invokevirtual 270, 3) := dk_182 1 14 (dk_at dksX1_bars_3 0 rfl rfl)
theorem dX1_bars_71 : decode cX1_bars 71 = .ok (.astore_n 3, 1) := dk_78 (dk_at dksX1_bars_3 3 rfl rfl)
theorem dX1_bars_72 : decode cX1_bars 72 = .ok (.aload_n 0, 1) := dk_42 (dk_at dksX1_bars_3 4 rfl rfl)
theorem dX1_bars_73 : decode cX1_bars 73 = .ok (.getfield 10, 3) := dk_180 0 10 (dk_at dksX1_bars_3 5 rfl rfl)
theorem dX1_bars_76 : decode cX1_bars 76 = .ok (.aload_n 3, 1) := dk_45 (dk_at dksX1_bars_3 8 rfl rfl)
theorem dX1_bars_77 : decode cX1_bars 77 = .ok (.aload_n 1, 1) := dk_43 (dk_at dksX1_bars_3 9 rfl rfl)
theorem dX1_bars_78 : decode cX1_bars 78 = .ok (.getfield 484, 3) := dk_180 1 228 (dk_at dksX1_bars_3 10 rfl rfl)
theorem dX1_bars_81 : decode cX1_bars 81 = .ok (.aload_n 1, 1) := dk_43 (dk_at dksX1_bars_3 13 rfl rfl)
theorem dX1_bars_82 : decode cX1_bars 82 = .ok (.getfield 485, 3) := dk_180 1 229 (dk_at dksX1_bars_3 14 rfl rfl)
theorem dX1_bars_85 : decode cX1_bars 85 = .ok (.invokevirtual 230, 3) := dk_182 0 230 (dk_at dksX1_bars_3 17 rfl rfl)
theorem dX1_bars_88 : decode cX1_bars 88 = .ok (.pop, 1) := dk_87 (dk_at dksX1_bars_3 20 rfl rfl)
theorem dX1_bars_89 : decode cX1_bars 89 = .ok (.aload_n 3, 1) := dk_45 (dk_at dksX1_bars_3 21 rfl rfl)
theorem dX1_bars_90 : decode cX1_bars 90 = .ok (.invokevirtual 70, 3) := dk_182 0 70 (dk_at dksX1_bars_4 0 rfl rfl)
theorem dX1_bars_93 : decode cX1_bars 93 = .ok (.ifCond .eq 43, 3) := dk_153 0 43 (dk_at dksX1_bars_4 3 rfl rfl)
theorem dX1_bars_96 : decode cX1_bars 96 = .ok (.aload_n 1, 1) := dk_43 (dk_at dksX1_bars_4 6 rfl rfl)
theorem dX1_bars_97 : decode cX1_bars 97 = .ok (.getfield 479, 3) := dk_180 1 223 (dk_at dksX1_bars_4 7 rfl rfl)
theorem dX1_bars_100 : decode cX1_bars 100 = .ok (.iconst (-1), 1) := dk_2 (dk_at dksX1_bars_4 10 rfl rfl)
theorem dX1_bars_101 : decode cX1_bars 101 = .ok (.if_icmp .eq 35, 3) := dk_159 0 35 (dk_at dksX1_bars_4 11 rfl rfl)
theorem dX1_bars_104 : decode cX1_bars 104 = .ok (.aload_n 0, 1) := dk_42 (dk_at dksX1_bars_4 14 rfl rfl)
theorem dX1_bars_105 : decode cX1_bars 105 = .ok (.getfield 10, 3) := dk_180 0 10 (dk_at dksX1_bars_4 15 rfl rfl)
theorem dX1_bars_108 : decode cX1_bars 108 = .ok (.aload_n 3, 1) := dk_45 (dk_at dksX1_bars_4 18 rfl rfl)
theorem dX1_bars_109 : decode cX1_bars 109 = .ok (.aload_n 0, 1) := dk_42 (dk_at dksX1_bars_4 19 rfl rfl)
theorem dX1_bars_110 : decode cX1_bars 110 = .ok (.getfield 10, 3) := dk_180 0 10 (dk_at dksX1_bars_4 20 rfl rfl)
theorem dX1_bars_113 : decode cX1_bars 113 = .ok (.getfield 240, 3) := dk_180 0 240 (dk_at dksX1_bars_5 0 rfl rfl)
theorem dX1_bars_116 : decode cX1_bars 116 = .ok (.aload_n 1, 1) := dk_43 (dk_at dksX1_bars_5 3 rfl rfl)
theorem dX1_bars_117 : decode cX1_bars 117 = .ok (.getfield 479, 3) := dk_180 1 223 (dk_at dksX1_bars_5 4 rfl rfl)
theorem dX1_bars_120 : decode cX1_bars 120 = .ok (.invokevirtual 310, 3) := dk_182 1 54 (dk_at dksX1_bars_5 7 rfl rfl)
theorem dX1_bars_123 : decode cX1_bars 123 = .ok (.checkcast 263, 3) := dk_192 1 7 (dk_at dksX1_bars_5 10 rfl rfl)
theorem dX1_bars_126 : decode cX1_bars 126 = .ok (.aload_n 1, 1) := dk_43 (dk_at dksX1_bars_5 13 rfl rfl)
theorem dX1_bars_127 : decode cX1_bars 127 = .ok (.getfield 483, 3) := dk_180 1 227 (dk_at dksX1_bars_5 14 rfl rfl)
theorem dX1_bars_130 : decode cX1_bars 130 = .ok (.invokevirtual 253, 3) := dk_182 0 253 (dk_at dksX1_bars_5 17 rfl rfl)
theorem dX1_bars_133 : decode cX1_bars 133 = .ok (.goto 4, 3) := dk_167 0 4 (dk_at dksX1_bars_5 20 rfl rfl)
theorem dX1_bars_136 : decode cX1_bars 136 = .ok (.aload_n 3, 1) := dk_45 (dk_at dksX1_bars_5 23 rfl rfl)
theorem dX1_bars_137 : decode cX1_bars 137 = .ok (.areturn, 1) := dk_176 (dk_at dksX1_bars_6 0 rfl rfl)
abbrev cX1_made : ByteArray := prog_1_method_70_code
def yX1_made : MethodName := ⟨RX1, "made", "(LPolicyNotation$Draft;)LPolicyNotation$Rule;"⟩
def dkwX1_made_3 : List UInt8 := [180, 1, 227, 43, 180, 1, 232, 43, 180, 1, 228, 43, 180, 1, 229, 183, 1, 3, 176]
abbrev dktX1_made_3 : List UInt8 := dkwX1_made_3 ++ []
def dkwX1_made_2 : List UInt8 := [187, 1, 1, 89, 42, 180, 0, 10, 180, 0, 240, 43, 180, 1, 223, 182, 1, 54, 192, 1, 7, 28, 43]
abbrev dktX1_made_2 : List UInt8 := dkwX1_made_2 ++ dktX1_made_3
def dkwX1_made_1 : List UInt8 := [180, 1, 230, 28, 43, 180, 1, 227, 43, 180, 1, 232, 43, 180, 1, 228, 43, 180, 1, 229, 183, 0, 243, 176]
abbrev dktX1_made_1 : List UInt8 := dkwX1_made_1 ++ dktX1_made_2
def dkwX1_made_0 : List UInt8 := [42, 180, 0, 10, 180, 0, 240, 182, 0, 168, 61, 43, 180, 1, 223, 2, 160, 0, 32, 187, 0, 238, 89, 43]
abbrev dktX1_made_0 : List UInt8 := dkwX1_made_0 ++ dktX1_made_1
theorem dksX1_made_0 : cX1_made.data.toList.drop 0 = dktX1_made_0 := by decide +kernel
theorem dksX1_made_1 : cX1_made.data.toList.drop 24 = dktX1_made_1 := dk_seg dksX1_made_0 24 rfl rfl
theorem dksX1_made_2 : cX1_made.data.toList.drop 48 = dktX1_made_2 := dk_seg dksX1_made_1 24 rfl rfl
theorem dksX1_made_3 : cX1_made.data.toList.drop 71 = dktX1_made_3 := dk_seg dksX1_made_2 23 rfl rfl
theorem dX1_made_0 : decode cX1_made 0 = .ok (.aload_n 0, 1) := dk_42 (dk_at dksX1_made_0 0 rfl rfl)
theorem dX1_made_1 : decode cX1_made 1 = .ok (.getfield 10, 3) := dk_180 0 10 (dk_at dksX1_made_0 1 rfl rfl)
theorem dX1_made_4 : decode cX1_made 4 = .ok (.getfield 240, 3) := dk_180 0 240 (dk_at dksX1_made_0 4 rfl rfl)
theorem dX1_made_7 : decode cX1_made 7 = .ok (.invokevirtual 168, 3) := dk_182 0 168 (dk_at dksX1_made_0 7 rfl rfl)
theorem dX1_made_10 : decode cX1_made 10 = .ok (.istore_n 2, 1) := dk_61 (dk_at dksX1_made_0 10 rfl rfl)
theorem dX1_made_11 : decode cX1_made 11 = .ok (.aload_n 1, 1) := dk_43 (dk_at dksX1_made_0 11 rfl rfl)
theorem dX1_made_12 : decode cX1_made 12 = .ok (.getfield 479, 3) := dk_180 1 223 (dk_at dksX1_made_0 12 rfl rfl)
theorem dX1_made_15 : decode cX1_made 15 = .ok (.iconst (-1), 1) := dk_2 (dk_at dksX1_made_0 15 rfl rfl)
theorem dX1_made_16 : decode cX1_made 16 = .ok (.if_icmp .ne 32, 3) := dk_160 0 32 (dk_at dksX1_made_0 16 rfl rfl)
theorem dX1_made_19 : decode cX1_made 19 = .ok (.new 238, 3) := dk_187 0 238 (dk_at dksX1_made_0 19 rfl rfl)
theorem dX1_made_22 : decode cX1_made 22 = .ok (.dup, 1) := dk_89 (dk_at dksX1_made_0 22 rfl rfl)
theorem dX1_made_23 : decode cX1_made 23 = .ok (.aload_n 1, 1) := dk_43 (dk_at dksX1_made_0 23 rfl rfl)
theorem dX1_made_24 : decode cX1_made 24 = .ok (.getfield 486, 3) := dk_180 1 230 (dk_at dksX1_made_1 0 rfl rfl)
theorem dX1_made_27 : decode cX1_made 27 = .ok (.iload_n 2, 1) := dk_28 (dk_at dksX1_made_1 3 rfl rfl)
theorem dX1_made_28 : decode cX1_made 28 = .ok (.aload_n 1, 1) := dk_43 (dk_at dksX1_made_1 4 rfl rfl)
theorem dX1_made_29 : decode cX1_made 29 = .ok (.getfield 483, 3) := dk_180 1 227 (dk_at dksX1_made_1 5 rfl rfl)
theorem dX1_made_32 : decode cX1_made 32 = .ok (.aload_n 1, 1) := dk_43 (dk_at dksX1_made_1 8 rfl rfl)
theorem dX1_made_33 : decode cX1_made 33 = .ok (.getfield 488, 3) := dk_180 1 232 (dk_at dksX1_made_1 9 rfl rfl)
theorem dX1_made_36 : decode cX1_made 36 = .ok (.aload_n 1, 1) := dk_43 (dk_at dksX1_made_1 12 rfl rfl)
theorem dX1_made_37 : decode cX1_made 37 = .ok (.getfield 484, 3) := dk_180 1 228 (dk_at dksX1_made_1 13 rfl rfl)
theorem dX1_made_40 : decode cX1_made 40 = .ok (.aload_n 1, 1) := dk_43 (dk_at dksX1_made_1 16 rfl rfl)
theorem dX1_made_41 : decode cX1_made 41 = .ok (.getfield 485, 3) := dk_180 1 229 (dk_at dksX1_made_1 17 rfl rfl)
theorem dX1_made_44 : decode cX1_made 44 = .ok (.invokespecial 243, 3) := dk_183 0 243 (dk_at dksX1_made_1 20 rfl rfl)
theorem dX1_made_47 : decode cX1_made 47 = .ok (.areturn, 1) := dk_176 (dk_at dksX1_made_1 23 rfl rfl)
theorem dX1_made_48 : decode cX1_made 48 = .ok (.new 257, 3) := dk_187 1 1 (dk_at dksX1_made_2 0 rfl rfl)
theorem dX1_made_51 : decode cX1_made 51 = .ok (.dup, 1) := dk_89 (dk_at dksX1_made_2 3 rfl rfl)
theorem dX1_made_52 : decode cX1_made 52 = .ok (.aload_n 0, 1) := dk_42 (dk_at dksX1_made_2 4 rfl rfl)
theorem dX1_made_53 : decode cX1_made 53 = .ok (.getfield 10, 3) := dk_180 0 10 (dk_at dksX1_made_2 5 rfl rfl)
theorem dX1_made_56 : decode cX1_made 56 = .ok (.getfield 240, 3) := dk_180 0 240 (dk_at dksX1_made_2 8 rfl rfl)
theorem dX1_made_59 : decode cX1_made 59 = .ok (.aload_n 1, 1) := dk_43 (dk_at dksX1_made_2 11 rfl rfl)
theorem dX1_made_60 : decode cX1_made 60 = .ok (.getfield 479, 3) := dk_180 1 223 (dk_at dksX1_made_2 12 rfl rfl)
theorem dX1_made_63 : decode cX1_made 63 = .ok (.invokevirtual 310, 3) := dk_182 1 54 (dk_at dksX1_made_2 15 rfl rfl)
theorem dX1_made_66 : decode cX1_made 66 = .ok (.checkcast 263, 3) := dk_192 1 7 (dk_at dksX1_made_2 18 rfl rfl)
theorem dX1_made_69 : decode cX1_made 69 = .ok (.iload_n 2, 1) := dk_28 (dk_at dksX1_made_2 21 rfl rfl)
theorem dX1_made_70 : decode cX1_made 70 = .ok (.aload_n 1, 1) := dk_43 (dk_at dksX1_made_2 22 rfl rfl)
theorem dX1_made_71 : decode cX1_made 71 = .ok (.getfield 483, 3) := dk_180 1 227 (dk_at dksX1_made_3 0 rfl rfl)
theorem dX1_made_74 : decode cX1_made 74 = .ok (.aload_n 1, 1) := dk_43 (dk_at dksX1_made_3 3 rfl rfl)
theorem dX1_made_75 : decode cX1_made 75 = .ok (.getfield 488, 3) := dk_180 1 232 (dk_at dksX1_made_3 4 rfl rfl)
theorem dX1_made_78 : decode cX1_made 78 = .ok (.aload_n 1, 1) := dk_43 (dk_at dksX1_made_3 7 rfl rfl)
theorem dX1_made_79 : decode cX1_made 79 = .ok (.getfield 484, 3) := dk_180 1 228 (dk_at dksX1_made_3 8 rfl rfl)
theorem dX1_made_82 : decode cX1_made 82 = .ok (.aload_n 1, 1) := dk_43 (dk_at dksX1_made_3 11 rfl rfl)
theorem dX1_made_83 : decode cX1_made 83 = .ok (.getfield 485, 3) := dk_180 1 229 (dk_at dksX1_made_3 12 rfl rfl)
theorem dX1_made_86 : decode cX1_made 86 = .ok (.invokespecial 259, 3) := dk_183 1 3 (dk_at dksX1_made_3 15 rfl rfl)
theorem dX1_made_89 : decode cX1_made 89 = .ok (.areturn, 1) := dk_176 (dk_at dksX1_made_3 18 rfl rfl)
abbrev cX1_faultPosition : ByteArray := prog_1_method_72_code
def yX1_faultPosition : MethodName := ⟨RX1, "faultPosition", "()I"⟩
def dkwX1_faultPosition_0 : List UInt8 := [42, 180, 0, 51, 2, 159, 0, 7, 4, 167, 0, 4, 3, 184, 1, 51, 42, 180, 0, 51, 172]
abbrev dktX1_faultPosition_0 : List UInt8 := dkwX1_faultPosition_0 ++ []
theorem dksX1_faultPosition_0 : cX1_faultPosition.data.toList.drop 0 = dktX1_faultPosition_0 := by decide +kernel
theorem dX1_faultPosition_0 : decode cX1_faultPosition 0 = .ok (.aload_n 0, 1) := dk_42 (dk_at dksX1_faultPosition_0 0 rfl rfl)
theorem dX1_faultPosition_1 : decode cX1_faultPosition 1 = .ok (.getfield 51, 3) := dk_180 0 51 (dk_at dksX1_faultPosition_0 1 rfl rfl)
theorem dX1_faultPosition_4 : decode cX1_faultPosition 4 = .ok (.iconst (-1), 1) := dk_2 (dk_at dksX1_faultPosition_0 4 rfl rfl)
theorem dX1_faultPosition_5 : decode cX1_faultPosition 5 = .ok (.if_icmp .eq 7, 3) := dk_159 0 7 (dk_at dksX1_faultPosition_0 5 rfl rfl)
theorem dX1_faultPosition_8 : decode cX1_faultPosition 8 = .ok (.iconst 1, 1) := dk_4 (dk_at dksX1_faultPosition_0 8 rfl rfl)
theorem dX1_faultPosition_9 : decode cX1_faultPosition 9 = .ok (.goto 4, 3) := dk_167 0 4 (dk_at dksX1_faultPosition_0 9 rfl rfl)
theorem dX1_faultPosition_12 : decode cX1_faultPosition 12 = .ok (.iconst 0, 1) := dk_3 (dk_at dksX1_faultPosition_0 12 rfl rfl)
theorem dX1_faultPosition_13 : decode cX1_faultPosition 13 = .ok (.invokestatic 307, 3) := dk_184 1 51 (dk_at dksX1_faultPosition_0 13 rfl rfl)
theorem dX1_faultPosition_16 : decode cX1_faultPosition 16 = .ok (.aload_n 0, 1) := dk_42 (dk_at dksX1_faultPosition_0 16 rfl rfl)
theorem dX1_faultPosition_17 : decode cX1_faultPosition 17 = .ok (.getfield 51, 3) := dk_180 0 51 (dk_at dksX1_faultPosition_0 17 rfl rfl)
theorem dX1_faultPosition_20 : decode cX1_faultPosition 20 = .ok (.ireturn, 1) := dk_172 (dk_at dksX1_faultPosition_0 20 rfl rfl)
abbrev cX1_explain : ByteArray := prog_1_method_73_code
def yX1_explain : MethodName := ⟨RX1, "explain", "(III)I"⟩
def dkwX1_explain_5 : List UInt8 := [182, 1, 216, 172]
abbrev dktX1_explain_5 : List UInt8 := dkwX1_explain_5 ++ []
def dkwX1_explain_4 : List UInt8 := [19, 2, 15, 182, 2, 7, 25, 4, 182, 1, 85, 182, 2, 17, 182, 2, 7, 87, 42, 180, 0, 55]
abbrev dktX1_explain_4 : List UInt8 := dkwX1_explain_4 ++ dktX1_explain_5
def dkwX1_explain_3 : List UInt8 := [167, 255, 214, 42, 180, 0, 55, 21, 5, 154, 0, 9, 19, 2, 13, 167, 0, 6, 19, 2, 5, 182, 2, 7]
abbrev dktX1_explain_3 : List UInt8 := dkwX1_explain_3 ++ dktX1_explain_4
def dkwX1_explain_2 : List UInt8 := [167, 0, 6, 19, 2, 5, 182, 2, 7, 25, 4, 21, 6, 182, 1, 91, 182, 2, 10, 87, 132, 6, 1]
abbrev dktX1_explain_2 : List UInt8 := dkwX1_explain_2 ++ dktX1_explain_3
def dkwX1_explain_1 : List UInt8 := [3, 54, 6, 21, 6, 21, 5, 162, 0, 41, 42, 180, 0, 55, 21, 6, 158, 0, 9, 19, 2, 3]
abbrev dktX1_explain_1 : List UInt8 := dkwX1_explain_1 ++ dktX1_explain_2
def dkwX1_explain_0 : List UInt8 := [42, 27, 28, 29, 182, 1, 71, 58, 4, 42, 180, 0, 55, 3, 182, 1, 251, 25, 4, 182, 1, 88, 54, 5]
abbrev dktX1_explain_0 : List UInt8 := dkwX1_explain_0 ++ dktX1_explain_1
theorem dksX1_explain_0 : cX1_explain.data.toList.drop 0 = dktX1_explain_0 := by decide +kernel
theorem dksX1_explain_1 : cX1_explain.data.toList.drop 24 = dktX1_explain_1 := dk_seg dksX1_explain_0 24 rfl rfl
theorem dksX1_explain_2 : cX1_explain.data.toList.drop 46 = dktX1_explain_2 := dk_seg dksX1_explain_1 22 rfl rfl
theorem dksX1_explain_3 : cX1_explain.data.toList.drop 69 = dktX1_explain_3 := dk_seg dksX1_explain_2 23 rfl rfl
theorem dksX1_explain_4 : cX1_explain.data.toList.drop 93 = dktX1_explain_4 := dk_seg dksX1_explain_3 24 rfl rfl
theorem dksX1_explain_5 : cX1_explain.data.toList.drop 115 = dktX1_explain_5 := dk_seg dksX1_explain_4 22 rfl rfl
theorem dX1_explain_0 : decode cX1_explain 0 = .ok (.aload_n 0, 1) := dk_42 (dk_at dksX1_explain_0 0 rfl rfl)
theorem dX1_explain_1 : decode cX1_explain 1 = .ok (.iload_n 1, 1) := dk_27 (dk_at dksX1_explain_0 1 rfl rfl)
theorem dX1_explain_2 : decode cX1_explain 2 = .ok (.iload_n 2, 1) := dk_28 (dk_at dksX1_explain_0 2 rfl rfl)
theorem dX1_explain_3 : decode cX1_explain 3 = .ok (.iload_n 3, 1) := dk_29 (dk_at dksX1_explain_0 3 rfl rfl)
theorem dX1_explain_4 : decode cX1_explain 4 = .ok (.invokevirtual 327, 3) := dk_182 1 71 (dk_at dksX1_explain_0 4 rfl rfl)
theorem dX1_explain_7 : decode cX1_explain 7 = .ok (.astore 4, 2) := dk_58 4 (dk_at dksX1_explain_0 7 rfl rfl)
theorem dX1_explain_9 : decode cX1_explain 9 = .ok (.aload_n 0, 1) := dk_42 (dk_at dksX1_explain_0 9 rfl rfl)
theorem dX1_explain_10 : decode cX1_explain 10 = .ok (.getfield 55, 3) := dk_180 0 55 (dk_at dksX1_explain_0 10 rfl rfl)
theorem dX1_explain_13 : decode cX1_explain 13 = .ok (.iconst 0, 1) := dk_3 (dk_at dksX1_explain_0 13 rfl rfl)
theorem dX1_explain_14 : decode cX1_explain 14 = .ok (.invokevirtual 507, 3) := dk_182 1 251 (dk_at dksX1_explain_0 14 rfl rfl)
theorem dX1_explain_17 : decode cX1_explain 17 = .ok (.aload 4, 2) := dk_25 4 (dk_at dksX1_explain_0 17 rfl rfl)
theorem dX1_explain_19 : decode cX1_explain 19 = .ok (.invokevirtual 344, 3) := dk_182 1 88 (dk_at dksX1_explain_0 19 rfl rfl)
theorem dX1_explain_22 : decode cX1_explain 22 = .ok (.istore 5, 2) := dk_54 5 (dk_at dksX1_explain_0 22 rfl rfl)
theorem dX1_explain_24 : decode cX1_explain 24 = .ok (.iconst 0, 1) := dk_3 (dk_at dksX1_explain_1 0 rfl rfl)
theorem dX1_explain_25 : decode cX1_explain 25 = .ok (.istore 6, 2) := dk_54 6 (dk_at dksX1_explain_1 1 rfl rfl)
theorem dX1_explain_27 : decode cX1_explain 27 = .ok (.iload 6, 2) := dk_21 6 (dk_at dksX1_explain_1 3 rfl rfl)
theorem dX1_explain_29 : decode cX1_explain 29 = .ok (.iload 5, 2) := dk_21 5 (dk_at dksX1_explain_1 5 rfl rfl)
theorem dX1_explain_31 : decode cX1_explain 31 = .ok (.if_icmp .ge 41, 3) := dk_162 0 41 (dk_at dksX1_explain_1 7 rfl rfl)
theorem dX1_explain_34 : decode cX1_explain 34 = .ok (.aload_n 0, 1) := dk_42 (dk_at dksX1_explain_1 10 rfl rfl)
theorem dX1_explain_35 : decode cX1_explain 35 = .ok (.getfield 55, 3) := dk_180 0 55 (dk_at dksX1_explain_1 11 rfl rfl)
theorem dX1_explain_38 : decode cX1_explain 38 = .ok (.iload 6, 2) := dk_21 6 (dk_at dksX1_explain_1 14 rfl rfl)
theorem dX1_explain_40 : decode cX1_explain 40 = .ok (.ifCond .le 9, 3) := dk_158 0 9 (dk_at dksX1_explain_1 16 rfl rfl)
theorem dX1_explain_43 : decode cX1_explain 43 = .ok (.ldc_w 515, 3) := dk_19 2 3 (dk_at dksX1_explain_1 19 rfl rfl)
theorem dX1_explain_46 : decode cX1_explain 46 = .ok (.goto 6, 3) := dk_167 0 6 (dk_at dksX1_explain_2 0 rfl rfl)
theorem dX1_explain_49 : decode cX1_explain 49 = .ok (.ldc_w 517, 3) := dk_19 2 5 (dk_at dksX1_explain_2 3 rfl rfl)
theorem dX1_explain_52 : decode cX1_explain 52 = .ok (.invokevirtual 519, 3) := dk_182 2 7 (dk_at dksX1_explain_2 6 rfl rfl)
theorem dX1_explain_55 : decode cX1_explain 55 = .ok (.aload 4, 2) := dk_25 4 (dk_at dksX1_explain_2 9 rfl rfl)
theorem dX1_explain_57 : decode cX1_explain 57 = .ok (.iload 6, 2) := dk_21 6 (dk_at dksX1_explain_2 11 rfl rfl)
theorem dX1_explain_59 : decode cX1_explain 59 = .ok (.invokevirtual 347, 3) := dk_182 1 91 (dk_at dksX1_explain_2 13 rfl rfl)
theorem dX1_explain_62 : decode cX1_explain 62 = .ok (.invokevirtual 522, 3) := dk_182 2 10 (dk_at dksX1_explain_2 16 rfl rfl)
theorem dX1_explain_65 : decode cX1_explain 65 = .ok (.pop, 1) := dk_87 (dk_at dksX1_explain_2 19 rfl rfl)
theorem dX1_explain_66 : decode cX1_explain 66 = .ok (.iinc 6 1, 3) := dk_132 6 1 (dk_at dksX1_explain_2 20 rfl rfl)
theorem dX1_explain_69 : decode cX1_explain 69 = .ok (.goto (-42), 3) := dk_167 255 214 (dk_at dksX1_explain_3 0 rfl rfl)
theorem dX1_explain_72 : decode cX1_explain 72 = .ok (.aload_n 0, 1) := dk_42 (dk_at dksX1_explain_3 3 rfl rfl)
theorem dX1_explain_73 : decode cX1_explain 73 = .ok (.getfield 55, 3) := dk_180 0 55 (dk_at dksX1_explain_3 4 rfl rfl)
theorem dX1_explain_76 : decode cX1_explain 76 = .ok (.iload 5, 2) := dk_21 5 (dk_at dksX1_explain_3 7 rfl rfl)
theorem dX1_explain_78 : decode cX1_explain 78 = .ok (.ifCond .ne 9, 3) := dk_154 0 9 (dk_at dksX1_explain_3 9 rfl rfl)
theorem dX1_explain_81 : decode cX1_explain 81 = .ok (.ldc_w 525, 3) := dk_19 2 13 (dk_at dksX1_explain_3 12 rfl rfl)
theorem dX1_explain_84 : decode cX1_explain 84 = .ok (.goto 6, 3) := dk_167 0 6 (dk_at dksX1_explain_3 15 rfl rfl)
theorem dX1_explain_87 : decode cX1_explain 87 = .ok (.ldc_w 517, 3) := dk_19 2 5 (dk_at dksX1_explain_3 18 rfl rfl)
theorem dX1_explain_90 : decode cX1_explain 90 = .ok (.invokevirtual 519, 3) := dk_182 2 7 (dk_at dksX1_explain_3 21 rfl rfl)
theorem dX1_explain_93 : decode cX1_explain 93 = .ok (.ldc_w 527, 3) := dk_19 2 15 (dk_at dksX1_explain_4 0 rfl rfl)
theorem dX1_explain_96 : decode cX1_explain 96 = .ok (.invokevirtual 519, 3) := dk_182 2 7 (dk_at dksX1_explain_4 3 rfl rfl)
theorem dX1_explain_99 : decode cX1_explain 99 = .ok (.aload 4, 2) := dk_25 4 (dk_at dksX1_explain_4 6 rfl rfl)
theorem dX1_explain_101 : decode cX1_explain 101 = .ok (.invokevirtual 341, 3) := dk_182 1 85 (dk_at dksX1_explain_4 8 rfl rfl)
theorem dX1_explain_104 : decode cX1_explain 104 = .ok (.invokevirtual 529, 3) := dk_182 2 17 (dk_at dksX1_explain_4 11 rfl rfl)
theorem dX1_explain_107 : decode cX1_explain 107 = .ok (.invokevirtual 519, 3) := dk_182 2 7 (dk_at dksX1_explain_4 14 rfl rfl)
theorem dX1_explain_110 : decode cX1_explain 110 = .ok (.pop, 1) := dk_87 (dk_at dksX1_explain_4 17 rfl rfl)
theorem dX1_explain_111 : decode cX1_explain 111 = .ok (.aload_n 0, 1) := dk_42 (dk_at dksX1_explain_4 18 rfl rfl)
theorem dX1_explain_112 : decode cX1_explain 112 = .ok (.getfield 55, 3) := dk_180 0 55 (dk_at dksX1_explain_4 19 rfl rfl)
theorem dX1_explain_115 : decode cX1_explain 115 = .ok (.invokevirtual 472, 3) := dk_182 1 216 (dk_at dksX1_explain_5 0 rfl rfl)
theorem dX1_explain_118 : decode cX1_explain 118 = .ok (.ireturn, 1) := dk_172 (dk_at dksX1_explain_5 3 rfl rfl)
abbrev cX1_character : ByteArray := prog_1_method_74_code
def yX1_character : MethodName := ⟨RX1, "character", "(I)C"⟩
def dkwX1_character_1 : List UInt8 := [182, 2, 21, 172]
abbrev dktX1_character_1 : List UInt8 := dkwX1_character_1 ++ []
def dkwX1_character_0 : List UInt8 := [27, 3, 42, 180, 0, 55, 182, 1, 216, 4, 100, 184, 0, 134, 184, 1, 51, 42, 180, 0, 55, 27]
abbrev dktX1_character_0 : List UInt8 := dkwX1_character_0 ++ dktX1_character_1
theorem dksX1_character_0 : cX1_character.data.toList.drop 0 = dktX1_character_0 := by decide +kernel
theorem dksX1_character_1 : cX1_character.data.toList.drop 22 = dktX1_character_1 := dk_seg dksX1_character_0 22 rfl rfl
theorem dX1_character_0 : decode cX1_character 0 = .ok (.iload_n 1, 1) := dk_27 (dk_at dksX1_character_0 0 rfl rfl)
theorem dX1_character_1 : decode cX1_character 1 = .ok (.iconst 0, 1) := dk_3 (dk_at dksX1_character_0 1 rfl rfl)
theorem dX1_character_2 : decode cX1_character 2 = .ok (.aload_n 0, 1) := dk_42 (dk_at dksX1_character_0 2 rfl rfl)
theorem dX1_character_3 : decode cX1_character 3 = .ok (.getfield 55, 3) := dk_180 0 55 (dk_at dksX1_character_0 3 rfl rfl)
theorem dX1_character_6 : decode cX1_character 6 = .ok (.invokevirtual 472, 3) := dk_182 1 216 (dk_at dksX1_character_0 6 rfl rfl)
theorem dX1_character_9 : decode cX1_character 9 = .ok (.iconst 1, 1) := dk_4 (dk_at dksX1_character_0 9 rfl rfl)
theorem dX1_character_10 : decode cX1_character 10 = .ok (.isub, 1) := dk_100 (dk_at dksX1_character_0 10 rfl rfl)
theorem dX1_character_11 : decode cX1_character 11 = .ok (.invokestatic 134, 3) := dk_184 0 134 (dk_at dksX1_character_0 11 rfl rfl)
theorem dX1_character_14 : decode cX1_character 14 = .ok (.invokestatic 307, 3) := dk_184 1 51 (dk_at dksX1_character_0 14 rfl rfl)
theorem dX1_character_17 : decode cX1_character 17 = .ok (.aload_n 0, 1) := dk_42 (dk_at dksX1_character_0 17 rfl rfl)
theorem dX1_character_18 : decode cX1_character 18 = .ok (.getfield 55, 3) := dk_180 0 55 (dk_at dksX1_character_0 18 rfl rfl)
theorem dX1_character_21 : decode cX1_character 21 = .ok (.iload_n 1, 1) := dk_27 (dk_at dksX1_character_0 21 rfl rfl)
theorem dX1_character_22 : decode cX1_character 22 = .ok (.invokevirtual 533, 3) := dk_182 2 21 (dk_at dksX1_character_1 0 rfl rfl)
theorem dX1_character_25 : decode cX1_character 25 = .ok (.ireturn, 1) := dk_172 (dk_at dksX1_character_1 3 rfl rfl)
abbrev cX1_reason : ByteArray := prog_1_method_75_code
def yX1_reason : MethodName := ⟨RX1, "reason", "(Z)I"⟩
def dkwX1_reason_1 : List UInt8 := [167, 0, 7, 42, 180, 0, 85, 172]
abbrev dktX1_reason_1 : List UInt8 := dkwX1_reason_1 ++ []
def dkwX1_reason_0 : List UInt8 := [42, 180, 0, 85, 153, 0, 7, 4, 167, 0, 4, 3, 184, 1, 51, 27, 153, 0, 10, 42, 180, 0, 89]
abbrev dktX1_reason_0 : List UInt8 := dkwX1_reason_0 ++ dktX1_reason_1
theorem dksX1_reason_0 : cX1_reason.data.toList.drop 0 = dktX1_reason_0 := by decide +kernel
theorem dksX1_reason_1 : cX1_reason.data.toList.drop 23 = dktX1_reason_1 := dk_seg dksX1_reason_0 23 rfl rfl
theorem dX1_reason_0 : decode cX1_reason 0 = .ok (.aload_n 0, 1) := dk_42 (dk_at dksX1_reason_0 0 rfl rfl)
theorem dX1_reason_1 : decode cX1_reason 1 = .ok (.getfield 85, 3) := dk_180 0 85 (dk_at dksX1_reason_0 1 rfl rfl)
theorem dX1_reason_4 : decode cX1_reason 4 = .ok (.ifCond .eq 7, 3) := dk_153 0 7 (dk_at dksX1_reason_0 4 rfl rfl)
theorem dX1_reason_7 : decode cX1_reason 7 = .ok (.iconst 1, 1) := dk_4 (dk_at dksX1_reason_0 7 rfl rfl)
theorem dX1_reason_8 : decode cX1_reason 8 = .ok (.goto 4, 3) := dk_167 0 4 (dk_at dksX1_reason_0 8 rfl rfl)
theorem dX1_reason_11 : decode cX1_reason 11 = .ok (.iconst 0, 1) := dk_3 (dk_at dksX1_reason_0 11 rfl rfl)
theorem dX1_reason_12 : decode cX1_reason 12 = .ok (.invokestatic 307, 3) := dk_184 1 51 (dk_at dksX1_reason_0 12 rfl rfl)
theorem dX1_reason_15 : decode cX1_reason 15 = .ok (.iload_n 1, 1) := dk_27 (dk_at dksX1_reason_0 15 rfl rfl)
theorem dX1_reason_16 : decode cX1_reason 16 = .ok (.ifCond .eq 10, 3) := dk_153 0 10 (dk_at dksX1_reason_0 16 rfl rfl)
theorem dX1_reason_19 : decode cX1_reason 19 = .ok (.aload_n 0, 1) := dk_42 (dk_at dksX1_reason_0 19 rfl rfl)
theorem dX1_reason_20 : decode cX1_reason 20 = .ok (.getfield 89, 3) := dk_180 0 89 (dk_at dksX1_reason_0 20 rfl rfl)
theorem dX1_reason_23 : decode cX1_reason 23 = .ok (.goto 7, 3) := dk_167 0 7 (dk_at dksX1_reason_1 0 rfl rfl)
theorem dX1_reason_26 : decode cX1_reason 26 = .ok (.aload_n 0, 1) := dk_42 (dk_at dksX1_reason_1 3 rfl rfl)
theorem dX1_reason_27 : decode cX1_reason 27 = .ok (.getfield 85, 3) := dk_180 0 85 (dk_at dksX1_reason_1 4 rfl rfl)
theorem dX1_reason_30 : decode cX1_reason 30 = .ok (.ireturn, 1) := dk_172 (dk_at dksX1_reason_1 7 rfl rfl)
abbrev cX1_account : ByteArray := prog_1_method_78_code
def yX1_account : MethodName := ⟨RX1, "account", "(I)I"⟩
def dkwX1_account_7 : List UInt8 := [180, 0, 19, 182, 0, 127, 172]
abbrev dktX1_account_7 : List UInt8 := dkwX1_account_7 ++ []
def dkwX1_account_6 : List UInt8 := [182, 1, 177, 167, 0, 27, 42, 182, 2, 43, 167, 0, 20, 42, 180, 0, 47, 182, 1, 216, 167, 0, 10, 42]
abbrev dktX1_account_6 : List UInt8 := dkwX1_account_6 ++ dktX1_account_7
def dkwX1_account_5 : List UInt8 := [180, 1, 118, 182, 0, 168, 167, 0, 47, 42, 42, 186, 2, 42, 0, 0, 182, 1, 174, 167, 0, 34, 42]
abbrev dktX1_account_5 : List UInt8 := dkwX1_account_5 ++ dktX1_account_6
def dkwX1_account_4 : List UInt8 := [186, 2, 33, 0, 0, 182, 2, 36, 167, 0, 67, 42, 182, 2, 39, 167, 0, 60, 42, 180, 0, 10]
abbrev dktX1_account_4 : List UInt8 := dkwX1_account_4 ++ dktX1_account_5
def dkwX1_account_3 : List UInt8 := [167, 0, 97, 42, 180, 0, 10, 186, 2, 30, 0, 0, 182, 0, 219, 167, 0, 82, 42, 180, 0, 10]
abbrev dktX1_account_3 : List UInt8 := dkwX1_account_3 ++ dktX1_account_4
def dkwX1_account_2 : List UInt8 := [42, 180, 0, 10, 180, 0, 164, 182, 0, 168, 167, 0, 110, 42, 180, 0, 10, 180, 0, 240, 182, 0, 168]
abbrev dktX1_account_2 : List UInt8 := dkwX1_account_2 ++ dktX1_account_3
def dkwX1_account_1 : List UInt8 := [170, 0, 0, 0, 166, 0, 0, 0, 0, 0, 0, 0, 9, 0, 0, 0, 53, 0, 0, 0, 66, 0, 0, 0, 79, 0, 0, 0, 94, 0, 0, 0, 109, 0, 0, 0, 116, 0, 0, 0, 129, 0, 0, 0, 142, 0, 0, 0, 149, 0, 0, 0, 156]
abbrev dktX1_account_1 : List UInt8 := dkwX1_account_1 ++ dktX1_account_2
def dkwX1_account_0 : List UInt8 := [27, 3, 16, 10, 184, 0, 134, 184, 0, 153, 27]
abbrev dktX1_account_0 : List UInt8 := dkwX1_account_0 ++ dktX1_account_1
theorem dksX1_account_0 : cX1_account.data.toList.drop 0 = dktX1_account_0 := by decide +kernel
theorem dksX1_account_1 : cX1_account.data.toList.drop 11 = dktX1_account_1 := dk_seg dksX1_account_0 11 rfl rfl
theorem dksX1_account_2 : cX1_account.data.toList.drop 64 = dktX1_account_2 := dk_seg dksX1_account_1 53 rfl rfl
theorem dksX1_account_3 : cX1_account.data.toList.drop 87 = dktX1_account_3 := dk_seg dksX1_account_2 23 rfl rfl
theorem dksX1_account_4 : cX1_account.data.toList.drop 109 = dktX1_account_4 := dk_seg dksX1_account_3 22 rfl rfl
theorem dksX1_account_5 : cX1_account.data.toList.drop 131 = dktX1_account_5 := dk_seg dksX1_account_4 22 rfl rfl
theorem dksX1_account_6 : cX1_account.data.toList.drop 154 = dktX1_account_6 := dk_seg dksX1_account_5 23 rfl rfl
theorem dksX1_account_7 : cX1_account.data.toList.drop 178 = dktX1_account_7 := dk_seg dksX1_account_6 24 rfl rfl
theorem dX1_account_0 : decode cX1_account 0 = .ok (.iload_n 1, 1) := dk_27 (dk_at dksX1_account_0 0 rfl rfl)
theorem dX1_account_1 : decode cX1_account 1 = .ok (.iconst 0, 1) := dk_3 (dk_at dksX1_account_0 1 rfl rfl)
theorem dX1_account_2 : decode cX1_account 2 = .ok (.bipush 10, 2) := dk_16 10 (dk_at dksX1_account_0 2 rfl rfl)
theorem dX1_account_4 : decode cX1_account 4 = .ok (.invokestatic 134, 3) := dk_184 0 134 (dk_at dksX1_account_0 4 rfl rfl)
theorem dX1_account_7 : decode cX1_account 7 = .ok (.invokestatic 153, 3) := dk_184 0 153 (dk_at dksX1_account_0 7 rfl rfl)
theorem dX1_account_10 : decode cX1_account 10 = .ok (.iload_n 1, 1) := dk_27 (dk_at dksX1_account_0 10 rfl rfl)
theorem dX1_account_11 : decode cX1_account 11 = .ok (.tableswitch 166 0 9 #[53, 66, 79, 94, 109, 116, 129, 142, 149, 156], 53) := by decide +kernel
theorem dX1_account_64 : decode cX1_account 64 = .ok (.aload_n 0, 1) := dk_42 (dk_at dksX1_account_2 0 rfl rfl)
theorem dX1_account_65 : decode cX1_account 65 = .ok (.getfield 10, 3) := dk_180 0 10 (dk_at dksX1_account_2 1 rfl rfl)
theorem dX1_account_68 : decode cX1_account 68 = .ok (.getfield 164, 3) := dk_180 0 164 (dk_at dksX1_account_2 4 rfl rfl)
theorem dX1_account_71 : decode cX1_account 71 = .ok (.invokevirtual 168, 3) := dk_182 0 168 (dk_at dksX1_account_2 7 rfl rfl)
theorem dX1_account_74 : decode cX1_account 74 = .ok (.goto 110, 3) := dk_167 0 110 (dk_at dksX1_account_2 10 rfl rfl)
theorem dX1_account_77 : decode cX1_account 77 = .ok (.aload_n 0, 1) := dk_42 (dk_at dksX1_account_2 13 rfl rfl)
theorem dX1_account_78 : decode cX1_account 78 = .ok (.getfield 10, 3) := dk_180 0 10 (dk_at dksX1_account_2 14 rfl rfl)
theorem dX1_account_81 : decode cX1_account 81 = .ok (.getfield 240, 3) := dk_180 0 240 (dk_at dksX1_account_2 17 rfl rfl)
theorem dX1_account_84 : decode cX1_account 84 = .ok (.invokevirtual 168, 3) := dk_182 0 168 (dk_at dksX1_account_2 20 rfl rfl)
theorem dX1_account_87 : decode cX1_account 87 = .ok (.goto 97, 3) := dk_167 0 97 (dk_at dksX1_account_3 0 rfl rfl)
theorem dX1_account_90 : decode cX1_account 90 = .ok (.aload_n 0, 1) := dk_42 (dk_at dksX1_account_3 3 rfl rfl)
theorem dX1_account_91 : decode cX1_account 91 = .ok (.getfield 10, 3) := dk_180 0 10 (dk_at dksX1_account_3 4 rfl rfl)
theorem dX1_account_94 : decode cX1_account 94 = .ok (.invokedynamic 542, 5) := by decide +kernel
theorem dX1_account_99 : decode cX1_account 99 = .ok (.invokevirtual 219, 3) := dk_182 0 219 (dk_at dksX1_account_3 12 rfl rfl)
theorem dX1_account_102 : decode cX1_account 102 = .ok (.goto 82, 3) := dk_167 0 82 (dk_at dksX1_account_3 15 rfl rfl)
theorem dX1_account_105 : decode cX1_account 105 = .ok (.aload_n 0, 1) := dk_42 (dk_at dksX1_account_3 18 rfl rfl)
theorem dX1_account_106 : decode cX1_account 106 = .ok (.getfield 10, 3) := dk_180 0 10 (dk_at dksX1_account_3 19 rfl rfl)
theorem dX1_account_109 : decode cX1_account 109 = .ok (.invokedynamic 545, 5) := by decide +kernel
theorem dX1_account_114 : decode cX1_account 114 = .ok (.invokevirtual 548, 3) := dk_182 2 36 (dk_at dksX1_account_4 5 rfl rfl)
theorem dX1_account_117 : decode cX1_account 117 = .ok (.goto 67, 3) := dk_167 0 67 (dk_at dksX1_account_4 8 rfl rfl)
theorem dX1_account_120 : decode cX1_account 120 = .ok (.aload_n 0, 1) := dk_42 (dk_at dksX1_account_4 11 rfl rfl)
theorem dX1_account_121 : decode cX1_account 121 = .ok (.invokevirtual 551, 3) := dk_182 2 39 (dk_at dksX1_account_4 12 rfl rfl)
theorem dX1_account_124 : decode cX1_account 124 = .ok (.goto 60, 3) := dk_167 0 60 (dk_at dksX1_account_4 15 rfl rfl)
theorem dX1_account_127 : decode cX1_account 127 = .ok (.aload_n 0, 1) := dk_42 (dk_at dksX1_account_4 18 rfl rfl)
theorem dX1_account_128 : decode cX1_account 128 = .ok (.getfield 10, 3) := dk_180 0 10 (dk_at dksX1_account_4 19 rfl rfl)
theorem dX1_account_131 : decode cX1_account 131 = .ok (.getfield 374, 3) := dk_180 1 118 (dk_at dksX1_account_5 0 rfl rfl)
theorem dX1_account_134 : decode cX1_account 134 = .ok (.invokevirtual 168, 3) := dk_182 0 168 (dk_at dksX1_account_5 3 rfl rfl)
theorem dX1_account_137 : decode cX1_account 137 = .ok (.goto 47, 3) := dk_167 0 47 (dk_at dksX1_account_5 6 rfl rfl)
theorem dX1_account_140 : decode cX1_account 140 = .ok (.aload_n 0, 1) := dk_42 (dk_at dksX1_account_5 9 rfl rfl)
theorem dX1_account_141 : decode cX1_account 141 = .ok (.aload_n 0, 1) := dk_42 (dk_at dksX1_account_5 10 rfl rfl)
theorem dX1_account_142 : decode cX1_account 142 = .ok (.invokedynamic 554, 5) := by decide +kernel
theorem dX1_account_147 : decode cX1_account 147 = .ok (.invokevirtual 430, 3) := dk_182 1 174 (dk_at dksX1_account_5 16 rfl rfl)
theorem dX1_account_150 : decode cX1_account 150 = .ok (.goto 34, 3) := dk_167 0 34 (dk_at dksX1_account_5 19 rfl rfl)
theorem dX1_account_153 : decode cX1_account 153 = .ok (.aload_n 0, 1) := dk_42 (dk_at dksX1_account_5 22 rfl rfl)
theorem dX1_account_154 : decode cX1_account 154 = .ok (.invokevirtual 433, 3) := dk_182 1 177 (dk_at dksX1_account_6 0 rfl rfl)
theorem dX1_account_157 : decode cX1_account 157 = .ok (.goto 27, 3) := dk_167 0 27 (dk_at dksX1_account_6 3 rfl rfl)
theorem dX1_account_160 : decode cX1_account 160 = .ok (.aload_n 0, 1) := dk_42 (dk_at dksX1_account_6 6 rfl rfl)
theorem dX1_account_161 : decode cX1_account 161 = .ok (.invokevirtual 555, 3) := dk_182 2 43 (dk_at dksX1_account_6 7 rfl rfl)
theorem dX1_account_164 : decode cX1_account 164 = .ok (.goto 20, 3) := dk_167 0 20 (dk_at dksX1_account_6 10 rfl rfl)
theorem dX1_account_167 : decode cX1_account 167 = .ok (.aload_n 0, 1) := dk_42 (dk_at dksX1_account_6 13 rfl rfl)
theorem dX1_account_168 : decode cX1_account 168 = .ok (.getfield 47, 3) := dk_180 0 47 (dk_at dksX1_account_6 14 rfl rfl)
theorem dX1_account_171 : decode cX1_account 171 = .ok (.invokevirtual 472, 3) := dk_182 1 216 (dk_at dksX1_account_6 17 rfl rfl)
theorem dX1_account_174 : decode cX1_account 174 = .ok (.goto 10, 3) := dk_167 0 10 (dk_at dksX1_account_6 20 rfl rfl)
theorem dX1_account_177 : decode cX1_account 177 = .ok (.aload_n 0, 1) := dk_42 (dk_at dksX1_account_6 23 rfl rfl)
theorem dX1_account_178 : decode cX1_account 178 = .ok (.getfield 19, 3) := dk_180 0 19 (dk_at dksX1_account_7 0 rfl rfl)
theorem dX1_account_181 : decode cX1_account 181 = .ok (.invokevirtual 127, 3) := dk_182 0 127 (dk_at dksX1_account_7 3 rfl rfl)
theorem dX1_account_184 : decode cX1_account 184 = .ok (.ireturn, 1) := dk_172 (dk_at dksX1_account_7 6 rfl rfl)
abbrev cX1_lambda_account_3 : ByteArray := prog_1_method_84_code
def yX1_lambda_account_3 : MethodName := ⟨RX1, "lambda$account$3", "(LPolicyNotation$Rule;)Z"⟩
theorem dX1_lambda_account_3_0 : decode cX1_lambda_account_3 0 = .ok (.aload_n 0, 1) := by decide +kernel
theorem dX1_lambda_account_3_1 : decode cX1_lambda_account_3 1 = .ok (.instanceof 238, 3) := by decide +kernel
theorem dX1_lambda_account_3_4 : decode cX1_lambda_account_3 4 = .ok (.ireturn, 1) := by decide +kernel
abbrev cX1_lambda_account_4 : ByteArray := prog_1_method_83_code
def yX1_lambda_account_4 : MethodName := ⟨RX1, "lambda$account$4", "(LPolicyNotation$Rule;)I"⟩
def dkwX1_lambda_account_4_0 : List UInt8 := [42, 180, 1, 6, 182, 0, 168, 172]
abbrev dktX1_lambda_account_4_0 : List UInt8 := dkwX1_lambda_account_4_0 ++ []
theorem dksX1_lambda_account_4_0 : cX1_lambda_account_4.data.toList.drop 0 = dktX1_lambda_account_4_0 := by decide +kernel
theorem dX1_lambda_account_4_0 : decode cX1_lambda_account_4 0 = .ok (.aload_n 0, 1) := dk_42 (dk_at dksX1_lambda_account_4_0 0 rfl rfl)
theorem dX1_lambda_account_4_1 : decode cX1_lambda_account_4 1 = .ok (.getfield 262, 3) := dk_180 1 6 (dk_at dksX1_lambda_account_4_0 1 rfl rfl)
theorem dX1_lambda_account_4_4 : decode cX1_lambda_account_4 4 = .ok (.invokevirtual 168, 3) := dk_182 0 168 (dk_at dksX1_lambda_account_4_0 4 rfl rfl)
theorem dX1_lambda_account_4_7 : decode cX1_lambda_account_4 7 = .ok (.ireturn, 1) := dk_172 (dk_at dksX1_lambda_account_4_0 7 rfl rfl)
abbrev cX1_deepest : ByteArray := prog_1_method_76_code
def yX1_deepest : MethodName := ⟨RX1, "deepest", "()I"⟩
def dkwX1_deepest_2 : List UInt8 := [172]
abbrev dktX1_deepest_2 : List UInt8 := dkwX1_deepest_2 ++ []
def dkwX1_deepest_1 : List UInt8 := [180, 0, 240, 28, 182, 1, 54, 192, 1, 7, 182, 1, 49, 184, 2, 25, 60, 132, 2, 1, 167, 255, 217, 27]
abbrev dktX1_deepest_1 : List UInt8 := dkwX1_deepest_1 ++ dktX1_deepest_2
def dkwX1_deepest_0 : List UInt8 := [2, 60, 3, 61, 28, 42, 180, 0, 10, 180, 0, 240, 182, 0, 168, 162, 0, 31, 27, 42, 180, 0, 10]
abbrev dktX1_deepest_0 : List UInt8 := dkwX1_deepest_0 ++ dktX1_deepest_1
theorem dksX1_deepest_0 : cX1_deepest.data.toList.drop 0 = dktX1_deepest_0 := by decide +kernel
theorem dksX1_deepest_1 : cX1_deepest.data.toList.drop 23 = dktX1_deepest_1 := dk_seg dksX1_deepest_0 23 rfl rfl
theorem dksX1_deepest_2 : cX1_deepest.data.toList.drop 47 = dktX1_deepest_2 := dk_seg dksX1_deepest_1 24 rfl rfl
theorem dX1_deepest_0 : decode cX1_deepest 0 = .ok (.iconst (-1), 1) := dk_2 (dk_at dksX1_deepest_0 0 rfl rfl)
theorem dX1_deepest_1 : decode cX1_deepest 1 = .ok (.istore_n 1, 1) := dk_60 (dk_at dksX1_deepest_0 1 rfl rfl)
theorem dX1_deepest_2 : decode cX1_deepest 2 = .ok (.iconst 0, 1) := dk_3 (dk_at dksX1_deepest_0 2 rfl rfl)
theorem dX1_deepest_3 : decode cX1_deepest 3 = .ok (.istore_n 2, 1) := dk_61 (dk_at dksX1_deepest_0 3 rfl rfl)
theorem dX1_deepest_4 : decode cX1_deepest 4 = .ok (.iload_n 2, 1) := dk_28 (dk_at dksX1_deepest_0 4 rfl rfl)
theorem dX1_deepest_5 : decode cX1_deepest 5 = .ok (.aload_n 0, 1) := dk_42 (dk_at dksX1_deepest_0 5 rfl rfl)
theorem dX1_deepest_6 : decode cX1_deepest 6 = .ok (.getfield 10, 3) := dk_180 0 10 (dk_at dksX1_deepest_0 6 rfl rfl)
theorem dX1_deepest_9 : decode cX1_deepest 9 = .ok (.getfield 240, 3) := dk_180 0 240 (dk_at dksX1_deepest_0 9 rfl rfl)
theorem dX1_deepest_12 : decode cX1_deepest 12 = .ok (.invokevirtual 168, 3) := dk_182 0 168 (dk_at dksX1_deepest_0 12 rfl rfl)
theorem dX1_deepest_15 : decode cX1_deepest 15 = .ok (.if_icmp .ge 31, 3) := dk_162 0 31 (dk_at dksX1_deepest_0 15 rfl rfl)
theorem dX1_deepest_18 : decode cX1_deepest 18 = .ok (.iload_n 1, 1) := dk_27 (dk_at dksX1_deepest_0 18 rfl rfl)
theorem dX1_deepest_19 : decode cX1_deepest 19 = .ok (.aload_n 0, 1) := dk_42 (dk_at dksX1_deepest_0 19 rfl rfl)
theorem dX1_deepest_20 : decode cX1_deepest 20 = .ok (.getfield 10, 3) := dk_180 0 10 (dk_at dksX1_deepest_0 20 rfl rfl)
theorem dX1_deepest_23 : decode cX1_deepest 23 = .ok (.getfield 240, 3) := dk_180 0 240 (dk_at dksX1_deepest_1 0 rfl rfl)
theorem dX1_deepest_26 : decode cX1_deepest 26 = .ok (.iload_n 2, 1) := dk_28 (dk_at dksX1_deepest_1 3 rfl rfl)
theorem dX1_deepest_27 : decode cX1_deepest 27 = .ok (.invokevirtual 310, 3) := dk_182 1 54 (dk_at dksX1_deepest_1 4 rfl rfl)
theorem dX1_deepest_30 : decode cX1_deepest 30 = .ok (.checkcast 263, 3) := dk_192 1 7 (dk_at dksX1_deepest_1 7 rfl rfl)
theorem dX1_deepest_33 : decode cX1_deepest 33 = .ok (.invokevirtual 305, 3) := dk_182 1 49 (dk_at dksX1_deepest_1 10 rfl rfl)
theorem dX1_deepest_36 : decode cX1_deepest 36 = .ok (.invokestatic 537, 3) := dk_184 2 25 (dk_at dksX1_deepest_1 13 rfl rfl)
theorem dX1_deepest_39 : decode cX1_deepest 39 = .ok (.istore_n 1, 1) := dk_60 (dk_at dksX1_deepest_1 16 rfl rfl)
theorem dX1_deepest_40 : decode cX1_deepest 40 = .ok (.iinc 2 1, 3) := dk_132 2 1 (dk_at dksX1_deepest_1 17 rfl rfl)
theorem dX1_deepest_43 : decode cX1_deepest 43 = .ok (.goto (-39), 3) := dk_167 255 217 (dk_at dksX1_deepest_1 20 rfl rfl)
theorem dX1_deepest_46 : decode cX1_deepest 46 = .ok (.iload_n 1, 1) := dk_27 (dk_at dksX1_deepest_1 23 rfl rfl)
theorem dX1_deepest_47 : decode cX1_deepest 47 = .ok (.ireturn, 1) := dk_172 (dk_at dksX1_deepest_2 0 rfl rfl)
abbrev cX1_lambda_account_5 : ByteArray := prog_1_method_82_code
def yX1_lambda_account_5 : MethodName := ⟨RX1, "lambda$account$5", "(LPolicyNotation$Work;)I"⟩
def dkwX1_lambda_account_5_0 : List UInt8 := [42, 43, 182, 1, 144, 153, 0, 7, 4, 167, 0, 4, 3, 172]
abbrev dktX1_lambda_account_5_0 : List UInt8 := dkwX1_lambda_account_5_0 ++ []
theorem dksX1_lambda_account_5_0 : cX1_lambda_account_5.data.toList.drop 0 = dktX1_lambda_account_5_0 := by decide +kernel
theorem dX1_lambda_account_5_0 : decode cX1_lambda_account_5 0 = .ok (.aload_n 0, 1) := dk_42 (dk_at dksX1_lambda_account_5_0 0 rfl rfl)
theorem dX1_lambda_account_5_1 : decode cX1_lambda_account_5 1 = .ok (.aload_n 1, 1) := dk_43 (dk_at dksX1_lambda_account_5_0 1 rfl rfl)
theorem dX1_lambda_account_5_2 : decode cX1_lambda_account_5 2 = .ok (.invokevirtual 400, 3) := dk_182 1 144 (dk_at dksX1_lambda_account_5_0 2 rfl rfl)
theorem dX1_lambda_account_5_5 : decode cX1_lambda_account_5 5 = .ok (.ifCond .eq 7, 3) := dk_153 0 7 (dk_at dksX1_lambda_account_5_0 5 rfl rfl)
theorem dX1_lambda_account_5_8 : decode cX1_lambda_account_5 8 = .ok (.iconst 1, 1) := dk_4 (dk_at dksX1_lambda_account_5_0 8 rfl rfl)
theorem dX1_lambda_account_5_9 : decode cX1_lambda_account_5 9 = .ok (.goto 4, 3) := dk_167 0 4 (dk_at dksX1_lambda_account_5_0 9 rfl rfl)
theorem dX1_lambda_account_5_12 : decode cX1_lambda_account_5 12 = .ok (.iconst 0, 1) := dk_3 (dk_at dksX1_lambda_account_5_0 12 rfl rfl)
theorem dX1_lambda_account_5_13 : decode cX1_lambda_account_5 13 = .ok (.ireturn, 1) := dk_172 (dk_at dksX1_lambda_account_5_0 13 rfl rfl)
abbrev cX1_keptRows : ByteArray := prog_1_method_77_code
def yX1_keptRows : MethodName := ⟨RX1, "keptRows", "()I"⟩
def dkwX1_keptRows_1 : List UInt8 := [58, 5, 27, 25, 5, 199, 0, 7, 3, 167, 0, 4, 4, 96, 60, 132, 4, 1, 167, 255, 228, 27, 172]
abbrev dktX1_keptRows_1 : List UInt8 := dkwX1_keptRows_1 ++ []
def dkwX1_keptRows_0 : List UInt8 := [3, 60, 42, 180, 0, 40, 77, 44, 190, 62, 3, 54, 4, 21, 4, 29, 162, 0, 28, 44, 21, 4, 50]
abbrev dktX1_keptRows_0 : List UInt8 := dkwX1_keptRows_0 ++ dktX1_keptRows_1
theorem dksX1_keptRows_0 : cX1_keptRows.data.toList.drop 0 = dktX1_keptRows_0 := by decide +kernel
theorem dksX1_keptRows_1 : cX1_keptRows.data.toList.drop 23 = dktX1_keptRows_1 := dk_seg dksX1_keptRows_0 23 rfl rfl
theorem dX1_keptRows_0 : decode cX1_keptRows 0 = .ok (.iconst 0, 1) := dk_3 (dk_at dksX1_keptRows_0 0 rfl rfl)
theorem dX1_keptRows_1 : decode cX1_keptRows 1 = .ok (.istore_n 1, 1) := dk_60 (dk_at dksX1_keptRows_0 1 rfl rfl)
theorem dX1_keptRows_2 : decode cX1_keptRows 2 = .ok (.aload_n 0, 1) := dk_42 (dk_at dksX1_keptRows_0 2 rfl rfl)
theorem dX1_keptRows_3 : decode cX1_keptRows 3 = .ok (.getfield 40, 3) := dk_180 0 40 (dk_at dksX1_keptRows_0 3 rfl rfl)
theorem dX1_keptRows_6 : decode cX1_keptRows 6 = .ok (.astore_n 2, 1) := dk_77 (dk_at dksX1_keptRows_0 6 rfl rfl)
theorem dX1_keptRows_7 : decode cX1_keptRows 7 = .ok (.aload_n 2, 1) := dk_44 (dk_at dksX1_keptRows_0 7 rfl rfl)
theorem dX1_keptRows_8 : decode cX1_keptRows 8 = .ok (.arraylength, 1) := dk_190 (dk_at dksX1_keptRows_0 8 rfl rfl)
theorem dX1_keptRows_9 : decode cX1_keptRows 9 = .ok (.istore_n 3, 1) := dk_62 (dk_at dksX1_keptRows_0 9 rfl rfl)
theorem dX1_keptRows_10 : decode cX1_keptRows 10 = .ok (.iconst 0, 1) := dk_3 (dk_at dksX1_keptRows_0 10 rfl rfl)
theorem dX1_keptRows_11 : decode cX1_keptRows 11 = .ok (.istore 4, 2) := dk_54 4 (dk_at dksX1_keptRows_0 11 rfl rfl)
theorem dX1_keptRows_13 : decode cX1_keptRows 13 = .ok (.iload 4, 2) := dk_21 4 (dk_at dksX1_keptRows_0 13 rfl rfl)
theorem dX1_keptRows_15 : decode cX1_keptRows 15 = .ok (.iload_n 3, 1) := dk_29 (dk_at dksX1_keptRows_0 15 rfl rfl)
theorem dX1_keptRows_16 : decode cX1_keptRows 16 = .ok (.if_icmp .ge 28, 3) := dk_162 0 28 (dk_at dksX1_keptRows_0 16 rfl rfl)
theorem dX1_keptRows_19 : decode cX1_keptRows 19 = .ok (.aload_n 2, 1) := dk_44 (dk_at dksX1_keptRows_0 19 rfl rfl)
theorem dX1_keptRows_20 : decode cX1_keptRows 20 = .ok (.iload 4, 2) := dk_21 4 (dk_at dksX1_keptRows_0 20 rfl rfl)
theorem dX1_keptRows_22 : decode cX1_keptRows 22 = .ok (.aaload, 1) := dk_50 (dk_at dksX1_keptRows_0 22 rfl rfl)
theorem dX1_keptRows_23 : decode cX1_keptRows 23 = .ok (.astore 5, 2) := dk_58 5 (dk_at dksX1_keptRows_1 0 rfl rfl)
theorem dX1_keptRows_25 : decode cX1_keptRows 25 = .ok (.iload_n 1, 1) := dk_27 (dk_at dksX1_keptRows_1 2 rfl rfl)
theorem dX1_keptRows_26 : decode cX1_keptRows 26 = .ok (.aload 5, 2) := dk_25 5 (dk_at dksX1_keptRows_1 3 rfl rfl)
theorem dX1_keptRows_28 : decode cX1_keptRows 28 = .ok (.ifnonnull 7, 3) := dk_199 0 7 (dk_at dksX1_keptRows_1 5 rfl rfl)
theorem dX1_keptRows_31 : decode cX1_keptRows 31 = .ok (.iconst 0, 1) := dk_3 (dk_at dksX1_keptRows_1 8 rfl rfl)
theorem dX1_keptRows_32 : decode cX1_keptRows 32 = .ok (.goto 4, 3) := dk_167 0 4 (dk_at dksX1_keptRows_1 9 rfl rfl)
theorem dX1_keptRows_35 : decode cX1_keptRows 35 = .ok (.iconst 1, 1) := dk_4 (dk_at dksX1_keptRows_1 12 rfl rfl)
theorem dX1_keptRows_36 : decode cX1_keptRows 36 = .ok (.iadd, 1) := dk_96 (dk_at dksX1_keptRows_1 13 rfl rfl)
theorem dX1_keptRows_37 : decode cX1_keptRows 37 = .ok (.istore_n 1, 1) := dk_60 (dk_at dksX1_keptRows_1 14 rfl rfl)
theorem dX1_keptRows_38 : decode cX1_keptRows 38 = .ok (.iinc 4 1, 3) := dk_132 4 1 (dk_at dksX1_keptRows_1 15 rfl rfl)
theorem dX1_keptRows_41 : decode cX1_keptRows 41 = .ok (.goto (-28), 3) := dk_167 255 228 (dk_at dksX1_keptRows_1 18 rfl rfl)
theorem dX1_keptRows_44 : decode cX1_keptRows 44 = .ok (.iload_n 1, 1) := dk_27 (dk_at dksX1_keptRows_1 21 rfl rfl)
theorem dX1_keptRows_45 : decode cX1_keptRows 45 = .ok (.ireturn, 1) := dk_172 (dk_at dksX1_keptRows_1 22 rfl rfl)
abbrev cX1_undo : ByteArray := prog_1_method_79_code
def yX1_undo : MethodName := ⟨RX1, "undo", "()I"⟩
def dkwX1_undo_1 : List UInt8 := [182, 2, 49, 192, 0, 7, 181, 0, 10, 42, 180, 0, 19, 182, 0, 127, 172]
abbrev dktX1_undo_1 : List UInt8 := dkwX1_undo_1 ++ []
def dkwX1_undo_0 : List UInt8 := [42, 180, 0, 19, 182, 2, 46, 154, 0, 7, 4, 167, 0, 4, 3, 184, 0, 171, 42, 42, 180, 0, 19]
abbrev dktX1_undo_0 : List UInt8 := dkwX1_undo_0 ++ dktX1_undo_1
theorem dksX1_undo_0 : cX1_undo.data.toList.drop 0 = dktX1_undo_0 := by decide +kernel
theorem dksX1_undo_1 : cX1_undo.data.toList.drop 23 = dktX1_undo_1 := dk_seg dksX1_undo_0 23 rfl rfl
theorem dX1_undo_0 : decode cX1_undo 0 = .ok (.aload_n 0, 1) := dk_42 (dk_at dksX1_undo_0 0 rfl rfl)
theorem dX1_undo_1 : decode cX1_undo 1 = .ok (.getfield 19, 3) := dk_180 0 19 (dk_at dksX1_undo_0 1 rfl rfl)
theorem dX1_undo_4 : decode cX1_undo 4 = .ok (.invokevirtual 558, 3) := dk_182 2 46 (dk_at dksX1_undo_0 4 rfl rfl)
theorem dX1_undo_7 : decode cX1_undo 7 = .ok (.ifCond .ne 7, 3) := dk_154 0 7 (dk_at dksX1_undo_0 7 rfl rfl)
theorem dX1_undo_10 : decode cX1_undo 10 = .ok (.iconst 1, 1) := dk_4 (dk_at dksX1_undo_0 10 rfl rfl)
theorem dX1_undo_11 : decode cX1_undo 11 = .ok (.goto 4, 3) := dk_167 0 4 (dk_at dksX1_undo_0 11 rfl rfl)
theorem dX1_undo_14 : decode cX1_undo 14 = .ok (.iconst 0, 1) := dk_3 (dk_at dksX1_undo_0 14 rfl rfl)
theorem dX1_undo_15 : decode cX1_undo 15 = .ok (.invokestatic 171, 3) := dk_184 0 171 (dk_at dksX1_undo_0 15 rfl rfl)
theorem dX1_undo_18 : decode cX1_undo 18 = .ok (.aload_n 0, 1) := dk_42 (dk_at dksX1_undo_0 18 rfl rfl)
theorem dX1_undo_19 : decode cX1_undo 19 = .ok (.aload_n 0, 1) := dk_42 (dk_at dksX1_undo_0 19 rfl rfl)
theorem dX1_undo_20 : decode cX1_undo 20 = .ok (.getfield 19, 3) := dk_180 0 19 (dk_at dksX1_undo_0 20 rfl rfl)
theorem dX1_undo_23 : decode cX1_undo 23 = .ok (.invokevirtual 561, 3) := dk_182 2 49 (dk_at dksX1_undo_1 0 rfl rfl)
theorem dX1_undo_26 : decode cX1_undo 26 = .ok (.checkcast 7, 3) := dk_192 0 7 (dk_at dksX1_undo_1 3 rfl rfl)
theorem dX1_undo_29 : decode cX1_undo 29 = .ok (.putfield 10, 3) := dk_181 0 10 (dk_at dksX1_undo_1 6 rfl rfl)
theorem dX1_undo_32 : decode cX1_undo 32 = .ok (.aload_n 0, 1) := dk_42 (dk_at dksX1_undo_1 9 rfl rfl)
theorem dX1_undo_33 : decode cX1_undo 33 = .ok (.getfield 19, 3) := dk_180 0 19 (dk_at dksX1_undo_1 10 rfl rfl)
theorem dX1_undo_36 : decode cX1_undo 36 = .ok (.invokevirtual 127, 3) := dk_182 0 127 (dk_at dksX1_undo_1 13 rfl rfl)
theorem dX1_undo_39 : decode cX1_undo 39 = .ok (.ireturn, 1) := dk_172 (dk_at dksX1_undo_1 16 rfl rfl)
abbrev cX1_restore : ByteArray := prog_1_method_81_code
def yX1_restore : MethodName := ⟨RX1, "restore", "()I"⟩
def dkwX1_restore_1 : List UInt8 := [181, 0, 10, 42, 180, 0, 19, 182, 2, 55, 42, 180, 0, 10, 180, 0, 240, 182, 0, 168, 172]
abbrev dktX1_restore_1 : List UInt8 := dkwX1_restore_1 ++ []
def dkwX1_restore_0 : List UInt8 := [42, 180, 2, 52, 198, 0, 7, 4, 167, 0, 4, 3, 184, 0, 171, 42, 42, 180, 2, 52, 182, 0, 174]
abbrev dktX1_restore_0 : List UInt8 := dkwX1_restore_0 ++ dktX1_restore_1
theorem dksX1_restore_0 : cX1_restore.data.toList.drop 0 = dktX1_restore_0 := by decide +kernel
theorem dksX1_restore_1 : cX1_restore.data.toList.drop 23 = dktX1_restore_1 := dk_seg dksX1_restore_0 23 rfl rfl
theorem dX1_restore_0 : decode cX1_restore 0 = .ok (.aload_n 0, 1) := dk_42 (dk_at dksX1_restore_0 0 rfl rfl)
theorem dX1_restore_1 : decode cX1_restore 1 = .ok (.getfield 564, 3) := dk_180 2 52 (dk_at dksX1_restore_0 1 rfl rfl)
theorem dX1_restore_4 : decode cX1_restore 4 = .ok (.ifnull 7, 3) := dk_198 0 7 (dk_at dksX1_restore_0 4 rfl rfl)
theorem dX1_restore_7 : decode cX1_restore 7 = .ok (.iconst 1, 1) := dk_4 (dk_at dksX1_restore_0 7 rfl rfl)
theorem dX1_restore_8 : decode cX1_restore 8 = .ok (.goto 4, 3) := dk_167 0 4 (dk_at dksX1_restore_0 8 rfl rfl)
theorem dX1_restore_11 : decode cX1_restore 11 = .ok (.iconst 0, 1) := dk_3 (dk_at dksX1_restore_0 11 rfl rfl)
theorem dX1_restore_12 : decode cX1_restore 12 = .ok (.invokestatic 171, 3) := dk_184 0 171 (dk_at dksX1_restore_0 12 rfl rfl)
theorem dX1_restore_15 : decode cX1_restore 15 = .ok (.aload_n 0, 1) := dk_42 (dk_at dksX1_restore_0 15 rfl rfl)
theorem dX1_restore_16 : decode cX1_restore 16 = .ok (.aload_n 0, 1) := dk_42 (dk_at dksX1_restore_0 16 rfl rfl)
theorem dX1_restore_17 : decode cX1_restore 17 = .ok (.getfield 564, 3) := dk_180 2 52 (dk_at dksX1_restore_0 17 rfl rfl)
theorem dX1_restore_20 : decode cX1_restore 20 = .ok (.invokevirtual 174, 3) := dk_182 0 174 (dk_at dksX1_restore_0 20 rfl rfl)
theorem dX1_restore_23 : decode cX1_restore 23 = .ok (.putfield 10, 3) := dk_181 0 10 (dk_at dksX1_restore_1 0 rfl rfl)
theorem dX1_restore_26 : decode cX1_restore 26 = .ok (.aload_n 0, 1) := dk_42 (dk_at dksX1_restore_1 3 rfl rfl)
theorem dX1_restore_27 : decode cX1_restore 27 = .ok (.getfield 19, 3) := dk_180 0 19 (dk_at dksX1_restore_1 4 rfl rfl)
theorem dX1_restore_30 : decode cX1_restore 30 = .ok (.invokevirtual 567, 3) := dk_182 2 55 (dk_at dksX1_restore_1 7 rfl rfl)
theorem dX1_restore_33 : decode cX1_restore 33 = .ok (.aload_n 0, 1) := dk_42 (dk_at dksX1_restore_1 10 rfl rfl)
theorem dX1_restore_34 : decode cX1_restore 34 = .ok (.getfield 10, 3) := dk_180 0 10 (dk_at dksX1_restore_1 11 rfl rfl)
theorem dX1_restore_37 : decode cX1_restore 37 = .ok (.getfield 240, 3) := dk_180 0 240 (dk_at dksX1_restore_1 14 rfl rfl)
theorem dX1_restore_40 : decode cX1_restore 40 = .ok (.invokevirtual 168, 3) := dk_182 0 168 (dk_at dksX1_restore_1 17 rfl rfl)
theorem dX1_restore_43 : decode cX1_restore 43 = .ok (.ireturn, 1) := dk_172 (dk_at dksX1_restore_1 20 rfl rfl)
theorem q92 : (Jvm.Cond.initialized "PolicyNotation") ∈ lw_all := lw_g (lw_at lw_m1 1 rfl) rfl
theorem q144 : (Jvm.Cond.instantiable "PolicyNotation" (11 : Nat)) ∈ lw_all := lw_g (lw_at lw_m1 53 rfl) rfl
theorem q146 : (Jvm.Cond.instanceMethod ({ cls := "PolicyNotation", name := "<init>", desc := "()V" } : Jvm.MethodName)) ∈ lw_all := lw_g (lw_at lw_m1 55 rfl) rfl
theorem q147 : (Jvm.Cond.code ({ cls := "PolicyNotation", name := "<init>", desc := "()V" } : Jvm.MethodName) prog_1_method_1_code (1 : Nat) (Option.none : Option Jvm.ClassFile.FieldType)) ∈ lw_all := lw_g (lw_at lw_m1 56 rfl) rfl
theorem q148 : (Jvm.Cond.methodLink "PolicyNotation" (1 : Nat) ({ cls := "java/lang/Object", name := "<init>", desc := "()V" } : Jvm.MethodName)) ∈ lw_all := lw_g (lw_at lw_m1 57 rfl) rfl
theorem q151 : (Jvm.Cond.classLink "PolicyNotation" (7 : Nat) "PolicyNotation$Policy") ∈ lw_all := lw_g (lw_at lw_m1 60 rfl) rfl
theorem q153 : (Jvm.Cond.methodLink "PolicyNotation" (9 : Nat) ({ cls := "PolicyNotation$Policy", name := "<init>", desc := "()V" } : Jvm.MethodName)) ∈ lw_all := lw_g (lw_at lw_m1 62 rfl) rfl
theorem q514 : (Jvm.Cond.fieldLinkNest "PolicyNotation" (202 : Nat) "PolicyNotation$Scope" "outer" "LPolicyNotation$Scope;" "PolicyNotation") ∈ lw_tbl := lw_at lw_m2 183 rfl
theorem q517 : (Jvm.Cond.fieldLinkNest "PolicyNotation" (206 : Nat) "PolicyNotation$Scope" "number" "I" "PolicyNotation") ∈ lw_tbl := lw_at lw_m2 186 rfl
theorem q520 : (Jvm.Cond.fieldLinkNest "PolicyNotation" (191 : Nat) "PolicyNotation$Scope" "own" "LPolicyNotation$Effect;" "PolicyNotation") ∈ lw_tbl := lw_at lw_m2 189 rfl
theorem q553 : (Jvm.Cond.selects "PolicyNotation" ({ cls := "java/lang/Object", name := "getClass", desc := "()Ljava/lang/Class;" } : Jvm.MethodName) ({ cls := "java/lang/Object", name := "getClass", desc := "()Ljava/lang/Class;" } : Jvm.MethodName)) ∈ lw_all := lw_g (lw_at lw_m2 222 rfl) rfl
theorem q594 : (Jvm.Cond.fieldLinkNest "PolicyNotation" (164 : Nat) "PolicyNotation$Policy" "scopes" "Ljava/util/ArrayList;" "PolicyNotation") ∈ lw_tbl := lw_at lw_m3 23 rfl
theorem q597 : (Jvm.Cond.fieldLinkNest "PolicyNotation" (240 : Nat) "PolicyNotation$Policy" "rules" "Ljava/util/ArrayList;" "PolicyNotation") ∈ lw_tbl := lw_at lw_m3 26 rfl
theorem q599 : (Jvm.Cond.fieldLinkNest "PolicyNotation" (374 : Nat) "PolicyNotation$Policy" "works" "Ljava/util/ArrayList;" "PolicyNotation") ∈ lw_tbl := lw_at lw_m3 28 rfl
theorem q607 : (Jvm.Cond.classLink "PolicyNotation" (16 : Nat) "java/util/ArrayDeque") ∈ lw_all := lw_g (lw_at lw_m3 36 rfl) rfl
theorem q609 : (Jvm.Cond.methodLink "PolicyNotation" (18 : Nat) ({ cls := "java/util/ArrayDeque", name := "<init>", desc := "()V" } : Jvm.MethodName)) ∈ lw_all := lw_g (lw_at lw_m3 38 rfl) rfl
theorem q624 : (Jvm.Cond.classLink "PolicyNotation" (23 : Nat) "PolicyNotation$Look") ∈ lw_all := lw_g (lw_at lw_m3 53 rfl) rfl
theorem q626 : (Jvm.Cond.methodLinkNest "PolicyNotation" (25 : Nat) ({ cls := "PolicyNotation$Look", name := "<init>", desc := "(LPolicyNotation;)V" } : Jvm.MethodName) "PolicyNotation") ∈ lw_tbl := lw_at lw_m3 55 rfl
theorem q656 : (Jvm.Cond.classLink "PolicyNotation" (32 : Nat) "PolicyNotation$Test") ∈ lw_all := lw_g (lw_at lw_m3 85 rfl) rfl
theorem q658 : (Jvm.Cond.classLink "PolicyNotation" (38 : Nat) "[F") ∈ lw_all := lw_g (lw_at lw_m3 87 rfl) rfl
theorem q660 : (Jvm.Cond.classLink "PolicyNotation" (44 : Nat) "java/lang/StringBuilder") ∈ lw_all := lw_g (lw_at lw_m3 89 rfl) rfl
theorem q661 : (Jvm.Cond.methodLink "PolicyNotation" (46 : Nat) ({ cls := "java/lang/StringBuilder", name := "<init>", desc := "()V" } : Jvm.MethodName)) ∈ lw_all := lw_g (lw_at lw_m3 90 rfl) rfl
theorem q662 : (Jvm.Cond.fieldLink "PolicyNotation" (10 : Nat) "PolicyNotation" "policy" "LPolicyNotation$Policy;") ∈ lw_all := lw_g (lw_at lw_m3 91 rfl) rfl
theorem q664 : (Jvm.Cond.fieldLink "PolicyNotation" (564 : Nat) "PolicyNotation" "saved" "LPolicyNotation$Policy;") ∈ lw_all := lw_g (lw_at lw_m3 93 rfl) rfl
theorem q665 : (Jvm.Cond.fieldLink "PolicyNotation" (19 : Nat) "PolicyNotation" "past" "Ljava/util/ArrayDeque;") ∈ lw_all := lw_g (lw_at lw_m3 94 rfl) rfl
theorem q666 : (Jvm.Cond.fieldLink "PolicyNotation" (28 : Nat) "PolicyNotation" "look" "LPolicyNotation$Look;") ∈ lw_all := lw_g (lw_at lw_m3 95 rfl) rfl
theorem q667 : (Jvm.Cond.fieldLink "PolicyNotation" (85 : Nat) "PolicyNotation" "reason" "I") ∈ lw_all := lw_g (lw_at lw_m3 96 rfl) rfl
theorem q668 : (Jvm.Cond.fieldLink "PolicyNotation" (89 : Nat) "PolicyNotation" "detail" "I") ∈ lw_all := lw_g (lw_at lw_m3 97 rfl) rfl
theorem q669 : (Jvm.Cond.fieldLink "PolicyNotation" (34 : Nat) "PolicyNotation" "sheet" "[LPolicyNotation$Test;") ∈ lw_all := lw_g (lw_at lw_m3 98 rfl) rfl
theorem q670 : (Jvm.Cond.fieldLink "PolicyNotation" (40 : Nat) "PolicyNotation" "rows" "[[F") ∈ lw_all := lw_g (lw_at lw_m3 99 rfl) rfl
theorem q671 : (Jvm.Cond.fieldLink "PolicyNotation" (47 : Nat) "PolicyNotation" "text" "Ljava/lang/StringBuilder;") ∈ lw_all := lw_g (lw_at lw_m3 100 rfl) rfl
theorem q672 : (Jvm.Cond.fieldLink "PolicyNotation" (51 : Nat) "PolicyNotation" "faultAt" "I") ∈ lw_all := lw_g (lw_at lw_m3 101 rfl) rfl
theorem q673 : (Jvm.Cond.fieldLink "PolicyNotation" (55 : Nat) "PolicyNotation" "explanation" "Ljava/lang/StringBuilder;") ∈ lw_all := lw_g (lw_at lw_m3 102 rfl) rfl
theorem q674 : (Jvm.Cond.lays "PolicyNotation" "PolicyNotation" "policy" "LPolicyNotation$Policy;") ∈ lw_all := lw_g (lw_at lw_m3 103 rfl) rfl
theorem q675 : (Jvm.Cond.soleField "PolicyNotation" "policy") ∈ lw_all := lw_g (lw_at lw_m3 104 rfl) rfl
theorem q676 : (Jvm.Cond.lays "PolicyNotation" "PolicyNotation" "saved" "LPolicyNotation$Policy;") ∈ lw_all := lw_g (lw_at lw_m3 105 rfl) rfl
theorem q677 : (Jvm.Cond.soleField "PolicyNotation" "saved") ∈ lw_all := lw_g (lw_at lw_m3 106 rfl) rfl
theorem q678 : (Jvm.Cond.laysFinal "PolicyNotation" "PolicyNotation" "past" "Ljava/util/ArrayDeque;") ∈ lw_all := lw_g (lw_at lw_m3 107 rfl) rfl
theorem q679 : (Jvm.Cond.soleField "PolicyNotation" "past") ∈ lw_all := lw_g (lw_at lw_m3 108 rfl) rfl
theorem q680 : (Jvm.Cond.laysFinal "PolicyNotation" "PolicyNotation" "look" "LPolicyNotation$Look;") ∈ lw_all := lw_g (lw_at lw_m3 109 rfl) rfl
theorem q681 : (Jvm.Cond.soleField "PolicyNotation" "look") ∈ lw_all := lw_g (lw_at lw_m3 110 rfl) rfl
theorem q682 : (Jvm.Cond.lays "PolicyNotation" "PolicyNotation" "reason" "I") ∈ lw_all := lw_g (lw_at lw_m3 111 rfl) rfl
theorem q683 : (Jvm.Cond.soleField "PolicyNotation" "reason") ∈ lw_all := lw_g (lw_at lw_m3 112 rfl) rfl
theorem q684 : (Jvm.Cond.lays "PolicyNotation" "PolicyNotation" "detail" "I") ∈ lw_all := lw_g (lw_at lw_m3 113 rfl) rfl
theorem q685 : (Jvm.Cond.soleField "PolicyNotation" "detail") ∈ lw_all := lw_g (lw_at lw_m3 114 rfl) rfl
theorem q686 : (Jvm.Cond.lays "PolicyNotation" "PolicyNotation" "sheet" "[LPolicyNotation$Test;") ∈ lw_all := lw_g (lw_at lw_m3 115 rfl) rfl
theorem q687 : (Jvm.Cond.soleField "PolicyNotation" "sheet") ∈ lw_all := lw_g (lw_at lw_m3 116 rfl) rfl
theorem q688 : (Jvm.Cond.laysFinal "PolicyNotation" "PolicyNotation" "rows" "[[F") ∈ lw_all := lw_g (lw_at lw_m3 117 rfl) rfl
theorem q689 : (Jvm.Cond.soleField "PolicyNotation" "rows") ∈ lw_all := lw_g (lw_at lw_m3 118 rfl) rfl
theorem q690 : (Jvm.Cond.laysFinal "PolicyNotation" "PolicyNotation" "text" "Ljava/lang/StringBuilder;") ∈ lw_all := lw_g (lw_at lw_m3 119 rfl) rfl
theorem q691 : (Jvm.Cond.soleField "PolicyNotation" "text") ∈ lw_all := lw_g (lw_at lw_m3 120 rfl) rfl
theorem q692 : (Jvm.Cond.lays "PolicyNotation" "PolicyNotation" "faultAt" "I") ∈ lw_all := lw_g (lw_at lw_m3 121 rfl) rfl
theorem q693 : (Jvm.Cond.soleField "PolicyNotation" "faultAt") ∈ lw_all := lw_g (lw_at lw_m3 122 rfl) rfl
theorem q694 : (Jvm.Cond.laysFinal "PolicyNotation" "PolicyNotation" "explanation" "Ljava/lang/StringBuilder;") ∈ lw_all := lw_g (lw_at lw_m3 123 rfl) rfl
theorem q695 : (Jvm.Cond.soleField "PolicyNotation" "explanation") ∈ lw_all := lw_g (lw_at lw_m3 124 rfl) rfl
theorem q696 : (Jvm.Cond.superclass "PolicyNotation" "java/lang/Object") ∈ lw_all := lw_g (lw_at lw_m3 125 rfl) rfl
theorem q698 : (Jvm.Cond.instanceMethod ({ cls := "PolicyNotation", name := "wrong", desc := "()I" } : Jvm.MethodName)) ∈ lw_all := lw_g (lw_at lw_m3 127 rfl) rfl
theorem q699 : (Jvm.Cond.selects "PolicyNotation" ({ cls := "PolicyNotation", name := "wrong", desc := "()I" } : Jvm.MethodName) ({ cls := "PolicyNotation", name := "wrong", desc := "()I" } : Jvm.MethodName)) ∈ lw_all := lw_g (lw_at lw_m3 128 rfl) rfl
theorem q700 : (Jvm.Cond.code ({ cls := "PolicyNotation", name := "wrong", desc := "()I" } : Jvm.MethodName) prog_1_method_51_code (3 : Nat) (Option.some Jvm.ClassFile.FieldType.int)) ∈ lw_all := lw_g (lw_at lw_m3 129 rfl) rfl
theorem q701 : (Jvm.Cond.methodLink "PolicyNotation" (168 : Nat) ({ cls := "java/util/ArrayList", name := "size", desc := "()I" } : Jvm.MethodName)) ∈ lw_all := lw_g (lw_at lw_m3 130 rfl) rfl
theorem q705 : (Jvm.Cond.methodLink "PolicyNotation" (310 : Nat) ({ cls := "java/util/ArrayList", name := "get", desc := "(I)Ljava/lang/Object;" } : Jvm.MethodName)) ∈ lw_all := lw_g (lw_at lw_m3 134 rfl) rfl
theorem q719 : (Jvm.Cond.classLink "PolicyNotation" (377 : Nat) "PolicyNotation$Work") ∈ lw_all := lw_g (lw_at lw_m3 148 rfl) rfl
theorem q720 : (Jvm.Cond.methodLink "PolicyNotation" (400 : Nat) ({ cls := "PolicyNotation", name := "isRight", desc := "(LPolicyNotation$Work;)Z" } : Jvm.MethodName)) ∈ lw_all := lw_g (lw_at lw_m3 149 rfl) rfl
theorem q721 : (Jvm.Cond.privateMethod ({ cls := "PolicyNotation", name := "isRight", desc := "(LPolicyNotation$Work;)Z" } : Jvm.MethodName)) ∈ lw_tbl := lw_at lw_m3 150 rfl
theorem q722 : (Jvm.Cond.instanceMethod ({ cls := "PolicyNotation", name := "isRight", desc := "(LPolicyNotation$Work;)Z" } : Jvm.MethodName)) ∈ lw_all := lw_g (lw_at lw_m3 151 rfl) rfl
theorem q723 : (Jvm.Cond.code ({ cls := "PolicyNotation", name := "isRight", desc := "(LPolicyNotation$Work;)Z" } : Jvm.MethodName) prog_1_method_45_code (2 : Nat) (Option.some Jvm.ClassFile.FieldType.boolean)) ∈ lw_all := lw_g (lw_at lw_m3 152 rfl) rfl
theorem q724 : (Jvm.Cond.methodLink "PolicyNotation" (385 : Nat) ({ cls := "PolicyNotation", name := "isRight", desc := "(LPolicyNotation$Work;I)Z" } : Jvm.MethodName)) ∈ lw_all := lw_g (lw_at lw_m3 153 rfl) rfl
theorem q725 : (Jvm.Cond.privateMethod ({ cls := "PolicyNotation", name := "isRight", desc := "(LPolicyNotation$Work;I)Z" } : Jvm.MethodName)) ∈ lw_tbl := lw_at lw_m3 154 rfl
theorem q726 : (Jvm.Cond.instanceMethod ({ cls := "PolicyNotation", name := "isRight", desc := "(LPolicyNotation$Work;I)Z" } : Jvm.MethodName)) ∈ lw_all := lw_g (lw_at lw_m3 155 rfl) rfl
theorem q727 : (Jvm.Cond.code ({ cls := "PolicyNotation", name := "isRight", desc := "(LPolicyNotation$Work;I)Z" } : Jvm.MethodName) prog_1_method_46_code (3 : Nat) (Option.some Jvm.ClassFile.FieldType.boolean)) ∈ lw_all := lw_g (lw_at lw_m3 156 rfl) rfl
theorem q728 : (Jvm.Cond.methodLink "PolicyNotation" (389 : Nat) ({ cls := "PolicyNotation", name := "outcomeOf", desc := "(LPolicyNotation$Work;I)LPolicyNotation$Effect;" } : Jvm.MethodName)) ∈ lw_all := lw_g (lw_at lw_m3 157 rfl) rfl
theorem q729 : (Jvm.Cond.privateMethod ({ cls := "PolicyNotation", name := "outcomeOf", desc := "(LPolicyNotation$Work;I)LPolicyNotation$Effect;" } : Jvm.MethodName)) ∈ lw_tbl := lw_at lw_m3 158 rfl
theorem q730 : (Jvm.Cond.instanceMethod ({ cls := "PolicyNotation", name := "outcomeOf", desc := "(LPolicyNotation$Work;I)LPolicyNotation$Effect;" } : Jvm.MethodName)) ∈ lw_all := lw_g (lw_at lw_m3 159 rfl) rfl
theorem q731 : (Jvm.Cond.code ({ cls := "PolicyNotation", name := "outcomeOf", desc := "(LPolicyNotation$Work;I)LPolicyNotation$Effect;" } : Jvm.MethodName) prog_1_method_44_code (3 : Nat) (Option.some (Jvm.ClassFile.FieldType.object "PolicyNotation$Effect"))) ∈ lw_all := lw_g (lw_at lw_m3 160 rfl) rfl
theorem q732 : (Jvm.Cond.methodLink "PolicyNotation" (382 : Nat) ({ cls := "PolicyNotation$Look", name := "at", desc := "(LPolicyNotation$Work;I)LPolicyNotation$Look;" } : Jvm.MethodName)) ∈ lw_all := lw_g (lw_at lw_m3 161 rfl) rfl
theorem q746 : (Jvm.Cond.methodLink "PolicyNotation" (341 : Nat) ({ cls := "PolicyNotation$Look", name := "outcome", desc := "()LPolicyNotation$Effect;" } : Jvm.MethodName)) ∈ lw_all := lw_g (lw_at lw_m3 175 rfl) rfl
theorem q784 : (Jvm.Cond.static ({ cls := "PolicyNotation", name := "isIn", desc := "(III)Z" } : Jvm.MethodName)) ∈ lw_all := lw_g (lw_at lw_m3 213 rfl) rfl
theorem q785 : (Jvm.Cond.code ({ cls := "PolicyNotation", name := "isIn", desc := "(III)Z" } : Jvm.MethodName) prog_1_method_2_code (3 : Nat) (Option.some Jvm.ClassFile.FieldType.boolean)) ∈ lw_all := lw_g (lw_at lw_m3 214 rfl) rfl
theorem q862 : (Jvm.Cond.instanceMethod ({ cls := "PolicyNotation", name := "tested", desc := "()I" } : Jvm.MethodName)) ∈ lw_all := lw_g (lw_at lw_m4 51 rfl) rfl
theorem q863 : (Jvm.Cond.selects "PolicyNotation" ({ cls := "PolicyNotation", name := "tested", desc := "()I" } : Jvm.MethodName) ({ cls := "PolicyNotation", name := "tested", desc := "()I" } : Jvm.MethodName)) ∈ lw_all := lw_g (lw_at lw_m4 52 rfl) rfl
theorem q864 : (Jvm.Cond.code ({ cls := "PolicyNotation", name := "tested", desc := "()I" } : Jvm.MethodName) prog_1_method_52_code (1 : Nat) (Option.some Jvm.ClassFile.FieldType.int)) ∈ lw_all := lw_g (lw_at lw_m4 53 rfl) rfl
theorem q865 : (Jvm.Cond.privateMethod ({ cls := "PolicyNotation", name := "chained", desc := "(LPolicyNotation$Work;)I" } : Jvm.MethodName)) ∈ lw_tbl := lw_at lw_m4 54 rfl
theorem q866 : (Jvm.Cond.instanceMethod ({ cls := "PolicyNotation", name := "chained", desc := "(LPolicyNotation$Work;)I" } : Jvm.MethodName)) ∈ lw_all := lw_g (lw_at lw_m4 55 rfl) rfl
theorem q867 : (Jvm.Cond.code ({ cls := "PolicyNotation", name := "chained", desc := "(LPolicyNotation$Work;)I" } : Jvm.MethodName) prog_1_method_53_code (2 : Nat) (Option.some Jvm.ClassFile.FieldType.int)) ∈ lw_all := lw_g (lw_at lw_m4 56 rfl) rfl
theorem q868 : (Jvm.Cond.methodLink "PolicyNotation" (421 : Nat) ({ cls := "PolicyNotation$Look", name := "chained", desc := "()I" } : Jvm.MethodName)) ∈ lw_all := lw_g (lw_at lw_m4 57 rfl) rfl
theorem q890 : (Jvm.Cond.methodLink "PolicyNotation" (417 : Nat) ({ cls := "PolicyNotation", name := "together", desc := "(LPolicyNotation$Told;)I" } : Jvm.MethodName)) ∈ lw_all := lw_g (lw_at lw_m4 79 rfl) rfl
theorem q891 : (Jvm.Cond.privateMethod ({ cls := "PolicyNotation", name := "together", desc := "(LPolicyNotation$Told;)I" } : Jvm.MethodName)) ∈ lw_tbl := lw_at lw_m4 80 rfl
theorem q892 : (Jvm.Cond.instanceMethod ({ cls := "PolicyNotation", name := "together", desc := "(LPolicyNotation$Told;)I" } : Jvm.MethodName)) ∈ lw_all := lw_g (lw_at lw_m4 81 rfl) rfl
theorem q893 : (Jvm.Cond.code ({ cls := "PolicyNotation", name := "together", desc := "(LPolicyNotation$Told;)I" } : Jvm.MethodName) prog_1_method_49_code (4 : Nat) (Option.some Jvm.ClassFile.FieldType.int)) ∈ lw_all := lw_g (lw_at lw_m4 82 rfl) rfl
theorem q894 : (Jvm.Cond.interfaceEntry "PolicyNotation" (409 : Nat)) ∈ lw_tbl := lw_at lw_m4 83 rfl
theorem q895 : (Jvm.Cond.methodLink "PolicyNotation" (409 : Nat) ({ cls := "PolicyNotation$Told", name := "of", desc := "(LPolicyNotation$Work;)I" } : Jvm.MethodName)) ∈ lw_all := lw_g (lw_at lw_m4 84 rfl) rfl
theorem q899 : (Jvm.Cond.instanceMethod ({ cls := "PolicyNotation", name := "save", desc := "()I" } : Jvm.MethodName)) ∈ lw_all := lw_g (lw_at lw_m4 88 rfl) rfl
theorem q900 : (Jvm.Cond.selects "PolicyNotation" ({ cls := "PolicyNotation", name := "save", desc := "()I" } : Jvm.MethodName) ({ cls := "PolicyNotation", name := "save", desc := "()I" } : Jvm.MethodName)) ∈ lw_all := lw_g (lw_at lw_m4 89 rfl) rfl
theorem q901 : (Jvm.Cond.code ({ cls := "PolicyNotation", name := "save", desc := "()I" } : Jvm.MethodName) prog_1_method_80_code (1 : Nat) (Option.some Jvm.ClassFile.FieldType.int)) ∈ lw_all := lw_g (lw_at lw_m4 90 rfl) rfl
theorem q902 : (Jvm.Cond.methodLink "PolicyNotation" (174 : Nat) ({ cls := "PolicyNotation$Policy", name := "copy", desc := "()LPolicyNotation$Policy;" } : Jvm.MethodName)) ∈ lw_all := lw_g (lw_at lw_m4 91 rfl) rfl
theorem q968 : (Jvm.Cond.fieldLinkNest "PolicyNotation" (297 : Nat) "PolicyNotation$Rule" "scope" "I" "PolicyNotation") ∈ lw_tbl := lw_at lw_m4 157 rfl
theorem q973 : (Jvm.Cond.fieldLinkNest "PolicyNotation" (299 : Nat) "PolicyNotation$Rule" "rank" "I" "PolicyNotation") ∈ lw_tbl := lw_at lw_m4 162 rfl
theorem q978 : (Jvm.Cond.fieldLinkNest "PolicyNotation" (289 : Nat) "PolicyNotation$Rule" "first" "I" "PolicyNotation") ∈ lw_tbl := lw_at lw_m4 167 rfl
theorem q982 : (Jvm.Cond.fieldLinkNest "PolicyNotation" (291 : Nat) "PolicyNotation$Rule" "last" "I" "PolicyNotation") ∈ lw_tbl := lw_at lw_m4 171 rfl
theorem q985 : (Jvm.Cond.fieldLinkNest "PolicyNotation" (286 : Nat) "PolicyNotation$Rule" "factor" "I" "PolicyNotation") ∈ lw_tbl := lw_at lw_m4 174 rfl
theorem q987 : (Jvm.Cond.fieldLinkNest "PolicyNotation" (262 : Nat) "PolicyNotation$Rule" "tests" "Ljava/util/ArrayList;" "PolicyNotation") ∈ lw_tbl := lw_at lw_m4 176 rfl
theorem q1053 : (Jvm.Cond.instanceMethod ({ cls := "PolicyNotation", name := "scope", desc := "(I)I" } : Jvm.MethodName)) ∈ lw_all := lw_g (lw_at lw_m5 2 rfl) rfl
theorem q1054 : (Jvm.Cond.selects "PolicyNotation" ({ cls := "PolicyNotation", name := "scope", desc := "(I)I" } : Jvm.MethodName) ({ cls := "PolicyNotation", name := "scope", desc := "(I)I" } : Jvm.MethodName)) ∈ lw_all := lw_g (lw_at lw_m5 3 rfl) rfl
theorem q1055 : (Jvm.Cond.code ({ cls := "PolicyNotation", name := "scope", desc := "(I)I" } : Jvm.MethodName) prog_1_method_17_code (5 : Nat) (Option.some Jvm.ClassFile.FieldType.int)) ∈ lw_all := lw_g (lw_at lw_m5 4 rfl) rfl
theorem q1056 : (Jvm.Cond.methodLink "PolicyNotation" (160 : Nat) ({ cls := "PolicyNotation$Policy", name := "scope", desc := "(I)LPolicyNotation$Scope;" } : Jvm.MethodName)) ∈ lw_all := lw_g (lw_at lw_m5 5 rfl) rfl
theorem q1066 : (Jvm.Cond.static ({ cls := "PolicyNotation", name := "checkIndex", desc := "(Z)V" } : Jvm.MethodName)) ∈ lw_all := lw_g (lw_at lw_m5 15 rfl) rfl
theorem q1067 : (Jvm.Cond.code ({ cls := "PolicyNotation", name := "checkIndex", desc := "(Z)V" } : Jvm.MethodName) prog_1_method_4_code (1 : Nat) (Option.none : Option Jvm.ClassFile.FieldType)) ∈ lw_all := lw_g (lw_at lw_m5 16 rfl) rfl
theorem q1068 : (Jvm.Cond.classLink "PolicyNotation" (58 : Nat) "java/lang/IndexOutOfBoundsException") ∈ lw_all := lw_g (lw_at lw_m5 17 rfl) rfl
theorem q1077 : (Jvm.Cond.methodLink "PolicyNotation" (60 : Nat) ({ cls := "java/lang/IndexOutOfBoundsException", name := "<init>", desc := "()V" } : Jvm.MethodName)) ∈ lw_all := lw_g (lw_at lw_m5 26 rfl) rfl
theorem q1089 : (Jvm.Cond.methodLink "PolicyNotation" (171 : Nat) ({ cls := "PolicyNotation", name := "checkState", desc := "(Z)V" } : Jvm.MethodName)) ∈ lw_all := lw_g (lw_at lw_m5 38 rfl) rfl
theorem q1090 : (Jvm.Cond.static ({ cls := "PolicyNotation", name := "checkState", desc := "(Z)V" } : Jvm.MethodName)) ∈ lw_all := lw_g (lw_at lw_m5 39 rfl) rfl
theorem q1091 : (Jvm.Cond.code ({ cls := "PolicyNotation", name := "checkState", desc := "(Z)V" } : Jvm.MethodName) prog_1_method_6_code (1 : Nat) (Option.none : Option Jvm.ClassFile.FieldType)) ∈ lw_all := lw_g (lw_at lw_m5 40 rfl) rfl
theorem q1092 : (Jvm.Cond.classLink "PolicyNotation" (64 : Nat) "java/lang/IllegalStateException") ∈ lw_all := lw_g (lw_at lw_m5 41 rfl) rfl
theorem q1101 : (Jvm.Cond.methodLink "PolicyNotation" (66 : Nat) ({ cls := "java/lang/IllegalStateException", name := "<init>", desc := "()V" } : Jvm.MethodName)) ∈ lw_all := lw_g (lw_at lw_m5 50 rfl) rfl
theorem q1107 : (Jvm.Cond.classLink "PolicyNotation" (178 : Nat) "PolicyNotation$Scope") ∈ lw_all := lw_g (lw_at lw_m5 56 rfl) rfl
theorem q1108 : (Jvm.Cond.methodLink "PolicyNotation" (180 : Nat) ({ cls := "PolicyNotation$Scope", name := "<init>", desc := "(LPolicyNotation$Scope;ILPolicyNotation$Effect;)V" } : Jvm.MethodName)) ∈ lw_all := lw_g (lw_at lw_m5 57 rfl) rfl
theorem q1109 : (Jvm.Cond.methodLink "PolicyNotation" (183 : Nat) ({ cls := "java/util/ArrayList", name := "add", desc := "(Ljava/lang/Object;)Z" } : Jvm.MethodName)) ∈ lw_all := lw_g (lw_at lw_m5 58 rfl) rfl
theorem q1110 : (Jvm.Cond.methodLink "PolicyNotation" (187 : Nat) ({ cls := "PolicyNotation", name := "changed", desc := "(LPolicyNotation$Policy;I)I" } : Jvm.MethodName)) ∈ lw_all := lw_g (lw_at lw_m5 59 rfl) rfl
theorem q1111 : (Jvm.Cond.privateMethod ({ cls := "PolicyNotation", name := "changed", desc := "(LPolicyNotation$Policy;I)I" } : Jvm.MethodName)) ∈ lw_tbl := lw_at lw_m5 60 rfl
theorem q1112 : (Jvm.Cond.instanceMethod ({ cls := "PolicyNotation", name := "changed", desc := "(LPolicyNotation$Policy;I)I" } : Jvm.MethodName)) ∈ lw_all := lw_g (lw_at lw_m5 61 rfl) rfl
theorem q1113 : (Jvm.Cond.code ({ cls := "PolicyNotation", name := "changed", desc := "(LPolicyNotation$Policy;I)I" } : Jvm.MethodName) prog_1_method_13_code (3 : Nat) (Option.some Jvm.ClassFile.FieldType.int)) ∈ lw_all := lw_g (lw_at lw_m5 62 rfl) rfl
theorem q1114 : (Jvm.Cond.methodLink "PolicyNotation" (123 : Nat) ({ cls := "java/util/ArrayDeque", name := "addLast", desc := "(Ljava/lang/Object;)V" } : Jvm.MethodName)) ∈ lw_all := lw_g (lw_at lw_m5 63 rfl) rfl
theorem q1139 : (Jvm.Cond.methodLink "PolicyNotation" (127 : Nat) ({ cls := "java/util/ArrayDeque", name := "size", desc := "()I" } : Jvm.MethodName)) ∈ lw_all := lw_g (lw_at lw_m5 88 rfl) rfl
theorem q1146 : (Jvm.Cond.methodLink "PolicyNotation" (130 : Nat) ({ cls := "java/util/ArrayDeque", name := "removeFirst", desc := "()Ljava/lang/Object;" } : Jvm.MethodName)) ∈ lw_all := lw_g (lw_at lw_m5 95 rfl) rfl
theorem q1177 : (Jvm.Cond.instanceMethod ({ cls := "PolicyNotation", name := "setDefault", desc := "(II)I" } : Jvm.MethodName)) ∈ lw_all := lw_g (lw_at lw_m5 126 rfl) rfl
theorem q1178 : (Jvm.Cond.selects "PolicyNotation" ({ cls := "PolicyNotation", name := "setDefault", desc := "(II)I" } : Jvm.MethodName) ({ cls := "PolicyNotation", name := "setDefault", desc := "(II)I" } : Jvm.MethodName)) ∈ lw_all := lw_g (lw_at lw_m5 127 rfl) rfl
theorem q1179 : (Jvm.Cond.code ({ cls := "PolicyNotation", name := "setDefault", desc := "(II)I" } : Jvm.MethodName) prog_1_method_18_code (6 : Nat) (Option.some Jvm.ClassFile.FieldType.int)) ∈ lw_all := lw_g (lw_at lw_m5 128 rfl) rfl
theorem q1180 : (Jvm.Cond.methodLink "PolicyNotation" (134 : Nat) ({ cls := "PolicyNotation", name := "isIn", desc := "(III)Z" } : Jvm.MethodName)) ∈ lw_all := lw_g (lw_at lw_m5 129 rfl) rfl
theorem q1181 : (Jvm.Cond.methodLink "PolicyNotation" (153 : Nat) ({ cls := "PolicyNotation", name := "check", desc := "(Z)V" } : Jvm.MethodName)) ∈ lw_all := lw_g (lw_at lw_m5 130 rfl) rfl
theorem q1182 : (Jvm.Cond.static ({ cls := "PolicyNotation", name := "check", desc := "(Z)V" } : Jvm.MethodName)) ∈ lw_all := lw_g (lw_at lw_m5 131 rfl) rfl
theorem q1183 : (Jvm.Cond.code ({ cls := "PolicyNotation", name := "check", desc := "(Z)V" } : Jvm.MethodName) prog_1_method_5_code (1 : Nat) (Option.none : Option Jvm.ClassFile.FieldType)) ∈ lw_all := lw_g (lw_at lw_m5 132 rfl) rfl
theorem q1184 : (Jvm.Cond.classLink "PolicyNotation" (61 : Nat) "java/lang/IllegalArgumentException") ∈ lw_all := lw_g (lw_at lw_m5 133 rfl) rfl
theorem q1185 : (Jvm.Cond.methodLink "PolicyNotation" (63 : Nat) ({ cls := "java/lang/IllegalArgumentException", name := "<init>", desc := "()V" } : Jvm.MethodName)) ∈ lw_all := lw_g (lw_at lw_m5 134 rfl) rfl
theorem q1189 : (Jvm.Cond.methodLink "PolicyNotation" (194 : Nat) ({ cls := "PolicyNotation", name := "numberOf", desc := "(LPolicyNotation$Effect;)I" } : Jvm.MethodName)) ∈ lw_all := lw_g (lw_at lw_m5 138 rfl) rfl
theorem q1190 : (Jvm.Cond.static ({ cls := "PolicyNotation", name := "numberOf", desc := "(LPolicyNotation$Effect;)I" } : Jvm.MethodName)) ∈ lw_all := lw_g (lw_at lw_m5 139 rfl) rfl
theorem q1191 : (Jvm.Cond.code ({ cls := "PolicyNotation", name := "numberOf", desc := "(LPolicyNotation$Effect;)I" } : Jvm.MethodName) prog_1_method_10_code (1 : Nat) (Option.some Jvm.ClassFile.FieldType.int)) ∈ lw_all := lw_g (lw_at lw_m5 140 rfl) rfl
theorem q1192 : (Jvm.Cond.methodLink "PolicyNotation" (105 : Nat) ({ cls := "PolicyNotation$Effect", name := "number", desc := "()I" } : Jvm.MethodName)) ∈ lw_all := lw_g (lw_at lw_m5 141 rfl) rfl
theorem q1207 : (Jvm.Cond.methodLink "PolicyNotation" (198 : Nat) ({ cls := "PolicyNotation", name := "effectOf", desc := "(I)LPolicyNotation$Effect;" } : Jvm.MethodName)) ∈ lw_all := lw_g (lw_at lw_m5 156 rfl) rfl
theorem q1208 : (Jvm.Cond.static ({ cls := "PolicyNotation", name := "effectOf", desc := "(I)LPolicyNotation$Effect;" } : Jvm.MethodName)) ∈ lw_all := lw_g (lw_at lw_m5 157 rfl) rfl
theorem q1209 : (Jvm.Cond.code ({ cls := "PolicyNotation", name := "effectOf", desc := "(I)LPolicyNotation$Effect;" } : Jvm.MethodName) prog_1_method_9_code (1 : Nat) (Option.some (Jvm.ClassFile.FieldType.object "PolicyNotation$Effect"))) ∈ lw_all := lw_g (lw_at lw_m5 158 rfl) rfl
theorem q1210 : (Jvm.Cond.fieldLink "PolicyNotation" (93 : Nat) "PolicyNotation$Effect" "PERMITS" "LPolicyNotation$Effect;") ∈ lw_all := lw_g (lw_at lw_m5 159 rfl) rfl
theorem q1211 : (Jvm.Cond.fieldLink "PolicyNotation" (99 : Nat) "PolicyNotation$Effect" "FORBIDS" "LPolicyNotation$Effect;") ∈ lw_all := lw_g (lw_at lw_m5 160 rfl) rfl
theorem q1213 : (Jvm.Cond.fieldLink "PolicyNotation" (102 : Nat) "PolicyNotation$Effect" "LIMITS" "LPolicyNotation$Effect;") ∈ lw_all := lw_g (lw_at lw_m5 162 rfl) rfl
theorem q1219 : (Jvm.Cond.instanceMethod ({ cls := "PolicyNotation", name := "scopeOf", desc := "(II)I" } : Jvm.MethodName)) ∈ lw_all := lw_g (lw_at lw_m5 168 rfl) rfl
theorem q1220 : (Jvm.Cond.selects "PolicyNotation" ({ cls := "PolicyNotation", name := "scopeOf", desc := "(II)I" } : Jvm.MethodName) ({ cls := "PolicyNotation", name := "scopeOf", desc := "(II)I" } : Jvm.MethodName)) ∈ lw_all := lw_g (lw_at lw_m5 169 rfl) rfl
theorem q1221 : (Jvm.Cond.code ({ cls := "PolicyNotation", name := "scopeOf", desc := "(II)I" } : Jvm.MethodName) prog_1_method_19_code (4 : Nat) (Option.some Jvm.ClassFile.FieldType.int)) ∈ lw_all := lw_g (lw_at lw_m5 170 rfl) rfl
theorem q1222 : (Jvm.Cond.methodLink "PolicyNotation" (208 : Nat) ({ cls := "PolicyNotation$Scope", name := "depth", desc := "()I" } : Jvm.MethodName)) ∈ lw_all := lw_g (lw_at lw_m5 171 rfl) rfl
theorem q1223 : (Jvm.Cond.methodLink "PolicyNotation" (211 : Nat) ({ cls := "PolicyNotation$Scope", name := "counts", desc := "()LPolicyNotation$Effect;" } : Jvm.MethodName)) ∈ lw_all := lw_g (lw_at lw_m5 172 rfl) rfl
theorem q1224 : (Jvm.Cond.static ({ cls := "PolicyNotation", name := "lambda$scopeOf$0", desc := "(ILPolicyNotation$Rule;)Z" } : Jvm.MethodName)) ∈ lw_all := lw_g (lw_at lw_m5 173 rfl) rfl
theorem q1225 : (Jvm.Cond.code ({ cls := "PolicyNotation", name := "lambda$scopeOf$0", desc := "(ILPolicyNotation$Rule;)Z" } : Jvm.MethodName) prog_1_method_87_code (2 : Nat) (Option.some Jvm.ClassFile.FieldType.boolean)) ∈ lw_all := lw_g (lw_at lw_m5 174 rfl) rfl
theorem q1226 : (Jvm.Cond.methodLink "PolicyNotation" (219 : Nat) ({ cls := "PolicyNotation$Policy", name := "count", desc := "(LPolicyNotation$Asked;)I" } : Jvm.MethodName)) ∈ lw_all := lw_g (lw_at lw_m5 175 rfl) rfl
theorem q1248 : (Jvm.Cond.instanceMethod ({ cls := "PolicyNotation", name := "isWithin", desc := "(II)Z" } : Jvm.MethodName)) ∈ lw_all := lw_g (lw_at lw_m5 197 rfl) rfl
theorem q1249 : (Jvm.Cond.selects "PolicyNotation" ({ cls := "PolicyNotation", name := "isWithin", desc := "(II)Z" } : Jvm.MethodName) ({ cls := "PolicyNotation", name := "isWithin", desc := "(II)Z" } : Jvm.MethodName)) ∈ lw_all := lw_g (lw_at lw_m5 198 rfl) rfl
theorem q1250 : (Jvm.Cond.code ({ cls := "PolicyNotation", name := "isWithin", desc := "(II)Z" } : Jvm.MethodName) prog_1_method_20_code (4 : Nat) (Option.some Jvm.ClassFile.FieldType.boolean)) ∈ lw_all := lw_g (lw_at lw_m5 199 rfl) rfl
theorem q1251 : (Jvm.Cond.methodLink "PolicyNotation" (139 : Nat) ({ cls := "PolicyNotation$Policy", name := "isScope", desc := "(I)Z" } : Jvm.MethodName)) ∈ lw_all := lw_g (lw_at lw_m5 200 rfl) rfl
theorem q1252 : (Jvm.Cond.methodLink "PolicyNotation" (143 : Nat) ({ cls := "PolicyNotation", name := "checkIndex", desc := "(Z)V" } : Jvm.MethodName)) ∈ lw_all := lw_g (lw_at lw_m5 201 rfl) rfl
theorem q1253 : (Jvm.Cond.methodLink "PolicyNotation" (223 : Nat) ({ cls := "PolicyNotation$Scope", name := "isWithin", desc := "(I)Z" } : Jvm.MethodName)) ∈ lw_all := lw_g (lw_at lw_m5 202 rfl) rfl
theorem q1259 : (Jvm.Cond.instanceMethod ({ cls := "PolicyNotation", name := "rule", desc := "(IIIII)I" } : Jvm.MethodName)) ∈ lw_all := lw_g (lw_at lw_m5 208 rfl) rfl
theorem q1260 : (Jvm.Cond.selects "PolicyNotation" ({ cls := "PolicyNotation", name := "rule", desc := "(IIIII)I" } : Jvm.MethodName) ({ cls := "PolicyNotation", name := "rule", desc := "(IIIII)I" } : Jvm.MethodName)) ∈ lw_all := lw_g (lw_at lw_m5 209 rfl) rfl
theorem q1261 : (Jvm.Cond.code ({ cls := "PolicyNotation", name := "rule", desc := "(IIIII)I" } : Jvm.MethodName) prog_1_method_22_code (7 : Nat) (Option.some Jvm.ClassFile.FieldType.int)) ∈ lw_all := lw_g (lw_at lw_m5 210 rfl) rfl
theorem q1262 : (Jvm.Cond.methodLink "PolicyNotation" (226 : Nat) ({ cls := "PolicyNotation", name := "isRank", desc := "(I)Z" } : Jvm.MethodName)) ∈ lw_all := lw_g (lw_at lw_m5 211 rfl) rfl
theorem q1263 : (Jvm.Cond.static ({ cls := "PolicyNotation", name := "isRank", desc := "(I)Z" } : Jvm.MethodName)) ∈ lw_all := lw_g (lw_at lw_m5 212 rfl) rfl
theorem q1264 : (Jvm.Cond.code ({ cls := "PolicyNotation", name := "isRank", desc := "(I)Z" } : Jvm.MethodName) prog_1_method_21_code (1 : Nat) (Option.some Jvm.ClassFile.FieldType.boolean)) ∈ lw_all := lw_g (lw_at lw_m5 213 rfl) rfl
theorem q1265 : (Jvm.Cond.methodLink "PolicyNotation" (147 : Nat) ({ cls := "PolicyNotation", name := "isDay", desc := "(I)Z" } : Jvm.MethodName)) ∈ lw_all := lw_g (lw_at lw_m5 214 rfl) rfl
theorem q1266 : (Jvm.Cond.static ({ cls := "PolicyNotation", name := "isDay", desc := "(I)Z" } : Jvm.MethodName)) ∈ lw_all := lw_g (lw_at lw_m5 215 rfl) rfl
theorem q1267 : (Jvm.Cond.code ({ cls := "PolicyNotation", name := "isDay", desc := "(I)Z" } : Jvm.MethodName) prog_1_method_14_code (1 : Nat) (Option.some Jvm.ClassFile.FieldType.boolean)) ∈ lw_all := lw_g (lw_at lw_m5 216 rfl) rfl
theorem q1268 : (Jvm.Cond.classLink "PolicyNotation" (71 : Nat) "PolicyNotation$Whys") ∈ lw_all := lw_g (lw_at lw_m5 217 rfl) rfl
theorem q1270 : (Jvm.Cond.methodLinkNest "PolicyNotation" (229 : Nat) ({ cls := "PolicyNotation$Whys", name := "<init>", desc := "()V" } : Jvm.MethodName) "PolicyNotation") ∈ lw_tbl := lw_at lw_m5 219 rfl
theorem q1275 : (Jvm.Cond.fieldLinkNest "PolicyNotation" (76 : Nat) "PolicyNotation$Whys" "first" "LPolicyNotation$Why;" "PolicyNotation") ∈ lw_tbl := lw_at lw_m5 224 rfl
theorem q1279 : (Jvm.Cond.methodLink "PolicyNotation" (230 : Nat) ({ cls := "PolicyNotation$Policy", name := "barsRule", desc := "(LPolicyNotation$Whys;II)LPolicyNotation$Whys;" } : Jvm.MethodName)) ∈ lw_all := lw_g (lw_at lw_m5 228 rfl) rfl
theorem q1294 : (Jvm.Cond.fieldLinkNest "PolicyNotation" (80 : Nat) "PolicyNotation$Why" "reason" "I" "PolicyNotation") ∈ lw_tbl := lw_at lw_m6 3 rfl
theorem q1296 : (Jvm.Cond.fieldLinkNest "PolicyNotation" (86 : Nat) "PolicyNotation$Why" "detail" "I" "PolicyNotation") ∈ lw_tbl := lw_at lw_m6 5 rfl
theorem q1302 : (Jvm.Cond.methodLink "PolicyNotation" (234 : Nat) ({ cls := "PolicyNotation", name := "refuse", desc := "(LPolicyNotation$Whys;)V" } : Jvm.MethodName)) ∈ lw_all := lw_g (lw_at lw_m6 11 rfl) rfl
theorem q1303 : (Jvm.Cond.privateMethod ({ cls := "PolicyNotation", name := "refuse", desc := "(LPolicyNotation$Whys;)V" } : Jvm.MethodName)) ∈ lw_tbl := lw_at lw_m6 12 rfl
theorem q1304 : (Jvm.Cond.instanceMethod ({ cls := "PolicyNotation", name := "refuse", desc := "(LPolicyNotation$Whys;)V" } : Jvm.MethodName)) ∈ lw_all := lw_g (lw_at lw_m6 13 rfl) rfl
theorem q1305 : (Jvm.Cond.code ({ cls := "PolicyNotation", name := "refuse", desc := "(LPolicyNotation$Whys;)V" } : Jvm.MethodName) prog_1_method_8_code (2 : Nat) (Option.none : Option Jvm.ClassFile.FieldType)) ∈ lw_all := lw_g (lw_at lw_m6 14 rfl) rfl
theorem q1306 : (Jvm.Cond.methodLink "PolicyNotation" (70 : Nat) ({ cls := "PolicyNotation$Whys", name := "isNone", desc := "()Z" } : Jvm.MethodName)) ∈ lw_all := lw_g (lw_at lw_m6 15 rfl) rfl
theorem q1310 : (Jvm.Cond.classLink "PolicyNotation" (90 : Nat) "java/lang/UnsupportedOperationException") ∈ lw_all := lw_g (lw_at lw_m6 19 rfl) rfl
theorem q1319 : (Jvm.Cond.methodLink "PolicyNotation" (92 : Nat) ({ cls := "java/lang/UnsupportedOperationException", name := "<init>", desc := "()V" } : Jvm.MethodName)) ∈ lw_all := lw_g (lw_at lw_m6 28 rfl) rfl
theorem q1325 : (Jvm.Cond.classLink "PolicyNotation" (238 : Nat) "PolicyNotation$Main") ∈ lw_all := lw_g (lw_at lw_m6 34 rfl) rfl
theorem q1326 : (Jvm.Cond.methodLink "PolicyNotation" (243 : Nat) ({ cls := "PolicyNotation$Main", name := "<init>", desc := "(LPolicyNotation$Effect;IIIII)V" } : Jvm.MethodName)) ∈ lw_all := lw_g (lw_at lw_m6 35 rfl) rfl
theorem q1327 : (Jvm.Cond.methodLink "PolicyNotation" (246 : Nat) ({ cls := "PolicyNotation$Policy", name := "add", desc := "(LPolicyNotation$Rule;)I" } : Jvm.MethodName)) ∈ lw_all := lw_g (lw_at lw_m6 36 rfl) rfl
theorem q1335 : (Jvm.Cond.instanceMethod ({ cls := "PolicyNotation", name := "except", desc := "(IIIII)I" } : Jvm.MethodName)) ∈ lw_all := lw_g (lw_at lw_m6 44 rfl) rfl
theorem q1336 : (Jvm.Cond.selects "PolicyNotation" ({ cls := "PolicyNotation", name := "except", desc := "(IIIII)I" } : Jvm.MethodName) ({ cls := "PolicyNotation", name := "except", desc := "(IIIII)I" } : Jvm.MethodName)) ∈ lw_all := lw_g (lw_at lw_m6 45 rfl) rfl
theorem q1337 : (Jvm.Cond.code ({ cls := "PolicyNotation", name := "except", desc := "(IIIII)I" } : Jvm.MethodName) prog_1_method_23_code (8 : Nat) (Option.some Jvm.ClassFile.FieldType.int)) ∈ lw_all := lw_g (lw_at lw_m6 46 rfl) rfl
theorem q1338 : (Jvm.Cond.methodLink "PolicyNotation" (249 : Nat) ({ cls := "PolicyNotation$Policy", name := "rule", desc := "(I)LPolicyNotation$Rule;" } : Jvm.MethodName)) ∈ lw_all := lw_g (lw_at lw_m6 47 rfl) rfl
theorem q1346 : (Jvm.Cond.methodLink "PolicyNotation" (253 : Nat) ({ cls := "PolicyNotation$Policy", name := "barsException", desc := "(LPolicyNotation$Whys;LPolicyNotation$Rule;I)LPolicyNotation$Whys;" } : Jvm.MethodName)) ∈ lw_all := lw_g (lw_at lw_m6 55 rfl) rfl
theorem q1360 : (Jvm.Cond.classLink "PolicyNotation" (257 : Nat) "PolicyNotation$Exemption") ∈ lw_all := lw_g (lw_at lw_m6 69 rfl) rfl
theorem q1361 : (Jvm.Cond.methodLink "PolicyNotation" (259 : Nat) ({ cls := "PolicyNotation$Exemption", name := "<init>", desc := "(LPolicyNotation$Rule;IIIII)V" } : Jvm.MethodName)) ∈ lw_all := lw_g (lw_at lw_m6 70 rfl) rfl
theorem q1369 : (Jvm.Cond.instanceMethod ({ cls := "PolicyNotation", name := "test", desc := "(IIII)I" } : Jvm.MethodName)) ∈ lw_all := lw_g (lw_at lw_m6 78 rfl) rfl
theorem q1370 : (Jvm.Cond.selects "PolicyNotation" ({ cls := "PolicyNotation", name := "test", desc := "(IIII)I" } : Jvm.MethodName) ({ cls := "PolicyNotation", name := "test", desc := "(IIII)I" } : Jvm.MethodName)) ∈ lw_all := lw_g (lw_at lw_m6 79 rfl) rfl
theorem q1371 : (Jvm.Cond.code ({ cls := "PolicyNotation", name := "test", desc := "(IIII)I" } : Jvm.MethodName) prog_1_method_25_code (7 : Nat) (Option.some Jvm.ClassFile.FieldType.int)) ∈ lw_all := lw_g (lw_at lw_m6 80 rfl) rfl
theorem q1372 : (Jvm.Cond.methodLink "PolicyNotation" (278 : Nat) ({ cls := "PolicyNotation", name := "testBy", desc := "(III)LPolicyNotation$Test;" } : Jvm.MethodName)) ∈ lw_all := lw_g (lw_at lw_m6 81 rfl) rfl
theorem q1373 : (Jvm.Cond.static ({ cls := "PolicyNotation", name := "testBy", desc := "(III)LPolicyNotation$Test;" } : Jvm.MethodName)) ∈ lw_all := lw_g (lw_at lw_m6 82 rfl) rfl
theorem q1374 : (Jvm.Cond.code ({ cls := "PolicyNotation", name := "testBy", desc := "(III)LPolicyNotation$Test;" } : Jvm.MethodName) prog_1_method_11_code (3 : Nat) (Option.some (Jvm.ClassFile.FieldType.object "PolicyNotation$Test"))) ∈ lw_all := lw_g (lw_at lw_m6 83 rfl) rfl
theorem q1375 : (Jvm.Cond.classLink "PolicyNotation" (109 : Nat) "PolicyNotation$Equal") ∈ lw_all := lw_g (lw_at lw_m6 84 rfl) rfl
theorem q1377 : (Jvm.Cond.methodLink "PolicyNotation" (111 : Nat) ({ cls := "PolicyNotation$Equal", name := "<init>", desc := "(II)V" } : Jvm.MethodName)) ∈ lw_all := lw_g (lw_at lw_m6 86 rfl) rfl
theorem q1391 : (Jvm.Cond.classLink "PolicyNotation" (114 : Nat) "PolicyNotation$Less") ∈ lw_all := lw_g (lw_at lw_m6 100 rfl) rfl
theorem q1393 : (Jvm.Cond.methodLink "PolicyNotation" (116 : Nat) ({ cls := "PolicyNotation$Less", name := "<init>", desc := "(II)V" } : Jvm.MethodName)) ∈ lw_all := lw_g (lw_at lw_m6 102 rfl) rfl
theorem q1400 : (Jvm.Cond.classLink "PolicyNotation" (117 : Nat) "PolicyNotation$Greater") ∈ lw_all := lw_g (lw_at lw_m6 109 rfl) rfl
theorem q1402 : (Jvm.Cond.methodLink "PolicyNotation" (119 : Nat) ({ cls := "PolicyNotation$Greater", name := "<init>", desc := "(II)V" } : Jvm.MethodName)) ∈ lw_all := lw_g (lw_at lw_m6 111 rfl) rfl
theorem q1409 : (Jvm.Cond.classLink "PolicyNotation" (120 : Nat) "PolicyNotation$Unlike") ∈ lw_all := lw_g (lw_at lw_m6 118 rfl) rfl
theorem q1411 : (Jvm.Cond.methodLink "PolicyNotation" (122 : Nat) ({ cls := "PolicyNotation$Unlike", name := "<init>", desc := "(II)V" } : Jvm.MethodName)) ∈ lw_all := lw_g (lw_at lw_m6 120 rfl) rfl
theorem q1418 : (Jvm.Cond.methodLink "PolicyNotation" (282 : Nat) ({ cls := "PolicyNotation", name := "adds", desc := "(LPolicyNotation$Rule;[LPolicyNotation$Test;)LPolicyNotation$Whys;" } : Jvm.MethodName)) ∈ lw_all := lw_g (lw_at lw_m6 127 rfl) rfl
theorem q1419 : (Jvm.Cond.privateMethod ({ cls := "PolicyNotation", name := "adds", desc := "(LPolicyNotation$Rule;[LPolicyNotation$Test;)LPolicyNotation$Whys;" } : Jvm.MethodName)) ∈ lw_tbl := lw_at lw_m6 128 rfl
theorem q1420 : (Jvm.Cond.instanceMethod ({ cls := "PolicyNotation", name := "adds", desc := "(LPolicyNotation$Rule;[LPolicyNotation$Test;)LPolicyNotation$Whys;" } : Jvm.MethodName)) ∈ lw_all := lw_g (lw_at lw_m6 129 rfl) rfl
theorem q1421 : (Jvm.Cond.code ({ cls := "PolicyNotation", name := "adds", desc := "(LPolicyNotation$Rule;[LPolicyNotation$Test;)LPolicyNotation$Whys;" } : Jvm.MethodName) prog_1_method_24_code (8 : Nat) (Option.some (Jvm.ClassFile.FieldType.object "PolicyNotation$Whys"))) ∈ lw_all := lw_g (lw_at lw_m6 130 rfl) rfl
theorem q1422 : (Jvm.Cond.methodLink "PolicyNotation" (267 : Nat) ({ cls := "PolicyNotation$Rule", name := "impossible", desc := "()I" } : Jvm.MethodName)) ∈ lw_all := lw_g (lw_at lw_m6 131 rfl) rfl
theorem q1447 : (Jvm.Cond.methodLink "PolicyNotation" (270 : Nat) ({ cls := "PolicyNotation$Whys", name := "asks", desc := "(ZII)LPolicyNotation$Whys;" } : Jvm.MethodName)) ∈ lw_all := lw_g (lw_at lw_m6 156 rfl) rfl
theorem q1448 : (Jvm.Cond.methodLink "PolicyNotation" (274 : Nat) ({ cls := "java/util/ArrayList", name := "remove", desc := "(I)Ljava/lang/Object;" } : Jvm.MethodName)) ∈ lw_all := lw_g (lw_at lw_m6 157 rfl) rfl
theorem q1461 : (Jvm.Cond.instanceMethod ({ cls := "PolicyNotation", name := "setFactor", desc := "(II)I" } : Jvm.MethodName)) ∈ lw_all := lw_g (lw_at lw_m6 170 rfl) rfl
theorem q1462 : (Jvm.Cond.selects "PolicyNotation" ({ cls := "PolicyNotation", name := "setFactor", desc := "(II)I" } : Jvm.MethodName) ({ cls := "PolicyNotation", name := "setFactor", desc := "(II)I" } : Jvm.MethodName)) ∈ lw_all := lw_g (lw_at lw_m6 171 rfl) rfl
theorem q1463 : (Jvm.Cond.code ({ cls := "PolicyNotation", name := "setFactor", desc := "(II)I" } : Jvm.MethodName) prog_1_method_26_code (6 : Nat) (Option.some Jvm.ClassFile.FieldType.int)) ∈ lw_all := lw_g (lw_at lw_m6 172 rfl) rfl
theorem q1468 : (Jvm.Cond.instanceMethod ({ cls := "PolicyNotation", name := "end", desc := "(II)I" } : Jvm.MethodName)) ∈ lw_all := lw_g (lw_at lw_m6 177 rfl) rfl
theorem q1469 : (Jvm.Cond.selects "PolicyNotation" ({ cls := "PolicyNotation", name := "end", desc := "(II)I" } : Jvm.MethodName) ({ cls := "PolicyNotation", name := "end", desc := "(II)I" } : Jvm.MethodName)) ∈ lw_all := lw_g (lw_at lw_m6 178 rfl) rfl
theorem q1470 : (Jvm.Cond.code ({ cls := "PolicyNotation", name := "end", desc := "(II)I" } : Jvm.MethodName) prog_1_method_27_code (6 : Nat) (Option.some Jvm.ClassFile.FieldType.int)) ∈ lw_all := lw_g (lw_at lw_m6 179 rfl) rfl
theorem q1475 : (Jvm.Cond.instanceMethod ({ cls := "PolicyNotation", name := "ruleOf", desc := "(II)I" } : Jvm.MethodName)) ∈ lw_all := lw_g (lw_at lw_m6 184 rfl) rfl
theorem q1476 : (Jvm.Cond.selects "PolicyNotation" ({ cls := "PolicyNotation", name := "ruleOf", desc := "(II)I" } : Jvm.MethodName) ({ cls := "PolicyNotation", name := "ruleOf", desc := "(II)I" } : Jvm.MethodName)) ∈ lw_all := lw_g (lw_at lw_m6 185 rfl) rfl
theorem q1477 : (Jvm.Cond.code ({ cls := "PolicyNotation", name := "ruleOf", desc := "(II)I" } : Jvm.MethodName) prog_1_method_28_code (4 : Nat) (Option.some Jvm.ClassFile.FieldType.int)) ∈ lw_all := lw_g (lw_at lw_m6 186 rfl) rfl
theorem q1478 : (Jvm.Cond.methodLink "PolicyNotation" (294 : Nat) ({ cls := "PolicyNotation$Rule", name := "effect", desc := "()LPolicyNotation$Effect;" } : Jvm.MethodName)) ∈ lw_all := lw_g (lw_at lw_m6 187 rfl) rfl
theorem q1479 : (Jvm.Cond.methodLink "PolicyNotation" (302 : Nat) ({ cls := "PolicyNotation$Rule", name := "of", desc := "()I" } : Jvm.MethodName)) ∈ lw_all := lw_g (lw_at lw_m6 188 rfl) rfl
theorem q1480 : (Jvm.Cond.methodLink "PolicyNotation" (305 : Nat) ({ cls := "PolicyNotation$Rule", name := "depth", desc := "()I" } : Jvm.MethodName)) ∈ lw_all := lw_g (lw_at lw_m6 189 rfl) rfl
theorem q1481 : (Jvm.Cond.static ({ cls := "PolicyNotation", name := "lambda$ruleOf$1", desc := "(ILPolicyNotation$Rule;)Z" } : Jvm.MethodName)) ∈ lw_all := lw_g (lw_at lw_m6 190 rfl) rfl
theorem q1482 : (Jvm.Cond.code ({ cls := "PolicyNotation", name := "lambda$ruleOf$1", desc := "(ILPolicyNotation$Rule;)Z" } : Jvm.MethodName) prog_1_method_86_code (2 : Nat) (Option.some Jvm.ClassFile.FieldType.boolean)) ∈ lw_all := lw_g (lw_at lw_m6 191 rfl) rfl
theorem q1488 : (Jvm.Cond.instanceMethod ({ cls := "PolicyNotation", name := "testOf", desc := "(III)I" } : Jvm.MethodName)) ∈ lw_all := lw_g (lw_at lw_m6 197 rfl) rfl
theorem q1489 : (Jvm.Cond.selects "PolicyNotation" ({ cls := "PolicyNotation", name := "testOf", desc := "(III)I" } : Jvm.MethodName) ({ cls := "PolicyNotation", name := "testOf", desc := "(III)I" } : Jvm.MethodName)) ∈ lw_all := lw_g (lw_at lw_m6 198 rfl) rfl
theorem q1490 : (Jvm.Cond.code ({ cls := "PolicyNotation", name := "testOf", desc := "(III)I" } : Jvm.MethodName) prog_1_method_30_code (5 : Nat) (Option.some Jvm.ClassFile.FieldType.int)) ∈ lw_all := lw_g (lw_at lw_m6 199 rfl) rfl
theorem q1491 : (Jvm.Cond.methodLink "PolicyNotation" (313 : Nat) ({ cls := "PolicyNotation", name := "testAt", desc := "(LPolicyNotation$Rule;I)LPolicyNotation$Test;" } : Jvm.MethodName)) ∈ lw_all := lw_g (lw_at lw_m6 200 rfl) rfl
theorem q1492 : (Jvm.Cond.privateMethod ({ cls := "PolicyNotation", name := "testAt", desc := "(LPolicyNotation$Rule;I)LPolicyNotation$Test;" } : Jvm.MethodName)) ∈ lw_tbl := lw_at lw_m6 201 rfl
theorem q1493 : (Jvm.Cond.instanceMethod ({ cls := "PolicyNotation", name := "testAt", desc := "(LPolicyNotation$Rule;I)LPolicyNotation$Test;" } : Jvm.MethodName)) ∈ lw_all := lw_g (lw_at lw_m6 202 rfl) rfl
theorem q1494 : (Jvm.Cond.code ({ cls := "PolicyNotation", name := "testAt", desc := "(LPolicyNotation$Rule;I)LPolicyNotation$Test;" } : Jvm.MethodName) prog_1_method_29_code (3 : Nat) (Option.some (Jvm.ClassFile.FieldType.object "PolicyNotation$Test"))) ∈ lw_all := lw_g (lw_at lw_m6 203 rfl) rfl
theorem q1495 : (Jvm.Cond.methodLink "PolicyNotation" (307 : Nat) ({ cls := "PolicyNotation", name := "checkElement", desc := "(Z)V" } : Jvm.MethodName)) ∈ lw_all := lw_g (lw_at lw_m6 204 rfl) rfl
theorem q1496 : (Jvm.Cond.static ({ cls := "PolicyNotation", name := "checkElement", desc := "(Z)V" } : Jvm.MethodName)) ∈ lw_all := lw_g (lw_at lw_m6 205 rfl) rfl
theorem q1497 : (Jvm.Cond.code ({ cls := "PolicyNotation", name := "checkElement", desc := "(Z)V" } : Jvm.MethodName) prog_1_method_7_code (1 : Nat) (Option.none : Option Jvm.ClassFile.FieldType)) ∈ lw_all := lw_g (lw_at lw_m6 206 rfl) rfl
theorem q1498 : (Jvm.Cond.classLink "PolicyNotation" (67 : Nat) "java/util/NoSuchElementException") ∈ lw_all := lw_g (lw_at lw_m6 207 rfl) rfl
theorem q1499 : (Jvm.Cond.methodLink "PolicyNotation" (69 : Nat) ({ cls := "java/util/NoSuchElementException", name := "<init>", desc := "()V" } : Jvm.MethodName)) ∈ lw_all := lw_g (lw_at lw_m6 208 rfl) rfl
theorem q1500 : (Jvm.Cond.methodLink "PolicyNotation" (317 : Nat) ({ cls := "PolicyNotation$Test", name := "feature", desc := "()I" } : Jvm.MethodName)) ∈ lw_all := lw_g (lw_at lw_m6 209 rfl) rfl
theorem q1501 : (Jvm.Cond.methodLink "PolicyNotation" (320 : Nat) ({ cls := "PolicyNotation", name := "signOf", desc := "(LPolicyNotation$Test;)I" } : Jvm.MethodName)) ∈ lw_all := lw_g (lw_at lw_m6 210 rfl) rfl
theorem q1502 : (Jvm.Cond.static ({ cls := "PolicyNotation", name := "signOf", desc := "(LPolicyNotation$Test;)I" } : Jvm.MethodName)) ∈ lw_all := lw_g (lw_at lw_m6 211 rfl) rfl
theorem q1503 : (Jvm.Cond.code ({ cls := "PolicyNotation", name := "signOf", desc := "(LPolicyNotation$Test;)I" } : Jvm.MethodName) prog_1_method_12_code (1 : Nat) (Option.some Jvm.ClassFile.FieldType.int)) ∈ lw_all := lw_g (lw_at lw_m6 212 rfl) rfl
theorem q1504 : (Jvm.Cond.methodLink "PolicyNotation" (324 : Nat) ({ cls := "PolicyNotation$Test", name := "digit", desc := "()I" } : Jvm.MethodName)) ∈ lw_all := lw_g (lw_at lw_m6 213 rfl) rfl
theorem q1509 : (Jvm.Cond.instanceMethod ({ cls := "PolicyNotation", name := "covers", desc := "(IIII)Z" } : Jvm.MethodName)) ∈ lw_all := lw_g (lw_at lw_m6 218 rfl) rfl
theorem q1510 : (Jvm.Cond.selects "PolicyNotation" ({ cls := "PolicyNotation", name := "covers", desc := "(IIII)Z" } : Jvm.MethodName) ({ cls := "PolicyNotation", name := "covers", desc := "(IIII)Z" } : Jvm.MethodName)) ∈ lw_all := lw_g (lw_at lw_m6 219 rfl) rfl
theorem q1511 : (Jvm.Cond.code ({ cls := "PolicyNotation", name := "covers", desc := "(IIII)Z" } : Jvm.MethodName) prog_1_method_31_code (6 : Nat) (Option.some Jvm.ClassFile.FieldType.boolean)) ∈ lw_all := lw_g (lw_at lw_m6 220 rfl) rfl
theorem q1512 : (Jvm.Cond.methodLink "PolicyNotation" (327 : Nat) ({ cls := "PolicyNotation", name := "looked", desc := "(III)LPolicyNotation$Look;" } : Jvm.MethodName)) ∈ lw_all := lw_g (lw_at lw_m6 221 rfl) rfl
theorem q1513 : (Jvm.Cond.privateMethod ({ cls := "PolicyNotation", name := "looked", desc := "(III)LPolicyNotation$Look;" } : Jvm.MethodName)) ∈ lw_tbl := lw_at lw_m6 222 rfl
theorem q1514 : (Jvm.Cond.instanceMethod ({ cls := "PolicyNotation", name := "looked", desc := "(III)LPolicyNotation$Look;" } : Jvm.MethodName)) ∈ lw_all := lw_g (lw_at lw_m6 223 rfl) rfl
theorem q1515 : (Jvm.Cond.code ({ cls := "PolicyNotation", name := "looked", desc := "(III)LPolicyNotation$Look;" } : Jvm.MethodName) prog_1_method_16_code (4 : Nat) (Option.some (Jvm.ClassFile.FieldType.object "PolicyNotation$Look"))) ∈ lw_all := lw_g (lw_at lw_m6 224 rfl) rfl
theorem q1516 : (Jvm.Cond.methodLink "PolicyNotation" (150 : Nat) ({ cls := "PolicyNotation", name := "areFeatures", desc := "(I)Z" } : Jvm.MethodName)) ∈ lw_all := lw_g (lw_at lw_m6 225 rfl) rfl
theorem q1517 : (Jvm.Cond.static ({ cls := "PolicyNotation", name := "areFeatures", desc := "(I)Z" } : Jvm.MethodName)) ∈ lw_all := lw_g (lw_at lw_m6 226 rfl) rfl
theorem q1518 : (Jvm.Cond.code ({ cls := "PolicyNotation", name := "areFeatures", desc := "(I)Z" } : Jvm.MethodName) prog_1_method_15_code (1 : Nat) (Option.some Jvm.ClassFile.FieldType.boolean)) ∈ lw_all := lw_g (lw_at lw_m6 227 rfl) rfl
theorem q1519 : (Jvm.Cond.constant "PolicyNotation" (138 : Nat) (999999 : Int32)) ∈ lw_all := lw_g (lw_at lw_m6 228 rfl) rfl
theorem q1520 : (Jvm.Cond.methodLink "PolicyNotation" (156 : Nat) ({ cls := "PolicyNotation$Look", name := "at", desc := "(IIII)LPolicyNotation$Look;" } : Jvm.MethodName)) ∈ lw_all := lw_g (lw_at lw_m6 229 rfl) rfl
theorem q1521 : (Jvm.Cond.methodLink "PolicyNotation" (331 : Nat) ({ cls := "PolicyNotation$Look", name := "covers", desc := "(LPolicyNotation$Rule;)Z" } : Jvm.MethodName)) ∈ lw_all := lw_g (lw_at lw_m6 230 rfl) rfl
theorem q1526 : (Jvm.Cond.instanceMethod ({ cls := "PolicyNotation", name := "holds", desc := "(IIII)Z" } : Jvm.MethodName)) ∈ lw_all := lw_g (lw_at lw_m6 235 rfl) rfl
theorem q1527 : (Jvm.Cond.selects "PolicyNotation" ({ cls := "PolicyNotation", name := "holds", desc := "(IIII)Z" } : Jvm.MethodName) ({ cls := "PolicyNotation", name := "holds", desc := "(IIII)Z" } : Jvm.MethodName)) ∈ lw_all := lw_g (lw_at lw_m6 236 rfl) rfl
theorem q1528 : (Jvm.Cond.code ({ cls := "PolicyNotation", name := "holds", desc := "(IIII)Z" } : Jvm.MethodName) prog_1_method_32_code (6 : Nat) (Option.some Jvm.ClassFile.FieldType.boolean)) ∈ lw_all := lw_g (lw_at lw_m6 237 rfl) rfl
theorem q1529 : (Jvm.Cond.methodLink "PolicyNotation" (335 : Nat) ({ cls := "PolicyNotation$Look", name := "holds", desc := "(LPolicyNotation$Rule;)Z" } : Jvm.MethodName)) ∈ lw_all := lw_g (lw_at lw_m6 238 rfl) rfl
theorem q1534 : (Jvm.Cond.instanceMethod ({ cls := "PolicyNotation", name := "holdsAgain", desc := "(IIII)Z" } : Jvm.MethodName)) ∈ lw_all := lw_g (lw_at lw_m7 3 rfl) rfl
theorem q1535 : (Jvm.Cond.selects "PolicyNotation" ({ cls := "PolicyNotation", name := "holdsAgain", desc := "(IIII)Z" } : Jvm.MethodName) ({ cls := "PolicyNotation", name := "holdsAgain", desc := "(IIII)Z" } : Jvm.MethodName)) ∈ lw_all := lw_g (lw_at lw_m7 4 rfl) rfl
theorem q1536 : (Jvm.Cond.code ({ cls := "PolicyNotation", name := "holdsAgain", desc := "(IIII)Z" } : Jvm.MethodName) prog_1_method_33_code (6 : Nat) (Option.some Jvm.ClassFile.FieldType.boolean)) ∈ lw_all := lw_g (lw_at lw_m7 5 rfl) rfl
theorem q1537 : (Jvm.Cond.methodLink "PolicyNotation" (338 : Nat) ({ cls := "PolicyNotation$Look", name := "holdsAgain", desc := "(LPolicyNotation$Rule;)Z" } : Jvm.MethodName)) ∈ lw_all := lw_g (lw_at lw_m7 6 rfl) rfl
theorem q1542 : (Jvm.Cond.static ({ cls := "PolicyNotation", name := "has", desc := "(II)Z" } : Jvm.MethodName)) ∈ lw_all := lw_g (lw_at lw_m7 11 rfl) rfl
theorem q1543 : (Jvm.Cond.code ({ cls := "PolicyNotation", name := "has", desc := "(II)Z" } : Jvm.MethodName) prog_1_method_3_code (2 : Nat) (Option.some Jvm.ClassFile.FieldType.boolean)) ∈ lw_all := lw_g (lw_at lw_m7 12 rfl) rfl
theorem q1548 : (Jvm.Cond.instanceMethod ({ cls := "PolicyNotation", name := "outcome", desc := "(III)I" } : Jvm.MethodName)) ∈ lw_all := lw_g (lw_at lw_m7 17 rfl) rfl
theorem q1549 : (Jvm.Cond.selects "PolicyNotation" ({ cls := "PolicyNotation", name := "outcome", desc := "(III)I" } : Jvm.MethodName) ({ cls := "PolicyNotation", name := "outcome", desc := "(III)I" } : Jvm.MethodName)) ∈ lw_all := lw_g (lw_at lw_m7 18 rfl) rfl
theorem q1550 : (Jvm.Cond.code ({ cls := "PolicyNotation", name := "outcome", desc := "(III)I" } : Jvm.MethodName) prog_1_method_34_code (4 : Nat) (Option.some Jvm.ClassFile.FieldType.int)) ∈ lw_all := lw_g (lw_at lw_m7 19 rfl) rfl
theorem q1555 : (Jvm.Cond.instanceMethod ({ cls := "PolicyNotation", name := "chain", desc := "(IIII)I" } : Jvm.MethodName)) ∈ lw_all := lw_g (lw_at lw_m7 24 rfl) rfl
theorem q1556 : (Jvm.Cond.selects "PolicyNotation" ({ cls := "PolicyNotation", name := "chain", desc := "(IIII)I" } : Jvm.MethodName) ({ cls := "PolicyNotation", name := "chain", desc := "(IIII)I" } : Jvm.MethodName)) ∈ lw_all := lw_g (lw_at lw_m7 25 rfl) rfl
theorem q1557 : (Jvm.Cond.code ({ cls := "PolicyNotation", name := "chain", desc := "(IIII)I" } : Jvm.MethodName) prog_1_method_35_code (7 : Nat) (Option.some Jvm.ClassFile.FieldType.int)) ∈ lw_all := lw_g (lw_at lw_m7 26 rfl) rfl
theorem q1558 : (Jvm.Cond.methodLink "PolicyNotation" (344 : Nat) ({ cls := "PolicyNotation$Look", name := "chain", desc := "()I" } : Jvm.MethodName)) ∈ lw_all := lw_g (lw_at lw_m7 27 rfl) rfl
theorem q1559 : (Jvm.Cond.methodLink "PolicyNotation" (347 : Nat) ({ cls := "PolicyNotation$Look", name := "link", desc := "(I)I" } : Jvm.MethodName)) ∈ lw_all := lw_g (lw_at lw_m7 28 rfl) rfl
theorem q1567 : (Jvm.Cond.instanceMethod ({ cls := "PolicyNotation", name := "rival", desc := "(IIII)I" } : Jvm.MethodName)) ∈ lw_all := lw_g (lw_at lw_m7 36 rfl) rfl
theorem q1568 : (Jvm.Cond.selects "PolicyNotation" ({ cls := "PolicyNotation", name := "rival", desc := "(IIII)I" } : Jvm.MethodName) ({ cls := "PolicyNotation", name := "rival", desc := "(IIII)I" } : Jvm.MethodName)) ∈ lw_all := lw_g (lw_at lw_m7 37 rfl) rfl
theorem q1569 : (Jvm.Cond.code ({ cls := "PolicyNotation", name := "rival", desc := "(IIII)I" } : Jvm.MethodName) prog_1_method_38_code (7 : Nat) (Option.some Jvm.ClassFile.FieldType.int)) ∈ lw_all := lw_g (lw_at lw_m7 38 rfl) rfl
theorem q1570 : (Jvm.Cond.methodLink "PolicyNotation" (355 : Nat) ({ cls := "PolicyNotation$Look", name := "rivals", desc := "()I" } : Jvm.MethodName)) ∈ lw_all := lw_g (lw_at lw_m7 39 rfl) rfl
theorem q1578 : (Jvm.Cond.methodLink "PolicyNotation" (358 : Nat) ({ cls := "PolicyNotation", name := "many", desc := "(I)I" } : Jvm.MethodName)) ∈ lw_all := lw_g (lw_at lw_m7 47 rfl) rfl
theorem q1579 : (Jvm.Cond.static ({ cls := "PolicyNotation", name := "many", desc := "(I)I" } : Jvm.MethodName)) ∈ lw_all := lw_g (lw_at lw_m7 48 rfl) rfl
theorem q1580 : (Jvm.Cond.code ({ cls := "PolicyNotation", name := "many", desc := "(I)I" } : Jvm.MethodName) prog_1_method_36_code (3 : Nat) (Option.some Jvm.ClassFile.FieldType.int)) ∈ lw_all := lw_g (lw_at lw_m7 49 rfl) rfl
theorem q1581 : (Jvm.Cond.methodLink "PolicyNotation" (361 : Nat) ({ cls := "PolicyNotation", name := "bitOf", desc := "(II)I" } : Jvm.MethodName)) ∈ lw_all := lw_g (lw_at lw_m7 50 rfl) rfl
theorem q1582 : (Jvm.Cond.static ({ cls := "PolicyNotation", name := "bitOf", desc := "(II)I" } : Jvm.MethodName)) ∈ lw_all := lw_g (lw_at lw_m7 51 rfl) rfl
theorem q1583 : (Jvm.Cond.code ({ cls := "PolicyNotation", name := "bitOf", desc := "(II)I" } : Jvm.MethodName) prog_1_method_37_code (4 : Nat) (Option.some Jvm.ClassFile.FieldType.int)) ∈ lw_all := lw_g (lw_at lw_m7 52 rfl) rfl
theorem q1584 : (Jvm.Cond.methodLink "PolicyNotation" (351 : Nat) ({ cls := "PolicyNotation", name := "has", desc := "(II)Z" } : Jvm.MethodName)) ∈ lw_all := lw_g (lw_at lw_m7 53 rfl) rfl
theorem q1589 : (Jvm.Cond.instanceMethod ({ cls := "PolicyNotation", name := "nextChange", desc := "(III)I" } : Jvm.MethodName)) ∈ lw_all := lw_g (lw_at lw_m7 58 rfl) rfl
theorem q1590 : (Jvm.Cond.selects "PolicyNotation" ({ cls := "PolicyNotation", name := "nextChange", desc := "(III)I" } : Jvm.MethodName) ({ cls := "PolicyNotation", name := "nextChange", desc := "(III)I" } : Jvm.MethodName)) ∈ lw_all := lw_g (lw_at lw_m7 59 rfl) rfl
theorem q1591 : (Jvm.Cond.code ({ cls := "PolicyNotation", name := "nextChange", desc := "(III)I" } : Jvm.MethodName) prog_1_method_39_code (7 : Nat) (Option.some Jvm.ClassFile.FieldType.int)) ∈ lw_all := lw_g (lw_at lw_m7 60 rfl) rfl
theorem q1592 : (Jvm.Cond.methodLink "PolicyNotation" (365 : Nat) ({ cls := "PolicyNotation$Look", name := "on", desc := "(I)LPolicyNotation$Look;" } : Jvm.MethodName)) ∈ lw_all := lw_g (lw_at lw_m7 61 rfl) rfl
theorem q1600 : (Jvm.Cond.instanceMethod ({ cls := "PolicyNotation", name := "days", desc := "(III)I" } : Jvm.MethodName)) ∈ lw_all := lw_g (lw_at lw_m7 69 rfl) rfl
theorem q1601 : (Jvm.Cond.selects "PolicyNotation" ({ cls := "PolicyNotation", name := "days", desc := "(III)I" } : Jvm.MethodName) ({ cls := "PolicyNotation", name := "days", desc := "(III)I" } : Jvm.MethodName)) ∈ lw_all := lw_g (lw_at lw_m7 70 rfl) rfl
theorem q1602 : (Jvm.Cond.code ({ cls := "PolicyNotation", name := "days", desc := "(III)I" } : Jvm.MethodName) prog_1_method_40_code (8 : Nat) (Option.some Jvm.ClassFile.FieldType.int)) ∈ lw_all := lw_g (lw_at lw_m7 71 rfl) rfl
theorem q1607 : (Jvm.Cond.instanceMethod ({ cls := "PolicyNotation", name := "burden", desc := "(III)F" } : Jvm.MethodName)) ∈ lw_all := lw_g (lw_at lw_m7 76 rfl) rfl
theorem q1608 : (Jvm.Cond.selects "PolicyNotation" ({ cls := "PolicyNotation", name := "burden", desc := "(III)F" } : Jvm.MethodName) ({ cls := "PolicyNotation", name := "burden", desc := "(III)F" } : Jvm.MethodName)) ∈ lw_all := lw_g (lw_at lw_m7 77 rfl) rfl
theorem q1609 : (Jvm.Cond.code ({ cls := "PolicyNotation", name := "burden", desc := "(III)F" } : Jvm.MethodName) prog_1_method_41_code (4 : Nat) (Option.some Jvm.ClassFile.FieldType.float)) ∈ lw_all := lw_g (lw_at lw_m7 78 rfl) rfl
theorem q1610 : (Jvm.Cond.methodLink "PolicyNotation" (369 : Nat) ({ cls := "PolicyNotation$Look", name := "burden", desc := "()F" } : Jvm.MethodName)) ∈ lw_all := lw_g (lw_at lw_m7 79 rfl) rfl
theorem q1620 : (Jvm.Cond.instanceMethod ({ cls := "PolicyNotation", name := "percent", desc := "(III)I" } : Jvm.MethodName)) ∈ lw_all := lw_g (lw_at lw_m7 89 rfl) rfl
theorem q1621 : (Jvm.Cond.selects "PolicyNotation" ({ cls := "PolicyNotation", name := "percent", desc := "(III)I" } : Jvm.MethodName) ({ cls := "PolicyNotation", name := "percent", desc := "(III)I" } : Jvm.MethodName)) ∈ lw_all := lw_g (lw_at lw_m7 90 rfl) rfl
theorem q1622 : (Jvm.Cond.code ({ cls := "PolicyNotation", name := "percent", desc := "(III)I" } : Jvm.MethodName) prog_1_method_42_code (4 : Nat) (Option.some Jvm.ClassFile.FieldType.int)) ∈ lw_all := lw_g (lw_at lw_m7 91 rfl) rfl
theorem q1623 : (Jvm.Cond.constantFloat "PolicyNotation" (373 : Nat) (1120403456 : UInt32)) ∈ lw_all := lw_g (lw_at lw_m7 92 rfl) rfl
theorem q1628 : (Jvm.Cond.instanceMethod ({ cls := "PolicyNotation", name := "work", desc := "(IIII)I" } : Jvm.MethodName)) ∈ lw_all := lw_g (lw_at lw_m7 97 rfl) rfl
theorem q1629 : (Jvm.Cond.selects "PolicyNotation" ({ cls := "PolicyNotation", name := "work", desc := "(IIII)I" } : Jvm.MethodName) ({ cls := "PolicyNotation", name := "work", desc := "(IIII)I" } : Jvm.MethodName)) ∈ lw_all := lw_g (lw_at lw_m7 98 rfl) rfl
theorem q1630 : (Jvm.Cond.code ({ cls := "PolicyNotation", name := "work", desc := "(IIII)I" } : Jvm.MethodName) prog_1_method_43_code (6 : Nat) (Option.some Jvm.ClassFile.FieldType.int)) ∈ lw_all := lw_g (lw_at lw_m7 99 rfl) rfl
theorem q1632 : (Jvm.Cond.methodLink "PolicyNotation" (379 : Nat) ({ cls := "PolicyNotation$Work", name := "<init>", desc := "(IIILPolicyNotation$Effect;)V" } : Jvm.MethodName)) ∈ lw_all := lw_g (lw_at lw_m7 101 rfl) rfl
theorem q1643 : (Jvm.Cond.fieldLinkNest "PolicyNotation" (393 : Nat) "PolicyNotation$Work" "expected" "LPolicyNotation$Effect;" "PolicyNotation") ∈ lw_tbl := lw_at lw_m7 112 rfl
theorem q1657 : (Jvm.Cond.instanceMethod ({ cls := "PolicyNotation", name := "caseOf", desc := "(II)I" } : Jvm.MethodName)) ∈ lw_all := lw_g (lw_at lw_m7 126 rfl) rfl
theorem q1658 : (Jvm.Cond.selects "PolicyNotation" ({ cls := "PolicyNotation", name := "caseOf", desc := "(II)I" } : Jvm.MethodName) ({ cls := "PolicyNotation", name := "caseOf", desc := "(II)I" } : Jvm.MethodName)) ∈ lw_all := lw_g (lw_at lw_m7 127 rfl) rfl
theorem q1659 : (Jvm.Cond.code ({ cls := "PolicyNotation", name := "caseOf", desc := "(II)I" } : Jvm.MethodName) prog_1_method_47_code (4 : Nat) (Option.some Jvm.ClassFile.FieldType.int)) ∈ lw_all := lw_g (lw_at lw_m7 128 rfl) rfl
theorem q1660 : (Jvm.Cond.methodLink "PolicyNotation" (396 : Nat) ({ cls := "PolicyNotation$Policy", name := "work", desc := "(I)LPolicyNotation$Work;" } : Jvm.MethodName)) ∈ lw_all := lw_g (lw_at lw_m7 129 rfl) rfl
theorem q1668 : (Jvm.Cond.methodLink "PolicyNotation" (403 : Nat) ({ cls := "PolicyNotation$Work", name := "what", desc := "(I)I" } : Jvm.MethodName)) ∈ lw_all := lw_g (lw_at lw_m7 137 rfl) rfl
theorem q1677 : (Jvm.Cond.instanceMethod ({ cls := "PolicyNotation", name := "dropCase", desc := "(I)I" } : Jvm.MethodName)) ∈ lw_all := lw_g (lw_at lw_m7 146 rfl) rfl
theorem q1678 : (Jvm.Cond.selects "PolicyNotation" ({ cls := "PolicyNotation", name := "dropCase", desc := "(I)I" } : Jvm.MethodName) ({ cls := "PolicyNotation", name := "dropCase", desc := "(I)I" } : Jvm.MethodName)) ∈ lw_all := lw_g (lw_at lw_m7 147 rfl) rfl
theorem q1679 : (Jvm.Cond.code ({ cls := "PolicyNotation", name := "dropCase", desc := "(I)I" } : Jvm.MethodName) prog_1_method_48_code (3 : Nat) (Option.some Jvm.ClassFile.FieldType.int)) ∈ lw_all := lw_g (lw_at lw_m7 148 rfl) rfl
theorem q1680 : (Jvm.Cond.methodLink "PolicyNotation" (406 : Nat) ({ cls := "PolicyNotation$Policy", name := "isWork", desc := "(I)Z" } : Jvm.MethodName)) ∈ lw_all := lw_g (lw_at lw_m7 149 rfl) rfl
theorem q1685 : (Jvm.Cond.instanceMethod ({ cls := "PolicyNotation", name := "without", desc := "(I)I" } : Jvm.MethodName)) ∈ lw_all := lw_g (lw_at lw_m7 154 rfl) rfl
theorem q1686 : (Jvm.Cond.selects "PolicyNotation" ({ cls := "PolicyNotation", name := "without", desc := "(I)I" } : Jvm.MethodName) ({ cls := "PolicyNotation", name := "without", desc := "(I)I" } : Jvm.MethodName)) ∈ lw_all := lw_g (lw_at lw_m7 155 rfl) rfl
theorem q1687 : (Jvm.Cond.code ({ cls := "PolicyNotation", name := "without", desc := "(I)I" } : Jvm.MethodName) prog_1_method_54_code (2 : Nat) (Option.some Jvm.ClassFile.FieldType.int)) ∈ lw_all := lw_g (lw_at lw_m7 156 rfl) rfl
theorem q1688 : (Jvm.Cond.methodLink "PolicyNotation" (424 : Nat) ({ cls := "PolicyNotation$Policy", name := "isRule", desc := "(I)Z" } : Jvm.MethodName)) ∈ lw_all := lw_g (lw_at lw_m7 157 rfl) rfl
theorem q1689 : (Jvm.Cond.privateMethod ({ cls := "PolicyNotation", name := "lambda$without$2", desc := "(ILPolicyNotation$Work;)I" } : Jvm.MethodName)) ∈ lw_tbl := lw_at lw_m7 158 rfl
theorem q1690 : (Jvm.Cond.instanceMethod ({ cls := "PolicyNotation", name := "lambda$without$2", desc := "(ILPolicyNotation$Work;)I" } : Jvm.MethodName)) ∈ lw_all := lw_g (lw_at lw_m7 159 rfl) rfl
theorem q1691 : (Jvm.Cond.code ({ cls := "PolicyNotation", name := "lambda$without$2", desc := "(ILPolicyNotation$Work;)I" } : Jvm.MethodName) prog_1_method_85_code (3 : Nat) (Option.some Jvm.ClassFile.FieldType.int)) ∈ lw_all := lw_g (lw_at lw_m7 160 rfl) rfl
theorem q1692 : (Jvm.Cond.methodLink "PolicyNotation" (430 : Nat) ({ cls := "PolicyNotation", name := "sum", desc := "(LPolicyNotation$Told;)I" } : Jvm.MethodName)) ∈ lw_all := lw_g (lw_at lw_m7 161 rfl) rfl
theorem q1693 : (Jvm.Cond.privateMethod ({ cls := "PolicyNotation", name := "sum", desc := "(LPolicyNotation$Told;)I" } : Jvm.MethodName)) ∈ lw_tbl := lw_at lw_m7 162 rfl
theorem q1694 : (Jvm.Cond.instanceMethod ({ cls := "PolicyNotation", name := "sum", desc := "(LPolicyNotation$Told;)I" } : Jvm.MethodName)) ∈ lw_all := lw_g (lw_at lw_m7 163 rfl) rfl
theorem q1695 : (Jvm.Cond.code ({ cls := "PolicyNotation", name := "sum", desc := "(LPolicyNotation$Told;)I" } : Jvm.MethodName) prog_1_method_50_code (4 : Nat) (Option.some Jvm.ClassFile.FieldType.int)) ∈ lw_all := lw_g (lw_at lw_m7 164 rfl) rfl
theorem q1700 : (Jvm.Cond.instanceMethod ({ cls := "PolicyNotation", name := "sheet", desc := "(I)I" } : Jvm.MethodName)) ∈ lw_all := lw_g (lw_at lw_m7 169 rfl) rfl
theorem q1701 : (Jvm.Cond.selects "PolicyNotation" ({ cls := "PolicyNotation", name := "sheet", desc := "(I)I" } : Jvm.MethodName) ({ cls := "PolicyNotation", name := "sheet", desc := "(I)I" } : Jvm.MethodName)) ∈ lw_all := lw_g (lw_at lw_m7 170 rfl) rfl
theorem q1702 : (Jvm.Cond.code ({ cls := "PolicyNotation", name := "sheet", desc := "(I)I" } : Jvm.MethodName) prog_1_method_57_code (3 : Nat) (Option.some Jvm.ClassFile.FieldType.int)) ∈ lw_all := lw_g (lw_at lw_m7 171 rfl) rfl
theorem q1703 : (Jvm.Cond.methodLink "PolicyNotation" (433 : Nat) ({ cls := "PolicyNotation", name := "onSheet", desc := "()I" } : Jvm.MethodName)) ∈ lw_all := lw_g (lw_at lw_m7 172 rfl) rfl
theorem q1704 : (Jvm.Cond.privateMethod ({ cls := "PolicyNotation", name := "onSheet", desc := "()I" } : Jvm.MethodName)) ∈ lw_tbl := lw_at lw_m7 173 rfl
theorem q1705 : (Jvm.Cond.instanceMethod ({ cls := "PolicyNotation", name := "onSheet", desc := "()I" } : Jvm.MethodName)) ∈ lw_all := lw_g (lw_at lw_m7 174 rfl) rfl
theorem q1706 : (Jvm.Cond.code ({ cls := "PolicyNotation", name := "onSheet", desc := "()I" } : Jvm.MethodName) prog_1_method_56_code (3 : Nat) (Option.some Jvm.ClassFile.FieldType.int)) ∈ lw_all := lw_g (lw_at lw_m7 175 rfl) rfl
theorem q1707 : (Jvm.Cond.methodLink "PolicyNotation" (436 : Nat) ({ cls := "PolicyNotation", name := "sheetOf", desc := "(I)[LPolicyNotation$Test;" } : Jvm.MethodName)) ∈ lw_all := lw_g (lw_at lw_m7 176 rfl) rfl
theorem q1708 : (Jvm.Cond.static ({ cls := "PolicyNotation", name := "sheetOf", desc := "(I)[LPolicyNotation$Test;" } : Jvm.MethodName)) ∈ lw_all := lw_g (lw_at lw_m7 177 rfl) rfl
theorem q1709 : (Jvm.Cond.code ({ cls := "PolicyNotation", name := "sheetOf", desc := "(I)[LPolicyNotation$Test;" } : Jvm.MethodName) prog_1_method_55_code (1 : Nat) (Option.some (Jvm.ClassFile.FieldType.array (Jvm.ClassFile.FieldType.object "PolicyNotation$Test")))) ∈ lw_all := lw_g (lw_at lw_m7 178 rfl) rfl
theorem q1718 : (Jvm.Cond.instanceMethod ({ cls := "PolicyNotation", name := "lay", desc := "(III)I" } : Jvm.MethodName)) ∈ lw_all := lw_g (lw_at lw_m7 187 rfl) rfl
theorem q1719 : (Jvm.Cond.selects "PolicyNotation" ({ cls := "PolicyNotation", name := "lay", desc := "(III)I" } : Jvm.MethodName) ({ cls := "PolicyNotation", name := "lay", desc := "(III)I" } : Jvm.MethodName)) ∈ lw_all := lw_g (lw_at lw_m7 188 rfl) rfl
theorem q1720 : (Jvm.Cond.code ({ cls := "PolicyNotation", name := "lay", desc := "(III)I" } : Jvm.MethodName) prog_1_method_59_code (5 : Nat) (Option.some Jvm.ClassFile.FieldType.int)) ∈ lw_all := lw_g (lw_at lw_m7 189 rfl) rfl
theorem q1721 : (Jvm.Cond.methodLink "PolicyNotation" (442 : Nat) ({ cls := "PolicyNotation", name := "lays", desc := "(ILPolicyNotation$Test;)Z" } : Jvm.MethodName)) ∈ lw_all := lw_g (lw_at lw_m7 190 rfl) rfl
theorem q1722 : (Jvm.Cond.privateMethod ({ cls := "PolicyNotation", name := "lays", desc := "(ILPolicyNotation$Test;)Z" } : Jvm.MethodName)) ∈ lw_tbl := lw_at lw_m7 191 rfl
theorem q1723 : (Jvm.Cond.instanceMethod ({ cls := "PolicyNotation", name := "lays", desc := "(ILPolicyNotation$Test;)Z" } : Jvm.MethodName)) ∈ lw_all := lw_g (lw_at lw_m7 192 rfl) rfl
theorem q1724 : (Jvm.Cond.codeWith ({ cls := "PolicyNotation", name := "lays", desc := "(ILPolicyNotation$Test;)Z" } : Jvm.MethodName) prog_1_method_58_code (4 : Nat) (Option.some Jvm.ClassFile.FieldType.boolean) [((0 : Nat), (8 : Nat), (9 : Nat), (440 : Nat))]) ∈ lw_all := lw_g (lw_at lw_m7 193 rfl) rfl
theorem q1725 : (Jvm.Cond.classLink "PolicyNotation" (440 : Nat) "java/lang/ArrayStoreException") ∈ lw_all := lw_g (lw_at lw_m7 194 rfl) rfl
theorem q1743 : (Jvm.Cond.instanceMethod ({ cls := "PolicyNotation", name := "takeSheet", desc := "(I)I" } : Jvm.MethodName)) ∈ lw_all := lw_g (lw_at lw_m7 212 rfl) rfl
theorem q1744 : (Jvm.Cond.selects "PolicyNotation" ({ cls := "PolicyNotation", name := "takeSheet", desc := "(I)I" } : Jvm.MethodName) ({ cls := "PolicyNotation", name := "takeSheet", desc := "(I)I" } : Jvm.MethodName)) ∈ lw_all := lw_g (lw_at lw_m7 213 rfl) rfl
theorem q1745 : (Jvm.Cond.code ({ cls := "PolicyNotation", name := "takeSheet", desc := "(I)I" } : Jvm.MethodName) prog_1_method_60_code (6 : Nat) (Option.some Jvm.ClassFile.FieldType.int)) ∈ lw_all := lw_g (lw_at lw_m7 214 rfl) rfl
theorem q1750 : (Jvm.Cond.instanceMethod ({ cls := "PolicyNotation", name := "keepRow", desc := "(I)I" } : Jvm.MethodName)) ∈ lw_all := lw_g (lw_at lw_m7 219 rfl) rfl
theorem q1751 : (Jvm.Cond.selects "PolicyNotation" ({ cls := "PolicyNotation", name := "keepRow", desc := "(I)I" } : Jvm.MethodName) ({ cls := "PolicyNotation", name := "keepRow", desc := "(I)I" } : Jvm.MethodName)) ∈ lw_all := lw_g (lw_at lw_m7 220 rfl) rfl
theorem q1752 : (Jvm.Cond.code ({ cls := "PolicyNotation", name := "keepRow", desc := "(I)I" } : Jvm.MethodName) prog_1_method_63_code (4 : Nat) (Option.some Jvm.ClassFile.FieldType.int)) ∈ lw_all := lw_g (lw_at lw_m7 221 rfl) rfl
theorem q1753 : (Jvm.Cond.methodLink "PolicyNotation" (446 : Nat) ({ cls := "PolicyNotation", name := "isRow", desc := "(I)Z" } : Jvm.MethodName)) ∈ lw_all := lw_g (lw_at lw_m7 222 rfl) rfl
theorem q1754 : (Jvm.Cond.static ({ cls := "PolicyNotation", name := "isRow", desc := "(I)Z" } : Jvm.MethodName)) ∈ lw_all := lw_g (lw_at lw_m7 223 rfl) rfl
theorem q1755 : (Jvm.Cond.code ({ cls := "PolicyNotation", name := "isRow", desc := "(I)Z" } : Jvm.MethodName) prog_1_method_61_code (1 : Nat) (Option.some Jvm.ClassFile.FieldType.boolean)) ∈ lw_all := lw_g (lw_at lw_m7 224 rfl) rfl
theorem q1761 : (Jvm.Cond.instanceMethod ({ cls := "PolicyNotation", name := "copyRow", desc := "(III)I" } : Jvm.MethodName)) ∈ lw_all := lw_g (lw_at lw_m7 230 rfl) rfl
theorem q1762 : (Jvm.Cond.selects "PolicyNotation" ({ cls := "PolicyNotation", name := "copyRow", desc := "(III)I" } : Jvm.MethodName) ({ cls := "PolicyNotation", name := "copyRow", desc := "(III)I" } : Jvm.MethodName)) ∈ lw_all := lw_g (lw_at lw_m7 231 rfl) rfl
theorem q1763 : (Jvm.Cond.code ({ cls := "PolicyNotation", name := "copyRow", desc := "(III)I" } : Jvm.MethodName) prog_1_method_64_code (7 : Nat) (Option.some Jvm.ClassFile.FieldType.int)) ∈ lw_all := lw_g (lw_at lw_m7 232 rfl) rfl
theorem q1764 : (Jvm.Cond.methodLink "PolicyNotation" (449 : Nat) ({ cls := "PolicyNotation", name := "rowAt", desc := "(I)[F" } : Jvm.MethodName)) ∈ lw_all := lw_g (lw_at lw_m7 233 rfl) rfl
theorem q1765 : (Jvm.Cond.privateMethod ({ cls := "PolicyNotation", name := "rowAt", desc := "(I)[F" } : Jvm.MethodName)) ∈ lw_tbl := lw_at lw_m7 234 rfl
theorem q1766 : (Jvm.Cond.instanceMethod ({ cls := "PolicyNotation", name := "rowAt", desc := "(I)[F" } : Jvm.MethodName)) ∈ lw_all := lw_g (lw_at lw_m7 235 rfl) rfl
theorem q1767 : (Jvm.Cond.code ({ cls := "PolicyNotation", name := "rowAt", desc := "(I)[F" } : Jvm.MethodName) prog_1_method_62_code (2 : Nat) (Option.some (Jvm.ClassFile.FieldType.array Jvm.ClassFile.FieldType.float))) ∈ lw_all := lw_g (lw_at lw_m7 236 rfl) rfl
theorem q1768 : (Jvm.Cond.methodLink "PolicyNotation" (453 : Nat) ({ cls := "[F", name := "clone", desc := "()Ljava/lang/Object;" } : Jvm.MethodName)) ∈ lw_all := lw_g (lw_at lw_m7 237 rfl) rfl
theorem q1772 : (Jvm.Cond.methodLink "PolicyNotation" (456 : Nat) ({ cls := "PolicyNotation", name := "scaled", desc := "(FI)F" } : Jvm.MethodName)) ∈ lw_all := lw_g (lw_at lw_m8 1 rfl) rfl
theorem q1773 : (Jvm.Cond.static ({ cls := "PolicyNotation", name := "scaled", desc := "(FI)F" } : Jvm.MethodName)) ∈ lw_all := lw_g (lw_at lw_m8 2 rfl) rfl
theorem q1774 : (Jvm.Cond.code ({ cls := "PolicyNotation", name := "scaled", desc := "(FI)F" } : Jvm.MethodName) prog_1_method_65_code (3 : Nat) (Option.some Jvm.ClassFile.FieldType.float)) ∈ lw_all := lw_g (lw_at lw_m8 3 rfl) rfl
theorem q1775 : (Jvm.Cond.constantFloat "PolicyNotation" (462 : Nat) (2139095039 : UInt32)) ∈ lw_all := lw_g (lw_at lw_m8 4 rfl) rfl
theorem q1776 : (Jvm.Cond.constantFloat "PolicyNotation" (463 : Nat) (2143289344 : UInt32)) ∈ lw_all := lw_g (lw_at lw_m8 5 rfl) rfl
theorem q1781 : (Jvm.Cond.instanceMethod ({ cls := "PolicyNotation", name := "element", desc := "(II)I" } : Jvm.MethodName)) ∈ lw_all := lw_g (lw_at lw_m8 10 rfl) rfl
theorem q1782 : (Jvm.Cond.selects "PolicyNotation" ({ cls := "PolicyNotation", name := "element", desc := "(II)I" } : Jvm.MethodName) ({ cls := "PolicyNotation", name := "element", desc := "(II)I" } : Jvm.MethodName)) ∈ lw_all := lw_g (lw_at lw_m8 11 rfl) rfl
theorem q1783 : (Jvm.Cond.code ({ cls := "PolicyNotation", name := "element", desc := "(II)I" } : Jvm.MethodName) prog_1_method_66_code (4 : Nat) (Option.some Jvm.ClassFile.FieldType.int)) ∈ lw_all := lw_g (lw_at lw_m8 12 rfl) rfl
theorem q1784 : (Jvm.Cond.methodLink "PolicyNotation" (464 : Nat) ({ cls := "java/lang/Float", name := "floatToIntBits", desc := "(F)I" } : Jvm.MethodName)) ∈ lw_all := lw_g (lw_at lw_m8 13 rfl) rfl
theorem q1798 : (Jvm.Cond.instanceMethod ({ cls := "PolicyNotation", name := "total", desc := "(I)D" } : Jvm.MethodName)) ∈ lw_all := lw_g (lw_at lw_m8 27 rfl) rfl
theorem q1799 : (Jvm.Cond.selects "PolicyNotation" ({ cls := "PolicyNotation", name := "total", desc := "(I)D" } : Jvm.MethodName) ({ cls := "PolicyNotation", name := "total", desc := "(I)D" } : Jvm.MethodName)) ∈ lw_all := lw_g (lw_at lw_m8 28 rfl) rfl
theorem q1800 : (Jvm.Cond.code ({ cls := "PolicyNotation", name := "total", desc := "(I)D" } : Jvm.MethodName) prog_1_method_67_code (8 : Nat) (Option.some Jvm.ClassFile.FieldType.double)) ∈ lw_all := lw_g (lw_at lw_m8 29 rfl) rfl
theorem q1801 : (Jvm.Cond.constantDouble "PolicyNotation" (470 : Nat) (9221120237041090560 : UInt64)) ∈ lw_all := lw_g (lw_at lw_m8 30 rfl) rfl
theorem q1806 : (Jvm.Cond.instanceMethod ({ cls := "PolicyNotation", name := "append", desc := "(C)I" } : Jvm.MethodName)) ∈ lw_all := lw_g (lw_at lw_m8 35 rfl) rfl
theorem q1807 : (Jvm.Cond.selects "PolicyNotation" ({ cls := "PolicyNotation", name := "append", desc := "(C)I" } : Jvm.MethodName) ({ cls := "PolicyNotation", name := "append", desc := "(C)I" } : Jvm.MethodName)) ∈ lw_all := lw_g (lw_at lw_m8 36 rfl) rfl
theorem q1808 : (Jvm.Cond.code ({ cls := "PolicyNotation", name := "append", desc := "(C)I" } : Jvm.MethodName) prog_1_method_68_code (2 : Nat) (Option.some Jvm.ClassFile.FieldType.int)) ∈ lw_all := lw_g (lw_at lw_m8 37 rfl) rfl
theorem q1809 : (Jvm.Cond.methodLink "PolicyNotation" (472 : Nat) ({ cls := "java/lang/StringBuilder", name := "length", desc := "()I" } : Jvm.MethodName)) ∈ lw_all := lw_g (lw_at lw_m8 38 rfl) rfl
theorem q1810 : (Jvm.Cond.methodLink "PolicyNotation" (475 : Nat) ({ cls := "java/lang/StringBuilder", name := "append", desc := "(C)Ljava/lang/StringBuilder;" } : Jvm.MethodName)) ∈ lw_all := lw_g (lw_at lw_m8 39 rfl) rfl
theorem q1834 : (Jvm.Cond.instanceMethod ({ cls := "PolicyNotation", name := "read", desc := "()I" } : Jvm.MethodName)) ∈ lw_all := lw_g (lw_at lw_m8 63 rfl) rfl
theorem q1835 : (Jvm.Cond.selects "PolicyNotation" ({ cls := "PolicyNotation", name := "read", desc := "()I" } : Jvm.MethodName) ({ cls := "PolicyNotation", name := "read", desc := "()I" } : Jvm.MethodName)) ∈ lw_all := lw_g (lw_at lw_m8 64 rfl) rfl
theorem q1836 : (Jvm.Cond.codeWith ({ cls := "PolicyNotation", name := "read", desc := "()I" } : Jvm.MethodName) prog_1_method_71_code (7 : Nat) (Option.some Jvm.ClassFile.FieldType.int) [((0 : Nat), (108 : Nat), (119 : Nat), (511 : Nat)), ((0 : Nat), (108 : Nat), (136 : Nat), (0 : Nat)), ((119 : Nat), (138 : Nat), (136 : Nat), (0 : Nat))]) ∈ lw_all := lw_g (lw_at lw_m8 65 rfl) rfl
theorem q1837 : (Jvm.Cond.classLink "PolicyNotation" (511 : Nat) "PolicyNotation$Wrong") ∈ lw_all := lw_g (lw_at lw_m8 66 rfl) rfl
theorem q1838 : (Jvm.Cond.classLink "PolicyNotation" (489 : Nat) "PolicyNotation$Reader") ∈ lw_all := lw_g (lw_at lw_m8 67 rfl) rfl
theorem q1840 : (Jvm.Cond.methodLink "PolicyNotation" (491 : Nat) ({ cls := "PolicyNotation$Reader", name := "<init>", desc := "(Ljava/lang/CharSequence;)V" } : Jvm.MethodName)) ∈ lw_all := lw_g (lw_at lw_m8 69 rfl) rfl
theorem q1855 : (Jvm.Cond.fieldLinkNest "PolicyNotation" (486 : Nat) "PolicyNotation$Draft" "effect" "LPolicyNotation$Effect;" "PolicyNotation") ∈ lw_tbl := lw_at lw_m8 84 rfl
theorem q1858 : (Jvm.Cond.fieldLinkNest "PolicyNotation" (479 : Nat) "PolicyNotation$Draft" "of" "I" "PolicyNotation") ∈ lw_tbl := lw_at lw_m8 87 rfl
theorem q1860 : (Jvm.Cond.fieldLinkNest "PolicyNotation" (483 : Nat) "PolicyNotation$Draft" "scope" "I" "PolicyNotation") ∈ lw_tbl := lw_at lw_m8 89 rfl
theorem q1862 : (Jvm.Cond.fieldLinkNest "PolicyNotation" (488 : Nat) "PolicyNotation$Draft" "rank" "I" "PolicyNotation") ∈ lw_tbl := lw_at lw_m8 91 rfl
theorem q1864 : (Jvm.Cond.fieldLinkNest "PolicyNotation" (484 : Nat) "PolicyNotation$Draft" "first" "I" "PolicyNotation") ∈ lw_tbl := lw_at lw_m8 93 rfl
theorem q1867 : (Jvm.Cond.fieldLinkNest "PolicyNotation" (485 : Nat) "PolicyNotation$Draft" "last" "I" "PolicyNotation") ∈ lw_tbl := lw_at lw_m8 96 rfl
theorem q1870 : (Jvm.Cond.fieldLinkNest "PolicyNotation" (506 : Nat) "PolicyNotation$Draft" "tests" "Ljava/util/ArrayList;" "PolicyNotation") ∈ lw_tbl := lw_at lw_m8 99 rfl
theorem q1896 : (Jvm.Cond.methodLink "PolicyNotation" (494 : Nat) ({ cls := "PolicyNotation$Reader", name := "all", desc := "()LPolicyNotation$Draft;" } : Jvm.MethodName)) ∈ lw_all := lw_g (lw_at lw_m8 125 rfl) rfl
theorem q1991 : (Jvm.Cond.fieldLinkNest "PolicyNotation" (513 : Nat) "PolicyNotation$Wrong" "at" "I" "PolicyNotation") ∈ lw_tbl := lw_at lw_m8 220 rfl
theorem q2070 : (Jvm.Cond.methodLink "PolicyNotation" (498 : Nat) ({ cls := "PolicyNotation", name := "bars", desc := "(LPolicyNotation$Draft;)LPolicyNotation$Whys;" } : Jvm.MethodName)) ∈ lw_all := lw_g (lw_at lw_m9 59 rfl) rfl
theorem q2071 : (Jvm.Cond.privateMethod ({ cls := "PolicyNotation", name := "bars", desc := "(LPolicyNotation$Draft;)LPolicyNotation$Whys;" } : Jvm.MethodName)) ∈ lw_tbl := lw_at lw_m9 60 rfl
theorem q2072 : (Jvm.Cond.instanceMethod ({ cls := "PolicyNotation", name := "bars", desc := "(LPolicyNotation$Draft;)LPolicyNotation$Whys;" } : Jvm.MethodName)) ∈ lw_all := lw_g (lw_at lw_m9 61 rfl) rfl
theorem q2073 : (Jvm.Cond.code ({ cls := "PolicyNotation", name := "bars", desc := "(LPolicyNotation$Draft;)LPolicyNotation$Whys;" } : Jvm.MethodName) prog_1_method_69_code (4 : Nat) (Option.some (Jvm.ClassFile.FieldType.object "PolicyNotation$Whys"))) ∈ lw_all := lw_g (lw_at lw_m9 62 rfl) rfl
theorem q2074 : (Jvm.Cond.classLink "PolicyNotation" (263 : Nat) "PolicyNotation$Rule") ∈ lw_all := lw_g (lw_at lw_m9 63 rfl) rfl
theorem q2075 : (Jvm.Cond.methodLink "PolicyNotation" (502 : Nat) ({ cls := "PolicyNotation", name := "made", desc := "(LPolicyNotation$Draft;)LPolicyNotation$Rule;" } : Jvm.MethodName)) ∈ lw_all := lw_g (lw_at lw_m9 64 rfl) rfl
theorem q2076 : (Jvm.Cond.privateMethod ({ cls := "PolicyNotation", name := "made", desc := "(LPolicyNotation$Draft;)LPolicyNotation$Rule;" } : Jvm.MethodName)) ∈ lw_tbl := lw_at lw_m9 65 rfl
theorem q2077 : (Jvm.Cond.instanceMethod ({ cls := "PolicyNotation", name := "made", desc := "(LPolicyNotation$Draft;)LPolicyNotation$Rule;" } : Jvm.MethodName)) ∈ lw_all := lw_g (lw_at lw_m9 66 rfl) rfl
theorem q2078 : (Jvm.Cond.code ({ cls := "PolicyNotation", name := "made", desc := "(LPolicyNotation$Draft;)LPolicyNotation$Rule;" } : Jvm.MethodName) prog_1_method_70_code (3 : Nat) (Option.some (Jvm.ClassFile.FieldType.object "PolicyNotation$Rule"))) ∈ lw_all := lw_g (lw_at lw_m9 67 rfl) rfl
theorem q2079 : (Jvm.Cond.methodLink "PolicyNotation" (507 : Nat) ({ cls := "java/lang/StringBuilder", name := "setLength", desc := "(I)V" } : Jvm.MethodName)) ∈ lw_all := lw_g (lw_at lw_m9 68 rfl) rfl
theorem q2135 : (Jvm.Cond.instanceMethod ({ cls := "PolicyNotation", name := "faultPosition", desc := "()I" } : Jvm.MethodName)) ∈ lw_all := lw_g (lw_at lw_m9 124 rfl) rfl
theorem q2136 : (Jvm.Cond.selects "PolicyNotation" ({ cls := "PolicyNotation", name := "faultPosition", desc := "()I" } : Jvm.MethodName) ({ cls := "PolicyNotation", name := "faultPosition", desc := "()I" } : Jvm.MethodName)) ∈ lw_all := lw_g (lw_at lw_m9 125 rfl) rfl
theorem q2137 : (Jvm.Cond.code ({ cls := "PolicyNotation", name := "faultPosition", desc := "()I" } : Jvm.MethodName) prog_1_method_72_code (1 : Nat) (Option.some Jvm.ClassFile.FieldType.int)) ∈ lw_all := lw_g (lw_at lw_m9 126 rfl) rfl
theorem q2142 : (Jvm.Cond.instanceMethod ({ cls := "PolicyNotation", name := "explain", desc := "(III)I" } : Jvm.MethodName)) ∈ lw_all := lw_g (lw_at lw_m9 131 rfl) rfl
theorem q2143 : (Jvm.Cond.selects "PolicyNotation" ({ cls := "PolicyNotation", name := "explain", desc := "(III)I" } : Jvm.MethodName) ({ cls := "PolicyNotation", name := "explain", desc := "(III)I" } : Jvm.MethodName)) ∈ lw_all := lw_g (lw_at lw_m9 132 rfl) rfl
theorem q2144 : (Jvm.Cond.code ({ cls := "PolicyNotation", name := "explain", desc := "(III)I" } : Jvm.MethodName) prog_1_method_73_code (7 : Nat) (Option.some Jvm.ClassFile.FieldType.int)) ∈ lw_all := lw_g (lw_at lw_m9 133 rfl) rfl
theorem q2145 : (Jvm.Cond.stringRef "PolicyNotation" (515 : Nat) " but ") ∈ lw_tbl := lw_at lw_m9 134 rfl
theorem q2146 : (Jvm.Cond.stringRef "PolicyNotation" (517 : Nat) "") ∈ lw_tbl := lw_at lw_m9 135 rfl
theorem q2147 : (Jvm.Cond.methodLink "PolicyNotation" (519 : Nat) ({ cls := "java/lang/StringBuilder", name := "append", desc := "(Ljava/lang/String;)Ljava/lang/StringBuilder;" } : Jvm.MethodName)) ∈ lw_all := lw_g (lw_at lw_m9 136 rfl) rfl
theorem q2148 : (Jvm.Cond.methodLink "PolicyNotation" (522 : Nat) ({ cls := "java/lang/StringBuilder", name := "append", desc := "(I)Ljava/lang/StringBuilder;" } : Jvm.MethodName)) ∈ lw_all := lw_g (lw_at lw_m9 137 rfl) rfl
theorem q2149 : (Jvm.Cond.stringRef "PolicyNotation" (525 : Nat) "default") ∈ lw_tbl := lw_at lw_m9 138 rfl
theorem q2150 : (Jvm.Cond.stringRef "PolicyNotation" (527 : Nat) ": ") ∈ lw_tbl := lw_at lw_m9 139 rfl
theorem q2151 : (Jvm.Cond.methodLink "PolicyNotation" (529 : Nat) ({ cls := "PolicyNotation$Effect", name := "word", desc := "()Ljava/lang/String;" } : Jvm.MethodName)) ∈ lw_all := lw_g (lw_at lw_m9 140 rfl) rfl
theorem q2170 : (Jvm.Cond.instanceMethod ({ cls := "PolicyNotation", name := "character", desc := "(I)C" } : Jvm.MethodName)) ∈ lw_all := lw_g (lw_at lw_m9 159 rfl) rfl
theorem q2171 : (Jvm.Cond.selects "PolicyNotation" ({ cls := "PolicyNotation", name := "character", desc := "(I)C" } : Jvm.MethodName) ({ cls := "PolicyNotation", name := "character", desc := "(I)C" } : Jvm.MethodName)) ∈ lw_all := lw_g (lw_at lw_m9 160 rfl) rfl
theorem q2172 : (Jvm.Cond.code ({ cls := "PolicyNotation", name := "character", desc := "(I)C" } : Jvm.MethodName) prog_1_method_74_code (2 : Nat) (Option.some Jvm.ClassFile.FieldType.char)) ∈ lw_all := lw_g (lw_at lw_m9 161 rfl) rfl
theorem q2173 : (Jvm.Cond.methodLink "PolicyNotation" (533 : Nat) ({ cls := "java/lang/StringBuilder", name := "charAt", desc := "(I)C" } : Jvm.MethodName)) ∈ lw_all := lw_g (lw_at lw_m9 162 rfl) rfl
theorem q2178 : (Jvm.Cond.instanceMethod ({ cls := "PolicyNotation", name := "reason", desc := "(Z)I" } : Jvm.MethodName)) ∈ lw_all := lw_g (lw_at lw_m9 167 rfl) rfl
theorem q2179 : (Jvm.Cond.selects "PolicyNotation" ({ cls := "PolicyNotation", name := "reason", desc := "(Z)I" } : Jvm.MethodName) ({ cls := "PolicyNotation", name := "reason", desc := "(Z)I" } : Jvm.MethodName)) ∈ lw_all := lw_g (lw_at lw_m9 168 rfl) rfl
theorem q2180 : (Jvm.Cond.code ({ cls := "PolicyNotation", name := "reason", desc := "(Z)I" } : Jvm.MethodName) prog_1_method_75_code (2 : Nat) (Option.some Jvm.ClassFile.FieldType.int)) ∈ lw_all := lw_g (lw_at lw_m9 169 rfl) rfl
theorem q2185 : (Jvm.Cond.instanceMethod ({ cls := "PolicyNotation", name := "account", desc := "(I)I" } : Jvm.MethodName)) ∈ lw_all := lw_g (lw_at lw_m9 174 rfl) rfl
theorem q2186 : (Jvm.Cond.selects "PolicyNotation" ({ cls := "PolicyNotation", name := "account", desc := "(I)I" } : Jvm.MethodName) ({ cls := "PolicyNotation", name := "account", desc := "(I)I" } : Jvm.MethodName)) ∈ lw_all := lw_g (lw_at lw_m9 175 rfl) rfl
theorem q2187 : (Jvm.Cond.code ({ cls := "PolicyNotation", name := "account", desc := "(I)I" } : Jvm.MethodName) prog_1_method_78_code (2 : Nat) (Option.some Jvm.ClassFile.FieldType.int)) ∈ lw_all := lw_g (lw_at lw_m9 176 rfl) rfl
theorem q2188 : (Jvm.Cond.static ({ cls := "PolicyNotation", name := "lambda$account$3", desc := "(LPolicyNotation$Rule;)Z" } : Jvm.MethodName)) ∈ lw_all := lw_g (lw_at lw_m9 177 rfl) rfl
theorem q2189 : (Jvm.Cond.code ({ cls := "PolicyNotation", name := "lambda$account$3", desc := "(LPolicyNotation$Rule;)Z" } : Jvm.MethodName) prog_1_method_84_code (1 : Nat) (Option.some Jvm.ClassFile.FieldType.boolean)) ∈ lw_all := lw_g (lw_at lw_m9 178 rfl) rfl
theorem q2190 : (Jvm.Cond.static ({ cls := "PolicyNotation", name := "lambda$account$4", desc := "(LPolicyNotation$Rule;)I" } : Jvm.MethodName)) ∈ lw_all := lw_g (lw_at lw_m9 179 rfl) rfl
theorem q2191 : (Jvm.Cond.code ({ cls := "PolicyNotation", name := "lambda$account$4", desc := "(LPolicyNotation$Rule;)I" } : Jvm.MethodName) prog_1_method_83_code (1 : Nat) (Option.some Jvm.ClassFile.FieldType.int)) ∈ lw_all := lw_g (lw_at lw_m9 180 rfl) rfl
theorem q2192 : (Jvm.Cond.methodLink "PolicyNotation" (548 : Nat) ({ cls := "PolicyNotation$Policy", name := "sum", desc := "(LPolicyNotation$Counted;)I" } : Jvm.MethodName)) ∈ lw_all := lw_g (lw_at lw_m9 181 rfl) rfl
theorem q2193 : (Jvm.Cond.methodLink "PolicyNotation" (551 : Nat) ({ cls := "PolicyNotation", name := "deepest", desc := "()I" } : Jvm.MethodName)) ∈ lw_all := lw_g (lw_at lw_m9 182 rfl) rfl
theorem q2194 : (Jvm.Cond.privateMethod ({ cls := "PolicyNotation", name := "deepest", desc := "()I" } : Jvm.MethodName)) ∈ lw_tbl := lw_at lw_m9 183 rfl
theorem q2195 : (Jvm.Cond.instanceMethod ({ cls := "PolicyNotation", name := "deepest", desc := "()I" } : Jvm.MethodName)) ∈ lw_all := lw_g (lw_at lw_m9 184 rfl) rfl
theorem q2196 : (Jvm.Cond.code ({ cls := "PolicyNotation", name := "deepest", desc := "()I" } : Jvm.MethodName) prog_1_method_76_code (3 : Nat) (Option.some Jvm.ClassFile.FieldType.int)) ∈ lw_all := lw_g (lw_at lw_m9 185 rfl) rfl
theorem q2197 : (Jvm.Cond.methodLink "PolicyNotation" (537 : Nat) ({ cls := "java/lang/Math", name := "max", desc := "(II)I" } : Jvm.MethodName)) ∈ lw_all := lw_g (lw_at lw_m9 186 rfl) rfl
theorem q2198 : (Jvm.Cond.privateMethod ({ cls := "PolicyNotation", name := "lambda$account$5", desc := "(LPolicyNotation$Work;)I" } : Jvm.MethodName)) ∈ lw_tbl := lw_at lw_m9 187 rfl
theorem q2199 : (Jvm.Cond.instanceMethod ({ cls := "PolicyNotation", name := "lambda$account$5", desc := "(LPolicyNotation$Work;)I" } : Jvm.MethodName)) ∈ lw_all := lw_g (lw_at lw_m9 188 rfl) rfl
theorem q2200 : (Jvm.Cond.code ({ cls := "PolicyNotation", name := "lambda$account$5", desc := "(LPolicyNotation$Work;)I" } : Jvm.MethodName) prog_1_method_82_code (2 : Nat) (Option.some Jvm.ClassFile.FieldType.int)) ∈ lw_all := lw_g (lw_at lw_m9 189 rfl) rfl
theorem q2201 : (Jvm.Cond.methodLink "PolicyNotation" (555 : Nat) ({ cls := "PolicyNotation", name := "keptRows", desc := "()I" } : Jvm.MethodName)) ∈ lw_all := lw_g (lw_at lw_m9 190 rfl) rfl
theorem q2202 : (Jvm.Cond.privateMethod ({ cls := "PolicyNotation", name := "keptRows", desc := "()I" } : Jvm.MethodName)) ∈ lw_tbl := lw_at lw_m9 191 rfl
theorem q2203 : (Jvm.Cond.instanceMethod ({ cls := "PolicyNotation", name := "keptRows", desc := "()I" } : Jvm.MethodName)) ∈ lw_all := lw_g (lw_at lw_m9 192 rfl) rfl
theorem q2204 : (Jvm.Cond.code ({ cls := "PolicyNotation", name := "keptRows", desc := "()I" } : Jvm.MethodName) prog_1_method_77_code (6 : Nat) (Option.some Jvm.ClassFile.FieldType.int)) ∈ lw_all := lw_g (lw_at lw_m9 193 rfl) rfl
theorem q2209 : (Jvm.Cond.instanceMethod ({ cls := "PolicyNotation", name := "undo", desc := "()I" } : Jvm.MethodName)) ∈ lw_all := lw_g (lw_at lw_m9 198 rfl) rfl
theorem q2210 : (Jvm.Cond.selects "PolicyNotation" ({ cls := "PolicyNotation", name := "undo", desc := "()I" } : Jvm.MethodName) ({ cls := "PolicyNotation", name := "undo", desc := "()I" } : Jvm.MethodName)) ∈ lw_all := lw_g (lw_at lw_m9 199 rfl) rfl
theorem q2211 : (Jvm.Cond.code ({ cls := "PolicyNotation", name := "undo", desc := "()I" } : Jvm.MethodName) prog_1_method_79_code (1 : Nat) (Option.some Jvm.ClassFile.FieldType.int)) ∈ lw_all := lw_g (lw_at lw_m9 200 rfl) rfl
theorem q2212 : (Jvm.Cond.methodLink "PolicyNotation" (558 : Nat) ({ cls := "java/util/ArrayDeque", name := "isEmpty", desc := "()Z" } : Jvm.MethodName)) ∈ lw_all := lw_g (lw_at lw_m9 201 rfl) rfl
theorem q2216 : (Jvm.Cond.methodLink "PolicyNotation" (561 : Nat) ({ cls := "java/util/ArrayDeque", name := "removeLast", desc := "()Ljava/lang/Object;" } : Jvm.MethodName)) ∈ lw_all := lw_g (lw_at lw_m9 205 rfl) rfl
theorem q2231 : (Jvm.Cond.instanceMethod ({ cls := "PolicyNotation", name := "restore", desc := "()I" } : Jvm.MethodName)) ∈ lw_all := lw_g (lw_at lw_m9 220 rfl) rfl
theorem q2232 : (Jvm.Cond.selects "PolicyNotation" ({ cls := "PolicyNotation", name := "restore", desc := "()I" } : Jvm.MethodName) ({ cls := "PolicyNotation", name := "restore", desc := "()I" } : Jvm.MethodName)) ∈ lw_all := lw_g (lw_at lw_m9 221 rfl) rfl
theorem q2233 : (Jvm.Cond.code ({ cls := "PolicyNotation", name := "restore", desc := "()I" } : Jvm.MethodName) prog_1_method_81_code (1 : Nat) (Option.some Jvm.ClassFile.FieldType.int)) ∈ lw_all := lw_g (lw_at lw_m9 222 rfl) rfl
theorem q2234 : (Jvm.Cond.methodLink "PolicyNotation" (567 : Nat) ({ cls := "java/util/ArrayDeque", name := "clear", desc := "()V" } : Jvm.MethodName)) ∈ lw_all := lw_g (lw_at lw_m9 223 rfl) rfl
theorem q2799 : (Jvm.Cond.castable "PolicyNotation" "java/lang/Object") ∈ lw_tbl := lw_at lw_m12 68 rfl
theorem in_X1 : ∀ w ∈ wsX10, w ∈ lw_all := lw_in wsX10 [674, 676, 678, 680, 682, 684, 686, 688, 690, 692, 694] (by decide +kernel) (by decide +kernel)
