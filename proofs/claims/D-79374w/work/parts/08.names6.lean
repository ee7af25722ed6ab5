set_option maxRecDepth 100000
/-! java/lang/IndexOutOfBoundsException -/
def RJ19 : String := "java/lang/IndexOutOfBoundsException"
def TJ19 : u_T := fun k => match k with
  | 0 => ("java/lang/Throwable", "cause", "Ljava/lang/Throwable;", false)
  | 1 => ("java/lang/Throwable", "stackTrace", "[Ljava/lang/StackTraceElement;", false)
  | 2 => ("java/lang/Throwable", "suppressedExceptions", "Ljava/util/List;", false)
  | 3 => ("java/lang/Throwable", "detailMessage", "Ljava/lang/String;", false)
  | 4 => ("java/lang/Throwable", "backtrace", "Ljava/lang/Object;", false)
  | _ => ("java/lang/Throwable", "depth", "I", false)
def tyJ19 : Nat → FieldType := fun k => match k with
  | 0 => .object "java/lang/Throwable"
  | 1 => .array (.object "java/lang/StackTraceElement")
  | 2 => .object "java/util/List"
  | 3 => .object "java/lang/String"
  | 4 => .object "java/lang/Object"
  | _ => .int
abbrev wsJ190 : List Cond := u_ws RJ19 TJ19 6
theorem nmJ19 : ∀ a, a < 6 → ∀ b, b < 6 → a ≠ b → (TJ19 a).2.1 ≠ (TJ19 b).2.1 := by decide +kernel
theorem tyJ19_ok : ∀ k, k < 6 → parseFieldDescriptor (TJ19 k).2.2.1 = some (tyJ19 k) := by decide +kernel
abbrev cJ19_init : ByteArray := prog_42_method_2_code
def yJ19_init : MethodName := ⟨RJ19, "<init>", "(Ljava/lang/String;)V"⟩
def dkwJ19_init_0 : List UInt8 := [42, 43, 183, 0, 7, 177]
abbrev dktJ19_init_0 : List UInt8 := dkwJ19_init_0 ++ []
theorem dksJ19_init_0 : cJ19_init.data.toList.drop 0 = dktJ19_init_0 := by decide +kernel
theorem dJ19_init_0 : decode cJ19_init 0 = .ok (.aload_n 0, 1) := dk_42 (dk_at dksJ19_init_0 0 rfl rfl)
theorem dJ19_init_1 : decode cJ19_init 1 = .ok (.aload_n 1, 1) := dk_43 (dk_at dksJ19_init_0 1 rfl rfl)
theorem dJ19_init_2 : decode cJ19_init 2 = .ok (.invokespecial 7, 3) := dk_183 0 7 (dk_at dksJ19_init_0 2 rfl rfl)
theorem dJ19_init_5 : decode cJ19_init 5 = .ok (.return_, 1) := dk_177 (dk_at dksJ19_init_0 5 rfl rfl)
abbrev cJ19_init_2 : ByteArray := prog_42_method_1_code
def yJ19_init_2 : MethodName := ⟨RJ19, "<init>", "()V"⟩
theorem dJ19_init_2_0 : decode cJ19_init_2 0 = .ok (.aload_n 0, 1) := by decide +kernel
theorem dJ19_init_2_1 : decode cJ19_init_2 1 = .ok (.invokespecial 1, 3) := by decide +kernel
theorem dJ19_init_2_4 : decode cJ19_init_2 4 = .ok (.return_, 1) := by decide +kernel
theorem q119 : (Jvm.Cond.initialized "java/lang/IndexOutOfBoundsException") ∈ lw_all := lw_g (lw_at lw_m1 28 rfl) rfl
theorem q210 : (Jvm.Cond.selects "java/lang/IndexOutOfBoundsException" ({ cls := "java/lang/Throwable", name := "fillInStackTrace", desc := "()Ljava/lang/Throwable;" } : Jvm.MethodName) ({ cls := "java/lang/Throwable", name := "fillInStackTrace", desc := "()Ljava/lang/Throwable;" } : Jvm.MethodName)) ∈ lw_all := lw_g (lw_at lw_m1 119 rfl) rfl
theorem q577 : (Jvm.Cond.selects "java/lang/IndexOutOfBoundsException" ({ cls := "java/lang/Object", name := "getClass", desc := "()Ljava/lang/Class;" } : Jvm.MethodName) ({ cls := "java/lang/Object", name := "getClass", desc := "()Ljava/lang/Class;" } : Jvm.MethodName)) ∈ lw_all := lw_g (lw_at lw_m3 6 rfl) rfl
theorem q1037 : (Jvm.Cond.instanceMethod ({ cls := "java/lang/IndexOutOfBoundsException", name := "<init>", desc := "(Ljava/lang/String;)V" } : Jvm.MethodName)) ∈ lw_all := lw_g (lw_at lw_m4 226 rfl) rfl
theorem q1038 : (Jvm.Cond.code ({ cls := "java/lang/IndexOutOfBoundsException", name := "<init>", desc := "(Ljava/lang/String;)V" } : Jvm.MethodName) prog_42_method_2_code (2 : Nat) (Option.none : Option Jvm.ClassFile.FieldType)) ∈ lw_all := lw_g (lw_at lw_m4 227 rfl) rfl
theorem q1039 : (Jvm.Cond.methodLink "java/lang/IndexOutOfBoundsException" (7 : Nat) ({ cls := "java/lang/RuntimeException", name := "<init>", desc := "(Ljava/lang/String;)V" } : Jvm.MethodName)) ∈ lw_all := lw_g (lw_at lw_m4 228 rfl) rfl
theorem q1048 : (Jvm.Cond.declares ({ cls := "java/lang/IndexOutOfBoundsException", name := "<init>", desc := "()V" } : Jvm.MethodName)) ∈ lw_tbl := lw_at lw_m4 237 rfl
theorem q1049 : (Jvm.Cond.declares ({ cls := "java/lang/IndexOutOfBoundsException", name := "<init>", desc := "(Ljava/lang/String;)V" } : Jvm.MethodName)) ∈ lw_tbl := lw_at lw_m4 238 rfl
theorem q1069 : (Jvm.Cond.instantiable "java/lang/IndexOutOfBoundsException" (6 : Nat)) ∈ lw_all := lw_g (lw_at lw_m5 18 rfl) rfl
theorem q1070 : (Jvm.Cond.castable "java/lang/IndexOutOfBoundsException" "java/lang/IndexOutOfBoundsException") ∈ lw_tbl := lw_at lw_m5 19 rfl
theorem q1071 : (Jvm.Cond.selects "java/lang/IndexOutOfBoundsException" ({ cls := "java/lang/Throwable", name := "fillInStackTrace", desc := "(I)Ljava/lang/Throwable;" } : Jvm.MethodName) ({ cls := "java/lang/Throwable", name := "fillInStackTrace", desc := "(I)Ljava/lang/Throwable;" } : Jvm.MethodName)) ∈ lw_all := lw_g (lw_at lw_m5 20 rfl) rfl
theorem q1072 : (Jvm.Cond.lays "java/lang/IndexOutOfBoundsException" "java/lang/Throwable" "cause" "Ljava/lang/Throwable;") ∈ lw_all := lw_g (lw_at lw_m5 21 rfl) rfl
theorem q1073 : (Jvm.Cond.lays "java/lang/IndexOutOfBoundsException" "java/lang/Throwable" "stackTrace" "[Ljava/lang/StackTraceElement;") ∈ lw_all := lw_g (lw_at lw_m5 22 rfl) rfl
theorem q1074 : (Jvm.Cond.lays "java/lang/IndexOutOfBoundsException" "java/lang/Throwable" "suppressedExceptions" "Ljava/util/List;") ∈ lw_all := lw_g (lw_at lw_m5 23 rfl) rfl
theorem q1075 : (Jvm.Cond.lays "java/lang/IndexOutOfBoundsException" "java/lang/Throwable" "detailMessage" "Ljava/lang/String;") ∈ lw_all := lw_g (lw_at lw_m5 24 rfl) rfl
theorem q1076 : (Jvm.Cond.lays "java/lang/IndexOutOfBoundsException" "java/lang/Throwable" "backtrace" "Ljava/lang/Object;") ∈ lw_all := lw_g (lw_at lw_m5 25 rfl) rfl
theorem q1078 : (Jvm.Cond.instanceMethod ({ cls := "java/lang/IndexOutOfBoundsException", name := "<init>", desc := "()V" } : Jvm.MethodName)) ∈ lw_all := lw_g (lw_at lw_m5 27 rfl) rfl
theorem q1079 : (Jvm.Cond.code ({ cls := "java/lang/IndexOutOfBoundsException", name := "<init>", desc := "()V" } : Jvm.MethodName) prog_42_method_1_code (1 : Nat) (Option.none : Option Jvm.ClassFile.FieldType)) ∈ lw_all := lw_g (lw_at lw_m5 28 rfl) rfl
theorem q1080 : (Jvm.Cond.methodLink "java/lang/IndexOutOfBoundsException" (1 : Nat) ({ cls := "java/lang/RuntimeException", name := "<init>", desc := "()V" } : Jvm.MethodName)) ∈ lw_all := lw_g (lw_at lw_m5 29 rfl) rfl
theorem q1087 : (Jvm.Cond.lays "java/lang/IndexOutOfBoundsException" "java/lang/Throwable" "depth" "I") ∈ lw_all := lw_g (lw_at lw_m5 36 rfl) rfl
theorem q1088 : (Jvm.Cond.superclass "java/lang/IndexOutOfBoundsException" "java/lang/RuntimeException") ∈ lw_all := lw_g (lw_at lw_m5 37 rfl) rfl
theorem q2811 : (Jvm.Cond.castable "java/lang/IndexOutOfBoundsException" "java/lang/Object") ∈ lw_tbl := lw_at lw_m12 80 rfl
theorem in_J19 : ∀ w ∈ wsJ190, w ∈ lw_all := lw_in wsJ190 [1072, 1073, 1074, 1075, 1076, 1087] (by decide +kernel) (by decide +kernel)
/-! java/lang/ArrayIndexOutOfBoundsException -/
def RJ20 : String := "java/lang/ArrayIndexOutOfBoundsException"
def TJ20 : u_T := fun k => match k with
  | 0 => ("java/lang/Throwable", "backtrace", "Ljava/lang/Object;", false)
  | 1 => ("java/lang/Throwable", "detailMessage", "Ljava/lang/String;", false)
  | 2 => ("java/lang/Throwable", "cause", "Ljava/lang/Throwable;", false)
  | 3 => ("java/lang/Throwable", "stackTrace", "[Ljava/lang/StackTraceElement;", false)
  | 4 => ("java/lang/Throwable", "depth", "I", false)
  | _ => ("java/lang/Throwable", "suppressedExceptions", "Ljava/util/List;", false)
def tyJ20 : Nat → FieldType := fun k => match k with
  | 0 => .object "java/lang/Object"
  | 1 => .object "java/lang/String"
  | 2 => .object "java/lang/Throwable"
  | 3 => .array (.object "java/lang/StackTraceElement")
  | 4 => .int
  | _ => .object "java/util/List"
abbrev wsJ200 : List Cond := u_ws RJ20 TJ20 6
theorem nmJ20 : ∀ a, a < 6 → ∀ b, b < 6 → a ≠ b → (TJ20 a).2.1 ≠ (TJ20 b).2.1 := by decide +kernel
theorem tyJ20_ok : ∀ k, k < 6 → parseFieldDescriptor (TJ20 k).2.2.1 = some (tyJ20 k) := by decide +kernel
abbrev cJ20_init : ByteArray := prog_31_method_2_code
def yJ20_init : MethodName := ⟨RJ20, "<init>", "(Ljava/lang/String;)V"⟩
def dkwJ20_init_0 : List UInt8 := [42, 43, 183, 0, 7, 177]
abbrev dktJ20_init_0 : List UInt8 := dkwJ20_init_0 ++ []
theorem dksJ20_init_0 : cJ20_init.data.toList.drop 0 = dktJ20_init_0 := by decide +kernel
theorem dJ20_init_0 : decode cJ20_init 0 = .ok (.aload_n 0, 1) := dk_42 (dk_at dksJ20_init_0 0 rfl rfl)
theorem dJ20_init_1 : decode cJ20_init 1 = .ok (.aload_n 1, 1) := dk_43 (dk_at dksJ20_init_0 1 rfl rfl)
theorem dJ20_init_2 : decode cJ20_init 2 = .ok (.invokespecial 7, 3) := dk_183 0 7 (dk_at dksJ20_init_0 2 rfl rfl)
theorem dJ20_init_5 : decode cJ20_init 5 = .ok (.return_, 1) := dk_177 (dk_at dksJ20_init_0 5 rfl rfl)
abbrev cJ20_init_2 : ByteArray := prog_31_method_3_code
def yJ20_init_2 : MethodName := ⟨RJ20, "<init>", "(I)V"⟩
def dkwJ20_init_2_0 : List UInt8 := [42, 187, 0, 10, 89, 183, 0, 12, 18, 13, 182, 0, 15, 27, 182, 0, 19, 182, 0, 22, 183, 0, 7, 177]
abbrev dktJ20_init_2_0 : List UInt8 := dkwJ20_init_2_0 ++ []
theorem dksJ20_init_2_0 : cJ20_init_2.data.toList.drop 0 = dktJ20_init_2_0 := by decide +kernel
theorem dJ20_init_2_0 : decode cJ20_init_2 0 = .ok (.aload_n 0, 1) := dk_42 (dk_at dksJ20_init_2_0 0 rfl rfl)
theorem dJ20_init_2_1 : decode cJ20_init_2 1 = .ok (.new 10, 3) := dk_187 0 10 (dk_at dksJ20_init_2_0 1 rfl rfl)
theorem dJ20_init_2_4 : decode cJ20_init_2 4 = .ok (.dup, 1) := dk_89 (dk_at dksJ20_init_2_0 4 rfl rfl)
theorem dJ20_init_2_5 : decode cJ20_init_2 5 = .ok (.invokespecial 12, 3) := dk_183 0 12 (dk_at dksJ20_init_2_0 5 rfl rfl)
theorem dJ20_init_2_8 : decode cJ20_init_2 8 = .ok (.ldc 13, 2) := dk_18 13 (dk_at dksJ20_init_2_0 8 rfl rfl)
theorem dJ20_init_2_10 : decode cJ20_init_2 10 = .ok (.invokevirtual 15, 3) := dk_182 0 15 (dk_at dksJ20_init_2_0 10 rfl rfl)
theorem dJ20_init_2_13 : decode cJ20_init_2 13 = .ok (.iload_n 1, 1) := dk_27 (dk_at dksJ20_init_2_0 13 rfl rfl)
theorem dJ20_init_2_14 : decode cJ20_init_2 14 = .ok (.invokevirtual 19, 3) := dk_182 0 19 (dk_at dksJ20_init_2_0 14 rfl rfl)
theorem dJ20_init_2_17 : decode cJ20_init_2 17 = .ok (.invokevirtual 22, 3) := dk_182 0 22 (dk_at dksJ20_init_2_0 17 rfl rfl)
theorem dJ20_init_2_20 : decode cJ20_init_2 20 = .ok (.invokespecial 7, 3) := dk_183 0 7 (dk_at dksJ20_init_2_0 20 rfl rfl)
theorem dJ20_init_2_23 : decode cJ20_init_2 23 = .ok (.return_, 1) := dk_177 (dk_at dksJ20_init_2_0 23 rfl rfl)
theorem q120 : (Jvm.Cond.initialized "java/lang/ArrayIndexOutOfBoundsException") ∈ lw_all := lw_g (lw_at lw_m1 29 rfl) rfl
theorem q207 : (Jvm.Cond.selects "java/lang/ArrayIndexOutOfBoundsException" ({ cls := "java/lang/Throwable", name := "fillInStackTrace", desc := "()Ljava/lang/Throwable;" } : Jvm.MethodName) ({ cls := "java/lang/Throwable", name := "fillInStackTrace", desc := "()Ljava/lang/Throwable;" } : Jvm.MethodName)) ∈ lw_all := lw_g (lw_at lw_m1 116 rfl) rfl
theorem q573 : (Jvm.Cond.selects "java/lang/ArrayIndexOutOfBoundsException" ({ cls := "java/lang/Object", name := "getClass", desc := "()Ljava/lang/Class;" } : Jvm.MethodName) ({ cls := "java/lang/Object", name := "getClass", desc := "()Ljava/lang/Class;" } : Jvm.MethodName)) ∈ lw_all := lw_g (lw_at lw_m3 2 rfl) rfl
theorem q1033 : (Jvm.Cond.instantiable "java/lang/ArrayIndexOutOfBoundsException" (6 : Nat)) ∈ lw_all := lw_g (lw_at lw_m4 222 rfl) rfl
theorem q1034 : (Jvm.Cond.instanceMethod ({ cls := "java/lang/ArrayIndexOutOfBoundsException", name := "<init>", desc := "(Ljava/lang/String;)V" } : Jvm.MethodName)) ∈ lw_all := lw_g (lw_at lw_m4 223 rfl) rfl
theorem q1035 : (Jvm.Cond.code ({ cls := "java/lang/ArrayIndexOutOfBoundsException", name := "<init>", desc := "(Ljava/lang/String;)V" } : Jvm.MethodName) prog_31_method_2_code (2 : Nat) (Option.none : Option Jvm.ClassFile.FieldType)) ∈ lw_all := lw_g (lw_at lw_m4 224 rfl) rfl
theorem q1036 : (Jvm.Cond.methodLink "java/lang/ArrayIndexOutOfBoundsException" (7 : Nat) ({ cls := "java/lang/IndexOutOfBoundsException", name := "<init>", desc := "(Ljava/lang/String;)V" } : Jvm.MethodName)) ∈ lw_all := lw_g (lw_at lw_m4 225 rfl) rfl
theorem q1040 : (Jvm.Cond.lays "java/lang/ArrayIndexOutOfBoundsException" "java/lang/Throwable" "backtrace" "Ljava/lang/Object;") ∈ lw_all := lw_g (lw_at lw_m4 229 rfl) rfl
theorem q1041 : (Jvm.Cond.lays "java/lang/ArrayIndexOutOfBoundsException" "java/lang/Throwable" "detailMessage" "Ljava/lang/String;") ∈ lw_all := lw_g (lw_at lw_m4 230 rfl) rfl
theorem q1042 : (Jvm.Cond.lays "java/lang/ArrayIndexOutOfBoundsException" "java/lang/Throwable" "cause" "Ljava/lang/Throwable;") ∈ lw_all := lw_g (lw_at lw_m4 231 rfl) rfl
theorem q1043 : (Jvm.Cond.lays "java/lang/ArrayIndexOutOfBoundsException" "java/lang/Throwable" "stackTrace" "[Ljava/lang/StackTraceElement;") ∈ lw_all := lw_g (lw_at lw_m4 232 rfl) rfl
theorem q1044 : (Jvm.Cond.lays "java/lang/ArrayIndexOutOfBoundsException" "java/lang/Throwable" "depth" "I") ∈ lw_all := lw_g (lw_at lw_m4 233 rfl) rfl
theorem q1045 : (Jvm.Cond.lays "java/lang/ArrayIndexOutOfBoundsException" "java/lang/Throwable" "suppressedExceptions" "Ljava/util/List;") ∈ lw_all := lw_g (lw_at lw_m4 234 rfl) rfl
theorem q1046 : (Jvm.Cond.superclass "java/lang/ArrayIndexOutOfBoundsException" "java/lang/IndexOutOfBoundsException") ∈ lw_all := lw_g (lw_at lw_m4 235 rfl) rfl
theorem q1047 : (Jvm.Cond.castable "java/lang/ArrayIndexOutOfBoundsException" "java/lang/ArrayIndexOutOfBoundsException") ∈ lw_tbl := lw_at lw_m4 236 rfl
theorem q1050 : (Jvm.Cond.selects "java/lang/ArrayIndexOutOfBoundsException" ({ cls := "java/lang/Throwable", name := "fillInStackTrace", desc := "(I)Ljava/lang/Throwable;" } : Jvm.MethodName) ({ cls := "java/lang/Throwable", name := "fillInStackTrace", desc := "(I)Ljava/lang/Throwable;" } : Jvm.MethodName)) ∈ lw_all := lw_g (lw_at lw_m4 239 rfl) rfl
theorem q2119 : (Jvm.Cond.instanceMethod ({ cls := "java/lang/ArrayIndexOutOfBoundsException", name := "<init>", desc := "(I)V" } : Jvm.MethodName)) ∈ lw_all := lw_g (lw_at lw_m9 108 rfl) rfl
theorem q2120 : (Jvm.Cond.code ({ cls := "java/lang/ArrayIndexOutOfBoundsException", name := "<init>", desc := "(I)V" } : Jvm.MethodName) prog_31_method_3_code (2 : Nat) (Option.none : Option Jvm.ClassFile.FieldType)) ∈ lw_all := lw_g (lw_at lw_m9 109 rfl) rfl
theorem q2121 : (Jvm.Cond.classLink "java/lang/ArrayIndexOutOfBoundsException" (10 : Nat) "java/lang/StringBuilder") ∈ lw_all := lw_g (lw_at lw_m9 110 rfl) rfl
theorem q2122 : (Jvm.Cond.methodLink "java/lang/ArrayIndexOutOfBoundsException" (12 : Nat) ({ cls := "java/lang/StringBuilder", name := "<init>", desc := "()V" } : Jvm.MethodName)) ∈ lw_all := lw_g (lw_at lw_m9 111 rfl) rfl
theorem q2123 : (Jvm.Cond.stringRef "java/lang/ArrayIndexOutOfBoundsException" (13 : Nat) "Array index out of range: ") ∈ lw_tbl := lw_at lw_m9 112 rfl
theorem q2124 : (Jvm.Cond.methodLink "java/lang/ArrayIndexOutOfBoundsException" (15 : Nat) ({ cls := "java/lang/StringBuilder", name := "append", desc := "(Ljava/lang/String;)Ljava/lang/StringBuilder;" } : Jvm.MethodName)) ∈ lw_all := lw_g (lw_at lw_m9 113 rfl) rfl
theorem q2125 : (Jvm.Cond.methodLink "java/lang/ArrayIndexOutOfBoundsException" (19 : Nat) ({ cls := "java/lang/StringBuilder", name := "append", desc := "(I)Ljava/lang/StringBuilder;" } : Jvm.MethodName)) ∈ lw_all := lw_g (lw_at lw_m9 114 rfl) rfl
theorem q2126 : (Jvm.Cond.methodLink "java/lang/ArrayIndexOutOfBoundsException" (22 : Nat) ({ cls := "java/lang/StringBuilder", name := "toString", desc := "()Ljava/lang/String;" } : Jvm.MethodName)) ∈ lw_all := lw_g (lw_at lw_m9 115 rfl) rfl
theorem q2786 : (Jvm.Cond.castable "java/lang/ArrayIndexOutOfBoundsException" "java/lang/IndexOutOfBoundsException") ∈ lw_tbl := lw_at lw_m12 55 rfl
theorem q2810 : (Jvm.Cond.castable "java/lang/ArrayIndexOutOfBoundsException" "java/lang/Object") ∈ lw_tbl := lw_at lw_m12 79 rfl
theorem in_J20 : ∀ w ∈ wsJ200, w ∈ lw_all := lw_in wsJ200 [1040, 1041, 1042, 1043, 1044, 1045] (by decide +kernel) (by decide +kernel)
/-! java/util/Objects -/
def RJ21 : String := "java/util/Objects"
abbrev cJ21_checkIndex : ByteArray := prog_67_method_17_code
def yJ21_checkIndex : MethodName := ⟨RJ21, "checkIndex", "(II)I"⟩
def dkwJ21_checkIndex_0 : List UInt8 := [26, 27, 1, 184, 0, 105, 172]
abbrev dktJ21_checkIndex_0 : List UInt8 := dkwJ21_checkIndex_0 ++ []
theorem dksJ21_checkIndex_0 : cJ21_checkIndex.data.toList.drop 0 = dktJ21_checkIndex_0 := by decide +kernel
theorem dJ21_checkIndex_0 : decode cJ21_checkIndex 0 = .ok (.iload_n 0, 1) := dk_26 (dk_at dksJ21_checkIndex_0 0 rfl rfl)
theorem dJ21_checkIndex_1 : decode cJ21_checkIndex 1 = .ok (.iload_n 1, 1) := dk_27 (dk_at dksJ21_checkIndex_0 1 rfl rfl)
theorem dJ21_checkIndex_2 : decode cJ21_checkIndex 2 = .ok (.aconst_null, 1) := dk_1 (dk_at dksJ21_checkIndex_0 2 rfl rfl)
theorem dJ21_checkIndex_3 : decode cJ21_checkIndex 3 = .ok (.invokestatic 105, 3) := dk_184 0 105 (dk_at dksJ21_checkIndex_0 3 rfl rfl)
theorem dJ21_checkIndex_6 : decode cJ21_checkIndex 6 = .ok (.ireturn, 1) := dk_172 (dk_at dksJ21_checkIndex_0 6 rfl rfl)
theorem q121 : (Jvm.Cond.initialized "java/util/Objects") ∈ lw_all := lw_g (lw_at lw_m1 30 rfl) rfl
theorem q710 : (Jvm.Cond.static ({ cls := "java/util/Objects", name := "checkIndex", desc := "(II)I" } : Jvm.MethodName)) ∈ lw_all := lw_g (lw_at lw_m3 139 rfl) rfl
theorem q711 : (Jvm.Cond.code ({ cls := "java/util/Objects", name := "checkIndex", desc := "(II)I" } : Jvm.MethodName) prog_67_method_17_code (2 : Nat) (Option.some Jvm.ClassFile.FieldType.int)) ∈ lw_all := lw_g (lw_at lw_m3 140 rfl) rfl
theorem q712 : (Jvm.Cond.methodLink "java/util/Objects" (105 : Nat) ({ cls := "jdk/internal/util/Preconditions", name := "checkIndex", desc := "(IILjava/util/function/BiFunction;)I" } : Jvm.MethodName)) ∈ lw_all := lw_g (lw_at lw_m3 141 rfl) rfl
/-! java/lang/IllegalStateException -/
def RJ22 : String := "java/lang/IllegalStateException"
def TJ22 : u_T := fun k => match k with
  | 0 => ("java/lang/Throwable", "cause", "Ljava/lang/Throwable;", false)
  | 1 => ("java/lang/Throwable", "stackTrace", "[Ljava/lang/StackTraceElement;", false)
  | 2 => ("java/lang/Throwable", "suppressedExceptions", "Ljava/util/List;", false)
  | 3 => ("java/lang/Throwable", "detailMessage", "Ljava/lang/String;", false)
  | 4 => ("java/lang/Throwable", "backtrace", "Ljava/lang/Object;", false)
  | _ => ("java/lang/Throwable", "depth", "I", false)
def tyJ22 : Nat → FieldType := fun k => match k with
  | 0 => .object "java/lang/Throwable"
  | 1 => .array (.object "java/lang/StackTraceElement")
  | 2 => .object "java/util/List"
  | 3 => .object "java/lang/String"
  | 4 => .object "java/lang/Object"
  | _ => .int
abbrev wsJ220 : List Cond := u_ws RJ22 TJ22 6
theorem nmJ22 : ∀ a, a < 6 → ∀ b, b < 6 → a ≠ b → (TJ22 a).2.1 ≠ (TJ22 b).2.1 := by decide +kernel
theorem tyJ22_ok : ∀ k, k < 6 → parseFieldDescriptor (TJ22 k).2.2.1 = some (tyJ22 k) := by decide +kernel
abbrev cJ22_init : ByteArray := prog_41_method_1_code
def yJ22_init : MethodName := ⟨RJ22, "<init>", "()V"⟩
theorem dJ22_init_0 : decode cJ22_init 0 = .ok (.aload_n 0, 1) := by decide +kernel
theorem dJ22_init_1 : decode cJ22_init 1 = .ok (.invokespecial 1, 3) := by decide +kernel
theorem dJ22_init_4 : decode cJ22_init 4 = .ok (.return_, 1) := by decide +kernel
abbrev cJ22_init_2 : ByteArray := prog_41_method_2_code
def yJ22_init_2 : MethodName := ⟨RJ22, "<init>", "(Ljava/lang/String;)V"⟩
def dkwJ22_init_2_0 : List UInt8 := [42, 43, 183, 0, 7, 177]
abbrev dktJ22_init_2_0 : List UInt8 := dkwJ22_init_2_0 ++ []
theorem dksJ22_init_2_0 : cJ22_init_2.data.toList.drop 0 = dktJ22_init_2_0 := by decide +kernel
theorem dJ22_init_2_0 : decode cJ22_init_2 0 = .ok (.aload_n 0, 1) := dk_42 (dk_at dksJ22_init_2_0 0 rfl rfl)
theorem dJ22_init_2_1 : decode cJ22_init_2 1 = .ok (.aload_n 1, 1) := dk_43 (dk_at dksJ22_init_2_0 1 rfl rfl)
theorem dJ22_init_2_2 : decode cJ22_init_2 2 = .ok (.invokespecial 7, 3) := dk_183 0 7 (dk_at dksJ22_init_2_0 2 rfl rfl)
theorem dJ22_init_2_5 : decode cJ22_init_2 5 = .ok (.return_, 1) := dk_177 (dk_at dksJ22_init_2_0 5 rfl rfl)
theorem q122 : (Jvm.Cond.initialized "java/lang/IllegalStateException") ∈ lw_all := lw_g (lw_at lw_m1 31 rfl) rfl
theorem q209 : (Jvm.Cond.selects "java/lang/IllegalStateException" ({ cls := "java/lang/Throwable", name := "fillInStackTrace", desc := "()Ljava/lang/Throwable;" } : Jvm.MethodName) ({ cls := "java/lang/Throwable", name := "fillInStackTrace", desc := "()Ljava/lang/Throwable;" } : Jvm.MethodName)) ∈ lw_all := lw_g (lw_at lw_m1 118 rfl) rfl
theorem q576 : (Jvm.Cond.selects "java/lang/IllegalStateException" ({ cls := "java/lang/Object", name := "getClass", desc := "()Ljava/lang/Class;" } : Jvm.MethodName) ({ cls := "java/lang/Object", name := "getClass", desc := "()Ljava/lang/Class;" } : Jvm.MethodName)) ∈ lw_all := lw_g (lw_at lw_m3 5 rfl) rfl
theorem q1093 : (Jvm.Cond.instantiable "java/lang/IllegalStateException" (6 : Nat)) ∈ lw_all := lw_g (lw_at lw_m5 42 rfl) rfl
theorem q1094 : (Jvm.Cond.castable "java/lang/IllegalStateException" "java/lang/IllegalStateException") ∈ lw_tbl := lw_at lw_m5 43 rfl
theorem q1095 : (Jvm.Cond.selects "java/lang/IllegalStateException" ({ cls := "java/lang/Throwable", name := "fillInStackTrace", desc := "(I)Ljava/lang/Throwable;" } : Jvm.MethodName) ({ cls := "java/lang/Throwable", name := "fillInStackTrace", desc := "(I)Ljava/lang/Throwable;" } : Jvm.MethodName)) ∈ lw_all := lw_g (lw_at lw_m5 44 rfl) rfl
theorem q1096 : (Jvm.Cond.lays "java/lang/IllegalStateException" "java/lang/Throwable" "cause" "Ljava/lang/Throwable;") ∈ lw_all := lw_g (lw_at lw_m5 45 rfl) rfl
theorem q1097 : (Jvm.Cond.lays "java/lang/IllegalStateException" "java/lang/Throwable" "stackTrace" "[Ljava/lang/StackTraceElement;") ∈ lw_all := lw_g (lw_at lw_m5 46 rfl) rfl
theorem q1098 : (Jvm.Cond.lays "java/lang/IllegalStateException" "java/lang/Throwable" "suppressedExceptions" "Ljava/util/List;") ∈ lw_all := lw_g (lw_at lw_m5 47 rfl) rfl
theorem q1099 : (Jvm.Cond.lays "java/lang/IllegalStateException" "java/lang/Throwable" "detailMessage" "Ljava/lang/String;") ∈ lw_all := lw_g (lw_at lw_m5 48 rfl) rfl
theorem q1100 : (Jvm.Cond.lays "java/lang/IllegalStateException" "java/lang/Throwable" "backtrace" "Ljava/lang/Object;") ∈ lw_all := lw_g (lw_at lw_m5 49 rfl) rfl
theorem q1102 : (Jvm.Cond.instanceMethod ({ cls := "java/lang/IllegalStateException", name := "<init>", desc := "()V" } : Jvm.MethodName)) ∈ lw_all := lw_g (lw_at lw_m5 51 rfl) rfl
theorem q1103 : (Jvm.Cond.code ({ cls := "java/lang/IllegalStateException", name := "<init>", desc := "()V" } : Jvm.MethodName) prog_41_method_1_code (1 : Nat) (Option.none : Option Jvm.ClassFile.FieldType)) ∈ lw_all := lw_g (lw_at lw_m5 52 rfl) rfl
theorem q1104 : (Jvm.Cond.methodLink "java/lang/IllegalStateException" (1 : Nat) ({ cls := "java/lang/RuntimeException", name := "<init>", desc := "()V" } : Jvm.MethodName)) ∈ lw_all := lw_g (lw_at lw_m5 53 rfl) rfl
theorem q1105 : (Jvm.Cond.lays "java/lang/IllegalStateException" "java/lang/Throwable" "depth" "I") ∈ lw_all := lw_g (lw_at lw_m5 54 rfl) rfl
theorem q1106 : (Jvm.Cond.superclass "java/lang/IllegalStateException" "java/lang/RuntimeException") ∈ lw_all := lw_g (lw_at lw_m5 55 rfl) rfl
theorem q1133 : (Jvm.Cond.instanceMethod ({ cls := "java/lang/IllegalStateException", name := "<init>", desc := "(Ljava/lang/String;)V" } : Jvm.MethodName)) ∈ lw_all := lw_g (lw_at lw_m5 82 rfl) rfl
theorem q1134 : (Jvm.Cond.code ({ cls := "java/lang/IllegalStateException", name := "<init>", desc := "(Ljava/lang/String;)V" } : Jvm.MethodName) prog_41_method_2_code (2 : Nat) (Option.none : Option Jvm.ClassFile.FieldType)) ∈ lw_all := lw_g (lw_at lw_m5 83 rfl) rfl
theorem q1135 : (Jvm.Cond.methodLink "java/lang/IllegalStateException" (7 : Nat) ({ cls := "java/lang/RuntimeException", name := "<init>", desc := "(Ljava/lang/String;)V" } : Jvm.MethodName)) ∈ lw_all := lw_g (lw_at lw_m5 84 rfl) rfl
theorem q2812 : (Jvm.Cond.castable "java/lang/IllegalStateException" "java/lang/Object") ∈ lw_tbl := lw_at lw_m12 81 rfl
theorem in_J22 : ∀ w ∈ wsJ220, w ∈ lw_all := lw_in wsJ220 [1096, 1097, 1098, 1099, 1100, 1105] (by decide +kernel) (by decide +kernel)
/-! PolicyNotation$Rule -/
def RX7 : String := "PolicyNotation$Rule"
abbrev cX7_isOn : ByteArray := prog_17_method_7_code
def yX7_isOn : MethodName := ⟨RX7, "isOn", "(I)Z"⟩
def dkwX7_isOn_0 : List UInt8 := [27, 42, 180, 0, 33, 42, 180, 0, 36, 184, 0, 57, 172]
abbrev dktX7_isOn_0 : List UInt8 := dkwX7_isOn_0 ++ []
theorem dksX7_isOn_0 : cX7_isOn.data.toList.drop 0 = dktX7_isOn_0 := by decide +kernel
theorem dX7_isOn_0 : decode cX7_isOn 0 = .ok (.iload_n 1, 1) := dk_27 (dk_at dksX7_isOn_0 0 rfl rfl)
theorem dX7_isOn_1 : decode cX7_isOn 1 = .ok (.aload_n 0, 1) := dk_42 (dk_at dksX7_isOn_0 1 rfl rfl)
theorem dX7_isOn_2 : decode cX7_isOn 2 = .ok (.getfield 33, 3) := dk_180 0 33 (dk_at dksX7_isOn_0 2 rfl rfl)
theorem dX7_isOn_5 : decode cX7_isOn 5 = .ok (.aload_n 0, 1) := dk_42 (dk_at dksX7_isOn_0 5 rfl rfl)
theorem dX7_isOn_6 : decode cX7_isOn 6 = .ok (.getfield 36, 3) := dk_180 0 36 (dk_at dksX7_isOn_0 6 rfl rfl)
theorem dX7_isOn_9 : decode cX7_isOn 9 = .ok (.invokestatic 57, 3) := dk_184 0 57 (dk_at dksX7_isOn_0 9 rfl rfl)
theorem dX7_isOn_12 : decode cX7_isOn 12 = .ok (.ireturn, 1) := dk_172 (dk_at dksX7_isOn_0 12 rfl rfl)
abbrev cX7_fits : ByteArray := prog_17_method_8_code
def yX7_fits : MethodName := ⟨RX7, "fits", "([I)Z"⟩
def dkwX7_fits_1 : List UInt8 := [78, 45, 43, 45, 182, 0, 61, 46, 182, 0, 64, 154, 0, 5, 3, 172, 132, 2, 1, 167, 255, 215, 4, 172]
abbrev dktX7_fits_1 : List UInt8 := dkwX7_fits_1 ++ []
def dkwX7_fits_0 : List UInt8 := [3, 61, 28, 42, 180, 0, 20, 182, 0, 43, 162, 0, 36, 42, 180, 0, 20, 28, 182, 0, 47, 192, 0, 51]
abbrev dktX7_fits_0 : List UInt8 := dkwX7_fits_0 ++ dktX7_fits_1
theorem dksX7_fits_0 : cX7_fits.data.toList.drop 0 = dktX7_fits_0 := by decide +kernel
theorem dksX7_fits_1 : cX7_fits.data.toList.drop 24 = dktX7_fits_1 := dk_seg dksX7_fits_0 24 rfl rfl
theorem dX7_fits_0 : decode cX7_fits 0 = .ok (.iconst 0, 1) := dk_3 (dk_at dksX7_fits_0 0 rfl rfl)
theorem dX7_fits_1 : decode cX7_fits 1 = .ok (.istore_n 2, 1) := dk_61 (dk_at dksX7_fits_0 1 rfl rfl)
theorem dX7_fits_2 : decode cX7_fits 2 = .ok (.iload_n 2, 1) := dk_28 (dk_at dksX7_fits_0 2 rfl rfl)
theorem dX7_fits_3 : decode cX7_fits 3 = .ok (.aload_n 0, 1) := dk_42 (dk_at dksX7_fits_0 3 rfl rfl)
theorem dX7_fits_4 : decode cX7_fits 4 = .ok (.getfield 20, 3) := dk_180 0 20 (dk_at dksX7_fits_0 4 rfl rfl)
theorem dX7_fits_7 : decode cX7_fits 7 = .ok (.invokevirtual 43, 3) := dk_182 0 43 (dk_at dksX7_fits_0 7 rfl rfl)
theorem dX7_fits_10 : decode cX7_fits 10 = .ok (.if_icmp .ge 36, 3) := dk_162 0 36 (dk_at dksX7_fits_0 10 rfl rfl)
theorem dX7_fits_13 : decode cX7_fits 13 = .ok (.aload_n 0, 1) := dk_42 (dk_at dksX7_fits_0 13 rfl rfl)
theorem dX7_fits_14 : decode cX7_fits 14 = .ok (.getfield 20, 3) := dk_180 0 20 (dk_at dksX7_fits_0 14 rfl rfl)
theorem dX7_fits_17 : decode cX7_fits 17 = .ok (.iload_n 2, 1) := dk_28 (dk_at dksX7_fits_0 17 rfl rfl)
theorem dX7_fits_18 : decode cX7_fits 18 = .ok (.invokevirtual 47, 3) := dk_182 0 47 (dk_at dksX7_fits_0 18 rfl rfl)
theorem dX7_fits_21 : decode cX7_fits 21 = .ok (.checkcast 51, 3) := dk_192 0 51 (dk_at dksX7_fits_0 21 rfl rfl)
theorem dX7_fits_24 : decode cX7_fits 24 = .ok (.astore_n 3, 1) := dk_78 (dk_at dksX7_fits_1 0 rfl rfl)
theorem dX7_fits_25 : decode cX7_fits 25 = .ok (.aload_n 3, 1) := dk_45 (dk_at dksX7_fits_1 1 rfl rfl)
theorem dX7_fits_26 : decode cX7_fits 26 = .ok (.aload_n 1, 1) := dk_43 (dk_at dksX7_fits_1 2 rfl rfl)
theorem dX7_fits_27 : decode cX7_fits 27 = .ok (.aload_n 3, 1) := dk_45 (dk_at dksX7_fits_1 3 rfl rfl)
theorem dX7_fits_28 : decode cX7_fits 28 = .ok (.invokevirtual 61, 3) := dk_182 0 61 (dk_at dksX7_fits_1 4 rfl rfl)
theorem dX7_fits_31 : decode cX7_fits 31 = .ok (.iaload, 1) := dk_46 (dk_at dksX7_fits_1 7 rfl rfl)
theorem dX7_fits_32 : decode cX7_fits 32 = .ok (.invokevirtual 64, 3) := dk_182 0 64 (dk_at dksX7_fits_1 8 rfl rfl)
theorem dX7_fits_35 : decode cX7_fits 35 = .ok (.ifCond .ne 5, 3) := dk_154 0 5 (dk_at dksX7_fits_1 11 rfl rfl)
theorem dX7_fits_38 : decode cX7_fits 38 = .ok (.iconst 0, 1) := dk_3 (dk_at dksX7_fits_1 14 rfl rfl)
theorem dX7_fits_39 : decode cX7_fits 39 = .ok (.ireturn, 1) := dk_172 (dk_at dksX7_fits_1 15 rfl rfl)
theorem dX7_fits_40 : decode cX7_fits 40 = .ok (.iinc 2 1, 3) := dk_132 2 1 (dk_at dksX7_fits_1 16 rfl rfl)
theorem dX7_fits_43 : decode cX7_fits 43 = .ok (.goto (-41), 3) := dk_167 255 215 (dk_at dksX7_fits_1 19 rfl rfl)
theorem dX7_fits_46 : decode cX7_fits 46 = .ok (.iconst 1, 1) := dk_4 (dk_at dksX7_fits_1 22 rfl rfl)
theorem dX7_fits_47 : decode cX7_fits 47 = .ok (.ireturn, 1) := dk_172 (dk_at dksX7_fits_1 23 rfl rfl)
abbrev cX7_isAhead : ByteArray := prog_17_method_12_code
def yX7_isAhead : MethodName := ⟨RX7, "isAhead", "(LPolicyNotation$Rule;)Z"⟩
def dkwX7_isAhead_1 : List UInt8 := [167, 0, 23, 3, 167, 0, 19, 42, 180, 0, 24, 43, 180, 0, 24, 162, 0, 7, 4, 167, 0, 4, 3, 172]
abbrev dktX7_isAhead_1 : List UInt8 := dkwX7_isAhead_1 ++ []
def dkwX7_isAhead_0 : List UInt8 := [42, 180, 0, 30, 43, 180, 0, 30, 159, 0, 22, 42, 180, 0, 30, 43, 180, 0, 30, 164, 0, 7, 4]
abbrev dktX7_isAhead_0 : List UInt8 := dkwX7_isAhead_0 ++ dktX7_isAhead_1
theorem dksX7_isAhead_0 : cX7_isAhead.data.toList.drop 0 = dktX7_isAhead_0 := by decide +kernel
theorem dksX7_isAhead_1 : cX7_isAhead.data.toList.drop 23 = dktX7_isAhead_1 := dk_seg dksX7_isAhead_0 23 rfl rfl
theorem dX7_isAhead_0 : decode cX7_isAhead 0 = .ok (.aload_n 0, 1) := dk_42 (dk_at dksX7_isAhead_0 0 rfl rfl)
theorem dX7_isAhead_1 : decode cX7_isAhead 1 = .ok (.getfield 30, 3) := dk_180 0 30 (dk_at dksX7_isAhead_0 1 rfl rfl)
theorem dX7_isAhead_4 : decode cX7_isAhead 4 = .ok (.aload_n 1, 1) := dk_43 (dk_at dksX7_isAhead_0 4 rfl rfl)
theorem dX7_isAhead_5 : decode cX7_isAhead 5 = .ok (.getfield 30, 3) := dk_180 0 30 (dk_at dksX7_isAhead_0 5 rfl rfl)
theorem dX7_isAhead_8 : decode cX7_isAhead 8 = .ok (.if_icmp .eq 22, 3) := dk_159 0 22 (dk_at dksX7_isAhead_0 8 rfl rfl)
theorem dX7_isAhead_11 : decode cX7_isAhead 11 = .ok (.aload_n 0, 1) := dk_42 (dk_at dksX7_isAhead_0 11 rfl rfl)
theorem dX7_isAhead_12 : decode cX7_isAhead 12 = .ok (.getfield 30, 3) := dk_180 0 30 (dk_at dksX7_isAhead_0 12 rfl rfl)
theorem dX7_isAhead_15 : decode cX7_isAhead 15 = .ok (.aload_n 1, 1) := dk_43 (dk_at dksX7_isAhead_0 15 rfl rfl)
theorem dX7_isAhead_16 : decode cX7_isAhead 16 = .ok (.getfield 30, 3) := dk_180 0 30 (dk_at dksX7_isAhead_0 16 rfl rfl)
theorem dX7_isAhead_19 : decode cX7_isAhead 19 = .ok (.if_icmp .le 7, 3) := dk_164 0 7 (dk_at dksX7_isAhead_0 19 rfl rfl)
theorem dX7_isAhead_22 : decode cX7_isAhead 22 = .ok (.iconst 1, 1) := dk_4 (dk_at dksX7_isAhead_0 22 rfl rfl)
theorem dX7_isAhead_23 : decode cX7_isAhead 23 = .ok (.goto 23, 3) := dk_167 0 23 (dk_at dksX7_isAhead_1 0 rfl rfl)
theorem dX7_isAhead_26 : decode cX7_isAhead 26 = .ok (.iconst 0, 1) := dk_3 (dk_at dksX7_isAhead_1 3 rfl rfl)
theorem dX7_isAhead_27 : decode cX7_isAhead 27 = .ok (.goto 19, 3) := dk_167 0 19 (dk_at dksX7_isAhead_1 4 rfl rfl)
theorem dX7_isAhead_30 : decode cX7_isAhead 30 = .ok (.aload_n 0, 1) := dk_42 (dk_at dksX7_isAhead_1 7 rfl rfl)
theorem dX7_isAhead_31 : decode cX7_isAhead 31 = .ok (.getfield 24, 3) := dk_180 0 24 (dk_at dksX7_isAhead_1 8 rfl rfl)
theorem dX7_isAhead_34 : decode cX7_isAhead 34 = .ok (.aload_n 1, 1) := dk_43 (dk_at dksX7_isAhead_1 11 rfl rfl)
theorem dX7_isAhead_35 : decode cX7_isAhead 35 = .ok (.getfield 24, 3) := dk_180 0 24 (dk_at dksX7_isAhead_1 12 rfl rfl)
theorem dX7_isAhead_38 : decode cX7_isAhead 38 = .ok (.if_icmp .ge 7, 3) := dk_162 0 7 (dk_at dksX7_isAhead_1 15 rfl rfl)
theorem dX7_isAhead_41 : decode cX7_isAhead 41 = .ok (.iconst 1, 1) := dk_4 (dk_at dksX7_isAhead_1 18 rfl rfl)
theorem dX7_isAhead_42 : decode cX7_isAhead 42 = .ok (.goto 4, 3) := dk_167 0 4 (dk_at dksX7_isAhead_1 19 rfl rfl)
theorem dX7_isAhead_45 : decode cX7_isAhead 45 = .ok (.iconst 0, 1) := dk_3 (dk_at dksX7_isAhead_1 22 rfl rfl)
theorem dX7_isAhead_46 : decode cX7_isAhead 46 = .ok (.ireturn, 1) := dk_172 (dk_at dksX7_isAhead_1 23 rfl rfl)
abbrev cX7_copy : ByteArray := prog_17_method_6_code
def yX7_copy : MethodName := ⟨RX7, "copy", "()LPolicyNotation$Rule;"⟩
def dkwX7_copy_2 : List UInt8 := [132, 2, 1, 167, 255, 223, 43, 176]
abbrev dktX7_copy_2 : List UInt8 := dkwX7_copy_2 ++ []
def dkwX7_copy_1 : List UInt8 := [162, 0, 28, 43, 180, 0, 20, 42, 180, 0, 20, 28, 182, 0, 47, 192, 0, 51, 182, 0, 53, 87]
abbrev dktX7_copy_1 : List UInt8 := dkwX7_copy_1 ++ dktX7_copy_2
def dkwX7_copy_0 : List UInt8 := [42, 182, 0, 39, 76, 43, 42, 180, 0, 9, 181, 0, 9, 3, 61, 28, 42, 180, 0, 20, 182, 0, 43]
abbrev dktX7_copy_0 : List UInt8 := dkwX7_copy_0 ++ dktX7_copy_1
theorem dksX7_copy_0 : cX7_copy.data.toList.drop 0 = dktX7_copy_0 := by decide +kernel
theorem dksX7_copy_1 : cX7_copy.data.toList.drop 23 = dktX7_copy_1 := dk_seg dksX7_copy_0 23 rfl rfl
theorem dksX7_copy_2 : cX7_copy.data.toList.drop 45 = dktX7_copy_2 := dk_seg dksX7_copy_1 22 rfl rfl
theorem dX7_copy_0 : decode cX7_copy 0 = .ok (.aload_n 0, 1) := dk_42 (dk_at dksX7_copy_0 0 rfl rfl)
theorem dX7_copy_1 : decode cX7_copy 1 = .ok (.invokevirtual 39, 3) := dk_182 0 39 (dk_at dksX7_copy_0 1 rfl rfl)
theorem dX7_copy_4 : decode cX7_copy 4 = .ok (.astore_n 1, 1) := dk_76 (dk_at dksX7_copy_0 4 rfl rfl)
theorem dX7_copy_5 : decode cX7_copy 5 = .ok (.aload_n 1, 1) := dk_43 (dk_at dksX7_copy_0 5 rfl rfl)
theorem dX7_copy_6 : decode cX7_copy 6 = .ok (.aload_n 0, 1) := dk_42 (dk_at dksX7_copy_0 6 rfl rfl)
theorem dX7_copy_7 : decode cX7_copy 7 = .ok (.getfield 9, 3) := dk_180 0 9 (dk_at dksX7_copy_0 7 rfl rfl)
theorem dX7_copy_10 : decode cX7_copy 10 = .ok (.putfield 9, 3) := dk_181 0 9 (dk_at dksX7_copy_0 10 rfl rfl)
theorem dX7_copy_13 : decode cX7_copy 13 = .ok (.iconst 0, 1) := dk_3 (dk_at dksX7_copy_0 13 rfl rfl)
theorem dX7_copy_14 : decode cX7_copy 14 = .ok (.istore_n 2, 1) := dk_61 (dk_at dksX7_copy_0 14 rfl rfl)
theorem dX7_copy_15 : decode cX7_copy 15 = .ok (.iload_n 2, 1) := dk_28 (dk_at dksX7_copy_0 15 rfl rfl)
theorem dX7_copy_16 : decode cX7_copy 16 = .ok (.aload_n 0, 1) := dk_42 (dk_at dksX7_copy_0 16 rfl rfl)
theorem dX7_copy_17 : decode cX7_copy 17 = .ok (.getfield 20, 3) := dk_180 0 20 (dk_at dksX7_copy_0 17 rfl rfl)
theorem dX7_copy_20 : decode cX7_copy 20 = .ok (.invokevirtual 43, 3) := dk_182 0 43 (dk_at dksX7_copy_0 20 rfl rfl)
theorem dX7_copy_23 : decode cX7_copy 23 = .ok (.if_icmp .ge 28, 3) := dk_162 0 28 (dk_at dksX7_copy_1 0 rfl rfl)
theorem dX7_copy_26 : decode cX7_copy 26 = .ok (.aload_n 1, 1) := dk_43 (dk_at dksX7_copy_1 3 rfl rfl)
theorem dX7_copy_27 : decode cX7_copy 27 = .ok (.getfield 20, 3) := dk_180 0 20 (dk_at dksX7_copy_1 4 rfl rfl)
theorem dX7_copy_30 : decode cX7_copy 30 = .ok (.aload_n 0, 1) := dk_42 (dk_at dksX7_copy_1 7 rfl rfl)
theorem dX7_copy_31 : decode cX7_copy 31 = .ok (.getfield 20, 3) := dk_180 0 20 (dk_at dksX7_copy_1 8 rfl rfl)
theorem dX7_copy_34 : decode cX7_copy 34 = .ok (.iload_n 2, 1) := dk_28 (dk_at dksX7_copy_1 11 rfl rfl)
theorem dX7_copy_35 : decode cX7_copy 35 = .ok (.invokevirtual 47, 3) := dk_182 0 47 (dk_at dksX7_copy_1 12 rfl rfl)
theorem dX7_copy_38 : decode cX7_copy 38 = .ok (.checkcast 51, 3) := dk_192 0 51 (dk_at dksX7_copy_1 15 rfl rfl)
theorem dX7_copy_41 : decode cX7_copy 41 = .ok (.invokevirtual 53, 3) := dk_182 0 53 (dk_at dksX7_copy_1 18 rfl rfl)
theorem dX7_copy_44 : decode cX7_copy 44 = .ok (.pop, 1) := dk_87 (dk_at dksX7_copy_1 21 rfl rfl)
theorem dX7_copy_45 : decode cX7_copy 45 = .ok (.iinc 2 1, 3) := dk_132 2 1 (dk_at dksX7_copy_2 0 rfl rfl)
theorem dX7_copy_48 : decode cX7_copy 48 = .ok (.goto (-33), 3) := dk_167 255 223 (dk_at dksX7_copy_2 3 rfl rfl)
theorem dX7_copy_51 : decode cX7_copy 51 = .ok (.aload_n 1, 1) := dk_43 (dk_at dksX7_copy_2 6 rfl rfl)
theorem dX7_copy_52 : decode cX7_copy 52 = .ok (.areturn, 1) := dk_176 (dk_at dksX7_copy_2 7 rfl rfl)
abbrev cX7_init : ByteArray := prog_17_method_1_code
def yX7_init : MethodName := ⟨RX7, "<init>", "(IIIII)V"⟩
def dkwX7_init_2 : List UInt8 := [181, 0, 36, 177]
abbrev dktX7_init_2 : List UInt8 := dkwX7_init_2 ++ []
def dkwX7_init_1 : List UInt8 := [181, 0, 24, 42, 28, 181, 0, 27, 42, 29, 181, 0, 30, 42, 21, 4, 181, 0, 33, 42, 21, 5]
abbrev dktX7_init_1 : List UInt8 := dkwX7_init_1 ++ dktX7_init_2
def dkwX7_init_0 : List UInt8 := [42, 183, 0, 3, 42, 16, 100, 181, 0, 9, 42, 187, 0, 15, 89, 7, 183, 0, 17, 181, 0, 20, 42, 27]
abbrev dktX7_init_0 : List UInt8 := dkwX7_init_0 ++ dktX7_init_1
theorem dksX7_init_0 : cX7_init.data.toList.drop 0 = dktX7_init_0 := by decide +kernel
theorem dksX7_init_1 : cX7_init.data.toList.drop 24 = dktX7_init_1 := dk_seg dksX7_init_0 24 rfl rfl
theorem dksX7_init_2 : cX7_init.data.toList.drop 46 = dktX7_init_2 := dk_seg dksX7_init_1 22 rfl rfl
theorem dX7_init_0 : decode cX7_init 0 = .ok (.aload_n 0, 1) := dk_42 (dk_at dksX7_init_0 0 rfl rfl)
theorem dX7_init_1 : decode cX7_init 1 = .ok (.invokespecial 3, 3) := dk_183 0 3 (dk_at dksX7_init_0 1 rfl rfl)
theorem dX7_init_4 : decode cX7_init 4 = .ok (.aload_n 0, 1) := dk_42 (dk_at dksX7_init_0 4 rfl rfl)
theorem dX7_init_5 : decode cX7_init 5 = .ok (.bipush 100, 2) := dk_16 100 (dk_at dksX7_init_0 5 rfl rfl)
theorem dX7_init_7 : decode cX7_init 7 = .ok (.putfield 9, 3) := dk_181 0 9 (dk_at dksX7_init_0 7 rfl rfl)
theorem dX7_init_10 : decode cX7_init 10 = .ok (.aload_n 0, 1) := dk_42 (dk_at dksX7_init_0 10 rfl rfl)
theorem dX7_init_11 : decode cX7_init 11 = .ok (.new 15, 3) := dk_187 0 15 (dk_at dksX7_init_0 11 rfl rfl)
theorem dX7_init_14 : decode cX7_init 14 = .ok (.dup, 1) := dk_89 (dk_at dksX7_init_0 14 rfl rfl)
theorem dX7_init_15 : decode cX7_init 15 = .ok (.iconst 4, 1) := dk_7 (dk_at dksX7_init_0 15 rfl rfl)
theorem dX7_init_16 : decode cX7_init 16 = .ok (.invokespecial 17, 3) := dk_183 0 17 (dk_at dksX7_init_0 16 rfl rfl)
theorem dX7_init_19 : decode cX7_init 19 = .ok (.putfield 20, 3) := dk_181 0 20 (dk_at dksX7_init_0 19 rfl rfl)
theorem dX7_init_22 : decode cX7_init 22 = .ok (.aload_n 0, 1) := dk_42 (dk_at dksX7_init_0 22 rfl rfl)
theorem dX7_init_23 : decode cX7_init 23 = .ok (.iload_n 1, 1) := dk_27 (dk_at dksX7_init_0 23 rfl rfl)
theorem dX7_init_24 : decode cX7_init 24 = .ok (.putfield 24, 3) := dk_181 0 24 (dk_at dksX7_init_1 0 rfl rfl)
theorem dX7_init_27 : decode cX7_init 27 = .ok (.aload_n 0, 1) := dk_42 (dk_at dksX7_init_1 3 rfl rfl)
theorem dX7_init_28 : decode cX7_init 28 = .ok (.iload_n 2, 1) := dk_28 (dk_at dksX7_init_1 4 rfl rfl)
theorem dX7_init_29 : decode cX7_init 29 = .ok (.putfield 27, 3) := dk_181 0 27 (dk_at dksX7_init_1 5 rfl rfl)
theorem dX7_init_32 : decode cX7_init 32 = .ok (.aload_n 0, 1) := dk_42 (dk_at dksX7_init_1 8 rfl rfl)
theorem dX7_init_33 : decode cX7_init 33 = .ok (.iload_n 3, 1) := dk_29 (dk_at dksX7_init_1 9 rfl rfl)
theorem dX7_init_34 : decode cX7_init 34 = .ok (.putfield 30, 3) := dk_181 0 30 (dk_at dksX7_init_1 10 rfl rfl)
theorem dX7_init_37 : decode cX7_init 37 = .ok (.aload_n 0, 1) := dk_42 (dk_at dksX7_init_1 13 rfl rfl)
theorem dX7_init_38 : decode cX7_init 38 = .ok (.iload 4, 2) := dk_21 4 (dk_at dksX7_init_1 14 rfl rfl)
theorem dX7_init_40 : decode cX7_init 40 = .ok (.putfield 33, 3) := dk_181 0 33 (dk_at dksX7_init_1 16 rfl rfl)
theorem dX7_init_43 : decode cX7_init 43 = .ok (.aload_n 0, 1) := dk_42 (dk_at dksX7_init_1 19 rfl rfl)
theorem dX7_init_44 : decode cX7_init 44 = .ok (.iload 5, 2) := dk_21 5 (dk_at dksX7_init_1 20 rfl rfl)
theorem dX7_init_46 : decode cX7_init 46 = .ok (.putfield 36, 3) := dk_181 0 36 (dk_at dksX7_init_2 0 rfl rfl)
theorem dX7_init_49 : decode cX7_init 49 = .ok (.return_, 1) := dk_177 (dk_at dksX7_init_2 3 rfl rfl)
abbrev cX7_impossible : ByteArray := prog_17_method_11_code
def yX7_impossible : MethodName := ⟨RX7, "impossible", "()I"⟩
def dkwX7_impossible_1 : List UInt8 := [2, 172]
abbrev dktX7_impossible_1 : List UInt8 := dkwX7_impossible_1 ++ []
def dkwX7_impossible_0 : List UInt8 := [3, 60, 27, 16, 6, 162, 0, 19, 42, 27, 182, 0, 73, 154, 0, 5, 27, 172, 132, 1, 1, 167, 255, 237]
abbrev dktX7_impossible_0 : List UInt8 := dkwX7_impossible_0 ++ dktX7_impossible_1
theorem dksX7_impossible_0 : cX7_impossible.data.toList.drop 0 = dktX7_impossible_0 := by decide +kernel
theorem dksX7_impossible_1 : cX7_impossible.data.toList.drop 24 = dktX7_impossible_1 := dk_seg dksX7_impossible_0 24 rfl rfl
theorem dX7_impossible_0 : decode cX7_impossible 0 = .ok (.iconst 0, 1) := dk_3 (dk_at dksX7_impossible_0 0 rfl rfl)
theorem dX7_impossible_1 : decode cX7_impossible 1 = .ok (.istore_n 1, 1) := dk_60 (dk_at dksX7_impossible_0 1 rfl rfl)
theorem dX7_impossible_2 : decode cX7_impossible 2 = .ok (.iload_n 1, 1) := dk_27 (dk_at dksX7_impossible_0 2 rfl rfl)
theorem dX7_impossible_3 : decode cX7_impossible 3 = .ok (.bipush 6, 2) := dk_16 6 (dk_at dksX7_impossible_0 3 rfl rfl)
theorem dX7_impossible_5 : decode cX7_impossible 5 = .ok (.if_icmp .ge 19, 3) := dk_162 0 19 (dk_at dksX7_impossible_0 5 rfl rfl)
theorem dX7_impossible_8 : decode cX7_impossible 8 = .ok (.aload_n 0, 1) := dk_42 (dk_at dksX7_impossible_0 8 rfl rfl)
theorem dX7_impossible_9 : decode cX7_impossible 9 = .ok (.iload_n 1, 1) := dk_27 (dk_at dksX7_impossible_0 9 rfl rfl)
theorem dX7_impossible_10 : decode cX7_impossible 10 = .ok (.invokevirtual 73, 3) := dk_182 0 73 (dk_at dksX7_impossible_0 10 rfl rfl)
theorem dX7_impossible_13 : decode cX7_impossible 13 = .ok (.ifCond .ne 5, 3) := dk_154 0 5 (dk_at dksX7_impossible_0 13 rfl rfl)
theorem dX7_impossible_16 : decode cX7_impossible 16 = .ok (.iload_n 1, 1) := dk_27 (dk_at dksX7_impossible_0 16 rfl rfl)
theorem dX7_impossible_17 : decode cX7_impossible 17 = .ok (.ireturn, 1) := dk_172 (dk_at dksX7_impossible_0 17 rfl rfl)
theorem dX7_impossible_18 : decode cX7_impossible 18 = .ok (.iinc 1 1, 3) := dk_132 1 1 (dk_at dksX7_impossible_0 18 rfl rfl)
theorem dX7_impossible_21 : decode cX7_impossible 21 = .ok (.goto (-19), 3) := dk_167 255 237 (dk_at dksX7_impossible_0 21 rfl rfl)
theorem dX7_impossible_24 : decode cX7_impossible 24 = .ok (.iconst (-1), 1) := dk_2 (dk_at dksX7_impossible_1 0 rfl rfl)
theorem dX7_impossible_25 : decode cX7_impossible 25 = .ok (.ireturn, 1) := dk_172 (dk_at dksX7_impossible_1 1 rfl rfl)
abbrev cX7_isPossible : ByteArray := prog_17_method_9_code
def yX7_isPossible : MethodName := ⟨RX7, "isPossible", "(I)Z"⟩
def dkwX7_isPossible_1 : List UInt8 := [167, 255, 236, 3, 172]
abbrev dktX7_isPossible_1 : List UInt8 := dkwX7_isPossible_1 ++ []
def dkwX7_isPossible_0 : List UInt8 := [3, 61, 28, 16, 10, 162, 0, 20, 42, 27, 28, 182, 0, 68, 154, 0, 5, 4, 172, 132, 2, 1]
abbrev dktX7_isPossible_0 : List UInt8 := dkwX7_isPossible_0 ++ dktX7_isPossible_1
theorem dksX7_isPossible_0 : cX7_isPossible.data.toList.drop 0 = dktX7_isPossible_0 := by decide +kernel
theorem dksX7_isPossible_1 : cX7_isPossible.data.toList.drop 22 = dktX7_isPossible_1 := dk_seg dksX7_isPossible_0 22 rfl rfl
theorem dX7_isPossible_0 : decode cX7_isPossible 0 = .ok (.iconst 0, 1) := dk_3 (dk_at dksX7_isPossible_0 0 rfl rfl)
theorem dX7_isPossible_1 : decode cX7_isPossible 1 = .ok (.istore_n 2, 1) := dk_61 (dk_at dksX7_isPossible_0 1 rfl rfl)
theorem dX7_isPossible_2 : decode cX7_isPossible 2 = .ok (.iload_n 2, 1) := dk_28 (dk_at dksX7_isPossible_0 2 rfl rfl)
theorem dX7_isPossible_3 : decode cX7_isPossible 3 = .ok (.bipush 10, 2) := dk_16 10 (dk_at dksX7_isPossible_0 3 rfl rfl)
theorem dX7_isPossible_5 : decode cX7_isPossible 5 = .ok (.if_icmp .ge 20, 3) := dk_162 0 20 (dk_at dksX7_isPossible_0 5 rfl rfl)
theorem dX7_isPossible_8 : decode cX7_isPossible 8 = .ok (.aload_n 0, 1) := dk_42 (dk_at dksX7_isPossible_0 8 rfl rfl)
theorem dX7_isPossible_9 : decode cX7_isPossible 9 = .ok (.iload_n 1, 1) := dk_27 (dk_at dksX7_isPossible_0 9 rfl rfl)
theorem dX7_isPossible_10 : decode cX7_isPossible 10 = .ok (.iload_n 2, 1) := dk_28 (dk_at dksX7_isPossible_0 10 rfl rfl)
theorem dX7_isPossible_11 : decode cX7_isPossible 11 = .ok (.invokevirtual 68, 3) := dk_182 0 68 (dk_at dksX7_isPossible_0 11 rfl rfl)
theorem dX7_isPossible_14 : decode cX7_isPossible 14 = .ok (.ifCond .ne 5, 3) := dk_154 0 5 (dk_at dksX7_isPossible_0 14 rfl rfl)
theorem dX7_isPossible_17 : decode cX7_isPossible 17 = .ok (.iconst 1, 1) := dk_4 (dk_at dksX7_isPossible_0 17 rfl rfl)
theorem dX7_isPossible_18 : decode cX7_isPossible 18 = .ok (.ireturn, 1) := dk_172 (dk_at dksX7_isPossible_0 18 rfl rfl)
theorem dX7_isPossible_19 : decode cX7_isPossible 19 = .ok (.iinc 2 1, 3) := dk_132 2 1 (dk_at dksX7_isPossible_0 19 rfl rfl)
theorem dX7_isPossible_22 : decode cX7_isPossible 22 = .ok (.goto (-20), 3) := dk_167 255 236 (dk_at dksX7_isPossible_1 0 rfl rfl)
theorem dX7_isPossible_25 : decode cX7_isPossible 25 = .ok (.iconst 0, 1) := dk_3 (dk_at dksX7_isPossible_1 3 rfl rfl)
theorem dX7_isPossible_26 : decode cX7_isPossible 26 = .ok (.ireturn, 1) := dk_172 (dk_at dksX7_isPossible_1 4 rfl rfl)
abbrev cX7_bars : ByteArray := prog_17_method_10_code
def yX7_bars : MethodName := ⟨RX7, "bars", "(II)Z"⟩
def dkwX7_bars_1 : List UInt8 := [27, 28, 182, 0, 72, 153, 0, 5, 4, 172, 132, 3, 1, 167, 255, 221, 3, 172]
abbrev dktX7_bars_1 : List UInt8 := dkwX7_bars_1 ++ []
def dkwX7_bars_0 : List UInt8 := [3, 62, 29, 42, 180, 0, 20, 182, 0, 43, 162, 0, 30, 42, 180, 0, 20, 29, 182, 0, 47, 192, 0, 51]
abbrev dktX7_bars_0 : List UInt8 := dkwX7_bars_0 ++ dktX7_bars_1
theorem dksX7_bars_0 : cX7_bars.data.toList.drop 0 = dktX7_bars_0 := by decide +kernel
theorem dksX7_bars_1 : cX7_bars.data.toList.drop 24 = dktX7_bars_1 := dk_seg dksX7_bars_0 24 rfl rfl
theorem dX7_bars_0 : decode cX7_bars 0 = .ok (.iconst 0, 1) := dk_3 (dk_at dksX7_bars_0 0 rfl rfl)
theorem dX7_bars_1 : decode cX7_bars 1 = .ok (.istore_n 3, 1) := dk_62 (dk_at dksX7_bars_0 1 rfl rfl)
theorem dX7_bars_2 : decode cX7_bars 2 = .ok (.iload_n 3, 1) := dk_29 (dk_at dksX7_bars_0 2 rfl rfl)
theorem dX7_bars_3 : decode cX7_bars 3 = .ok (.aload_n 0, 1) := dk_42 (dk_at dksX7_bars_0 3 rfl rfl)
theorem dX7_bars_4 : decode cX7_bars 4 = .ok (.getfield 20, 3) := dk_180 0 20 (dk_at dksX7_bars_0 4 rfl rfl)
theorem dX7_bars_7 : decode cX7_bars 7 = .ok (.invokevirtual 43, 3) := dk_182 0 43 (dk_at dksX7_bars_0 7 rfl rfl)
theorem dX7_bars_10 : decode cX7_bars 10 = .ok (.if_icmp .ge 30, 3) := dk_162 0 30 (dk_at dksX7_bars_0 10 rfl rfl)
theorem dX7_bars_13 : decode cX7_bars 13 = .ok (.aload_n 0, 1) := dk_42 (dk_at dksX7_bars_0 13 rfl rfl)
theorem dX7_bars_14 : decode cX7_bars 14 = .ok (.getfield 20, 3) := dk_180 0 20 (dk_at dksX7_bars_0 14 rfl rfl)
theorem dX7_bars_17 : decode cX7_bars 17 = .ok (.iload_n 3, 1) := dk_29 (dk_at dksX7_bars_0 17 rfl rfl)
theorem dX7_bars_18 : decode cX7_bars 18 = .ok (.invokevirtual 47, 3) := dk_182 0 47 (dk_at dksX7_bars_0 18 rfl rfl)
theorem dX7_bars_21 : decode cX7_bars 21 = .ok (.checkcast 51, 3) := dk_192 0 51 (dk_at dksX7_bars_0 21 rfl rfl)
theorem dX7_bars_24 : decode cX7_bars 24 = .ok (.iload_n 1, 1) := dk_27 (dk_at dksX7_bars_1 0 rfl rfl)
theorem dX7_bars_25 : decode cX7_bars 25 = .ok (.iload_n 2, 1) := dk_28 (dk_at dksX7_bars_1 1 rfl rfl)
theorem dX7_bars_26 : decode cX7_bars 26 = .ok (.invokevirtual 72, 3) := dk_182 0 72 (dk_at dksX7_bars_1 2 rfl rfl)
theorem dX7_bars_29 : decode cX7_bars 29 = .ok (.ifCond .eq 5, 3) := dk_153 0 5 (dk_at dksX7_bars_1 5 rfl rfl)
theorem dX7_bars_32 : decode cX7_bars 32 = .ok (.iconst 1, 1) := dk_4 (dk_at dksX7_bars_1 8 rfl rfl)
theorem dX7_bars_33 : decode cX7_bars 33 = .ok (.ireturn, 1) := dk_172 (dk_at dksX7_bars_1 9 rfl rfl)
theorem dX7_bars_34 : decode cX7_bars 34 = .ok (.iinc 3 1, 3) := dk_132 3 1 (dk_at dksX7_bars_1 10 rfl rfl)
theorem dX7_bars_37 : decode cX7_bars 37 = .ok (.goto (-35), 3) := dk_167 255 221 (dk_at dksX7_bars_1 13 rfl rfl)
theorem dX7_bars_40 : decode cX7_bars 40 = .ok (.iconst 0, 1) := dk_3 (dk_at dksX7_bars_1 16 rfl rfl)
theorem dX7_bars_41 : decode cX7_bars 41 = .ok (.ireturn, 1) := dk_172 (dk_at dksX7_bars_1 17 rfl rfl)
theorem q123 : (Jvm.Cond.initialized "PolicyNotation$Rule") ∈ lw_all := lw_g (lw_at lw_m1 32 rfl) rfl
theorem q757 : (Jvm.Cond.declares ({ cls := "PolicyNotation$Rule", name := "effect", desc := "()LPolicyNotation$Effect;" } : Jvm.MethodName)) ∈ lw_tbl := lw_at lw_m3 186 rfl
theorem q758 : (Jvm.Cond.sameMethod "PolicyNotation$Rule" "PolicyNotation$Rule" "effect" "()LPolicyNotation$Effect;") ∈ lw_all := lw_g (lw_at lw_m3 187 rfl) rfl
theorem q778 : (Jvm.Cond.instanceMethod ({ cls := "PolicyNotation$Rule", name := "isOn", desc := "(I)Z" } : Jvm.MethodName)) ∈ lw_all := lw_g (lw_at lw_m3 207 rfl) rfl
theorem q779 : (Jvm.Cond.sameMethod "PolicyNotation$Rule" "PolicyNotation$Rule" "isOn" "(I)Z") ∈ lw_all := lw_g (lw_at lw_m3 208 rfl) rfl
theorem q782 : (Jvm.Cond.code ({ cls := "PolicyNotation$Rule", name := "isOn", desc := "(I)Z" } : Jvm.MethodName) prog_17_method_7_code (2 : Nat) (Option.some Jvm.ClassFile.FieldType.boolean)) ∈ lw_all := lw_g (lw_at lw_m3 211 rfl) rfl
theorem q783 : (Jvm.Cond.methodLinkNest "PolicyNotation$Rule" (57 : Nat) ({ cls := "PolicyNotation", name := "isIn", desc := "(III)Z" } : Jvm.MethodName) "PolicyNotation") ∈ lw_tbl := lw_at lw_m3 212 rfl
theorem q792 : (Jvm.Cond.instanceMethod ({ cls := "PolicyNotation$Rule", name := "fits", desc := "([I)Z" } : Jvm.MethodName)) ∈ lw_all := lw_g (lw_at lw_m3 221 rfl) rfl
theorem q793 : (Jvm.Cond.sameMethod "PolicyNotation$Rule" "PolicyNotation$Rule" "fits" "([I)Z") ∈ lw_all := lw_g (lw_at lw_m3 222 rfl) rfl
theorem q796 : (Jvm.Cond.code ({ cls := "PolicyNotation$Rule", name := "fits", desc := "([I)Z" } : Jvm.MethodName) prog_17_method_8_code (4 : Nat) (Option.some Jvm.ClassFile.FieldType.boolean)) ∈ lw_all := lw_g (lw_at lw_m3 225 rfl) rfl
theorem q797 : (Jvm.Cond.methodLink "PolicyNotation$Rule" (43 : Nat) ({ cls := "java/util/ArrayList", name := "size", desc := "()I" } : Jvm.MethodName)) ∈ lw_all := lw_g (lw_at lw_m3 226 rfl) rfl
theorem q798 : (Jvm.Cond.methodLink "PolicyNotation$Rule" (47 : Nat) ({ cls := "java/util/ArrayList", name := "get", desc := "(I)Ljava/lang/Object;" } : Jvm.MethodName)) ∈ lw_all := lw_g (lw_at lw_m3 227 rfl) rfl
theorem q799 : (Jvm.Cond.classLink "PolicyNotation$Rule" (51 : Nat) "PolicyNotation$Test") ∈ lw_all := lw_g (lw_at lw_m3 228 rfl) rfl
theorem q800 : (Jvm.Cond.methodLink "PolicyNotation$Rule" (61 : Nat) ({ cls := "PolicyNotation$Test", name := "feature", desc := "()I" } : Jvm.MethodName)) ∈ lw_all := lw_g (lw_at lw_m3 229 rfl) rfl
theorem q808 : (Jvm.Cond.methodLink "PolicyNotation$Rule" (64 : Nat) ({ cls := "PolicyNotation$Test", name := "fits", desc := "(I)Z" } : Jvm.MethodName)) ∈ lw_all := lw_g (lw_at lw_m3 237 rfl) rfl
theorem q839 : (Jvm.Cond.declares ({ cls := "PolicyNotation$Rule", name := "of", desc := "()I" } : Jvm.MethodName)) ∈ lw_tbl := lw_at lw_m4 28 rfl
theorem q840 : (Jvm.Cond.sameMethod "PolicyNotation$Rule" "PolicyNotation$Rule" "of" "()I") ∈ lw_all := lw_g (lw_at lw_m4 29 rfl) rfl
theorem q885 : (Jvm.Cond.instanceMethod ({ cls := "PolicyNotation$Rule", name := "isAhead", desc := "(LPolicyNotation$Rule;)Z" } : Jvm.MethodName)) ∈ lw_all := lw_g (lw_at lw_m4 74 rfl) rfl
theorem q886 : (Jvm.Cond.sameMethod "PolicyNotation$Rule" "PolicyNotation$Rule" "isAhead" "(LPolicyNotation$Rule;)Z") ∈ lw_all := lw_g (lw_at lw_m4 75 rfl) rfl
theorem q889 : (Jvm.Cond.code ({ cls := "PolicyNotation$Rule", name := "isAhead", desc := "(LPolicyNotation$Rule;)Z" } : Jvm.MethodName) prog_17_method_12_code (2 : Nat) (Option.some Jvm.ClassFile.FieldType.boolean)) ∈ lw_all := lw_g (lw_at lw_m4 78 rfl) rfl
theorem q914 : (Jvm.Cond.instanceMethod ({ cls := "PolicyNotation$Rule", name := "copy", desc := "()LPolicyNotation$Rule;" } : Jvm.MethodName)) ∈ lw_all := lw_g (lw_at lw_m4 103 rfl) rfl
theorem q915 : (Jvm.Cond.sameMethod "PolicyNotation$Rule" "PolicyNotation$Rule" "copy" "()LPolicyNotation$Rule;") ∈ lw_all := lw_g (lw_at lw_m4 104 rfl) rfl
theorem q918 : (Jvm.Cond.code ({ cls := "PolicyNotation$Rule", name := "copy", desc := "()LPolicyNotation$Rule;" } : Jvm.MethodName) prog_17_method_6_code (3 : Nat) (Option.some (Jvm.ClassFile.FieldType.object "PolicyNotation$Rule"))) ∈ lw_all := lw_g (lw_at lw_m4 107 rfl) rfl
theorem q919 : (Jvm.Cond.methodLink "PolicyNotation$Rule" (39 : Nat) ({ cls := "PolicyNotation$Rule", name := "anew", desc := "()LPolicyNotation$Rule;" } : Jvm.MethodName)) ∈ lw_all := lw_g (lw_at lw_m4 108 rfl) rfl
theorem q920 : (Jvm.Cond.declares ({ cls := "PolicyNotation$Rule", name := "anew", desc := "()LPolicyNotation$Rule;" } : Jvm.MethodName)) ∈ lw_tbl := lw_at lw_m4 109 rfl
theorem q921 : (Jvm.Cond.sameMethod "PolicyNotation$Rule" "PolicyNotation$Rule" "anew" "()LPolicyNotation$Rule;") ∈ lw_all := lw_g (lw_at lw_m4 110 rfl) rfl
theorem q951 : (Jvm.Cond.instanceMethod ({ cls := "PolicyNotation$Rule", name := "<init>", desc := "(IIIII)V" } : Jvm.MethodName)) ∈ lw_all := lw_g (lw_at lw_m4 140 rfl) rfl
theorem q952 : (Jvm.Cond.code ({ cls := "PolicyNotation$Rule", name := "<init>", desc := "(IIIII)V" } : Jvm.MethodName) prog_17_method_1_code (6 : Nat) (Option.none : Option Jvm.ClassFile.FieldType)) ∈ lw_all := lw_g (lw_at lw_m4 141 rfl) rfl
theorem q953 : (Jvm.Cond.methodLink "PolicyNotation$Rule" (3 : Nat) ({ cls := "java/lang/Object", name := "<init>", desc := "()V" } : Jvm.MethodName)) ∈ lw_all := lw_g (lw_at lw_m4 142 rfl) rfl
theorem q954 : (Jvm.Cond.classLink "PolicyNotation$Rule" (15 : Nat) "java/util/ArrayList") ∈ lw_all := lw_g (lw_at lw_m4 143 rfl) rfl
theorem q955 : (Jvm.Cond.methodLink "PolicyNotation$Rule" (17 : Nat) ({ cls := "java/util/ArrayList", name := "<init>", desc := "(I)V" } : Jvm.MethodName)) ∈ lw_all := lw_g (lw_at lw_m4 144 rfl) rfl
theorem q959 : (Jvm.Cond.fieldLink "PolicyNotation$Rule" (24 : Nat) "PolicyNotation$Rule" "number" "I") ∈ lw_all := lw_g (lw_at lw_m4 148 rfl) rfl
theorem q963 : (Jvm.Cond.fieldLink "PolicyNotation$Rule" (27 : Nat) "PolicyNotation$Rule" "scope" "I") ∈ lw_all := lw_g (lw_at lw_m4 152 rfl) rfl
theorem q969 : (Jvm.Cond.fieldLink "PolicyNotation$Rule" (30 : Nat) "PolicyNotation$Rule" "rank" "I") ∈ lw_all := lw_g (lw_at lw_m4 158 rfl) rfl
theorem q974 : (Jvm.Cond.fieldLink "PolicyNotation$Rule" (33 : Nat) "PolicyNotation$Rule" "first" "I") ∈ lw_all := lw_g (lw_at lw_m4 163 rfl) rfl
theorem q979 : (Jvm.Cond.fieldLink "PolicyNotation$Rule" (36 : Nat) "PolicyNotation$Rule" "last" "I") ∈ lw_all := lw_g (lw_at lw_m4 168 rfl) rfl
theorem q983 : (Jvm.Cond.fieldLink "PolicyNotation$Rule" (9 : Nat) "PolicyNotation$Rule" "factor" "I") ∈ lw_all := lw_g (lw_at lw_m4 172 rfl) rfl
theorem q986 : (Jvm.Cond.fieldLink "PolicyNotation$Rule" (20 : Nat) "PolicyNotation$Rule" "tests" "Ljava/util/ArrayList;") ∈ lw_all := lw_g (lw_at lw_m4 175 rfl) rfl
theorem q993 : (Jvm.Cond.soleField "PolicyNotation$Rule" "number") ∈ lw_all := lw_g (lw_at lw_m4 182 rfl) rfl
theorem q995 : (Jvm.Cond.soleField "PolicyNotation$Rule" "scope") ∈ lw_all := lw_g (lw_at lw_m4 184 rfl) rfl
theorem q997 : (Jvm.Cond.soleField "PolicyNotation$Rule" "rank") ∈ lw_all := lw_g (lw_at lw_m4 186 rfl) rfl
theorem q999 : (Jvm.Cond.soleField "PolicyNotation$Rule" "first") ∈ lw_all := lw_g (lw_at lw_m4 188 rfl) rfl
theorem q1001 : (Jvm.Cond.soleField "PolicyNotation$Rule" "last") ∈ lw_all := lw_g (lw_at lw_m4 190 rfl) rfl
theorem q1003 : (Jvm.Cond.soleField "PolicyNotation$Rule" "factor") ∈ lw_all := lw_g (lw_at lw_m4 192 rfl) rfl
theorem q1005 : (Jvm.Cond.soleField "PolicyNotation$Rule" "tests") ∈ lw_all := lw_g (lw_at lw_m4 194 rfl) rfl
theorem q1027 : (Jvm.Cond.methodLink "PolicyNotation$Rule" (53 : Nat) ({ cls := "java/util/ArrayList", name := "add", desc := "(Ljava/lang/Object;)Z" } : Jvm.MethodName)) ∈ lw_all := lw_g (lw_at lw_m4 216 rfl) rfl
theorem q1352 : (Jvm.Cond.declares ({ cls := "PolicyNotation$Rule", name := "depth", desc := "()I" } : Jvm.MethodName)) ∈ lw_tbl := lw_at lw_m6 61 rfl
theorem q1353 : (Jvm.Cond.sameMethod "PolicyNotation$Rule" "PolicyNotation$Rule" "depth" "()I") ∈ lw_all := lw_g (lw_at lw_m6 62 rfl) rfl
theorem q1423 : (Jvm.Cond.instanceMethod ({ cls := "PolicyNotation$Rule", name := "impossible", desc := "()I" } : Jvm.MethodName)) ∈ lw_all := lw_g (lw_at lw_m6 132 rfl) rfl
theorem q1424 : (Jvm.Cond.sameMethod "PolicyNotation$Rule" "PolicyNotation$Rule" "impossible" "()I") ∈ lw_all := lw_g (lw_at lw_m6 133 rfl) rfl
theorem q1427 : (Jvm.Cond.code ({ cls := "PolicyNotation$Rule", name := "impossible", desc := "()I" } : Jvm.MethodName) prog_17_method_11_code (2 : Nat) (Option.some Jvm.ClassFile.FieldType.int)) ∈ lw_all := lw_g (lw_at lw_m6 136 rfl) rfl
theorem q1428 : (Jvm.Cond.methodLink "PolicyNotation$Rule" (73 : Nat) ({ cls := "PolicyNotation$Rule", name := "isPossible", desc := "(I)Z" } : Jvm.MethodName)) ∈ lw_all := lw_g (lw_at lw_m6 137 rfl) rfl
theorem q1429 : (Jvm.Cond.instanceMethod ({ cls := "PolicyNotation$Rule", name := "isPossible", desc := "(I)Z" } : Jvm.MethodName)) ∈ lw_all := lw_g (lw_at lw_m6 138 rfl) rfl
theorem q1430 : (Jvm.Cond.sameMethod "PolicyNotation$Rule" "PolicyNotation$Rule" "isPossible" "(I)Z") ∈ lw_all := lw_g (lw_at lw_m6 139 rfl) rfl
theorem q1433 : (Jvm.Cond.code ({ cls := "PolicyNotation$Rule", name := "isPossible", desc := "(I)Z" } : Jvm.MethodName) prog_17_method_9_code (3 : Nat) (Option.some Jvm.ClassFile.FieldType.boolean)) ∈ lw_all := lw_g (lw_at lw_m6 142 rfl) rfl
theorem q1434 : (Jvm.Cond.methodLink "PolicyNotation$Rule" (68 : Nat) ({ cls := "PolicyNotation$Rule", name := "bars", desc := "(II)Z" } : Jvm.MethodName)) ∈ lw_all := lw_g (lw_at lw_m6 143 rfl) rfl
theorem q1435 : (Jvm.Cond.privateMethod ({ cls := "PolicyNotation$Rule", name := "bars", desc := "(II)Z" } : Jvm.MethodName)) ∈ lw_tbl := lw_at lw_m6 144 rfl
theorem q1436 : (Jvm.Cond.instanceMethod ({ cls := "PolicyNotation$Rule", name := "bars", desc := "(II)Z" } : Jvm.MethodName)) ∈ lw_all := lw_g (lw_at lw_m6 145 rfl) rfl
theorem q1437 : (Jvm.Cond.code ({ cls := "PolicyNotation$Rule", name := "bars", desc := "(II)Z" } : Jvm.MethodName) prog_17_method_10_code (4 : Nat) (Option.some Jvm.ClassFile.FieldType.boolean)) ∈ lw_all := lw_g (lw_at lw_m6 146 rfl) rfl
theorem q1438 : (Jvm.Cond.methodLink "PolicyNotation$Rule" (72 : Nat) ({ cls := "PolicyNotation$Test", name := "bars", desc := "(II)Z" } : Jvm.MethodName)) ∈ lw_all := lw_g (lw_at lw_m6 147 rfl) rfl
theorem q2773 : (Jvm.Cond.sameMethod "PolicyNotation$Rule" "PolicyNotation$Rule" "bars" "(II)Z") ∈ lw_all := lw_g (lw_at lw_m12 42 rfl) rfl
/-! PolicyNotation$Exemption -/
def RX8 : String := "PolicyNotation$Exemption"
def TX8 : u_T := fun k => match k with
  | 0 => ("PolicyNotation$Rule", "number", "I", true)
  | 1 => ("PolicyNotation$Rule", "scope", "I", true)
  | 2 => ("PolicyNotation$Rule", "rank", "I", true)
  | 3 => ("PolicyNotation$Rule", "first", "I", true)
  | 4 => ("PolicyNotation$Rule", "last", "I", false)
  | 5 => ("PolicyNotation$Rule", "factor", "I", false)
  | 6 => ("PolicyNotation$Rule", "tests", "Ljava/util/ArrayList;", true)
  | 7 => ("PolicyNotation$Exemption", "of", "I", true)
  | _ => ("PolicyNotation$Exemption", "depth", "I", true)
def tyX8 : Nat → FieldType := fun k => match k with
  | 0 => .int
  | 1 => .int
  | 2 => .int
  | 3 => .int
  | 4 => .int
  | 5 => .int
  | 6 => .object "java/util/ArrayList"
  | 7 => .int
  | _ => .int
abbrev wsX80 : List Cond := u_ws RX8 TX8 9
theorem nmX8 : ∀ a, a < 9 → ∀ b, b < 9 → a ≠ b → (TX8 a).2.1 ≠ (TX8 b).2.1 := by decide +kernel
theorem tyX8_ok : ∀ k, k < 9 → parseFieldDescriptor (TX8 k).2.2.1 = some (tyX8 k) := by decide +kernel
abbrev cX8_effect : ByteArray := prog_10_method_11_code
def yX8_effect : MethodName := ⟨RX8, "effect", "()LPolicyNotation$Effect;"⟩
theorem dX8_effect_0 : decode cX8_effect 0 = .ok (.aconst_null, 1) := by decide +kernel
theorem dX8_effect_1 : decode cX8_effect 1 = .ok (.areturn, 1) := by decide +kernel
abbrev cX8_of : ByteArray := prog_10_method_10_code
def yX8_of : MethodName := ⟨RX8, "of", "()I"⟩
theorem dX8_of_0 : decode cX8_of 0 = .ok (.aload_n 0, 1) := by decide +kernel
theorem dX8_of_1 : decode cX8_of 1 = .ok (.getfield 11, 3) := by decide +kernel
theorem dX8_of_4 : decode cX8_of 4 = .ok (.ireturn, 1) := by decide +kernel
abbrev cX8_anew : ByteArray := prog_10_method_8_code
def yX8_anew : MethodName := ⟨RX8, "anew", "()LPolicyNotation$Rule;"⟩
def dkwX8_anew_0 : List UInt8 := [187, 0, 12, 89, 42, 183, 0, 48, 176]
abbrev dktX8_anew_0 : List UInt8 := dkwX8_anew_0 ++ []
theorem dksX8_anew_0 : cX8_anew.data.toList.drop 0 = dktX8_anew_0 := by decide +kernel
theorem dX8_anew_0 : decode cX8_anew 0 = .ok (.new 12, 3) := dk_187 0 12 (dk_at dksX8_anew_0 0 rfl rfl)
theorem dX8_anew_3 : decode cX8_anew 3 = .ok (.dup, 1) := dk_89 (dk_at dksX8_anew_0 3 rfl rfl)
theorem dX8_anew_4 : decode cX8_anew 4 = .ok (.aload_n 0, 1) := dk_42 (dk_at dksX8_anew_0 4 rfl rfl)
theorem dX8_anew_5 : decode cX8_anew 5 = .ok (.invokespecial 48, 3) := dk_183 0 48 (dk_at dksX8_anew_0 5 rfl rfl)
theorem dX8_anew_8 : decode cX8_anew 8 = .ok (.areturn, 1) := dk_176 (dk_at dksX8_anew_0 8 rfl rfl)
abbrev cX8_init : ByteArray := prog_10_method_2_code
def yX8_init : MethodName := ⟨RX8, "<init>", "(LPolicyNotation$Exemption;)V"⟩
def dkwX8_init_1 : List UInt8 := [42, 43, 180, 0, 11, 181, 0, 11, 42, 43, 180, 0, 20, 181, 0, 20, 177]
abbrev dktX8_init_1 : List UInt8 := dkwX8_init_1 ++ []
def dkwX8_init_0 : List UInt8 := [42, 43, 182, 0, 22, 43, 182, 0, 24, 43, 182, 0, 27, 43, 182, 0, 30, 43, 182, 0, 33, 183, 0, 1]
abbrev dktX8_init_0 : List UInt8 := dkwX8_init_0 ++ dktX8_init_1
theorem dksX8_init_0 : cX8_init.data.toList.drop 0 = dktX8_init_0 := by decide +kernel
theorem dksX8_init_1 : cX8_init.data.toList.drop 24 = dktX8_init_1 := dk_seg dksX8_init_0 24 rfl rfl
theorem dX8_init_0 : decode cX8_init 0 = .ok (.aload_n 0, 1) := dk_42 (dk_at dksX8_init_0 0 rfl rfl)
theorem dX8_init_1 : decode cX8_init 1 = .ok (.aload_n 1, 1) := dk_43 (dk_at dksX8_init_0 1 rfl rfl)
theorem dX8_init_2 : decode cX8_init 2 = .ok (.invokevirtual 22, 3) := dk_182 0 22 (dk_at dksX8_init_0 2 rfl rfl)
theorem dX8_init_5 : decode cX8_init 5 = .ok (.aload_n 1, 1) := dk_43 (dk_at dksX8_init_0 5 rfl rfl)
theorem dX8_init_6 : decode cX8_init 6 = .ok (.invokevirtual 24, 3) := dk_182 0 24 (dk_at dksX8_init_0 6 rfl rfl)
theorem dX8_init_9 : decode cX8_init 9 = .ok (.aload_n 1, 1) := dk_43 (dk_at dksX8_init_0 9 rfl rfl)
theorem dX8_init_10 : decode cX8_init 10 = .ok (.invokevirtual 27, 3) := dk_182 0 27 (dk_at dksX8_init_0 10 rfl rfl)
theorem dX8_init_13 : decode cX8_init 13 = .ok (.aload_n 1, 1) := dk_43 (dk_at dksX8_init_0 13 rfl rfl)
theorem dX8_init_14 : decode cX8_init 14 = .ok (.invokevirtual 30, 3) := dk_182 0 30 (dk_at dksX8_init_0 14 rfl rfl)
theorem dX8_init_17 : decode cX8_init 17 = .ok (.aload_n 1, 1) := dk_43 (dk_at dksX8_init_0 17 rfl rfl)
theorem dX8_init_18 : decode cX8_init 18 = .ok (.invokevirtual 33, 3) := dk_182 0 33 (dk_at dksX8_init_0 18 rfl rfl)
theorem dX8_init_21 : decode cX8_init 21 = .ok (.invokespecial 1, 3) := dk_183 0 1 (dk_at dksX8_init_0 21 rfl rfl)
theorem dX8_init_24 : decode cX8_init 24 = .ok (.aload_n 0, 1) := dk_42 (dk_at dksX8_init_1 0 rfl rfl)
theorem dX8_init_25 : decode cX8_init 25 = .ok (.aload_n 1, 1) := dk_43 (dk_at dksX8_init_1 1 rfl rfl)
theorem dX8_init_26 : decode cX8_init 26 = .ok (.getfield 11, 3) := dk_180 0 11 (dk_at dksX8_init_1 2 rfl rfl)
theorem dX8_init_29 : decode cX8_init 29 = .ok (.putfield 11, 3) := dk_181 0 11 (dk_at dksX8_init_1 5 rfl rfl)
theorem dX8_init_32 : decode cX8_init 32 = .ok (.aload_n 0, 1) := dk_42 (dk_at dksX8_init_1 8 rfl rfl)
theorem dX8_init_33 : decode cX8_init 33 = .ok (.aload_n 1, 1) := dk_43 (dk_at dksX8_init_1 9 rfl rfl)
theorem dX8_init_34 : decode cX8_init 34 = .ok (.getfield 20, 3) := dk_180 0 20 (dk_at dksX8_init_1 10 rfl rfl)
theorem dX8_init_37 : decode cX8_init 37 = .ok (.putfield 20, 3) := dk_181 0 20 (dk_at dksX8_init_1 13 rfl rfl)
theorem dX8_init_40 : decode cX8_init 40 = .ok (.return_, 1) := dk_177 (dk_at dksX8_init_1 16 rfl rfl)
abbrev cX8_number : ByteArray := prog_10_method_3_code
def yX8_number : MethodName := ⟨RX8, "number", "()I"⟩
theorem dX8_number_0 : decode cX8_number 0 = .ok (.aload_n 0, 1) := by decide +kernel
theorem dX8_number_1 : decode cX8_number 1 = .ok (.getfield 7, 3) := by decide +kernel
theorem dX8_number_4 : decode cX8_number 4 = .ok (.ireturn, 1) := by decide +kernel
abbrev cX8_scopeOf : ByteArray := prog_10_method_4_code
def yX8_scopeOf : MethodName := ⟨RX8, "scopeOf", "()I"⟩
theorem dX8_scopeOf_0 : decode cX8_scopeOf 0 = .ok (.aload_n 0, 1) := by decide +kernel
theorem dX8_scopeOf_1 : decode cX8_scopeOf 1 = .ok (.getfield 36, 3) := by decide +kernel
theorem dX8_scopeOf_4 : decode cX8_scopeOf 4 = .ok (.ireturn, 1) := by decide +kernel
abbrev cX8_rankOf : ByteArray := prog_10_method_5_code
def yX8_rankOf : MethodName := ⟨RX8, "rankOf", "()I"⟩
theorem dX8_rankOf_0 : decode cX8_rankOf 0 = .ok (.aload_n 0, 1) := by decide +kernel
theorem dX8_rankOf_1 : decode cX8_rankOf 1 = .ok (.getfield 39, 3) := by decide +kernel
theorem dX8_rankOf_4 : decode cX8_rankOf 4 = .ok (.ireturn, 1) := by decide +kernel
abbrev cX8_firstOf : ByteArray := prog_10_method_6_code
def yX8_firstOf : MethodName := ⟨RX8, "firstOf", "()I"⟩
theorem dX8_firstOf_0 : decode cX8_firstOf 0 = .ok (.aload_n 0, 1) := by decide +kernel
theorem dX8_firstOf_1 : decode cX8_firstOf 1 = .ok (.getfield 42, 3) := by decide +kernel
theorem dX8_firstOf_4 : decode cX8_firstOf 4 = .ok (.ireturn, 1) := by decide +kernel
abbrev cX8_lastOf : ByteArray := prog_10_method_7_code
def yX8_lastOf : MethodName := ⟨RX8, "lastOf", "()I"⟩
theorem dX8_lastOf_0 : decode cX8_lastOf 0 = .ok (.aload_n 0, 1) := by decide +kernel
theorem dX8_lastOf_1 : decode cX8_lastOf 1 = .ok (.getfield 45, 3) := by decide +kernel
theorem dX8_lastOf_4 : decode cX8_lastOf 4 = .ok (.ireturn, 1) := by decide +kernel
abbrev cX8_depth : ByteArray := prog_10_method_9_code
def yX8_depth : MethodName := ⟨RX8, "depth", "()I"⟩
theorem dX8_depth_0 : decode cX8_depth 0 = .ok (.aload_n 0, 1) := by decide +kernel
theorem dX8_depth_1 : decode cX8_depth 1 = .ok (.getfield 20, 3) := by decide +kernel
theorem dX8_depth_4 : decode cX8_depth 4 = .ok (.ireturn, 1) := by decide +kernel
abbrev cX8_init_2 : ByteArray := prog_10_method_1_code
def yX8_init_2 : MethodName := ⟨RX8, "<init>", "(LPolicyNotation$Rule;IIIII)V"⟩
def dkwX8_init_2_1 : List UInt8 := [182, 0, 16, 4, 96, 181, 0, 20, 177]
abbrev dktX8_init_2_1 : List UInt8 := dkwX8_init_2_1 ++ []
def dkwX8_init_2_0 : List UInt8 := [42, 28, 29, 21, 4, 21, 5, 21, 6, 183, 0, 1, 42, 43, 180, 0, 7, 181, 0, 11, 42, 43]
abbrev dktX8_init_2_0 : List UInt8 := dkwX8_init_2_0 ++ dktX8_init_2_1
theorem dksX8_init_2_0 : cX8_init_2.data.toList.drop 0 = dktX8_init_2_0 := by decide +kernel
theorem dksX8_init_2_1 : cX8_init_2.data.toList.drop 22 = dktX8_init_2_1 := dk_seg dksX8_init_2_0 22 rfl rfl
theorem dX8_init_2_0 : decode cX8_init_2 0 = .ok (.aload_n 0, 1) := dk_42 (dk_at dksX8_init_2_0 0 rfl rfl)
theorem dX8_init_2_1 : decode cX8_init_2 1 = .ok (.iload_n 2, 1) := dk_28 (dk_at dksX8_init_2_0 1 rfl rfl)
theorem dX8_init_2_2 : decode cX8_init_2 2 = .ok (.iload_n 3, 1) := dk_29 (dk_at dksX8_init_2_0 2 rfl rfl)
theorem dX8_init_2_3 : decode cX8_init_2 3 = .ok (.iload 4, 2) := dk_21 4 (dk_at dksX8_init_2_0 3 rfl rfl)
theorem dX8_init_2_5 : decode cX8_init_2 5 = .ok (.iload 5, 2) := dk_21 5 (dk_at dksX8_init_2_0 5 rfl rfl)
theorem dX8_init_2_7 : decode cX8_init_2 7 = .ok (.iload 6, 2) := dk_21 6 (dk_at dksX8_init_2_0 7 rfl rfl)
theorem dX8_init_2_9 : decode cX8_init_2 9 = .ok (.invokespecial 1, 3) := dk_183 0 1 (dk_at dksX8_init_2_0 9 rfl rfl)
theorem dX8_init_2_12 : decode cX8_init_2 12 = .ok (.aload_n 0, 1) := dk_42 (dk_at dksX8_init_2_0 12 rfl rfl)
theorem dX8_init_2_13 : decode cX8_init_2 13 = .ok (.aload_n 1, 1) := dk_43 (dk_at dksX8_init_2_0 13 rfl rfl)
theorem dX8_init_2_14 : decode cX8_init_2 14 = .ok (.getfield 7, 3) := dk_180 0 7 (dk_at dksX8_init_2_0 14 rfl rfl)
theorem dX8_init_2_17 : decode cX8_init_2 17 = .ok (.putfield 11, 3) := dk_181 0 11 (dk_at dksX8_init_2_0 17 rfl rfl)
theorem dX8_init_2_20 : decode cX8_init_2 20 = .ok (.aload_n 0, 1) := dk_42 (dk_at dksX8_init_2_0 20 rfl rfl)
theorem dX8_init_2_21 : decode cX8_init_2 21 = .ok (.aload_n 1, 1) := dk_43 (dk_at dksX8_init_2_0 21 rfl rfl)
theorem dX8_init_2_22 : decode cX8_init_2 22 = .ok (.invokevirtual 16, 3) := dk_182 0 16 (dk_at dksX8_init_2_1 0 rfl rfl)
theorem dX8_init_2_25 : decode cX8_init_2 25 = .ok (.iconst 1, 1) := dk_4 (dk_at dksX8_init_2_1 3 rfl rfl)
theorem dX8_init_2_26 : decode cX8_init_2 26 = .ok (.iadd, 1) := dk_96 (dk_at dksX8_init_2_1 4 rfl rfl)
theorem dX8_init_2_27 : decode cX8_init_2 27 = .ok (.putfield 20, 3) := dk_181 0 20 (dk_at dksX8_init_2_1 5 rfl rfl)
theorem dX8_init_2_30 : decode cX8_init_2 30 = .ok (.return_, 1) := dk_177 (dk_at dksX8_init_2_1 8 rfl rfl)
theorem q124 : (Jvm.Cond.initialized "PolicyNotation$Exemption") ∈ lw_all := lw_g (lw_at lw_m1 33 rfl) rfl
theorem q559 : (Jvm.Cond.selects "PolicyNotation$Exemption" ({ cls := "java/lang/Object", name := "getClass", desc := "()Ljava/lang/Class;" } : Jvm.MethodName) ({ cls := "java/lang/Object", name := "getClass", desc := "()Ljava/lang/Class;" } : Jvm.MethodName)) ∈ lw_all := lw_g (lw_at lw_m2 228 rfl) rfl
theorem q759 : (Jvm.Cond.selects "PolicyNotation$Exemption" ({ cls := "PolicyNotation$Rule", name := "effect", desc := "()LPolicyNotation$Effect;" } : Jvm.MethodName) ({ cls := "PolicyNotation$Exemption", name := "effect", desc := "()LPolicyNotation$Effect;" } : Jvm.MethodName)) ∈ lw_all := lw_g (lw_at lw_m3 188 rfl) rfl
theorem q760 : (Jvm.Cond.instanceMethod ({ cls := "PolicyNotation$Exemption", name := "effect", desc := "()LPolicyNotation$Effect;" } : Jvm.MethodName)) ∈ lw_all := lw_g (lw_at lw_m3 189 rfl) rfl
theorem q761 : (Jvm.Cond.code ({ cls := "PolicyNotation$Exemption", name := "effect", desc := "()LPolicyNotation$Effect;" } : Jvm.MethodName) prog_10_method_11_code (1 : Nat) (Option.some (Jvm.ClassFile.FieldType.object "PolicyNotation$Effect"))) ∈ lw_all := lw_g (lw_at lw_m3 190 rfl) rfl
theorem q780 : (Jvm.Cond.selects "PolicyNotation$Exemption" ({ cls := "PolicyNotation$Rule", name := "isOn", desc := "(I)Z" } : Jvm.MethodName) ({ cls := "PolicyNotation$Rule", name := "isOn", desc := "(I)Z" } : Jvm.MethodName)) ∈ lw_all := lw_g (lw_at lw_m3 209 rfl) rfl
theorem q794 : (Jvm.Cond.selects "PolicyNotation$Exemption" ({ cls := "PolicyNotation$Rule", name := "fits", desc := "([I)Z" } : Jvm.MethodName) ({ cls := "PolicyNotation$Rule", name := "fits", desc := "([I)Z" } : Jvm.MethodName)) ∈ lw_all := lw_g (lw_at lw_m3 223 rfl) rfl
theorem q841 : (Jvm.Cond.selects "PolicyNotation$Exemption" ({ cls := "PolicyNotation$Rule", name := "of", desc := "()I" } : Jvm.MethodName) ({ cls := "PolicyNotation$Exemption", name := "of", desc := "()I" } : Jvm.MethodName)) ∈ lw_all := lw_g (lw_at lw_m4 30 rfl) rfl
theorem q842 : (Jvm.Cond.instanceMethod ({ cls := "PolicyNotation$Exemption", name := "of", desc := "()I" } : Jvm.MethodName)) ∈ lw_all := lw_g (lw_at lw_m4 31 rfl) rfl
theorem q843 : (Jvm.Cond.code ({ cls := "PolicyNotation$Exemption", name := "of", desc := "()I" } : Jvm.MethodName) prog_10_method_10_code (1 : Nat) (Option.some Jvm.ClassFile.FieldType.int)) ∈ lw_all := lw_g (lw_at lw_m4 32 rfl) rfl
theorem q887 : (Jvm.Cond.selects "PolicyNotation$Exemption" ({ cls := "PolicyNotation$Rule", name := "isAhead", desc := "(LPolicyNotation$Rule;)Z" } : Jvm.MethodName) ({ cls := "PolicyNotation$Rule", name := "isAhead", desc := "(LPolicyNotation$Rule;)Z" } : Jvm.MethodName)) ∈ lw_all := lw_g (lw_at lw_m4 76 rfl) rfl
theorem q916 : (Jvm.Cond.selects "PolicyNotation$Exemption" ({ cls := "PolicyNotation$Rule", name := "copy", desc := "()LPolicyNotation$Rule;" } : Jvm.MethodName) ({ cls := "PolicyNotation$Rule", name := "copy", desc := "()LPolicyNotation$Rule;" } : Jvm.MethodName)) ∈ lw_all := lw_g (lw_at lw_m4 105 rfl) rfl
theorem q922 : (Jvm.Cond.selects "PolicyNotation$Exemption" ({ cls := "PolicyNotation$Rule", name := "anew", desc := "()LPolicyNotation$Rule;" } : Jvm.MethodName) ({ cls := "PolicyNotation$Exemption", name := "anew", desc := "()LPolicyNotation$Rule;" } : Jvm.MethodName)) ∈ lw_all := lw_g (lw_at lw_m4 111 rfl) rfl
theorem q923 : (Jvm.Cond.instanceMethod ({ cls := "PolicyNotation$Exemption", name := "anew", desc := "()LPolicyNotation$Rule;" } : Jvm.MethodName)) ∈ lw_all := lw_g (lw_at lw_m4 112 rfl) rfl
theorem q924 : (Jvm.Cond.code ({ cls := "PolicyNotation$Exemption", name := "anew", desc := "()LPolicyNotation$Rule;" } : Jvm.MethodName) prog_10_method_8_code (1 : Nat) (Option.some (Jvm.ClassFile.FieldType.object "PolicyNotation$Rule"))) ∈ lw_all := lw_g (lw_at lw_m4 113 rfl) rfl
theorem q925 : (Jvm.Cond.classLink "PolicyNotation$Exemption" (12 : Nat) "PolicyNotation$Exemption") ∈ lw_all := lw_g (lw_at lw_m4 114 rfl) rfl
theorem q926 : (Jvm.Cond.instantiable "PolicyNotation$Exemption" (9 : Nat)) ∈ lw_all := lw_g (lw_at lw_m4 115 rfl) rfl
theorem q927 : (Jvm.Cond.methodLink "PolicyNotation$Exemption" (48 : Nat) ({ cls := "PolicyNotation$Exemption", name := "<init>", desc := "(LPolicyNotation$Exemption;)V" } : Jvm.MethodName)) ∈ lw_all := lw_g (lw_at lw_m4 116 rfl) rfl
theorem q928 : (Jvm.Cond.instanceMethod ({ cls := "PolicyNotation$Exemption", name := "<init>", desc := "(LPolicyNotation$Exemption;)V" } : Jvm.MethodName)) ∈ lw_all := lw_g (lw_at lw_m4 117 rfl) rfl
theorem q929 : (Jvm.Cond.code ({ cls := "PolicyNotation$Exemption", name := "<init>", desc := "(LPolicyNotation$Exemption;)V" } : Jvm.MethodName) prog_10_method_2_code (2 : Nat) (Option.none : Option Jvm.ClassFile.FieldType)) ∈ lw_all := lw_g (lw_at lw_m4 118 rfl) rfl
theorem q930 : (Jvm.Cond.methodLink "PolicyNotation$Exemption" (22 : Nat) ({ cls := "PolicyNotation$Exemption", name := "number", desc := "()I" } : Jvm.MethodName)) ∈ lw_all := lw_g (lw_at lw_m4 119 rfl) rfl
theorem q931 : (Jvm.Cond.privateMethod ({ cls := "PolicyNotation$Exemption", name := "number", desc := "()I" } : Jvm.MethodName)) ∈ lw_tbl := lw_at lw_m4 120 rfl
theorem q932 : (Jvm.Cond.instanceMethod ({ cls := "PolicyNotation$Exemption", name := "number", desc := "()I" } : Jvm.MethodName)) ∈ lw_all := lw_g (lw_at lw_m4 121 rfl) rfl
theorem q933 : (Jvm.Cond.code ({ cls := "PolicyNotation$Exemption", name := "number", desc := "()I" } : Jvm.MethodName) prog_10_method_3_code (1 : Nat) (Option.some Jvm.ClassFile.FieldType.int)) ∈ lw_all := lw_g (lw_at lw_m4 122 rfl) rfl
theorem q934 : (Jvm.Cond.methodLink "PolicyNotation$Exemption" (24 : Nat) ({ cls := "PolicyNotation$Exemption", name := "scopeOf", desc := "()I" } : Jvm.MethodName)) ∈ lw_all := lw_g (lw_at lw_m4 123 rfl) rfl
theorem q935 : (Jvm.Cond.privateMethod ({ cls := "PolicyNotation$Exemption", name := "scopeOf", desc := "()I" } : Jvm.MethodName)) ∈ lw_tbl := lw_at lw_m4 124 rfl
theorem q936 : (Jvm.Cond.instanceMethod ({ cls := "PolicyNotation$Exemption", name := "scopeOf", desc := "()I" } : Jvm.MethodName)) ∈ lw_all := lw_g (lw_at lw_m4 125 rfl) rfl
theorem q937 : (Jvm.Cond.code ({ cls := "PolicyNotation$Exemption", name := "scopeOf", desc := "()I" } : Jvm.MethodName) prog_10_method_4_code (1 : Nat) (Option.some Jvm.ClassFile.FieldType.int)) ∈ lw_all := lw_g (lw_at lw_m4 126 rfl) rfl
theorem q938 : (Jvm.Cond.methodLink "PolicyNotation$Exemption" (27 : Nat) ({ cls := "PolicyNotation$Exemption", name := "rankOf", desc := "()I" } : Jvm.MethodName)) ∈ lw_all := lw_g (lw_at lw_m4 127 rfl) rfl
theorem q939 : (Jvm.Cond.privateMethod ({ cls := "PolicyNotation$Exemption", name := "rankOf", desc := "()I" } : Jvm.MethodName)) ∈ lw_tbl := lw_at lw_m4 128 rfl
theorem q940 : (Jvm.Cond.instanceMethod ({ cls := "PolicyNotation$Exemption", name := "rankOf", desc := "()I" } : Jvm.MethodName)) ∈ lw_all := lw_g (lw_at lw_m4 129 rfl) rfl
theorem q941 : (Jvm.Cond.code ({ cls := "PolicyNotation$Exemption", name := "rankOf", desc := "()I" } : Jvm.MethodName) prog_10_method_5_code (1 : Nat) (Option.some Jvm.ClassFile.FieldType.int)) ∈ lw_all := lw_g (lw_at lw_m4 130 rfl) rfl
theorem q942 : (Jvm.Cond.methodLink "PolicyNotation$Exemption" (30 : Nat) ({ cls := "PolicyNotation$Exemption", name := "firstOf", desc := "()I" } : Jvm.MethodName)) ∈ lw_all := lw_g (lw_at lw_m4 131 rfl) rfl
theorem q943 : (Jvm.Cond.privateMethod ({ cls := "PolicyNotation$Exemption", name := "firstOf", desc := "()I" } : Jvm.MethodName)) ∈ lw_tbl := lw_at lw_m4 132 rfl
theorem q944 : (Jvm.Cond.instanceMethod ({ cls := "PolicyNotation$Exemption", name := "firstOf", desc := "()I" } : Jvm.MethodName)) ∈ lw_all := lw_g (lw_at lw_m4 133 rfl) rfl
theorem q945 : (Jvm.Cond.code ({ cls := "PolicyNotation$Exemption", name := "firstOf", desc := "()I" } : Jvm.MethodName) prog_10_method_6_code (1 : Nat) (Option.some Jvm.ClassFile.FieldType.int)) ∈ lw_all := lw_g (lw_at lw_m4 134 rfl) rfl
theorem q946 : (Jvm.Cond.methodLink "PolicyNotation$Exemption" (33 : Nat) ({ cls := "PolicyNotation$Exemption", name := "lastOf", desc := "()I" } : Jvm.MethodName)) ∈ lw_all := lw_g (lw_at lw_m4 135 rfl) rfl
theorem q947 : (Jvm.Cond.privateMethod ({ cls := "PolicyNotation$Exemption", name := "lastOf", desc := "()I" } : Jvm.MethodName)) ∈ lw_tbl := lw_at lw_m4 136 rfl
theorem q948 : (Jvm.Cond.instanceMethod ({ cls := "PolicyNotation$Exemption", name := "lastOf", desc := "()I" } : Jvm.MethodName)) ∈ lw_all := lw_g (lw_at lw_m4 137 rfl) rfl
theorem q949 : (Jvm.Cond.code ({ cls := "PolicyNotation$Exemption", name := "lastOf", desc := "()I" } : Jvm.MethodName) prog_10_method_7_code (1 : Nat) (Option.some Jvm.ClassFile.FieldType.int)) ∈ lw_all := lw_g (lw_at lw_m4 138 rfl) rfl
theorem q950 : (Jvm.Cond.methodLink "PolicyNotation$Exemption" (1 : Nat) ({ cls := "PolicyNotation$Rule", name := "<init>", desc := "(IIIII)V" } : Jvm.MethodName)) ∈ lw_all := lw_g (lw_at lw_m4 139 rfl) rfl
theorem q956 : (Jvm.Cond.fieldLink "PolicyNotation$Exemption" (11 : Nat) "PolicyNotation$Exemption" "of" "I") ∈ lw_all := lw_g (lw_at lw_m4 145 rfl) rfl
theorem q957 : (Jvm.Cond.fieldLink "PolicyNotation$Exemption" (20 : Nat) "PolicyNotation$Exemption" "depth" "I") ∈ lw_all := lw_g (lw_at lw_m4 146 rfl) rfl
theorem q958 : (Jvm.Cond.fieldLinkNest "PolicyNotation$Exemption" (7 : Nat) "PolicyNotation$Rule" "number" "I" "PolicyNotation") ∈ lw_tbl := lw_at lw_m4 147 rfl
theorem q965 : (Jvm.Cond.fieldLinkNest "PolicyNotation$Exemption" (36 : Nat) "PolicyNotation$Rule" "scope" "I" "PolicyNotation") ∈ lw_tbl := lw_at lw_m4 154 rfl
theorem q971 : (Jvm.Cond.fieldLinkNest "PolicyNotation$Exemption" (39 : Nat) "PolicyNotation$Rule" "rank" "I" "PolicyNotation") ∈ lw_tbl := lw_at lw_m4 160 rfl
theorem q976 : (Jvm.Cond.fieldLinkNest "PolicyNotation$Exemption" (42 : Nat) "PolicyNotation$Rule" "first" "I" "PolicyNotation") ∈ lw_tbl := lw_at lw_m4 165 rfl
theorem q981 : (Jvm.Cond.fieldLinkNest "PolicyNotation$Exemption" (45 : Nat) "PolicyNotation$Rule" "last" "I" "PolicyNotation") ∈ lw_tbl := lw_at lw_m4 170 rfl
theorem q988 : (Jvm.Cond.laysFinal "PolicyNotation$Exemption" "PolicyNotation$Exemption" "of" "I") ∈ lw_all := lw_g (lw_at lw_m4 177 rfl) rfl
theorem q989 : (Jvm.Cond.soleField "PolicyNotation$Exemption" "of") ∈ lw_all := lw_g (lw_at lw_m4 178 rfl) rfl
theorem q990 : (Jvm.Cond.laysFinal "PolicyNotation$Exemption" "PolicyNotation$Exemption" "depth" "I") ∈ lw_all := lw_g (lw_at lw_m4 179 rfl) rfl
theorem q991 : (Jvm.Cond.soleField "PolicyNotation$Exemption" "depth") ∈ lw_all := lw_g (lw_at lw_m4 180 rfl) rfl
theorem q992 : (Jvm.Cond.laysFinal "PolicyNotation$Exemption" "PolicyNotation$Rule" "number" "I") ∈ lw_all := lw_g (lw_at lw_m4 181 rfl) rfl
theorem q994 : (Jvm.Cond.laysFinal "PolicyNotation$Exemption" "PolicyNotation$Rule" "scope" "I") ∈ lw_all := lw_g (lw_at lw_m4 183 rfl) rfl
theorem q996 : (Jvm.Cond.laysFinal "PolicyNotation$Exemption" "PolicyNotation$Rule" "rank" "I") ∈ lw_all := lw_g (lw_at lw_m4 185 rfl) rfl
theorem q998 : (Jvm.Cond.laysFinal "PolicyNotation$Exemption" "PolicyNotation$Rule" "first" "I") ∈ lw_all := lw_g (lw_at lw_m4 187 rfl) rfl
theorem q1000 : (Jvm.Cond.lays "PolicyNotation$Exemption" "PolicyNotation$Rule" "last" "I") ∈ lw_all := lw_g (lw_at lw_m4 189 rfl) rfl
theorem q1002 : (Jvm.Cond.lays "PolicyNotation$Exemption" "PolicyNotation$Rule" "factor" "I") ∈ lw_all := lw_g (lw_at lw_m4 191 rfl) rfl
theorem q1004 : (Jvm.Cond.laysFinal "PolicyNotation$Exemption" "PolicyNotation$Rule" "tests" "Ljava/util/ArrayList;") ∈ lw_all := lw_g (lw_at lw_m4 193 rfl) rfl
theorem q1006 : (Jvm.Cond.superclass "PolicyNotation$Exemption" "PolicyNotation$Rule") ∈ lw_all := lw_g (lw_at lw_m4 195 rfl) rfl
theorem q1354 : (Jvm.Cond.selects "PolicyNotation$Exemption" ({ cls := "PolicyNotation$Rule", name := "depth", desc := "()I" } : Jvm.MethodName) ({ cls := "PolicyNotation$Exemption", name := "depth", desc := "()I" } : Jvm.MethodName)) ∈ lw_all := lw_g (lw_at lw_m6 63 rfl) rfl
theorem q1355 : (Jvm.Cond.instanceMethod ({ cls := "PolicyNotation$Exemption", name := "depth", desc := "()I" } : Jvm.MethodName)) ∈ lw_all := lw_g (lw_at lw_m6 64 rfl) rfl
theorem q1356 : (Jvm.Cond.code ({ cls := "PolicyNotation$Exemption", name := "depth", desc := "()I" } : Jvm.MethodName) prog_10_method_9_code (1 : Nat) (Option.some Jvm.ClassFile.FieldType.int)) ∈ lw_all := lw_g (lw_at lw_m6 65 rfl) rfl
theorem q1362 : (Jvm.Cond.instanceMethod ({ cls := "PolicyNotation$Exemption", name := "<init>", desc := "(LPolicyNotation$Rule;IIIII)V" } : Jvm.MethodName)) ∈ lw_all := lw_g (lw_at lw_m6 71 rfl) rfl
theorem q1363 : (Jvm.Cond.code ({ cls := "PolicyNotation$Exemption", name := "<init>", desc := "(LPolicyNotation$Rule;IIIII)V" } : Jvm.MethodName) prog_10_method_1_code (7 : Nat) (Option.none : Option Jvm.ClassFile.FieldType)) ∈ lw_all := lw_g (lw_at lw_m6 72 rfl) rfl
theorem q1364 : (Jvm.Cond.methodLink "PolicyNotation$Exemption" (16 : Nat) ({ cls := "PolicyNotation$Rule", name := "depth", desc := "()I" } : Jvm.MethodName)) ∈ lw_all := lw_g (lw_at lw_m6 73 rfl) rfl
theorem q1425 : (Jvm.Cond.selects "PolicyNotation$Exemption" ({ cls := "PolicyNotation$Rule", name := "impossible", desc := "()I" } : Jvm.MethodName) ({ cls := "PolicyNotation$Rule", name := "impossible", desc := "()I" } : Jvm.MethodName)) ∈ lw_all := lw_g (lw_at lw_m6 134 rfl) rfl
theorem q1431 : (Jvm.Cond.selects "PolicyNotation$Exemption" ({ cls := "PolicyNotation$Rule", name := "isPossible", desc := "(I)Z" } : Jvm.MethodName) ({ cls := "PolicyNotation$Rule", name := "isPossible", desc := "(I)Z" } : Jvm.MethodName)) ∈ lw_all := lw_g (lw_at lw_m6 140 rfl) rfl
theorem q2788 : (Jvm.Cond.castable "PolicyNotation$Exemption" "PolicyNotation$Rule") ∈ lw_tbl := lw_at lw_m12 57 rfl
theorem q2820 : (Jvm.Cond.castable "PolicyNotation$Exemption" "java/lang/Object") ∈ lw_tbl := lw_at lw_m12 89 rfl
theorem in_X8 : ∀ w ∈ wsX80, w ∈ lw_all := lw_in wsX80 [992, 994, 996, 998, 1000, 1002, 1004, 988, 990] (by decide +kernel) (by decide +kernel)
/-! PolicyNotation$Main -/
def RX9 : String := "PolicyNotation$Main"
def TX9 : u_T := fun k => match k with
  | 0 => ("PolicyNotation$Rule", "number", "I", true)
  | 1 => ("PolicyNotation$Rule", "scope", "I", true)
  | 2 => ("PolicyNotation$Rule", "rank", "I", true)
  | 3 => ("PolicyNotation$Rule", "first", "I", true)
  | 4 => ("PolicyNotation$Rule", "last", "I", false)
  | 5 => ("PolicyNotation$Rule", "factor", "I", false)
  | 6 => ("PolicyNotation$Rule", "tests", "Ljava/util/ArrayList;", true)
  | _ => ("PolicyNotation$Main", "effect", "LPolicyNotation$Effect;", true)
def tyX9 : Nat → FieldType := fun k => match k with
  | 0 => .int
  | 1 => .int
  | 2 => .int
  | 3 => .int
  | 4 => .int
  | 5 => .int
  | 6 => .object "java/util/ArrayList"
  | _ => .object "PolicyNotation$Effect"
abbrev wsX90 : List Cond := u_ws RX9 TX9 8
theorem nmX9 : ∀ a, a < 8 → ∀ b, b < 8 → a ≠ b → (TX9 a).2.1 ≠ (TX9 b).2.1 := by decide +kernel
theorem tyX9_ok : ∀ k, k < 8 → parseFieldDescriptor (TX9 k).2.2.1 = some (tyX9 k) := by decide +kernel
abbrev cX9_effect : ByteArray := prog_14_method_5_code
def yX9_effect : MethodName := ⟨RX9, "effect", "()LPolicyNotation$Effect;"⟩
theorem dX9_effect_0 : decode cX9_effect 0 = .ok (.aload_n 0, 1) := by decide +kernel
theorem dX9_effect_1 : decode cX9_effect 1 = .ok (.getfield 9, 3) := by decide +kernel
theorem dX9_effect_4 : decode cX9_effect 4 = .ok (.areturn, 1) := by decide +kernel
abbrev cX9_of : ByteArray := prog_14_method_4_code
def yX9_of : MethodName := ⟨RX9, "of", "()I"⟩
theorem dX9_of_0 : decode cX9_of 0 = .ok (.iconst (-1), 1) := by decide +kernel
theorem dX9_of_1 : decode cX9_of 1 = .ok (.ireturn, 1) := by decide +kernel
abbrev cX9_anew : ByteArray := prog_14_method_2_code
def yX9_anew : MethodName := ⟨RX9, "anew", "()LPolicyNotation$Rule;"⟩
def dkwX9_anew_1 : List UInt8 := [42, 180, 0, 28, 183, 0, 31, 176]
abbrev dktX9_anew_1 : List UInt8 := dkwX9_anew_1 ++ []
def dkwX9_anew_0 : List UInt8 := [187, 0, 10, 89, 42, 180, 0, 9, 42, 180, 0, 15, 42, 180, 0, 19, 42, 180, 0, 22, 42, 180, 0, 25]
abbrev dktX9_anew_0 : List UInt8 := dkwX9_anew_0 ++ dktX9_anew_1
theorem dksX9_anew_0 : cX9_anew.data.toList.drop 0 = dktX9_anew_0 := by decide +kernel
theorem dksX9_anew_1 : cX9_anew.data.toList.drop 24 = dktX9_anew_1 := dk_seg dksX9_anew_0 24 rfl rfl
theorem dX9_anew_0 : decode cX9_anew 0 = .ok (.new 10, 3) := dk_187 0 10 (dk_at dksX9_anew_0 0 rfl rfl)
theorem dX9_anew_3 : decode cX9_anew 3 = .ok (.dup, 1) := dk_89 (dk_at dksX9_anew_0 3 rfl rfl)
theorem dX9_anew_4 : decode cX9_anew 4 = .ok (.aload_n 0, 1) := dk_42 (dk_at dksX9_anew_0 4 rfl rfl)
theorem dX9_anew_5 : decode cX9_anew 5 = .ok (.getfield 9, 3) := dk_180 0 9 (dk_at dksX9_anew_0 5 rfl rfl)
theorem dX9_anew_8 : decode cX9_anew 8 = .ok (.aload_n 0, 1) := dk_42 (dk_at dksX9_anew_0 8 rfl rfl)
theorem dX9_anew_9 : decode cX9_anew 9 = .ok (.getfield 15, 3) := dk_180 0 15 (dk_at dksX9_anew_0 9 rfl rfl)
theorem dX9_anew_12 : decode cX9_anew 12 = .ok (.aload_n 0, 1) := dk_42 (dk_at dksX9_anew_0 12 rfl rfl)
theorem dX9_anew_13 : decode cX9_anew 13 = .ok (.getfield 19, 3) := dk_180 0 19 (dk_at dksX9_anew_0 13 rfl rfl)
theorem dX9_anew_16 : decode cX9_anew 16 = .ok (.aload_n 0, 1) := dk_42 (dk_at dksX9_anew_0 16 rfl rfl)
theorem dX9_anew_17 : decode cX9_anew 17 = .ok (.getfield 22, 3) := dk_180 0 22 (dk_at dksX9_anew_0 17 rfl rfl)
theorem dX9_anew_20 : decode cX9_anew 20 = .ok (.aload_n 0, 1) := dk_42 (dk_at dksX9_anew_0 20 rfl rfl)
theorem dX9_anew_21 : decode cX9_anew 21 = .ok (.getfield 25, 3) := dk_180 0 25 (dk_at dksX9_anew_0 21 rfl rfl)
theorem dX9_anew_24 : decode cX9_anew 24 = .ok (.aload_n 0, 1) := dk_42 (dk_at dksX9_anew_1 0 rfl rfl)
theorem dX9_anew_25 : decode cX9_anew 25 = .ok (.getfield 28, 3) := dk_180 0 28 (dk_at dksX9_anew_1 1 rfl rfl)
theorem dX9_anew_28 : decode cX9_anew 28 = .ok (.invokespecial 31, 3) := dk_183 0 31 (dk_at dksX9_anew_1 4 rfl rfl)
theorem dX9_anew_31 : decode cX9_anew 31 = .ok (.areturn, 1) := dk_176 (dk_at dksX9_anew_1 7 rfl rfl)
abbrev cX9_init : ByteArray := prog_14_method_1_code
def yX9_init : MethodName := ⟨RX9, "<init>", "(LPolicyNotation$Effect;IIIII)V"⟩
def dkwX9_init_0 : List UInt8 := [42, 28, 29, 21, 4, 21, 5, 21, 6, 183, 0, 3, 42, 43, 181, 0, 9, 177]
abbrev dktX9_init_0 : List UInt8 := dkwX9_init_0 ++ []
theorem dksX9_init_0 : cX9_init.data.toList.drop 0 = dktX9_init_0 := by decide +kernel
theorem dX9_init_0 : decode cX9_init 0 = .ok (.aload_n 0, 1) := dk_42 (dk_at dksX9_init_0 0 rfl rfl)
theorem dX9_init_1 : decode cX9_init 1 = .ok (.iload_n 2, 1) := dk_28 (dk_at dksX9_init_0 1 rfl rfl)
theorem dX9_init_2 : decode cX9_init 2 = .ok (.iload_n 3, 1) := dk_29 (dk_at dksX9_init_0 2 rfl rfl)
theorem dX9_init_3 : decode cX9_init 3 = .ok (.iload 4, 2) := dk_21 4 (dk_at dksX9_init_0 3 rfl rfl)
theorem dX9_init_5 : decode cX9_init 5 = .ok (.iload 5, 2) := dk_21 5 (dk_at dksX9_init_0 5 rfl rfl)
theorem dX9_init_7 : decode cX9_init 7 = .ok (.iload 6, 2) := dk_21 6 (dk_at dksX9_init_0 7 rfl rfl)
theorem dX9_init_9 : decode cX9_init 9 = .ok (.invokespecial 3, 3) := dk_183 0 3 (dk_at dksX9_init_0 9 rfl rfl)
theorem dX9_init_12 : decode cX9_init 12 = .ok (.aload_n 0, 1) := dk_42 (dk_at dksX9_init_0 12 rfl rfl)
theorem dX9_init_13 : decode cX9_init 13 = .ok (.aload_n 1, 1) := dk_43 (dk_at dksX9_init_0 13 rfl rfl)
theorem dX9_init_14 : decode cX9_init 14 = .ok (.putfield 9, 3) := dk_181 0 9 (dk_at dksX9_init_0 14 rfl rfl)
theorem dX9_init_17 : decode cX9_init 17 = .ok (.return_, 1) := dk_177 (dk_at dksX9_init_0 17 rfl rfl)
abbrev cX9_depth : ByteArray := prog_14_method_3_code
def yX9_depth : MethodName := ⟨RX9, "depth", "()I"⟩
theorem dX9_depth_0 : decode cX9_depth 0 = .ok (.iconst 0, 1) := by decide +kernel
theorem dX9_depth_1 : decode cX9_depth 1 = .ok (.ireturn, 1) := by decide +kernel
theorem q125 : (Jvm.Cond.initialized "PolicyNotation$Main") ∈ lw_all := lw_g (lw_at lw_m1 34 rfl) rfl
theorem q563 : (Jvm.Cond.selects "PolicyNotation$Main" ({ cls := "java/lang/Object", name := "getClass", desc := "()Ljava/lang/Class;" } : Jvm.MethodName) ({ cls := "java/lang/Object", name := "getClass", desc := "()Ljava/lang/Class;" } : Jvm.MethodName)) ∈ lw_all := lw_g (lw_at lw_m2 232 rfl) rfl
theorem q762 : (Jvm.Cond.selects "PolicyNotation$Main" ({ cls := "PolicyNotation$Rule", name := "effect", desc := "()LPolicyNotation$Effect;" } : Jvm.MethodName) ({ cls := "PolicyNotation$Main", name := "effect", desc := "()LPolicyNotation$Effect;" } : Jvm.MethodName)) ∈ lw_all := lw_g (lw_at lw_m3 191 rfl) rfl
theorem q763 : (Jvm.Cond.instanceMethod ({ cls := "PolicyNotation$Main", name := "effect", desc := "()LPolicyNotation$Effect;" } : Jvm.MethodName)) ∈ lw_all := lw_g (lw_at lw_m3 192 rfl) rfl
theorem q764 : (Jvm.Cond.code ({ cls := "PolicyNotation$Main", name := "effect", desc := "()LPolicyNotation$Effect;" } : Jvm.MethodName) prog_14_method_5_code (1 : Nat) (Option.some (Jvm.ClassFile.FieldType.object "PolicyNotation$Effect"))) ∈ lw_all := lw_g (lw_at lw_m3 193 rfl) rfl
theorem q781 : (Jvm.Cond.selects "PolicyNotation$Main" ({ cls := "PolicyNotation$Rule", name := "isOn", desc := "(I)Z" } : Jvm.MethodName) ({ cls := "PolicyNotation$Rule", name := "isOn", desc := "(I)Z" } : Jvm.MethodName)) ∈ lw_all := lw_g (lw_at lw_m3 210 rfl) rfl
theorem q795 : (Jvm.Cond.selects "PolicyNotation$Main" ({ cls := "PolicyNotation$Rule", name := "fits", desc := "([I)Z" } : Jvm.MethodName) ({ cls := "PolicyNotation$Rule", name := "fits", desc := "([I)Z" } : Jvm.MethodName)) ∈ lw_all := lw_g (lw_at lw_m3 224 rfl) rfl
theorem q844 : (Jvm.Cond.selects "PolicyNotation$Main" ({ cls := "PolicyNotation$Rule", name := "of", desc := "()I" } : Jvm.MethodName) ({ cls := "PolicyNotation$Main", name := "of", desc := "()I" } : Jvm.MethodName)) ∈ lw_all := lw_g (lw_at lw_m4 33 rfl) rfl
theorem q845 : (Jvm.Cond.instanceMethod ({ cls := "PolicyNotation$Main", name := "of", desc := "()I" } : Jvm.MethodName)) ∈ lw_all := lw_g (lw_at lw_m4 34 rfl) rfl
theorem q846 : (Jvm.Cond.code ({ cls := "PolicyNotation$Main", name := "of", desc := "()I" } : Jvm.MethodName) prog_14_method_4_code (1 : Nat) (Option.some Jvm.ClassFile.FieldType.int)) ∈ lw_all := lw_g (lw_at lw_m4 35 rfl) rfl
theorem q888 : (Jvm.Cond.selects "PolicyNotation$Main" ({ cls := "PolicyNotation$Rule", name := "isAhead", desc := "(LPolicyNotation$Rule;)Z" } : Jvm.MethodName) ({ cls := "PolicyNotation$Rule", name := "isAhead", desc := "(LPolicyNotation$Rule;)Z" } : Jvm.MethodName)) ∈ lw_all := lw_g (lw_at lw_m4 77 rfl) rfl
theorem q917 : (Jvm.Cond.selects "PolicyNotation$Main" ({ cls := "PolicyNotation$Rule", name := "copy", desc := "()LPolicyNotation$Rule;" } : Jvm.MethodName) ({ cls := "PolicyNotation$Rule", name := "copy", desc := "()LPolicyNotation$Rule;" } : Jvm.MethodName)) ∈ lw_all := lw_g (lw_at lw_m4 106 rfl) rfl
theorem q960 : (Jvm.Cond.fieldLinkNest "PolicyNotation$Main" (15 : Nat) "PolicyNotation$Rule" "number" "I" "PolicyNotation") ∈ lw_tbl := lw_at lw_m4 149 rfl
theorem q964 : (Jvm.Cond.fieldLinkNest "PolicyNotation$Main" (19 : Nat) "PolicyNotation$Rule" "scope" "I" "PolicyNotation") ∈ lw_tbl := lw_at lw_m4 153 rfl
theorem q970 : (Jvm.Cond.fieldLinkNest "PolicyNotation$Main" (22 : Nat) "PolicyNotation$Rule" "rank" "I" "PolicyNotation") ∈ lw_tbl := lw_at lw_m4 159 rfl
theorem q975 : (Jvm.Cond.fieldLinkNest "PolicyNotation$Main" (25 : Nat) "PolicyNotation$Rule" "first" "I" "PolicyNotation") ∈ lw_tbl := lw_at lw_m4 164 rfl
theorem q980 : (Jvm.Cond.fieldLinkNest "PolicyNotation$Main" (28 : Nat) "PolicyNotation$Rule" "last" "I" "PolicyNotation") ∈ lw_tbl := lw_at lw_m4 169 rfl
theorem q1007 : (Jvm.Cond.selects "PolicyNotation$Main" ({ cls := "PolicyNotation$Rule", name := "anew", desc := "()LPolicyNotation$Rule;" } : Jvm.MethodName) ({ cls := "PolicyNotation$Main", name := "anew", desc := "()LPolicyNotation$Rule;" } : Jvm.MethodName)) ∈ lw_all := lw_g (lw_at lw_m4 196 rfl) rfl
theorem q1008 : (Jvm.Cond.instanceMethod ({ cls := "PolicyNotation$Main", name := "anew", desc := "()LPolicyNotation$Rule;" } : Jvm.MethodName)) ∈ lw_all := lw_g (lw_at lw_m4 197 rfl) rfl
theorem q1009 : (Jvm.Cond.code ({ cls := "PolicyNotation$Main", name := "anew", desc := "()LPolicyNotation$Rule;" } : Jvm.MethodName) prog_14_method_2_code (1 : Nat) (Option.some (Jvm.ClassFile.FieldType.object "PolicyNotation$Rule"))) ∈ lw_all := lw_g (lw_at lw_m4 198 rfl) rfl
theorem q1010 : (Jvm.Cond.classLink "PolicyNotation$Main" (10 : Nat) "PolicyNotation$Main") ∈ lw_all := lw_g (lw_at lw_m4 199 rfl) rfl
theorem q1011 : (Jvm.Cond.instantiable "PolicyNotation$Main" (8 : Nat)) ∈ lw_all := lw_g (lw_at lw_m4 200 rfl) rfl
theorem q1012 : (Jvm.Cond.methodLink "PolicyNotation$Main" (31 : Nat) ({ cls := "PolicyNotation$Main", name := "<init>", desc := "(LPolicyNotation$Effect;IIIII)V" } : Jvm.MethodName)) ∈ lw_all := lw_g (lw_at lw_m4 201 rfl) rfl
theorem q1013 : (Jvm.Cond.instanceMethod ({ cls := "PolicyNotation$Main", name := "<init>", desc := "(LPolicyNotation$Effect;IIIII)V" } : Jvm.MethodName)) ∈ lw_all := lw_g (lw_at lw_m4 202 rfl) rfl
theorem q1014 : (Jvm.Cond.code ({ cls := "PolicyNotation$Main", name := "<init>", desc := "(LPolicyNotation$Effect;IIIII)V" } : Jvm.MethodName) prog_14_method_1_code (7 : Nat) (Option.none : Option Jvm.ClassFile.FieldType)) ∈ lw_all := lw_g (lw_at lw_m4 203 rfl) rfl
theorem q1015 : (Jvm.Cond.methodLink "PolicyNotation$Main" (3 : Nat) ({ cls := "PolicyNotation$Rule", name := "<init>", desc := "(IIIII)V" } : Jvm.MethodName)) ∈ lw_all := lw_g (lw_at lw_m4 204 rfl) rfl
theorem q1016 : (Jvm.Cond.fieldLink "PolicyNotation$Main" (9 : Nat) "PolicyNotation$Main" "effect" "LPolicyNotation$Effect;") ∈ lw_all := lw_g (lw_at lw_m4 205 rfl) rfl
theorem q1017 : (Jvm.Cond.laysFinal "PolicyNotation$Main" "PolicyNotation$Main" "effect" "LPolicyNotation$Effect;") ∈ lw_all := lw_g (lw_at lw_m4 206 rfl) rfl
theorem q1018 : (Jvm.Cond.soleField "PolicyNotation$Main" "effect") ∈ lw_all := lw_g (lw_at lw_m4 207 rfl) rfl
theorem q1019 : (Jvm.Cond.laysFinal "PolicyNotation$Main" "PolicyNotation$Rule" "number" "I") ∈ lw_all := lw_g (lw_at lw_m4 208 rfl) rfl
theorem q1020 : (Jvm.Cond.laysFinal "PolicyNotation$Main" "PolicyNotation$Rule" "scope" "I") ∈ lw_all := lw_g (lw_at lw_m4 209 rfl) rfl
theorem q1021 : (Jvm.Cond.laysFinal "PolicyNotation$Main" "PolicyNotation$Rule" "rank" "I") ∈ lw_all := lw_g (lw_at lw_m4 210 rfl) rfl
theorem q1022 : (Jvm.Cond.laysFinal "PolicyNotation$Main" "PolicyNotation$Rule" "first" "I") ∈ lw_all := lw_g (lw_at lw_m4 211 rfl) rfl
theorem q1023 : (Jvm.Cond.lays "PolicyNotation$Main" "PolicyNotation$Rule" "last" "I") ∈ lw_all := lw_g (lw_at lw_m4 212 rfl) rfl
theorem q1024 : (Jvm.Cond.lays "PolicyNotation$Main" "PolicyNotation$Rule" "factor" "I") ∈ lw_all := lw_g (lw_at lw_m4 213 rfl) rfl
theorem q1025 : (Jvm.Cond.laysFinal "PolicyNotation$Main" "PolicyNotation$Rule" "tests" "Ljava/util/ArrayList;") ∈ lw_all := lw_g (lw_at lw_m4 214 rfl) rfl
theorem q1026 : (Jvm.Cond.superclass "PolicyNotation$Main" "PolicyNotation$Rule") ∈ lw_all := lw_g (lw_at lw_m4 215 rfl) rfl
theorem q1357 : (Jvm.Cond.selects "PolicyNotation$Main" ({ cls := "PolicyNotation$Rule", name := "depth", desc := "()I" } : Jvm.MethodName) ({ cls := "PolicyNotation$Main", name := "depth", desc := "()I" } : Jvm.MethodName)) ∈ lw_all := lw_g (lw_at lw_m6 66 rfl) rfl
theorem q1358 : (Jvm.Cond.instanceMethod ({ cls := "PolicyNotation$Main", name := "depth", desc := "()I" } : Jvm.MethodName)) ∈ lw_all := lw_g (lw_at lw_m6 67 rfl) rfl
theorem q1359 : (Jvm.Cond.code ({ cls := "PolicyNotation$Main", name := "depth", desc := "()I" } : Jvm.MethodName) prog_14_method_3_code (1 : Nat) (Option.some Jvm.ClassFile.FieldType.int)) ∈ lw_all := lw_g (lw_at lw_m6 68 rfl) rfl
theorem q1426 : (Jvm.Cond.selects "PolicyNotation$Main" ({ cls := "PolicyNotation$Rule", name := "impossible", desc := "()I" } : Jvm.MethodName) ({ cls := "PolicyNotation$Rule", name := "impossible", desc := "()I" } : Jvm.MethodName)) ∈ lw_all := lw_g (lw_at lw_m6 135 rfl) rfl
theorem q1432 : (Jvm.Cond.selects "PolicyNotation$Main" ({ cls := "PolicyNotation$Rule", name := "isPossible", desc := "(I)Z" } : Jvm.MethodName) ({ cls := "PolicyNotation$Rule", name := "isPossible", desc := "(I)Z" } : Jvm.MethodName)) ∈ lw_all := lw_g (lw_at lw_m6 141 rfl) rfl
theorem q2789 : (Jvm.Cond.castable "PolicyNotation$Main" "PolicyNotation$Rule") ∈ lw_tbl := lw_at lw_m12 58 rfl
theorem q2819 : (Jvm.Cond.castable "PolicyNotation$Main" "java/lang/Object") ∈ lw_tbl := lw_at lw_m12 88 rfl
theorem in_X9 : ∀ w ∈ wsX90, w ∈ lw_all := lw_in wsX90 [1019, 1020, 1021, 1022, 1023, 1024, 1025, 1017] (by decide +kernel) (by decide +kernel)
/-! java/util/NoSuchElementException -/
def RJ23 : String := "java/util/NoSuchElementException"
def TJ23 : u_T := fun k => match k with
  | 0 => ("java/lang/Throwable", "cause", "Ljava/lang/Throwable;", false)
  | 1 => ("java/lang/Throwable", "stackTrace", "[Ljava/lang/StackTraceElement;", false)
  | 2 => ("java/lang/Throwable", "suppressedExceptions", "Ljava/util/List;", false)
  | 3 => ("java/lang/Throwable", "detailMessage", "Ljava/lang/String;", false)
  | 4 => ("java/lang/Throwable", "backtrace", "Ljava/lang/Object;", false)
  | _ => ("java/lang/Throwable", "depth", "I", false)
def tyJ23 : Nat → FieldType := fun k => match k with
  | 0 => .object "java/lang/Throwable"
  | 1 => .array (.object "java/lang/StackTraceElement")
  | 2 => .object "java/util/List"
  | 3 => .object "java/lang/String"
  | 4 => .object "java/lang/Object"
  | _ => .int
abbrev wsJ230 : List Cond := u_ws RJ23 TJ23 6
theorem nmJ23 : ∀ a, a < 6 → ∀ b, b < 6 → a ≠ b → (TJ23 a).2.1 ≠ (TJ23 b).2.1 := by decide +kernel
theorem tyJ23_ok : ∀ k, k < 6 → parseFieldDescriptor (TJ23 k).2.2.1 = some (tyJ23 k) := by decide +kernel
abbrev cJ23_init : ByteArray := prog_66_method_1_code
def yJ23_init : MethodName := ⟨RJ23, "<init>", "()V"⟩
theorem dJ23_init_0 : decode cJ23_init 0 = .ok (.aload_n 0, 1) := by decide +kernel
theorem dJ23_init_1 : decode cJ23_init 1 = .ok (.invokespecial 1, 3) := by decide +kernel
theorem dJ23_init_4 : decode cJ23_init 4 = .ok (.return_, 1) := by decide +kernel
theorem q126 : (Jvm.Cond.initialized "java/util/NoSuchElementException") ∈ lw_all := lw_g (lw_at lw_m1 35 rfl) rfl
theorem q213 : (Jvm.Cond.selects "java/util/NoSuchElementException" ({ cls := "java/lang/Throwable", name := "fillInStackTrace", desc := "()Ljava/lang/Throwable;" } : Jvm.MethodName) ({ cls := "java/lang/Throwable", name := "fillInStackTrace", desc := "()Ljava/lang/Throwable;" } : Jvm.MethodName)) ∈ lw_all := lw_g (lw_at lw_m1 122 rfl) rfl
theorem q584 : (Jvm.Cond.selects "java/util/NoSuchElementException" ({ cls := "java/lang/Object", name := "getClass", desc := "()Ljava/lang/Class;" } : Jvm.MethodName) ({ cls := "java/lang/Object", name := "getClass", desc := "()Ljava/lang/Class;" } : Jvm.MethodName)) ∈ lw_all := lw_g (lw_at lw_m3 13 rfl) rfl
theorem q1158 : (Jvm.Cond.instantiable "java/util/NoSuchElementException" (6 : Nat)) ∈ lw_all := lw_g (lw_at lw_m5 107 rfl) rfl
theorem q1159 : (Jvm.Cond.castable "java/util/NoSuchElementException" "java/util/NoSuchElementException") ∈ lw_tbl := lw_at lw_m5 108 rfl
theorem q1160 : (Jvm.Cond.selects "java/util/NoSuchElementException" ({ cls := "java/lang/Throwable", name := "fillInStackTrace", desc := "(I)Ljava/lang/Throwable;" } : Jvm.MethodName) ({ cls := "java/lang/Throwable", name := "fillInStackTrace", desc := "(I)Ljava/lang/Throwable;" } : Jvm.MethodName)) ∈ lw_all := lw_g (lw_at lw_m5 109 rfl) rfl
theorem q1161 : (Jvm.Cond.lays "java/util/NoSuchElementException" "java/lang/Throwable" "cause" "Ljava/lang/Throwable;") ∈ lw_all := lw_g (lw_at lw_m5 110 rfl) rfl
theorem q1162 : (Jvm.Cond.lays "java/util/NoSuchElementException" "java/lang/Throwable" "stackTrace" "[Ljava/lang/StackTraceElement;") ∈ lw_all := lw_g (lw_at lw_m5 111 rfl) rfl
theorem q1163 : (Jvm.Cond.lays "java/util/NoSuchElementException" "java/lang/Throwable" "suppressedExceptions" "Ljava/util/List;") ∈ lw_all := lw_g (lw_at lw_m5 112 rfl) rfl
theorem q1164 : (Jvm.Cond.lays "java/util/NoSuchElementException" "java/lang/Throwable" "detailMessage" "Ljava/lang/String;") ∈ lw_all := lw_g (lw_at lw_m5 113 rfl) rfl
theorem q1165 : (Jvm.Cond.lays "java/util/NoSuchElementException" "java/lang/Throwable" "backtrace" "Ljava/lang/Object;") ∈ lw_all := lw_g (lw_at lw_m5 114 rfl) rfl
theorem q1167 : (Jvm.Cond.instanceMethod ({ cls := "java/util/NoSuchElementException", name := "<init>", desc := "()V" } : Jvm.MethodName)) ∈ lw_all := lw_g (lw_at lw_m5 116 rfl) rfl
theorem q1168 : (Jvm.Cond.code ({ cls := "java/util/NoSuchElementException", name := "<init>", desc := "()V" } : Jvm.MethodName) prog_66_method_1_code (1 : Nat) (Option.none : Option Jvm.ClassFile.FieldType)) ∈ lw_all := lw_g (lw_at lw_m5 117 rfl) rfl
theorem q1169 : (Jvm.Cond.methodLink "java/util/NoSuchElementException" (1 : Nat) ({ cls := "java/lang/RuntimeException", name := "<init>", desc := "()V" } : Jvm.MethodName)) ∈ lw_all := lw_g (lw_at lw_m5 118 rfl) rfl
theorem q1170 : (Jvm.Cond.lays "java/util/NoSuchElementException" "java/lang/Throwable" "depth" "I") ∈ lw_all := lw_g (lw_at lw_m5 119 rfl) rfl
theorem q1171 : (Jvm.Cond.superclass "java/util/NoSuchElementException" "java/lang/RuntimeException") ∈ lw_all := lw_g (lw_at lw_m5 120 rfl) rfl
theorem q2813 : (Jvm.Cond.castable "java/util/NoSuchElementException" "java/lang/Object") ∈ lw_tbl := lw_at lw_m12 82 rfl
theorem in_J23 : ∀ w ∈ wsJ230, w ∈ lw_all := lw_in wsJ230 [1161, 1162, 1163, 1164, 1165, 1170] (by decide +kernel) (by decide +kernel)
/-! PolicyNotation$Whys -/
def RX10 : String := "PolicyNotation$Whys"
def TX10 : u_T := fun k => match k with
  | _ => ("PolicyNotation$Whys", "first", "LPolicyNotation$Why;", false)
def tyX10 : Nat → FieldType := fun k => match k with
  | _ => .object "PolicyNotation$Why"
abbrev wsX100 : List Cond := u_ws RX10 TX10 1
theorem nmX10 : ∀ a, a < 1 → ∀ b, b < 1 → a ≠ b → (TX10 a).2.1 ≠ (TX10 b).2.1 := by decide +kernel
theorem tyX10_ok : ∀ k, k < 1 → parseFieldDescriptor (TX10 k).2.2.1 = some (tyX10 k) := by decide +kernel
abbrev cX10_init : ByteArray := prog_23_method_1_code
def yX10_init : MethodName := ⟨RX10, "<init>", "()V"⟩
theorem dX10_init_0 : decode cX10_init 0 = .ok (.aload_n 0, 1) := by decide +kernel
theorem dX10_init_1 : decode cX10_init 1 = .ok (.invokespecial 1, 3) := by decide +kernel
theorem dX10_init_4 : decode cX10_init 4 = .ok (.return_, 1) := by decide +kernel
abbrev cX10_asks : ByteArray := prog_23_method_2_code
def yX10_asks : MethodName := ⟨RX10, "asks", "(ZII)LPolicyNotation$Whys;"⟩
def dkwX10_asks_1 : List UInt8 := [42, 176]
abbrev dktX10_asks_1 : List UInt8 := dkwX10_asks_1 ++ []
def dkwX10_asks_0 : List UInt8 := [27, 153, 0, 23, 42, 180, 0, 7, 199, 0, 16, 42, 187, 0, 13, 89, 28, 29, 183, 0, 15, 181, 0, 7]
abbrev dktX10_asks_0 : List UInt8 := dkwX10_asks_0 ++ dktX10_asks_1
theorem dksX10_asks_0 : cX10_asks.data.toList.drop 0 = dktX10_asks_0 := by decide +kernel
theorem dksX10_asks_1 : cX10_asks.data.toList.drop 24 = dktX10_asks_1 := dk_seg dksX10_asks_0 24 rfl rfl
theorem dX10_asks_0 : decode cX10_asks 0 = .ok (.iload_n 1, 1) := dk_27 (dk_at dksX10_asks_0 0 rfl rfl)
theorem dX10_asks_1 : decode cX10_asks 1 = .ok (.ifCond .eq 23, 3) := dk_153 0 23 (dk_at dksX10_asks_0 1 rfl rfl)
theorem dX10_asks_4 : decode cX10_asks 4 = .ok (.aload_n 0, 1) := dk_42 (dk_at dksX10_asks_0 4 rfl rfl)
theorem dX10_asks_5 : decode cX10_asks 5 = .ok (.getfield 7, 3) := dk_180 0 7 (dk_at dksX10_asks_0 5 rfl rfl)
theorem dX10_asks_8 : decode cX10_asks 8 = .ok (.ifnonnull 16, 3) := dk_199 0 16 (dk_at dksX10_asks_0 8 rfl rfl)
theorem dX10_asks_11 : decode cX10_asks 11 = .ok (.aload_n 0, 1) := dk_42 (dk_at dksX10_asks_0 11 rfl rfl)
theorem dX10_asks_12 : decode cX10_asks 12 = .ok (.new 13, 3) := dk_187 0 13 (dk_at dksX10_asks_0 12 rfl rfl)
theorem dX10_asks_15 : decode cX10_asks 15 = .ok (.dup, 1) := dk_89 (dk_at dksX10_asks_0 15 rfl rfl)
theorem dX10_asks_16 : decode cX10_asks 16 = .ok (.iload_n 2, 1) := dk_28 (dk_at dksX10_asks_0 16 rfl rfl)
theorem dX10_asks_17 : decode cX10_asks 17 = .ok (.iload_n 3, 1) := dk_29 (dk_at dksX10_asks_0 17 rfl rfl)
theorem dX10_asks_18 : decode cX10_asks 18 = .ok (.invokespecial 15, 3) := dk_183 0 15 (dk_at dksX10_asks_0 18 rfl rfl)
theorem dX10_asks_21 : decode cX10_asks 21 = .ok (.putfield 7, 3) := dk_181 0 7 (dk_at dksX10_asks_0 21 rfl rfl)
theorem dX10_asks_24 : decode cX10_asks 24 = .ok (.aload_n 0, 1) := dk_42 (dk_at dksX10_asks_1 0 rfl rfl)
theorem dX10_asks_25 : decode cX10_asks 25 = .ok (.areturn, 1) := dk_176 (dk_at dksX10_asks_1 1 rfl rfl)
abbrev cX10_isNone : ByteArray := prog_23_method_3_code
def yX10_isNone : MethodName := ⟨RX10, "isNone", "()Z"⟩
def dkwX10_isNone_0 : List UInt8 := [42, 180, 0, 7, 199, 0, 7, 4, 167, 0, 4, 3, 172]
abbrev dktX10_isNone_0 : List UInt8 := dkwX10_isNone_0 ++ []
theorem dksX10_isNone_0 : cX10_isNone.data.toList.drop 0 = dktX10_isNone_0 := by decide +kernel
theorem dX10_isNone_0 : decode cX10_isNone 0 = .ok (.aload_n 0, 1) := dk_42 (dk_at dksX10_isNone_0 0 rfl rfl)
theorem dX10_isNone_1 : decode cX10_isNone 1 = .ok (.getfield 7, 3) := dk_180 0 7 (dk_at dksX10_isNone_0 1 rfl rfl)
theorem dX10_isNone_4 : decode cX10_isNone 4 = .ok (.ifnonnull 7, 3) := dk_199 0 7 (dk_at dksX10_isNone_0 4 rfl rfl)
theorem dX10_isNone_7 : decode cX10_isNone 7 = .ok (.iconst 1, 1) := dk_4 (dk_at dksX10_isNone_0 7 rfl rfl)
theorem dX10_isNone_8 : decode cX10_isNone 8 = .ok (.goto 4, 3) := dk_167 0 4 (dk_at dksX10_isNone_0 8 rfl rfl)
theorem dX10_isNone_11 : decode cX10_isNone 11 = .ok (.iconst 0, 1) := dk_3 (dk_at dksX10_isNone_0 11 rfl rfl)
theorem dX10_isNone_12 : decode cX10_isNone 12 = .ok (.ireturn, 1) := dk_172 (dk_at dksX10_isNone_0 12 rfl rfl)
theorem q127 : (Jvm.Cond.initialized "PolicyNotation$Whys") ∈ lw_all := lw_g (lw_at lw_m1 36 rfl) rfl
theorem q569 : (Jvm.Cond.selects "PolicyNotation$Whys" ({ cls := "java/lang/Object", name := "getClass", desc := "()Ljava/lang/Class;" } : Jvm.MethodName) ({ cls := "java/lang/Object", name := "getClass", desc := "()Ljava/lang/Class;" } : Jvm.MethodName)) ∈ lw_all := lw_g (lw_at lw_m2 238 rfl) rfl
theorem q1269 : (Jvm.Cond.instantiable "PolicyNotation$Whys" (1 : Nat)) ∈ lw_all := lw_g (lw_at lw_m5 218 rfl) rfl
theorem q1271 : (Jvm.Cond.instanceMethod ({ cls := "PolicyNotation$Whys", name := "<init>", desc := "()V" } : Jvm.MethodName)) ∈ lw_all := lw_g (lw_at lw_m5 220 rfl) rfl
theorem q1272 : (Jvm.Cond.code ({ cls := "PolicyNotation$Whys", name := "<init>", desc := "()V" } : Jvm.MethodName) prog_23_method_1_code (1 : Nat) (Option.none : Option Jvm.ClassFile.FieldType)) ∈ lw_all := lw_g (lw_at lw_m5 221 rfl) rfl
theorem q1273 : (Jvm.Cond.methodLink "PolicyNotation$Whys" (1 : Nat) ({ cls := "java/lang/Object", name := "<init>", desc := "()V" } : Jvm.MethodName)) ∈ lw_all := lw_g (lw_at lw_m5 222 rfl) rfl
theorem q1274 : (Jvm.Cond.fieldLink "PolicyNotation$Whys" (7 : Nat) "PolicyNotation$Whys" "first" "LPolicyNotation$Why;") ∈ lw_all := lw_g (lw_at lw_m5 223 rfl) rfl
theorem q1276 : (Jvm.Cond.lays "PolicyNotation$Whys" "PolicyNotation$Whys" "first" "LPolicyNotation$Why;") ∈ lw_all := lw_g (lw_at lw_m5 225 rfl) rfl
theorem q1277 : (Jvm.Cond.soleField "PolicyNotation$Whys" "first") ∈ lw_all := lw_g (lw_at lw_m5 226 rfl) rfl
theorem q1278 : (Jvm.Cond.superclass "PolicyNotation$Whys" "java/lang/Object") ∈ lw_all := lw_g (lw_at lw_m5 227 rfl) rfl
theorem q1284 : (Jvm.Cond.instanceMethod ({ cls := "PolicyNotation$Whys", name := "asks", desc := "(ZII)LPolicyNotation$Whys;" } : Jvm.MethodName)) ∈ lw_all := lw_g (lw_at lw_m5 233 rfl) rfl
theorem q1285 : (Jvm.Cond.selects "PolicyNotation$Whys" ({ cls := "PolicyNotation$Whys", name := "asks", desc := "(ZII)LPolicyNotation$Whys;" } : Jvm.MethodName) ({ cls := "PolicyNotation$Whys", name := "asks", desc := "(ZII)LPolicyNotation$Whys;" } : Jvm.MethodName)) ∈ lw_all := lw_g (lw_at lw_m5 234 rfl) rfl
theorem q1286 : (Jvm.Cond.code ({ cls := "PolicyNotation$Whys", name := "asks", desc := "(ZII)LPolicyNotation$Whys;" } : Jvm.MethodName) prog_23_method_2_code (4 : Nat) (Option.some (Jvm.ClassFile.FieldType.object "PolicyNotation$Whys"))) ∈ lw_all := lw_g (lw_at lw_m5 235 rfl) rfl
theorem q1287 : (Jvm.Cond.classLink "PolicyNotation$Whys" (13 : Nat) "PolicyNotation$Why") ∈ lw_all := lw_g (lw_at lw_m5 236 rfl) rfl
theorem q1289 : (Jvm.Cond.methodLink "PolicyNotation$Whys" (15 : Nat) ({ cls := "PolicyNotation$Why", name := "<init>", desc := "(II)V" } : Jvm.MethodName)) ∈ lw_all := lw_g (lw_at lw_m5 238 rfl) rfl
theorem q1307 : (Jvm.Cond.instanceMethod ({ cls := "PolicyNotation$Whys", name := "isNone", desc := "()Z" } : Jvm.MethodName)) ∈ lw_all := lw_g (lw_at lw_m6 16 rfl) rfl
theorem q1308 : (Jvm.Cond.selects "PolicyNotation$Whys" ({ cls := "PolicyNotation$Whys", name := "isNone", desc := "()Z" } : Jvm.MethodName) ({ cls := "PolicyNotation$Whys", name := "isNone", desc := "()Z" } : Jvm.MethodName)) ∈ lw_all := lw_g (lw_at lw_m6 17 rfl) rfl
theorem q1309 : (Jvm.Cond.code ({ cls := "PolicyNotation$Whys", name := "isNone", desc := "()Z" } : Jvm.MethodName) prog_23_method_3_code (1 : Nat) (Option.some Jvm.ClassFile.FieldType.boolean)) ∈ lw_all := lw_g (lw_at lw_m6 18 rfl) rfl
theorem q2816 : (Jvm.Cond.castable "PolicyNotation$Whys" "java/lang/Object") ∈ lw_tbl := lw_at lw_m12 85 rfl
theorem in_X10 : ∀ w ∈ wsX100, w ∈ lw_all := lw_in wsX100 [1276] (by decide +kernel) (by decide +kernel)
/-! PolicyNotation$Why -/
def RX11 : String := "PolicyNotation$Why"
def TX11 : u_T := fun k => match k with
  | 0 => ("PolicyNotation$Why", "reason", "I", true)
  | _ => ("PolicyNotation$Why", "detail", "I", true)
def tyX11 : Nat → FieldType := fun k => match k with
  | 0 => .int
  | _ => .int
abbrev wsX110 : List Cond := u_ws RX11 TX11 2
theorem nmX11 : ∀ a, a < 2 → ∀ b, b < 2 → a ≠ b → (TX11 a).2.1 ≠ (TX11 b).2.1 := by decide +kernel
theorem tyX11_ok : ∀ k, k < 2 → parseFieldDescriptor (TX11 k).2.2.1 = some (tyX11 k) := by decide +kernel
abbrev cX11_init : ByteArray := prog_22_method_1_code
def yX11_init : MethodName := ⟨RX11, "<init>", "(II)V"⟩
def dkwX11_init_0 : List UInt8 := [42, 183, 0, 1, 42, 27, 181, 0, 7, 42, 28, 181, 0, 13, 177]
abbrev dktX11_init_0 : List UInt8 := dkwX11_init_0 ++ []
theorem dksX11_init_0 : cX11_init.data.toList.drop 0 = dktX11_init_0 := by decide +kernel
theorem dX11_init_0 : decode cX11_init 0 = .ok (.aload_n 0, 1) := dk_42 (dk_at dksX11_init_0 0 rfl rfl)
theorem dX11_init_1 : decode cX11_init 1 = .ok (.invokespecial 1, 3) := dk_183 0 1 (dk_at dksX11_init_0 1 rfl rfl)
theorem dX11_init_4 : decode cX11_init 4 = .ok (.aload_n 0, 1) := dk_42 (dk_at dksX11_init_0 4 rfl rfl)
theorem dX11_init_5 : decode cX11_init 5 = .ok (.iload_n 1, 1) := dk_27 (dk_at dksX11_init_0 5 rfl rfl)
theorem dX11_init_6 : decode cX11_init 6 = .ok (.putfield 7, 3) := dk_181 0 7 (dk_at dksX11_init_0 6 rfl rfl)
theorem dX11_init_9 : decode cX11_init 9 = .ok (.aload_n 0, 1) := dk_42 (dk_at dksX11_init_0 9 rfl rfl)
theorem dX11_init_10 : decode cX11_init 10 = .ok (.iload_n 2, 1) := dk_28 (dk_at dksX11_init_0 10 rfl rfl)
theorem dX11_init_11 : decode cX11_init 11 = .ok (.putfield 13, 3) := dk_181 0 13 (dk_at dksX11_init_0 11 rfl rfl)
theorem dX11_init_14 : decode cX11_init 14 = .ok (.return_, 1) := dk_177 (dk_at dksX11_init_0 14 rfl rfl)
theorem q128 : (Jvm.Cond.initialized "PolicyNotation$Why") ∈ lw_all := lw_g (lw_at lw_m1 37 rfl) rfl
theorem q568 : (Jvm.Cond.selects "PolicyNotation$Why" ({ cls := "java/lang/Object", name := "getClass", desc := "()Ljava/lang/Class;" } : Jvm.MethodName) ({ cls := "java/lang/Object", name := "getClass", desc := "()Ljava/lang/Class;" } : Jvm.MethodName)) ∈ lw_all := lw_g (lw_at lw_m2 237 rfl) rfl
theorem q1288 : (Jvm.Cond.instantiable "PolicyNotation$Why" (2 : Nat)) ∈ lw_all := lw_g (lw_at lw_m5 237 rfl) rfl
theorem q1290 : (Jvm.Cond.instanceMethod ({ cls := "PolicyNotation$Why", name := "<init>", desc := "(II)V" } : Jvm.MethodName)) ∈ lw_all := lw_g (lw_at lw_m5 239 rfl) rfl
theorem q1291 : (Jvm.Cond.code ({ cls := "PolicyNotation$Why", name := "<init>", desc := "(II)V" } : Jvm.MethodName) prog_22_method_1_code (3 : Nat) (Option.none : Option Jvm.ClassFile.FieldType)) ∈ lw_all := lw_g (lw_at lw_m6 0 rfl) rfl
theorem q1292 : (Jvm.Cond.methodLink "PolicyNotation$Why" (1 : Nat) ({ cls := "java/lang/Object", name := "<init>", desc := "()V" } : Jvm.MethodName)) ∈ lw_all := lw_g (lw_at lw_m6 1 rfl) rfl
theorem q1293 : (Jvm.Cond.fieldLink "PolicyNotation$Why" (7 : Nat) "PolicyNotation$Why" "reason" "I") ∈ lw_all := lw_g (lw_at lw_m6 2 rfl) rfl
theorem q1295 : (Jvm.Cond.fieldLink "PolicyNotation$Why" (13 : Nat) "PolicyNotation$Why" "detail" "I") ∈ lw_all := lw_g (lw_at lw_m6 4 rfl) rfl
theorem q1297 : (Jvm.Cond.laysFinal "PolicyNotation$Why" "PolicyNotation$Why" "reason" "I") ∈ lw_all := lw_g (lw_at lw_m6 6 rfl) rfl
theorem q1298 : (Jvm.Cond.soleField "PolicyNotation$Why" "reason") ∈ lw_all := lw_g (lw_at lw_m6 7 rfl) rfl
theorem q1299 : (Jvm.Cond.laysFinal "PolicyNotation$Why" "PolicyNotation$Why" "detail" "I") ∈ lw_all := lw_g (lw_at lw_m6 8 rfl) rfl
theorem q1300 : (Jvm.Cond.soleField "PolicyNotation$Why" "detail") ∈ lw_all := lw_g (lw_at lw_m6 9 rfl) rfl
theorem q1301 : (Jvm.Cond.superclass "PolicyNotation$Why" "java/lang/Object") ∈ lw_all := lw_g (lw_at lw_m6 10 rfl) rfl
theorem q2817 : (Jvm.Cond.castable "PolicyNotation$Why" "java/lang/Object") ∈ lw_tbl := lw_at lw_m12 86 rfl
theorem in_X11 : ∀ w ∈ wsX110, w ∈ lw_all := lw_in wsX110 [1297, 1299] (by decide +kernel) (by decide +kernel)
/-! java/lang/UnsupportedOperationException -/
def RJ24 : String := "java/lang/UnsupportedOperationException"
def TJ24 : u_T := fun k => match k with
  | 0 => ("java/lang/Throwable", "cause", "Ljava/lang/Throwable;", false)
  | 1 => ("java/lang/Throwable", "stackTrace", "[Ljava/lang/StackTraceElement;", false)
  | 2 => ("java/lang/Throwable", "suppressedExceptions", "Ljava/util/List;", false)
  | 3 => ("java/lang/Throwable", "detailMessage", "Ljava/lang/String;", false)
  | 4 => ("java/lang/Throwable", "backtrace", "Ljava/lang/Object;", false)
  | _ => ("java/lang/Throwable", "depth", "I", false)
def tyJ24 : Nat → FieldType := fun k => match k with
  | 0 => .object "java/lang/Throwable"
  | 1 => .array (.object "java/lang/StackTraceElement")
  | 2 => .object "java/util/List"
  | 3 => .object "java/lang/String"
  | 4 => .object "java/lang/Object"
  | _ => .int
abbrev wsJ240 : List Cond := u_ws RJ24 TJ24 6
theorem nmJ24 : ∀ a, a < 6 → ∀ b, b < 6 → a ≠ b → (TJ24 a).2.1 ≠ (TJ24 b).2.1 := by decide +kernel
theorem tyJ24_ok : ∀ k, k < 6 → parseFieldDescriptor (TJ24 k).2.2.1 = some (tyJ24 k) := by decide +kernel
abbrev cJ24_init : ByteArray := prog_55_method_1_code
def yJ24_init : MethodName := ⟨RJ24, "<init>", "()V"⟩
theorem dJ24_init_0 : decode cJ24_init 0 = .ok (.aload_n 0, 1) := by decide +kernel
theorem dJ24_init_1 : decode cJ24_init 1 = .ok (.invokespecial 1, 3) := by decide +kernel
theorem dJ24_init_4 : decode cJ24_init 4 = .ok (.return_, 1) := by decide +kernel
theorem q129 : (Jvm.Cond.initialized "java/lang/UnsupportedOperationException") ∈ lw_all := lw_g (lw_at lw_m1 38 rfl) rfl
theorem q212 : (Jvm.Cond.selects "java/lang/UnsupportedOperationException" ({ cls := "java/lang/Throwable", name := "fillInStackTrace", desc := "()Ljava/lang/Throwable;" } : Jvm.MethodName) ({ cls := "java/lang/Throwable", name := "fillInStackTrace", desc := "()Ljava/lang/Throwable;" } : Jvm.MethodName)) ∈ lw_all := lw_g (lw_at lw_m1 121 rfl) rfl
theorem q581 : (Jvm.Cond.selects "java/lang/UnsupportedOperationException" ({ cls := "java/lang/Object", name := "getClass", desc := "()Ljava/lang/Class;" } : Jvm.MethodName) ({ cls := "java/lang/Object", name := "getClass", desc := "()Ljava/lang/Class;" } : Jvm.MethodName)) ∈ lw_all := lw_g (lw_at lw_m3 10 rfl) rfl
theorem q1311 : (Jvm.Cond.instantiable "java/lang/UnsupportedOperationException" (6 : Nat)) ∈ lw_all := lw_g (lw_at lw_m6 20 rfl) rfl
theorem q1312 : (Jvm.Cond.castable "java/lang/UnsupportedOperationException" "java/lang/UnsupportedOperationException") ∈ lw_tbl := lw_at lw_m6 21 rfl
theorem q1313 : (Jvm.Cond.selects "java/lang/UnsupportedOperationException" ({ cls := "java/lang/Throwable", name := "fillInStackTrace", desc := "(I)Ljava/lang/Throwable;" } : Jvm.MethodName) ({ cls := "java/lang/Throwable", name := "fillInStackTrace", desc := "(I)Ljava/lang/Throwable;" } : Jvm.MethodName)) ∈ lw_all := lw_g (lw_at lw_m6 22 rfl) rfl
theorem q1314 : (Jvm.Cond.lays "java/lang/UnsupportedOperationException" "java/lang/Throwable" "cause" "Ljava/lang/Throwable;") ∈ lw_all := lw_g (lw_at lw_m6 23 rfl) rfl
theorem q1315 : (Jvm.Cond.lays "java/lang/UnsupportedOperationException" "java/lang/Throwable" "stackTrace" "[Ljava/lang/StackTraceElement;") ∈ lw_all := lw_g (lw_at lw_m6 24 rfl) rfl
theorem q1316 : (Jvm.Cond.lays "java/lang/UnsupportedOperationException" "java/lang/Throwable" "suppressedExceptions" "Ljava/util/List;") ∈ lw_all := lw_g (lw_at lw_m6 25 rfl) rfl
theorem q1317 : (Jvm.Cond.lays "java/lang/UnsupportedOperationException" "java/lang/Throwable" "detailMessage" "Ljava/lang/String;") ∈ lw_all := lw_g (lw_at lw_m6 26 rfl) rfl
theorem q1318 : (Jvm.Cond.lays "java/lang/UnsupportedOperationException" "java/lang/Throwable" "backtrace" "Ljava/lang/Object;") ∈ lw_all := lw_g (lw_at lw_m6 27 rfl) rfl
theorem q1320 : (Jvm.Cond.instanceMethod ({ cls := "java/lang/UnsupportedOperationException", name := "<init>", desc := "()V" } : Jvm.MethodName)) ∈ lw_all := lw_g (lw_at lw_m6 29 rfl) rfl
theorem q1321 : (Jvm.Cond.code ({ cls := "java/lang/UnsupportedOperationException", name := "<init>", desc := "()V" } : Jvm.MethodName) prog_55_method_1_code (1 : Nat) (Option.none : Option Jvm.ClassFile.FieldType)) ∈ lw_all := lw_g (lw_at lw_m6 30 rfl) rfl
theorem q1322 : (Jvm.Cond.methodLink "java/lang/UnsupportedOperationException" (1 : Nat) ({ cls := "java/lang/RuntimeException", name := "<init>", desc := "()V" } : Jvm.MethodName)) ∈ lw_all := lw_g (lw_at lw_m6 31 rfl) rfl
theorem q1323 : (Jvm.Cond.lays "java/lang/UnsupportedOperationException" "java/lang/Throwable" "depth" "I") ∈ lw_all := lw_g (lw_at lw_m6 32 rfl) rfl
theorem q1324 : (Jvm.Cond.superclass "java/lang/UnsupportedOperationException" "java/lang/RuntimeException") ∈ lw_all := lw_g (lw_at lw_m6 33 rfl) rfl
theorem q2818 : (Jvm.Cond.castable "java/lang/UnsupportedOperationException" "java/lang/Object") ∈ lw_tbl := lw_at lw_m12 87 rfl
theorem in_J24 : ∀ w ∈ wsJ240, w ∈ lw_all := lw_in wsJ240 [1314, 1315, 1316, 1317, 1318, 1323] (by decide +kernel) (by decide +kernel)
/-! PolicyNotation$Test -/
def RX12 : String := "PolicyNotation$Test"
abbrev cX12_feature : ByteArray := prog_19_method_3_code
def yX12_feature : MethodName := ⟨RX12, "feature", "()I"⟩
theorem dX12_feature_0 : decode cX12_feature 0 = .ok (.aload_n 0, 1) := by decide +kernel
theorem dX12_feature_1 : decode cX12_feature 1 = .ok (.getfield 7, 3) := by decide +kernel
theorem dX12_feature_4 : decode cX12_feature 4 = .ok (.ireturn, 1) := by decide +kernel
abbrev cX12_digit : ByteArray := prog_19_method_4_code
def yX12_digit : MethodName := ⟨RX12, "digit", "()I"⟩
theorem dX12_digit_0 : decode cX12_digit 0 = .ok (.aload_n 0, 1) := by decide +kernel
theorem dX12_digit_1 : decode cX12_digit 1 = .ok (.getfield 13, 3) := by decide +kernel
theorem dX12_digit_4 : decode cX12_digit 4 = .ok (.ireturn, 1) := by decide +kernel
abbrev cX12_init : ByteArray := prog_19_method_1_code
def yX12_init : MethodName := ⟨RX12, "<init>", "(II)V"⟩
def dkwX12_init_0 : List UInt8 := [42, 183, 0, 1, 42, 27, 181, 0, 7, 42, 28, 181, 0, 13, 177]
abbrev dktX12_init_0 : List UInt8 := dkwX12_init_0 ++ []
theorem dksX12_init_0 : cX12_init.data.toList.drop 0 = dktX12_init_0 := by decide +kernel
theorem dX12_init_0 : decode cX12_init 0 = .ok (.aload_n 0, 1) := dk_42 (dk_at dksX12_init_0 0 rfl rfl)
theorem dX12_init_1 : decode cX12_init 1 = .ok (.invokespecial 1, 3) := dk_183 0 1 (dk_at dksX12_init_0 1 rfl rfl)
theorem dX12_init_4 : decode cX12_init 4 = .ok (.aload_n 0, 1) := dk_42 (dk_at dksX12_init_0 4 rfl rfl)
theorem dX12_init_5 : decode cX12_init 5 = .ok (.iload_n 1, 1) := dk_27 (dk_at dksX12_init_0 5 rfl rfl)
theorem dX12_init_6 : decode cX12_init 6 = .ok (.putfield 7, 3) := dk_181 0 7 (dk_at dksX12_init_0 6 rfl rfl)
theorem dX12_init_9 : decode cX12_init 9 = .ok (.aload_n 0, 1) := dk_42 (dk_at dksX12_init_0 9 rfl rfl)
theorem dX12_init_10 : decode cX12_init 10 = .ok (.iload_n 2, 1) := dk_28 (dk_at dksX12_init_0 10 rfl rfl)
theorem dX12_init_11 : decode cX12_init 11 = .ok (.putfield 13, 3) := dk_181 0 13 (dk_at dksX12_init_0 11 rfl rfl)
theorem dX12_init_14 : decode cX12_init 14 = .ok (.return_, 1) := dk_177 (dk_at dksX12_init_0 14 rfl rfl)
abbrev cX12_bars : ByteArray := prog_19_method_5_code
def yX12_bars : MethodName := ⟨RX12, "bars", "(II)Z"⟩
def dkwX12_bars_0 : List UInt8 := [42, 180, 0, 7, 27, 160, 0, 15, 42, 28, 182, 0, 16, 154, 0, 7, 4, 167, 0, 4, 3, 172]
abbrev dktX12_bars_0 : List UInt8 := dkwX12_bars_0 ++ []
theorem dksX12_bars_0 : cX12_bars.data.toList.drop 0 = dktX12_bars_0 := by decide +kernel
theorem dX12_bars_0 : decode cX12_bars 0 = .ok (.aload_n 0, 1) := dk_42 (dk_at dksX12_bars_0 0 rfl rfl)
theorem dX12_bars_1 : decode cX12_bars 1 = .ok (.getfield 7, 3) := dk_180 0 7 (dk_at dksX12_bars_0 1 rfl rfl)
theorem dX12_bars_4 : decode cX12_bars 4 = .ok (.iload_n 1, 1) := dk_27 (dk_at dksX12_bars_0 4 rfl rfl)
theorem dX12_bars_5 : decode cX12_bars 5 = .ok (.if_icmp .ne 15, 3) := dk_160 0 15 (dk_at dksX12_bars_0 5 rfl rfl)
theorem dX12_bars_8 : decode cX12_bars 8 = .ok (.aload_n 0, 1) := dk_42 (dk_at dksX12_bars_0 8 rfl rfl)
theorem dX12_bars_9 : decode cX12_bars 9 = .ok (.iload_n 2, 1) := dk_28 (dk_at dksX12_bars_0 9 rfl rfl)
theorem dX12_bars_10 : decode cX12_bars 10 = .ok (.invokevirtual 16, 3) := dk_182 0 16 (dk_at dksX12_bars_0 10 rfl rfl)
theorem dX12_bars_13 : decode cX12_bars 13 = .ok (.ifCond .ne 7, 3) := dk_154 0 7 (dk_at dksX12_bars_0 13 rfl rfl)
theorem dX12_bars_16 : decode cX12_bars 16 = .ok (.iconst 1, 1) := dk_4 (dk_at dksX12_bars_0 16 rfl rfl)
theorem dX12_bars_17 : decode cX12_bars 17 = .ok (.goto 4, 3) := dk_167 0 4 (dk_at dksX12_bars_0 17 rfl rfl)
theorem dX12_bars_20 : decode cX12_bars 20 = .ok (.iconst 0, 1) := dk_3 (dk_at dksX12_bars_0 20 rfl rfl)
theorem dX12_bars_21 : decode cX12_bars 21 = .ok (.ireturn, 1) := dk_172 (dk_at dksX12_bars_0 21 rfl rfl)
theorem q130 : (Jvm.Cond.initialized "PolicyNotation$Test") ∈ lw_all := lw_g (lw_at lw_m1 39 rfl) rfl
theorem q801 : (Jvm.Cond.instanceMethod ({ cls := "PolicyNotation$Test", name := "feature", desc := "()I" } : Jvm.MethodName)) ∈ lw_all := lw_g (lw_at lw_m3 230 rfl) rfl
theorem q802 : (Jvm.Cond.sameMethod "PolicyNotation$Test" "PolicyNotation$Test" "feature" "()I") ∈ lw_all := lw_g (lw_at lw_m3 231 rfl) rfl
theorem q807 : (Jvm.Cond.code ({ cls := "PolicyNotation$Test", name := "feature", desc := "()I" } : Jvm.MethodName) prog_19_method_3_code (1 : Nat) (Option.some Jvm.ClassFile.FieldType.int)) ∈ lw_all := lw_g (lw_at lw_m3 236 rfl) rfl
theorem q809 : (Jvm.Cond.declares ({ cls := "PolicyNotation$Test", name := "fits", desc := "(I)Z" } : Jvm.MethodName)) ∈ lw_tbl := lw_at lw_m3 238 rfl
theorem q810 : (Jvm.Cond.sameMethod "PolicyNotation$Test" "PolicyNotation$Test" "fits" "(I)Z") ∈ lw_all := lw_g (lw_at lw_m3 239 rfl) rfl
theorem q816 : (Jvm.Cond.declares ({ cls := "PolicyNotation$Test", name := "digit", desc := "()I" } : Jvm.MethodName)) ∈ lw_tbl := lw_at lw_m4 5 rfl
theorem q818 : (Jvm.Cond.instanceMethod ({ cls := "PolicyNotation$Test", name := "digit", desc := "()I" } : Jvm.MethodName)) ∈ lw_all := lw_g (lw_at lw_m4 7 rfl) rfl
theorem q819 : (Jvm.Cond.code ({ cls := "PolicyNotation$Test", name := "digit", desc := "()I" } : Jvm.MethodName) prog_19_method_4_code (1 : Nat) (Option.some Jvm.ClassFile.FieldType.int)) ∈ lw_all := lw_g (lw_at lw_m4 8 rfl) rfl
theorem q1381 : (Jvm.Cond.instanceMethod ({ cls := "PolicyNotation$Test", name := "<init>", desc := "(II)V" } : Jvm.MethodName)) ∈ lw_all := lw_g (lw_at lw_m6 90 rfl) rfl
theorem q1382 : (Jvm.Cond.code ({ cls := "PolicyNotation$Test", name := "<init>", desc := "(II)V" } : Jvm.MethodName) prog_19_method_1_code (3 : Nat) (Option.none : Option Jvm.ClassFile.FieldType)) ∈ lw_all := lw_g (lw_at lw_m6 91 rfl) rfl
theorem q1383 : (Jvm.Cond.methodLink "PolicyNotation$Test" (1 : Nat) ({ cls := "java/lang/Object", name := "<init>", desc := "()V" } : Jvm.MethodName)) ∈ lw_all := lw_g (lw_at lw_m6 92 rfl) rfl
theorem q1384 : (Jvm.Cond.fieldLink "PolicyNotation$Test" (7 : Nat) "PolicyNotation$Test" "feature" "I") ∈ lw_all := lw_g (lw_at lw_m6 93 rfl) rfl
theorem q1385 : (Jvm.Cond.fieldLink "PolicyNotation$Test" (13 : Nat) "PolicyNotation$Test" "digit" "I") ∈ lw_all := lw_g (lw_at lw_m6 94 rfl) rfl
theorem q1387 : (Jvm.Cond.soleField "PolicyNotation$Test" "feature") ∈ lw_all := lw_g (lw_at lw_m6 96 rfl) rfl
theorem q1389 : (Jvm.Cond.soleField "PolicyNotation$Test" "digit") ∈ lw_all := lw_g (lw_at lw_m6 98 rfl) rfl
theorem q1439 : (Jvm.Cond.instanceMethod ({ cls := "PolicyNotation$Test", name := "bars", desc := "(II)Z" } : Jvm.MethodName)) ∈ lw_all := lw_g (lw_at lw_m6 148 rfl) rfl
theorem q1440 : (Jvm.Cond.sameMethod "PolicyNotation$Test" "PolicyNotation$Test" "bars" "(II)Z") ∈ lw_all := lw_g (lw_at lw_m6 149 rfl) rfl
theorem q1445 : (Jvm.Cond.code ({ cls := "PolicyNotation$Test", name := "bars", desc := "(II)Z" } : Jvm.MethodName) prog_19_method_5_code (3 : Nat) (Option.some Jvm.ClassFile.FieldType.boolean)) ∈ lw_all := lw_g (lw_at lw_m6 154 rfl) rfl
theorem q1446 : (Jvm.Cond.methodLink "PolicyNotation$Test" (16 : Nat) ({ cls := "PolicyNotation$Test", name := "fits", desc := "(I)Z" } : Jvm.MethodName)) ∈ lw_all := lw_g (lw_at lw_m6 155 rfl) rfl
theorem q2774 : (Jvm.Cond.sameMethod "PolicyNotation$Test" "PolicyNotation$Test" "digit" "()I") ∈ lw_all := lw_g (lw_at lw_m12 43 rfl) rfl
theorem q2794 : (Jvm.Cond.castable "PolicyNotation$Test" "java/lang/Object") ∈ lw_tbl := lw_at lw_m12 63 rfl
/-! PolicyNotation$Equal -/
def RX13 : String := "PolicyNotation$Equal"
def TX13 : u_T := fun k => match k with
  | 0 => ("PolicyNotation$Test", "feature", "I", true)
  | _ => ("PolicyNotation$Test", "digit", "I", true)
def tyX13 : Nat → FieldType := fun k => match k with
  | 0 => .int
  | _ => .int
abbrev wsX130 : List Cond := u_ws RX13 TX13 2
theorem nmX13 : ∀ a, a < 2 → ∀ b, b < 2 → a ≠ b → (TX13 a).2.1 ≠ (TX13 b).2.1 := by decide +kernel
theorem tyX13_ok : ∀ k, k < 2 → parseFieldDescriptor (TX13 k).2.2.1 = some (tyX13 k) := by decide +kernel
abbrev cX13_fits : ByteArray := prog_9_method_2_code
def yX13_fits : MethodName := ⟨RX13, "fits", "(I)Z"⟩
def dkwX13_fits_0 : List UInt8 := [27, 42, 182, 0, 7, 160, 0, 7, 4, 167, 0, 4, 3, 172]
abbrev dktX13_fits_0 : List UInt8 := dkwX13_fits_0 ++ []
theorem dksX13_fits_0 : cX13_fits.data.toList.drop 0 = dktX13_fits_0 := by decide +kernel
theorem dX13_fits_0 : decode cX13_fits 0 = .ok (.iload_n 1, 1) := dk_27 (dk_at dksX13_fits_0 0 rfl rfl)
theorem dX13_fits_1 : decode cX13_fits 1 = .ok (.aload_n 0, 1) := dk_42 (dk_at dksX13_fits_0 1 rfl rfl)
theorem dX13_fits_2 : decode cX13_fits 2 = .ok (.invokevirtual 7, 3) := dk_182 0 7 (dk_at dksX13_fits_0 2 rfl rfl)
theorem dX13_fits_5 : decode cX13_fits 5 = .ok (.if_icmp .ne 7, 3) := dk_160 0 7 (dk_at dksX13_fits_0 5 rfl rfl)
theorem dX13_fits_8 : decode cX13_fits 8 = .ok (.iconst 1, 1) := dk_4 (dk_at dksX13_fits_0 8 rfl rfl)
theorem dX13_fits_9 : decode cX13_fits 9 = .ok (.goto 4, 3) := dk_167 0 4 (dk_at dksX13_fits_0 9 rfl rfl)
theorem dX13_fits_12 : decode cX13_fits 12 = .ok (.iconst 0, 1) := dk_3 (dk_at dksX13_fits_0 12 rfl rfl)
theorem dX13_fits_13 : decode cX13_fits 13 = .ok (.ireturn, 1) := dk_172 (dk_at dksX13_fits_0 13 rfl rfl)
abbrev cX13_init : ByteArray := prog_9_method_1_code
def yX13_init : MethodName := ⟨RX13, "<init>", "(II)V"⟩
def dkwX13_init_0 : List UInt8 := [42, 27, 28, 183, 0, 1, 177]
abbrev dktX13_init_0 : List UInt8 := dkwX13_init_0 ++ []
theorem dksX13_init_0 : cX13_init.data.toList.drop 0 = dktX13_init_0 := by decide +kernel
theorem dX13_init_0 : decode cX13_init 0 = .ok (.aload_n 0, 1) := dk_42 (dk_at dksX13_init_0 0 rfl rfl)
theorem dX13_init_1 : decode cX13_init 1 = .ok (.iload_n 1, 1) := dk_27 (dk_at dksX13_init_0 1 rfl rfl)
theorem dX13_init_2 : decode cX13_init 2 = .ok (.iload_n 2, 1) := dk_28 (dk_at dksX13_init_0 2 rfl rfl)
theorem dX13_init_3 : decode cX13_init 3 = .ok (.invokespecial 1, 3) := dk_183 0 1 (dk_at dksX13_init_0 3 rfl rfl)
theorem dX13_init_6 : decode cX13_init 6 = .ok (.return_, 1) := dk_177 (dk_at dksX13_init_0 6 rfl rfl)
theorem q131 : (Jvm.Cond.initialized "PolicyNotation$Equal") ∈ lw_all := lw_g (lw_at lw_m1 40 rfl) rfl
theorem q558 : (Jvm.Cond.selects "PolicyNotation$Equal" ({ cls := "java/lang/Object", name := "getClass", desc := "()Ljava/lang/Class;" } : Jvm.MethodName) ({ cls := "java/lang/Object", name := "getClass", desc := "()Ljava/lang/Class;" } : Jvm.MethodName)) ∈ lw_all := lw_g (lw_at lw_m2 227 rfl) rfl
theorem q803 : (Jvm.Cond.selects "PolicyNotation$Equal" ({ cls := "PolicyNotation$Test", name := "feature", desc := "()I" } : Jvm.MethodName) ({ cls := "PolicyNotation$Test", name := "feature", desc := "()I" } : Jvm.MethodName)) ∈ lw_all := lw_g (lw_at lw_m3 232 rfl) rfl
theorem q811 : (Jvm.Cond.selects "PolicyNotation$Equal" ({ cls := "PolicyNotation$Test", name := "fits", desc := "(I)Z" } : Jvm.MethodName) ({ cls := "PolicyNotation$Equal", name := "fits", desc := "(I)Z" } : Jvm.MethodName)) ∈ lw_all := lw_g (lw_at lw_m4 0 rfl) rfl
theorem q812 : (Jvm.Cond.instanceMethod ({ cls := "PolicyNotation$Equal", name := "fits", desc := "(I)Z" } : Jvm.MethodName)) ∈ lw_all := lw_g (lw_at lw_m4 1 rfl) rfl
theorem q813 : (Jvm.Cond.code ({ cls := "PolicyNotation$Equal", name := "fits", desc := "(I)Z" } : Jvm.MethodName) prog_9_method_2_code (2 : Nat) (Option.some Jvm.ClassFile.FieldType.boolean)) ∈ lw_all := lw_g (lw_at lw_m4 2 rfl) rfl
theorem q814 : (Jvm.Cond.methodLink "PolicyNotation$Equal" (7 : Nat) ({ cls := "PolicyNotation$Equal", name := "digit", desc := "()I" } : Jvm.MethodName)) ∈ lw_all := lw_g (lw_at lw_m4 3 rfl) rfl
theorem q815 : (Jvm.Cond.sameMethod "PolicyNotation$Equal" "PolicyNotation$Test" "digit" "()I") ∈ lw_all := lw_g (lw_at lw_m4 4 rfl) rfl
theorem q817 : (Jvm.Cond.selects "PolicyNotation$Equal" ({ cls := "PolicyNotation$Equal", name := "digit", desc := "()I" } : Jvm.MethodName) ({ cls := "PolicyNotation$Test", name := "digit", desc := "()I" } : Jvm.MethodName)) ∈ lw_all := lw_g (lw_at lw_m4 6 rfl) rfl
theorem q1376 : (Jvm.Cond.instantiable "PolicyNotation$Equal" (2 : Nat)) ∈ lw_all := lw_g (lw_at lw_m6 85 rfl) rfl
theorem q1378 : (Jvm.Cond.instanceMethod ({ cls := "PolicyNotation$Equal", name := "<init>", desc := "(II)V" } : Jvm.MethodName)) ∈ lw_all := lw_g (lw_at lw_m6 87 rfl) rfl
theorem q1379 : (Jvm.Cond.code ({ cls := "PolicyNotation$Equal", name := "<init>", desc := "(II)V" } : Jvm.MethodName) prog_9_method_1_code (3 : Nat) (Option.none : Option Jvm.ClassFile.FieldType)) ∈ lw_all := lw_g (lw_at lw_m6 88 rfl) rfl
theorem q1380 : (Jvm.Cond.methodLink "PolicyNotation$Equal" (1 : Nat) ({ cls := "PolicyNotation$Test", name := "<init>", desc := "(II)V" } : Jvm.MethodName)) ∈ lw_all := lw_g (lw_at lw_m6 89 rfl) rfl
theorem q1386 : (Jvm.Cond.laysFinal "PolicyNotation$Equal" "PolicyNotation$Test" "feature" "I") ∈ lw_all := lw_g (lw_at lw_m6 95 rfl) rfl
theorem q1388 : (Jvm.Cond.laysFinal "PolicyNotation$Equal" "PolicyNotation$Test" "digit" "I") ∈ lw_all := lw_g (lw_at lw_m6 97 rfl) rfl
theorem q1390 : (Jvm.Cond.superclass "PolicyNotation$Equal" "PolicyNotation$Test") ∈ lw_all := lw_g (lw_at lw_m6 99 rfl) rfl
theorem q1441 : (Jvm.Cond.selects "PolicyNotation$Equal" ({ cls := "PolicyNotation$Test", name := "bars", desc := "(II)Z" } : Jvm.MethodName) ({ cls := "PolicyNotation$Test", name := "bars", desc := "(II)Z" } : Jvm.MethodName)) ∈ lw_all := lw_g (lw_at lw_m6 150 rfl) rfl
theorem q2775 : (Jvm.Cond.selects "PolicyNotation$Equal" ({ cls := "PolicyNotation$Test", name := "digit", desc := "()I" } : Jvm.MethodName) ({ cls := "PolicyNotation$Test", name := "digit", desc := "()I" } : Jvm.MethodName)) ∈ lw_all := lw_g (lw_at lw_m12 44 rfl) rfl
theorem q2790 : (Jvm.Cond.castable "PolicyNotation$Equal" "PolicyNotation$Test") ∈ lw_tbl := lw_at lw_m12 59 rfl
theorem q2795 : (Jvm.Cond.castable "PolicyNotation$Equal" "java/lang/Object") ∈ lw_tbl := lw_at lw_m12 64 rfl
theorem in_X13 : ∀ w ∈ wsX130, w ∈ lw_all := lw_in wsX130 [1386, 1388] (by decide +kernel) (by decide +kernel)
/-! PolicyNotation$Less -/
def RX14 : String := "PolicyNotation$Less"
def TX14 : u_T := fun k => match k with
  | 0 => ("PolicyNotation$Test", "feature", "I", true)
  | _ => ("PolicyNotation$Test", "digit", "I", true)
def tyX14 : Nat → FieldType := fun k => match k with
  | 0 => .int
  | _ => .int
abbrev wsX140 : List Cond := u_ws RX14 TX14 2
theorem nmX14 : ∀ a, a < 2 → ∀ b, b < 2 → a ≠ b → (TX14 a).2.1 ≠ (TX14 b).2.1 := by decide +kernel
theorem tyX14_ok : ∀ k, k < 2 → parseFieldDescriptor (TX14 k).2.2.1 = some (tyX14 k) := by decide +kernel
abbrev cX14_fits : ByteArray := prog_12_method_2_code
def yX14_fits : MethodName := ⟨RX14, "fits", "(I)Z"⟩
def dkwX14_fits_0 : List UInt8 := [27, 42, 182, 0, 7, 162, 0, 7, 4, 167, 0, 4, 3, 172]
abbrev dktX14_fits_0 : List UInt8 := dkwX14_fits_0 ++ []
theorem dksX14_fits_0 : cX14_fits.data.toList.drop 0 = dktX14_fits_0 := by decide +kernel
theorem dX14_fits_0 : decode cX14_fits 0 = .ok (.iload_n 1, 1) := dk_27 (dk_at dksX14_fits_0 0 rfl rfl)
theorem dX14_fits_1 : decode cX14_fits 1 = .ok (.aload_n 0, 1) := dk_42 (dk_at dksX14_fits_0 1 rfl rfl)
theorem dX14_fits_2 : decode cX14_fits 2 = .ok (.invokevirtual 7, 3) := dk_182 0 7 (dk_at dksX14_fits_0 2 rfl rfl)
theorem dX14_fits_5 : decode cX14_fits 5 = .ok (.if_icmp .ge 7, 3) := dk_162 0 7 (dk_at dksX14_fits_0 5 rfl rfl)
theorem dX14_fits_8 : decode cX14_fits 8 = .ok (.iconst 1, 1) := dk_4 (dk_at dksX14_fits_0 8 rfl rfl)
theorem dX14_fits_9 : decode cX14_fits 9 = .ok (.goto 4, 3) := dk_167 0 4 (dk_at dksX14_fits_0 9 rfl rfl)
theorem dX14_fits_12 : decode cX14_fits 12 = .ok (.iconst 0, 1) := dk_3 (dk_at dksX14_fits_0 12 rfl rfl)
theorem dX14_fits_13 : decode cX14_fits 13 = .ok (.ireturn, 1) := dk_172 (dk_at dksX14_fits_0 13 rfl rfl)
abbrev cX14_init : ByteArray := prog_12_method_1_code
def yX14_init : MethodName := ⟨RX14, "<init>", "(II)V"⟩
def dkwX14_init_0 : List UInt8 := [42, 27, 28, 183, 0, 1, 177]
abbrev dktX14_init_0 : List UInt8 := dkwX14_init_0 ++ []
theorem dksX14_init_0 : cX14_init.data.toList.drop 0 = dktX14_init_0 := by decide +kernel
theorem dX14_init_0 : decode cX14_init 0 = .ok (.aload_n 0, 1) := dk_42 (dk_at dksX14_init_0 0 rfl rfl)
theorem dX14_init_1 : decode cX14_init 1 = .ok (.iload_n 1, 1) := dk_27 (dk_at dksX14_init_0 1 rfl rfl)
theorem dX14_init_2 : decode cX14_init 2 = .ok (.iload_n 2, 1) := dk_28 (dk_at dksX14_init_0 2 rfl rfl)
theorem dX14_init_3 : decode cX14_init 3 = .ok (.invokespecial 1, 3) := dk_183 0 1 (dk_at dksX14_init_0 3 rfl rfl)
theorem dX14_init_6 : decode cX14_init 6 = .ok (.return_, 1) := dk_177 (dk_at dksX14_init_0 6 rfl rfl)
theorem q132 : (Jvm.Cond.initialized "PolicyNotation$Less") ∈ lw_all := lw_g (lw_at lw_m1 41 rfl) rfl
theorem q561 : (Jvm.Cond.selects "PolicyNotation$Less" ({ cls := "java/lang/Object", name := "getClass", desc := "()Ljava/lang/Class;" } : Jvm.MethodName) ({ cls := "java/lang/Object", name := "getClass", desc := "()Ljava/lang/Class;" } : Jvm.MethodName)) ∈ lw_all := lw_g (lw_at lw_m2 230 rfl) rfl
theorem q805 : (Jvm.Cond.selects "PolicyNotation$Less" ({ cls := "PolicyNotation$Test", name := "feature", desc := "()I" } : Jvm.MethodName) ({ cls := "PolicyNotation$Test", name := "feature", desc := "()I" } : Jvm.MethodName)) ∈ lw_all := lw_g (lw_at lw_m3 234 rfl) rfl
theorem q826 : (Jvm.Cond.selects "PolicyNotation$Less" ({ cls := "PolicyNotation$Test", name := "fits", desc := "(I)Z" } : Jvm.MethodName) ({ cls := "PolicyNotation$Less", name := "fits", desc := "(I)Z" } : Jvm.MethodName)) ∈ lw_all := lw_g (lw_at lw_m4 15 rfl) rfl
theorem q827 : (Jvm.Cond.instanceMethod ({ cls := "PolicyNotation$Less", name := "fits", desc := "(I)Z" } : Jvm.MethodName)) ∈ lw_all := lw_g (lw_at lw_m4 16 rfl) rfl
theorem q828 : (Jvm.Cond.code ({ cls := "PolicyNotation$Less", name := "fits", desc := "(I)Z" } : Jvm.MethodName) prog_12_method_2_code (2 : Nat) (Option.some Jvm.ClassFile.FieldType.boolean)) ∈ lw_all := lw_g (lw_at lw_m4 17 rfl) rfl
theorem q829 : (Jvm.Cond.methodLink "PolicyNotation$Less" (7 : Nat) ({ cls := "PolicyNotation$Less", name := "digit", desc := "()I" } : Jvm.MethodName)) ∈ lw_all := lw_g (lw_at lw_m4 18 rfl) rfl
theorem q830 : (Jvm.Cond.sameMethod "PolicyNotation$Less" "PolicyNotation$Test" "digit" "()I") ∈ lw_all := lw_g (lw_at lw_m4 19 rfl) rfl
theorem q831 : (Jvm.Cond.selects "PolicyNotation$Less" ({ cls := "PolicyNotation$Less", name := "digit", desc := "()I" } : Jvm.MethodName) ({ cls := "PolicyNotation$Test", name := "digit", desc := "()I" } : Jvm.MethodName)) ∈ lw_all := lw_g (lw_at lw_m4 20 rfl) rfl
theorem q1392 : (Jvm.Cond.instantiable "PolicyNotation$Less" (2 : Nat)) ∈ lw_all := lw_g (lw_at lw_m6 101 rfl) rfl
theorem q1394 : (Jvm.Cond.instanceMethod ({ cls := "PolicyNotation$Less", name := "<init>", desc := "(II)V" } : Jvm.MethodName)) ∈ lw_all := lw_g (lw_at lw_m6 103 rfl) rfl
theorem q1395 : (Jvm.Cond.code ({ cls := "PolicyNotation$Less", name := "<init>", desc := "(II)V" } : Jvm.MethodName) prog_12_method_1_code (3 : Nat) (Option.none : Option Jvm.ClassFile.FieldType)) ∈ lw_all := lw_g (lw_at lw_m6 104 rfl) rfl
theorem q1396 : (Jvm.Cond.methodLink "PolicyNotation$Less" (1 : Nat) ({ cls := "PolicyNotation$Test", name := "<init>", desc := "(II)V" } : Jvm.MethodName)) ∈ lw_all := lw_g (lw_at lw_m6 105 rfl) rfl
theorem q1397 : (Jvm.Cond.laysFinal "PolicyNotation$Less" "PolicyNotation$Test" "feature" "I") ∈ lw_all := lw_g (lw_at lw_m6 106 rfl) rfl
theorem q1398 : (Jvm.Cond.laysFinal "PolicyNotation$Less" "PolicyNotation$Test" "digit" "I") ∈ lw_all := lw_g (lw_at lw_m6 107 rfl) rfl
theorem q1399 : (Jvm.Cond.superclass "PolicyNotation$Less" "PolicyNotation$Test") ∈ lw_all := lw_g (lw_at lw_m6 108 rfl) rfl
theorem q1443 : (Jvm.Cond.selects "PolicyNotation$Less" ({ cls := "PolicyNotation$Test", name := "bars", desc := "(II)Z" } : Jvm.MethodName) ({ cls := "PolicyNotation$Test", name := "bars", desc := "(II)Z" } : Jvm.MethodName)) ∈ lw_all := lw_g (lw_at lw_m6 152 rfl) rfl
theorem q2777 : (Jvm.Cond.selects "PolicyNotation$Less" ({ cls := "PolicyNotation$Test", name := "digit", desc := "()I" } : Jvm.MethodName) ({ cls := "PolicyNotation$Test", name := "digit", desc := "()I" } : Jvm.MethodName)) ∈ lw_all := lw_g (lw_at lw_m12 46 rfl) rfl
theorem q2792 : (Jvm.Cond.castable "PolicyNotation$Less" "PolicyNotation$Test") ∈ lw_tbl := lw_at lw_m12 61 rfl
theorem q2796 : (Jvm.Cond.castable "PolicyNotation$Less" "java/lang/Object") ∈ lw_tbl := lw_at lw_m12 65 rfl
theorem in_X14 : ∀ w ∈ wsX140, w ∈ lw_all := lw_in wsX140 [1397, 1398] (by decide +kernel) (by decide +kernel)
/-! PolicyNotation$Greater -/
def RX15 : String := "PolicyNotation$Greater"
def TX15 : u_T := fun k => match k with
  | 0 => ("PolicyNotation$Test", "feature", "I", true)
  | _ => ("PolicyNotation$Test", "digit", "I", true)
def tyX15 : Nat → FieldType := fun k => match k with
  | 0 => .int
  | _ => .int
abbrev wsX150 : List Cond := u_ws RX15 TX15 2
theorem nmX15 : ∀ a, a < 2 → ∀ b, b < 2 → a ≠ b → (TX15 a).2.1 ≠ (TX15 b).2.1 := by decide +kernel
theorem tyX15_ok : ∀ k, k < 2 → parseFieldDescriptor (TX15 k).2.2.1 = some (tyX15 k) := by decide +kernel
abbrev cX15_fits : ByteArray := prog_11_method_2_code
def yX15_fits : MethodName := ⟨RX15, "fits", "(I)Z"⟩
def dkwX15_fits_0 : List UInt8 := [27, 42, 182, 0, 7, 164, 0, 7, 4, 167, 0, 4, 3, 172]
abbrev dktX15_fits_0 : List UInt8 := dkwX15_fits_0 ++ []
theorem dksX15_fits_0 : cX15_fits.data.toList.drop 0 = dktX15_fits_0 := by decide +kernel
theorem dX15_fits_0 : decode cX15_fits 0 = .ok (.iload_n 1, 1) := dk_27 (dk_at dksX15_fits_0 0 rfl rfl)
theorem dX15_fits_1 : decode cX15_fits 1 = .ok (.aload_n 0, 1) := dk_42 (dk_at dksX15_fits_0 1 rfl rfl)
theorem dX15_fits_2 : decode cX15_fits 2 = .ok (.invokevirtual 7, 3) := dk_182 0 7 (dk_at dksX15_fits_0 2 rfl rfl)
theorem dX15_fits_5 : decode cX15_fits 5 = .ok (.if_icmp .le 7, 3) := dk_164 0 7 (dk_at dksX15_fits_0 5 rfl rfl)
theorem dX15_fits_8 : decode cX15_fits 8 = .ok (.iconst 1, 1) := dk_4 (dk_at dksX15_fits_0 8 rfl rfl)
theorem dX15_fits_9 : decode cX15_fits 9 = .ok (.goto 4, 3) := dk_167 0 4 (dk_at dksX15_fits_0 9 rfl rfl)
theorem dX15_fits_12 : decode cX15_fits 12 = .ok (.iconst 0, 1) := dk_3 (dk_at dksX15_fits_0 12 rfl rfl)
theorem dX15_fits_13 : decode cX15_fits 13 = .ok (.ireturn, 1) := dk_172 (dk_at dksX15_fits_0 13 rfl rfl)
abbrev cX15_init : ByteArray := prog_11_method_1_code
def yX15_init : MethodName := ⟨RX15, "<init>", "(II)V"⟩
def dkwX15_init_0 : List UInt8 := [42, 27, 28, 183, 0, 1, 177]
abbrev dktX15_init_0 : List UInt8 := dkwX15_init_0 ++ []
theorem dksX15_init_0 : cX15_init.data.toList.drop 0 = dktX15_init_0 := by decide +kernel
theorem dX15_init_0 : decode cX15_init 0 = .ok (.aload_n 0, 1) := dk_42 (dk_at dksX15_init_0 0 rfl rfl)
theorem dX15_init_1 : decode cX15_init 1 = .ok (.iload_n 1, 1) := dk_27 (dk_at dksX15_init_0 1 rfl rfl)
theorem dX15_init_2 : decode cX15_init 2 = .ok (.iload_n 2, 1) := dk_28 (dk_at dksX15_init_0 2 rfl rfl)
theorem dX15_init_3 : decode cX15_init 3 = .ok (.invokespecial 1, 3) := dk_183 0 1 (dk_at dksX15_init_0 3 rfl rfl)
theorem dX15_init_6 : decode cX15_init 6 = .ok (.return_, 1) := dk_177 (dk_at dksX15_init_0 6 rfl rfl)
theorem q133 : (Jvm.Cond.initialized "PolicyNotation$Greater") ∈ lw_all := lw_g (lw_at lw_m1 42 rfl) rfl
theorem q560 : (Jvm.Cond.selects "PolicyNotation$Greater" ({ cls := "java/lang/Object", name := "getClass", desc := "()Ljava/lang/Class;" } : Jvm.MethodName) ({ cls := "java/lang/Object", name := "getClass", desc := "()Ljava/lang/Class;" } : Jvm.MethodName)) ∈ lw_all := lw_g (lw_at lw_m2 229 rfl) rfl
theorem q804 : (Jvm.Cond.selects "PolicyNotation$Greater" ({ cls := "PolicyNotation$Test", name := "feature", desc := "()I" } : Jvm.MethodName) ({ cls := "PolicyNotation$Test", name := "feature", desc := "()I" } : Jvm.MethodName)) ∈ lw_all := lw_g (lw_at lw_m3 233 rfl) rfl
theorem q820 : (Jvm.Cond.selects "PolicyNotation$Greater" ({ cls := "PolicyNotation$Test", name := "fits", desc := "(I)Z" } : Jvm.MethodName) ({ cls := "PolicyNotation$Greater", name := "fits", desc := "(I)Z" } : Jvm.MethodName)) ∈ lw_all := lw_g (lw_at lw_m4 9 rfl) rfl
theorem q821 : (Jvm.Cond.instanceMethod ({ cls := "PolicyNotation$Greater", name := "fits", desc := "(I)Z" } : Jvm.MethodName)) ∈ lw_all := lw_g (lw_at lw_m4 10 rfl) rfl
theorem q822 : (Jvm.Cond.code ({ cls := "PolicyNotation$Greater", name := "fits", desc := "(I)Z" } : Jvm.MethodName) prog_11_method_2_code (2 : Nat) (Option.some Jvm.ClassFile.FieldType.boolean)) ∈ lw_all := lw_g (lw_at lw_m4 11 rfl) rfl
theorem q823 : (Jvm.Cond.methodLink "PolicyNotation$Greater" (7 : Nat) ({ cls := "PolicyNotation$Greater", name := "digit", desc := "()I" } : Jvm.MethodName)) ∈ lw_all := lw_g (lw_at lw_m4 12 rfl) rfl
theorem q824 : (Jvm.Cond.sameMethod "PolicyNotation$Greater" "PolicyNotation$Test" "digit" "()I") ∈ lw_all := lw_g (lw_at lw_m4 13 rfl) rfl
theorem q825 : (Jvm.Cond.selects "PolicyNotation$Greater" ({ cls := "PolicyNotation$Greater", name := "digit", desc := "()I" } : Jvm.MethodName) ({ cls := "PolicyNotation$Test", name := "digit", desc := "()I" } : Jvm.MethodName)) ∈ lw_all := lw_g (lw_at lw_m4 14 rfl) rfl
theorem q1401 : (Jvm.Cond.instantiable "PolicyNotation$Greater" (2 : Nat)) ∈ lw_all := lw_g (lw_at lw_m6 110 rfl) rfl
theorem q1403 : (Jvm.Cond.instanceMethod ({ cls := "PolicyNotation$Greater", name := "<init>", desc := "(II)V" } : Jvm.MethodName)) ∈ lw_all := lw_g (lw_at lw_m6 112 rfl) rfl
theorem q1404 : (Jvm.Cond.code ({ cls := "PolicyNotation$Greater", name := "<init>", desc := "(II)V" } : Jvm.MethodName) prog_11_method_1_code (3 : Nat) (Option.none : Option Jvm.ClassFile.FieldType)) ∈ lw_all := lw_g (lw_at lw_m6 113 rfl) rfl
theorem q1405 : (Jvm.Cond.methodLink "PolicyNotation$Greater" (1 : Nat) ({ cls := "PolicyNotation$Test", name := "<init>", desc := "(II)V" } : Jvm.MethodName)) ∈ lw_all := lw_g (lw_at lw_m6 114 rfl) rfl
theorem q1406 : (Jvm.Cond.laysFinal "PolicyNotation$Greater" "PolicyNotation$Test" "feature" "I") ∈ lw_all := lw_g (lw_at lw_m6 115 rfl) rfl
theorem q1407 : (Jvm.Cond.laysFinal "PolicyNotation$Greater" "PolicyNotation$Test" "digit" "I") ∈ lw_all := lw_g (lw_at lw_m6 116 rfl) rfl
theorem q1408 : (Jvm.Cond.superclass "PolicyNotation$Greater" "PolicyNotation$Test") ∈ lw_all := lw_g (lw_at lw_m6 117 rfl) rfl
theorem q1442 : (Jvm.Cond.selects "PolicyNotation$Greater" ({ cls := "PolicyNotation$Test", name := "bars", desc := "(II)Z" } : Jvm.MethodName) ({ cls := "PolicyNotation$Test", name := "bars", desc := "(II)Z" } : Jvm.MethodName)) ∈ lw_all := lw_g (lw_at lw_m6 151 rfl) rfl
theorem q2776 : (Jvm.Cond.selects "PolicyNotation$Greater" ({ cls := "PolicyNotation$Test", name := "digit", desc := "()I" } : Jvm.MethodName) ({ cls := "PolicyNotation$Test", name := "digit", desc := "()I" } : Jvm.MethodName)) ∈ lw_all := lw_g (lw_at lw_m12 45 rfl) rfl
theorem q2791 : (Jvm.Cond.castable "PolicyNotation$Greater" "PolicyNotation$Test") ∈ lw_tbl := lw_at lw_m12 60 rfl
theorem q2797 : (Jvm.Cond.castable "PolicyNotation$Greater" "java/lang/Object") ∈ lw_tbl := lw_at lw_m12 66 rfl
theorem in_X15 : ∀ w ∈ wsX150, w ∈ lw_all := lw_in wsX150 [1406, 1407] (by decide +kernel) (by decide +kernel)
/-! PolicyNotation$Unlike -/
def RX16 : String := "PolicyNotation$Unlike"
def TX16 : u_T := fun k => match k with
  | 0 => ("PolicyNotation$Test", "feature", "I", true)
  | _ => ("PolicyNotation$Test", "digit", "I", true)
def tyX16 : Nat → FieldType := fun k => match k with
  | 0 => .int
  | _ => .int
abbrev wsX160 : List Cond := u_ws RX16 TX16 2
theorem nmX16 : ∀ a, a < 2 → ∀ b, b < 2 → a ≠ b → (TX16 a).2.1 ≠ (TX16 b).2.1 := by decide +kernel
theorem tyX16_ok : ∀ k, k < 2 → parseFieldDescriptor (TX16 k).2.2.1 = some (tyX16 k) := by decide +kernel
abbrev cX16_fits : ByteArray := prog_21_method_2_code
def yX16_fits : MethodName := ⟨RX16, "fits", "(I)Z"⟩
def dkwX16_fits_0 : List UInt8 := [27, 42, 182, 0, 7, 159, 0, 7, 4, 167, 0, 4, 3, 172]
abbrev dktX16_fits_0 : List UInt8 := dkwX16_fits_0 ++ []
theorem dksX16_fits_0 : cX16_fits.data.toList.drop 0 = dktX16_fits_0 := by decide +kernel
theorem dX16_fits_0 : decode cX16_fits 0 = .ok (.iload_n 1, 1) := dk_27 (dk_at dksX16_fits_0 0 rfl rfl)
theorem dX16_fits_1 : decode cX16_fits 1 = .ok (.aload_n 0, 1) := dk_42 (dk_at dksX16_fits_0 1 rfl rfl)
theorem dX16_fits_2 : decode cX16_fits 2 = .ok (.invokevirtual 7, 3) := dk_182 0 7 (dk_at dksX16_fits_0 2 rfl rfl)
theorem dX16_fits_5 : decode cX16_fits 5 = .ok (.if_icmp .eq 7, 3) := dk_159 0 7 (dk_at dksX16_fits_0 5 rfl rfl)
theorem dX16_fits_8 : decode cX16_fits 8 = .ok (.iconst 1, 1) := dk_4 (dk_at dksX16_fits_0 8 rfl rfl)
theorem dX16_fits_9 : decode cX16_fits 9 = .ok (.goto 4, 3) := dk_167 0 4 (dk_at dksX16_fits_0 9 rfl rfl)
theorem dX16_fits_12 : decode cX16_fits 12 = .ok (.iconst 0, 1) := dk_3 (dk_at dksX16_fits_0 12 rfl rfl)
theorem dX16_fits_13 : decode cX16_fits 13 = .ok (.ireturn, 1) := dk_172 (dk_at dksX16_fits_0 13 rfl rfl)
abbrev cX16_init : ByteArray := prog_21_method_1_code
def yX16_init : MethodName := ⟨RX16, "<init>", "(II)V"⟩
def dkwX16_init_0 : List UInt8 := [42, 27, 28, 183, 0, 1, 177]
abbrev dktX16_init_0 : List UInt8 := dkwX16_init_0 ++ []
theorem dksX16_init_0 : cX16_init.data.toList.drop 0 = dktX16_init_0 := by decide +kernel
theorem dX16_init_0 : decode cX16_init 0 = .ok (.aload_n 0, 1) := dk_42 (dk_at dksX16_init_0 0 rfl rfl)
theorem dX16_init_1 : decode cX16_init 1 = .ok (.iload_n 1, 1) := dk_27 (dk_at dksX16_init_0 1 rfl rfl)
theorem dX16_init_2 : decode cX16_init 2 = .ok (.iload_n 2, 1) := dk_28 (dk_at dksX16_init_0 2 rfl rfl)
theorem dX16_init_3 : decode cX16_init 3 = .ok (.invokespecial 1, 3) := dk_183 0 1 (dk_at dksX16_init_0 3 rfl rfl)
theorem dX16_init_6 : decode cX16_init 6 = .ok (.return_, 1) := dk_177 (dk_at dksX16_init_0 6 rfl rfl)
theorem q134 : (Jvm.Cond.initialized "PolicyNotation$Unlike") ∈ lw_all := lw_g (lw_at lw_m1 43 rfl) rfl
theorem q567 : (Jvm.Cond.selects "PolicyNotation$Unlike" ({ cls := "java/lang/Object", name := "getClass", desc := "()Ljava/lang/Class;" } : Jvm.MethodName) ({ cls := "java/lang/Object", name := "getClass", desc := "()Ljava/lang/Class;" } : Jvm.MethodName)) ∈ lw_all := lw_g (lw_at lw_m2 236 rfl) rfl
theorem q806 : (Jvm.Cond.selects "PolicyNotation$Unlike" ({ cls := "PolicyNotation$Test", name := "feature", desc := "()I" } : Jvm.MethodName) ({ cls := "PolicyNotation$Test", name := "feature", desc := "()I" } : Jvm.MethodName)) ∈ lw_all := lw_g (lw_at lw_m3 235 rfl) rfl
theorem q832 : (Jvm.Cond.selects "PolicyNotation$Unlike" ({ cls := "PolicyNotation$Test", name := "fits", desc := "(I)Z" } : Jvm.MethodName) ({ cls := "PolicyNotation$Unlike", name := "fits", desc := "(I)Z" } : Jvm.MethodName)) ∈ lw_all := lw_g (lw_at lw_m4 21 rfl) rfl
theorem q833 : (Jvm.Cond.instanceMethod ({ cls := "PolicyNotation$Unlike", name := "fits", desc := "(I)Z" } : Jvm.MethodName)) ∈ lw_all := lw_g (lw_at lw_m4 22 rfl) rfl
theorem q834 : (Jvm.Cond.code ({ cls := "PolicyNotation$Unlike", name := "fits", desc := "(I)Z" } : Jvm.MethodName) prog_21_method_2_code (2 : Nat) (Option.some Jvm.ClassFile.FieldType.boolean)) ∈ lw_all := lw_g (lw_at lw_m4 23 rfl) rfl
theorem q835 : (Jvm.Cond.methodLink "PolicyNotation$Unlike" (7 : Nat) ({ cls := "PolicyNotation$Unlike", name := "digit", desc := "()I" } : Jvm.MethodName)) ∈ lw_all := lw_g (lw_at lw_m4 24 rfl) rfl
theorem q836 : (Jvm.Cond.sameMethod "PolicyNotation$Unlike" "PolicyNotation$Test" "digit" "()I") ∈ lw_all := lw_g (lw_at lw_m4 25 rfl) rfl
theorem q837 : (Jvm.Cond.selects "PolicyNotation$Unlike" ({ cls := "PolicyNotation$Unlike", name := "digit", desc := "()I" } : Jvm.MethodName) ({ cls := "PolicyNotation$Test", name := "digit", desc := "()I" } : Jvm.MethodName)) ∈ lw_all := lw_g (lw_at lw_m4 26 rfl) rfl
theorem q1410 : (Jvm.Cond.instantiable "PolicyNotation$Unlike" (2 : Nat)) ∈ lw_all := lw_g (lw_at lw_m6 119 rfl) rfl
theorem q1412 : (Jvm.Cond.instanceMethod ({ cls := "PolicyNotation$Unlike", name := "<init>", desc := "(II)V" } : Jvm.MethodName)) ∈ lw_all := lw_g (lw_at lw_m6 121 rfl) rfl
theorem q1413 : (Jvm.Cond.code ({ cls := "PolicyNotation$Unlike", name := "<init>", desc := "(II)V" } : Jvm.MethodName) prog_21_method_1_code (3 : Nat) (Option.none : Option Jvm.ClassFile.FieldType)) ∈ lw_all := lw_g (lw_at lw_m6 122 rfl) rfl
theorem q1414 : (Jvm.Cond.methodLink "PolicyNotation$Unlike" (1 : Nat) ({ cls := "PolicyNotation$Test", name := "<init>", desc := "(II)V" } : Jvm.MethodName)) ∈ lw_all := lw_g (lw_at lw_m6 123 rfl) rfl
theorem q1415 : (Jvm.Cond.laysFinal "PolicyNotation$Unlike" "PolicyNotation$Test" "feature" "I") ∈ lw_all := lw_g (lw_at lw_m6 124 rfl) rfl
theorem q1416 : (Jvm.Cond.laysFinal "PolicyNotation$Unlike" "PolicyNotation$Test" "digit" "I") ∈ lw_all := lw_g (lw_at lw_m6 125 rfl) rfl
theorem q1417 : (Jvm.Cond.superclass "PolicyNotation$Unlike" "PolicyNotation$Test") ∈ lw_all := lw_g (lw_at lw_m6 126 rfl) rfl
theorem q1444 : (Jvm.Cond.selects "PolicyNotation$Unlike" ({ cls := "PolicyNotation$Test", name := "bars", desc := "(II)Z" } : Jvm.MethodName) ({ cls := "PolicyNotation$Test", name := "bars", desc := "(II)Z" } : Jvm.MethodName)) ∈ lw_all := lw_g (lw_at lw_m6 153 rfl) rfl
theorem q2778 : (Jvm.Cond.selects "PolicyNotation$Unlike" ({ cls := "PolicyNotation$Test", name := "digit", desc := "()I" } : Jvm.MethodName) ({ cls := "PolicyNotation$Test", name := "digit", desc := "()I" } : Jvm.MethodName)) ∈ lw_all := lw_g (lw_at lw_m12 47 rfl) rfl
theorem q2793 : (Jvm.Cond.castable "PolicyNotation$Unlike" "PolicyNotation$Test") ∈ lw_tbl := lw_at lw_m12 62 rfl
theorem q2798 : (Jvm.Cond.castable "PolicyNotation$Unlike" "java/lang/Object") ∈ lw_tbl := lw_at lw_m12 67 rfl
theorem in_X16 : ∀ w ∈ wsX160, w ∈ lw_all := lw_in wsX160 [1415, 1416] (by decide +kernel) (by decide +kernel)
/-! PolicyNotation$Work -/
def RX17 : String := "PolicyNotation$Work"
def TX17 : u_T := fun k => match k with
  | 0 => ("PolicyNotation$Work", "scope", "I", true)
  | 1 => ("PolicyNotation$Work", "day", "I", true)
  | 2 => ("PolicyNotation$Work", "features", "I", true)
  | _ => ("PolicyNotation$Work", "expected", "LPolicyNotation$Effect;", true)
def tyX17 : Nat → FieldType := fun k => match k with
  | 0 => .int
  | 1 => .int
  | 2 => .int
  | _ => .object "PolicyNotation$Effect"
abbrev wsX170 : List Cond := u_ws RX17 TX17 4
theorem nmX17 : ∀ a, a < 4 → ∀ b, b < 4 → a ≠ b → (TX17 a).2.1 ≠ (TX17 b).2.1 := by decide +kernel
theorem tyX17_ok : ∀ k, k < 4 → parseFieldDescriptor (TX17 k).2.2.1 = some (tyX17 k) := by decide +kernel
abbrev cX17_init : ByteArray := prog_24_method_1_code
def yX17_init : MethodName := ⟨RX17, "<init>", "(IIILPolicyNotation$Effect;)V"⟩
def dkwX17_init_1 : List UInt8 := [181, 0, 19, 177]
abbrev dktX17_init_1 : List UInt8 := dkwX17_init_1 ++ []
def dkwX17_init_0 : List UInt8 := [42, 183, 0, 1, 42, 27, 181, 0, 7, 42, 28, 181, 0, 13, 42, 29, 181, 0, 16, 42, 25, 4]
abbrev dktX17_init_0 : List UInt8 := dkwX17_init_0 ++ dktX17_init_1
theorem dksX17_init_0 : cX17_init.data.toList.drop 0 = dktX17_init_0 := by decide +kernel
theorem dksX17_init_1 : cX17_init.data.toList.drop 22 = dktX17_init_1 := dk_seg dksX17_init_0 22 rfl rfl
theorem dX17_init_0 : decode cX17_init 0 = .ok (.aload_n 0, 1) := dk_42 (dk_at dksX17_init_0 0 rfl rfl)
theorem dX17_init_1 : decode cX17_init 1 = .ok (.invokespecial 1, 3) := dk_183 0 1 (dk_at dksX17_init_0 1 rfl rfl)
theorem dX17_init_4 : decode cX17_init 4 = .ok (.aload_n 0, 1) := dk_42 (dk_at dksX17_init_0 4 rfl rfl)
theorem dX17_init_5 : decode cX17_init 5 = .ok (.iload_n 1, 1) := dk_27 (dk_at dksX17_init_0 5 rfl rfl)
theorem dX17_init_6 : decode cX17_init 6 = .ok (.putfield 7, 3) := dk_181 0 7 (dk_at dksX17_init_0 6 rfl rfl)
theorem dX17_init_9 : decode cX17_init 9 = .ok (.aload_n 0, 1) := dk_42 (dk_at dksX17_init_0 9 rfl rfl)
theorem dX17_init_10 : decode cX17_init 10 = .ok (.iload_n 2, 1) := dk_28 (dk_at dksX17_init_0 10 rfl rfl)
theorem dX17_init_11 : decode cX17_init 11 = .ok (.putfield 13, 3) := dk_181 0 13 (dk_at dksX17_init_0 11 rfl rfl)
theorem dX17_init_14 : decode cX17_init 14 = .ok (.aload_n 0, 1) := dk_42 (dk_at dksX17_init_0 14 rfl rfl)
theorem dX17_init_15 : decode cX17_init 15 = .ok (.iload_n 3, 1) := dk_29 (dk_at dksX17_init_0 15 rfl rfl)
theorem dX17_init_16 : decode cX17_init 16 = .ok (.putfield 16, 3) := dk_181 0 16 (dk_at dksX17_init_0 16 rfl rfl)
theorem dX17_init_19 : decode cX17_init 19 = .ok (.aload_n 0, 1) := dk_42 (dk_at dksX17_init_0 19 rfl rfl)
theorem dX17_init_20 : decode cX17_init 20 = .ok (.aload 4, 2) := dk_25 4 (dk_at dksX17_init_0 20 rfl rfl)
theorem dX17_init_22 : decode cX17_init 22 = .ok (.putfield 19, 3) := dk_181 0 19 (dk_at dksX17_init_1 0 rfl rfl)
theorem dX17_init_25 : decode cX17_init 25 = .ok (.return_, 1) := dk_177 (dk_at dksX17_init_1 3 rfl rfl)
abbrev cX17_what : ByteArray := prog_24_method_2_code
def yX17_what : MethodName := ⟨RX17, "what", "(I)I"⟩
def dkwX17_what_2 : List UInt8 := [42, 180, 0, 7, 172, 42, 180, 0, 13, 172, 42, 180, 0, 16, 172, 42, 180, 0, 19, 182, 0, 23, 172]
abbrev dktX17_what_2 : List UInt8 := dkwX17_what_2 ++ []
def dkwX17_what_1 : List UInt8 := [170, 0, 0, 0, 0, 0, 42, 0, 0, 0, 0, 0, 0, 0, 2, 0, 0, 0, 27, 0, 0, 0, 32, 0, 0, 0, 37]
abbrev dktX17_what_1 : List UInt8 := dkwX17_what_1 ++ dktX17_what_2
def dkwX17_what_0 : List UInt8 := [27]
abbrev dktX17_what_0 : List UInt8 := dkwX17_what_0 ++ dktX17_what_1
theorem dksX17_what_0 : cX17_what.data.toList.drop 0 = dktX17_what_0 := by decide +kernel
theorem dksX17_what_1 : cX17_what.data.toList.drop 1 = dktX17_what_1 := dk_seg dksX17_what_0 1 rfl rfl
theorem dksX17_what_2 : cX17_what.data.toList.drop 28 = dktX17_what_2 := dk_seg dksX17_what_1 27 rfl rfl
theorem dX17_what_0 : decode cX17_what 0 = .ok (.iload_n 1, 1) := dk_27 (dk_at dksX17_what_0 0 rfl rfl)
theorem dX17_what_1 : decode cX17_what 1 = .ok (.tableswitch 42 0 2 #[27, 32, 37], 27) := by decide +kernel
theorem dX17_what_28 : decode cX17_what 28 = .ok (.aload_n 0, 1) := dk_42 (dk_at dksX17_what_2 0 rfl rfl)
theorem dX17_what_29 : decode cX17_what 29 = .ok (.getfield 7, 3) := dk_180 0 7 (dk_at dksX17_what_2 1 rfl rfl)
theorem dX17_what_32 : decode cX17_what 32 = .ok (.ireturn, 1) := dk_172 (dk_at dksX17_what_2 4 rfl rfl)
theorem dX17_what_33 : decode cX17_what 33 = .ok (.aload_n 0, 1) := dk_42 (dk_at dksX17_what_2 5 rfl rfl)
theorem dX17_what_34 : decode cX17_what 34 = .ok (.getfield 13, 3) := dk_180 0 13 (dk_at dksX17_what_2 6 rfl rfl)
theorem dX17_what_37 : decode cX17_what 37 = .ok (.ireturn, 1) := dk_172 (dk_at dksX17_what_2 9 rfl rfl)
theorem dX17_what_38 : decode cX17_what 38 = .ok (.aload_n 0, 1) := dk_42 (dk_at dksX17_what_2 10 rfl rfl)
theorem dX17_what_39 : decode cX17_what 39 = .ok (.getfield 16, 3) := dk_180 0 16 (dk_at dksX17_what_2 11 rfl rfl)
theorem dX17_what_42 : decode cX17_what 42 = .ok (.ireturn, 1) := dk_172 (dk_at dksX17_what_2 14 rfl rfl)
theorem dX17_what_43 : decode cX17_what 43 = .ok (.aload_n 0, 1) := dk_42 (dk_at dksX17_what_2 15 rfl rfl)
theorem dX17_what_44 : decode cX17_what 44 = .ok (.getfield 19, 3) := dk_180 0 19 (dk_at dksX17_what_2 16 rfl rfl)
theorem dX17_what_47 : decode cX17_what 47 = .ok (.invokevirtual 23, 3) := dk_182 0 23 (dk_at dksX17_what_2 19 rfl rfl)
theorem dX17_what_50 : decode cX17_what 50 = .ok (.ireturn, 1) := dk_172 (dk_at dksX17_what_2 22 rfl rfl)
theorem q135 : (Jvm.Cond.initialized "PolicyNotation$Work") ∈ lw_all := lw_g (lw_at lw_m1 44 rfl) rfl
theorem q570 : (Jvm.Cond.selects "PolicyNotation$Work" ({ cls := "java/lang/Object", name := "getClass", desc := "()Ljava/lang/Class;" } : Jvm.MethodName) ({ cls := "java/lang/Object", name := "getClass", desc := "()Ljava/lang/Class;" } : Jvm.MethodName)) ∈ lw_all := lw_g (lw_at lw_m2 239 rfl) rfl
theorem q1631 : (Jvm.Cond.instantiable "PolicyNotation$Work" (4 : Nat)) ∈ lw_all := lw_g (lw_at lw_m7 100 rfl) rfl
theorem q1633 : (Jvm.Cond.instanceMethod ({ cls := "PolicyNotation$Work", name := "<init>", desc := "(IIILPolicyNotation$Effect;)V" } : Jvm.MethodName)) ∈ lw_all := lw_g (lw_at lw_m7 102 rfl) rfl
theorem q1634 : (Jvm.Cond.code ({ cls := "PolicyNotation$Work", name := "<init>", desc := "(IIILPolicyNotation$Effect;)V" } : Jvm.MethodName) prog_24_method_1_code (5 : Nat) (Option.none : Option Jvm.ClassFile.FieldType)) ∈ lw_all := lw_g (lw_at lw_m7 103 rfl) rfl
theorem q1635 : (Jvm.Cond.methodLink "PolicyNotation$Work" (1 : Nat) ({ cls := "java/lang/Object", name := "<init>", desc := "()V" } : Jvm.MethodName)) ∈ lw_all := lw_g (lw_at lw_m7 104 rfl) rfl
theorem q1636 : (Jvm.Cond.fieldLink "PolicyNotation$Work" (7 : Nat) "PolicyNotation$Work" "scope" "I") ∈ lw_all := lw_g (lw_at lw_m7 105 rfl) rfl
theorem q1638 : (Jvm.Cond.fieldLink "PolicyNotation$Work" (13 : Nat) "PolicyNotation$Work" "day" "I") ∈ lw_all := lw_g (lw_at lw_m7 107 rfl) rfl
theorem q1640 : (Jvm.Cond.fieldLink "PolicyNotation$Work" (16 : Nat) "PolicyNotation$Work" "features" "I") ∈ lw_all := lw_g (lw_at lw_m7 109 rfl) rfl
theorem q1642 : (Jvm.Cond.fieldLink "PolicyNotation$Work" (19 : Nat) "PolicyNotation$Work" "expected" "LPolicyNotation$Effect;") ∈ lw_all := lw_g (lw_at lw_m7 111 rfl) rfl
theorem q1644 : (Jvm.Cond.laysFinal "PolicyNotation$Work" "PolicyNotation$Work" "scope" "I") ∈ lw_all := lw_g (lw_at lw_m7 113 rfl) rfl
theorem q1645 : (Jvm.Cond.soleField "PolicyNotation$Work" "scope") ∈ lw_all := lw_g (lw_at lw_m7 114 rfl) rfl
theorem q1646 : (Jvm.Cond.laysFinal "PolicyNotation$Work" "PolicyNotation$Work" "day" "I") ∈ lw_all := lw_g (lw_at lw_m7 115 rfl) rfl
theorem q1647 : (Jvm.Cond.soleField "PolicyNotation$Work" "day") ∈ lw_all := lw_g (lw_at lw_m7 116 rfl) rfl
theorem q1648 : (Jvm.Cond.laysFinal "PolicyNotation$Work" "PolicyNotation$Work" "features" "I") ∈ lw_all := lw_g (lw_at lw_m7 117 rfl) rfl
theorem q1649 : (Jvm.Cond.soleField "PolicyNotation$Work" "features") ∈ lw_all := lw_g (lw_at lw_m7 118 rfl) rfl
theorem q1650 : (Jvm.Cond.laysFinal "PolicyNotation$Work" "PolicyNotation$Work" "expected" "LPolicyNotation$Effect;") ∈ lw_all := lw_g (lw_at lw_m7 119 rfl) rfl
theorem q1651 : (Jvm.Cond.soleField "PolicyNotation$Work" "expected") ∈ lw_all := lw_g (lw_at lw_m7 120 rfl) rfl
theorem q1652 : (Jvm.Cond.superclass "PolicyNotation$Work" "java/lang/Object") ∈ lw_all := lw_g (lw_at lw_m7 121 rfl) rfl
theorem q1669 : (Jvm.Cond.instanceMethod ({ cls := "PolicyNotation$Work", name := "what", desc := "(I)I" } : Jvm.MethodName)) ∈ lw_all := lw_g (lw_at lw_m7 138 rfl) rfl
theorem q1670 : (Jvm.Cond.selects "PolicyNotation$Work" ({ cls := "PolicyNotation$Work", name := "what", desc := "(I)I" } : Jvm.MethodName) ({ cls := "PolicyNotation$Work", name := "what", desc := "(I)I" } : Jvm.MethodName)) ∈ lw_all := lw_g (lw_at lw_m7 139 rfl) rfl
theorem q1671 : (Jvm.Cond.code ({ cls := "PolicyNotation$Work", name := "what", desc := "(I)I" } : Jvm.MethodName) prog_24_method_2_code (2 : Nat) (Option.some Jvm.ClassFile.FieldType.int)) ∈ lw_all := lw_g (lw_at lw_m7 140 rfl) rfl
theorem q1672 : (Jvm.Cond.methodLink "PolicyNotation$Work" (23 : Nat) ({ cls := "PolicyNotation$Effect", name := "number", desc := "()I" } : Jvm.MethodName)) ∈ lw_all := lw_g (lw_at lw_m7 141 rfl) rfl
theorem q2821 : (Jvm.Cond.castable "PolicyNotation$Work" "java/lang/Object") ∈ lw_tbl := lw_at lw_m12 90 rfl
theorem in_X17 : ∀ w ∈ wsX170, w ∈ lw_all := lw_in wsX170 [1644, 1646, 1648, 1650] (by decide +kernel) (by decide +kernel)
/-! java/lang/ArrayStoreException -/
def RJ25 : String := "java/lang/ArrayStoreException"
def TJ25 : u_T := fun k => match k with
  | 0 => ("java/lang/Throwable", "backtrace", "Ljava/lang/Object;", false)
  | 1 => ("java/lang/Throwable", "detailMessage", "Ljava/lang/String;", false)
  | 2 => ("java/lang/Throwable", "cause", "Ljava/lang/Throwable;", false)
  | 3 => ("java/lang/Throwable", "stackTrace", "[Ljava/lang/StackTraceElement;", false)
  | 4 => ("java/lang/Throwable", "depth", "I", false)
  | _ => ("java/lang/Throwable", "suppressedExceptions", "Ljava/util/List;", false)
def tyJ25 : Nat → FieldType := fun k => match k with
  | 0 => .object "java/lang/Object"
  | 1 => .object "java/lang/String"
  | 2 => .object "java/lang/Throwable"
  | 3 => .array (.object "java/lang/StackTraceElement")
  | 4 => .int
  | _ => .object "java/util/List"
abbrev wsJ250 : List Cond := u_ws RJ25 TJ25 6
theorem nmJ25 : ∀ a, a < 6 → ∀ b, b < 6 → a ≠ b → (TJ25 a).2.1 ≠ (TJ25 b).2.1 := by decide +kernel
theorem tyJ25_ok : ∀ k, k < 6 → parseFieldDescriptor (TJ25 k).2.2.1 = some (tyJ25 k) := by decide +kernel
abbrev cJ25_init : ByteArray := prog_32_method_2_code
def yJ25_init : MethodName := ⟨RJ25, "<init>", "(Ljava/lang/String;)V"⟩
def dkwJ25_init_0 : List UInt8 := [42, 43, 183, 0, 7, 177]
abbrev dktJ25_init_0 : List UInt8 := dkwJ25_init_0 ++ []
theorem dksJ25_init_0 : cJ25_init.data.toList.drop 0 = dktJ25_init_0 := by decide +kernel
theorem dJ25_init_0 : decode cJ25_init 0 = .ok (.aload_n 0, 1) := dk_42 (dk_at dksJ25_init_0 0 rfl rfl)
theorem dJ25_init_1 : decode cJ25_init 1 = .ok (.aload_n 1, 1) := dk_43 (dk_at dksJ25_init_0 1 rfl rfl)
theorem dJ25_init_2 : decode cJ25_init 2 = .ok (.invokespecial 7, 3) := dk_183 0 7 (dk_at dksJ25_init_0 2 rfl rfl)
theorem dJ25_init_5 : decode cJ25_init 5 = .ok (.return_, 1) := dk_177 (dk_at dksJ25_init_0 5 rfl rfl)
theorem q136 : (Jvm.Cond.initialized "java/lang/ArrayStoreException") ∈ lw_all := lw_g (lw_at lw_m1 45 rfl) rfl
theorem q208 : (Jvm.Cond.selects "java/lang/ArrayStoreException" ({ cls := "java/lang/Throwable", name := "fillInStackTrace", desc := "()Ljava/lang/Throwable;" } : Jvm.MethodName) ({ cls := "java/lang/Throwable", name := "fillInStackTrace", desc := "()Ljava/lang/Throwable;" } : Jvm.MethodName)) ∈ lw_all := lw_g (lw_at lw_m1 117 rfl) rfl
theorem q574 : (Jvm.Cond.selects "java/lang/ArrayStoreException" ({ cls := "java/lang/Object", name := "getClass", desc := "()Ljava/lang/Class;" } : Jvm.MethodName) ({ cls := "java/lang/Object", name := "getClass", desc := "()Ljava/lang/Class;" } : Jvm.MethodName)) ∈ lw_all := lw_g (lw_at lw_m3 3 rfl) rfl
theorem q1726 : (Jvm.Cond.instantiable "java/lang/ArrayStoreException" (6 : Nat)) ∈ lw_all := lw_g (lw_at lw_m7 195 rfl) rfl
theorem q1727 : (Jvm.Cond.instanceMethod ({ cls := "java/lang/ArrayStoreException", name := "<init>", desc := "(Ljava/lang/String;)V" } : Jvm.MethodName)) ∈ lw_all := lw_g (lw_at lw_m7 196 rfl) rfl
theorem q1728 : (Jvm.Cond.code ({ cls := "java/lang/ArrayStoreException", name := "<init>", desc := "(Ljava/lang/String;)V" } : Jvm.MethodName) prog_32_method_2_code (2 : Nat) (Option.none : Option Jvm.ClassFile.FieldType)) ∈ lw_all := lw_g (lw_at lw_m7 197 rfl) rfl
theorem q1729 : (Jvm.Cond.methodLink "java/lang/ArrayStoreException" (7 : Nat) ({ cls := "java/lang/RuntimeException", name := "<init>", desc := "(Ljava/lang/String;)V" } : Jvm.MethodName)) ∈ lw_all := lw_g (lw_at lw_m7 198 rfl) rfl
theorem q1730 : (Jvm.Cond.lays "java/lang/ArrayStoreException" "java/lang/Throwable" "backtrace" "Ljava/lang/Object;") ∈ lw_all := lw_g (lw_at lw_m7 199 rfl) rfl
theorem q1731 : (Jvm.Cond.lays "java/lang/ArrayStoreException" "java/lang/Throwable" "detailMessage" "Ljava/lang/String;") ∈ lw_all := lw_g (lw_at lw_m7 200 rfl) rfl
theorem q1732 : (Jvm.Cond.lays "java/lang/ArrayStoreException" "java/lang/Throwable" "cause" "Ljava/lang/Throwable;") ∈ lw_all := lw_g (lw_at lw_m7 201 rfl) rfl
theorem q1733 : (Jvm.Cond.lays "java/lang/ArrayStoreException" "java/lang/Throwable" "stackTrace" "[Ljava/lang/StackTraceElement;") ∈ lw_all := lw_g (lw_at lw_m7 202 rfl) rfl
theorem q1734 : (Jvm.Cond.lays "java/lang/ArrayStoreException" "java/lang/Throwable" "depth" "I") ∈ lw_all := lw_g (lw_at lw_m7 203 rfl) rfl
theorem q1735 : (Jvm.Cond.lays "java/lang/ArrayStoreException" "java/lang/Throwable" "suppressedExceptions" "Ljava/util/List;") ∈ lw_all := lw_g (lw_at lw_m7 204 rfl) rfl
theorem q1736 : (Jvm.Cond.superclass "java/lang/ArrayStoreException" "java/lang/RuntimeException") ∈ lw_all := lw_g (lw_at lw_m7 205 rfl) rfl
theorem q1737 : (Jvm.Cond.castable "java/lang/ArrayStoreException" "java/lang/ArrayStoreException") ∈ lw_tbl := lw_at lw_m7 206 rfl
theorem q1738 : (Jvm.Cond.selects "java/lang/ArrayStoreException" ({ cls := "java/lang/Throwable", name := "fillInStackTrace", desc := "(I)Ljava/lang/Throwable;" } : Jvm.MethodName) ({ cls := "java/lang/Throwable", name := "fillInStackTrace", desc := "(I)Ljava/lang/Throwable;" } : Jvm.MethodName)) ∈ lw_all := lw_g (lw_at lw_m7 207 rfl) rfl
theorem q2822 : (Jvm.Cond.castable "java/lang/ArrayStoreException" "java/lang/Object") ∈ lw_tbl := lw_at lw_m12 91 rfl
theorem in_J25 : ∀ w ∈ wsJ250, w ∈ lw_all := lw_in wsJ250 [1730, 1731, 1732, 1733, 1734, 1735] (by decide +kernel) (by decide +kernel)
/-! java/lang/Float -/
def RJ26 : String := "java/lang/Float"
abbrev cJ26_floatToIntBits : ByteArray := prog_39_method_24_code
def yJ26_floatToIntBits : MethodName := ⟨RJ26, "floatToIntBits", "(F)I"⟩
def dkwJ26_floatToIntBits_0 : List UInt8 := [34, 184, 0, 59, 154, 0, 8, 34, 184, 0, 74, 172, 18, 77, 172]
abbrev dktJ26_floatToIntBits_0 : List UInt8 := dkwJ26_floatToIntBits_0 ++ []
theorem dksJ26_floatToIntBits_0 : cJ26_floatToIntBits.data.toList.drop 0 = dktJ26_floatToIntBits_0 := by decide +kernel
theorem dJ26_floatToIntBits_0 : decode cJ26_floatToIntBits 0 = .ok (.fload_n 0, 1) := dk_34 (dk_at dksJ26_floatToIntBits_0 0 rfl rfl)
theorem dJ26_floatToIntBits_1 : decode cJ26_floatToIntBits 1 = .ok (.invokestatic 59, 3) := dk_184 0 59 (dk_at dksJ26_floatToIntBits_0 1 rfl rfl)
theorem dJ26_floatToIntBits_4 : decode cJ26_floatToIntBits 4 = .ok (.ifCond .ne 8, 3) := dk_154 0 8 (dk_at dksJ26_floatToIntBits_0 4 rfl rfl)
theorem dJ26_floatToIntBits_7 : decode cJ26_floatToIntBits 7 = .ok (.fload_n 0, 1) := dk_34 (dk_at dksJ26_floatToIntBits_0 7 rfl rfl)
theorem dJ26_floatToIntBits_8 : decode cJ26_floatToIntBits 8 = .ok (.invokestatic 74, 3) := dk_184 0 74 (dk_at dksJ26_floatToIntBits_0 8 rfl rfl)
theorem dJ26_floatToIntBits_11 : decode cJ26_floatToIntBits 11 = .ok (.ireturn, 1) := dk_172 (dk_at dksJ26_floatToIntBits_0 11 rfl rfl)
theorem dJ26_floatToIntBits_12 : decode cJ26_floatToIntBits 12 = .ok (.ldc 77, 2) := dk_18 77 (dk_at dksJ26_floatToIntBits_0 12 rfl rfl)
theorem dJ26_floatToIntBits_14 : decode cJ26_floatToIntBits 14 = .ok (.ireturn, 1) := dk_172 (dk_at dksJ26_floatToIntBits_0 14 rfl rfl)
abbrev cJ26_isNaN : ByteArray := prog_39_method_6_code
def yJ26_isNaN : MethodName := ⟨RJ26, "isNaN", "(F)Z"⟩
def dkwJ26_isNaN_0 : List UInt8 := [34, 34, 149, 153, 0, 7, 4, 167, 0, 4, 3, 172]
abbrev dktJ26_isNaN_0 : List UInt8 := dkwJ26_isNaN_0 ++ []
theorem dksJ26_isNaN_0 : cJ26_isNaN.data.toList.drop 0 = dktJ26_isNaN_0 := by decide +kernel
theorem dJ26_isNaN_0 : decode cJ26_isNaN 0 = .ok (.fload_n 0, 1) := dk_34 (dk_at dksJ26_isNaN_0 0 rfl rfl)
theorem dJ26_isNaN_1 : decode cJ26_isNaN 1 = .ok (.fload_n 0, 1) := dk_34 (dk_at dksJ26_isNaN_0 1 rfl rfl)
theorem dJ26_isNaN_2 : decode cJ26_isNaN 2 = .ok (.fcmp .l, 1) := dk_149 (dk_at dksJ26_isNaN_0 2 rfl rfl)
theorem dJ26_isNaN_3 : decode cJ26_isNaN 3 = .ok (.ifCond .eq 7, 3) := dk_153 0 7 (dk_at dksJ26_isNaN_0 3 rfl rfl)
theorem dJ26_isNaN_6 : decode cJ26_isNaN 6 = .ok (.iconst 1, 1) := dk_4 (dk_at dksJ26_isNaN_0 6 rfl rfl)
theorem dJ26_isNaN_7 : decode cJ26_isNaN 7 = .ok (.goto 4, 3) := dk_167 0 4 (dk_at dksJ26_isNaN_0 7 rfl rfl)
theorem dJ26_isNaN_10 : decode cJ26_isNaN 10 = .ok (.iconst 0, 1) := dk_3 (dk_at dksJ26_isNaN_0 10 rfl rfl)
theorem dJ26_isNaN_11 : decode cJ26_isNaN 11 = .ok (.ireturn, 1) := dk_172 (dk_at dksJ26_isNaN_0 11 rfl rfl)
theorem q137 : (Jvm.Cond.initialized "java/lang/Float") ∈ lw_all := lw_g (lw_at lw_m1 46 rfl) rfl
theorem q1785 : (Jvm.Cond.static ({ cls := "java/lang/Float", name := "floatToIntBits", desc := "(F)I" } : Jvm.MethodName)) ∈ lw_all := lw_g (lw_at lw_m8 14 rfl) rfl
theorem q1786 : (Jvm.Cond.code ({ cls := "java/lang/Float", name := "floatToIntBits", desc := "(F)I" } : Jvm.MethodName) prog_39_method_24_code (1 : Nat) (Option.some Jvm.ClassFile.FieldType.int)) ∈ lw_all := lw_g (lw_at lw_m8 15 rfl) rfl
theorem q1787 : (Jvm.Cond.methodLink "java/lang/Float" (59 : Nat) ({ cls := "java/lang/Float", name := "isNaN", desc := "(F)Z" } : Jvm.MethodName)) ∈ lw_all := lw_g (lw_at lw_m8 16 rfl) rfl
theorem q1788 : (Jvm.Cond.static ({ cls := "java/lang/Float", name := "isNaN", desc := "(F)Z" } : Jvm.MethodName)) ∈ lw_all := lw_g (lw_at lw_m8 17 rfl) rfl
theorem q1789 : (Jvm.Cond.code ({ cls := "java/lang/Float", name := "isNaN", desc := "(F)Z" } : Jvm.MethodName) prog_39_method_6_code (1 : Nat) (Option.some Jvm.ClassFile.FieldType.boolean)) ∈ lw_all := lw_g (lw_at lw_m8 18 rfl) rfl
theorem q1790 : (Jvm.Cond.methodLink "java/lang/Float" (74 : Nat) ({ cls := "java/lang/Float", name := "floatToRawIntBits", desc := "(F)I" } : Jvm.MethodName)) ∈ lw_all := lw_g (lw_at lw_m8 19 rfl) rfl
theorem q1791 : (Jvm.Cond.static ({ cls := "java/lang/Float", name := "floatToRawIntBits", desc := "(F)I" } : Jvm.MethodName)) ∈ lw_all := lw_g (lw_at lw_m8 20 rfl) rfl
theorem q1792 : (Jvm.Cond.native ({ cls := "java/lang/Float", name := "floatToRawIntBits", desc := "(F)I" } : Jvm.MethodName)) ∈ lw_all := lw_g (lw_at lw_m8 21 rfl) rfl
theorem q1793 : (Jvm.Cond.constant "java/lang/Float" (77 : Nat) (2143289344 : Int32)) ∈ lw_all := lw_g (lw_at lw_m8 22 rfl) rfl
/-! PolicyNotation$Reader -/
def RX18 : String := "PolicyNotation$Reader"
def TX18 : u_T := fun k => match k with
  | 0 => ("PolicyNotation$Reader", "text", "Ljava/lang/CharSequence;", true)
  | 1 => ("PolicyNotation$Reader", "draft", "LPolicyNotation$Draft;", true)
  | _ => ("PolicyNotation$Reader", "at", "I", false)
def tyX18 : Nat → FieldType := fun k => match k with
  | 0 => .object "java/lang/CharSequence"
  | 1 => .object "PolicyNotation$Draft"
  | _ => .int
abbrev wsX180 : List Cond := u_ws RX18 TX18 3
theorem nmX18 : ∀ a, a < 3 → ∀ b, b < 3 → a ≠ b → (TX18 a).2.1 ≠ (TX18 b).2.1 := by decide +kernel
theorem tyX18_ok : ∀ k, k < 3 → parseFieldDescriptor (TX18 k).2.2.1 = some (tyX18 k) := by decide +kernel
abbrev cX18_init : ByteArray := prog_16_method_1_code
def yX18_init : MethodName := ⟨RX18, "<init>", "(Ljava/lang/CharSequence;)V"⟩
def dkwX18_init_0 : List UInt8 := [42, 183, 0, 3, 42, 187, 0, 9, 89, 183, 0, 11, 181, 0, 12, 42, 43, 181, 0, 18, 177]
abbrev dktX18_init_0 : List UInt8 := dkwX18_init_0 ++ []
theorem dksX18_init_0 : cX18_init.data.toList.drop 0 = dktX18_init_0 := by decide +kernel
theorem dX18_init_0 : decode cX18_init 0 = .ok (.aload_n 0, 1) := dk_42 (dk_at dksX18_init_0 0 rfl rfl)
theorem dX18_init_1 : decode cX18_init 1 = .ok (.invokespecial 3, 3) := dk_183 0 3 (dk_at dksX18_init_0 1 rfl rfl)
theorem dX18_init_4 : decode cX18_init 4 = .ok (.aload_n 0, 1) := dk_42 (dk_at dksX18_init_0 4 rfl rfl)
theorem dX18_init_5 : decode cX18_init 5 = .ok (.new 9, 3) := dk_187 0 9 (dk_at dksX18_init_0 5 rfl rfl)
theorem dX18_init_8 : decode cX18_init 8 = .ok (.dup, 1) := dk_89 (dk_at dksX18_init_0 8 rfl rfl)
theorem dX18_init_9 : decode cX18_init 9 = .ok (.invokespecial 11, 3) := dk_183 0 11 (dk_at dksX18_init_0 9 rfl rfl)
theorem dX18_init_12 : decode cX18_init 12 = .ok (.putfield 12, 3) := dk_181 0 12 (dk_at dksX18_init_0 12 rfl rfl)
theorem dX18_init_15 : decode cX18_init 15 = .ok (.aload_n 0, 1) := dk_42 (dk_at dksX18_init_0 15 rfl rfl)
theorem dX18_init_16 : decode cX18_init 16 = .ok (.aload_n 1, 1) := dk_43 (dk_at dksX18_init_0 16 rfl rfl)
theorem dX18_init_17 : decode cX18_init 17 = .ok (.putfield 18, 3) := dk_181 0 18 (dk_at dksX18_init_0 17 rfl rfl)
theorem dX18_init_20 : decode cX18_init 20 = .ok (.return_, 1) := dk_177 (dk_at dksX18_init_0 20 rfl rfl)
abbrev cX18_all : ByteArray := prog_16_method_12_code
def yX18_all : MethodName := ⟨RX18, "all", "()LPolicyNotation$Draft;"⟩
def dkwX18_all_5 : List UInt8 := [3, 182, 0, 48, 42, 180, 0, 12, 176]
abbrev dktX18_all_5 : List UInt8 := dkwX18_all_5 ++ []
def dkwX18_all_4 : List UInt8 := [181, 0, 124, 42, 42, 180, 0, 22, 42, 180, 0, 18, 185, 0, 26, 1, 0, 160, 0, 7, 4, 167, 0, 4]
abbrev dktX18_all_4 : List UInt8 := dkwX18_all_4 ++ dktX18_all_5
def dkwX18_all_3 : List UInt8 := [182, 0, 44, 153, 0, 24, 42, 89, 180, 0, 22, 4, 96, 181, 0, 22, 42, 180, 0, 12, 42, 182, 0, 60]
abbrev dktX18_all_3 : List UInt8 := dkwX18_all_3 ++ dktX18_all_4
def dkwX18_all_2 : List UInt8 := [181, 0, 118, 42, 16, 45, 182, 0, 69, 42, 180, 0, 12, 42, 182, 0, 63, 181, 0, 121, 42, 16, 33]
abbrev dktX18_all_2 : List UInt8 := dkwX18_all_2 ++ dktX18_all_3
def dkwX18_all_1 : List UInt8 := [182, 0, 44, 153, 0, 41, 42, 89, 180, 0, 22, 4, 96, 181, 0, 22, 42, 180, 0, 12, 42, 182, 0, 63]
abbrev dktX18_all_1 : List UInt8 := dkwX18_all_1 ++ dktX18_all_2
def dkwX18_all_0 : List UInt8 := [42, 182, 0, 111, 42, 180, 0, 12, 42, 182, 0, 60, 181, 0, 113, 42, 182, 0, 116, 42, 16, 64]
abbrev dktX18_all_0 : List UInt8 := dkwX18_all_0 ++ dktX18_all_1
theorem dksX18_all_0 : cX18_all.data.toList.drop 0 = dktX18_all_0 := by decide +kernel
theorem dksX18_all_1 : cX18_all.data.toList.drop 22 = dktX18_all_1 := dk_seg dksX18_all_0 22 rfl rfl
theorem dksX18_all_2 : cX18_all.data.toList.drop 46 = dktX18_all_2 := dk_seg dksX18_all_1 24 rfl rfl
theorem dksX18_all_3 : cX18_all.data.toList.drop 69 = dktX18_all_3 := dk_seg dksX18_all_2 23 rfl rfl
theorem dksX18_all_4 : cX18_all.data.toList.drop 93 = dktX18_all_4 := dk_seg dksX18_all_3 24 rfl rfl
theorem dksX18_all_5 : cX18_all.data.toList.drop 117 = dktX18_all_5 := dk_seg dksX18_all_4 24 rfl rfl
theorem dX18_all_0 : decode cX18_all 0 = .ok (.aload_n 0, 1) := dk_42 (dk_at dksX18_all_0 0 rfl rfl)
theorem dX18_all_1 : decode cX18_all 1 = .ok (.invokevirtual 111, 3) := dk_182 0 111 (dk_at dksX18_all_0 1 rfl rfl)
theorem dX18_all_4 : decode cX18_all 4 = .ok (.aload_n 0, 1) := dk_42 (dk_at dksX18_all_0 4 rfl rfl)
theorem dX18_all_5 : decode cX18_all 5 = .ok (.getfield 12, 3) := dk_180 0 12 (dk_at dksX18_all_0 5 rfl rfl)
theorem dX18_all_8 : decode cX18_all 8 = .ok (.aload_n 0, 1) := dk_42 (dk_at dksX18_all_0 8 rfl rfl)
theorem dX18_all_9 : decode cX18_all 9 = .ok (.invokevirtual 60, 3) := dk_182 0 60 (dk_at dksX18_all_0 9 rfl rfl)
theorem dX18_all_12 : decode cX18_all 12 = .ok (.putfield 113, 3) := dk_181 0 113 (dk_at dksX18_all_0 12 rfl rfl)
theorem dX18_all_15 : decode cX18_all 15 = .ok (.aload_n 0, 1) := dk_42 (dk_at dksX18_all_0 15 rfl rfl)
theorem dX18_all_16 : decode cX18_all 16 = .ok (.invokevirtual 116, 3) := dk_182 0 116 (dk_at dksX18_all_0 16 rfl rfl)
theorem dX18_all_19 : decode cX18_all 19 = .ok (.aload_n 0, 1) := dk_42 (dk_at dksX18_all_0 19 rfl rfl)
theorem dX18_all_20 : decode cX18_all 20 = .ok (.bipush 64, 2) := dk_16 64 (dk_at dksX18_all_0 20 rfl rfl)
theorem dX18_all_22 : decode cX18_all 22 = .ok (.invokevirtual 44, 3) := dk_182 0 44 (dk_at dksX18_all_1 0 rfl rfl)
theorem dX18_all_25 : decode cX18_all 25 = .ok (.ifCond .eq 41, 3) := dk_153 0 41 (dk_at dksX18_all_1 3 rfl rfl)
theorem dX18_all_28 : decode cX18_all 28 = .ok (.aload_n 0, 1) := dk_42 (dk_at dksX18_all_1 6 rfl rfl)
theorem dX18_all_29 : decode cX18_all 29 = .ok (.dup, 1) := dk_89 (dk_at dksX18_all_1 7 rfl rfl)
theorem dX18_all_30 : decode cX18_all 30 = .ok (.getfield 22, 3) := dk_180 0 22 (dk_at dksX18_all_1 8 rfl rfl)
theorem dX18_all_33 : decode cX18_all 33 = .ok (.iconst 1, 1) := dk_4 (dk_at dksX18_all_1 11 rfl rfl)
theorem dX18_all_34 : decode cX18_all 34 = .ok (.iadd, 1) := dk_96 (dk_at dksX18_all_1 12 rfl rfl)
theorem dX18_all_35 : decode cX18_all 35 = .ok (.putfield 22, 3) := dk_181 0 22 (dk_at dksX18_all_1 13 rfl rfl)
theorem dX18_all_38 : decode cX18_all 38 = .ok (.aload_n 0, 1) := dk_42 (dk_at dksX18_all_1 16 rfl rfl)
theorem dX18_all_39 : decode cX18_all 39 = .ok (.getfield 12, 3) := dk_180 0 12 (dk_at dksX18_all_1 17 rfl rfl)
theorem dX18_all_42 : decode cX18_all 42 = .ok (.aload_n 0, 1) := dk_42 (dk_at dksX18_all_1 20 rfl rfl)
theorem dX18_all_43 : decode cX18_all 43 = .ok (.invokevirtual 63, 3) := dk_182 0 63 (dk_at dksX18_all_1 21 rfl rfl)
theorem dX18_all_46 : decode cX18_all 46 = .ok (.putfield 118, 3) := dk_181 0 118 (dk_at dksX18_all_2 0 rfl rfl)
theorem dX18_all_49 : decode cX18_all 49 = .ok (.aload_n 0, 1) := dk_42 (dk_at dksX18_all_2 3 rfl rfl)
theorem dX18_all_50 : decode cX18_all 50 = .ok (.bipush 45, 2) := dk_16 45 (dk_at dksX18_all_2 4 rfl rfl)
theorem dX18_all_52 : decode cX18_all 52 = .ok (.invokevirtual 69, 3) := dk_182 0 69 (dk_at dksX18_all_2 6 rfl rfl)
theorem dX18_all_55 : decode cX18_all 55 = .ok (.aload_n 0, 1) := dk_42 (dk_at dksX18_all_2 9 rfl rfl)
theorem dX18_all_56 : decode cX18_all 56 = .ok (.getfield 12, 3) := dk_180 0 12 (dk_at dksX18_all_2 10 rfl rfl)
theorem dX18_all_59 : decode cX18_all 59 = .ok (.aload_n 0, 1) := dk_42 (dk_at dksX18_all_2 13 rfl rfl)
theorem dX18_all_60 : decode cX18_all 60 = .ok (.invokevirtual 63, 3) := dk_182 0 63 (dk_at dksX18_all_2 14 rfl rfl)
theorem dX18_all_63 : decode cX18_all 63 = .ok (.putfield 121, 3) := dk_181 0 121 (dk_at dksX18_all_2 17 rfl rfl)
theorem dX18_all_66 : decode cX18_all 66 = .ok (.aload_n 0, 1) := dk_42 (dk_at dksX18_all_2 20 rfl rfl)
theorem dX18_all_67 : decode cX18_all 67 = .ok (.bipush 33, 2) := dk_16 33 (dk_at dksX18_all_2 21 rfl rfl)
theorem dX18_all_69 : decode cX18_all 69 = .ok (.invokevirtual 44, 3) := dk_182 0 44 (dk_at dksX18_all_3 0 rfl rfl)
theorem dX18_all_72 : decode cX18_all 72 = .ok (.ifCond .eq 24, 3) := dk_153 0 24 (dk_at dksX18_all_3 3 rfl rfl)
theorem dX18_all_75 : decode cX18_all 75 = .ok (.aload_n 0, 1) := dk_42 (dk_at dksX18_all_3 6 rfl rfl)
theorem dX18_all_76 : decode cX18_all 76 = .ok (.dup, 1) := dk_89 (dk_at dksX18_all_3 7 rfl rfl)
theorem dX18_all_77 : decode cX18_all 77 = .ok (.getfield 22, 3) := dk_180 0 22 (dk_at dksX18_all_3 8 rfl rfl)
theorem dX18_all_80 : decode cX18_all 80 = .ok (.iconst 1, 1) := dk_4 (dk_at dksX18_all_3 11 rfl rfl)
theorem dX18_all_81 : decode cX18_all 81 = .ok (.iadd, 1) := dk_96 (dk_at dksX18_all_3 12 rfl rfl)
theorem dX18_all_82 : decode cX18_all 82 = .ok (.putfield 22, 3) := dk_181 0 22 (dk_at dksX18_all_3 13 rfl rfl)
theorem dX18_all_85 : decode cX18_all 85 = .ok (.aload_n 0, 1) := dk_42 (dk_at dksX18_all_3 16 rfl rfl)
theorem dX18_all_86 : decode cX18_all 86 = .ok (.getfield 12, 3) := dk_180 0 12 (dk_at dksX18_all_3 17 rfl rfl)
theorem dX18_all_89 : decode cX18_all 89 = .ok (.aload_n 0, 1) := dk_42 (dk_at dksX18_all_3 20 rfl rfl)
theorem dX18_all_90 : decode cX18_all 90 = .ok (.invokevirtual 60, 3) := dk_182 0 60 (dk_at dksX18_all_3 21 rfl rfl)
theorem dX18_all_93 : decode cX18_all 93 = .ok (.putfield 124, 3) := dk_181 0 124 (dk_at dksX18_all_4 0 rfl rfl)
theorem dX18_all_96 : decode cX18_all 96 = .ok (.aload_n 0, 1) := dk_42 (dk_at dksX18_all_4 3 rfl rfl)
theorem dX18_all_97 : decode cX18_all 97 = .ok (.aload_n 0, 1) := dk_42 (dk_at dksX18_all_4 4 rfl rfl)
theorem dX18_all_98 : decode cX18_all 98 = .ok (.getfield 22, 3) := dk_180 0 22 (dk_at dksX18_all_4 5 rfl rfl)
theorem dX18_all_101 : decode cX18_all 101 = .ok (.aload_n 0, 1) := dk_42 (dk_at dksX18_all_4 8 rfl rfl)
theorem dX18_all_102 : decode cX18_all 102 = .ok (.getfield 18, 3) := dk_180 0 18 (dk_at dksX18_all_4 9 rfl rfl)
theorem dX18_all_105 : decode cX18_all 105 = .ok (.invokeinterface 26 1, 5) := by decide +kernel
theorem dX18_all_110 : decode cX18_all 110 = .ok (.if_icmp .ne 7, 3) := dk_160 0 7 (dk_at dksX18_all_4 17 rfl rfl)
theorem dX18_all_113 : decode cX18_all 113 = .ok (.iconst 1, 1) := dk_4 (dk_at dksX18_all_4 20 rfl rfl)
theorem dX18_all_114 : decode cX18_all 114 = .ok (.goto 4, 3) := dk_167 0 4 (dk_at dksX18_all_4 21 rfl rfl)
theorem dX18_all_117 : decode cX18_all 117 = .ok (.iconst 0, 1) := dk_3 (dk_at dksX18_all_5 0 rfl rfl)
theorem dX18_all_118 : decode cX18_all 118 = .ok (.invokevirtual 48, 3) := dk_182 0 48 (dk_at dksX18_all_5 1 rfl rfl)
theorem dX18_all_121 : decode cX18_all 121 = .ok (.aload_n 0, 1) := dk_42 (dk_at dksX18_all_5 4 rfl rfl)
theorem dX18_all_122 : decode cX18_all 122 = .ok (.getfield 12, 3) := dk_180 0 12 (dk_at dksX18_all_5 5 rfl rfl)
theorem dX18_all_125 : decode cX18_all 125 = .ok (.areturn, 1) := dk_176 (dk_at dksX18_all_5 8 rfl rfl)
abbrev cX18_head : ByteArray := prog_16_method_9_code
def yX18_head : MethodName := ⟨RX18, "head", "()V"⟩
def dkwX18_head_4 : List UInt8 := [182, 0, 48, 42, 89, 180, 0, 22, 4, 96, 181, 0, 22, 177]
abbrev dktX18_head_4 : List UInt8 := dkwX18_head_4 ++ []
def dkwX18_head_3 : List UInt8 := [132, 1, 1, 167, 255, 223, 42, 42, 180, 0, 12, 180, 0, 82, 198, 0, 7, 4, 167, 0, 4, 3]
abbrev dktX18_head_3 : List UInt8 := dkwX18_head_3 ++ dktX18_head_4
def dkwX18_head_2 : List UInt8 := [184, 0, 72, 182, 0, 76, 182, 0, 44, 153, 0, 14, 42, 180, 0, 12, 27, 184, 0, 72, 181, 0, 82]
abbrev dktX18_head_2 : List UInt8 := dkwX18_head_2 ++ dktX18_head_3
def dkwX18_head_1 : List UInt8 := [182, 0, 63, 181, 0, 66, 42, 16, 58, 182, 0, 69, 177, 3, 60, 27, 6, 162, 0, 34, 42, 27]
abbrev dktX18_head_1 : List UInt8 := dkwX18_head_1 ++ dktX18_head_2
def dkwX18_head_0 : List UInt8 := [42, 16, 120, 182, 0, 44, 153, 0, 31, 42, 89, 180, 0, 22, 4, 96, 181, 0, 22, 42, 180, 0, 12, 42]
abbrev dktX18_head_0 : List UInt8 := dkwX18_head_0 ++ dktX18_head_1
theorem dksX18_head_0 : cX18_head.data.toList.drop 0 = dktX18_head_0 := by decide +kernel
theorem dksX18_head_1 : cX18_head.data.toList.drop 24 = dktX18_head_1 := dk_seg dksX18_head_0 24 rfl rfl
theorem dksX18_head_2 : cX18_head.data.toList.drop 46 = dktX18_head_2 := dk_seg dksX18_head_1 22 rfl rfl
theorem dksX18_head_3 : cX18_head.data.toList.drop 69 = dktX18_head_3 := dk_seg dksX18_head_2 23 rfl rfl
theorem dksX18_head_4 : cX18_head.data.toList.drop 91 = dktX18_head_4 := dk_seg dksX18_head_3 22 rfl rfl
theorem dX18_head_0 : decode cX18_head 0 = .ok (.aload_n 0, 1) := dk_42 (dk_at dksX18_head_0 0 rfl rfl)
theorem dX18_head_1 : decode cX18_head 1 = .ok (.bipush 120, 2) := dk_16 120 (dk_at dksX18_head_0 1 rfl rfl)
theorem dX18_head_3 : decode cX18_head 3 = .ok (.invokevirtual 44, 3) := dk_182 0 44 (dk_at dksX18_head_0 3 rfl rfl)
theorem dX18_head_6 : decode cX18_head 6 = .ok (.ifCond .eq 31, 3) := dk_153 0 31 (dk_at dksX18_head_0 6 rfl rfl)
theorem dX18_head_9 : decode cX18_head 9 = .ok (.aload_n 0, 1) := dk_42 (dk_at dksX18_head_0 9 rfl rfl)
theorem dX18_head_10 : decode cX18_head 10 = .ok (.dup, 1) := dk_89 (dk_at dksX18_head_0 10 rfl rfl)
theorem dX18_head_11 : decode cX18_head 11 = .ok (.getfield 22, 3) := dk_180 0 22 (dk_at dksX18_head_0 11 rfl rfl)
theorem dX18_head_14 : decode cX18_head 14 = .ok (.iconst 1, 1) := dk_4 (dk_at dksX18_head_0 14 rfl rfl)
theorem dX18_head_15 : decode cX18_head 15 = .ok (.iadd, 1) := dk_96 (dk_at dksX18_head_0 15 rfl rfl)
theorem dX18_head_16 : decode cX18_head 16 = .ok (.putfield 22, 3) := dk_181 0 22 (dk_at dksX18_head_0 16 rfl rfl)
theorem dX18_head_19 : decode cX18_head 19 = .ok (.aload_n 0, 1) := dk_42 (dk_at dksX18_head_0 19 rfl rfl)
theorem dX18_head_20 : decode cX18_head 20 = .ok (.getfield 12, 3) := dk_180 0 12 (dk_at dksX18_head_0 20 rfl rfl)
theorem dX18_head_23 : decode cX18_head 23 = .ok (.aload_n 0, 1) := dk_42 (dk_at dksX18_head_0 23 rfl rfl)
theorem dX18_head_24 : decode cX18_head 24 = .ok (.invokevirtual 63, 3) := dk_182 0 63 (dk_at dksX18_head_1 0 rfl rfl)
theorem dX18_head_27 : decode cX18_head 27 = .ok (.putfield 66, 3) := dk_181 0 66 (dk_at dksX18_head_1 3 rfl rfl)
theorem dX18_head_30 : decode cX18_head 30 = .ok (.aload_n 0, 1) := dk_42 (dk_at dksX18_head_1 6 rfl rfl)
theorem dX18_head_31 : decode cX18_head 31 = .ok (.bipush 58, 2) := dk_16 58 (dk_at dksX18_head_1 7 rfl rfl)
theorem dX18_head_33 : decode cX18_head 33 = .ok (.invokevirtual 69, 3) := dk_182 0 69 (dk_at dksX18_head_1 9 rfl rfl)
theorem dX18_head_36 : decode cX18_head 36 = .ok (.return_, 1) := dk_177 (dk_at dksX18_head_1 12 rfl rfl)
theorem dX18_head_37 : decode cX18_head 37 = .ok (.iconst 0, 1) := dk_3 (dk_at dksX18_head_1 13 rfl rfl)
theorem dX18_head_38 : decode cX18_head 38 = .ok (.istore_n 1, 1) := dk_60 (dk_at dksX18_head_1 14 rfl rfl)
theorem dX18_head_39 : decode cX18_head 39 = .ok (.iload_n 1, 1) := dk_27 (dk_at dksX18_head_1 15 rfl rfl)
theorem dX18_head_40 : decode cX18_head 40 = .ok (.iconst 3, 1) := dk_6 (dk_at dksX18_head_1 16 rfl rfl)
theorem dX18_head_41 : decode cX18_head 41 = .ok (.if_icmp .ge 34, 3) := dk_162 0 34 (dk_at dksX18_head_1 17 rfl rfl)
theorem dX18_head_44 : decode cX18_head 44 = .ok (.aload_n 0, 1) := dk_42 (dk_at dksX18_head_1 20 rfl rfl)
theorem dX18_head_45 : decode cX18_head 45 = .ok (.iload_n 1, 1) := dk_27 (dk_at dksX18_head_1 21 rfl rfl)
theorem dX18_head_46 : decode cX18_head 46 = .ok (.invokestatic 72, 3) := dk_184 0 72 (dk_at dksX18_head_2 0 rfl rfl)
theorem dX18_head_49 : decode cX18_head 49 = .ok (.invokevirtual 76, 3) := dk_182 0 76 (dk_at dksX18_head_2 3 rfl rfl)
theorem dX18_head_52 : decode cX18_head 52 = .ok (.invokevirtual 44, 3) := dk_182 0 44 (dk_at dksX18_head_2 6 rfl rfl)
theorem dX18_head_55 : decode cX18_head 55 = .ok (.ifCond .eq 14, 3) := dk_153 0 14 (dk_at dksX18_head_2 9 rfl rfl)
theorem dX18_head_58 : decode cX18_head 58 = .ok (.aload_n 0, 1) := dk_42 (dk_at dksX18_head_2 12 rfl rfl)
theorem dX18_head_59 : decode cX18_head 59 = .ok (.getfield 12, 3) := dk_180 0 12 (dk_at dksX18_head_2 13 rfl rfl)
theorem dX18_head_62 : decode cX18_head 62 = .ok (.iload_n 1, 1) := dk_27 (dk_at dksX18_head_2 16 rfl rfl)
theorem dX18_head_63 : decode cX18_head 63 = .ok (.invokestatic 72, 3) := dk_184 0 72 (dk_at dksX18_head_2 17 rfl rfl)
theorem dX18_head_66 : decode cX18_head 66 = .ok (.putfield 82, 3) := dk_181 0 82 (dk_at dksX18_head_2 20 rfl rfl)
theorem dX18_head_69 : decode cX18_head 69 = .ok (.iinc 1 1, 3) := dk_132 1 1 (dk_at dksX18_head_3 0 rfl rfl)
theorem dX18_head_72 : decode cX18_head 72 = .ok (.goto (-33), 3) := dk_167 255 223 (dk_at dksX18_head_3 3 rfl rfl)
theorem dX18_head_75 : decode cX18_head 75 = .ok (.aload_n 0, 1) := dk_42 (dk_at dksX18_head_3 6 rfl rfl)
theorem dX18_head_76 : decode cX18_head 76 = .ok (.aload_n 0, 1) := dk_42 (dk_at dksX18_head_3 7 rfl rfl)
theorem dX18_head_77 : decode cX18_head 77 = .ok (.getfield 12, 3) := dk_180 0 12 (dk_at dksX18_head_3 8 rfl rfl)
theorem dX18_head_80 : decode cX18_head 80 = .ok (.getfield 82, 3) := dk_180 0 82 (dk_at dksX18_head_3 11 rfl rfl)
theorem dX18_head_83 : decode cX18_head 83 = .ok (.ifnull 7, 3) := dk_198 0 7 (dk_at dksX18_head_3 14 rfl rfl)
theorem dX18_head_86 : decode cX18_head 86 = .ok (.iconst 1, 1) := dk_4 (dk_at dksX18_head_3 17 rfl rfl)
theorem dX18_head_87 : decode cX18_head 87 = .ok (.goto 4, 3) := dk_167 0 4 (dk_at dksX18_head_3 18 rfl rfl)
theorem dX18_head_90 : decode cX18_head 90 = .ok (.iconst 0, 1) := dk_3 (dk_at dksX18_head_3 21 rfl rfl)
theorem dX18_head_91 : decode cX18_head 91 = .ok (.invokevirtual 48, 3) := dk_182 0 48 (dk_at dksX18_head_4 0 rfl rfl)
theorem dX18_head_94 : decode cX18_head 94 = .ok (.aload_n 0, 1) := dk_42 (dk_at dksX18_head_4 3 rfl rfl)
theorem dX18_head_95 : decode cX18_head 95 = .ok (.dup, 1) := dk_89 (dk_at dksX18_head_4 4 rfl rfl)
theorem dX18_head_96 : decode cX18_head 96 = .ok (.getfield 22, 3) := dk_180 0 22 (dk_at dksX18_head_4 5 rfl rfl)
theorem dX18_head_99 : decode cX18_head 99 = .ok (.iconst 1, 1) := dk_4 (dk_at dksX18_head_4 8 rfl rfl)
theorem dX18_head_100 : decode cX18_head 100 = .ok (.iadd, 1) := dk_96 (dk_at dksX18_head_4 9 rfl rfl)
theorem dX18_head_101 : decode cX18_head 101 = .ok (.putfield 22, 3) := dk_181 0 22 (dk_at dksX18_head_4 10 rfl rfl)
theorem dX18_head_104 : decode cX18_head 104 = .ok (.return_, 1) := dk_177 (dk_at dksX18_head_4 13 rfl rfl)
abbrev cX18_isHere : ByteArray := prog_16_method_3_code
def yX18_isHere : MethodName := ⟨RX18, "isHere", "(I)Z"⟩
def dkwX18_isHere_0 : List UInt8 := [42, 182, 0, 36, 27, 160, 0, 7, 4, 167, 0, 4, 3, 172]
abbrev dktX18_isHere_0 : List UInt8 := dkwX18_isHere_0 ++ []
theorem dksX18_isHere_0 : cX18_isHere.data.toList.drop 0 = dktX18_isHere_0 := by decide +kernel
theorem dX18_isHere_0 : decode cX18_isHere 0 = .ok (.aload_n 0, 1) := dk_42 (dk_at dksX18_isHere_0 0 rfl rfl)
theorem dX18_isHere_1 : decode cX18_isHere 1 = .ok (.invokevirtual 36, 3) := dk_182 0 36 (dk_at dksX18_isHere_0 1 rfl rfl)
theorem dX18_isHere_4 : decode cX18_isHere 4 = .ok (.iload_n 1, 1) := dk_27 (dk_at dksX18_isHere_0 4 rfl rfl)
theorem dX18_isHere_5 : decode cX18_isHere 5 = .ok (.if_icmp .ne 7, 3) := dk_160 0 7 (dk_at dksX18_isHere_0 5 rfl rfl)
theorem dX18_isHere_8 : decode cX18_isHere 8 = .ok (.iconst 1, 1) := dk_4 (dk_at dksX18_isHere_0 8 rfl rfl)
theorem dX18_isHere_9 : decode cX18_isHere 9 = .ok (.goto 4, 3) := dk_167 0 4 (dk_at dksX18_isHere_0 9 rfl rfl)
theorem dX18_isHere_12 : decode cX18_isHere 12 = .ok (.iconst 0, 1) := dk_3 (dk_at dksX18_isHere_0 12 rfl rfl)
theorem dX18_isHere_13 : decode cX18_isHere 13 = .ok (.ireturn, 1) := dk_172 (dk_at dksX18_isHere_0 13 rfl rfl)
abbrev cX18_here : ByteArray := prog_16_method_2_code
def yX18_here : MethodName := ⟨RX18, "here", "()I"⟩
def dkwX18_here_1 : List UInt8 := [185, 0, 32, 2, 0, 167, 0, 4, 2, 172]
abbrev dktX18_here_1 : List UInt8 := dkwX18_here_1 ++ []
def dkwX18_here_0 : List UInt8 := [42, 180, 0, 22, 42, 180, 0, 18, 185, 0, 26, 1, 0, 162, 0, 19, 42, 180, 0, 18, 42, 180, 0, 22]
abbrev dktX18_here_0 : List UInt8 := dkwX18_here_0 ++ dktX18_here_1
theorem dksX18_here_0 : cX18_here.data.toList.drop 0 = dktX18_here_0 := by decide +kernel
theorem dksX18_here_1 : cX18_here.data.toList.drop 24 = dktX18_here_1 := dk_seg dksX18_here_0 24 rfl rfl
theorem dX18_here_0 : decode cX18_here 0 = .ok (.aload_n 0, 1) := dk_42 (dk_at dksX18_here_0 0 rfl rfl)
theorem dX18_here_1 : decode cX18_here 1 = .ok (.getfield 22, 3) := dk_180 0 22 (dk_at dksX18_here_0 1 rfl rfl)
theorem dX18_here_4 : decode cX18_here 4 = .ok (.aload_n 0, 1) := dk_42 (dk_at dksX18_here_0 4 rfl rfl)
theorem dX18_here_5 : decode cX18_here 5 = .ok (.getfield 18, 3) := dk_180 0 18 (dk_at dksX18_here_0 5 rfl rfl)
theorem dX18_here_8 : decode cX18_here 8 = .ok (.invokeinterface 26 1, 5) := by decide +kernel
theorem dX18_here_13 : decode cX18_here 13 = .ok (.if_icmp .ge 19, 3) := dk_162 0 19 (dk_at dksX18_here_0 13 rfl rfl)
theorem dX18_here_16 : decode cX18_here 16 = .ok (.aload_n 0, 1) := dk_42 (dk_at dksX18_here_0 16 rfl rfl)
theorem dX18_here_17 : decode cX18_here 17 = .ok (.getfield 18, 3) := dk_180 0 18 (dk_at dksX18_here_0 17 rfl rfl)
theorem dX18_here_20 : decode cX18_here 20 = .ok (.aload_n 0, 1) := dk_42 (dk_at dksX18_here_0 20 rfl rfl)
theorem dX18_here_21 : decode cX18_here 21 = .ok (.getfield 22, 3) := dk_180 0 22 (dk_at dksX18_here_0 21 rfl rfl)
theorem dX18_here_24 : decode cX18_here 24 = .ok (.invokeinterface 32 2, 5) := by decide +kernel
theorem dX18_here_29 : decode cX18_here 29 = .ok (.goto 4, 3) := dk_167 0 4 (dk_at dksX18_here_1 5 rfl rfl)
theorem dX18_here_32 : decode cX18_here 32 = .ok (.iconst (-1), 1) := dk_2 (dk_at dksX18_here_1 8 rfl rfl)
theorem dX18_here_33 : decode cX18_here 33 = .ok (.ireturn, 1) := dk_172 (dk_at dksX18_here_1 9 rfl rfl)
abbrev cX18_number : ByteArray := prog_16_method_8_code
def yX18_number : MethodName := ⟨RX18, "number", "()I"⟩
def dkwX18_number_1 : List UInt8 := [182, 0, 60, 96, 60, 132, 2, 1, 167, 255, 231, 27, 172]
abbrev dktX18_number_1 : List UInt8 := dkwX18_number_1 ++ []
def dkwX18_number_0 : List UInt8 := [42, 182, 0, 60, 60, 4, 61, 28, 6, 162, 0, 26, 42, 182, 0, 56, 153, 0, 19, 16, 10, 27, 104, 42]
abbrev dktX18_number_0 : List UInt8 := dkwX18_number_0 ++ dktX18_number_1
theorem dksX18_number_0 : cX18_number.data.toList.drop 0 = dktX18_number_0 := by decide +kernel
theorem dksX18_number_1 : cX18_number.data.toList.drop 24 = dktX18_number_1 := dk_seg dksX18_number_0 24 rfl rfl
theorem dX18_number_0 : decode cX18_number 0 = .ok (.aload_n 0, 1) := dk_42 (dk_at dksX18_number_0 0 rfl rfl)
theorem dX18_number_1 : decode cX18_number 1 = .ok (.invokevirtual 60, 3) := dk_182 0 60 (dk_at dksX18_number_0 1 rfl rfl)
theorem dX18_number_4 : decode cX18_number 4 = .ok (.istore_n 1, 1) := dk_60 (dk_at dksX18_number_0 4 rfl rfl)
theorem dX18_number_5 : decode cX18_number 5 = .ok (.iconst 1, 1) := dk_4 (dk_at dksX18_number_0 5 rfl rfl)
theorem dX18_number_6 : decode cX18_number 6 = .ok (.istore_n 2, 1) := dk_61 (dk_at dksX18_number_0 6 rfl rfl)
theorem dX18_number_7 : decode cX18_number 7 = .ok (.iload_n 2, 1) := dk_28 (dk_at dksX18_number_0 7 rfl rfl)
theorem dX18_number_8 : decode cX18_number 8 = .ok (.iconst 3, 1) := dk_6 (dk_at dksX18_number_0 8 rfl rfl)
theorem dX18_number_9 : decode cX18_number 9 = .ok (.if_icmp .ge 26, 3) := dk_162 0 26 (dk_at dksX18_number_0 9 rfl rfl)
theorem dX18_number_12 : decode cX18_number 12 = .ok (.aload_n 0, 1) := dk_42 (dk_at dksX18_number_0 12 rfl rfl)
theorem dX18_number_13 : decode cX18_number 13 = .ok (.invokevirtual 56, 3) := dk_182 0 56 (dk_at dksX18_number_0 13 rfl rfl)
theorem dX18_number_16 : decode cX18_number 16 = .ok (.ifCond .eq 19, 3) := dk_153 0 19 (dk_at dksX18_number_0 16 rfl rfl)
theorem dX18_number_19 : decode cX18_number 19 = .ok (.bipush 10, 2) := dk_16 10 (dk_at dksX18_number_0 19 rfl rfl)
theorem dX18_number_21 : decode cX18_number 21 = .ok (.iload_n 1, 1) := dk_27 (dk_at dksX18_number_0 21 rfl rfl)
theorem dX18_number_22 : decode cX18_number 22 = .ok (.imul, 1) := dk_104 (dk_at dksX18_number_0 22 rfl rfl)
theorem dX18_number_23 : decode cX18_number 23 = .ok (.aload_n 0, 1) := dk_42 (dk_at dksX18_number_0 23 rfl rfl)
theorem dX18_number_24 : decode cX18_number 24 = .ok (.invokevirtual 60, 3) := dk_182 0 60 (dk_at dksX18_number_1 0 rfl rfl)
theorem dX18_number_27 : decode cX18_number 27 = .ok (.iadd, 1) := dk_96 (dk_at dksX18_number_1 3 rfl rfl)
theorem dX18_number_28 : decode cX18_number 28 = .ok (.istore_n 1, 1) := dk_60 (dk_at dksX18_number_1 4 rfl rfl)
theorem dX18_number_29 : decode cX18_number 29 = .ok (.iinc 2 1, 3) := dk_132 2 1 (dk_at dksX18_number_1 5 rfl rfl)
theorem dX18_number_32 : decode cX18_number 32 = .ok (.goto (-25), 3) := dk_167 255 231 (dk_at dksX18_number_1 8 rfl rfl)
theorem dX18_number_35 : decode cX18_number 35 = .ok (.iload_n 1, 1) := dk_27 (dk_at dksX18_number_1 11 rfl rfl)
theorem dX18_number_36 : decode cX18_number 36 = .ok (.ireturn, 1) := dk_172 (dk_at dksX18_number_1 12 rfl rfl)
abbrev cX18_digit : ByteArray := prog_16_method_7_code
def yX18_digit : MethodName := ⟨RX18, "digit", "()I"⟩
def dkwX18_digit_1 : List UInt8 := [180, 0, 22, 4, 100, 185, 0, 32, 2, 0, 16, 48, 100, 172]
abbrev dktX18_digit_1 : List UInt8 := dkwX18_digit_1 ++ []
def dkwX18_digit_0 : List UInt8 := [42, 42, 182, 0, 56, 182, 0, 48, 42, 89, 180, 0, 22, 4, 96, 181, 0, 22, 42, 180, 0, 18, 42]
abbrev dktX18_digit_0 : List UInt8 := dkwX18_digit_0 ++ dktX18_digit_1
theorem dksX18_digit_0 : cX18_digit.data.toList.drop 0 = dktX18_digit_0 := by decide +kernel
theorem dksX18_digit_1 : cX18_digit.data.toList.drop 23 = dktX18_digit_1 := dk_seg dksX18_digit_0 23 rfl rfl
theorem dX18_digit_0 : decode cX18_digit 0 = .ok (.aload_n 0, 1) := dk_42 (dk_at dksX18_digit_0 0 rfl rfl)
theorem dX18_digit_1 : decode cX18_digit 1 = .ok (.aload_n 0, 1) := dk_42 (dk_at dksX18_digit_0 1 rfl rfl)
theorem dX18_digit_2 : decode cX18_digit 2 = .ok (.invokevirtual 56, 3) := dk_182 0 56 (dk_at dksX18_digit_0 2 rfl rfl)
theorem dX18_digit_5 : decode cX18_digit 5 = .ok (.invokevirtual 48, 3) := dk_182 0 48 (dk_at dksX18_digit_0 5 rfl rfl)
theorem dX18_digit_8 : decode cX18_digit 8 = .ok (.aload_n 0, 1) := dk_42 (dk_at dksX18_digit_0 8 rfl rfl)
theorem dX18_digit_9 : decode cX18_digit 9 = .ok (.dup, 1) := dk_89 (dk_at dksX18_digit_0 9 rfl rfl)
theorem dX18_digit_10 : decode cX18_digit 10 = .ok (.getfield 22, 3) := dk_180 0 22 (dk_at dksX18_digit_0 10 rfl rfl)
theorem dX18_digit_13 : decode cX18_digit 13 = .ok (.iconst 1, 1) := dk_4 (dk_at dksX18_digit_0 13 rfl rfl)
theorem dX18_digit_14 : decode cX18_digit 14 = .ok (.iadd, 1) := dk_96 (dk_at dksX18_digit_0 14 rfl rfl)
theorem dX18_digit_15 : decode cX18_digit 15 = .ok (.putfield 22, 3) := dk_181 0 22 (dk_at dksX18_digit_0 15 rfl rfl)
theorem dX18_digit_18 : decode cX18_digit 18 = .ok (.aload_n 0, 1) := dk_42 (dk_at dksX18_digit_0 18 rfl rfl)
theorem dX18_digit_19 : decode cX18_digit 19 = .ok (.getfield 18, 3) := dk_180 0 18 (dk_at dksX18_digit_0 19 rfl rfl)
theorem dX18_digit_22 : decode cX18_digit 22 = .ok (.aload_n 0, 1) := dk_42 (dk_at dksX18_digit_0 22 rfl rfl)
theorem dX18_digit_23 : decode cX18_digit 23 = .ok (.getfield 22, 3) := dk_180 0 22 (dk_at dksX18_digit_1 0 rfl rfl)
theorem dX18_digit_26 : decode cX18_digit 26 = .ok (.iconst 1, 1) := dk_4 (dk_at dksX18_digit_1 3 rfl rfl)
theorem dX18_digit_27 : decode cX18_digit 27 = .ok (.isub, 1) := dk_100 (dk_at dksX18_digit_1 4 rfl rfl)
theorem dX18_digit_28 : decode cX18_digit 28 = .ok (.invokeinterface 32 2, 5) := by decide +kernel
theorem dX18_digit_33 : decode cX18_digit 33 = .ok (.bipush 48, 2) := dk_16 48 (dk_at dksX18_digit_1 10 rfl rfl)
theorem dX18_digit_35 : decode cX18_digit 35 = .ok (.isub, 1) := dk_100 (dk_at dksX18_digit_1 12 rfl rfl)
theorem dX18_digit_36 : decode cX18_digit 36 = .ok (.ireturn, 1) := dk_172 (dk_at dksX18_digit_1 13 rfl rfl)
abbrev cX18_isDigit : ByteArray := prog_16_method_6_code
def yX18_isDigit : MethodName := ⟨RX18, "isDigit", "()Z"⟩
def dkwX18_isDigit_0 : List UInt8 := [42, 182, 0, 36, 16, 48, 16, 57, 184, 0, 52, 172]
abbrev dktX18_isDigit_0 : List UInt8 := dkwX18_isDigit_0 ++ []
theorem dksX18_isDigit_0 : cX18_isDigit.data.toList.drop 0 = dktX18_isDigit_0 := by decide +kernel
theorem dX18_isDigit_0 : decode cX18_isDigit 0 = .ok (.aload_n 0, 1) := dk_42 (dk_at dksX18_isDigit_0 0 rfl rfl)
theorem dX18_isDigit_1 : decode cX18_isDigit 1 = .ok (.invokevirtual 36, 3) := dk_182 0 36 (dk_at dksX18_isDigit_0 1 rfl rfl)
theorem dX18_isDigit_4 : decode cX18_isDigit 4 = .ok (.bipush 48, 2) := dk_16 48 (dk_at dksX18_isDigit_0 4 rfl rfl)
theorem dX18_isDigit_6 : decode cX18_isDigit 6 = .ok (.bipush 57, 2) := dk_16 57 (dk_at dksX18_isDigit_0 6 rfl rfl)
theorem dX18_isDigit_8 : decode cX18_isDigit 8 = .ok (.invokestatic 52, 3) := dk_184 0 52 (dk_at dksX18_isDigit_0 8 rfl rfl)
theorem dX18_isDigit_11 : decode cX18_isDigit 11 = .ok (.ireturn, 1) := dk_172 (dk_at dksX18_isDigit_0 11 rfl rfl)
abbrev cX18_needs : ByteArray := prog_16_method_4_code
def yX18_needs : MethodName := ⟨RX18, "needs", "(Z)V"⟩
def dkwX18_needs_0 : List UInt8 := [27, 154, 0, 15, 187, 0, 39, 89, 42, 180, 0, 22, 183, 0, 41, 191, 177]
abbrev dktX18_needs_0 : List UInt8 := dkwX18_needs_0 ++ []
theorem dksX18_needs_0 : cX18_needs.data.toList.drop 0 = dktX18_needs_0 := by decide +kernel
theorem dX18_needs_0 : decode cX18_needs 0 = .ok (.iload_n 1, 1) := dk_27 (dk_at dksX18_needs_0 0 rfl rfl)
theorem dX18_needs_1 : decode cX18_needs 1 = .ok (.ifCond .ne 15, 3) := dk_154 0 15 (dk_at dksX18_needs_0 1 rfl rfl)
theorem dX18_needs_4 : decode cX18_needs 4 = .ok (.new 39, 3) := dk_187 0 39 (dk_at dksX18_needs_0 4 rfl rfl)
theorem dX18_needs_7 : decode cX18_needs 7 = .ok (.dup, 1) := dk_89 (dk_at dksX18_needs_0 7 rfl rfl)
theorem dX18_needs_8 : decode cX18_needs 8 = .ok (.aload_n 0, 1) := dk_42 (dk_at dksX18_needs_0 8 rfl rfl)
theorem dX18_needs_9 : decode cX18_needs 9 = .ok (.getfield 22, 3) := dk_180 0 22 (dk_at dksX18_needs_0 9 rfl rfl)
theorem dX18_needs_12 : decode cX18_needs 12 = .ok (.invokespecial 41, 3) := dk_183 0 41 (dk_at dksX18_needs_0 12 rfl rfl)
theorem dX18_needs_15 : decode cX18_needs 15 = .ok (.athrow, 1) := dk_191 (dk_at dksX18_needs_0 15 rfl rfl)
theorem dX18_needs_16 : decode cX18_needs 16 = .ok (.return_, 1) := dk_177 (dk_at dksX18_needs_0 16 rfl rfl)
abbrev cX18_takes : ByteArray := prog_16_method_5_code
def yX18_takes : MethodName := ⟨RX18, "takes", "(I)V"⟩
def dkwX18_takes_0 : List UInt8 := [42, 42, 27, 182, 0, 44, 182, 0, 48, 42, 89, 180, 0, 22, 4, 96, 181, 0, 22, 177]
abbrev dktX18_takes_0 : List UInt8 := dkwX18_takes_0 ++ []
theorem dksX18_takes_0 : cX18_takes.data.toList.drop 0 = dktX18_takes_0 := by decide +kernel
theorem dX18_takes_0 : decode cX18_takes 0 = .ok (.aload_n 0, 1) := dk_42 (dk_at dksX18_takes_0 0 rfl rfl)
theorem dX18_takes_1 : decode cX18_takes 1 = .ok (.aload_n 0, 1) := dk_42 (dk_at dksX18_takes_0 1 rfl rfl)
theorem dX18_takes_2 : decode cX18_takes 2 = .ok (.iload_n 1, 1) := dk_27 (dk_at dksX18_takes_0 2 rfl rfl)
theorem dX18_takes_3 : decode cX18_takes 3 = .ok (.invokevirtual 44, 3) := dk_182 0 44 (dk_at dksX18_takes_0 3 rfl rfl)
theorem dX18_takes_6 : decode cX18_takes 6 = .ok (.invokevirtual 48, 3) := dk_182 0 48 (dk_at dksX18_takes_0 6 rfl rfl)
theorem dX18_takes_9 : decode cX18_takes 9 = .ok (.aload_n 0, 1) := dk_42 (dk_at dksX18_takes_0 9 rfl rfl)
theorem dX18_takes_10 : decode cX18_takes 10 = .ok (.dup, 1) := dk_89 (dk_at dksX18_takes_0 10 rfl rfl)
theorem dX18_takes_11 : decode cX18_takes 11 = .ok (.getfield 22, 3) := dk_180 0 22 (dk_at dksX18_takes_0 11 rfl rfl)
theorem dX18_takes_14 : decode cX18_takes 14 = .ok (.iconst 1, 1) := dk_4 (dk_at dksX18_takes_0 14 rfl rfl)
theorem dX18_takes_15 : decode cX18_takes 15 = .ok (.iadd, 1) := dk_96 (dk_at dksX18_takes_0 15 rfl rfl)
theorem dX18_takes_16 : decode cX18_takes 16 = .ok (.putfield 22, 3) := dk_181 0 22 (dk_at dksX18_takes_0 16 rfl rfl)
theorem dX18_takes_19 : decode cX18_takes 19 = .ok (.return_, 1) := dk_177 (dk_at dksX18_takes_0 19 rfl rfl)
abbrev cX18_tests : ByteArray := prog_16_method_11_code
def yX18_tests : MethodName := ⟨RX18, "tests", "()V"⟩
def dkwX18_tests_2 : List UInt8 := [181, 0, 22, 42, 182, 0, 108, 167, 255, 233, 42, 16, 41, 182, 0, 69, 177]
abbrev dktX18_tests_2 : List UInt8 := dkwX18_tests_2 ++ []
def dkwX18_tests_1 : List UInt8 := [181, 0, 22, 177, 42, 182, 0, 108, 42, 16, 44, 182, 0, 44, 153, 0, 20, 42, 89, 180, 0, 22, 4, 96]
abbrev dktX18_tests_1 : List UInt8 := dkwX18_tests_1 ++ dktX18_tests_2
def dkwX18_tests_0 : List UInt8 := [42, 16, 40, 182, 0, 69, 42, 16, 41, 182, 0, 44, 153, 0, 14, 42, 89, 180, 0, 22, 4, 96]
abbrev dktX18_tests_0 : List UInt8 := dkwX18_tests_0 ++ dktX18_tests_1
theorem dksX18_tests_0 : cX18_tests.data.toList.drop 0 = dktX18_tests_0 := by decide +kernel
theorem dksX18_tests_1 : cX18_tests.data.toList.drop 22 = dktX18_tests_1 := dk_seg dksX18_tests_0 22 rfl rfl
theorem dksX18_tests_2 : cX18_tests.data.toList.drop 46 = dktX18_tests_2 := dk_seg dksX18_tests_1 24 rfl rfl
theorem dX18_tests_0 : decode cX18_tests 0 = .ok (.aload_n 0, 1) := dk_42 (dk_at dksX18_tests_0 0 rfl rfl)
theorem dX18_tests_1 : decode cX18_tests 1 = .ok (.bipush 40, 2) := dk_16 40 (dk_at dksX18_tests_0 1 rfl rfl)
theorem dX18_tests_3 : decode cX18_tests 3 = .ok (.invokevirtual 69, 3) := dk_182 0 69 (dk_at dksX18_tests_0 3 rfl rfl)
theorem dX18_tests_6 : decode cX18_tests 6 = .ok (.aload_n 0, 1) := dk_42 (dk_at dksX18_tests_0 6 rfl rfl)
theorem dX18_tests_7 : decode cX18_tests 7 = .ok (.bipush 41, 2) := dk_16 41 (dk_at dksX18_tests_0 7 rfl rfl)
theorem dX18_tests_9 : decode cX18_tests 9 = .ok (.invokevirtual 44, 3) := dk_182 0 44 (dk_at dksX18_tests_0 9 rfl rfl)
theorem dX18_tests_12 : decode cX18_tests 12 = .ok (.ifCond .eq 14, 3) := dk_153 0 14 (dk_at dksX18_tests_0 12 rfl rfl)
theorem dX18_tests_15 : decode cX18_tests 15 = .ok (.aload_n 0, 1) := dk_42 (dk_at dksX18_tests_0 15 rfl rfl)
theorem dX18_tests_16 : decode cX18_tests 16 = .ok (.dup, 1) := dk_89 (dk_at dksX18_tests_0 16 rfl rfl)
theorem dX18_tests_17 : decode cX18_tests 17 = .ok (.getfield 22, 3) := dk_180 0 22 (dk_at dksX18_tests_0 17 rfl rfl)
theorem dX18_tests_20 : decode cX18_tests 20 = .ok (.iconst 1, 1) := dk_4 (dk_at dksX18_tests_0 20 rfl rfl)
theorem dX18_tests_21 : decode cX18_tests 21 = .ok (.iadd, 1) := dk_96 (dk_at dksX18_tests_0 21 rfl rfl)
theorem dX18_tests_22 : decode cX18_tests 22 = .ok (.putfield 22, 3) := dk_181 0 22 (dk_at dksX18_tests_1 0 rfl rfl)
theorem dX18_tests_25 : decode cX18_tests 25 = .ok (.return_, 1) := dk_177 (dk_at dksX18_tests_1 3 rfl rfl)
theorem dX18_tests_26 : decode cX18_tests 26 = .ok (.aload_n 0, 1) := dk_42 (dk_at dksX18_tests_1 4 rfl rfl)
theorem dX18_tests_27 : decode cX18_tests 27 = .ok (.invokevirtual 108, 3) := dk_182 0 108 (dk_at dksX18_tests_1 5 rfl rfl)
theorem dX18_tests_30 : decode cX18_tests 30 = .ok (.aload_n 0, 1) := dk_42 (dk_at dksX18_tests_1 8 rfl rfl)
theorem dX18_tests_31 : decode cX18_tests 31 = .ok (.bipush 44, 2) := dk_16 44 (dk_at dksX18_tests_1 9 rfl rfl)
theorem dX18_tests_33 : decode cX18_tests 33 = .ok (.invokevirtual 44, 3) := dk_182 0 44 (dk_at dksX18_tests_1 11 rfl rfl)
theorem dX18_tests_36 : decode cX18_tests 36 = .ok (.ifCond .eq 20, 3) := dk_153 0 20 (dk_at dksX18_tests_1 14 rfl rfl)
theorem dX18_tests_39 : decode cX18_tests 39 = .ok (.aload_n 0, 1) := dk_42 (dk_at dksX18_tests_1 17 rfl rfl)
theorem dX18_tests_40 : decode cX18_tests 40 = .ok (.dup, 1) := dk_89 (dk_at dksX18_tests_1 18 rfl rfl)
theorem dX18_tests_41 : decode cX18_tests 41 = .ok (.getfield 22, 3) := dk_180 0 22 (dk_at dksX18_tests_1 19 rfl rfl)
theorem dX18_tests_44 : decode cX18_tests 44 = .ok (.iconst 1, 1) := dk_4 (dk_at dksX18_tests_1 22 rfl rfl)
theorem dX18_tests_45 : decode cX18_tests 45 = .ok (.iadd, 1) := dk_96 (dk_at dksX18_tests_1 23 rfl rfl)
theorem dX18_tests_46 : decode cX18_tests 46 = .ok (.putfield 22, 3) := dk_181 0 22 (dk_at dksX18_tests_2 0 rfl rfl)
theorem dX18_tests_49 : decode cX18_tests 49 = .ok (.aload_n 0, 1) := dk_42 (dk_at dksX18_tests_2 3 rfl rfl)
theorem dX18_tests_50 : decode cX18_tests 50 = .ok (.invokevirtual 108, 3) := dk_182 0 108 (dk_at dksX18_tests_2 4 rfl rfl)
theorem dX18_tests_53 : decode cX18_tests 53 = .ok (.goto (-23), 3) := dk_167 255 233 (dk_at dksX18_tests_2 7 rfl rfl)
theorem dX18_tests_56 : decode cX18_tests 56 = .ok (.aload_n 0, 1) := dk_42 (dk_at dksX18_tests_2 10 rfl rfl)
theorem dX18_tests_57 : decode cX18_tests 57 = .ok (.bipush 41, 2) := dk_16 41 (dk_at dksX18_tests_2 11 rfl rfl)
theorem dX18_tests_59 : decode cX18_tests 59 = .ok (.invokevirtual 69, 3) := dk_182 0 69 (dk_at dksX18_tests_2 13 rfl rfl)
theorem dX18_tests_62 : decode cX18_tests 62 = .ok (.return_, 1) := dk_177 (dk_at dksX18_tests_2 16 rfl rfl)
abbrev cX18_test : ByteArray := prog_16_method_10_code
def yX18_test : MethodName := ⟨RX18, "test", "()V"⟩
def dkwX18_test_4 : List UInt8 := [182, 0, 102, 87, 177]
abbrev dktX18_test_4 : List UInt8 := dkwX18_test_4 ++ []
def dkwX18_test_3 : List UInt8 := [180, 0, 22, 4, 96, 181, 0, 22, 42, 180, 0, 12, 180, 0, 94, 27, 28, 42, 182, 0, 60, 184, 0, 98]
abbrev dktX18_test_3 : List UInt8 := dkwX18_test_3 ++ dktX18_test_4
def dkwX18_test_2 : List UInt8 := [182, 0, 36, 182, 0, 88, 61, 42, 28, 2, 159, 0, 7, 4, 167, 0, 4, 3, 182, 0, 48, 42, 89]
abbrev dktX18_test_2 : List UInt8 := dkwX18_test_2 ++ dktX18_test_3
def dkwX18_test_1 : List UInt8 := [89, 180, 0, 22, 4, 96, 181, 0, 22, 42, 182, 0, 36, 2, 160, 0, 7, 2, 167, 0, 12, 18, 86, 42]
abbrev dktX18_test_1 : List UInt8 := dkwX18_test_1 ++ dktX18_test_2
def dkwX18_test_0 : List UInt8 := [42, 42, 182, 0, 36, 16, 97, 16, 102, 184, 0, 52, 182, 0, 48, 42, 182, 0, 36, 16, 97, 100, 60, 42]
abbrev dktX18_test_0 : List UInt8 := dkwX18_test_0 ++ dktX18_test_1
theorem dksX18_test_0 : cX18_test.data.toList.drop 0 = dktX18_test_0 := by decide +kernel
theorem dksX18_test_1 : cX18_test.data.toList.drop 24 = dktX18_test_1 := dk_seg dksX18_test_0 24 rfl rfl
theorem dksX18_test_2 : cX18_test.data.toList.drop 48 = dktX18_test_2 := dk_seg dksX18_test_1 24 rfl rfl
theorem dksX18_test_3 : cX18_test.data.toList.drop 71 = dktX18_test_3 := dk_seg dksX18_test_2 23 rfl rfl
theorem dksX18_test_4 : cX18_test.data.toList.drop 95 = dktX18_test_4 := dk_seg dksX18_test_3 24 rfl rfl
theorem dX18_test_0 : decode cX18_test 0 = .ok (.aload_n 0, 1) := dk_42 (dk_at dksX18_test_0 0 rfl rfl)
theorem dX18_test_1 : decode cX18_test 1 = .ok (.aload_n 0, 1) := dk_42 (dk_at dksX18_test_0 1 rfl rfl)
theorem dX18_test_2 : decode cX18_test 2 = .ok (.invokevirtual 36, 3) := dk_182 0 36 (dk_at dksX18_test_0 2 rfl rfl)
theorem dX18_test_5 : decode cX18_test 5 = .ok (.bipush 97, 2) := dk_16 97 (dk_at dksX18_test_0 5 rfl rfl)
theorem dX18_test_7 : decode cX18_test 7 = .ok (.bipush 102, 2) := dk_16 102 (dk_at dksX18_test_0 7 rfl rfl)
theorem dX18_test_9 : decode cX18_test 9 = .ok (.invokestatic 52, 3) := dk_184 0 52 (dk_at dksX18_test_0 9 rfl rfl)
theorem dX18_test_12 : decode cX18_test 12 = .ok (.invokevirtual 48, 3) := dk_182 0 48 (dk_at dksX18_test_0 12 rfl rfl)
theorem dX18_test_15 : decode cX18_test 15 = .ok (.aload_n 0, 1) := dk_42 (dk_at dksX18_test_0 15 rfl rfl)
theorem dX18_test_16 : decode cX18_test 16 = .ok (.invokevirtual 36, 3) := dk_182 0 36 (dk_at dksX18_test_0 16 rfl rfl)
theorem dX18_test_19 : decode cX18_test 19 = .ok (.bipush 97, 2) := dk_16 97 (dk_at dksX18_test_0 19 rfl rfl)
theorem dX18_test_21 : decode cX18_test 21 = .ok (.isub, 1) := dk_100 (dk_at dksX18_test_0 21 rfl rfl)
theorem dX18_test_22 : decode cX18_test 22 = .ok (.istore_n 1, 1) := dk_60 (dk_at dksX18_test_0 22 rfl rfl)
theorem dX18_test_23 : decode cX18_test 23 = .ok (.aload_n 0, 1) := dk_42 (dk_at dksX18_test_0 23 rfl rfl)
theorem dX18_test_24 : decode cX18_test 24 = .ok (.dup, 1) := dk_89 (dk_at dksX18_test_1 0 rfl rfl)
theorem dX18_test_25 : decode cX18_test 25 = .ok (.getfield 22, 3) := dk_180 0 22 (dk_at dksX18_test_1 1 rfl rfl)
theorem dX18_test_28 : decode cX18_test 28 = .ok (.iconst 1, 1) := dk_4 (dk_at dksX18_test_1 4 rfl rfl)
theorem dX18_test_29 : decode cX18_test 29 = .ok (.iadd, 1) := dk_96 (dk_at dksX18_test_1 5 rfl rfl)
theorem dX18_test_30 : decode cX18_test 30 = .ok (.putfield 22, 3) := dk_181 0 22 (dk_at dksX18_test_1 6 rfl rfl)
theorem dX18_test_33 : decode cX18_test 33 = .ok (.aload_n 0, 1) := dk_42 (dk_at dksX18_test_1 9 rfl rfl)
theorem dX18_test_34 : decode cX18_test 34 = .ok (.invokevirtual 36, 3) := dk_182 0 36 (dk_at dksX18_test_1 10 rfl rfl)
theorem dX18_test_37 : decode cX18_test 37 = .ok (.iconst (-1), 1) := dk_2 (dk_at dksX18_test_1 13 rfl rfl)
theorem dX18_test_38 : decode cX18_test 38 = .ok (.if_icmp .ne 7, 3) := dk_160 0 7 (dk_at dksX18_test_1 14 rfl rfl)
theorem dX18_test_41 : decode cX18_test 41 = .ok (.iconst (-1), 1) := dk_2 (dk_at dksX18_test_1 17 rfl rfl)
theorem dX18_test_42 : decode cX18_test 42 = .ok (.goto 12, 3) := dk_167 0 12 (dk_at dksX18_test_1 18 rfl rfl)
theorem dX18_test_45 : decode cX18_test 45 = .ok (.ldc 86, 2) := dk_18 86 (dk_at dksX18_test_1 21 rfl rfl)
theorem dX18_test_47 : decode cX18_test 47 = .ok (.aload_n 0, 1) := dk_42 (dk_at dksX18_test_1 23 rfl rfl)
theorem dX18_test_48 : decode cX18_test 48 = .ok (.invokevirtual 36, 3) := dk_182 0 36 (dk_at dksX18_test_2 0 rfl rfl)
theorem dX18_test_51 : decode cX18_test 51 = .ok (.invokevirtual 88, 3) := dk_182 0 88 (dk_at dksX18_test_2 3 rfl rfl)
theorem dX18_test_54 : decode cX18_test 54 = .ok (.istore_n 2, 1) := dk_61 (dk_at dksX18_test_2 6 rfl rfl)
theorem dX18_test_55 : decode cX18_test 55 = .ok (.aload_n 0, 1) := dk_42 (dk_at dksX18_test_2 7 rfl rfl)
theorem dX18_test_56 : decode cX18_test 56 = .ok (.iload_n 2, 1) := dk_28 (dk_at dksX18_test_2 8 rfl rfl)
theorem dX18_test_57 : decode cX18_test 57 = .ok (.iconst (-1), 1) := dk_2 (dk_at dksX18_test_2 9 rfl rfl)
theorem dX18_test_58 : decode cX18_test 58 = .ok (.if_icmp .eq 7, 3) := dk_159 0 7 (dk_at dksX18_test_2 10 rfl rfl)
theorem dX18_test_61 : decode cX18_test 61 = .ok (.iconst 1, 1) := dk_4 (dk_at dksX18_test_2 13 rfl rfl)
theorem dX18_test_62 : decode cX18_test 62 = .ok (.goto 4, 3) := dk_167 0 4 (dk_at dksX18_test_2 14 rfl rfl)
theorem dX18_test_65 : decode cX18_test 65 = .ok (.iconst 0, 1) := dk_3 (dk_at dksX18_test_2 17 rfl rfl)
theorem dX18_test_66 : decode cX18_test 66 = .ok (.invokevirtual 48, 3) := dk_182 0 48 (dk_at dksX18_test_2 18 rfl rfl)
theorem dX18_test_69 : decode cX18_test 69 = .ok (.aload_n 0, 1) := dk_42 (dk_at dksX18_test_2 21 rfl rfl)
theorem dX18_test_70 : decode cX18_test 70 = .ok (.dup, 1) := dk_89 (dk_at dksX18_test_2 22 rfl rfl)
theorem dX18_test_71 : decode cX18_test 71 = .ok (.getfield 22, 3) := dk_180 0 22 (dk_at dksX18_test_3 0 rfl rfl)
theorem dX18_test_74 : decode cX18_test 74 = .ok (.iconst 1, 1) := dk_4 (dk_at dksX18_test_3 3 rfl rfl)
theorem dX18_test_75 : decode cX18_test 75 = .ok (.iadd, 1) := dk_96 (dk_at dksX18_test_3 4 rfl rfl)
theorem dX18_test_76 : decode cX18_test 76 = .ok (.putfield 22, 3) := dk_181 0 22 (dk_at dksX18_test_3 5 rfl rfl)
theorem dX18_test_79 : decode cX18_test 79 = .ok (.aload_n 0, 1) := dk_42 (dk_at dksX18_test_3 8 rfl rfl)
theorem dX18_test_80 : decode cX18_test 80 = .ok (.getfield 12, 3) := dk_180 0 12 (dk_at dksX18_test_3 9 rfl rfl)
theorem dX18_test_83 : decode cX18_test 83 = .ok (.getfield 94, 3) := dk_180 0 94 (dk_at dksX18_test_3 12 rfl rfl)
theorem dX18_test_86 : decode cX18_test 86 = .ok (.iload_n 1, 1) := dk_27 (dk_at dksX18_test_3 15 rfl rfl)
theorem dX18_test_87 : decode cX18_test 87 = .ok (.iload_n 2, 1) := dk_28 (dk_at dksX18_test_3 16 rfl rfl)
theorem dX18_test_88 : decode cX18_test 88 = .ok (.aload_n 0, 1) := dk_42 (dk_at dksX18_test_3 17 rfl rfl)
theorem dX18_test_89 : decode cX18_test 89 = .ok (.invokevirtual 60, 3) := dk_182 0 60 (dk_at dksX18_test_3 18 rfl rfl)
theorem dX18_test_92 : decode cX18_test 92 = .ok (.invokestatic 98, 3) := dk_184 0 98 (dk_at dksX18_test_3 21 rfl rfl)
theorem dX18_test_95 : decode cX18_test 95 = .ok (.invokevirtual 102, 3) := dk_182 0 102 (dk_at dksX18_test_4 0 rfl rfl)
theorem dX18_test_98 : decode cX18_test 98 = .ok (.pop, 1) := dk_87 (dk_at dksX18_test_4 3 rfl rfl)
theorem dX18_test_99 : decode cX18_test 99 = .ok (.return_, 1) := dk_177 (dk_at dksX18_test_4 4 rfl rfl)
theorem q138 : (Jvm.Cond.initialized "PolicyNotation$Reader") ∈ lw_all := lw_g (lw_at lw_m1 47 rfl) rfl
theorem q565 : (Jvm.Cond.selects "PolicyNotation$Reader" ({ cls := "java/lang/Object", name := "getClass", desc := "()Ljava/lang/Class;" } : Jvm.MethodName) ({ cls := "java/lang/Object", name := "getClass", desc := "()Ljava/lang/Class;" } : Jvm.MethodName)) ∈ lw_all := lw_g (lw_at lw_m2 234 rfl) rfl
theorem q1839 : (Jvm.Cond.instantiable "PolicyNotation$Reader" (3 : Nat)) ∈ lw_all := lw_g (lw_at lw_m8 68 rfl) rfl
theorem q1841 : (Jvm.Cond.instanceMethod ({ cls := "PolicyNotation$Reader", name := "<init>", desc := "(Ljava/lang/CharSequence;)V" } : Jvm.MethodName)) ∈ lw_all := lw_g (lw_at lw_m8 70 rfl) rfl
theorem q1842 : (Jvm.Cond.code ({ cls := "PolicyNotation$Reader", name := "<init>", desc := "(Ljava/lang/CharSequence;)V" } : Jvm.MethodName) prog_16_method_1_code (2 : Nat) (Option.none : Option Jvm.ClassFile.FieldType)) ∈ lw_all := lw_g (lw_at lw_m8 71 rfl) rfl
theorem q1843 : (Jvm.Cond.methodLink "PolicyNotation$Reader" (3 : Nat) ({ cls := "java/lang/Object", name := "<init>", desc := "()V" } : Jvm.MethodName)) ∈ lw_all := lw_g (lw_at lw_m8 72 rfl) rfl
theorem q1844 : (Jvm.Cond.classLink "PolicyNotation$Reader" (9 : Nat) "PolicyNotation$Draft") ∈ lw_all := lw_g (lw_at lw_m8 73 rfl) rfl
theorem q1846 : (Jvm.Cond.methodLinkNest "PolicyNotation$Reader" (11 : Nat) ({ cls := "PolicyNotation$Draft", name := "<init>", desc := "()V" } : Jvm.MethodName) "PolicyNotation") ∈ lw_tbl := lw_at lw_m8 75 rfl
theorem q1854 : (Jvm.Cond.fieldLinkNest "PolicyNotation$Reader" (82 : Nat) "PolicyNotation$Draft" "effect" "LPolicyNotation$Effect;" "PolicyNotation") ∈ lw_tbl := lw_at lw_m8 83 rfl
theorem q1857 : (Jvm.Cond.fieldLinkNest "PolicyNotation$Reader" (66 : Nat) "PolicyNotation$Draft" "of" "I" "PolicyNotation") ∈ lw_tbl := lw_at lw_m8 86 rfl
theorem q1859 : (Jvm.Cond.fieldLinkNest "PolicyNotation$Reader" (113 : Nat) "PolicyNotation$Draft" "scope" "I" "PolicyNotation") ∈ lw_tbl := lw_at lw_m8 88 rfl
theorem q1861 : (Jvm.Cond.fieldLinkNest "PolicyNotation$Reader" (124 : Nat) "PolicyNotation$Draft" "rank" "I" "PolicyNotation") ∈ lw_tbl := lw_at lw_m8 90 rfl
theorem q1863 : (Jvm.Cond.fieldLinkNest "PolicyNotation$Reader" (118 : Nat) "PolicyNotation$Draft" "first" "I" "PolicyNotation") ∈ lw_tbl := lw_at lw_m8 92 rfl
theorem q1866 : (Jvm.Cond.fieldLinkNest "PolicyNotation$Reader" (121 : Nat) "PolicyNotation$Draft" "last" "I" "PolicyNotation") ∈ lw_tbl := lw_at lw_m8 95 rfl
theorem q1869 : (Jvm.Cond.fieldLinkNest "PolicyNotation$Reader" (94 : Nat) "PolicyNotation$Draft" "tests" "Ljava/util/ArrayList;" "PolicyNotation") ∈ lw_tbl := lw_at lw_m8 98 rfl
theorem q1886 : (Jvm.Cond.fieldLink "PolicyNotation$Reader" (18 : Nat) "PolicyNotation$Reader" "text" "Ljava/lang/CharSequence;") ∈ lw_all := lw_g (lw_at lw_m8 115 rfl) rfl
theorem q1887 : (Jvm.Cond.fieldLink "PolicyNotation$Reader" (12 : Nat) "PolicyNotation$Reader" "draft" "LPolicyNotation$Draft;") ∈ lw_all := lw_g (lw_at lw_m8 116 rfl) rfl
theorem q1888 : (Jvm.Cond.fieldLink "PolicyNotation$Reader" (22 : Nat) "PolicyNotation$Reader" "at" "I") ∈ lw_all := lw_g (lw_at lw_m8 117 rfl) rfl
theorem q1889 : (Jvm.Cond.laysFinal "PolicyNotation$Reader" "PolicyNotation$Reader" "text" "Ljava/lang/CharSequence;") ∈ lw_all := lw_g (lw_at lw_m8 118 rfl) rfl
theorem q1890 : (Jvm.Cond.soleField "PolicyNotation$Reader" "text") ∈ lw_all := lw_g (lw_at lw_m8 119 rfl) rfl
theorem q1891 : (Jvm.Cond.laysFinal "PolicyNotation$Reader" "PolicyNotation$Reader" "draft" "LPolicyNotation$Draft;") ∈ lw_all := lw_g (lw_at lw_m8 120 rfl) rfl
theorem q1892 : (Jvm.Cond.soleField "PolicyNotation$Reader" "draft") ∈ lw_all := lw_g (lw_at lw_m8 121 rfl) rfl
theorem q1893 : (Jvm.Cond.lays "PolicyNotation$Reader" "PolicyNotation$Reader" "at" "I") ∈ lw_all := lw_g (lw_at lw_m8 122 rfl) rfl
theorem q1894 : (Jvm.Cond.soleField "PolicyNotation$Reader" "at") ∈ lw_all := lw_g (lw_at lw_m8 123 rfl) rfl
theorem q1895 : (Jvm.Cond.superclass "PolicyNotation$Reader" "java/lang/Object") ∈ lw_all := lw_g (lw_at lw_m8 124 rfl) rfl
theorem q1897 : (Jvm.Cond.instanceMethod ({ cls := "PolicyNotation$Reader", name := "all", desc := "()LPolicyNotation$Draft;" } : Jvm.MethodName)) ∈ lw_all := lw_g (lw_at lw_m8 126 rfl) rfl
theorem q1898 : (Jvm.Cond.selects "PolicyNotation$Reader" ({ cls := "PolicyNotation$Reader", name := "all", desc := "()LPolicyNotation$Draft;" } : Jvm.MethodName) ({ cls := "PolicyNotation$Reader", name := "all", desc := "()LPolicyNotation$Draft;" } : Jvm.MethodName)) ∈ lw_all := lw_g (lw_at lw_m8 127 rfl) rfl
theorem q1899 : (Jvm.Cond.code ({ cls := "PolicyNotation$Reader", name := "all", desc := "()LPolicyNotation$Draft;" } : Jvm.MethodName) prog_16_method_12_code (1 : Nat) (Option.some (Jvm.ClassFile.FieldType.object "PolicyNotation$Draft"))) ∈ lw_all := lw_g (lw_at lw_m8 128 rfl) rfl
theorem q1900 : (Jvm.Cond.methodLink "PolicyNotation$Reader" (111 : Nat) ({ cls := "PolicyNotation$Reader", name := "head", desc := "()V" } : Jvm.MethodName)) ∈ lw_all := lw_g (lw_at lw_m8 129 rfl) rfl
theorem q1901 : (Jvm.Cond.privateMethod ({ cls := "PolicyNotation$Reader", name := "head", desc := "()V" } : Jvm.MethodName)) ∈ lw_tbl := lw_at lw_m8 130 rfl
theorem q1902 : (Jvm.Cond.instanceMethod ({ cls := "PolicyNotation$Reader", name := "head", desc := "()V" } : Jvm.MethodName)) ∈ lw_all := lw_g (lw_at lw_m8 131 rfl) rfl
theorem q1903 : (Jvm.Cond.code ({ cls := "PolicyNotation$Reader", name := "head", desc := "()V" } : Jvm.MethodName) prog_16_method_9_code (2 : Nat) (Option.none : Option Jvm.ClassFile.FieldType)) ∈ lw_all := lw_g (lw_at lw_m8 132 rfl) rfl
theorem q1904 : (Jvm.Cond.methodLink "PolicyNotation$Reader" (44 : Nat) ({ cls := "PolicyNotation$Reader", name := "isHere", desc := "(I)Z" } : Jvm.MethodName)) ∈ lw_all := lw_g (lw_at lw_m8 133 rfl) rfl
theorem q1905 : (Jvm.Cond.privateMethod ({ cls := "PolicyNotation$Reader", name := "isHere", desc := "(I)Z" } : Jvm.MethodName)) ∈ lw_tbl := lw_at lw_m8 134 rfl
theorem q1906 : (Jvm.Cond.instanceMethod ({ cls := "PolicyNotation$Reader", name := "isHere", desc := "(I)Z" } : Jvm.MethodName)) ∈ lw_all := lw_g (lw_at lw_m8 135 rfl) rfl
theorem q1907 : (Jvm.Cond.code ({ cls := "PolicyNotation$Reader", name := "isHere", desc := "(I)Z" } : Jvm.MethodName) prog_16_method_3_code (2 : Nat) (Option.some Jvm.ClassFile.FieldType.boolean)) ∈ lw_all := lw_g (lw_at lw_m8 136 rfl) rfl
theorem q1908 : (Jvm.Cond.methodLink "PolicyNotation$Reader" (36 : Nat) ({ cls := "PolicyNotation$Reader", name := "here", desc := "()I" } : Jvm.MethodName)) ∈ lw_all := lw_g (lw_at lw_m8 137 rfl) rfl
theorem q1909 : (Jvm.Cond.privateMethod ({ cls := "PolicyNotation$Reader", name := "here", desc := "()I" } : Jvm.MethodName)) ∈ lw_tbl := lw_at lw_m8 138 rfl
theorem q1910 : (Jvm.Cond.instanceMethod ({ cls := "PolicyNotation$Reader", name := "here", desc := "()I" } : Jvm.MethodName)) ∈ lw_all := lw_g (lw_at lw_m8 139 rfl) rfl
theorem q1911 : (Jvm.Cond.code ({ cls := "PolicyNotation$Reader", name := "here", desc := "()I" } : Jvm.MethodName) prog_16_method_2_code (1 : Nat) (Option.some Jvm.ClassFile.FieldType.int)) ∈ lw_all := lw_g (lw_at lw_m8 140 rfl) rfl
theorem q1912 : (Jvm.Cond.interfaceEntry "PolicyNotation$Reader" (26 : Nat)) ∈ lw_tbl := lw_at lw_m8 141 rfl
theorem q1913 : (Jvm.Cond.methodLink "PolicyNotation$Reader" (26 : Nat) ({ cls := "java/lang/CharSequence", name := "length", desc := "()I" } : Jvm.MethodName)) ∈ lw_all := lw_g (lw_at lw_m8 142 rfl) rfl
theorem q1924 : (Jvm.Cond.interfaceEntry "PolicyNotation$Reader" (32 : Nat)) ∈ lw_tbl := lw_at lw_m8 153 rfl
theorem q1925 : (Jvm.Cond.methodLink "PolicyNotation$Reader" (32 : Nat) ({ cls := "java/lang/CharSequence", name := "charAt", desc := "(I)C" } : Jvm.MethodName)) ∈ lw_all := lw_g (lw_at lw_m8 154 rfl) rfl
theorem q1955 : (Jvm.Cond.methodLink "PolicyNotation$Reader" (63 : Nat) ({ cls := "PolicyNotation$Reader", name := "number", desc := "()I" } : Jvm.MethodName)) ∈ lw_all := lw_g (lw_at lw_m8 184 rfl) rfl
theorem q1956 : (Jvm.Cond.privateMethod ({ cls := "PolicyNotation$Reader", name := "number", desc := "()I" } : Jvm.MethodName)) ∈ lw_tbl := lw_at lw_m8 185 rfl
theorem q1957 : (Jvm.Cond.instanceMethod ({ cls := "PolicyNotation$Reader", name := "number", desc := "()I" } : Jvm.MethodName)) ∈ lw_all := lw_g (lw_at lw_m8 186 rfl) rfl
theorem q1958 : (Jvm.Cond.code ({ cls := "PolicyNotation$Reader", name := "number", desc := "()I" } : Jvm.MethodName) prog_16_method_8_code (3 : Nat) (Option.some Jvm.ClassFile.FieldType.int)) ∈ lw_all := lw_g (lw_at lw_m8 187 rfl) rfl
theorem q1959 : (Jvm.Cond.methodLink "PolicyNotation$Reader" (60 : Nat) ({ cls := "PolicyNotation$Reader", name := "digit", desc := "()I" } : Jvm.MethodName)) ∈ lw_all := lw_g (lw_at lw_m8 188 rfl) rfl
theorem q1960 : (Jvm.Cond.privateMethod ({ cls := "PolicyNotation$Reader", name := "digit", desc := "()I" } : Jvm.MethodName)) ∈ lw_tbl := lw_at lw_m8 189 rfl
theorem q1961 : (Jvm.Cond.instanceMethod ({ cls := "PolicyNotation$Reader", name := "digit", desc := "()I" } : Jvm.MethodName)) ∈ lw_all := lw_g (lw_at lw_m8 190 rfl) rfl
theorem q1962 : (Jvm.Cond.code ({ cls := "PolicyNotation$Reader", name := "digit", desc := "()I" } : Jvm.MethodName) prog_16_method_7_code (1 : Nat) (Option.some Jvm.ClassFile.FieldType.int)) ∈ lw_all := lw_g (lw_at lw_m8 191 rfl) rfl
theorem q1963 : (Jvm.Cond.methodLink "PolicyNotation$Reader" (56 : Nat) ({ cls := "PolicyNotation$Reader", name := "isDigit", desc := "()Z" } : Jvm.MethodName)) ∈ lw_all := lw_g (lw_at lw_m8 192 rfl) rfl
theorem q1964 : (Jvm.Cond.privateMethod ({ cls := "PolicyNotation$Reader", name := "isDigit", desc := "()Z" } : Jvm.MethodName)) ∈ lw_tbl := lw_at lw_m8 193 rfl
theorem q1965 : (Jvm.Cond.instanceMethod ({ cls := "PolicyNotation$Reader", name := "isDigit", desc := "()Z" } : Jvm.MethodName)) ∈ lw_all := lw_g (lw_at lw_m8 194 rfl) rfl
theorem q1966 : (Jvm.Cond.code ({ cls := "PolicyNotation$Reader", name := "isDigit", desc := "()Z" } : Jvm.MethodName) prog_16_method_6_code (1 : Nat) (Option.some Jvm.ClassFile.FieldType.boolean)) ∈ lw_all := lw_g (lw_at lw_m8 195 rfl) rfl
theorem q1967 : (Jvm.Cond.methodLinkNest "PolicyNotation$Reader" (52 : Nat) ({ cls := "PolicyNotation", name := "isIn", desc := "(III)Z" } : Jvm.MethodName) "PolicyNotation") ∈ lw_tbl := lw_at lw_m8 196 rfl
theorem q1968 : (Jvm.Cond.methodLink "PolicyNotation$Reader" (48 : Nat) ({ cls := "PolicyNotation$Reader", name := "needs", desc := "(Z)V" } : Jvm.MethodName)) ∈ lw_all := lw_g (lw_at lw_m8 197 rfl) rfl
theorem q1969 : (Jvm.Cond.privateMethod ({ cls := "PolicyNotation$Reader", name := "needs", desc := "(Z)V" } : Jvm.MethodName)) ∈ lw_tbl := lw_at lw_m8 198 rfl
theorem q1970 : (Jvm.Cond.instanceMethod ({ cls := "PolicyNotation$Reader", name := "needs", desc := "(Z)V" } : Jvm.MethodName)) ∈ lw_all := lw_g (lw_at lw_m8 199 rfl) rfl
theorem q1971 : (Jvm.Cond.code ({ cls := "PolicyNotation$Reader", name := "needs", desc := "(Z)V" } : Jvm.MethodName) prog_16_method_4_code (2 : Nat) (Option.none : Option Jvm.ClassFile.FieldType)) ∈ lw_all := lw_g (lw_at lw_m8 200 rfl) rfl
theorem q1972 : (Jvm.Cond.classLink "PolicyNotation$Reader" (39 : Nat) "PolicyNotation$Wrong") ∈ lw_all := lw_g (lw_at lw_m8 201 rfl) rfl
theorem q1981 : (Jvm.Cond.methodLink "PolicyNotation$Reader" (41 : Nat) ({ cls := "PolicyNotation$Wrong", name := "<init>", desc := "(I)V" } : Jvm.MethodName)) ∈ lw_all := lw_g (lw_at lw_m8 210 rfl) rfl
theorem q1996 : (Jvm.Cond.methodLink "PolicyNotation$Reader" (69 : Nat) ({ cls := "PolicyNotation$Reader", name := "takes", desc := "(I)V" } : Jvm.MethodName)) ∈ lw_all := lw_g (lw_at lw_m8 225 rfl) rfl
theorem q1997 : (Jvm.Cond.privateMethod ({ cls := "PolicyNotation$Reader", name := "takes", desc := "(I)V" } : Jvm.MethodName)) ∈ lw_tbl := lw_at lw_m8 226 rfl
theorem q1998 : (Jvm.Cond.instanceMethod ({ cls := "PolicyNotation$Reader", name := "takes", desc := "(I)V" } : Jvm.MethodName)) ∈ lw_all := lw_g (lw_at lw_m8 227 rfl) rfl
theorem q1999 : (Jvm.Cond.code ({ cls := "PolicyNotation$Reader", name := "takes", desc := "(I)V" } : Jvm.MethodName) prog_16_method_5_code (2 : Nat) (Option.none : Option Jvm.ClassFile.FieldType)) ∈ lw_all := lw_g (lw_at lw_m8 228 rfl) rfl
theorem q2000 : (Jvm.Cond.methodLinkNest "PolicyNotation$Reader" (72 : Nat) ({ cls := "PolicyNotation", name := "effectOf", desc := "(I)LPolicyNotation$Effect;" } : Jvm.MethodName) "PolicyNotation") ∈ lw_tbl := lw_at lw_m8 229 rfl
theorem q2001 : (Jvm.Cond.methodLink "PolicyNotation$Reader" (76 : Nat) ({ cls := "PolicyNotation$Effect", name := "head", desc := "()C" } : Jvm.MethodName)) ∈ lw_all := lw_g (lw_at lw_m8 230 rfl) rfl
theorem q2013 : (Jvm.Cond.methodLink "PolicyNotation$Reader" (116 : Nat) ({ cls := "PolicyNotation$Reader", name := "tests", desc := "()V" } : Jvm.MethodName)) ∈ lw_all := lw_g (lw_at lw_m9 2 rfl) rfl
theorem q2014 : (Jvm.Cond.privateMethod ({ cls := "PolicyNotation$Reader", name := "tests", desc := "()V" } : Jvm.MethodName)) ∈ lw_tbl := lw_at lw_m9 3 rfl
theorem q2015 : (Jvm.Cond.instanceMethod ({ cls := "PolicyNotation$Reader", name := "tests", desc := "()V" } : Jvm.MethodName)) ∈ lw_all := lw_g (lw_at lw_m9 4 rfl) rfl
theorem q2016 : (Jvm.Cond.code ({ cls := "PolicyNotation$Reader", name := "tests", desc := "()V" } : Jvm.MethodName) prog_16_method_11_code (1 : Nat) (Option.none : Option Jvm.ClassFile.FieldType)) ∈ lw_all := lw_g (lw_at lw_m9 5 rfl) rfl
theorem q2017 : (Jvm.Cond.methodLink "PolicyNotation$Reader" (108 : Nat) ({ cls := "PolicyNotation$Reader", name := "test", desc := "()V" } : Jvm.MethodName)) ∈ lw_all := lw_g (lw_at lw_m9 6 rfl) rfl
theorem q2018 : (Jvm.Cond.privateMethod ({ cls := "PolicyNotation$Reader", name := "test", desc := "()V" } : Jvm.MethodName)) ∈ lw_tbl := lw_at lw_m9 7 rfl
theorem q2019 : (Jvm.Cond.instanceMethod ({ cls := "PolicyNotation$Reader", name := "test", desc := "()V" } : Jvm.MethodName)) ∈ lw_all := lw_g (lw_at lw_m9 8 rfl) rfl
theorem q2020 : (Jvm.Cond.code ({ cls := "PolicyNotation$Reader", name := "test", desc := "()V" } : Jvm.MethodName) prog_16_method_10_code (3 : Nat) (Option.none : Option Jvm.ClassFile.FieldType)) ∈ lw_all := lw_g (lw_at lw_m9 9 rfl) rfl
theorem q2021 : (Jvm.Cond.stringRef "PolicyNotation$Reader" (86 : Nat) "=<>#") ∈ lw_tbl := lw_at lw_m9 10 rfl
theorem q2022 : (Jvm.Cond.methodLink "PolicyNotation$Reader" (88 : Nat) ({ cls := "java/lang/String", name := "indexOf", desc := "(I)I" } : Jvm.MethodName)) ∈ lw_all := lw_g (lw_at lw_m9 11 rfl) rfl
theorem q2068 : (Jvm.Cond.methodLinkNest "PolicyNotation$Reader" (98 : Nat) ({ cls := "PolicyNotation", name := "testBy", desc := "(III)LPolicyNotation$Test;" } : Jvm.MethodName) "PolicyNotation") ∈ lw_tbl := lw_at lw_m9 57 rfl
theorem q2069 : (Jvm.Cond.methodLink "PolicyNotation$Reader" (102 : Nat) ({ cls := "java/util/ArrayList", name := "add", desc := "(Ljava/lang/Object;)Z" } : Jvm.MethodName)) ∈ lw_all := lw_g (lw_at lw_m9 58 rfl) rfl
theorem q2823 : (Jvm.Cond.castable "PolicyNotation$Reader" "java/lang/Object") ∈ lw_tbl := lw_at lw_m12 92 rfl
theorem in_X18 : ∀ w ∈ wsX180, w ∈ lw_all := lw_in wsX180 [1889, 1891, 1893] (by decide +kernel) (by decide +kernel)
/-! PolicyNotation$Draft -/
def RX19 : String := "PolicyNotation$Draft"
def TX19 : u_T := fun k => match k with
  | 0 => ("PolicyNotation$Draft", "effect", "LPolicyNotation$Effect;", false)
  | 1 => ("PolicyNotation$Draft", "of", "I", false)
  | 2 => ("PolicyNotation$Draft", "scope", "I", false)
  | 3 => ("PolicyNotation$Draft", "rank", "I", false)
  | 4 => ("PolicyNotation$Draft", "first", "I", false)
  | 5 => ("PolicyNotation$Draft", "last", "I", false)
  | _ => ("PolicyNotation$Draft", "tests", "Ljava/util/ArrayList;", true)
def tyX19 : Nat → FieldType := fun k => match k with
  | 0 => .object "PolicyNotation$Effect"
  | 1 => .int
  | 2 => .int
  | 3 => .int
  | 4 => .int
  | 5 => .int
  | _ => .object "java/util/ArrayList"
abbrev wsX190 : List Cond := u_ws RX19 TX19 7
theorem nmX19 : ∀ a, a < 7 → ∀ b, b < 7 → a ≠ b → (TX19 a).2.1 ≠ (TX19 b).2.1 := by decide +kernel
theorem tyX19_ok : ∀ k, k < 7 → parseFieldDescriptor (TX19 k).2.2.1 = some (tyX19 k) := by decide +kernel
abbrev cX19_init : ByteArray := prog_4_method_1_code
def yX19_init : MethodName := ⟨RX19, "<init>", "()V"⟩
def dkwX19_init_1 : List UInt8 := [181, 0, 21, 177]
abbrev dktX19_init_1 : List UInt8 := dkwX19_init_1 ++ []
def dkwX19_init_0 : List UInt8 := [42, 183, 0, 3, 42, 2, 181, 0, 9, 42, 17, 3, 231, 181, 0, 15, 42, 187, 0, 18, 89, 183, 0, 20]
abbrev dktX19_init_0 : List UInt8 := dkwX19_init_0 ++ dktX19_init_1
theorem dksX19_init_0 : cX19_init.data.toList.drop 0 = dktX19_init_0 := by decide +kernel
theorem dksX19_init_1 : cX19_init.data.toList.drop 24 = dktX19_init_1 := dk_seg dksX19_init_0 24 rfl rfl
theorem dX19_init_0 : decode cX19_init 0 = .ok (.aload_n 0, 1) := dk_42 (dk_at dksX19_init_0 0 rfl rfl)
theorem dX19_init_1 : decode cX19_init 1 = .ok (.invokespecial 3, 3) := dk_183 0 3 (dk_at dksX19_init_0 1 rfl rfl)
theorem dX19_init_4 : decode cX19_init 4 = .ok (.aload_n 0, 1) := dk_42 (dk_at dksX19_init_0 4 rfl rfl)
theorem dX19_init_5 : decode cX19_init 5 = .ok (.iconst (-1), 1) := dk_2 (dk_at dksX19_init_0 5 rfl rfl)
theorem dX19_init_6 : decode cX19_init 6 = .ok (.putfield 9, 3) := dk_181 0 9 (dk_at dksX19_init_0 6 rfl rfl)
theorem dX19_init_9 : decode cX19_init 9 = .ok (.aload_n 0, 1) := dk_42 (dk_at dksX19_init_0 9 rfl rfl)
theorem dX19_init_10 : decode cX19_init 10 = .ok (.sipush 999, 3) := dk_17 3 231 (dk_at dksX19_init_0 10 rfl rfl)
theorem dX19_init_13 : decode cX19_init 13 = .ok (.putfield 15, 3) := dk_181 0 15 (dk_at dksX19_init_0 13 rfl rfl)
theorem dX19_init_16 : decode cX19_init 16 = .ok (.aload_n 0, 1) := dk_42 (dk_at dksX19_init_0 16 rfl rfl)
theorem dX19_init_17 : decode cX19_init 17 = .ok (.new 18, 3) := dk_187 0 18 (dk_at dksX19_init_0 17 rfl rfl)
theorem dX19_init_20 : decode cX19_init 20 = .ok (.dup, 1) := dk_89 (dk_at dksX19_init_0 20 rfl rfl)
theorem dX19_init_21 : decode cX19_init 21 = .ok (.invokespecial 20, 3) := dk_183 0 20 (dk_at dksX19_init_0 21 rfl rfl)
theorem dX19_init_24 : decode cX19_init 24 = .ok (.putfield 21, 3) := dk_181 0 21 (dk_at dksX19_init_1 0 rfl rfl)
theorem dX19_init_27 : decode cX19_init 27 = .ok (.return_, 1) := dk_177 (dk_at dksX19_init_1 3 rfl rfl)
theorem q139 : (Jvm.Cond.initialized "PolicyNotation$Draft") ∈ lw_all := lw_g (lw_at lw_m1 48 rfl) rfl
theorem q554 : (Jvm.Cond.selects "PolicyNotation$Draft" ({ cls := "java/lang/Object", name := "getClass", desc := "()Ljava/lang/Class;" } : Jvm.MethodName) ({ cls := "java/lang/Object", name := "getClass", desc := "()Ljava/lang/Class;" } : Jvm.MethodName)) ∈ lw_all := lw_g (lw_at lw_m2 223 rfl) rfl
theorem q1845 : (Jvm.Cond.instantiable "PolicyNotation$Draft" (7 : Nat)) ∈ lw_all := lw_g (lw_at lw_m8 74 rfl) rfl
theorem q1847 : (Jvm.Cond.instanceMethod ({ cls := "PolicyNotation$Draft", name := "<init>", desc := "()V" } : Jvm.MethodName)) ∈ lw_all := lw_g (lw_at lw_m8 76 rfl) rfl
theorem q1848 : (Jvm.Cond.code ({ cls := "PolicyNotation$Draft", name := "<init>", desc := "()V" } : Jvm.MethodName) prog_4_method_1_code (1 : Nat) (Option.none : Option Jvm.ClassFile.FieldType)) ∈ lw_all := lw_g (lw_at lw_m8 77 rfl) rfl
theorem q1849 : (Jvm.Cond.methodLink "PolicyNotation$Draft" (3 : Nat) ({ cls := "java/lang/Object", name := "<init>", desc := "()V" } : Jvm.MethodName)) ∈ lw_all := lw_g (lw_at lw_m8 78 rfl) rfl
theorem q1850 : (Jvm.Cond.classLink "PolicyNotation$Draft" (18 : Nat) "java/util/ArrayList") ∈ lw_all := lw_g (lw_at lw_m8 79 rfl) rfl
theorem q1851 : (Jvm.Cond.methodLink "PolicyNotation$Draft" (20 : Nat) ({ cls := "java/util/ArrayList", name := "<init>", desc := "()V" } : Jvm.MethodName)) ∈ lw_all := lw_g (lw_at lw_m8 80 rfl) rfl
theorem q1856 : (Jvm.Cond.fieldLink "PolicyNotation$Draft" (9 : Nat) "PolicyNotation$Draft" "of" "I") ∈ lw_all := lw_g (lw_at lw_m8 85 rfl) rfl
theorem q1865 : (Jvm.Cond.fieldLink "PolicyNotation$Draft" (15 : Nat) "PolicyNotation$Draft" "last" "I") ∈ lw_all := lw_g (lw_at lw_m8 94 rfl) rfl
theorem q1868 : (Jvm.Cond.fieldLink "PolicyNotation$Draft" (21 : Nat) "PolicyNotation$Draft" "tests" "Ljava/util/ArrayList;") ∈ lw_all := lw_g (lw_at lw_m8 97 rfl) rfl
theorem q1871 : (Jvm.Cond.lays "PolicyNotation$Draft" "PolicyNotation$Draft" "effect" "LPolicyNotation$Effect;") ∈ lw_all := lw_g (lw_at lw_m8 100 rfl) rfl
theorem q1872 : (Jvm.Cond.soleField "PolicyNotation$Draft" "effect") ∈ lw_all := lw_g (lw_at lw_m8 101 rfl) rfl
theorem q1873 : (Jvm.Cond.lays "PolicyNotation$Draft" "PolicyNotation$Draft" "of" "I") ∈ lw_all := lw_g (lw_at lw_m8 102 rfl) rfl
theorem q1874 : (Jvm.Cond.soleField "PolicyNotation$Draft" "of") ∈ lw_all := lw_g (lw_at lw_m8 103 rfl) rfl
theorem q1875 : (Jvm.Cond.lays "PolicyNotation$Draft" "PolicyNotation$Draft" "scope" "I") ∈ lw_all := lw_g (lw_at lw_m8 104 rfl) rfl
theorem q1876 : (Jvm.Cond.soleField "PolicyNotation$Draft" "scope") ∈ lw_all := lw_g (lw_at lw_m8 105 rfl) rfl
theorem q1877 : (Jvm.Cond.lays "PolicyNotation$Draft" "PolicyNotation$Draft" "rank" "I") ∈ lw_all := lw_g (lw_at lw_m8 106 rfl) rfl
theorem q1878 : (Jvm.Cond.soleField "PolicyNotation$Draft" "rank") ∈ lw_all := lw_g (lw_at lw_m8 107 rfl) rfl
theorem q1879 : (Jvm.Cond.lays "PolicyNotation$Draft" "PolicyNotation$Draft" "first" "I") ∈ lw_all := lw_g (lw_at lw_m8 108 rfl) rfl
theorem q1880 : (Jvm.Cond.soleField "PolicyNotation$Draft" "first") ∈ lw_all := lw_g (lw_at lw_m8 109 rfl) rfl
theorem q1881 : (Jvm.Cond.lays "PolicyNotation$Draft" "PolicyNotation$Draft" "last" "I") ∈ lw_all := lw_g (lw_at lw_m8 110 rfl) rfl
theorem q1882 : (Jvm.Cond.soleField "PolicyNotation$Draft" "last") ∈ lw_all := lw_g (lw_at lw_m8 111 rfl) rfl
theorem q1883 : (Jvm.Cond.laysFinal "PolicyNotation$Draft" "PolicyNotation$Draft" "tests" "Ljava/util/ArrayList;") ∈ lw_all := lw_g (lw_at lw_m8 112 rfl) rfl
theorem q1884 : (Jvm.Cond.soleField "PolicyNotation$Draft" "tests") ∈ lw_all := lw_g (lw_at lw_m8 113 rfl) rfl
theorem q1885 : (Jvm.Cond.superclass "PolicyNotation$Draft" "java/lang/Object") ∈ lw_all := lw_g (lw_at lw_m8 114 rfl) rfl
theorem q2824 : (Jvm.Cond.castable "PolicyNotation$Draft" "java/lang/Object") ∈ lw_tbl := lw_at lw_m12 93 rfl
theorem in_X19 : ∀ w ∈ wsX190, w ∈ lw_all := lw_in wsX190 [1871, 1873, 1875, 1877, 1879, 1881, 1883] (by decide +kernel) (by decide +kernel)
/-! PolicyNotation$Wrong -/
def RX20 : String := "PolicyNotation$Wrong"
def TX20 : u_T := fun k => match k with
  | 0 => ("java/lang/Throwable", "cause", "Ljava/lang/Throwable;", false)
  | 1 => ("java/lang/Throwable", "stackTrace", "[Ljava/lang/StackTraceElement;", false)
  | 2 => ("java/lang/Throwable", "suppressedExceptions", "Ljava/util/List;", false)
  | 3 => ("java/lang/Throwable", "detailMessage", "Ljava/lang/String;", false)
  | 4 => ("java/lang/Throwable", "backtrace", "Ljava/lang/Object;", false)
  | 5 => ("java/lang/Throwable", "depth", "I", false)
  | _ => ("PolicyNotation$Wrong", "at", "I", true)
def tyX20 : Nat → FieldType := fun k => match k with
  | 0 => .object "java/lang/Throwable"
  | 1 => .array (.object "java/lang/StackTraceElement")
  | 2 => .object "java/util/List"
  | 3 => .object "java/lang/String"
  | 4 => .object "java/lang/Object"
  | 5 => .int
  | _ => .int
abbrev wsX200 : List Cond := u_ws RX20 TX20 7
theorem nmX20 : ∀ a, a < 7 → ∀ b, b < 7 → a ≠ b → (TX20 a).2.1 ≠ (TX20 b).2.1 := by decide +kernel
theorem tyX20_ok : ∀ k, k < 7 → parseFieldDescriptor (TX20 k).2.2.1 = some (tyX20 k) := by decide +kernel
abbrev cX20_init : ByteArray := prog_25_method_1_code
def yX20_init : MethodName := ⟨RX20, "<init>", "(I)V"⟩
def dkwX20_init_0 : List UInt8 := [42, 1, 1, 3, 3, 183, 0, 1, 42, 27, 181, 0, 7, 177]
abbrev dktX20_init_0 : List UInt8 := dkwX20_init_0 ++ []
theorem dksX20_init_0 : cX20_init.data.toList.drop 0 = dktX20_init_0 := by decide +kernel
theorem dX20_init_0 : decode cX20_init 0 = .ok (.aload_n 0, 1) := dk_42 (dk_at dksX20_init_0 0 rfl rfl)
theorem dX20_init_1 : decode cX20_init 1 = .ok (.aconst_null, 1) := dk_1 (dk_at dksX20_init_0 1 rfl rfl)
theorem dX20_init_2 : decode cX20_init 2 = .ok (.aconst_null, 1) := dk_1 (dk_at dksX20_init_0 2 rfl rfl)
theorem dX20_init_3 : decode cX20_init 3 = .ok (.iconst 0, 1) := dk_3 (dk_at dksX20_init_0 3 rfl rfl)
theorem dX20_init_4 : decode cX20_init 4 = .ok (.iconst 0, 1) := dk_3 (dk_at dksX20_init_0 4 rfl rfl)
theorem dX20_init_5 : decode cX20_init 5 = .ok (.invokespecial 1, 3) := dk_183 0 1 (dk_at dksX20_init_0 5 rfl rfl)
theorem dX20_init_8 : decode cX20_init 8 = .ok (.aload_n 0, 1) := dk_42 (dk_at dksX20_init_0 8 rfl rfl)
theorem dX20_init_9 : decode cX20_init 9 = .ok (.iload_n 1, 1) := dk_27 (dk_at dksX20_init_0 9 rfl rfl)
theorem dX20_init_10 : decode cX20_init 10 = .ok (.putfield 7, 3) := dk_181 0 7 (dk_at dksX20_init_0 10 rfl rfl)
theorem dX20_init_13 : decode cX20_init 13 = .ok (.return_, 1) := dk_177 (dk_at dksX20_init_0 13 rfl rfl)
theorem q140 : (Jvm.Cond.initialized "PolicyNotation$Wrong") ∈ lw_all := lw_g (lw_at lw_m1 49 rfl) rfl
theorem q206 : (Jvm.Cond.selects "PolicyNotation$Wrong" ({ cls := "java/lang/Throwable", name := "fillInStackTrace", desc := "()Ljava/lang/Throwable;" } : Jvm.MethodName) ({ cls := "java/lang/Throwable", name := "fillInStackTrace", desc := "()Ljava/lang/Throwable;" } : Jvm.MethodName)) ∈ lw_all := lw_g (lw_at lw_m1 115 rfl) rfl
theorem q571 : (Jvm.Cond.selects "PolicyNotation$Wrong" ({ cls := "java/lang/Object", name := "getClass", desc := "()Ljava/lang/Class;" } : Jvm.MethodName) ({ cls := "java/lang/Object", name := "getClass", desc := "()Ljava/lang/Class;" } : Jvm.MethodName)) ∈ lw_all := lw_g (lw_at lw_m3 0 rfl) rfl
theorem q1973 : (Jvm.Cond.instantiable "PolicyNotation$Wrong" (7 : Nat)) ∈ lw_all := lw_g (lw_at lw_m8 202 rfl) rfl
theorem q1974 : (Jvm.Cond.castable "PolicyNotation$Wrong" "PolicyNotation$Wrong") ∈ lw_tbl := lw_at lw_m8 203 rfl
theorem q1975 : (Jvm.Cond.selects "PolicyNotation$Wrong" ({ cls := "java/lang/Throwable", name := "fillInStackTrace", desc := "(I)Ljava/lang/Throwable;" } : Jvm.MethodName) ({ cls := "java/lang/Throwable", name := "fillInStackTrace", desc := "(I)Ljava/lang/Throwable;" } : Jvm.MethodName)) ∈ lw_all := lw_g (lw_at lw_m8 204 rfl) rfl
theorem q1976 : (Jvm.Cond.lays "PolicyNotation$Wrong" "java/lang/Throwable" "cause" "Ljava/lang/Throwable;") ∈ lw_all := lw_g (lw_at lw_m8 205 rfl) rfl
theorem q1977 : (Jvm.Cond.lays "PolicyNotation$Wrong" "java/lang/Throwable" "stackTrace" "[Ljava/lang/StackTraceElement;") ∈ lw_all := lw_g (lw_at lw_m8 206 rfl) rfl
theorem q1978 : (Jvm.Cond.lays "PolicyNotation$Wrong" "java/lang/Throwable" "suppressedExceptions" "Ljava/util/List;") ∈ lw_all := lw_g (lw_at lw_m8 207 rfl) rfl
theorem q1979 : (Jvm.Cond.lays "PolicyNotation$Wrong" "java/lang/Throwable" "detailMessage" "Ljava/lang/String;") ∈ lw_all := lw_g (lw_at lw_m8 208 rfl) rfl
theorem q1980 : (Jvm.Cond.lays "PolicyNotation$Wrong" "java/lang/Throwable" "backtrace" "Ljava/lang/Object;") ∈ lw_all := lw_g (lw_at lw_m8 209 rfl) rfl
theorem q1982 : (Jvm.Cond.instanceMethod ({ cls := "PolicyNotation$Wrong", name := "<init>", desc := "(I)V" } : Jvm.MethodName)) ∈ lw_all := lw_g (lw_at lw_m8 211 rfl) rfl
theorem q1983 : (Jvm.Cond.code ({ cls := "PolicyNotation$Wrong", name := "<init>", desc := "(I)V" } : Jvm.MethodName) prog_25_method_1_code (2 : Nat) (Option.none : Option Jvm.ClassFile.FieldType)) ∈ lw_all := lw_g (lw_at lw_m8 212 rfl) rfl
theorem q1984 : (Jvm.Cond.methodLink "PolicyNotation$Wrong" (1 : Nat) ({ cls := "java/lang/Exception", name := "<init>", desc := "(Ljava/lang/String;Ljava/lang/Throwable;ZZ)V" } : Jvm.MethodName)) ∈ lw_all := lw_g (lw_at lw_m8 213 rfl) rfl
theorem q1990 : (Jvm.Cond.fieldLink "PolicyNotation$Wrong" (7 : Nat) "PolicyNotation$Wrong" "at" "I") ∈ lw_all := lw_g (lw_at lw_m8 219 rfl) rfl
theorem q1992 : (Jvm.Cond.laysFinal "PolicyNotation$Wrong" "PolicyNotation$Wrong" "at" "I") ∈ lw_all := lw_g (lw_at lw_m8 221 rfl) rfl
theorem q1993 : (Jvm.Cond.soleField "PolicyNotation$Wrong" "at") ∈ lw_all := lw_g (lw_at lw_m8 222 rfl) rfl
theorem q1994 : (Jvm.Cond.lays "PolicyNotation$Wrong" "java/lang/Throwable" "depth" "I") ∈ lw_all := lw_g (lw_at lw_m8 223 rfl) rfl
theorem q1995 : (Jvm.Cond.superclass "PolicyNotation$Wrong" "java/lang/Exception") ∈ lw_all := lw_g (lw_at lw_m8 224 rfl) rfl
theorem q2825 : (Jvm.Cond.castable "PolicyNotation$Wrong" "java/lang/Object") ∈ lw_tbl := lw_at lw_m12 94 rfl
theorem in_X20 : ∀ w ∈ wsX200, w ∈ lw_all := lw_in wsX200 [1976, 1977, 1978, 1979, 1980, 1994, 1992] (by decide +kernel) (by decide +kernel)
/-! java/lang/Character -/
def RJ27 : String := "java/lang/Character"
abbrev cJ27_isValidCodePoint : ByteArray := prog_34_method_11_code
def yJ27_isValidCodePoint : MethodName := ⟨RJ27, "isValidCodePoint", "(I)Z"⟩
def dkwJ27_isValidCodePoint_0 : List UInt8 := [26, 16, 16, 124, 60, 27, 16, 17, 162, 0, 7, 4, 167, 0, 4, 3, 172]
abbrev dktJ27_isValidCodePoint_0 : List UInt8 := dkwJ27_isValidCodePoint_0 ++ []
theorem dksJ27_isValidCodePoint_0 : cJ27_isValidCodePoint.data.toList.drop 0 = dktJ27_isValidCodePoint_0 := by decide +kernel
theorem dJ27_isValidCodePoint_0 : decode cJ27_isValidCodePoint 0 = .ok (.iload_n 0, 1) := dk_26 (dk_at dksJ27_isValidCodePoint_0 0 rfl rfl)
theorem dJ27_isValidCodePoint_1 : decode cJ27_isValidCodePoint 1 = .ok (.bipush 16, 2) := dk_16 16 (dk_at dksJ27_isValidCodePoint_0 1 rfl rfl)
theorem dJ27_isValidCodePoint_3 : decode cJ27_isValidCodePoint 3 = .ok (.iushr, 1) := dk_124 (dk_at dksJ27_isValidCodePoint_0 3 rfl rfl)
theorem dJ27_isValidCodePoint_4 : decode cJ27_isValidCodePoint 4 = .ok (.istore_n 1, 1) := dk_60 (dk_at dksJ27_isValidCodePoint_0 4 rfl rfl)
theorem dJ27_isValidCodePoint_5 : decode cJ27_isValidCodePoint 5 = .ok (.iload_n 1, 1) := dk_27 (dk_at dksJ27_isValidCodePoint_0 5 rfl rfl)
theorem dJ27_isValidCodePoint_6 : decode cJ27_isValidCodePoint 6 = .ok (.bipush 17, 2) := dk_16 17 (dk_at dksJ27_isValidCodePoint_0 6 rfl rfl)
theorem dJ27_isValidCodePoint_8 : decode cJ27_isValidCodePoint 8 = .ok (.if_icmp .ge 7, 3) := dk_162 0 7 (dk_at dksJ27_isValidCodePoint_0 8 rfl rfl)
theorem dJ27_isValidCodePoint_11 : decode cJ27_isValidCodePoint 11 = .ok (.iconst 1, 1) := dk_4 (dk_at dksJ27_isValidCodePoint_0 11 rfl rfl)
theorem dJ27_isValidCodePoint_12 : decode cJ27_isValidCodePoint 12 = .ok (.goto 4, 3) := dk_167 0 4 (dk_at dksJ27_isValidCodePoint_0 12 rfl rfl)
theorem dJ27_isValidCodePoint_15 : decode cJ27_isValidCodePoint 15 = .ok (.iconst 0, 1) := dk_3 (dk_at dksJ27_isValidCodePoint_0 15 rfl rfl)
theorem dJ27_isValidCodePoint_16 : decode cJ27_isValidCodePoint 16 = .ok (.ireturn, 1) := dk_172 (dk_at dksJ27_isValidCodePoint_0 16 rfl rfl)
abbrev cJ27_highSurrogate : ByteArray := prog_34_method_28_code
def yJ27_highSurrogate : MethodName := ⟨RJ27, "highSurrogate", "(I)C"⟩
def dkwJ27_highSurrogate_0 : List UInt8 := [26, 16, 10, 124, 18, 110, 96, 146, 172]
abbrev dktJ27_highSurrogate_0 : List UInt8 := dkwJ27_highSurrogate_0 ++ []
theorem dksJ27_highSurrogate_0 : cJ27_highSurrogate.data.toList.drop 0 = dktJ27_highSurrogate_0 := by decide +kernel
theorem dJ27_highSurrogate_0 : decode cJ27_highSurrogate 0 = .ok (.iload_n 0, 1) := dk_26 (dk_at dksJ27_highSurrogate_0 0 rfl rfl)
theorem dJ27_highSurrogate_1 : decode cJ27_highSurrogate 1 = .ok (.bipush 10, 2) := dk_16 10 (dk_at dksJ27_highSurrogate_0 1 rfl rfl)
theorem dJ27_highSurrogate_3 : decode cJ27_highSurrogate 3 = .ok (.iushr, 1) := dk_124 (dk_at dksJ27_highSurrogate_0 3 rfl rfl)
theorem dJ27_highSurrogate_4 : decode cJ27_highSurrogate 4 = .ok (.ldc 110, 2) := dk_18 110 (dk_at dksJ27_highSurrogate_0 4 rfl rfl)
theorem dJ27_highSurrogate_6 : decode cJ27_highSurrogate 6 = .ok (.iadd, 1) := dk_96 (dk_at dksJ27_highSurrogate_0 6 rfl rfl)
theorem dJ27_highSurrogate_7 : decode cJ27_highSurrogate 7 = .ok (.i2c, 1) := dk_146 (dk_at dksJ27_highSurrogate_0 7 rfl rfl)
theorem dJ27_highSurrogate_8 : decode cJ27_highSurrogate 8 = .ok (.ireturn, 1) := dk_172 (dk_at dksJ27_highSurrogate_0 8 rfl rfl)
abbrev cJ27_lowSurrogate : ByteArray := prog_34_method_29_code
def yJ27_lowSurrogate : MethodName := ⟨RJ27, "lowSurrogate", "(I)C"⟩
def dkwJ27_lowSurrogate_0 : List UInt8 := [26, 17, 3, 255, 126, 18, 76, 96, 146, 172]
abbrev dktJ27_lowSurrogate_0 : List UInt8 := dkwJ27_lowSurrogate_0 ++ []
theorem dksJ27_lowSurrogate_0 : cJ27_lowSurrogate.data.toList.drop 0 = dktJ27_lowSurrogate_0 := by decide +kernel
theorem dJ27_lowSurrogate_0 : decode cJ27_lowSurrogate 0 = .ok (.iload_n 0, 1) := dk_26 (dk_at dksJ27_lowSurrogate_0 0 rfl rfl)
theorem dJ27_lowSurrogate_1 : decode cJ27_lowSurrogate 1 = .ok (.sipush 1023, 3) := dk_17 3 255 (dk_at dksJ27_lowSurrogate_0 1 rfl rfl)
theorem dJ27_lowSurrogate_4 : decode cJ27_lowSurrogate 4 = .ok (.iand, 1) := dk_126 (dk_at dksJ27_lowSurrogate_0 4 rfl rfl)
theorem dJ27_lowSurrogate_5 : decode cJ27_lowSurrogate 5 = .ok (.ldc 76, 2) := dk_18 76 (dk_at dksJ27_lowSurrogate_0 5 rfl rfl)
theorem dJ27_lowSurrogate_7 : decode cJ27_lowSurrogate 7 = .ok (.iadd, 1) := dk_96 (dk_at dksJ27_lowSurrogate_0 7 rfl rfl)
theorem dJ27_lowSurrogate_8 : decode cJ27_lowSurrogate 8 = .ok (.i2c, 1) := dk_146 (dk_at dksJ27_lowSurrogate_0 8 rfl rfl)
theorem dJ27_lowSurrogate_9 : decode cJ27_lowSurrogate 9 = .ok (.ireturn, 1) := dk_172 (dk_at dksJ27_lowSurrogate_0 9 rfl rfl)
theorem q141 : (Jvm.Cond.initialized "java/lang/Character") ∈ lw_all := lw_g (lw_at lw_m1 50 rfl) rfl
theorem q2058 : (Jvm.Cond.static ({ cls := "java/lang/Character", name := "isValidCodePoint", desc := "(I)Z" } : Jvm.MethodName)) ∈ lw_all := lw_g (lw_at lw_m9 47 rfl) rfl
theorem q2059 : (Jvm.Cond.code ({ cls := "java/lang/Character", name := "isValidCodePoint", desc := "(I)Z" } : Jvm.MethodName) prog_34_method_11_code (2 : Nat) (Option.some Jvm.ClassFile.FieldType.boolean)) ∈ lw_all := lw_g (lw_at lw_m9 48 rfl) rfl
theorem q2061 : (Jvm.Cond.static ({ cls := "java/lang/Character", name := "highSurrogate", desc := "(I)C" } : Jvm.MethodName)) ∈ lw_all := lw_g (lw_at lw_m9 50 rfl) rfl
theorem q2062 : (Jvm.Cond.code ({ cls := "java/lang/Character", name := "highSurrogate", desc := "(I)C" } : Jvm.MethodName) prog_34_method_28_code (1 : Nat) (Option.some Jvm.ClassFile.FieldType.char)) ∈ lw_all := lw_g (lw_at lw_m9 51 rfl) rfl
theorem q2063 : (Jvm.Cond.constant "java/lang/Character" (110 : Nat) (55232 : Int32)) ∈ lw_all := lw_g (lw_at lw_m9 52 rfl) rfl
theorem q2065 : (Jvm.Cond.static ({ cls := "java/lang/Character", name := "lowSurrogate", desc := "(I)C" } : Jvm.MethodName)) ∈ lw_all := lw_g (lw_at lw_m9 54 rfl) rfl
theorem q2066 : (Jvm.Cond.code ({ cls := "java/lang/Character", name := "lowSurrogate", desc := "(I)C" } : Jvm.MethodName) prog_34_method_29_code (1 : Nat) (Option.some Jvm.ClassFile.FieldType.char)) ∈ lw_all := lw_g (lw_at lw_m9 55 rfl) rfl
theorem q2067 : (Jvm.Cond.constant "java/lang/Character" (76 : Nat) (56320 : Int32)) ∈ lw_all := lw_g (lw_at lw_m9 56 rfl) rfl
/-! java/lang/StringIndexOutOfBoundsException -/
def RJ28 : String := "java/lang/StringIndexOutOfBoundsException"
def TJ28 : u_T := fun k => match k with
  | 0 => ("java/lang/Throwable", "backtrace", "Ljava/lang/Object;", false)
  | 1 => ("java/lang/Throwable", "detailMessage", "Ljava/lang/String;", false)
  | 2 => ("java/lang/Throwable", "cause", "Ljava/lang/Throwable;", false)
  | 3 => ("java/lang/Throwable", "stackTrace", "[Ljava/lang/StackTraceElement;", false)
  | 4 => ("java/lang/Throwable", "depth", "I", false)
  | _ => ("java/lang/Throwable", "suppressedExceptions", "Ljava/util/List;", false)
def tyJ28 : Nat → FieldType := fun k => match k with
  | 0 => .object "java/lang/Object"
  | 1 => .object "java/lang/String"
  | 2 => .object "java/lang/Throwable"
  | 3 => .array (.object "java/lang/StackTraceElement")
  | 4 => .int
  | _ => .object "java/util/List"
abbrev wsJ280 : List Cond := u_ws RJ28 TJ28 6
theorem nmJ28 : ∀ a, a < 6 → ∀ b, b < 6 → a ≠ b → (TJ28 a).2.1 ≠ (TJ28 b).2.1 := by decide +kernel
theorem tyJ28_ok : ∀ k, k < 6 → parseFieldDescriptor (TJ28 k).2.2.1 = some (tyJ28 k) := by decide +kernel
abbrev cJ28_init : ByteArray := prog_50_method_3_code
def yJ28_init : MethodName := ⟨RJ28, "<init>", "(I)V"⟩
def dkwJ28_init_0 : List UInt8 := [42, 187, 0, 10, 89, 183, 0, 12, 18, 13, 182, 0, 15, 27, 182, 0, 19, 182, 0, 22, 183, 0, 7, 177]
abbrev dktJ28_init_0 : List UInt8 := dkwJ28_init_0 ++ []
theorem dksJ28_init_0 : cJ28_init.data.toList.drop 0 = dktJ28_init_0 := by decide +kernel
theorem dJ28_init_0 : decode cJ28_init 0 = .ok (.aload_n 0, 1) := dk_42 (dk_at dksJ28_init_0 0 rfl rfl)
theorem dJ28_init_1 : decode cJ28_init 1 = .ok (.new 10, 3) := dk_187 0 10 (dk_at dksJ28_init_0 1 rfl rfl)
theorem dJ28_init_4 : decode cJ28_init 4 = .ok (.dup, 1) := dk_89 (dk_at dksJ28_init_0 4 rfl rfl)
theorem dJ28_init_5 : decode cJ28_init 5 = .ok (.invokespecial 12, 3) := dk_183 0 12 (dk_at dksJ28_init_0 5 rfl rfl)
theorem dJ28_init_8 : decode cJ28_init 8 = .ok (.ldc 13, 2) := dk_18 13 (dk_at dksJ28_init_0 8 rfl rfl)
theorem dJ28_init_10 : decode cJ28_init 10 = .ok (.invokevirtual 15, 3) := dk_182 0 15 (dk_at dksJ28_init_0 10 rfl rfl)
theorem dJ28_init_13 : decode cJ28_init 13 = .ok (.iload_n 1, 1) := dk_27 (dk_at dksJ28_init_0 13 rfl rfl)
theorem dJ28_init_14 : decode cJ28_init 14 = .ok (.invokevirtual 19, 3) := dk_182 0 19 (dk_at dksJ28_init_0 14 rfl rfl)
theorem dJ28_init_17 : decode cJ28_init 17 = .ok (.invokevirtual 22, 3) := dk_182 0 22 (dk_at dksJ28_init_0 17 rfl rfl)
theorem dJ28_init_20 : decode cJ28_init 20 = .ok (.invokespecial 7, 3) := dk_183 0 7 (dk_at dksJ28_init_0 20 rfl rfl)
theorem dJ28_init_23 : decode cJ28_init 23 = .ok (.return_, 1) := dk_177 (dk_at dksJ28_init_0 23 rfl rfl)
theorem q142 : (Jvm.Cond.initialized "java/lang/StringIndexOutOfBoundsException") ∈ lw_all := lw_g (lw_at lw_m1 51 rfl) rfl
theorem q211 : (Jvm.Cond.selects "java/lang/StringIndexOutOfBoundsException" ({ cls := "java/lang/Throwable", name := "fillInStackTrace", desc := "()Ljava/lang/Throwable;" } : Jvm.MethodName) ({ cls := "java/lang/Throwable", name := "fillInStackTrace", desc := "()Ljava/lang/Throwable;" } : Jvm.MethodName)) ∈ lw_all := lw_g (lw_at lw_m1 120 rfl) rfl
theorem q580 : (Jvm.Cond.selects "java/lang/StringIndexOutOfBoundsException" ({ cls := "java/lang/Object", name := "getClass", desc := "()Ljava/lang/Class;" } : Jvm.MethodName) ({ cls := "java/lang/Object", name := "getClass", desc := "()Ljava/lang/Class;" } : Jvm.MethodName)) ∈ lw_all := lw_g (lw_at lw_m3 9 rfl) rfl
theorem q2087 : (Jvm.Cond.instantiable "java/lang/StringIndexOutOfBoundsException" (6 : Nat)) ∈ lw_all := lw_g (lw_at lw_m9 76 rfl) rfl
theorem q2089 : (Jvm.Cond.instanceMethod ({ cls := "java/lang/StringIndexOutOfBoundsException", name := "<init>", desc := "(I)V" } : Jvm.MethodName)) ∈ lw_all := lw_g (lw_at lw_m9 78 rfl) rfl
theorem q2090 : (Jvm.Cond.code ({ cls := "java/lang/StringIndexOutOfBoundsException", name := "<init>", desc := "(I)V" } : Jvm.MethodName) prog_50_method_3_code (2 : Nat) (Option.none : Option Jvm.ClassFile.FieldType)) ∈ lw_all := lw_g (lw_at lw_m9 79 rfl) rfl
theorem q2091 : (Jvm.Cond.classLink "java/lang/StringIndexOutOfBoundsException" (10 : Nat) "java/lang/StringBuilder") ∈ lw_all := lw_g (lw_at lw_m9 80 rfl) rfl
theorem q2092 : (Jvm.Cond.methodLink "java/lang/StringIndexOutOfBoundsException" (12 : Nat) ({ cls := "java/lang/StringBuilder", name := "<init>", desc := "()V" } : Jvm.MethodName)) ∈ lw_all := lw_g (lw_at lw_m9 81 rfl) rfl
theorem q2093 : (Jvm.Cond.stringRef "java/lang/StringIndexOutOfBoundsException" (13 : Nat) "String index out of range: ") ∈ lw_tbl := lw_at lw_m9 82 rfl
theorem q2094 : (Jvm.Cond.methodLink "java/lang/StringIndexOutOfBoundsException" (15 : Nat) ({ cls := "java/lang/StringBuilder", name := "append", desc := "(Ljava/lang/String;)Ljava/lang/StringBuilder;" } : Jvm.MethodName)) ∈ lw_all := lw_g (lw_at lw_m9 83 rfl) rfl
theorem q2095 : (Jvm.Cond.methodLink "java/lang/StringIndexOutOfBoundsException" (19 : Nat) ({ cls := "java/lang/StringBuilder", name := "append", desc := "(I)Ljava/lang/StringBuilder;" } : Jvm.MethodName)) ∈ lw_all := lw_g (lw_at lw_m9 84 rfl) rfl
theorem q2096 : (Jvm.Cond.methodLink "java/lang/StringIndexOutOfBoundsException" (22 : Nat) ({ cls := "java/lang/StringBuilder", name := "toString", desc := "()Ljava/lang/String;" } : Jvm.MethodName)) ∈ lw_all := lw_g (lw_at lw_m9 85 rfl) rfl
theorem q2097 : (Jvm.Cond.methodLink "java/lang/StringIndexOutOfBoundsException" (7 : Nat) ({ cls := "java/lang/IndexOutOfBoundsException", name := "<init>", desc := "(Ljava/lang/String;)V" } : Jvm.MethodName)) ∈ lw_all := lw_g (lw_at lw_m9 86 rfl) rfl
theorem q2098 : (Jvm.Cond.lays "java/lang/StringIndexOutOfBoundsException" "java/lang/Throwable" "backtrace" "Ljava/lang/Object;") ∈ lw_all := lw_g (lw_at lw_m9 87 rfl) rfl
theorem q2099 : (Jvm.Cond.lays "java/lang/StringIndexOutOfBoundsException" "java/lang/Throwable" "detailMessage" "Ljava/lang/String;") ∈ lw_all := lw_g (lw_at lw_m9 88 rfl) rfl
theorem q2100 : (Jvm.Cond.lays "java/lang/StringIndexOutOfBoundsException" "java/lang/Throwable" "cause" "Ljava/lang/Throwable;") ∈ lw_all := lw_g (lw_at lw_m9 89 rfl) rfl
theorem q2101 : (Jvm.Cond.lays "java/lang/StringIndexOutOfBoundsException" "java/lang/Throwable" "stackTrace" "[Ljava/lang/StackTraceElement;") ∈ lw_all := lw_g (lw_at lw_m9 90 rfl) rfl
theorem q2102 : (Jvm.Cond.lays "java/lang/StringIndexOutOfBoundsException" "java/lang/Throwable" "depth" "I") ∈ lw_all := lw_g (lw_at lw_m9 91 rfl) rfl
theorem q2103 : (Jvm.Cond.lays "java/lang/StringIndexOutOfBoundsException" "java/lang/Throwable" "suppressedExceptions" "Ljava/util/List;") ∈ lw_all := lw_g (lw_at lw_m9 92 rfl) rfl
theorem q2104 : (Jvm.Cond.superclass "java/lang/StringIndexOutOfBoundsException" "java/lang/IndexOutOfBoundsException") ∈ lw_all := lw_g (lw_at lw_m9 93 rfl) rfl
theorem q2787 : (Jvm.Cond.castable "java/lang/StringIndexOutOfBoundsException" "java/lang/IndexOutOfBoundsException") ∈ lw_tbl := lw_at lw_m12 56 rfl
theorem q2826 : (Jvm.Cond.castable "java/lang/StringIndexOutOfBoundsException" "java/lang/Object") ∈ lw_tbl := lw_at lw_m12 95 rfl
theorem in_J28 : ∀ w ∈ wsJ280, w ∈ lw_all := lw_in wsJ280 [2098, 2099, 2100, 2101, 2102, 2103] (by decide +kernel) (by decide +kernel)
/-! java/lang/Object -/
def RJ29 : String := "java/lang/Object"
abbrev cJ29_init : ByteArray := object_method_1_code
def yJ29_init : MethodName := ⟨RJ29, "<init>", "()V"⟩
theorem dJ29_init_0 : decode cJ29_init 0 = .ok (.return_, 1) := by decide +kernel
theorem q149 : (Jvm.Cond.instanceMethod ({ cls := "java/lang/Object", name := "<init>", desc := "()V" } : Jvm.MethodName)) ∈ lw_all := lw_g (lw_at lw_m1 58 rfl) rfl
theorem q150 : (Jvm.Cond.code ({ cls := "java/lang/Object", name := "<init>", desc := "()V" } : Jvm.MethodName) object_method_1_code (1 : Nat) (Option.none : Option Jvm.ClassFile.FieldType)) ∈ lw_all := lw_g (lw_at lw_m1 59 rfl) rfl
theorem q289 : (Jvm.Cond.native ({ cls := "java/lang/Object", name := "clone", desc := "()Ljava/lang/Object;" } : Jvm.MethodName)) ∈ lw_all := lw_g (lw_at lw_m1 198 rfl) rfl
theorem q290 : (Jvm.Cond.instanceMethod ({ cls := "java/lang/Object", name := "clone", desc := "()Ljava/lang/Object;" } : Jvm.MethodName)) ∈ lw_all := lw_g (lw_at lw_m1 199 rfl) rfl
theorem q551 : (Jvm.Cond.instanceMethod ({ cls := "java/lang/Object", name := "getClass", desc := "()Ljava/lang/Class;" } : Jvm.MethodName)) ∈ lw_all := lw_g (lw_at lw_m2 220 rfl) rfl
theorem q552 : (Jvm.Cond.sameMethod "java/lang/Object" "java/lang/Object" "getClass" "()Ljava/lang/Class;") ∈ lw_all := lw_g (lw_at lw_m2 221 rfl) rfl
theorem q585 : (Jvm.Cond.native ({ cls := "java/lang/Object", name := "getClass", desc := "()Ljava/lang/Class;" } : Jvm.MethodName)) ∈ lw_all := lw_g (lw_at lw_m3 14 rfl) rfl
theorem q2785 : (Jvm.Cond.initialized "java/lang/Object") ∈ lw_all := lw_g (lw_at lw_m12 54 rfl) rfl
theorem q2830 : (Jvm.Cond.declares ({ cls := "java/lang/Object", name := "getClass", desc := "()Ljava/lang/Class;" } : Jvm.MethodName)) ∈ lw_tbl := lw_at lw_m12 99 rfl
theorem q2847 : (Jvm.Cond.instantiable "java/lang/Object" (0 : Nat)) ∈ lw_all := lw_g (lw_at lw_m12 116 rfl) rfl
/-! PolicyNotation$Effect$1 -/
def RX21 : String := "PolicyNotation$Effect$1"
abbrev cX21_head : ByteArray := prog_6_method_3_code
def yX21_head : MethodName := ⟨RX21, "head", "()C"⟩
theorem dX21_head_0 : decode cX21_head 0 = .ok (.bipush 112, 2) := by decide +kernel
theorem dX21_head_2 : decode cX21_head 2 = .ok (.ireturn, 1) := by decide +kernel
abbrev cX21_word : ByteArray := prog_6_method_2_code
def yX21_word : MethodName := ⟨RX21, "word", "()Ljava/lang/String;"⟩
theorem dX21_word_0 : decode cX21_word 0 = .ok (.ldc 7, 2) := by decide +kernel
theorem dX21_word_2 : decode cX21_word 2 = .ok (.areturn, 1) := by decide +kernel
theorem q555 : (Jvm.Cond.selects "PolicyNotation$Effect$1" ({ cls := "java/lang/Object", name := "getClass", desc := "()Ljava/lang/Class;" } : Jvm.MethodName) ({ cls := "java/lang/Object", name := "getClass", desc := "()Ljava/lang/Class;" } : Jvm.MethodName)) ∈ lw_all := lw_g (lw_at lw_m2 224 rfl) rfl
theorem q1195 : (Jvm.Cond.selects "PolicyNotation$Effect$1" ({ cls := "PolicyNotation$Effect", name := "number", desc := "()I" } : Jvm.MethodName) ({ cls := "PolicyNotation$Effect", name := "number", desc := "()I" } : Jvm.MethodName)) ∈ lw_all := lw_g (lw_at lw_m5 144 rfl) rfl
theorem q1202 : (Jvm.Cond.selects "PolicyNotation$Effect$1" ({ cls := "PolicyNotation$Effect", name := "ordinal", desc := "()I" } : Jvm.MethodName) ({ cls := "java/lang/Enum", name := "ordinal", desc := "()I" } : Jvm.MethodName)) ∈ lw_all := lw_g (lw_at lw_m5 151 rfl) rfl
theorem q2004 : (Jvm.Cond.selects "PolicyNotation$Effect$1" ({ cls := "PolicyNotation$Effect", name := "head", desc := "()C" } : Jvm.MethodName) ({ cls := "PolicyNotation$Effect$1", name := "head", desc := "()C" } : Jvm.MethodName)) ∈ lw_all := lw_g (lw_at lw_m8 233 rfl) rfl
theorem q2005 : (Jvm.Cond.instanceMethod ({ cls := "PolicyNotation$Effect$1", name := "head", desc := "()C" } : Jvm.MethodName)) ∈ lw_all := lw_g (lw_at lw_m8 234 rfl) rfl
theorem q2006 : (Jvm.Cond.code ({ cls := "PolicyNotation$Effect$1", name := "head", desc := "()C" } : Jvm.MethodName) prog_6_method_3_code (1 : Nat) (Option.some Jvm.ClassFile.FieldType.char)) ∈ lw_all := lw_g (lw_at lw_m8 235 rfl) rfl
theorem q2154 : (Jvm.Cond.selects "PolicyNotation$Effect$1" ({ cls := "PolicyNotation$Effect", name := "word", desc := "()Ljava/lang/String;" } : Jvm.MethodName) ({ cls := "PolicyNotation$Effect$1", name := "word", desc := "()Ljava/lang/String;" } : Jvm.MethodName)) ∈ lw_all := lw_g (lw_at lw_m9 143 rfl) rfl
theorem q2155 : (Jvm.Cond.instanceMethod ({ cls := "PolicyNotation$Effect$1", name := "word", desc := "()Ljava/lang/String;" } : Jvm.MethodName)) ∈ lw_all := lw_g (lw_at lw_m9 144 rfl) rfl
theorem q2156 : (Jvm.Cond.code ({ cls := "PolicyNotation$Effect$1", name := "word", desc := "()Ljava/lang/String;" } : Jvm.MethodName) prog_6_method_2_code (1 : Nat) (Option.some (Jvm.ClassFile.FieldType.object "java/lang/String"))) ∈ lw_all := lw_g (lw_at lw_m9 145 rfl) rfl
theorem q2157 : (Jvm.Cond.stringRef "PolicyNotation$Effect$1" (7 : Nat) "permits") ∈ lw_tbl := lw_at lw_m9 146 rfl
theorem q2806 : (Jvm.Cond.castable "PolicyNotation$Effect$1" "java/lang/Object") ∈ lw_tbl := lw_at lw_m12 75 rfl
/-! PolicyNotation$Effect$2 -/
def RX22 : String := "PolicyNotation$Effect$2"
abbrev cX22_head : ByteArray := prog_7_method_3_code
def yX22_head : MethodName := ⟨RX22, "head", "()C"⟩
theorem dX22_head_0 : decode cX22_head 0 = .ok (.bipush 102, 2) := by decide +kernel
theorem dX22_head_2 : decode cX22_head 2 = .ok (.ireturn, 1) := by decide +kernel
abbrev cX22_word : ByteArray := prog_7_method_2_code
def yX22_word : MethodName := ⟨RX22, "word", "()Ljava/lang/String;"⟩
theorem dX22_word_0 : decode cX22_word 0 = .ok (.ldc 7, 2) := by decide +kernel
theorem dX22_word_2 : decode cX22_word 2 = .ok (.areturn, 1) := by decide +kernel
theorem q556 : (Jvm.Cond.selects "PolicyNotation$Effect$2" ({ cls := "java/lang/Object", name := "getClass", desc := "()Ljava/lang/Class;" } : Jvm.MethodName) ({ cls := "java/lang/Object", name := "getClass", desc := "()Ljava/lang/Class;" } : Jvm.MethodName)) ∈ lw_all := lw_g (lw_at lw_m2 225 rfl) rfl
theorem q1196 : (Jvm.Cond.selects "PolicyNotation$Effect$2" ({ cls := "PolicyNotation$Effect", name := "number", desc := "()I" } : Jvm.MethodName) ({ cls := "PolicyNotation$Effect", name := "number", desc := "()I" } : Jvm.MethodName)) ∈ lw_all := lw_g (lw_at lw_m5 145 rfl) rfl
theorem q1203 : (Jvm.Cond.selects "PolicyNotation$Effect$2" ({ cls := "PolicyNotation$Effect", name := "ordinal", desc := "()I" } : Jvm.MethodName) ({ cls := "java/lang/Enum", name := "ordinal", desc := "()I" } : Jvm.MethodName)) ∈ lw_all := lw_g (lw_at lw_m5 152 rfl) rfl
theorem q2007 : (Jvm.Cond.selects "PolicyNotation$Effect$2" ({ cls := "PolicyNotation$Effect", name := "head", desc := "()C" } : Jvm.MethodName) ({ cls := "PolicyNotation$Effect$2", name := "head", desc := "()C" } : Jvm.MethodName)) ∈ lw_all := lw_g (lw_at lw_m8 236 rfl) rfl
theorem q2008 : (Jvm.Cond.instanceMethod ({ cls := "PolicyNotation$Effect$2", name := "head", desc := "()C" } : Jvm.MethodName)) ∈ lw_all := lw_g (lw_at lw_m8 237 rfl) rfl
theorem q2009 : (Jvm.Cond.code ({ cls := "PolicyNotation$Effect$2", name := "head", desc := "()C" } : Jvm.MethodName) prog_7_method_3_code (1 : Nat) (Option.some Jvm.ClassFile.FieldType.char)) ∈ lw_all := lw_g (lw_at lw_m8 238 rfl) rfl
theorem q2158 : (Jvm.Cond.selects "PolicyNotation$Effect$2" ({ cls := "PolicyNotation$Effect", name := "word", desc := "()Ljava/lang/String;" } : Jvm.MethodName) ({ cls := "PolicyNotation$Effect$2", name := "word", desc := "()Ljava/lang/String;" } : Jvm.MethodName)) ∈ lw_all := lw_g (lw_at lw_m9 147 rfl) rfl
theorem q2159 : (Jvm.Cond.instanceMethod ({ cls := "PolicyNotation$Effect$2", name := "word", desc := "()Ljava/lang/String;" } : Jvm.MethodName)) ∈ lw_all := lw_g (lw_at lw_m9 148 rfl) rfl
theorem q2160 : (Jvm.Cond.code ({ cls := "PolicyNotation$Effect$2", name := "word", desc := "()Ljava/lang/String;" } : Jvm.MethodName) prog_7_method_2_code (1 : Nat) (Option.some (Jvm.ClassFile.FieldType.object "java/lang/String"))) ∈ lw_all := lw_g (lw_at lw_m9 149 rfl) rfl
theorem q2161 : (Jvm.Cond.stringRef "PolicyNotation$Effect$2" (7 : Nat) "forbids") ∈ lw_tbl := lw_at lw_m9 150 rfl
theorem q2814 : (Jvm.Cond.castable "PolicyNotation$Effect$2" "java/lang/Object") ∈ lw_tbl := lw_at lw_m12 83 rfl
/-! PolicyNotation$Effect$3 -/
def RX23 : String := "PolicyNotation$Effect$3"
abbrev cX23_head : ByteArray := prog_8_method_3_code
def yX23_head : MethodName := ⟨RX23, "head", "()C"⟩
theorem dX23_head_0 : decode cX23_head 0 = .ok (.bipush 108, 2) := by decide +kernel
theorem dX23_head_2 : decode cX23_head 2 = .ok (.ireturn, 1) := by decide +kernel
abbrev cX23_word : ByteArray := prog_8_method_2_code
def yX23_word : MethodName := ⟨RX23, "word", "()Ljava/lang/String;"⟩
theorem dX23_word_0 : decode cX23_word 0 = .ok (.ldc 7, 2) := by decide +kernel
theorem dX23_word_2 : decode cX23_word 2 = .ok (.areturn, 1) := by decide +kernel
theorem q557 : (Jvm.Cond.selects "PolicyNotation$Effect$3" ({ cls := "java/lang/Object", name := "getClass", desc := "()Ljava/lang/Class;" } : Jvm.MethodName) ({ cls := "java/lang/Object", name := "getClass", desc := "()Ljava/lang/Class;" } : Jvm.MethodName)) ∈ lw_all := lw_g (lw_at lw_m2 226 rfl) rfl
theorem q1197 : (Jvm.Cond.selects "PolicyNotation$Effect$3" ({ cls := "PolicyNotation$Effect", name := "number", desc := "()I" } : Jvm.MethodName) ({ cls := "PolicyNotation$Effect", name := "number", desc := "()I" } : Jvm.MethodName)) ∈ lw_all := lw_g (lw_at lw_m5 146 rfl) rfl
theorem q1204 : (Jvm.Cond.selects "PolicyNotation$Effect$3" ({ cls := "PolicyNotation$Effect", name := "ordinal", desc := "()I" } : Jvm.MethodName) ({ cls := "java/lang/Enum", name := "ordinal", desc := "()I" } : Jvm.MethodName)) ∈ lw_all := lw_g (lw_at lw_m5 153 rfl) rfl
theorem q2010 : (Jvm.Cond.selects "PolicyNotation$Effect$3" ({ cls := "PolicyNotation$Effect", name := "head", desc := "()C" } : Jvm.MethodName) ({ cls := "PolicyNotation$Effect$3", name := "head", desc := "()C" } : Jvm.MethodName)) ∈ lw_all := lw_g (lw_at lw_m8 239 rfl) rfl
theorem q2011 : (Jvm.Cond.instanceMethod ({ cls := "PolicyNotation$Effect$3", name := "head", desc := "()C" } : Jvm.MethodName)) ∈ lw_all := lw_g (lw_at lw_m9 0 rfl) rfl
theorem q2012 : (Jvm.Cond.code ({ cls := "PolicyNotation$Effect$3", name := "head", desc := "()C" } : Jvm.MethodName) prog_8_method_3_code (1 : Nat) (Option.some Jvm.ClassFile.FieldType.char)) ∈ lw_all := lw_g (lw_at lw_m9 1 rfl) rfl
theorem q2162 : (Jvm.Cond.selects "PolicyNotation$Effect$3" ({ cls := "PolicyNotation$Effect", name := "word", desc := "()Ljava/lang/String;" } : Jvm.MethodName) ({ cls := "PolicyNotation$Effect$3", name := "word", desc := "()Ljava/lang/String;" } : Jvm.MethodName)) ∈ lw_all := lw_g (lw_at lw_m9 151 rfl) rfl
theorem q2163 : (Jvm.Cond.instanceMethod ({ cls := "PolicyNotation$Effect$3", name := "word", desc := "()Ljava/lang/String;" } : Jvm.MethodName)) ∈ lw_all := lw_g (lw_at lw_m9 152 rfl) rfl
theorem q2164 : (Jvm.Cond.code ({ cls := "PolicyNotation$Effect$3", name := "word", desc := "()Ljava/lang/String;" } : Jvm.MethodName) prog_8_method_2_code (1 : Nat) (Option.some (Jvm.ClassFile.FieldType.object "java/lang/String"))) ∈ lw_all := lw_g (lw_at lw_m9 153 rfl) rfl
theorem q2165 : (Jvm.Cond.stringRef "PolicyNotation$Effect$3" (7 : Nat) "limits") ∈ lw_tbl := lw_at lw_m9 154 rfl
theorem q2815 : (Jvm.Cond.castable "PolicyNotation$Effect$3" "java/lang/Object") ∈ lw_tbl := lw_at lw_m12 84 rfl
