set_option maxRecDepth 100000
/-! PolicyNotationModel -/
def RX6 : String := "PolicyNotationModel"
def TX6 : u_T := fun k => match k with
  | 0 => ("PolicyNotationModel", "s", "[I", true)
  | 1 => ("PolicyNotationModel", "before", "[I", true)
  | 2 => ("PolicyNotationModel", "saved", "[I", true)
  | 3 => ("PolicyNotationModel", "isSaved", "Z", false)
  | 4 => ("PolicyNotationModel", "past", "[I", true)
  | 5 => ("PolicyNotationModel", "pastMany", "I", false)
  | 6 => ("PolicyNotationModel", "thrown", "I", false)
  | 7 => ("PolicyNotationModel", "reason", "I", false)
  | 8 => ("PolicyNotationModel", "detail", "I", false)
  | 9 => ("PolicyNotationModel", "detailNow", "I", false)
  | 10 => ("PolicyNotationModel", "more", "[I", true)
  | 11 => ("PolicyNotationModel", "moreMany", "I", false)
  | 12 => ("PolicyNotationModel", "covers", "[Z", true)
  | 13 => ("PolicyNotationModel", "holds", "[Z", true)
  | 14 => ("PolicyNotationModel", "without", "I", false)
  | 15 => ("PolicyNotationModel", "chain", "[I", true)
  | 16 => ("PolicyNotationModel", "chainMany", "I", false)
  | 17 => ("PolicyNotationModel", "sheetSign", "I", false)
  | 18 => ("PolicyNotationModel", "sheet", "[I", true)
  | 19 => ("PolicyNotationModel", "rows", "[F", true)
  | 20 => ("PolicyNotationModel", "rowMany", "[I", true)
  | 21 => ("PolicyNotationModel", "input", "[C", true)
  | 22 => ("PolicyNotationModel", "length", "I", false)
  | 23 => ("PolicyNotationModel", "place", "I", false)
  | 24 => ("PolicyNotationModel", "isWrong", "Z", false)
  | 25 => ("PolicyNotationModel", "fault", "I", false)
  | 26 => ("PolicyNotationModel", "readEffect", "I", false)
  | 27 => ("PolicyNotationModel", "readParent", "I", false)
  | 28 => ("PolicyNotationModel", "readScope", "I", false)
  | 29 => ("PolicyNotationModel", "readFirst", "I", false)
  | 30 => ("PolicyNotationModel", "readLast", "I", false)
  | 31 => ("PolicyNotationModel", "readRank", "I", false)
  | 32 => ("PolicyNotationModel", "line", "[C", true)
  | _ => ("PolicyNotationModel", "lineMany", "I", false)
def tyX6 : Nat → FieldType := fun k => match k with
  | 0 => .array .int
  | 1 => .array .int
  | 2 => .array .int
  | 3 => .boolean
  | 4 => .array .int
  | 5 => .int
  | 6 => .int
  | 7 => .int
  | 8 => .int
  | 9 => .int
  | 10 => .array .int
  | 11 => .int
  | 12 => .array .boolean
  | 13 => .array .boolean
  | 14 => .int
  | 15 => .array .int
  | 16 => .int
  | 17 => .int
  | 18 => .array .int
  | 19 => .array .float
  | 20 => .array .int
  | 21 => .array .char
  | 22 => .int
  | 23 => .int
  | 24 => .boolean
  | 25 => .int
  | 26 => .int
  | 27 => .int
  | 28 => .int
  | 29 => .int
  | 30 => .int
  | 31 => .int
  | 32 => .array .char
  | _ => .int
abbrev wsX60 : List Cond := u_ws RX6 TX6 34
set_option maxRecDepth 100000 in
theorem nmX6 : ∀ a, a < 34 → ∀ b, b < 34 → a ≠ b → (TX6 a).2.1 ≠ (TX6 b).2.1 := by decide +kernel
set_option maxRecDepth 100000 in
theorem tyX6_ok : ∀ k, k < 34 → parseFieldDescriptor (TX6 k).2.2.1 = some (tyX6 k) := by decide +kernel
abbrev cX6_init : ByteArray := prog_27_method_1_code
def yX6_init : MethodName := ⟨RX6, "<init>", "()V"⟩
def dkwX6_init_7 : List UInt8 := [167, 255, 238, 3, 60, 27, 6, 162, 0, 16, 42, 180, 0, 49, 27, 2, 79, 132, 1, 1, 167, 255, 241, 177]
abbrev dktX6_init_7 : List UInt8 := dkwX6_init_7 ++ []
def dkwX6_init_6 : List UInt8 := [2, 79, 3, 60, 27, 16, 6, 162, 0, 18, 42, 180, 0, 42, 6, 27, 104, 2, 79, 132, 1, 1]
abbrev dktX6_init_6 : List UInt8 := dkwX6_init_6 ++ dktX6_init_7
def dkwX6_init_5 : List UInt8 := [181, 0, 56, 42, 17, 0, 200, 188, 5, 181, 0, 59, 42, 180, 0, 9, 3, 4, 79, 42, 180, 0, 9, 6]
abbrev dktX6_init_5 : List UInt8 := dkwX6_init_5 ++ dktX6_init_6
def dkwX6_init_4 : List UInt8 := [188, 6, 181, 0, 45, 42, 6, 188, 10, 181, 0, 49, 42, 16, 60, 188, 5, 181, 0, 52, 42, 2]
abbrev dktX6_init_4 : List UInt8 := dkwX6_init_4 ++ dktX6_init_5
def dkwX6_init_3 : List UInt8 := [42, 16, 16, 188, 10, 181, 0, 36, 42, 7, 181, 0, 39, 42, 16, 18, 188, 10, 181, 0, 42, 42, 16, 36]
abbrev dktX6_init_3 : List UInt8 := dkwX6_init_3 ++ dktX6_init_4
def dkwX6_init_2 : List UInt8 := [181, 0, 22, 42, 16, 16, 188, 4, 181, 0, 25, 42, 16, 16, 188, 4, 181, 0, 29, 42, 2, 181, 0, 32]
abbrev dktX6_init_2 : List UInt8 := dkwX6_init_2 ++ dktX6_init_3
def dkwX6_init_1 : List UInt8 := [17, 1, 135, 188, 10, 181, 0, 16, 42, 17, 12, 56, 188, 10, 181, 0, 19, 42, 17, 0, 180, 188, 10]
abbrev dktX6_init_1 : List UInt8 := dkwX6_init_1 ++ dktX6_init_2
def dkwX6_init_0 : List UInt8 := [42, 183, 0, 3, 42, 17, 1, 135, 188, 10, 181, 0, 9, 42, 17, 1, 135, 188, 10, 181, 0, 13, 42]
abbrev dktX6_init_0 : List UInt8 := dkwX6_init_0 ++ dktX6_init_1
theorem dksX6_init_0 : cX6_init.data.toList.drop 0 = dktX6_init_0 := by decide +kernel
theorem dksX6_init_1 : cX6_init.data.toList.drop 23 = dktX6_init_1 := dk_seg dksX6_init_0 23 rfl rfl
theorem dksX6_init_2 : cX6_init.data.toList.drop 46 = dktX6_init_2 := dk_seg dksX6_init_1 23 rfl rfl
theorem dksX6_init_3 : cX6_init.data.toList.drop 70 = dktX6_init_3 := dk_seg dksX6_init_2 24 rfl rfl
theorem dksX6_init_4 : cX6_init.data.toList.drop 94 = dktX6_init_4 := dk_seg dksX6_init_3 24 rfl rfl
theorem dksX6_init_5 : cX6_init.data.toList.drop 116 = dktX6_init_5 := dk_seg dksX6_init_4 22 rfl rfl
theorem dksX6_init_6 : cX6_init.data.toList.drop 140 = dktX6_init_6 := dk_seg dksX6_init_5 24 rfl rfl
theorem dksX6_init_7 : cX6_init.data.toList.drop 162 = dktX6_init_7 := dk_seg dksX6_init_6 22 rfl rfl
theorem dX6_init_0 : decode cX6_init 0 = .ok (.aload_n 0, 1) := dk_42 (dk_at dksX6_init_0 0 rfl rfl)
theorem dX6_init_1 : decode cX6_init 1 = .ok (.invokespecial 3, 3) := dk_183 0 3 (dk_at dksX6_init_0 1 rfl rfl)
theorem dX6_init_4 : decode cX6_init 4 = .ok (.aload_n 0, 1) := dk_42 (dk_at dksX6_init_0 4 rfl rfl)
theorem dX6_init_5 : decode cX6_init 5 = .ok (.sipush 391, 3) := dk_17 1 135 (dk_at dksX6_init_0 5 rfl rfl)
theorem dX6_init_8 : decode cX6_init 8 = .ok (.newarray .int, 2) := dk_188_10 (dk_at dksX6_init_0 8 rfl rfl)
theorem dX6_init_10 : decode cX6_init 10 = .ok (.putfield 9, 3) := dk_181 0 9 (dk_at dksX6_init_0 10 rfl rfl)
theorem dX6_init_13 : decode cX6_init 13 = .ok (.aload_n 0, 1) := dk_42 (dk_at dksX6_init_0 13 rfl rfl)
theorem dX6_init_14 : decode cX6_init 14 = .ok (.sipush 391, 3) := dk_17 1 135 (dk_at dksX6_init_0 14 rfl rfl)
theorem dX6_init_17 : decode cX6_init 17 = .ok (.newarray .int, 2) := dk_188_10 (dk_at dksX6_init_0 17 rfl rfl)
theorem dX6_init_19 : decode cX6_init 19 = .ok (.putfield 13, 3) := dk_181 0 13 (dk_at dksX6_init_0 19 rfl rfl)
theorem dX6_init_22 : decode cX6_init 22 = .ok (.aload_n 0, 1) := dk_42 (dk_at dksX6_init_0 22 rfl rfl)
theorem dX6_init_23 : decode cX6_init 23 = .ok (.sipush 391, 3) := dk_17 1 135 (dk_at dksX6_init_1 0 rfl rfl)
theorem dX6_init_26 : decode cX6_init 26 = .ok (.newarray .int, 2) := dk_188_10 (dk_at dksX6_init_1 3 rfl rfl)
theorem dX6_init_28 : decode cX6_init 28 = .ok (.putfield 16, 3) := dk_181 0 16 (dk_at dksX6_init_1 5 rfl rfl)
theorem dX6_init_31 : decode cX6_init 31 = .ok (.aload_n 0, 1) := dk_42 (dk_at dksX6_init_1 8 rfl rfl)
theorem dX6_init_32 : decode cX6_init 32 = .ok (.sipush 3128, 3) := dk_17 12 56 (dk_at dksX6_init_1 9 rfl rfl)
theorem dX6_init_35 : decode cX6_init 35 = .ok (.newarray .int, 2) := dk_188_10 (dk_at dksX6_init_1 12 rfl rfl)
theorem dX6_init_37 : decode cX6_init 37 = .ok (.putfield 19, 3) := dk_181 0 19 (dk_at dksX6_init_1 14 rfl rfl)
theorem dX6_init_40 : decode cX6_init 40 = .ok (.aload_n 0, 1) := dk_42 (dk_at dksX6_init_1 17 rfl rfl)
theorem dX6_init_41 : decode cX6_init 41 = .ok (.sipush 180, 3) := dk_17 0 180 (dk_at dksX6_init_1 18 rfl rfl)
theorem dX6_init_44 : decode cX6_init 44 = .ok (.newarray .int, 2) := dk_188_10 (dk_at dksX6_init_1 21 rfl rfl)
theorem dX6_init_46 : decode cX6_init 46 = .ok (.putfield 22, 3) := dk_181 0 22 (dk_at dksX6_init_2 0 rfl rfl)
theorem dX6_init_49 : decode cX6_init 49 = .ok (.aload_n 0, 1) := dk_42 (dk_at dksX6_init_2 3 rfl rfl)
theorem dX6_init_50 : decode cX6_init 50 = .ok (.bipush 16, 2) := dk_16 16 (dk_at dksX6_init_2 4 rfl rfl)
theorem dX6_init_52 : decode cX6_init 52 = .ok (.newarray .boolean, 2) := dk_188_4 (dk_at dksX6_init_2 6 rfl rfl)
theorem dX6_init_54 : decode cX6_init 54 = .ok (.putfield 25, 3) := dk_181 0 25 (dk_at dksX6_init_2 8 rfl rfl)
theorem dX6_init_57 : decode cX6_init 57 = .ok (.aload_n 0, 1) := dk_42 (dk_at dksX6_init_2 11 rfl rfl)
theorem dX6_init_58 : decode cX6_init 58 = .ok (.bipush 16, 2) := dk_16 16 (dk_at dksX6_init_2 12 rfl rfl)
theorem dX6_init_60 : decode cX6_init 60 = .ok (.newarray .boolean, 2) := dk_188_4 (dk_at dksX6_init_2 14 rfl rfl)
theorem dX6_init_62 : decode cX6_init 62 = .ok (.putfield 29, 3) := dk_181 0 29 (dk_at dksX6_init_2 16 rfl rfl)
theorem dX6_init_65 : decode cX6_init 65 = .ok (.aload_n 0, 1) := dk_42 (dk_at dksX6_init_2 19 rfl rfl)
theorem dX6_init_66 : decode cX6_init 66 = .ok (.iconst (-1), 1) := dk_2 (dk_at dksX6_init_2 20 rfl rfl)
theorem dX6_init_67 : decode cX6_init 67 = .ok (.putfield 32, 3) := dk_181 0 32 (dk_at dksX6_init_2 21 rfl rfl)
theorem dX6_init_70 : decode cX6_init 70 = .ok (.aload_n 0, 1) := dk_42 (dk_at dksX6_init_3 0 rfl rfl)
theorem dX6_init_71 : decode cX6_init 71 = .ok (.bipush 16, 2) := dk_16 16 (dk_at dksX6_init_3 1 rfl rfl)
theorem dX6_init_73 : decode cX6_init 73 = .ok (.newarray .int, 2) := dk_188_10 (dk_at dksX6_init_3 3 rfl rfl)
theorem dX6_init_75 : decode cX6_init 75 = .ok (.putfield 36, 3) := dk_181 0 36 (dk_at dksX6_init_3 5 rfl rfl)
theorem dX6_init_78 : decode cX6_init 78 = .ok (.aload_n 0, 1) := dk_42 (dk_at dksX6_init_3 8 rfl rfl)
theorem dX6_init_79 : decode cX6_init 79 = .ok (.iconst 4, 1) := dk_7 (dk_at dksX6_init_3 9 rfl rfl)
theorem dX6_init_80 : decode cX6_init 80 = .ok (.putfield 39, 3) := dk_181 0 39 (dk_at dksX6_init_3 10 rfl rfl)
theorem dX6_init_83 : decode cX6_init 83 = .ok (.aload_n 0, 1) := dk_42 (dk_at dksX6_init_3 13 rfl rfl)
theorem dX6_init_84 : decode cX6_init 84 = .ok (.bipush 18, 2) := dk_16 18 (dk_at dksX6_init_3 14 rfl rfl)
theorem dX6_init_86 : decode cX6_init 86 = .ok (.newarray .int, 2) := dk_188_10 (dk_at dksX6_init_3 16 rfl rfl)
theorem dX6_init_88 : decode cX6_init 88 = .ok (.putfield 42, 3) := dk_181 0 42 (dk_at dksX6_init_3 18 rfl rfl)
theorem dX6_init_91 : decode cX6_init 91 = .ok (.aload_n 0, 1) := dk_42 (dk_at dksX6_init_3 21 rfl rfl)
theorem dX6_init_92 : decode cX6_init 92 = .ok (.bipush 36, 2) := dk_16 36 (dk_at dksX6_init_3 22 rfl rfl)
theorem dX6_init_94 : decode cX6_init 94 = .ok (.newarray .float, 2) := dk_188_6 (dk_at dksX6_init_4 0 rfl rfl)
theorem dX6_init_96 : decode cX6_init 96 = .ok (.putfield 45, 3) := dk_181 0 45 (dk_at dksX6_init_4 2 rfl rfl)
theorem dX6_init_99 : decode cX6_init 99 = .ok (.aload_n 0, 1) := dk_42 (dk_at dksX6_init_4 5 rfl rfl)
theorem dX6_init_100 : decode cX6_init 100 = .ok (.iconst 3, 1) := dk_6 (dk_at dksX6_init_4 6 rfl rfl)
theorem dX6_init_101 : decode cX6_init 101 = .ok (.newarray .int, 2) := dk_188_10 (dk_at dksX6_init_4 7 rfl rfl)
theorem dX6_init_103 : decode cX6_init 103 = .ok (.putfield 49, 3) := dk_181 0 49 (dk_at dksX6_init_4 9 rfl rfl)
theorem dX6_init_106 : decode cX6_init 106 = .ok (.aload_n 0, 1) := dk_42 (dk_at dksX6_init_4 12 rfl rfl)
theorem dX6_init_107 : decode cX6_init 107 = .ok (.bipush 60, 2) := dk_16 60 (dk_at dksX6_init_4 13 rfl rfl)
theorem dX6_init_109 : decode cX6_init 109 = .ok (.newarray .char, 2) := dk_188_5 (dk_at dksX6_init_4 15 rfl rfl)
theorem dX6_init_111 : decode cX6_init 111 = .ok (.putfield 52, 3) := dk_181 0 52 (dk_at dksX6_init_4 17 rfl rfl)
theorem dX6_init_114 : decode cX6_init 114 = .ok (.aload_n 0, 1) := dk_42 (dk_at dksX6_init_4 20 rfl rfl)
theorem dX6_init_115 : decode cX6_init 115 = .ok (.iconst (-1), 1) := dk_2 (dk_at dksX6_init_4 21 rfl rfl)
theorem dX6_init_116 : decode cX6_init 116 = .ok (.putfield 56, 3) := dk_181 0 56 (dk_at dksX6_init_5 0 rfl rfl)
theorem dX6_init_119 : decode cX6_init 119 = .ok (.aload_n 0, 1) := dk_42 (dk_at dksX6_init_5 3 rfl rfl)
theorem dX6_init_120 : decode cX6_init 120 = .ok (.sipush 200, 3) := dk_17 0 200 (dk_at dksX6_init_5 4 rfl rfl)
theorem dX6_init_123 : decode cX6_init 123 = .ok (.newarray .char, 2) := dk_188_5 (dk_at dksX6_init_5 7 rfl rfl)
theorem dX6_init_125 : decode cX6_init 125 = .ok (.putfield 59, 3) := dk_181 0 59 (dk_at dksX6_init_5 9 rfl rfl)
theorem dX6_init_128 : decode cX6_init 128 = .ok (.aload_n 0, 1) := dk_42 (dk_at dksX6_init_5 12 rfl rfl)
theorem dX6_init_129 : decode cX6_init 129 = .ok (.getfield 9, 3) := dk_180 0 9 (dk_at dksX6_init_5 13 rfl rfl)
theorem dX6_init_132 : decode cX6_init 132 = .ok (.iconst 0, 1) := dk_3 (dk_at dksX6_init_5 16 rfl rfl)
theorem dX6_init_133 : decode cX6_init 133 = .ok (.iconst 1, 1) := dk_4 (dk_at dksX6_init_5 17 rfl rfl)
theorem dX6_init_134 : decode cX6_init 134 = .ok (.iastore, 1) := dk_79 (dk_at dksX6_init_5 18 rfl rfl)
theorem dX6_init_135 : decode cX6_init 135 = .ok (.aload_n 0, 1) := dk_42 (dk_at dksX6_init_5 19 rfl rfl)
theorem dX6_init_136 : decode cX6_init 136 = .ok (.getfield 9, 3) := dk_180 0 9 (dk_at dksX6_init_5 20 rfl rfl)
theorem dX6_init_139 : decode cX6_init 139 = .ok (.iconst 3, 1) := dk_6 (dk_at dksX6_init_5 23 rfl rfl)
theorem dX6_init_140 : decode cX6_init 140 = .ok (.iconst (-1), 1) := dk_2 (dk_at dksX6_init_6 0 rfl rfl)
theorem dX6_init_141 : decode cX6_init 141 = .ok (.iastore, 1) := dk_79 (dk_at dksX6_init_6 1 rfl rfl)
theorem dX6_init_142 : decode cX6_init 142 = .ok (.iconst 0, 1) := dk_3 (dk_at dksX6_init_6 2 rfl rfl)
theorem dX6_init_143 : decode cX6_init 143 = .ok (.istore_n 1, 1) := dk_60 (dk_at dksX6_init_6 3 rfl rfl)
theorem dX6_init_144 : decode cX6_init 144 = .ok (.iload_n 1, 1) := dk_27 (dk_at dksX6_init_6 4 rfl rfl)
theorem dX6_init_145 : decode cX6_init 145 = .ok (.bipush 6, 2) := dk_16 6 (dk_at dksX6_init_6 5 rfl rfl)
theorem dX6_init_147 : decode cX6_init 147 = .ok (.if_icmp .ge 18, 3) := dk_162 0 18 (dk_at dksX6_init_6 7 rfl rfl)
theorem dX6_init_150 : decode cX6_init 150 = .ok (.aload_n 0, 1) := dk_42 (dk_at dksX6_init_6 10 rfl rfl)
theorem dX6_init_151 : decode cX6_init 151 = .ok (.getfield 42, 3) := dk_180 0 42 (dk_at dksX6_init_6 11 rfl rfl)
theorem dX6_init_154 : decode cX6_init 154 = .ok (.iconst 3, 1) := dk_6 (dk_at dksX6_init_6 14 rfl rfl)
theorem dX6_init_155 : decode cX6_init 155 = .ok (.iload_n 1, 1) := dk_27 (dk_at dksX6_init_6 15 rfl rfl)
theorem dX6_init_156 : decode cX6_init 156 = .ok (.imul, 1) := dk_104 (dk_at dksX6_init_6 16 rfl rfl)
theorem dX6_init_157 : decode cX6_init 157 = .ok (.iconst (-1), 1) := dk_2 (dk_at dksX6_init_6 17 rfl rfl)
theorem dX6_init_158 : decode cX6_init 158 = .ok (.iastore, 1) := dk_79 (dk_at dksX6_init_6 18 rfl rfl)
theorem dX6_init_159 : decode cX6_init 159 = .ok (.iinc 1 1, 3) := dk_132 1 1 (dk_at dksX6_init_6 19 rfl rfl)
theorem dX6_init_162 : decode cX6_init 162 = .ok (.goto (-18), 3) := dk_167 255 238 (dk_at dksX6_init_7 0 rfl rfl)
theorem dX6_init_165 : decode cX6_init 165 = .ok (.iconst 0, 1) := dk_3 (dk_at dksX6_init_7 3 rfl rfl)
theorem dX6_init_166 : decode cX6_init 166 = .ok (.istore_n 1, 1) := dk_60 (dk_at dksX6_init_7 4 rfl rfl)
theorem dX6_init_167 : decode cX6_init 167 = .ok (.iload_n 1, 1) := dk_27 (dk_at dksX6_init_7 5 rfl rfl)
theorem dX6_init_168 : decode cX6_init 168 = .ok (.iconst 3, 1) := dk_6 (dk_at dksX6_init_7 6 rfl rfl)
theorem dX6_init_169 : decode cX6_init 169 = .ok (.if_icmp .ge 16, 3) := dk_162 0 16 (dk_at dksX6_init_7 7 rfl rfl)
theorem dX6_init_172 : decode cX6_init 172 = .ok (.aload_n 0, 1) := dk_42 (dk_at dksX6_init_7 10 rfl rfl)
theorem dX6_init_173 : decode cX6_init 173 = .ok (.getfield 49, 3) := dk_180 0 49 (dk_at dksX6_init_7 11 rfl rfl)
theorem dX6_init_176 : decode cX6_init 176 = .ok (.iload_n 1, 1) := dk_27 (dk_at dksX6_init_7 14 rfl rfl)
theorem dX6_init_177 : decode cX6_init 177 = .ok (.iconst (-1), 1) := dk_2 (dk_at dksX6_init_7 15 rfl rfl)
theorem dX6_init_178 : decode cX6_init 178 = .ok (.iastore, 1) := dk_79 (dk_at dksX6_init_7 16 rfl rfl)
theorem dX6_init_179 : decode cX6_init 179 = .ok (.iinc 1 1, 3) := dk_132 1 1 (dk_at dksX6_init_7 17 rfl rfl)
theorem dX6_init_182 : decode cX6_init 182 = .ok (.goto (-15), 3) := dk_167 255 241 (dk_at dksX6_init_7 20 rfl rfl)
theorem dX6_init_185 : decode cX6_init 185 = .ok (.return_, 1) := dk_177 (dk_at dksX6_init_7 23 rfl rfl)
abbrev cX6_thrown : ByteArray := prog_27_method_2_code
def yX6_thrown : MethodName := ⟨RX6, "thrown", "()I"⟩
theorem dX6_thrown_0 : decode cX6_thrown 0 = .ok (.aload_n 0, 1) := by decide +kernel
theorem dX6_thrown_1 : decode cX6_thrown 1 = .ok (.getfield 62, 3) := by decide +kernel
theorem dX6_thrown_4 : decode cX6_thrown 4 = .ok (.ireturn, 1) := by decide +kernel
abbrev cX6_scope : ByteArray := prog_27_method_14_code
def yX6_scope : MethodName := ⟨RX6, "scope", "(I)I"⟩
def dkwX6_scope_3 : List UInt8 := [180, 0, 9, 6, 5, 28, 104, 96, 4, 96, 2, 79, 42, 180, 0, 9, 3, 92, 46, 4, 96, 79, 28, 172]
abbrev dktX6_scope_3 : List UInt8 := dkwX6_scope_3 ++ []
def dkwX6_scope_2 : List UInt8 := [182, 0, 95, 42, 180, 0, 9, 3, 46, 61, 42, 180, 0, 9, 6, 5, 28, 104, 96, 27, 79, 42]
abbrev dktX6_scope_2 : List UInt8 := dkwX6_scope_2 ++ dktX6_scope_3
def dkwX6_scope_1 : List UInt8 := [5, 167, 0, 4, 3, 181, 0, 62, 42, 180, 0, 62, 158, 0, 5, 3, 172, 42, 182, 0, 92, 42]
abbrev dktX6_scope_1 : List UInt8 := dkwX6_scope_1 ++ dktX6_scope_2
def dkwX6_scope_0 : List UInt8 := [42, 42, 27, 182, 0, 88, 154, 0, 7, 4, 167, 0, 19, 42, 180, 0, 9, 3, 46, 16, 10, 160, 0, 7]
abbrev dktX6_scope_0 : List UInt8 := dkwX6_scope_0 ++ dktX6_scope_1
theorem dksX6_scope_0 : cX6_scope.data.toList.drop 0 = dktX6_scope_0 := by decide +kernel
theorem dksX6_scope_1 : cX6_scope.data.toList.drop 24 = dktX6_scope_1 := dk_seg dksX6_scope_0 24 rfl rfl
theorem dksX6_scope_2 : cX6_scope.data.toList.drop 46 = dktX6_scope_2 := dk_seg dksX6_scope_1 22 rfl rfl
theorem dksX6_scope_3 : cX6_scope.data.toList.drop 68 = dktX6_scope_3 := dk_seg dksX6_scope_2 22 rfl rfl
theorem dX6_scope_0 : decode cX6_scope 0 = .ok (.aload_n 0, 1) := dk_42 (dk_at dksX6_scope_0 0 rfl rfl)
theorem dX6_scope_1 : decode cX6_scope 1 = .ok (.aload_n 0, 1) := dk_42 (dk_at dksX6_scope_0 1 rfl rfl)
theorem dX6_scope_2 : decode cX6_scope 2 = .ok (.iload_n 1, 1) := dk_27 (dk_at dksX6_scope_0 2 rfl rfl)
theorem dX6_scope_3 : decode cX6_scope 3 = .ok (.invokevirtual 88, 3) := dk_182 0 88 (dk_at dksX6_scope_0 3 rfl rfl)
theorem dX6_scope_6 : decode cX6_scope 6 = .ok (.ifCond .ne 7, 3) := dk_154 0 7 (dk_at dksX6_scope_0 6 rfl rfl)
theorem dX6_scope_9 : decode cX6_scope 9 = .ok (.iconst 1, 1) := dk_4 (dk_at dksX6_scope_0 9 rfl rfl)
theorem dX6_scope_10 : decode cX6_scope 10 = .ok (.goto 19, 3) := dk_167 0 19 (dk_at dksX6_scope_0 10 rfl rfl)
theorem dX6_scope_13 : decode cX6_scope 13 = .ok (.aload_n 0, 1) := dk_42 (dk_at dksX6_scope_0 13 rfl rfl)
theorem dX6_scope_14 : decode cX6_scope 14 = .ok (.getfield 9, 3) := dk_180 0 9 (dk_at dksX6_scope_0 14 rfl rfl)
theorem dX6_scope_17 : decode cX6_scope 17 = .ok (.iconst 0, 1) := dk_3 (dk_at dksX6_scope_0 17 rfl rfl)
theorem dX6_scope_18 : decode cX6_scope 18 = .ok (.iaload, 1) := dk_46 (dk_at dksX6_scope_0 18 rfl rfl)
theorem dX6_scope_19 : decode cX6_scope 19 = .ok (.bipush 10, 2) := dk_16 10 (dk_at dksX6_scope_0 19 rfl rfl)
theorem dX6_scope_21 : decode cX6_scope 21 = .ok (.if_icmp .ne 7, 3) := dk_160 0 7 (dk_at dksX6_scope_0 21 rfl rfl)
theorem dX6_scope_24 : decode cX6_scope 24 = .ok (.iconst 2, 1) := dk_5 (dk_at dksX6_scope_1 0 rfl rfl)
theorem dX6_scope_25 : decode cX6_scope 25 = .ok (.goto 4, 3) := dk_167 0 4 (dk_at dksX6_scope_1 1 rfl rfl)
theorem dX6_scope_28 : decode cX6_scope 28 = .ok (.iconst 0, 1) := dk_3 (dk_at dksX6_scope_1 4 rfl rfl)
theorem dX6_scope_29 : decode cX6_scope 29 = .ok (.putfield 62, 3) := dk_181 0 62 (dk_at dksX6_scope_1 5 rfl rfl)
theorem dX6_scope_32 : decode cX6_scope 32 = .ok (.aload_n 0, 1) := dk_42 (dk_at dksX6_scope_1 8 rfl rfl)
theorem dX6_scope_33 : decode cX6_scope 33 = .ok (.getfield 62, 3) := dk_180 0 62 (dk_at dksX6_scope_1 9 rfl rfl)
theorem dX6_scope_36 : decode cX6_scope 36 = .ok (.ifCond .le 5, 3) := dk_158 0 5 (dk_at dksX6_scope_1 12 rfl rfl)
theorem dX6_scope_39 : decode cX6_scope 39 = .ok (.iconst 0, 1) := dk_3 (dk_at dksX6_scope_1 15 rfl rfl)
theorem dX6_scope_40 : decode cX6_scope 40 = .ok (.ireturn, 1) := dk_172 (dk_at dksX6_scope_1 16 rfl rfl)
theorem dX6_scope_41 : decode cX6_scope 41 = .ok (.aload_n 0, 1) := dk_42 (dk_at dksX6_scope_1 17 rfl rfl)
theorem dX6_scope_42 : decode cX6_scope 42 = .ok (.invokevirtual 92, 3) := dk_182 0 92 (dk_at dksX6_scope_1 18 rfl rfl)
theorem dX6_scope_45 : decode cX6_scope 45 = .ok (.aload_n 0, 1) := dk_42 (dk_at dksX6_scope_1 21 rfl rfl)
theorem dX6_scope_46 : decode cX6_scope 46 = .ok (.invokevirtual 95, 3) := dk_182 0 95 (dk_at dksX6_scope_2 0 rfl rfl)
theorem dX6_scope_49 : decode cX6_scope 49 = .ok (.aload_n 0, 1) := dk_42 (dk_at dksX6_scope_2 3 rfl rfl)
theorem dX6_scope_50 : decode cX6_scope 50 = .ok (.getfield 9, 3) := dk_180 0 9 (dk_at dksX6_scope_2 4 rfl rfl)
theorem dX6_scope_53 : decode cX6_scope 53 = .ok (.iconst 0, 1) := dk_3 (dk_at dksX6_scope_2 7 rfl rfl)
theorem dX6_scope_54 : decode cX6_scope 54 = .ok (.iaload, 1) := dk_46 (dk_at dksX6_scope_2 8 rfl rfl)
theorem dX6_scope_55 : decode cX6_scope 55 = .ok (.istore_n 2, 1) := dk_61 (dk_at dksX6_scope_2 9 rfl rfl)
theorem dX6_scope_56 : decode cX6_scope 56 = .ok (.aload_n 0, 1) := dk_42 (dk_at dksX6_scope_2 10 rfl rfl)
theorem dX6_scope_57 : decode cX6_scope 57 = .ok (.getfield 9, 3) := dk_180 0 9 (dk_at dksX6_scope_2 11 rfl rfl)
theorem dX6_scope_60 : decode cX6_scope 60 = .ok (.iconst 3, 1) := dk_6 (dk_at dksX6_scope_2 14 rfl rfl)
theorem dX6_scope_61 : decode cX6_scope 61 = .ok (.iconst 2, 1) := dk_5 (dk_at dksX6_scope_2 15 rfl rfl)
theorem dX6_scope_62 : decode cX6_scope 62 = .ok (.iload_n 2, 1) := dk_28 (dk_at dksX6_scope_2 16 rfl rfl)
theorem dX6_scope_63 : decode cX6_scope 63 = .ok (.imul, 1) := dk_104 (dk_at dksX6_scope_2 17 rfl rfl)
theorem dX6_scope_64 : decode cX6_scope 64 = .ok (.iadd, 1) := dk_96 (dk_at dksX6_scope_2 18 rfl rfl)
theorem dX6_scope_65 : decode cX6_scope 65 = .ok (.iload_n 1, 1) := dk_27 (dk_at dksX6_scope_2 19 rfl rfl)
theorem dX6_scope_66 : decode cX6_scope 66 = .ok (.iastore, 1) := dk_79 (dk_at dksX6_scope_2 20 rfl rfl)
theorem dX6_scope_67 : decode cX6_scope 67 = .ok (.aload_n 0, 1) := dk_42 (dk_at dksX6_scope_2 21 rfl rfl)
theorem dX6_scope_68 : decode cX6_scope 68 = .ok (.getfield 9, 3) := dk_180 0 9 (dk_at dksX6_scope_3 0 rfl rfl)
theorem dX6_scope_71 : decode cX6_scope 71 = .ok (.iconst 3, 1) := dk_6 (dk_at dksX6_scope_3 3 rfl rfl)
theorem dX6_scope_72 : decode cX6_scope 72 = .ok (.iconst 2, 1) := dk_5 (dk_at dksX6_scope_3 4 rfl rfl)
theorem dX6_scope_73 : decode cX6_scope 73 = .ok (.iload_n 2, 1) := dk_28 (dk_at dksX6_scope_3 5 rfl rfl)
theorem dX6_scope_74 : decode cX6_scope 74 = .ok (.imul, 1) := dk_104 (dk_at dksX6_scope_3 6 rfl rfl)
theorem dX6_scope_75 : decode cX6_scope 75 = .ok (.iadd, 1) := dk_96 (dk_at dksX6_scope_3 7 rfl rfl)
theorem dX6_scope_76 : decode cX6_scope 76 = .ok (.iconst 1, 1) := dk_4 (dk_at dksX6_scope_3 8 rfl rfl)
theorem dX6_scope_77 : decode cX6_scope 77 = .ok (.iadd, 1) := dk_96 (dk_at dksX6_scope_3 9 rfl rfl)
theorem dX6_scope_78 : decode cX6_scope 78 = .ok (.iconst (-1), 1) := dk_2 (dk_at dksX6_scope_3 10 rfl rfl)
theorem dX6_scope_79 : decode cX6_scope 79 = .ok (.iastore, 1) := dk_79 (dk_at dksX6_scope_3 11 rfl rfl)
theorem dX6_scope_80 : decode cX6_scope 80 = .ok (.aload_n 0, 1) := dk_42 (dk_at dksX6_scope_3 12 rfl rfl)
theorem dX6_scope_81 : decode cX6_scope 81 = .ok (.getfield 9, 3) := dk_180 0 9 (dk_at dksX6_scope_3 13 rfl rfl)
theorem dX6_scope_84 : decode cX6_scope 84 = .ok (.iconst 0, 1) := dk_3 (dk_at dksX6_scope_3 16 rfl rfl)
theorem dX6_scope_85 : decode cX6_scope 85 = .ok (.dup2, 1) := dk_92 (dk_at dksX6_scope_3 17 rfl rfl)
theorem dX6_scope_86 : decode cX6_scope 86 = .ok (.iaload, 1) := dk_46 (dk_at dksX6_scope_3 18 rfl rfl)
theorem dX6_scope_87 : decode cX6_scope 87 = .ok (.iconst 1, 1) := dk_4 (dk_at dksX6_scope_3 19 rfl rfl)
theorem dX6_scope_88 : decode cX6_scope 88 = .ok (.iadd, 1) := dk_96 (dk_at dksX6_scope_3 20 rfl rfl)
theorem dX6_scope_89 : decode cX6_scope 89 = .ok (.iastore, 1) := dk_79 (dk_at dksX6_scope_3 21 rfl rfl)
theorem dX6_scope_90 : decode cX6_scope 90 = .ok (.iload_n 2, 1) := dk_28 (dk_at dksX6_scope_3 22 rfl rfl)
theorem dX6_scope_91 : decode cX6_scope 91 = .ok (.ireturn, 1) := dk_172 (dk_at dksX6_scope_3 23 rfl rfl)
abbrev cX6_isScope : ByteArray := prog_27_method_9_code
def yX6_isScope : MethodName := ⟨RX6, "isScope", "(I)Z"⟩
def dkwX6_isScope_0 : List UInt8 := [27, 3, 42, 180, 0, 9, 3, 46, 4, 100, 184, 0, 80, 172]
abbrev dktX6_isScope_0 : List UInt8 := dkwX6_isScope_0 ++ []
theorem dksX6_isScope_0 : cX6_isScope.data.toList.drop 0 = dktX6_isScope_0 := by decide +kernel
theorem dX6_isScope_0 : decode cX6_isScope 0 = .ok (.iload_n 1, 1) := dk_27 (dk_at dksX6_isScope_0 0 rfl rfl)
theorem dX6_isScope_1 : decode cX6_isScope 1 = .ok (.iconst 0, 1) := dk_3 (dk_at dksX6_isScope_0 1 rfl rfl)
theorem dX6_isScope_2 : decode cX6_isScope 2 = .ok (.aload_n 0, 1) := dk_42 (dk_at dksX6_isScope_0 2 rfl rfl)
theorem dX6_isScope_3 : decode cX6_isScope 3 = .ok (.getfield 9, 3) := dk_180 0 9 (dk_at dksX6_isScope_0 3 rfl rfl)
theorem dX6_isScope_6 : decode cX6_isScope 6 = .ok (.iconst 0, 1) := dk_3 (dk_at dksX6_isScope_0 6 rfl rfl)
theorem dX6_isScope_7 : decode cX6_isScope 7 = .ok (.iaload, 1) := dk_46 (dk_at dksX6_isScope_0 7 rfl rfl)
theorem dX6_isScope_8 : decode cX6_isScope 8 = .ok (.iconst 1, 1) := dk_4 (dk_at dksX6_isScope_0 8 rfl rfl)
theorem dX6_isScope_9 : decode cX6_isScope 9 = .ok (.isub, 1) := dk_100 (dk_at dksX6_isScope_0 9 rfl rfl)
theorem dX6_isScope_10 : decode cX6_isScope 10 = .ok (.invokestatic 80, 3) := dk_184 0 80 (dk_at dksX6_isScope_0 10 rfl rfl)
theorem dX6_isScope_13 : decode cX6_isScope 13 = .ok (.ireturn, 1) := dk_172 (dk_at dksX6_isScope_0 13 rfl rfl)
abbrev cX6_in : ByteArray := prog_27_method_3_code
def yX6_in : MethodName := ⟨RX6, "in", "(III)Z"⟩
def dkwX6_in_0 : List UInt8 := [26, 27, 161, 0, 12, 26, 28, 163, 0, 7, 4, 167, 0, 4, 3, 172]
abbrev dktX6_in_0 : List UInt8 := dkwX6_in_0 ++ []
theorem dksX6_in_0 : cX6_in.data.toList.drop 0 = dktX6_in_0 := by decide +kernel
theorem dX6_in_0 : decode cX6_in 0 = .ok (.iload_n 0, 1) := dk_26 (dk_at dksX6_in_0 0 rfl rfl)
theorem dX6_in_1 : decode cX6_in 1 = .ok (.iload_n 1, 1) := dk_27 (dk_at dksX6_in_0 1 rfl rfl)
theorem dX6_in_2 : decode cX6_in 2 = .ok (.if_icmp .lt 12, 3) := dk_161 0 12 (dk_at dksX6_in_0 2 rfl rfl)
theorem dX6_in_5 : decode cX6_in 5 = .ok (.iload_n 0, 1) := dk_26 (dk_at dksX6_in_0 5 rfl rfl)
theorem dX6_in_6 : decode cX6_in 6 = .ok (.iload_n 2, 1) := dk_28 (dk_at dksX6_in_0 6 rfl rfl)
theorem dX6_in_7 : decode cX6_in 7 = .ok (.if_icmp .gt 7, 3) := dk_163 0 7 (dk_at dksX6_in_0 7 rfl rfl)
theorem dX6_in_10 : decode cX6_in 10 = .ok (.iconst 1, 1) := dk_4 (dk_at dksX6_in_0 10 rfl rfl)
theorem dX6_in_11 : decode cX6_in 11 = .ok (.goto 4, 3) := dk_167 0 4 (dk_at dksX6_in_0 11 rfl rfl)
theorem dX6_in_14 : decode cX6_in 14 = .ok (.iconst 0, 1) := dk_3 (dk_at dksX6_in_0 14 rfl rfl)
theorem dX6_in_15 : decode cX6_in 15 = .ok (.ireturn, 1) := dk_172 (dk_at dksX6_in_0 15 rfl rfl)
abbrev cX6_keepState : ByteArray := prog_27_method_4_code
def yX6_keepState : MethodName := ⟨RX6, "keepState", "()V"⟩
def dkwX6_keepState_0 : List UInt8 := [42, 180, 0, 9, 3, 42, 180, 0, 13, 3, 17, 1, 135, 184, 0, 65, 177]
abbrev dktX6_keepState_0 : List UInt8 := dkwX6_keepState_0 ++ []
theorem dksX6_keepState_0 : cX6_keepState.data.toList.drop 0 = dktX6_keepState_0 := by decide +kernel
theorem dX6_keepState_0 : decode cX6_keepState 0 = .ok (.aload_n 0, 1) := dk_42 (dk_at dksX6_keepState_0 0 rfl rfl)
theorem dX6_keepState_1 : decode cX6_keepState 1 = .ok (.getfield 9, 3) := dk_180 0 9 (dk_at dksX6_keepState_0 1 rfl rfl)
theorem dX6_keepState_4 : decode cX6_keepState 4 = .ok (.iconst 0, 1) := dk_3 (dk_at dksX6_keepState_0 4 rfl rfl)
theorem dX6_keepState_5 : decode cX6_keepState 5 = .ok (.aload_n 0, 1) := dk_42 (dk_at dksX6_keepState_0 5 rfl rfl)
theorem dX6_keepState_6 : decode cX6_keepState 6 = .ok (.getfield 13, 3) := dk_180 0 13 (dk_at dksX6_keepState_0 6 rfl rfl)
theorem dX6_keepState_9 : decode cX6_keepState 9 = .ok (.iconst 0, 1) := dk_3 (dk_at dksX6_keepState_0 9 rfl rfl)
theorem dX6_keepState_10 : decode cX6_keepState 10 = .ok (.sipush 391, 3) := dk_17 1 135 (dk_at dksX6_keepState_0 10 rfl rfl)
theorem dX6_keepState_13 : decode cX6_keepState 13 = .ok (.invokestatic 65, 3) := dk_184 0 65 (dk_at dksX6_keepState_0 13 rfl rfl)
theorem dX6_keepState_16 : decode cX6_keepState 16 = .ok (.return_, 1) := dk_177 (dk_at dksX6_keepState_0 16 rfl rfl)
abbrev cX6_change : ByteArray := prog_27_method_5_code
def yX6_change : MethodName := ⟨RX6, "change", "()V"⟩
def dkwX6_change_3 : List UInt8 := [177]
abbrev dktX6_change_3 : List UInt8 := dkwX6_change_3 ++ []
def dkwX6_change_2 : List UInt8 := [17, 1, 135, 42, 180, 0, 71, 104, 17, 1, 135, 184, 0, 65, 42, 89, 180, 0, 71, 4, 96, 181, 0, 71]
abbrev dktX6_change_2 : List UInt8 := dkwX6_change_2 ++ dktX6_change_3
def dkwX6_change_1 : List UInt8 := [184, 0, 65, 42, 89, 180, 0, 71, 4, 100, 181, 0, 71, 42, 180, 0, 13, 3, 42, 180, 0, 19]
abbrev dktX6_change_1 : List UInt8 := dkwX6_change_1 ++ dktX6_change_2
def dkwX6_change_0 : List UInt8 := [42, 180, 0, 71, 16, 8, 160, 0, 31, 42, 180, 0, 19, 17, 1, 135, 42, 180, 0, 19, 3, 17, 10, 177]
abbrev dktX6_change_0 : List UInt8 := dkwX6_change_0 ++ dktX6_change_1
theorem dksX6_change_0 : cX6_change.data.toList.drop 0 = dktX6_change_0 := by decide +kernel
theorem dksX6_change_1 : cX6_change.data.toList.drop 24 = dktX6_change_1 := dk_seg dksX6_change_0 24 rfl rfl
theorem dksX6_change_2 : cX6_change.data.toList.drop 46 = dktX6_change_2 := dk_seg dksX6_change_1 22 rfl rfl
theorem dksX6_change_3 : cX6_change.data.toList.drop 70 = dktX6_change_3 := dk_seg dksX6_change_2 24 rfl rfl
theorem dX6_change_0 : decode cX6_change 0 = .ok (.aload_n 0, 1) := dk_42 (dk_at dksX6_change_0 0 rfl rfl)
theorem dX6_change_1 : decode cX6_change 1 = .ok (.getfield 71, 3) := dk_180 0 71 (dk_at dksX6_change_0 1 rfl rfl)
theorem dX6_change_4 : decode cX6_change 4 = .ok (.bipush 8, 2) := dk_16 8 (dk_at dksX6_change_0 4 rfl rfl)
theorem dX6_change_6 : decode cX6_change 6 = .ok (.if_icmp .ne 31, 3) := dk_160 0 31 (dk_at dksX6_change_0 6 rfl rfl)
theorem dX6_change_9 : decode cX6_change 9 = .ok (.aload_n 0, 1) := dk_42 (dk_at dksX6_change_0 9 rfl rfl)
theorem dX6_change_10 : decode cX6_change 10 = .ok (.getfield 19, 3) := dk_180 0 19 (dk_at dksX6_change_0 10 rfl rfl)
theorem dX6_change_13 : decode cX6_change 13 = .ok (.sipush 391, 3) := dk_17 1 135 (dk_at dksX6_change_0 13 rfl rfl)
theorem dX6_change_16 : decode cX6_change 16 = .ok (.aload_n 0, 1) := dk_42 (dk_at dksX6_change_0 16 rfl rfl)
theorem dX6_change_17 : decode cX6_change 17 = .ok (.getfield 19, 3) := dk_180 0 19 (dk_at dksX6_change_0 17 rfl rfl)
theorem dX6_change_20 : decode cX6_change 20 = .ok (.iconst 0, 1) := dk_3 (dk_at dksX6_change_0 20 rfl rfl)
theorem dX6_change_21 : decode cX6_change 21 = .ok (.sipush 2737, 3) := dk_17 10 177 (dk_at dksX6_change_0 21 rfl rfl)
theorem dX6_change_24 : decode cX6_change 24 = .ok (.invokestatic 65, 3) := dk_184 0 65 (dk_at dksX6_change_1 0 rfl rfl)
theorem dX6_change_27 : decode cX6_change 27 = .ok (.aload_n 0, 1) := dk_42 (dk_at dksX6_change_1 3 rfl rfl)
theorem dX6_change_28 : decode cX6_change 28 = .ok (.dup, 1) := dk_89 (dk_at dksX6_change_1 4 rfl rfl)
theorem dX6_change_29 : decode cX6_change 29 = .ok (.getfield 71, 3) := dk_180 0 71 (dk_at dksX6_change_1 5 rfl rfl)
theorem dX6_change_32 : decode cX6_change 32 = .ok (.iconst 1, 1) := dk_4 (dk_at dksX6_change_1 8 rfl rfl)
theorem dX6_change_33 : decode cX6_change 33 = .ok (.isub, 1) := dk_100 (dk_at dksX6_change_1 9 rfl rfl)
theorem dX6_change_34 : decode cX6_change 34 = .ok (.putfield 71, 3) := dk_181 0 71 (dk_at dksX6_change_1 10 rfl rfl)
theorem dX6_change_37 : decode cX6_change 37 = .ok (.aload_n 0, 1) := dk_42 (dk_at dksX6_change_1 13 rfl rfl)
theorem dX6_change_38 : decode cX6_change 38 = .ok (.getfield 13, 3) := dk_180 0 13 (dk_at dksX6_change_1 14 rfl rfl)
theorem dX6_change_41 : decode cX6_change 41 = .ok (.iconst 0, 1) := dk_3 (dk_at dksX6_change_1 17 rfl rfl)
theorem dX6_change_42 : decode cX6_change 42 = .ok (.aload_n 0, 1) := dk_42 (dk_at dksX6_change_1 18 rfl rfl)
theorem dX6_change_43 : decode cX6_change 43 = .ok (.getfield 19, 3) := dk_180 0 19 (dk_at dksX6_change_1 19 rfl rfl)
theorem dX6_change_46 : decode cX6_change 46 = .ok (.sipush 391, 3) := dk_17 1 135 (dk_at dksX6_change_2 0 rfl rfl)
theorem dX6_change_49 : decode cX6_change 49 = .ok (.aload_n 0, 1) := dk_42 (dk_at dksX6_change_2 3 rfl rfl)
theorem dX6_change_50 : decode cX6_change 50 = .ok (.getfield 71, 3) := dk_180 0 71 (dk_at dksX6_change_2 4 rfl rfl)
theorem dX6_change_53 : decode cX6_change 53 = .ok (.imul, 1) := dk_104 (dk_at dksX6_change_2 7 rfl rfl)
theorem dX6_change_54 : decode cX6_change 54 = .ok (.sipush 391, 3) := dk_17 1 135 (dk_at dksX6_change_2 8 rfl rfl)
theorem dX6_change_57 : decode cX6_change 57 = .ok (.invokestatic 65, 3) := dk_184 0 65 (dk_at dksX6_change_2 11 rfl rfl)
theorem dX6_change_60 : decode cX6_change 60 = .ok (.aload_n 0, 1) := dk_42 (dk_at dksX6_change_2 14 rfl rfl)
theorem dX6_change_61 : decode cX6_change 61 = .ok (.dup, 1) := dk_89 (dk_at dksX6_change_2 15 rfl rfl)
theorem dX6_change_62 : decode cX6_change 62 = .ok (.getfield 71, 3) := dk_180 0 71 (dk_at dksX6_change_2 16 rfl rfl)
theorem dX6_change_65 : decode cX6_change 65 = .ok (.iconst 1, 1) := dk_4 (dk_at dksX6_change_2 19 rfl rfl)
theorem dX6_change_66 : decode cX6_change 66 = .ok (.iadd, 1) := dk_96 (dk_at dksX6_change_2 20 rfl rfl)
theorem dX6_change_67 : decode cX6_change 67 = .ok (.putfield 71, 3) := dk_181 0 71 (dk_at dksX6_change_2 21 rfl rfl)
theorem dX6_change_70 : decode cX6_change 70 = .ok (.return_, 1) := dk_177 (dk_at dksX6_change_3 0 rfl rfl)
abbrev cX6_setDefault : ByteArray := prog_27_method_15_code
def yX6_setDefault : MethodName := ⟨RX6, "setDefault", "(II)I"⟩
def dkwX6_setDefault_3 : List UInt8 := [6, 5, 27, 104, 96, 4, 96, 28, 79, 29, 172]
abbrev dktX6_setDefault_3 : List UInt8 := dkwX6_setDefault_3 ++ []
def dkwX6_setDefault_2 : List UInt8 := [182, 0, 92, 42, 182, 0, 95, 42, 180, 0, 9, 6, 5, 27, 104, 96, 4, 96, 46, 62, 42, 180, 0, 9]
abbrev dktX6_setDefault_2 : List UInt8 := dkwX6_setDefault_2 ++ dktX6_setDefault_3
def dkwX6_setDefault_1 : List UInt8 := [184, 0, 80, 154, 0, 7, 5, 167, 0, 4, 3, 181, 0, 62, 42, 180, 0, 62, 158, 0, 5, 3, 172, 42]
abbrev dktX6_setDefault_1 : List UInt8 := dkwX6_setDefault_1 ++ dktX6_setDefault_2
def dkwX6_setDefault_0 : List UInt8 := [42, 42, 27, 182, 0, 88, 154, 0, 7, 4, 167, 0, 25, 28, 27, 154, 0, 7, 3, 167, 0, 4, 2, 5]
abbrev dktX6_setDefault_0 : List UInt8 := dkwX6_setDefault_0 ++ dktX6_setDefault_1
theorem dksX6_setDefault_0 : cX6_setDefault.data.toList.drop 0 = dktX6_setDefault_0 := by decide +kernel
theorem dksX6_setDefault_1 : cX6_setDefault.data.toList.drop 24 = dktX6_setDefault_1 := dk_seg dksX6_setDefault_0 24 rfl rfl
theorem dksX6_setDefault_2 : cX6_setDefault.data.toList.drop 48 = dktX6_setDefault_2 := dk_seg dksX6_setDefault_1 24 rfl rfl
theorem dksX6_setDefault_3 : cX6_setDefault.data.toList.drop 72 = dktX6_setDefault_3 := dk_seg dksX6_setDefault_2 24 rfl rfl
theorem dX6_setDefault_0 : decode cX6_setDefault 0 = .ok (.aload_n 0, 1) := dk_42 (dk_at dksX6_setDefault_0 0 rfl rfl)
theorem dX6_setDefault_1 : decode cX6_setDefault 1 = .ok (.aload_n 0, 1) := dk_42 (dk_at dksX6_setDefault_0 1 rfl rfl)
theorem dX6_setDefault_2 : decode cX6_setDefault 2 = .ok (.iload_n 1, 1) := dk_27 (dk_at dksX6_setDefault_0 2 rfl rfl)
theorem dX6_setDefault_3 : decode cX6_setDefault 3 = .ok (.invokevirtual 88, 3) := dk_182 0 88 (dk_at dksX6_setDefault_0 3 rfl rfl)
theorem dX6_setDefault_6 : decode cX6_setDefault 6 = .ok (.ifCond .ne 7, 3) := dk_154 0 7 (dk_at dksX6_setDefault_0 6 rfl rfl)
theorem dX6_setDefault_9 : decode cX6_setDefault 9 = .ok (.iconst 1, 1) := dk_4 (dk_at dksX6_setDefault_0 9 rfl rfl)
theorem dX6_setDefault_10 : decode cX6_setDefault 10 = .ok (.goto 25, 3) := dk_167 0 25 (dk_at dksX6_setDefault_0 10 rfl rfl)
theorem dX6_setDefault_13 : decode cX6_setDefault 13 = .ok (.iload_n 2, 1) := dk_28 (dk_at dksX6_setDefault_0 13 rfl rfl)
theorem dX6_setDefault_14 : decode cX6_setDefault 14 = .ok (.iload_n 1, 1) := dk_27 (dk_at dksX6_setDefault_0 14 rfl rfl)
theorem dX6_setDefault_15 : decode cX6_setDefault 15 = .ok (.ifCond .ne 7, 3) := dk_154 0 7 (dk_at dksX6_setDefault_0 15 rfl rfl)
theorem dX6_setDefault_18 : decode cX6_setDefault 18 = .ok (.iconst 0, 1) := dk_3 (dk_at dksX6_setDefault_0 18 rfl rfl)
theorem dX6_setDefault_19 : decode cX6_setDefault 19 = .ok (.goto 4, 3) := dk_167 0 4 (dk_at dksX6_setDefault_0 19 rfl rfl)
theorem dX6_setDefault_22 : decode cX6_setDefault 22 = .ok (.iconst (-1), 1) := dk_2 (dk_at dksX6_setDefault_0 22 rfl rfl)
theorem dX6_setDefault_23 : decode cX6_setDefault 23 = .ok (.iconst 2, 1) := dk_5 (dk_at dksX6_setDefault_0 23 rfl rfl)
theorem dX6_setDefault_24 : decode cX6_setDefault 24 = .ok (.invokestatic 80, 3) := dk_184 0 80 (dk_at dksX6_setDefault_1 0 rfl rfl)
theorem dX6_setDefault_27 : decode cX6_setDefault 27 = .ok (.ifCond .ne 7, 3) := dk_154 0 7 (dk_at dksX6_setDefault_1 3 rfl rfl)
theorem dX6_setDefault_30 : decode cX6_setDefault 30 = .ok (.iconst 2, 1) := dk_5 (dk_at dksX6_setDefault_1 6 rfl rfl)
theorem dX6_setDefault_31 : decode cX6_setDefault 31 = .ok (.goto 4, 3) := dk_167 0 4 (dk_at dksX6_setDefault_1 7 rfl rfl)
theorem dX6_setDefault_34 : decode cX6_setDefault 34 = .ok (.iconst 0, 1) := dk_3 (dk_at dksX6_setDefault_1 10 rfl rfl)
theorem dX6_setDefault_35 : decode cX6_setDefault 35 = .ok (.putfield 62, 3) := dk_181 0 62 (dk_at dksX6_setDefault_1 11 rfl rfl)
theorem dX6_setDefault_38 : decode cX6_setDefault 38 = .ok (.aload_n 0, 1) := dk_42 (dk_at dksX6_setDefault_1 14 rfl rfl)
theorem dX6_setDefault_39 : decode cX6_setDefault 39 = .ok (.getfield 62, 3) := dk_180 0 62 (dk_at dksX6_setDefault_1 15 rfl rfl)
theorem dX6_setDefault_42 : decode cX6_setDefault 42 = .ok (.ifCond .le 5, 3) := dk_158 0 5 (dk_at dksX6_setDefault_1 18 rfl rfl)
theorem dX6_setDefault_45 : decode cX6_setDefault 45 = .ok (.iconst 0, 1) := dk_3 (dk_at dksX6_setDefault_1 21 rfl rfl)
theorem dX6_setDefault_46 : decode cX6_setDefault 46 = .ok (.ireturn, 1) := dk_172 (dk_at dksX6_setDefault_1 22 rfl rfl)
theorem dX6_setDefault_47 : decode cX6_setDefault 47 = .ok (.aload_n 0, 1) := dk_42 (dk_at dksX6_setDefault_1 23 rfl rfl)
theorem dX6_setDefault_48 : decode cX6_setDefault 48 = .ok (.invokevirtual 92, 3) := dk_182 0 92 (dk_at dksX6_setDefault_2 0 rfl rfl)
theorem dX6_setDefault_51 : decode cX6_setDefault 51 = .ok (.aload_n 0, 1) := dk_42 (dk_at dksX6_setDefault_2 3 rfl rfl)
theorem dX6_setDefault_52 : decode cX6_setDefault 52 = .ok (.invokevirtual 95, 3) := dk_182 0 95 (dk_at dksX6_setDefault_2 4 rfl rfl)
theorem dX6_setDefault_55 : decode cX6_setDefault 55 = .ok (.aload_n 0, 1) := dk_42 (dk_at dksX6_setDefault_2 7 rfl rfl)
theorem dX6_setDefault_56 : decode cX6_setDefault 56 = .ok (.getfield 9, 3) := dk_180 0 9 (dk_at dksX6_setDefault_2 8 rfl rfl)
theorem dX6_setDefault_59 : decode cX6_setDefault 59 = .ok (.iconst 3, 1) := dk_6 (dk_at dksX6_setDefault_2 11 rfl rfl)
theorem dX6_setDefault_60 : decode cX6_setDefault 60 = .ok (.iconst 2, 1) := dk_5 (dk_at dksX6_setDefault_2 12 rfl rfl)
theorem dX6_setDefault_61 : decode cX6_setDefault 61 = .ok (.iload_n 1, 1) := dk_27 (dk_at dksX6_setDefault_2 13 rfl rfl)
theorem dX6_setDefault_62 : decode cX6_setDefault 62 = .ok (.imul, 1) := dk_104 (dk_at dksX6_setDefault_2 14 rfl rfl)
theorem dX6_setDefault_63 : decode cX6_setDefault 63 = .ok (.iadd, 1) := dk_96 (dk_at dksX6_setDefault_2 15 rfl rfl)
theorem dX6_setDefault_64 : decode cX6_setDefault 64 = .ok (.iconst 1, 1) := dk_4 (dk_at dksX6_setDefault_2 16 rfl rfl)
theorem dX6_setDefault_65 : decode cX6_setDefault 65 = .ok (.iadd, 1) := dk_96 (dk_at dksX6_setDefault_2 17 rfl rfl)
theorem dX6_setDefault_66 : decode cX6_setDefault 66 = .ok (.iaload, 1) := dk_46 (dk_at dksX6_setDefault_2 18 rfl rfl)
theorem dX6_setDefault_67 : decode cX6_setDefault 67 = .ok (.istore_n 3, 1) := dk_62 (dk_at dksX6_setDefault_2 19 rfl rfl)
theorem dX6_setDefault_68 : decode cX6_setDefault 68 = .ok (.aload_n 0, 1) := dk_42 (dk_at dksX6_setDefault_2 20 rfl rfl)
theorem dX6_setDefault_69 : decode cX6_setDefault 69 = .ok (.getfield 9, 3) := dk_180 0 9 (dk_at dksX6_setDefault_2 21 rfl rfl)
theorem dX6_setDefault_72 : decode cX6_setDefault 72 = .ok (.iconst 3, 1) := dk_6 (dk_at dksX6_setDefault_3 0 rfl rfl)
theorem dX6_setDefault_73 : decode cX6_setDefault 73 = .ok (.iconst 2, 1) := dk_5 (dk_at dksX6_setDefault_3 1 rfl rfl)
theorem dX6_setDefault_74 : decode cX6_setDefault 74 = .ok (.iload_n 1, 1) := dk_27 (dk_at dksX6_setDefault_3 2 rfl rfl)
theorem dX6_setDefault_75 : decode cX6_setDefault 75 = .ok (.imul, 1) := dk_104 (dk_at dksX6_setDefault_3 3 rfl rfl)
theorem dX6_setDefault_76 : decode cX6_setDefault 76 = .ok (.iadd, 1) := dk_96 (dk_at dksX6_setDefault_3 4 rfl rfl)
theorem dX6_setDefault_77 : decode cX6_setDefault 77 = .ok (.iconst 1, 1) := dk_4 (dk_at dksX6_setDefault_3 5 rfl rfl)
theorem dX6_setDefault_78 : decode cX6_setDefault 78 = .ok (.iadd, 1) := dk_96 (dk_at dksX6_setDefault_3 6 rfl rfl)
theorem dX6_setDefault_79 : decode cX6_setDefault 79 = .ok (.iload_n 2, 1) := dk_28 (dk_at dksX6_setDefault_3 7 rfl rfl)
theorem dX6_setDefault_80 : decode cX6_setDefault 80 = .ok (.iastore, 1) := dk_79 (dk_at dksX6_setDefault_3 8 rfl rfl)
theorem dX6_setDefault_81 : decode cX6_setDefault 81 = .ok (.iload_n 3, 1) := dk_29 (dk_at dksX6_setDefault_3 9 rfl rfl)
theorem dX6_setDefault_82 : decode cX6_setDefault 82 = .ok (.ireturn, 1) := dk_172 (dk_at dksX6_setDefault_3 10 rfl rfl)
abbrev cX6_scopeOf : ByteArray := prog_27_method_16_code
def yX6_scopeOf : MethodName := ⟨RX6, "scopeOf", "(II)I"⟩
def dkwX6_scopeOf_6 : List UInt8 := [29, 172]
abbrev dktX6_scopeOf_6 : List UInt8 := dkwX6_scopeOf_6 ++ []
def dkwX6_scopeOf_5 : List UInt8 := [42, 21, 4, 4, 182, 0, 104, 27, 160, 0, 7, 4, 167, 0, 4, 3, 96, 62, 132, 4, 1, 167, 255, 223]
abbrev dktX6_scopeOf_5 : List UInt8 := dkwX6_scopeOf_5 ++ dktX6_scopeOf_6
def dkwX6_scopeOf_4 : List UInt8 := [172, 42, 27, 182, 0, 101, 172, 3, 62, 3, 54, 4, 21, 4, 42, 180, 0, 9, 4, 46, 162, 0, 28, 29]
abbrev dktX6_scopeOf_4 : List UInt8 := dkwX6_scopeOf_4 ++ dktX6_scopeOf_5
def dkwX6_scopeOf_3 : List UInt8 := [42, 27, 182, 0, 84, 172, 42, 27, 182, 0, 98, 172, 42, 180, 0, 9, 6, 5, 27, 104, 96, 4, 96, 46]
abbrev dktX6_scopeOf_3 : List UInt8 := dkwX6_scopeOf_3 ++ dktX6_scopeOf_4
def dkwX6_scopeOf_2 : List UInt8 := [170, 0, 0, 0, 0, 0, 0, 63, 0, 0, 0, 0, 0, 0, 0, 3, 0, 0, 0, 32, 0, 0, 0, 38, 0, 0, 0, 44, 0, 0, 0, 57]
abbrev dktX6_scopeOf_2 : List UInt8 := dkwX6_scopeOf_2 ++ dktX6_scopeOf_3
def dkwX6_scopeOf_1 : List UInt8 := [167, 0, 4, 3, 181, 0, 62, 42, 180, 0, 62, 158, 0, 5, 3, 172, 28]
abbrev dktX6_scopeOf_1 : List UInt8 := dkwX6_scopeOf_1 ++ dktX6_scopeOf_2
def dkwX6_scopeOf_0 : List UInt8 := [42, 42, 27, 182, 0, 88, 154, 0, 7, 4, 167, 0, 17, 28, 3, 7, 184, 0, 80, 154, 0, 7, 5]
abbrev dktX6_scopeOf_0 : List UInt8 := dkwX6_scopeOf_0 ++ dktX6_scopeOf_1
theorem dksX6_scopeOf_0 : cX6_scopeOf.data.toList.drop 0 = dktX6_scopeOf_0 := by decide +kernel
theorem dksX6_scopeOf_1 : cX6_scopeOf.data.toList.drop 23 = dktX6_scopeOf_1 := dk_seg dksX6_scopeOf_0 23 rfl rfl
theorem dksX6_scopeOf_2 : cX6_scopeOf.data.toList.drop 40 = dktX6_scopeOf_2 := dk_seg dksX6_scopeOf_1 17 rfl rfl
theorem dksX6_scopeOf_3 : cX6_scopeOf.data.toList.drop 72 = dktX6_scopeOf_3 := dk_seg dksX6_scopeOf_2 32 rfl rfl
theorem dksX6_scopeOf_4 : cX6_scopeOf.data.toList.drop 96 = dktX6_scopeOf_4 := dk_seg dksX6_scopeOf_3 24 rfl rfl
theorem dksX6_scopeOf_5 : cX6_scopeOf.data.toList.drop 120 = dktX6_scopeOf_5 := dk_seg dksX6_scopeOf_4 24 rfl rfl
theorem dksX6_scopeOf_6 : cX6_scopeOf.data.toList.drop 144 = dktX6_scopeOf_6 := dk_seg dksX6_scopeOf_5 24 rfl rfl
theorem dX6_scopeOf_0 : decode cX6_scopeOf 0 = .ok (.aload_n 0, 1) := dk_42 (dk_at dksX6_scopeOf_0 0 rfl rfl)
theorem dX6_scopeOf_1 : decode cX6_scopeOf 1 = .ok (.aload_n 0, 1) := dk_42 (dk_at dksX6_scopeOf_0 1 rfl rfl)
theorem dX6_scopeOf_2 : decode cX6_scopeOf 2 = .ok (.iload_n 1, 1) := dk_27 (dk_at dksX6_scopeOf_0 2 rfl rfl)
theorem dX6_scopeOf_3 : decode cX6_scopeOf 3 = .ok (.invokevirtual 88, 3) := dk_182 0 88 (dk_at dksX6_scopeOf_0 3 rfl rfl)
theorem dX6_scopeOf_6 : decode cX6_scopeOf 6 = .ok (.ifCond .ne 7, 3) := dk_154 0 7 (dk_at dksX6_scopeOf_0 6 rfl rfl)
theorem dX6_scopeOf_9 : decode cX6_scopeOf 9 = .ok (.iconst 1, 1) := dk_4 (dk_at dksX6_scopeOf_0 9 rfl rfl)
theorem dX6_scopeOf_10 : decode cX6_scopeOf 10 = .ok (.goto 17, 3) := dk_167 0 17 (dk_at dksX6_scopeOf_0 10 rfl rfl)
theorem dX6_scopeOf_13 : decode cX6_scopeOf 13 = .ok (.iload_n 2, 1) := dk_28 (dk_at dksX6_scopeOf_0 13 rfl rfl)
theorem dX6_scopeOf_14 : decode cX6_scopeOf 14 = .ok (.iconst 0, 1) := dk_3 (dk_at dksX6_scopeOf_0 14 rfl rfl)
theorem dX6_scopeOf_15 : decode cX6_scopeOf 15 = .ok (.iconst 4, 1) := dk_7 (dk_at dksX6_scopeOf_0 15 rfl rfl)
theorem dX6_scopeOf_16 : decode cX6_scopeOf 16 = .ok (.invokestatic 80, 3) := dk_184 0 80 (dk_at dksX6_scopeOf_0 16 rfl rfl)
theorem dX6_scopeOf_19 : decode cX6_scopeOf 19 = .ok (.ifCond .ne 7, 3) := dk_154 0 7 (dk_at dksX6_scopeOf_0 19 rfl rfl)
theorem dX6_scopeOf_22 : decode cX6_scopeOf 22 = .ok (.iconst 2, 1) := dk_5 (dk_at dksX6_scopeOf_0 22 rfl rfl)
theorem dX6_scopeOf_23 : decode cX6_scopeOf 23 = .ok (.goto 4, 3) := dk_167 0 4 (dk_at dksX6_scopeOf_1 0 rfl rfl)
theorem dX6_scopeOf_26 : decode cX6_scopeOf 26 = .ok (.iconst 0, 1) := dk_3 (dk_at dksX6_scopeOf_1 3 rfl rfl)
theorem dX6_scopeOf_27 : decode cX6_scopeOf 27 = .ok (.putfield 62, 3) := dk_181 0 62 (dk_at dksX6_scopeOf_1 4 rfl rfl)
theorem dX6_scopeOf_30 : decode cX6_scopeOf 30 = .ok (.aload_n 0, 1) := dk_42 (dk_at dksX6_scopeOf_1 7 rfl rfl)
theorem dX6_scopeOf_31 : decode cX6_scopeOf 31 = .ok (.getfield 62, 3) := dk_180 0 62 (dk_at dksX6_scopeOf_1 8 rfl rfl)
theorem dX6_scopeOf_34 : decode cX6_scopeOf 34 = .ok (.ifCond .le 5, 3) := dk_158 0 5 (dk_at dksX6_scopeOf_1 11 rfl rfl)
theorem dX6_scopeOf_37 : decode cX6_scopeOf 37 = .ok (.iconst 0, 1) := dk_3 (dk_at dksX6_scopeOf_1 14 rfl rfl)
theorem dX6_scopeOf_38 : decode cX6_scopeOf 38 = .ok (.ireturn, 1) := dk_172 (dk_at dksX6_scopeOf_1 15 rfl rfl)
theorem dX6_scopeOf_39 : decode cX6_scopeOf 39 = .ok (.iload_n 2, 1) := dk_28 (dk_at dksX6_scopeOf_1 16 rfl rfl)
theorem dX6_scopeOf_40 : decode cX6_scopeOf 40 = .ok (.tableswitch 63 0 3 #[32, 38, 44, 57], 32) := by decide +kernel
theorem dX6_scopeOf_72 : decode cX6_scopeOf 72 = .ok (.aload_n 0, 1) := dk_42 (dk_at dksX6_scopeOf_3 0 rfl rfl)
theorem dX6_scopeOf_73 : decode cX6_scopeOf 73 = .ok (.iload_n 1, 1) := dk_27 (dk_at dksX6_scopeOf_3 1 rfl rfl)
theorem dX6_scopeOf_74 : decode cX6_scopeOf 74 = .ok (.invokevirtual 84, 3) := dk_182 0 84 (dk_at dksX6_scopeOf_3 2 rfl rfl)
theorem dX6_scopeOf_77 : decode cX6_scopeOf 77 = .ok (.ireturn, 1) := dk_172 (dk_at dksX6_scopeOf_3 5 rfl rfl)
theorem dX6_scopeOf_78 : decode cX6_scopeOf 78 = .ok (.aload_n 0, 1) := dk_42 (dk_at dksX6_scopeOf_3 6 rfl rfl)
theorem dX6_scopeOf_79 : decode cX6_scopeOf 79 = .ok (.iload_n 1, 1) := dk_27 (dk_at dksX6_scopeOf_3 7 rfl rfl)
theorem dX6_scopeOf_80 : decode cX6_scopeOf 80 = .ok (.invokevirtual 98, 3) := dk_182 0 98 (dk_at dksX6_scopeOf_3 8 rfl rfl)
theorem dX6_scopeOf_83 : decode cX6_scopeOf 83 = .ok (.ireturn, 1) := dk_172 (dk_at dksX6_scopeOf_3 11 rfl rfl)
theorem dX6_scopeOf_84 : decode cX6_scopeOf 84 = .ok (.aload_n 0, 1) := dk_42 (dk_at dksX6_scopeOf_3 12 rfl rfl)
theorem dX6_scopeOf_85 : decode cX6_scopeOf 85 = .ok (.getfield 9, 3) := dk_180 0 9 (dk_at dksX6_scopeOf_3 13 rfl rfl)
theorem dX6_scopeOf_88 : decode cX6_scopeOf 88 = .ok (.iconst 3, 1) := dk_6 (dk_at dksX6_scopeOf_3 16 rfl rfl)
theorem dX6_scopeOf_89 : decode cX6_scopeOf 89 = .ok (.iconst 2, 1) := dk_5 (dk_at dksX6_scopeOf_3 17 rfl rfl)
theorem dX6_scopeOf_90 : decode cX6_scopeOf 90 = .ok (.iload_n 1, 1) := dk_27 (dk_at dksX6_scopeOf_3 18 rfl rfl)
theorem dX6_scopeOf_91 : decode cX6_scopeOf 91 = .ok (.imul, 1) := dk_104 (dk_at dksX6_scopeOf_3 19 rfl rfl)
theorem dX6_scopeOf_92 : decode cX6_scopeOf 92 = .ok (.iadd, 1) := dk_96 (dk_at dksX6_scopeOf_3 20 rfl rfl)
theorem dX6_scopeOf_93 : decode cX6_scopeOf 93 = .ok (.iconst 1, 1) := dk_4 (dk_at dksX6_scopeOf_3 21 rfl rfl)
theorem dX6_scopeOf_94 : decode cX6_scopeOf 94 = .ok (.iadd, 1) := dk_96 (dk_at dksX6_scopeOf_3 22 rfl rfl)
theorem dX6_scopeOf_95 : decode cX6_scopeOf 95 = .ok (.iaload, 1) := dk_46 (dk_at dksX6_scopeOf_3 23 rfl rfl)
theorem dX6_scopeOf_96 : decode cX6_scopeOf 96 = .ok (.ireturn, 1) := dk_172 (dk_at dksX6_scopeOf_4 0 rfl rfl)
theorem dX6_scopeOf_97 : decode cX6_scopeOf 97 = .ok (.aload_n 0, 1) := dk_42 (dk_at dksX6_scopeOf_4 1 rfl rfl)
theorem dX6_scopeOf_98 : decode cX6_scopeOf 98 = .ok (.iload_n 1, 1) := dk_27 (dk_at dksX6_scopeOf_4 2 rfl rfl)
theorem dX6_scopeOf_99 : decode cX6_scopeOf 99 = .ok (.invokevirtual 101, 3) := dk_182 0 101 (dk_at dksX6_scopeOf_4 3 rfl rfl)
theorem dX6_scopeOf_102 : decode cX6_scopeOf 102 = .ok (.ireturn, 1) := dk_172 (dk_at dksX6_scopeOf_4 6 rfl rfl)
theorem dX6_scopeOf_103 : decode cX6_scopeOf 103 = .ok (.iconst 0, 1) := dk_3 (dk_at dksX6_scopeOf_4 7 rfl rfl)
theorem dX6_scopeOf_104 : decode cX6_scopeOf 104 = .ok (.istore_n 3, 1) := dk_62 (dk_at dksX6_scopeOf_4 8 rfl rfl)
theorem dX6_scopeOf_105 : decode cX6_scopeOf 105 = .ok (.iconst 0, 1) := dk_3 (dk_at dksX6_scopeOf_4 9 rfl rfl)
theorem dX6_scopeOf_106 : decode cX6_scopeOf 106 = .ok (.istore 4, 2) := dk_54 4 (dk_at dksX6_scopeOf_4 10 rfl rfl)
theorem dX6_scopeOf_108 : decode cX6_scopeOf 108 = .ok (.iload 4, 2) := dk_21 4 (dk_at dksX6_scopeOf_4 12 rfl rfl)
theorem dX6_scopeOf_110 : decode cX6_scopeOf 110 = .ok (.aload_n 0, 1) := dk_42 (dk_at dksX6_scopeOf_4 14 rfl rfl)
theorem dX6_scopeOf_111 : decode cX6_scopeOf 111 = .ok (.getfield 9, 3) := dk_180 0 9 (dk_at dksX6_scopeOf_4 15 rfl rfl)
theorem dX6_scopeOf_114 : decode cX6_scopeOf 114 = .ok (.iconst 1, 1) := dk_4 (dk_at dksX6_scopeOf_4 18 rfl rfl)
theorem dX6_scopeOf_115 : decode cX6_scopeOf 115 = .ok (.iaload, 1) := dk_46 (dk_at dksX6_scopeOf_4 19 rfl rfl)
theorem dX6_scopeOf_116 : decode cX6_scopeOf 116 = .ok (.if_icmp .ge 28, 3) := dk_162 0 28 (dk_at dksX6_scopeOf_4 20 rfl rfl)
theorem dX6_scopeOf_119 : decode cX6_scopeOf 119 = .ok (.iload_n 3, 1) := dk_29 (dk_at dksX6_scopeOf_4 23 rfl rfl)
theorem dX6_scopeOf_120 : decode cX6_scopeOf 120 = .ok (.aload_n 0, 1) := dk_42 (dk_at dksX6_scopeOf_5 0 rfl rfl)
theorem dX6_scopeOf_121 : decode cX6_scopeOf 121 = .ok (.iload 4, 2) := dk_21 4 (dk_at dksX6_scopeOf_5 1 rfl rfl)
theorem dX6_scopeOf_123 : decode cX6_scopeOf 123 = .ok (.iconst 1, 1) := dk_4 (dk_at dksX6_scopeOf_5 3 rfl rfl)
theorem dX6_scopeOf_124 : decode cX6_scopeOf 124 = .ok (.invokevirtual 104, 3) := dk_182 0 104 (dk_at dksX6_scopeOf_5 4 rfl rfl)
theorem dX6_scopeOf_127 : decode cX6_scopeOf 127 = .ok (.iload_n 1, 1) := dk_27 (dk_at dksX6_scopeOf_5 7 rfl rfl)
theorem dX6_scopeOf_128 : decode cX6_scopeOf 128 = .ok (.if_icmp .ne 7, 3) := dk_160 0 7 (dk_at dksX6_scopeOf_5 8 rfl rfl)
theorem dX6_scopeOf_131 : decode cX6_scopeOf 131 = .ok (.iconst 1, 1) := dk_4 (dk_at dksX6_scopeOf_5 11 rfl rfl)
theorem dX6_scopeOf_132 : decode cX6_scopeOf 132 = .ok (.goto 4, 3) := dk_167 0 4 (dk_at dksX6_scopeOf_5 12 rfl rfl)
theorem dX6_scopeOf_135 : decode cX6_scopeOf 135 = .ok (.iconst 0, 1) := dk_3 (dk_at dksX6_scopeOf_5 15 rfl rfl)
theorem dX6_scopeOf_136 : decode cX6_scopeOf 136 = .ok (.iadd, 1) := dk_96 (dk_at dksX6_scopeOf_5 16 rfl rfl)
theorem dX6_scopeOf_137 : decode cX6_scopeOf 137 = .ok (.istore_n 3, 1) := dk_62 (dk_at dksX6_scopeOf_5 17 rfl rfl)
theorem dX6_scopeOf_138 : decode cX6_scopeOf 138 = .ok (.iinc 4 1, 3) := dk_132 4 1 (dk_at dksX6_scopeOf_5 18 rfl rfl)
theorem dX6_scopeOf_141 : decode cX6_scopeOf 141 = .ok (.goto (-33), 3) := dk_167 255 223 (dk_at dksX6_scopeOf_5 21 rfl rfl)
theorem dX6_scopeOf_144 : decode cX6_scopeOf 144 = .ok (.iload_n 3, 1) := dk_29 (dk_at dksX6_scopeOf_6 0 rfl rfl)
theorem dX6_scopeOf_145 : decode cX6_scopeOf 145 = .ok (.ireturn, 1) := dk_172 (dk_at dksX6_scopeOf_6 1 rfl rfl)
abbrev cX6_outer : ByteArray := prog_27_method_10_code
def yX6_outer : MethodName := ⟨RX6, "outer", "(I)I"⟩
def dkwX6_outer_0 : List UInt8 := [42, 180, 0, 9, 6, 5, 27, 104, 96, 46, 172]
abbrev dktX6_outer_0 : List UInt8 := dkwX6_outer_0 ++ []
theorem dksX6_outer_0 : cX6_outer.data.toList.drop 0 = dktX6_outer_0 := by decide +kernel
theorem dX6_outer_0 : decode cX6_outer 0 = .ok (.aload_n 0, 1) := dk_42 (dk_at dksX6_outer_0 0 rfl rfl)
theorem dX6_outer_1 : decode cX6_outer 1 = .ok (.getfield 9, 3) := dk_180 0 9 (dk_at dksX6_outer_0 1 rfl rfl)
theorem dX6_outer_4 : decode cX6_outer 4 = .ok (.iconst 3, 1) := dk_6 (dk_at dksX6_outer_0 4 rfl rfl)
theorem dX6_outer_5 : decode cX6_outer 5 = .ok (.iconst 2, 1) := dk_5 (dk_at dksX6_outer_0 5 rfl rfl)
theorem dX6_outer_6 : decode cX6_outer 6 = .ok (.iload_n 1, 1) := dk_27 (dk_at dksX6_outer_0 6 rfl rfl)
theorem dX6_outer_7 : decode cX6_outer 7 = .ok (.imul, 1) := dk_104 (dk_at dksX6_outer_0 7 rfl rfl)
theorem dX6_outer_8 : decode cX6_outer 8 = .ok (.iadd, 1) := dk_96 (dk_at dksX6_outer_0 8 rfl rfl)
theorem dX6_outer_9 : decode cX6_outer 9 = .ok (.iaload, 1) := dk_46 (dk_at dksX6_outer_0 9 rfl rfl)
theorem dX6_outer_10 : decode cX6_outer 10 = .ok (.ireturn, 1) := dk_172 (dk_at dksX6_outer_0 10 rfl rfl)
abbrev cX6_depthOf : ByteArray := prog_27_method_11_code
def yX6_depthOf : MethodName := ⟨RX6, "depthOf", "(I)I"⟩
def dkwX6_depthOf_1 : List UInt8 := [28, 172]
abbrev dktX6_depthOf_1 : List UInt8 := dkwX6_depthOf_1 ++ []
def dkwX6_depthOf_0 : List UInt8 := [3, 61, 42, 27, 182, 0, 84, 62, 29, 155, 0, 15, 132, 2, 1, 42, 29, 182, 0, 84, 62, 167, 255, 243]
abbrev dktX6_depthOf_0 : List UInt8 := dkwX6_depthOf_0 ++ dktX6_depthOf_1
theorem dksX6_depthOf_0 : cX6_depthOf.data.toList.drop 0 = dktX6_depthOf_0 := by decide +kernel
theorem dksX6_depthOf_1 : cX6_depthOf.data.toList.drop 24 = dktX6_depthOf_1 := dk_seg dksX6_depthOf_0 24 rfl rfl
theorem dX6_depthOf_0 : decode cX6_depthOf 0 = .ok (.iconst 0, 1) := dk_3 (dk_at dksX6_depthOf_0 0 rfl rfl)
theorem dX6_depthOf_1 : decode cX6_depthOf 1 = .ok (.istore_n 2, 1) := dk_61 (dk_at dksX6_depthOf_0 1 rfl rfl)
theorem dX6_depthOf_2 : decode cX6_depthOf 2 = .ok (.aload_n 0, 1) := dk_42 (dk_at dksX6_depthOf_0 2 rfl rfl)
theorem dX6_depthOf_3 : decode cX6_depthOf 3 = .ok (.iload_n 1, 1) := dk_27 (dk_at dksX6_depthOf_0 3 rfl rfl)
theorem dX6_depthOf_4 : decode cX6_depthOf 4 = .ok (.invokevirtual 84, 3) := dk_182 0 84 (dk_at dksX6_depthOf_0 4 rfl rfl)
theorem dX6_depthOf_7 : decode cX6_depthOf 7 = .ok (.istore_n 3, 1) := dk_62 (dk_at dksX6_depthOf_0 7 rfl rfl)
theorem dX6_depthOf_8 : decode cX6_depthOf 8 = .ok (.iload_n 3, 1) := dk_29 (dk_at dksX6_depthOf_0 8 rfl rfl)
theorem dX6_depthOf_9 : decode cX6_depthOf 9 = .ok (.ifCond .lt 15, 3) := dk_155 0 15 (dk_at dksX6_depthOf_0 9 rfl rfl)
theorem dX6_depthOf_12 : decode cX6_depthOf 12 = .ok (.iinc 2 1, 3) := dk_132 2 1 (dk_at dksX6_depthOf_0 12 rfl rfl)
theorem dX6_depthOf_15 : decode cX6_depthOf 15 = .ok (.aload_n 0, 1) := dk_42 (dk_at dksX6_depthOf_0 15 rfl rfl)
theorem dX6_depthOf_16 : decode cX6_depthOf 16 = .ok (.iload_n 3, 1) := dk_29 (dk_at dksX6_depthOf_0 16 rfl rfl)
theorem dX6_depthOf_17 : decode cX6_depthOf 17 = .ok (.invokevirtual 84, 3) := dk_182 0 84 (dk_at dksX6_depthOf_0 17 rfl rfl)
theorem dX6_depthOf_20 : decode cX6_depthOf 20 = .ok (.istore_n 3, 1) := dk_62 (dk_at dksX6_depthOf_0 20 rfl rfl)
theorem dX6_depthOf_21 : decode cX6_depthOf 21 = .ok (.goto (-13), 3) := dk_167 255 243 (dk_at dksX6_depthOf_0 21 rfl rfl)
theorem dX6_depthOf_24 : decode cX6_depthOf 24 = .ok (.iload_n 2, 1) := dk_28 (dk_at dksX6_depthOf_1 0 rfl rfl)
theorem dX6_depthOf_25 : decode cX6_depthOf 25 = .ok (.ireturn, 1) := dk_172 (dk_at dksX6_depthOf_1 1 rfl rfl)
abbrev cX6_defaultFor : ByteArray := prog_27_method_13_code
def yX6_defaultFor : MethodName := ⟨RX6, "defaultFor", "(I)I"⟩
def dkwX6_defaultFor_1 : List UInt8 := [167, 255, 235, 42, 180, 0, 9, 6, 5, 28, 104, 96, 4, 96, 46, 172]
abbrev dktX6_defaultFor_1 : List UInt8 := dkwX6_defaultFor_1 ++ []
def dkwX6_defaultFor_0 : List UInt8 := [27, 61, 42, 180, 0, 9, 6, 5, 28, 104, 96, 4, 96, 46, 156, 0, 12, 42, 28, 182, 0, 84, 61]
abbrev dktX6_defaultFor_0 : List UInt8 := dkwX6_defaultFor_0 ++ dktX6_defaultFor_1
theorem dksX6_defaultFor_0 : cX6_defaultFor.data.toList.drop 0 = dktX6_defaultFor_0 := by decide +kernel
theorem dksX6_defaultFor_1 : cX6_defaultFor.data.toList.drop 23 = dktX6_defaultFor_1 := dk_seg dksX6_defaultFor_0 23 rfl rfl
theorem dX6_defaultFor_0 : decode cX6_defaultFor 0 = .ok (.iload_n 1, 1) := dk_27 (dk_at dksX6_defaultFor_0 0 rfl rfl)
theorem dX6_defaultFor_1 : decode cX6_defaultFor 1 = .ok (.istore_n 2, 1) := dk_61 (dk_at dksX6_defaultFor_0 1 rfl rfl)
theorem dX6_defaultFor_2 : decode cX6_defaultFor 2 = .ok (.aload_n 0, 1) := dk_42 (dk_at dksX6_defaultFor_0 2 rfl rfl)
theorem dX6_defaultFor_3 : decode cX6_defaultFor 3 = .ok (.getfield 9, 3) := dk_180 0 9 (dk_at dksX6_defaultFor_0 3 rfl rfl)
theorem dX6_defaultFor_6 : decode cX6_defaultFor 6 = .ok (.iconst 3, 1) := dk_6 (dk_at dksX6_defaultFor_0 6 rfl rfl)
theorem dX6_defaultFor_7 : decode cX6_defaultFor 7 = .ok (.iconst 2, 1) := dk_5 (dk_at dksX6_defaultFor_0 7 rfl rfl)
theorem dX6_defaultFor_8 : decode cX6_defaultFor 8 = .ok (.iload_n 2, 1) := dk_28 (dk_at dksX6_defaultFor_0 8 rfl rfl)
theorem dX6_defaultFor_9 : decode cX6_defaultFor 9 = .ok (.imul, 1) := dk_104 (dk_at dksX6_defaultFor_0 9 rfl rfl)
theorem dX6_defaultFor_10 : decode cX6_defaultFor 10 = .ok (.iadd, 1) := dk_96 (dk_at dksX6_defaultFor_0 10 rfl rfl)
theorem dX6_defaultFor_11 : decode cX6_defaultFor 11 = .ok (.iconst 1, 1) := dk_4 (dk_at dksX6_defaultFor_0 11 rfl rfl)
theorem dX6_defaultFor_12 : decode cX6_defaultFor 12 = .ok (.iadd, 1) := dk_96 (dk_at dksX6_defaultFor_0 12 rfl rfl)
theorem dX6_defaultFor_13 : decode cX6_defaultFor 13 = .ok (.iaload, 1) := dk_46 (dk_at dksX6_defaultFor_0 13 rfl rfl)
theorem dX6_defaultFor_14 : decode cX6_defaultFor 14 = .ok (.ifCond .ge 12, 3) := dk_156 0 12 (dk_at dksX6_defaultFor_0 14 rfl rfl)
theorem dX6_defaultFor_17 : decode cX6_defaultFor 17 = .ok (.aload_n 0, 1) := dk_42 (dk_at dksX6_defaultFor_0 17 rfl rfl)
theorem dX6_defaultFor_18 : decode cX6_defaultFor 18 = .ok (.iload_n 2, 1) := dk_28 (dk_at dksX6_defaultFor_0 18 rfl rfl)
theorem dX6_defaultFor_19 : decode cX6_defaultFor 19 = .ok (.invokevirtual 84, 3) := dk_182 0 84 (dk_at dksX6_defaultFor_0 19 rfl rfl)
theorem dX6_defaultFor_22 : decode cX6_defaultFor 22 = .ok (.istore_n 2, 1) := dk_61 (dk_at dksX6_defaultFor_0 22 rfl rfl)
theorem dX6_defaultFor_23 : decode cX6_defaultFor 23 = .ok (.goto (-21), 3) := dk_167 255 235 (dk_at dksX6_defaultFor_1 0 rfl rfl)
theorem dX6_defaultFor_26 : decode cX6_defaultFor 26 = .ok (.aload_n 0, 1) := dk_42 (dk_at dksX6_defaultFor_1 3 rfl rfl)
theorem dX6_defaultFor_27 : decode cX6_defaultFor 27 = .ok (.getfield 9, 3) := dk_180 0 9 (dk_at dksX6_defaultFor_1 4 rfl rfl)
theorem dX6_defaultFor_30 : decode cX6_defaultFor 30 = .ok (.iconst 3, 1) := dk_6 (dk_at dksX6_defaultFor_1 7 rfl rfl)
theorem dX6_defaultFor_31 : decode cX6_defaultFor 31 = .ok (.iconst 2, 1) := dk_5 (dk_at dksX6_defaultFor_1 8 rfl rfl)
theorem dX6_defaultFor_32 : decode cX6_defaultFor 32 = .ok (.iload_n 2, 1) := dk_28 (dk_at dksX6_defaultFor_1 9 rfl rfl)
theorem dX6_defaultFor_33 : decode cX6_defaultFor 33 = .ok (.imul, 1) := dk_104 (dk_at dksX6_defaultFor_1 10 rfl rfl)
theorem dX6_defaultFor_34 : decode cX6_defaultFor 34 = .ok (.iadd, 1) := dk_96 (dk_at dksX6_defaultFor_1 11 rfl rfl)
theorem dX6_defaultFor_35 : decode cX6_defaultFor 35 = .ok (.iconst 1, 1) := dk_4 (dk_at dksX6_defaultFor_1 12 rfl rfl)
theorem dX6_defaultFor_36 : decode cX6_defaultFor 36 = .ok (.iadd, 1) := dk_96 (dk_at dksX6_defaultFor_1 13 rfl rfl)
theorem dX6_defaultFor_37 : decode cX6_defaultFor 37 = .ok (.iaload, 1) := dk_46 (dk_at dksX6_defaultFor_1 14 rfl rfl)
theorem dX6_defaultFor_38 : decode cX6_defaultFor 38 = .ok (.ireturn, 1) := dk_172 (dk_at dksX6_defaultFor_1 15 rfl rfl)
abbrev cX6_of : ByteArray := prog_27_method_20_code
def yX6_of : MethodName := ⟨RX6, "of", "(II)I"⟩
def dkwX6_of_0 : List UInt8 := [42, 180, 0, 9, 27, 184, 0, 112, 28, 96, 46, 172]
abbrev dktX6_of_0 : List UInt8 := dkwX6_of_0 ++ []
theorem dksX6_of_0 : cX6_of.data.toList.drop 0 = dktX6_of_0 := by decide +kernel
theorem dX6_of_0 : decode cX6_of 0 = .ok (.aload_n 0, 1) := dk_42 (dk_at dksX6_of_0 0 rfl rfl)
theorem dX6_of_1 : decode cX6_of 1 = .ok (.getfield 9, 3) := dk_180 0 9 (dk_at dksX6_of_0 1 rfl rfl)
theorem dX6_of_4 : decode cX6_of 4 = .ok (.iload_n 1, 1) := dk_27 (dk_at dksX6_of_0 4 rfl rfl)
theorem dX6_of_5 : decode cX6_of 5 = .ok (.invokestatic 112, 3) := dk_184 0 112 (dk_at dksX6_of_0 5 rfl rfl)
theorem dX6_of_8 : decode cX6_of 8 = .ok (.iload_n 2, 1) := dk_28 (dk_at dksX6_of_0 8 rfl rfl)
theorem dX6_of_9 : decode cX6_of 9 = .ok (.iadd, 1) := dk_96 (dk_at dksX6_of_0 9 rfl rfl)
theorem dX6_of_10 : decode cX6_of 10 = .ok (.iaload, 1) := dk_46 (dk_at dksX6_of_0 10 rfl rfl)
theorem dX6_of_11 : decode cX6_of 11 = .ok (.ireturn, 1) := dk_172 (dk_at dksX6_of_0 11 rfl rfl)
abbrev cX6_at : ByteArray := prog_27_method_19_code
def yX6_at : MethodName := ⟨RX6, "at", "(I)I"⟩
def dkwX6_at_0 : List UInt8 := [16, 23, 16, 20, 26, 104, 96, 172]
abbrev dktX6_at_0 : List UInt8 := dkwX6_at_0 ++ []
theorem dksX6_at_0 : cX6_at.data.toList.drop 0 = dktX6_at_0 := by decide +kernel
theorem dX6_at_0 : decode cX6_at 0 = .ok (.bipush 23, 2) := dk_16 23 (dk_at dksX6_at_0 0 rfl rfl)
theorem dX6_at_2 : decode cX6_at 2 = .ok (.bipush 20, 2) := dk_16 20 (dk_at dksX6_at_0 2 rfl rfl)
theorem dX6_at_4 : decode cX6_at 4 = .ok (.iload_n 0, 1) := dk_26 (dk_at dksX6_at_0 4 rfl rfl)
theorem dX6_at_5 : decode cX6_at 5 = .ok (.imul, 1) := dk_104 (dk_at dksX6_at_0 5 rfl rfl)
theorem dX6_at_6 : decode cX6_at 6 = .ok (.iadd, 1) := dk_96 (dk_at dksX6_at_0 6 rfl rfl)
theorem dX6_at_7 : decode cX6_at 7 = .ok (.ireturn, 1) := dk_172 (dk_at dksX6_at_0 7 rfl rfl)
abbrev cX6_isWithin : ByteArray := prog_27_method_17_code
def yX6_isWithin : MethodName := ⟨RX6, "isWithin", "(II)Z"⟩
def dkwX6_isWithin_2 : List UInt8 := [172]
abbrev dktX6_isWithin_2 : List UInt8 := dkwX6_isWithin_2 ++ []
def dkwX6_isWithin_1 : List UInt8 := [181, 0, 62, 42, 180, 0, 62, 154, 0, 16, 42, 27, 28, 182, 0, 108, 153, 0, 7, 4, 167, 0, 4, 3]
abbrev dktX6_isWithin_1 : List UInt8 := dkwX6_isWithin_1 ++ dktX6_isWithin_2
def dkwX6_isWithin_0 : List UInt8 := [42, 42, 27, 182, 0, 88, 153, 0, 15, 42, 28, 182, 0, 88, 153, 0, 7, 3, 167, 0, 4, 4]
abbrev dktX6_isWithin_0 : List UInt8 := dkwX6_isWithin_0 ++ dktX6_isWithin_1
theorem dksX6_isWithin_0 : cX6_isWithin.data.toList.drop 0 = dktX6_isWithin_0 := by decide +kernel
theorem dksX6_isWithin_1 : cX6_isWithin.data.toList.drop 22 = dktX6_isWithin_1 := dk_seg dksX6_isWithin_0 22 rfl rfl
theorem dksX6_isWithin_2 : cX6_isWithin.data.toList.drop 46 = dktX6_isWithin_2 := dk_seg dksX6_isWithin_1 24 rfl rfl
theorem dX6_isWithin_0 : decode cX6_isWithin 0 = .ok (.aload_n 0, 1) := dk_42 (dk_at dksX6_isWithin_0 0 rfl rfl)
theorem dX6_isWithin_1 : decode cX6_isWithin 1 = .ok (.aload_n 0, 1) := dk_42 (dk_at dksX6_isWithin_0 1 rfl rfl)
theorem dX6_isWithin_2 : decode cX6_isWithin 2 = .ok (.iload_n 1, 1) := dk_27 (dk_at dksX6_isWithin_0 2 rfl rfl)
theorem dX6_isWithin_3 : decode cX6_isWithin 3 = .ok (.invokevirtual 88, 3) := dk_182 0 88 (dk_at dksX6_isWithin_0 3 rfl rfl)
theorem dX6_isWithin_6 : decode cX6_isWithin 6 = .ok (.ifCond .eq 15, 3) := dk_153 0 15 (dk_at dksX6_isWithin_0 6 rfl rfl)
theorem dX6_isWithin_9 : decode cX6_isWithin 9 = .ok (.aload_n 0, 1) := dk_42 (dk_at dksX6_isWithin_0 9 rfl rfl)
theorem dX6_isWithin_10 : decode cX6_isWithin 10 = .ok (.iload_n 2, 1) := dk_28 (dk_at dksX6_isWithin_0 10 rfl rfl)
theorem dX6_isWithin_11 : decode cX6_isWithin 11 = .ok (.invokevirtual 88, 3) := dk_182 0 88 (dk_at dksX6_isWithin_0 11 rfl rfl)
theorem dX6_isWithin_14 : decode cX6_isWithin 14 = .ok (.ifCond .eq 7, 3) := dk_153 0 7 (dk_at dksX6_isWithin_0 14 rfl rfl)
theorem dX6_isWithin_17 : decode cX6_isWithin 17 = .ok (.iconst 0, 1) := dk_3 (dk_at dksX6_isWithin_0 17 rfl rfl)
theorem dX6_isWithin_18 : decode cX6_isWithin 18 = .ok (.goto 4, 3) := dk_167 0 4 (dk_at dksX6_isWithin_0 18 rfl rfl)
theorem dX6_isWithin_21 : decode cX6_isWithin 21 = .ok (.iconst 1, 1) := dk_4 (dk_at dksX6_isWithin_0 21 rfl rfl)
theorem dX6_isWithin_22 : decode cX6_isWithin 22 = .ok (.putfield 62, 3) := dk_181 0 62 (dk_at dksX6_isWithin_1 0 rfl rfl)
theorem dX6_isWithin_25 : decode cX6_isWithin 25 = .ok (.aload_n 0, 1) := dk_42 (dk_at dksX6_isWithin_1 3 rfl rfl)
theorem dX6_isWithin_26 : decode cX6_isWithin 26 = .ok (.getfield 62, 3) := dk_180 0 62 (dk_at dksX6_isWithin_1 4 rfl rfl)
theorem dX6_isWithin_29 : decode cX6_isWithin 29 = .ok (.ifCond .ne 16, 3) := dk_154 0 16 (dk_at dksX6_isWithin_1 7 rfl rfl)
theorem dX6_isWithin_32 : decode cX6_isWithin 32 = .ok (.aload_n 0, 1) := dk_42 (dk_at dksX6_isWithin_1 10 rfl rfl)
theorem dX6_isWithin_33 : decode cX6_isWithin 33 = .ok (.iload_n 1, 1) := dk_27 (dk_at dksX6_isWithin_1 11 rfl rfl)
theorem dX6_isWithin_34 : decode cX6_isWithin 34 = .ok (.iload_n 2, 1) := dk_28 (dk_at dksX6_isWithin_1 12 rfl rfl)
theorem dX6_isWithin_35 : decode cX6_isWithin 35 = .ok (.invokevirtual 108, 3) := dk_182 0 108 (dk_at dksX6_isWithin_1 13 rfl rfl)
theorem dX6_isWithin_38 : decode cX6_isWithin 38 = .ok (.ifCond .eq 7, 3) := dk_153 0 7 (dk_at dksX6_isWithin_1 16 rfl rfl)
theorem dX6_isWithin_41 : decode cX6_isWithin 41 = .ok (.iconst 1, 1) := dk_4 (dk_at dksX6_isWithin_1 19 rfl rfl)
theorem dX6_isWithin_42 : decode cX6_isWithin 42 = .ok (.goto 4, 3) := dk_167 0 4 (dk_at dksX6_isWithin_1 20 rfl rfl)
theorem dX6_isWithin_45 : decode cX6_isWithin 45 = .ok (.iconst 0, 1) := dk_3 (dk_at dksX6_isWithin_1 23 rfl rfl)
theorem dX6_isWithin_46 : decode cX6_isWithin 46 = .ok (.ireturn, 1) := dk_172 (dk_at dksX6_isWithin_2 0 rfl rfl)
abbrev cX6_within : ByteArray := prog_27_method_12_code
def yX6_within : MethodName := ⟨RX6, "within", "(II)Z"⟩
def dkwX6_within_1 : List UInt8 := [167, 0, 4, 3, 172]
abbrev dktX6_within_1 : List UInt8 := dkwX6_within_1 ++ []
def dkwX6_within_0 : List UInt8 := [27, 62, 29, 28, 164, 0, 12, 42, 29, 182, 0, 84, 62, 167, 255, 245, 29, 28, 160, 0, 7, 4]
abbrev dktX6_within_0 : List UInt8 := dkwX6_within_0 ++ dktX6_within_1
theorem dksX6_within_0 : cX6_within.data.toList.drop 0 = dktX6_within_0 := by decide +kernel
theorem dksX6_within_1 : cX6_within.data.toList.drop 22 = dktX6_within_1 := dk_seg dksX6_within_0 22 rfl rfl
theorem dX6_within_0 : decode cX6_within 0 = .ok (.iload_n 1, 1) := dk_27 (dk_at dksX6_within_0 0 rfl rfl)
theorem dX6_within_1 : decode cX6_within 1 = .ok (.istore_n 3, 1) := dk_62 (dk_at dksX6_within_0 1 rfl rfl)
theorem dX6_within_2 : decode cX6_within 2 = .ok (.iload_n 3, 1) := dk_29 (dk_at dksX6_within_0 2 rfl rfl)
theorem dX6_within_3 : decode cX6_within 3 = .ok (.iload_n 2, 1) := dk_28 (dk_at dksX6_within_0 3 rfl rfl)
theorem dX6_within_4 : decode cX6_within 4 = .ok (.if_icmp .le 12, 3) := dk_164 0 12 (dk_at dksX6_within_0 4 rfl rfl)
theorem dX6_within_7 : decode cX6_within 7 = .ok (.aload_n 0, 1) := dk_42 (dk_at dksX6_within_0 7 rfl rfl)
theorem dX6_within_8 : decode cX6_within 8 = .ok (.iload_n 3, 1) := dk_29 (dk_at dksX6_within_0 8 rfl rfl)
theorem dX6_within_9 : decode cX6_within 9 = .ok (.invokevirtual 84, 3) := dk_182 0 84 (dk_at dksX6_within_0 9 rfl rfl)
theorem dX6_within_12 : decode cX6_within 12 = .ok (.istore_n 3, 1) := dk_62 (dk_at dksX6_within_0 12 rfl rfl)
theorem dX6_within_13 : decode cX6_within 13 = .ok (.goto (-11), 3) := dk_167 255 245 (dk_at dksX6_within_0 13 rfl rfl)
theorem dX6_within_16 : decode cX6_within 16 = .ok (.iload_n 3, 1) := dk_29 (dk_at dksX6_within_0 16 rfl rfl)
theorem dX6_within_17 : decode cX6_within 17 = .ok (.iload_n 2, 1) := dk_28 (dk_at dksX6_within_0 17 rfl rfl)
theorem dX6_within_18 : decode cX6_within 18 = .ok (.if_icmp .ne 7, 3) := dk_160 0 7 (dk_at dksX6_within_0 18 rfl rfl)
theorem dX6_within_21 : decode cX6_within 21 = .ok (.iconst 1, 1) := dk_4 (dk_at dksX6_within_0 21 rfl rfl)
theorem dX6_within_22 : decode cX6_within 22 = .ok (.goto 4, 3) := dk_167 0 4 (dk_at dksX6_within_1 0 rfl rfl)
theorem dX6_within_25 : decode cX6_within 25 = .ok (.iconst 0, 1) := dk_3 (dk_at dksX6_within_1 3 rfl rfl)
theorem dX6_within_26 : decode cX6_within 26 = .ok (.ireturn, 1) := dk_172 (dk_at dksX6_within_1 4 rfl rfl)
abbrev cX6_rule : ByteArray := prog_27_method_25_code
def yX6_rule : MethodName := ⟨RX6, "rule", "(IIIII)I"⟩
def dkwX6_rule_3 : List UInt8 := [21, 4, 21, 5, 182, 0, 139, 172]
abbrev dktX6_rule_3 : List UInt8 := dkwX6_rule_3 ++ []
def dkwX6_rule_2 : List UInt8 := [167, 0, 4, 3, 181, 0, 62, 42, 180, 0, 62, 158, 0, 7, 3, 167, 0, 15, 42, 27, 2, 28, 29]
abbrev dktX6_rule_2 : List UInt8 := dkwX6_rule_2 ++ dktX6_rule_3
def dkwX6_rule_1 : List UInt8 := [184, 0, 80, 153, 0, 19, 21, 4, 184, 0, 136, 153, 0, 11, 21, 5, 184, 0, 136, 154, 0, 7, 5]
abbrev dktX6_rule_1 : List UInt8 := dkwX6_rule_1 ++ dktX6_rule_2
def dkwX6_rule_0 : List UInt8 := [42, 42, 28, 182, 0, 88, 154, 0, 7, 4, 167, 0, 41, 27, 184, 0, 133, 153, 0, 29, 29, 3, 16, 9]
abbrev dktX6_rule_0 : List UInt8 := dkwX6_rule_0 ++ dktX6_rule_1
theorem dksX6_rule_0 : cX6_rule.data.toList.drop 0 = dktX6_rule_0 := by decide +kernel
theorem dksX6_rule_1 : cX6_rule.data.toList.drop 24 = dktX6_rule_1 := dk_seg dksX6_rule_0 24 rfl rfl
theorem dksX6_rule_2 : cX6_rule.data.toList.drop 47 = dktX6_rule_2 := dk_seg dksX6_rule_1 23 rfl rfl
theorem dksX6_rule_3 : cX6_rule.data.toList.drop 70 = dktX6_rule_3 := dk_seg dksX6_rule_2 23 rfl rfl
theorem dX6_rule_0 : decode cX6_rule 0 = .ok (.aload_n 0, 1) := dk_42 (dk_at dksX6_rule_0 0 rfl rfl)
theorem dX6_rule_1 : decode cX6_rule 1 = .ok (.aload_n 0, 1) := dk_42 (dk_at dksX6_rule_0 1 rfl rfl)
theorem dX6_rule_2 : decode cX6_rule 2 = .ok (.iload_n 2, 1) := dk_28 (dk_at dksX6_rule_0 2 rfl rfl)
theorem dX6_rule_3 : decode cX6_rule 3 = .ok (.invokevirtual 88, 3) := dk_182 0 88 (dk_at dksX6_rule_0 3 rfl rfl)
theorem dX6_rule_6 : decode cX6_rule 6 = .ok (.ifCond .ne 7, 3) := dk_154 0 7 (dk_at dksX6_rule_0 6 rfl rfl)
theorem dX6_rule_9 : decode cX6_rule 9 = .ok (.iconst 1, 1) := dk_4 (dk_at dksX6_rule_0 9 rfl rfl)
theorem dX6_rule_10 : decode cX6_rule 10 = .ok (.goto 41, 3) := dk_167 0 41 (dk_at dksX6_rule_0 10 rfl rfl)
theorem dX6_rule_13 : decode cX6_rule 13 = .ok (.iload_n 1, 1) := dk_27 (dk_at dksX6_rule_0 13 rfl rfl)
theorem dX6_rule_14 : decode cX6_rule 14 = .ok (.invokestatic 133, 3) := dk_184 0 133 (dk_at dksX6_rule_0 14 rfl rfl)
theorem dX6_rule_17 : decode cX6_rule 17 = .ok (.ifCond .eq 29, 3) := dk_153 0 29 (dk_at dksX6_rule_0 17 rfl rfl)
theorem dX6_rule_20 : decode cX6_rule 20 = .ok (.iload_n 3, 1) := dk_29 (dk_at dksX6_rule_0 20 rfl rfl)
theorem dX6_rule_21 : decode cX6_rule 21 = .ok (.iconst 0, 1) := dk_3 (dk_at dksX6_rule_0 21 rfl rfl)
theorem dX6_rule_22 : decode cX6_rule 22 = .ok (.bipush 9, 2) := dk_16 9 (dk_at dksX6_rule_0 22 rfl rfl)
theorem dX6_rule_24 : decode cX6_rule 24 = .ok (.invokestatic 80, 3) := dk_184 0 80 (dk_at dksX6_rule_1 0 rfl rfl)
theorem dX6_rule_27 : decode cX6_rule 27 = .ok (.ifCond .eq 19, 3) := dk_153 0 19 (dk_at dksX6_rule_1 3 rfl rfl)
theorem dX6_rule_30 : decode cX6_rule 30 = .ok (.iload 4, 2) := dk_21 4 (dk_at dksX6_rule_1 6 rfl rfl)
theorem dX6_rule_32 : decode cX6_rule 32 = .ok (.invokestatic 136, 3) := dk_184 0 136 (dk_at dksX6_rule_1 8 rfl rfl)
theorem dX6_rule_35 : decode cX6_rule 35 = .ok (.ifCond .eq 11, 3) := dk_153 0 11 (dk_at dksX6_rule_1 11 rfl rfl)
theorem dX6_rule_38 : decode cX6_rule 38 = .ok (.iload 5, 2) := dk_21 5 (dk_at dksX6_rule_1 14 rfl rfl)
theorem dX6_rule_40 : decode cX6_rule 40 = .ok (.invokestatic 136, 3) := dk_184 0 136 (dk_at dksX6_rule_1 16 rfl rfl)
theorem dX6_rule_43 : decode cX6_rule 43 = .ok (.ifCond .ne 7, 3) := dk_154 0 7 (dk_at dksX6_rule_1 19 rfl rfl)
theorem dX6_rule_46 : decode cX6_rule 46 = .ok (.iconst 2, 1) := dk_5 (dk_at dksX6_rule_1 22 rfl rfl)
theorem dX6_rule_47 : decode cX6_rule 47 = .ok (.goto 4, 3) := dk_167 0 4 (dk_at dksX6_rule_2 0 rfl rfl)
theorem dX6_rule_50 : decode cX6_rule 50 = .ok (.iconst 0, 1) := dk_3 (dk_at dksX6_rule_2 3 rfl rfl)
theorem dX6_rule_51 : decode cX6_rule 51 = .ok (.putfield 62, 3) := dk_181 0 62 (dk_at dksX6_rule_2 4 rfl rfl)
theorem dX6_rule_54 : decode cX6_rule 54 = .ok (.aload_n 0, 1) := dk_42 (dk_at dksX6_rule_2 7 rfl rfl)
theorem dX6_rule_55 : decode cX6_rule 55 = .ok (.getfield 62, 3) := dk_180 0 62 (dk_at dksX6_rule_2 8 rfl rfl)
theorem dX6_rule_58 : decode cX6_rule 58 = .ok (.ifCond .le 7, 3) := dk_158 0 7 (dk_at dksX6_rule_2 11 rfl rfl)
theorem dX6_rule_61 : decode cX6_rule 61 = .ok (.iconst 0, 1) := dk_3 (dk_at dksX6_rule_2 14 rfl rfl)
theorem dX6_rule_62 : decode cX6_rule 62 = .ok (.goto 15, 3) := dk_167 0 15 (dk_at dksX6_rule_2 15 rfl rfl)
theorem dX6_rule_65 : decode cX6_rule 65 = .ok (.aload_n 0, 1) := dk_42 (dk_at dksX6_rule_2 18 rfl rfl)
theorem dX6_rule_66 : decode cX6_rule 66 = .ok (.iload_n 1, 1) := dk_27 (dk_at dksX6_rule_2 19 rfl rfl)
theorem dX6_rule_67 : decode cX6_rule 67 = .ok (.iconst (-1), 1) := dk_2 (dk_at dksX6_rule_2 20 rfl rfl)
theorem dX6_rule_68 : decode cX6_rule 68 = .ok (.iload_n 2, 1) := dk_28 (dk_at dksX6_rule_2 21 rfl rfl)
theorem dX6_rule_69 : decode cX6_rule 69 = .ok (.iload_n 3, 1) := dk_29 (dk_at dksX6_rule_2 22 rfl rfl)
theorem dX6_rule_70 : decode cX6_rule 70 = .ok (.iload 4, 2) := dk_21 4 (dk_at dksX6_rule_3 0 rfl rfl)
theorem dX6_rule_72 : decode cX6_rule 72 = .ok (.iload 5, 2) := dk_21 5 (dk_at dksX6_rule_3 2 rfl rfl)
theorem dX6_rule_74 : decode cX6_rule 74 = .ok (.invokevirtual 139, 3) := dk_182 0 139 (dk_at dksX6_rule_3 4 rfl rfl)
theorem dX6_rule_77 : decode cX6_rule 77 = .ok (.ireturn, 1) := dk_172 (dk_at dksX6_rule_3 7 rfl rfl)
abbrev cX6_isEffect : ByteArray := prog_27_method_8_code
def yX6_isEffect : MethodName := ⟨RX6, "isEffect", "(I)Z"⟩
def dkwX6_isEffect_0 : List UInt8 := [26, 3, 5, 184, 0, 80, 172]
abbrev dktX6_isEffect_0 : List UInt8 := dkwX6_isEffect_0 ++ []
theorem dksX6_isEffect_0 : cX6_isEffect.data.toList.drop 0 = dktX6_isEffect_0 := by decide +kernel
theorem dX6_isEffect_0 : decode cX6_isEffect 0 = .ok (.iload_n 0, 1) := dk_26 (dk_at dksX6_isEffect_0 0 rfl rfl)
theorem dX6_isEffect_1 : decode cX6_isEffect 1 = .ok (.iconst 0, 1) := dk_3 (dk_at dksX6_isEffect_0 1 rfl rfl)
theorem dX6_isEffect_2 : decode cX6_isEffect 2 = .ok (.iconst 2, 1) := dk_5 (dk_at dksX6_isEffect_0 2 rfl rfl)
theorem dX6_isEffect_3 : decode cX6_isEffect 3 = .ok (.invokestatic 80, 3) := dk_184 0 80 (dk_at dksX6_isEffect_0 3 rfl rfl)
theorem dX6_isEffect_6 : decode cX6_isEffect 6 = .ok (.ireturn, 1) := dk_172 (dk_at dksX6_isEffect_0 6 rfl rfl)
abbrev cX6_isDay : ByteArray := prog_27_method_7_code
def yX6_isDay : MethodName := ⟨RX6, "isDay", "(I)Z"⟩
def dkwX6_isDay_0 : List UInt8 := [26, 3, 17, 3, 231, 184, 0, 80, 172]
abbrev dktX6_isDay_0 : List UInt8 := dkwX6_isDay_0 ++ []
theorem dksX6_isDay_0 : cX6_isDay.data.toList.drop 0 = dktX6_isDay_0 := by decide +kernel
theorem dX6_isDay_0 : decode cX6_isDay 0 = .ok (.iload_n 0, 1) := dk_26 (dk_at dksX6_isDay_0 0 rfl rfl)
theorem dX6_isDay_1 : decode cX6_isDay 1 = .ok (.iconst 0, 1) := dk_3 (dk_at dksX6_isDay_0 1 rfl rfl)
theorem dX6_isDay_2 : decode cX6_isDay 2 = .ok (.sipush 999, 3) := dk_17 3 231 (dk_at dksX6_isDay_0 2 rfl rfl)
theorem dX6_isDay_5 : decode cX6_isDay 5 = .ok (.invokestatic 80, 3) := dk_184 0 80 (dk_at dksX6_isDay_0 5 rfl rfl)
theorem dX6_isDay_8 : decode cX6_isDay 8 = .ok (.ireturn, 1) := dk_172 (dk_at dksX6_isDay_0 8 rfl rfl)
abbrev cX6_add : ByteArray := prog_27_method_24_code
def yX6_add : MethodName := ⟨RX6, "add", "(IIIIII)I"⟩
def dkwX6_add_2 : List UInt8 := [21, 6, 182, 0, 129, 172]
abbrev dktX6_add_2 : List UInt8 := dkwX6_add_2 ++ []
def dkwX6_add_1 : List UInt8 := [180, 0, 115, 182, 0, 125, 172, 42, 182, 0, 92, 42, 182, 0, 95, 42, 27, 28, 29, 21, 4, 21, 5]
abbrev dktX6_add_1 : List UInt8 := dkwX6_add_1 ++ dktX6_add_2
def dkwX6_add_0 : List UInt8 := [42, 28, 29, 21, 5, 21, 6, 182, 0, 121, 54, 7, 21, 7, 158, 0, 15, 42, 6, 21, 7, 42]
abbrev dktX6_add_0 : List UInt8 := dkwX6_add_0 ++ dktX6_add_1
theorem dksX6_add_0 : cX6_add.data.toList.drop 0 = dktX6_add_0 := by decide +kernel
theorem dksX6_add_1 : cX6_add.data.toList.drop 22 = dktX6_add_1 := dk_seg dksX6_add_0 22 rfl rfl
theorem dksX6_add_2 : cX6_add.data.toList.drop 45 = dktX6_add_2 := dk_seg dksX6_add_1 23 rfl rfl
theorem dX6_add_0 : decode cX6_add 0 = .ok (.aload_n 0, 1) := dk_42 (dk_at dksX6_add_0 0 rfl rfl)
theorem dX6_add_1 : decode cX6_add 1 = .ok (.iload_n 2, 1) := dk_28 (dk_at dksX6_add_0 1 rfl rfl)
theorem dX6_add_2 : decode cX6_add 2 = .ok (.iload_n 3, 1) := dk_29 (dk_at dksX6_add_0 2 rfl rfl)
theorem dX6_add_3 : decode cX6_add 3 = .ok (.iload 5, 2) := dk_21 5 (dk_at dksX6_add_0 3 rfl rfl)
theorem dX6_add_5 : decode cX6_add 5 = .ok (.iload 6, 2) := dk_21 6 (dk_at dksX6_add_0 5 rfl rfl)
theorem dX6_add_7 : decode cX6_add 7 = .ok (.invokevirtual 121, 3) := dk_182 0 121 (dk_at dksX6_add_0 7 rfl rfl)
theorem dX6_add_10 : decode cX6_add 10 = .ok (.istore 7, 2) := dk_54 7 (dk_at dksX6_add_0 10 rfl rfl)
theorem dX6_add_12 : decode cX6_add 12 = .ok (.iload 7, 2) := dk_21 7 (dk_at dksX6_add_0 12 rfl rfl)
theorem dX6_add_14 : decode cX6_add 14 = .ok (.ifCond .le 15, 3) := dk_158 0 15 (dk_at dksX6_add_0 14 rfl rfl)
theorem dX6_add_17 : decode cX6_add 17 = .ok (.aload_n 0, 1) := dk_42 (dk_at dksX6_add_0 17 rfl rfl)
theorem dX6_add_18 : decode cX6_add 18 = .ok (.iconst 3, 1) := dk_6 (dk_at dksX6_add_0 18 rfl rfl)
theorem dX6_add_19 : decode cX6_add 19 = .ok (.iload 7, 2) := dk_21 7 (dk_at dksX6_add_0 19 rfl rfl)
theorem dX6_add_21 : decode cX6_add 21 = .ok (.aload_n 0, 1) := dk_42 (dk_at dksX6_add_0 21 rfl rfl)
theorem dX6_add_22 : decode cX6_add 22 = .ok (.getfield 115, 3) := dk_180 0 115 (dk_at dksX6_add_1 0 rfl rfl)
theorem dX6_add_25 : decode cX6_add 25 = .ok (.invokevirtual 125, 3) := dk_182 0 125 (dk_at dksX6_add_1 3 rfl rfl)
theorem dX6_add_28 : decode cX6_add 28 = .ok (.ireturn, 1) := dk_172 (dk_at dksX6_add_1 6 rfl rfl)
theorem dX6_add_29 : decode cX6_add 29 = .ok (.aload_n 0, 1) := dk_42 (dk_at dksX6_add_1 7 rfl rfl)
theorem dX6_add_30 : decode cX6_add 30 = .ok (.invokevirtual 92, 3) := dk_182 0 92 (dk_at dksX6_add_1 8 rfl rfl)
theorem dX6_add_33 : decode cX6_add 33 = .ok (.aload_n 0, 1) := dk_42 (dk_at dksX6_add_1 11 rfl rfl)
theorem dX6_add_34 : decode cX6_add 34 = .ok (.invokevirtual 95, 3) := dk_182 0 95 (dk_at dksX6_add_1 12 rfl rfl)
theorem dX6_add_37 : decode cX6_add 37 = .ok (.aload_n 0, 1) := dk_42 (dk_at dksX6_add_1 15 rfl rfl)
theorem dX6_add_38 : decode cX6_add 38 = .ok (.iload_n 1, 1) := dk_27 (dk_at dksX6_add_1 16 rfl rfl)
theorem dX6_add_39 : decode cX6_add 39 = .ok (.iload_n 2, 1) := dk_28 (dk_at dksX6_add_1 17 rfl rfl)
theorem dX6_add_40 : decode cX6_add 40 = .ok (.iload_n 3, 1) := dk_29 (dk_at dksX6_add_1 18 rfl rfl)
theorem dX6_add_41 : decode cX6_add 41 = .ok (.iload 4, 2) := dk_21 4 (dk_at dksX6_add_1 19 rfl rfl)
theorem dX6_add_43 : decode cX6_add 43 = .ok (.iload 5, 2) := dk_21 5 (dk_at dksX6_add_1 21 rfl rfl)
theorem dX6_add_45 : decode cX6_add 45 = .ok (.iload 6, 2) := dk_21 6 (dk_at dksX6_add_2 0 rfl rfl)
theorem dX6_add_47 : decode cX6_add 47 = .ok (.invokevirtual 129, 3) := dk_182 0 129 (dk_at dksX6_add_2 2 rfl rfl)
theorem dX6_add_50 : decode cX6_add 50 = .ok (.ireturn, 1) := dk_172 (dk_at dksX6_add_2 5 rfl rfl)
abbrev cX6_hinders : ByteArray := prog_27_method_22_code
def yX6_hinders : MethodName := ⟨RX6, "hinders", "(IIII)I"⟩
def dkwX6_hinders_3 : List UInt8 := [42, 27, 182, 0, 118, 7, 160, 0, 7, 8, 167, 0, 4, 3, 172]
abbrev dktX6_hinders_3 : List UInt8 := dkwX6_hinders_3 ++ []
def dkwX6_hinders_2 : List UInt8 := [154, 0, 15, 42, 42, 27, 4, 182, 0, 104, 181, 0, 115, 7, 172, 42, 3, 181, 0, 115, 27, 155, 0, 16]
abbrev dktX6_hinders_2 : List UInt8 := dkwX6_hinders_2 ++ dktX6_hinders_3
def dkwX6_hinders_1 : List UInt8 := [42, 29, 181, 0, 115, 6, 172, 27, 155, 0, 29, 42, 28, 42, 27, 4, 182, 0, 104, 182, 0, 108]
abbrev dktX6_hinders_1 : List UInt8 := dkwX6_hinders_1 ++ dktX6_hinders_2
def dkwX6_hinders_0 : List UInt8 := [42, 180, 0, 9, 4, 46, 16, 16, 160, 0, 10, 42, 3, 181, 0, 115, 5, 172, 29, 21, 4, 164, 0, 10]
abbrev dktX6_hinders_0 : List UInt8 := dkwX6_hinders_0 ++ dktX6_hinders_1
theorem dksX6_hinders_0 : cX6_hinders.data.toList.drop 0 = dktX6_hinders_0 := by decide +kernel
theorem dksX6_hinders_1 : cX6_hinders.data.toList.drop 24 = dktX6_hinders_1 := dk_seg dksX6_hinders_0 24 rfl rfl
theorem dksX6_hinders_2 : cX6_hinders.data.toList.drop 46 = dktX6_hinders_2 := dk_seg dksX6_hinders_1 22 rfl rfl
theorem dksX6_hinders_3 : cX6_hinders.data.toList.drop 70 = dktX6_hinders_3 := dk_seg dksX6_hinders_2 24 rfl rfl
theorem dX6_hinders_0 : decode cX6_hinders 0 = .ok (.aload_n 0, 1) := dk_42 (dk_at dksX6_hinders_0 0 rfl rfl)
theorem dX6_hinders_1 : decode cX6_hinders 1 = .ok (.getfield 9, 3) := dk_180 0 9 (dk_at dksX6_hinders_0 1 rfl rfl)
theorem dX6_hinders_4 : decode cX6_hinders 4 = .ok (.iconst 1, 1) := dk_4 (dk_at dksX6_hinders_0 4 rfl rfl)
theorem dX6_hinders_5 : decode cX6_hinders 5 = .ok (.iaload, 1) := dk_46 (dk_at dksX6_hinders_0 5 rfl rfl)
theorem dX6_hinders_6 : decode cX6_hinders 6 = .ok (.bipush 16, 2) := dk_16 16 (dk_at dksX6_hinders_0 6 rfl rfl)
theorem dX6_hinders_8 : decode cX6_hinders 8 = .ok (.if_icmp .ne 10, 3) := dk_160 0 10 (dk_at dksX6_hinders_0 8 rfl rfl)
theorem dX6_hinders_11 : decode cX6_hinders 11 = .ok (.aload_n 0, 1) := dk_42 (dk_at dksX6_hinders_0 11 rfl rfl)
theorem dX6_hinders_12 : decode cX6_hinders 12 = .ok (.iconst 0, 1) := dk_3 (dk_at dksX6_hinders_0 12 rfl rfl)
theorem dX6_hinders_13 : decode cX6_hinders 13 = .ok (.putfield 115, 3) := dk_181 0 115 (dk_at dksX6_hinders_0 13 rfl rfl)
theorem dX6_hinders_16 : decode cX6_hinders 16 = .ok (.iconst 2, 1) := dk_5 (dk_at dksX6_hinders_0 16 rfl rfl)
theorem dX6_hinders_17 : decode cX6_hinders 17 = .ok (.ireturn, 1) := dk_172 (dk_at dksX6_hinders_0 17 rfl rfl)
theorem dX6_hinders_18 : decode cX6_hinders 18 = .ok (.iload_n 3, 1) := dk_29 (dk_at dksX6_hinders_0 18 rfl rfl)
theorem dX6_hinders_19 : decode cX6_hinders 19 = .ok (.iload 4, 2) := dk_21 4 (dk_at dksX6_hinders_0 19 rfl rfl)
theorem dX6_hinders_21 : decode cX6_hinders 21 = .ok (.if_icmp .le 10, 3) := dk_164 0 10 (dk_at dksX6_hinders_0 21 rfl rfl)
theorem dX6_hinders_24 : decode cX6_hinders 24 = .ok (.aload_n 0, 1) := dk_42 (dk_at dksX6_hinders_1 0 rfl rfl)
theorem dX6_hinders_25 : decode cX6_hinders 25 = .ok (.iload_n 3, 1) := dk_29 (dk_at dksX6_hinders_1 1 rfl rfl)
theorem dX6_hinders_26 : decode cX6_hinders 26 = .ok (.putfield 115, 3) := dk_181 0 115 (dk_at dksX6_hinders_1 2 rfl rfl)
theorem dX6_hinders_29 : decode cX6_hinders 29 = .ok (.iconst 3, 1) := dk_6 (dk_at dksX6_hinders_1 5 rfl rfl)
theorem dX6_hinders_30 : decode cX6_hinders 30 = .ok (.ireturn, 1) := dk_172 (dk_at dksX6_hinders_1 6 rfl rfl)
theorem dX6_hinders_31 : decode cX6_hinders 31 = .ok (.iload_n 1, 1) := dk_27 (dk_at dksX6_hinders_1 7 rfl rfl)
theorem dX6_hinders_32 : decode cX6_hinders 32 = .ok (.ifCond .lt 29, 3) := dk_155 0 29 (dk_at dksX6_hinders_1 8 rfl rfl)
theorem dX6_hinders_35 : decode cX6_hinders 35 = .ok (.aload_n 0, 1) := dk_42 (dk_at dksX6_hinders_1 11 rfl rfl)
theorem dX6_hinders_36 : decode cX6_hinders 36 = .ok (.iload_n 2, 1) := dk_28 (dk_at dksX6_hinders_1 12 rfl rfl)
theorem dX6_hinders_37 : decode cX6_hinders 37 = .ok (.aload_n 0, 1) := dk_42 (dk_at dksX6_hinders_1 13 rfl rfl)
theorem dX6_hinders_38 : decode cX6_hinders 38 = .ok (.iload_n 1, 1) := dk_27 (dk_at dksX6_hinders_1 14 rfl rfl)
theorem dX6_hinders_39 : decode cX6_hinders 39 = .ok (.iconst 1, 1) := dk_4 (dk_at dksX6_hinders_1 15 rfl rfl)
theorem dX6_hinders_40 : decode cX6_hinders 40 = .ok (.invokevirtual 104, 3) := dk_182 0 104 (dk_at dksX6_hinders_1 16 rfl rfl)
theorem dX6_hinders_43 : decode cX6_hinders 43 = .ok (.invokevirtual 108, 3) := dk_182 0 108 (dk_at dksX6_hinders_1 19 rfl rfl)
theorem dX6_hinders_46 : decode cX6_hinders 46 = .ok (.ifCond .ne 15, 3) := dk_154 0 15 (dk_at dksX6_hinders_2 0 rfl rfl)
theorem dX6_hinders_49 : decode cX6_hinders 49 = .ok (.aload_n 0, 1) := dk_42 (dk_at dksX6_hinders_2 3 rfl rfl)
theorem dX6_hinders_50 : decode cX6_hinders 50 = .ok (.aload_n 0, 1) := dk_42 (dk_at dksX6_hinders_2 4 rfl rfl)
theorem dX6_hinders_51 : decode cX6_hinders 51 = .ok (.iload_n 1, 1) := dk_27 (dk_at dksX6_hinders_2 5 rfl rfl)
theorem dX6_hinders_52 : decode cX6_hinders 52 = .ok (.iconst 1, 1) := dk_4 (dk_at dksX6_hinders_2 6 rfl rfl)
theorem dX6_hinders_53 : decode cX6_hinders 53 = .ok (.invokevirtual 104, 3) := dk_182 0 104 (dk_at dksX6_hinders_2 7 rfl rfl)
theorem dX6_hinders_56 : decode cX6_hinders 56 = .ok (.putfield 115, 3) := dk_181 0 115 (dk_at dksX6_hinders_2 10 rfl rfl)
theorem dX6_hinders_59 : decode cX6_hinders 59 = .ok (.iconst 4, 1) := dk_7 (dk_at dksX6_hinders_2 13 rfl rfl)
theorem dX6_hinders_60 : decode cX6_hinders 60 = .ok (.ireturn, 1) := dk_172 (dk_at dksX6_hinders_2 14 rfl rfl)
theorem dX6_hinders_61 : decode cX6_hinders 61 = .ok (.aload_n 0, 1) := dk_42 (dk_at dksX6_hinders_2 15 rfl rfl)
theorem dX6_hinders_62 : decode cX6_hinders 62 = .ok (.iconst 0, 1) := dk_3 (dk_at dksX6_hinders_2 16 rfl rfl)
theorem dX6_hinders_63 : decode cX6_hinders 63 = .ok (.putfield 115, 3) := dk_181 0 115 (dk_at dksX6_hinders_2 17 rfl rfl)
theorem dX6_hinders_66 : decode cX6_hinders 66 = .ok (.iload_n 1, 1) := dk_27 (dk_at dksX6_hinders_2 20 rfl rfl)
theorem dX6_hinders_67 : decode cX6_hinders 67 = .ok (.ifCond .lt 16, 3) := dk_155 0 16 (dk_at dksX6_hinders_2 21 rfl rfl)
theorem dX6_hinders_70 : decode cX6_hinders 70 = .ok (.aload_n 0, 1) := dk_42 (dk_at dksX6_hinders_3 0 rfl rfl)
theorem dX6_hinders_71 : decode cX6_hinders 71 = .ok (.iload_n 1, 1) := dk_27 (dk_at dksX6_hinders_3 1 rfl rfl)
theorem dX6_hinders_72 : decode cX6_hinders 72 = .ok (.invokevirtual 118, 3) := dk_182 0 118 (dk_at dksX6_hinders_3 2 rfl rfl)
theorem dX6_hinders_75 : decode cX6_hinders 75 = .ok (.iconst 4, 1) := dk_7 (dk_at dksX6_hinders_3 5 rfl rfl)
theorem dX6_hinders_76 : decode cX6_hinders 76 = .ok (.if_icmp .ne 7, 3) := dk_160 0 7 (dk_at dksX6_hinders_3 6 rfl rfl)
theorem dX6_hinders_79 : decode cX6_hinders 79 = .ok (.iconst 5, 1) := dk_8 (dk_at dksX6_hinders_3 9 rfl rfl)
theorem dX6_hinders_80 : decode cX6_hinders 80 = .ok (.goto 4, 3) := dk_167 0 4 (dk_at dksX6_hinders_3 10 rfl rfl)
theorem dX6_hinders_83 : decode cX6_hinders 83 = .ok (.iconst 0, 1) := dk_3 (dk_at dksX6_hinders_3 13 rfl rfl)
theorem dX6_hinders_84 : decode cX6_hinders 84 = .ok (.ireturn, 1) := dk_172 (dk_at dksX6_hinders_3 14 rfl rfl)
abbrev cX6_depthOfRule : ByteArray := prog_27_method_21_code
def yX6_depthOfRule : MethodName := ⟨RX6, "depthOfRule", "(I)I"⟩
def dkwX6_depthOfRule_1 : List UInt8 := [167, 255, 242, 28, 172]
abbrev dktX6_depthOfRule_1 : List UInt8 := dkwX6_depthOfRule_1 ++ []
def dkwX6_depthOfRule_0 : List UInt8 := [3, 61, 42, 27, 8, 182, 0, 104, 62, 29, 155, 0, 16, 132, 2, 1, 42, 29, 8, 182, 0, 104, 62]
abbrev dktX6_depthOfRule_0 : List UInt8 := dkwX6_depthOfRule_0 ++ dktX6_depthOfRule_1
theorem dksX6_depthOfRule_0 : cX6_depthOfRule.data.toList.drop 0 = dktX6_depthOfRule_0 := by decide +kernel
theorem dksX6_depthOfRule_1 : cX6_depthOfRule.data.toList.drop 23 = dktX6_depthOfRule_1 := dk_seg dksX6_depthOfRule_0 23 rfl rfl
theorem dX6_depthOfRule_0 : decode cX6_depthOfRule 0 = .ok (.iconst 0, 1) := dk_3 (dk_at dksX6_depthOfRule_0 0 rfl rfl)
theorem dX6_depthOfRule_1 : decode cX6_depthOfRule 1 = .ok (.istore_n 2, 1) := dk_61 (dk_at dksX6_depthOfRule_0 1 rfl rfl)
theorem dX6_depthOfRule_2 : decode cX6_depthOfRule 2 = .ok (.aload_n 0, 1) := dk_42 (dk_at dksX6_depthOfRule_0 2 rfl rfl)
theorem dX6_depthOfRule_3 : decode cX6_depthOfRule 3 = .ok (.iload_n 1, 1) := dk_27 (dk_at dksX6_depthOfRule_0 3 rfl rfl)
theorem dX6_depthOfRule_4 : decode cX6_depthOfRule 4 = .ok (.iconst 5, 1) := dk_8 (dk_at dksX6_depthOfRule_0 4 rfl rfl)
theorem dX6_depthOfRule_5 : decode cX6_depthOfRule 5 = .ok (.invokevirtual 104, 3) := dk_182 0 104 (dk_at dksX6_depthOfRule_0 5 rfl rfl)
theorem dX6_depthOfRule_8 : decode cX6_depthOfRule 8 = .ok (.istore_n 3, 1) := dk_62 (dk_at dksX6_depthOfRule_0 8 rfl rfl)
theorem dX6_depthOfRule_9 : decode cX6_depthOfRule 9 = .ok (.iload_n 3, 1) := dk_29 (dk_at dksX6_depthOfRule_0 9 rfl rfl)
theorem dX6_depthOfRule_10 : decode cX6_depthOfRule 10 = .ok (.ifCond .lt 16, 3) := dk_155 0 16 (dk_at dksX6_depthOfRule_0 10 rfl rfl)
theorem dX6_depthOfRule_13 : decode cX6_depthOfRule 13 = .ok (.iinc 2 1, 3) := dk_132 2 1 (dk_at dksX6_depthOfRule_0 13 rfl rfl)
theorem dX6_depthOfRule_16 : decode cX6_depthOfRule 16 = .ok (.aload_n 0, 1) := dk_42 (dk_at dksX6_depthOfRule_0 16 rfl rfl)
theorem dX6_depthOfRule_17 : decode cX6_depthOfRule 17 = .ok (.iload_n 3, 1) := dk_29 (dk_at dksX6_depthOfRule_0 17 rfl rfl)
theorem dX6_depthOfRule_18 : decode cX6_depthOfRule 18 = .ok (.iconst 5, 1) := dk_8 (dk_at dksX6_depthOfRule_0 18 rfl rfl)
theorem dX6_depthOfRule_19 : decode cX6_depthOfRule 19 = .ok (.invokevirtual 104, 3) := dk_182 0 104 (dk_at dksX6_depthOfRule_0 19 rfl rfl)
theorem dX6_depthOfRule_22 : decode cX6_depthOfRule 22 = .ok (.istore_n 3, 1) := dk_62 (dk_at dksX6_depthOfRule_0 22 rfl rfl)
theorem dX6_depthOfRule_23 : decode cX6_depthOfRule 23 = .ok (.goto (-14), 3) := dk_167 255 242 (dk_at dksX6_depthOfRule_1 0 rfl rfl)
theorem dX6_depthOfRule_26 : decode cX6_depthOfRule 26 = .ok (.iload_n 2, 1) := dk_28 (dk_at dksX6_depthOfRule_1 3 rfl rfl)
theorem dX6_depthOfRule_27 : decode cX6_depthOfRule 27 = .ok (.ireturn, 1) := dk_172 (dk_at dksX6_depthOfRule_1 4 rfl rfl)
abbrev cX6_refuse : ByteArray := prog_27_method_6_code
def yX6_refuse : MethodName := ⟨RX6, "refuse", "(III)I"⟩
def dkwX6_refuse_0 : List UInt8 := [42, 27, 181, 0, 62, 42, 28, 181, 0, 74, 42, 29, 181, 0, 77, 3, 172]
abbrev dktX6_refuse_0 : List UInt8 := dkwX6_refuse_0 ++ []
theorem dksX6_refuse_0 : cX6_refuse.data.toList.drop 0 = dktX6_refuse_0 := by decide +kernel
theorem dX6_refuse_0 : decode cX6_refuse 0 = .ok (.aload_n 0, 1) := dk_42 (dk_at dksX6_refuse_0 0 rfl rfl)
theorem dX6_refuse_1 : decode cX6_refuse 1 = .ok (.iload_n 1, 1) := dk_27 (dk_at dksX6_refuse_0 1 rfl rfl)
theorem dX6_refuse_2 : decode cX6_refuse 2 = .ok (.putfield 62, 3) := dk_181 0 62 (dk_at dksX6_refuse_0 2 rfl rfl)
theorem dX6_refuse_5 : decode cX6_refuse 5 = .ok (.aload_n 0, 1) := dk_42 (dk_at dksX6_refuse_0 5 rfl rfl)
theorem dX6_refuse_6 : decode cX6_refuse 6 = .ok (.iload_n 2, 1) := dk_28 (dk_at dksX6_refuse_0 6 rfl rfl)
theorem dX6_refuse_7 : decode cX6_refuse 7 = .ok (.putfield 74, 3) := dk_181 0 74 (dk_at dksX6_refuse_0 7 rfl rfl)
theorem dX6_refuse_10 : decode cX6_refuse 10 = .ok (.aload_n 0, 1) := dk_42 (dk_at dksX6_refuse_0 10 rfl rfl)
theorem dX6_refuse_11 : decode cX6_refuse 11 = .ok (.iload_n 3, 1) := dk_29 (dk_at dksX6_refuse_0 11 rfl rfl)
theorem dX6_refuse_12 : decode cX6_refuse 12 = .ok (.putfield 77, 3) := dk_181 0 77 (dk_at dksX6_refuse_0 12 rfl rfl)
theorem dX6_refuse_15 : decode cX6_refuse 15 = .ok (.iconst 0, 1) := dk_3 (dk_at dksX6_refuse_0 15 rfl rfl)
theorem dX6_refuse_16 : decode cX6_refuse 16 = .ok (.ireturn, 1) := dk_172 (dk_at dksX6_refuse_0 16 rfl rfl)
abbrev cX6_put : ByteArray := prog_27_method_23_code
def yX6_put : MethodName := ⟨RX6, "put", "(IIIIII)I"⟩
def dkwX6_put_5 : List UInt8 := [180, 0, 9, 4, 92, 46, 4, 96, 79, 21, 7, 172]
abbrev dktX6_put_5 : List UInt8 := dkwX6_put_5 ++ []
def dkwX6_put_4 : List UInt8 := [79, 42, 180, 0, 9, 21, 8, 8, 96, 28, 79, 42, 180, 0, 9, 21, 8, 16, 6, 96, 16, 100, 79, 42]
abbrev dktX6_put_4 : List UInt8 := dkwX6_put_4 ++ dktX6_put_5
def dkwX6_put_3 : List UInt8 := [21, 4, 79, 42, 180, 0, 9, 21, 8, 6, 96, 21, 5, 79, 42, 180, 0, 9, 21, 8, 7, 96, 21, 6]
abbrev dktX6_put_3 : List UInt8 := dkwX6_put_3 ++ dktX6_put_4
def dkwX6_put_2 : List UInt8 := [21, 8, 3, 96, 27, 79, 42, 180, 0, 9, 21, 8, 4, 96, 29, 79, 42, 180, 0, 9, 21, 8, 5, 96]
abbrev dktX6_put_2 : List UInt8 := dkwX6_put_2 ++ dktX6_put_3
def dkwX6_put_1 : List UInt8 := [162, 0, 20, 42, 180, 0, 9, 21, 8, 21, 9, 96, 3, 79, 132, 9, 1, 167, 255, 235, 42, 180, 0, 9]
abbrev dktX6_put_1 : List UInt8 := dkwX6_put_1 ++ dktX6_put_2
def dkwX6_put_0 : List UInt8 := [42, 180, 0, 9, 4, 46, 54, 7, 21, 7, 184, 0, 112, 54, 8, 3, 54, 9, 21, 9, 16, 20]
abbrev dktX6_put_0 : List UInt8 := dkwX6_put_0 ++ dktX6_put_1
theorem dksX6_put_0 : cX6_put.data.toList.drop 0 = dktX6_put_0 := by decide +kernel
theorem dksX6_put_1 : cX6_put.data.toList.drop 22 = dktX6_put_1 := dk_seg dksX6_put_0 22 rfl rfl
theorem dksX6_put_2 : cX6_put.data.toList.drop 46 = dktX6_put_2 := dk_seg dksX6_put_1 24 rfl rfl
theorem dksX6_put_3 : cX6_put.data.toList.drop 70 = dktX6_put_3 := dk_seg dksX6_put_2 24 rfl rfl
theorem dksX6_put_4 : cX6_put.data.toList.drop 94 = dktX6_put_4 := dk_seg dksX6_put_3 24 rfl rfl
theorem dksX6_put_5 : cX6_put.data.toList.drop 118 = dktX6_put_5 := dk_seg dksX6_put_4 24 rfl rfl
theorem dX6_put_0 : decode cX6_put 0 = .ok (.aload_n 0, 1) := dk_42 (dk_at dksX6_put_0 0 rfl rfl)
theorem dX6_put_1 : decode cX6_put 1 = .ok (.getfield 9, 3) := dk_180 0 9 (dk_at dksX6_put_0 1 rfl rfl)
theorem dX6_put_4 : decode cX6_put 4 = .ok (.iconst 1, 1) := dk_4 (dk_at dksX6_put_0 4 rfl rfl)
theorem dX6_put_5 : decode cX6_put 5 = .ok (.iaload, 1) := dk_46 (dk_at dksX6_put_0 5 rfl rfl)
theorem dX6_put_6 : decode cX6_put 6 = .ok (.istore 7, 2) := dk_54 7 (dk_at dksX6_put_0 6 rfl rfl)
theorem dX6_put_8 : decode cX6_put 8 = .ok (.iload 7, 2) := dk_21 7 (dk_at dksX6_put_0 8 rfl rfl)
theorem dX6_put_10 : decode cX6_put 10 = .ok (.invokestatic 112, 3) := dk_184 0 112 (dk_at dksX6_put_0 10 rfl rfl)
theorem dX6_put_13 : decode cX6_put 13 = .ok (.istore 8, 2) := dk_54 8 (dk_at dksX6_put_0 13 rfl rfl)
theorem dX6_put_15 : decode cX6_put 15 = .ok (.iconst 0, 1) := dk_3 (dk_at dksX6_put_0 15 rfl rfl)
theorem dX6_put_16 : decode cX6_put 16 = .ok (.istore 9, 2) := dk_54 9 (dk_at dksX6_put_0 16 rfl rfl)
theorem dX6_put_18 : decode cX6_put 18 = .ok (.iload 9, 2) := dk_21 9 (dk_at dksX6_put_0 18 rfl rfl)
theorem dX6_put_20 : decode cX6_put 20 = .ok (.bipush 20, 2) := dk_16 20 (dk_at dksX6_put_0 20 rfl rfl)
theorem dX6_put_22 : decode cX6_put 22 = .ok (.if_icmp .ge 20, 3) := dk_162 0 20 (dk_at dksX6_put_1 0 rfl rfl)
theorem dX6_put_25 : decode cX6_put 25 = .ok (.aload_n 0, 1) := dk_42 (dk_at dksX6_put_1 3 rfl rfl)
theorem dX6_put_26 : decode cX6_put 26 = .ok (.getfield 9, 3) := dk_180 0 9 (dk_at dksX6_put_1 4 rfl rfl)
theorem dX6_put_29 : decode cX6_put 29 = .ok (.iload 8, 2) := dk_21 8 (dk_at dksX6_put_1 7 rfl rfl)
theorem dX6_put_31 : decode cX6_put 31 = .ok (.iload 9, 2) := dk_21 9 (dk_at dksX6_put_1 9 rfl rfl)
theorem dX6_put_33 : decode cX6_put 33 = .ok (.iadd, 1) := dk_96 (dk_at dksX6_put_1 11 rfl rfl)
theorem dX6_put_34 : decode cX6_put 34 = .ok (.iconst 0, 1) := dk_3 (dk_at dksX6_put_1 12 rfl rfl)
theorem dX6_put_35 : decode cX6_put 35 = .ok (.iastore, 1) := dk_79 (dk_at dksX6_put_1 13 rfl rfl)
theorem dX6_put_36 : decode cX6_put 36 = .ok (.iinc 9 1, 3) := dk_132 9 1 (dk_at dksX6_put_1 14 rfl rfl)
theorem dX6_put_39 : decode cX6_put 39 = .ok (.goto (-21), 3) := dk_167 255 235 (dk_at dksX6_put_1 17 rfl rfl)
theorem dX6_put_42 : decode cX6_put 42 = .ok (.aload_n 0, 1) := dk_42 (dk_at dksX6_put_1 20 rfl rfl)
theorem dX6_put_43 : decode cX6_put 43 = .ok (.getfield 9, 3) := dk_180 0 9 (dk_at dksX6_put_1 21 rfl rfl)
theorem dX6_put_46 : decode cX6_put 46 = .ok (.iload 8, 2) := dk_21 8 (dk_at dksX6_put_2 0 rfl rfl)
theorem dX6_put_48 : decode cX6_put 48 = .ok (.iconst 0, 1) := dk_3 (dk_at dksX6_put_2 2 rfl rfl)
theorem dX6_put_49 : decode cX6_put 49 = .ok (.iadd, 1) := dk_96 (dk_at dksX6_put_2 3 rfl rfl)
theorem dX6_put_50 : decode cX6_put 50 = .ok (.iload_n 1, 1) := dk_27 (dk_at dksX6_put_2 4 rfl rfl)
theorem dX6_put_51 : decode cX6_put 51 = .ok (.iastore, 1) := dk_79 (dk_at dksX6_put_2 5 rfl rfl)
theorem dX6_put_52 : decode cX6_put 52 = .ok (.aload_n 0, 1) := dk_42 (dk_at dksX6_put_2 6 rfl rfl)
theorem dX6_put_53 : decode cX6_put 53 = .ok (.getfield 9, 3) := dk_180 0 9 (dk_at dksX6_put_2 7 rfl rfl)
theorem dX6_put_56 : decode cX6_put 56 = .ok (.iload 8, 2) := dk_21 8 (dk_at dksX6_put_2 10 rfl rfl)
theorem dX6_put_58 : decode cX6_put 58 = .ok (.iconst 1, 1) := dk_4 (dk_at dksX6_put_2 12 rfl rfl)
theorem dX6_put_59 : decode cX6_put 59 = .ok (.iadd, 1) := dk_96 (dk_at dksX6_put_2 13 rfl rfl)
theorem dX6_put_60 : decode cX6_put 60 = .ok (.iload_n 3, 1) := dk_29 (dk_at dksX6_put_2 14 rfl rfl)
theorem dX6_put_61 : decode cX6_put 61 = .ok (.iastore, 1) := dk_79 (dk_at dksX6_put_2 15 rfl rfl)
theorem dX6_put_62 : decode cX6_put 62 = .ok (.aload_n 0, 1) := dk_42 (dk_at dksX6_put_2 16 rfl rfl)
theorem dX6_put_63 : decode cX6_put 63 = .ok (.getfield 9, 3) := dk_180 0 9 (dk_at dksX6_put_2 17 rfl rfl)
theorem dX6_put_66 : decode cX6_put 66 = .ok (.iload 8, 2) := dk_21 8 (dk_at dksX6_put_2 20 rfl rfl)
theorem dX6_put_68 : decode cX6_put 68 = .ok (.iconst 2, 1) := dk_5 (dk_at dksX6_put_2 22 rfl rfl)
theorem dX6_put_69 : decode cX6_put 69 = .ok (.iadd, 1) := dk_96 (dk_at dksX6_put_2 23 rfl rfl)
theorem dX6_put_70 : decode cX6_put 70 = .ok (.iload 4, 2) := dk_21 4 (dk_at dksX6_put_3 0 rfl rfl)
theorem dX6_put_72 : decode cX6_put 72 = .ok (.iastore, 1) := dk_79 (dk_at dksX6_put_3 2 rfl rfl)
theorem dX6_put_73 : decode cX6_put 73 = .ok (.aload_n 0, 1) := dk_42 (dk_at dksX6_put_3 3 rfl rfl)
theorem dX6_put_74 : decode cX6_put 74 = .ok (.getfield 9, 3) := dk_180 0 9 (dk_at dksX6_put_3 4 rfl rfl)
theorem dX6_put_77 : decode cX6_put 77 = .ok (.iload 8, 2) := dk_21 8 (dk_at dksX6_put_3 7 rfl rfl)
theorem dX6_put_79 : decode cX6_put 79 = .ok (.iconst 3, 1) := dk_6 (dk_at dksX6_put_3 9 rfl rfl)
theorem dX6_put_80 : decode cX6_put 80 = .ok (.iadd, 1) := dk_96 (dk_at dksX6_put_3 10 rfl rfl)
theorem dX6_put_81 : decode cX6_put 81 = .ok (.iload 5, 2) := dk_21 5 (dk_at dksX6_put_3 11 rfl rfl)
theorem dX6_put_83 : decode cX6_put 83 = .ok (.iastore, 1) := dk_79 (dk_at dksX6_put_3 13 rfl rfl)
theorem dX6_put_84 : decode cX6_put 84 = .ok (.aload_n 0, 1) := dk_42 (dk_at dksX6_put_3 14 rfl rfl)
theorem dX6_put_85 : decode cX6_put 85 = .ok (.getfield 9, 3) := dk_180 0 9 (dk_at dksX6_put_3 15 rfl rfl)
theorem dX6_put_88 : decode cX6_put 88 = .ok (.iload 8, 2) := dk_21 8 (dk_at dksX6_put_3 18 rfl rfl)
theorem dX6_put_90 : decode cX6_put 90 = .ok (.iconst 4, 1) := dk_7 (dk_at dksX6_put_3 20 rfl rfl)
theorem dX6_put_91 : decode cX6_put 91 = .ok (.iadd, 1) := dk_96 (dk_at dksX6_put_3 21 rfl rfl)
theorem dX6_put_92 : decode cX6_put 92 = .ok (.iload 6, 2) := dk_21 6 (dk_at dksX6_put_3 22 rfl rfl)
theorem dX6_put_94 : decode cX6_put 94 = .ok (.iastore, 1) := dk_79 (dk_at dksX6_put_4 0 rfl rfl)
theorem dX6_put_95 : decode cX6_put 95 = .ok (.aload_n 0, 1) := dk_42 (dk_at dksX6_put_4 1 rfl rfl)
theorem dX6_put_96 : decode cX6_put 96 = .ok (.getfield 9, 3) := dk_180 0 9 (dk_at dksX6_put_4 2 rfl rfl)
theorem dX6_put_99 : decode cX6_put 99 = .ok (.iload 8, 2) := dk_21 8 (dk_at dksX6_put_4 5 rfl rfl)
theorem dX6_put_101 : decode cX6_put 101 = .ok (.iconst 5, 1) := dk_8 (dk_at dksX6_put_4 7 rfl rfl)
theorem dX6_put_102 : decode cX6_put 102 = .ok (.iadd, 1) := dk_96 (dk_at dksX6_put_4 8 rfl rfl)
theorem dX6_put_103 : decode cX6_put 103 = .ok (.iload_n 2, 1) := dk_28 (dk_at dksX6_put_4 9 rfl rfl)
theorem dX6_put_104 : decode cX6_put 104 = .ok (.iastore, 1) := dk_79 (dk_at dksX6_put_4 10 rfl rfl)
theorem dX6_put_105 : decode cX6_put 105 = .ok (.aload_n 0, 1) := dk_42 (dk_at dksX6_put_4 11 rfl rfl)
theorem dX6_put_106 : decode cX6_put 106 = .ok (.getfield 9, 3) := dk_180 0 9 (dk_at dksX6_put_4 12 rfl rfl)
theorem dX6_put_109 : decode cX6_put 109 = .ok (.iload 8, 2) := dk_21 8 (dk_at dksX6_put_4 15 rfl rfl)
theorem dX6_put_111 : decode cX6_put 111 = .ok (.bipush 6, 2) := dk_16 6 (dk_at dksX6_put_4 17 rfl rfl)
theorem dX6_put_113 : decode cX6_put 113 = .ok (.iadd, 1) := dk_96 (dk_at dksX6_put_4 19 rfl rfl)
theorem dX6_put_114 : decode cX6_put 114 = .ok (.bipush 100, 2) := dk_16 100 (dk_at dksX6_put_4 20 rfl rfl)
theorem dX6_put_116 : decode cX6_put 116 = .ok (.iastore, 1) := dk_79 (dk_at dksX6_put_4 22 rfl rfl)
theorem dX6_put_117 : decode cX6_put 117 = .ok (.aload_n 0, 1) := dk_42 (dk_at dksX6_put_4 23 rfl rfl)
theorem dX6_put_118 : decode cX6_put 118 = .ok (.getfield 9, 3) := dk_180 0 9 (dk_at dksX6_put_5 0 rfl rfl)
theorem dX6_put_121 : decode cX6_put 121 = .ok (.iconst 1, 1) := dk_4 (dk_at dksX6_put_5 3 rfl rfl)
theorem dX6_put_122 : decode cX6_put 122 = .ok (.dup2, 1) := dk_92 (dk_at dksX6_put_5 4 rfl rfl)
theorem dX6_put_123 : decode cX6_put 123 = .ok (.iaload, 1) := dk_46 (dk_at dksX6_put_5 5 rfl rfl)
theorem dX6_put_124 : decode cX6_put 124 = .ok (.iconst 1, 1) := dk_4 (dk_at dksX6_put_5 6 rfl rfl)
theorem dX6_put_125 : decode cX6_put 125 = .ok (.iadd, 1) := dk_96 (dk_at dksX6_put_5 7 rfl rfl)
theorem dX6_put_126 : decode cX6_put 126 = .ok (.iastore, 1) := dk_79 (dk_at dksX6_put_5 8 rfl rfl)
theorem dX6_put_127 : decode cX6_put 127 = .ok (.iload 7, 2) := dk_21 7 (dk_at dksX6_put_5 9 rfl rfl)
theorem dX6_put_129 : decode cX6_put 129 = .ok (.ireturn, 1) := dk_172 (dk_at dksX6_put_5 11 rfl rfl)
abbrev cX6_except : ByteArray := prog_27_method_26_code
def yX6_except : MethodName := ⟨RX6, "except", "(IIIII)I"⟩
def dkwX6_except_3 : List UInt8 := [21, 4, 21, 5, 182, 0, 139, 172]
abbrev dktX6_except_3 : List UInt8 := dkwX6_except_3 ++ []
def dkwX6_except_2 : List UInt8 := [5, 167, 0, 4, 3, 181, 0, 62, 42, 180, 0, 62, 158, 0, 7, 3, 167, 0, 15, 42, 2, 27, 28, 29]
abbrev dktX6_except_2 : List UInt8 := dkwX6_except_2 ++ dktX6_except_3
def dkwX6_except_1 : List UInt8 := [16, 9, 184, 0, 80, 153, 0, 19, 21, 4, 184, 0, 136, 153, 0, 11, 21, 5, 184, 0, 136, 154, 0, 7]
abbrev dktX6_except_1 : List UInt8 := dkwX6_except_1 ++ dktX6_except_2
def dkwX6_except_0 : List UInt8 := [42, 42, 27, 182, 0, 142, 153, 0, 11, 42, 28, 182, 0, 88, 154, 0, 7, 4, 167, 0, 34, 29, 3]
abbrev dktX6_except_0 : List UInt8 := dkwX6_except_0 ++ dktX6_except_1
theorem dksX6_except_0 : cX6_except.data.toList.drop 0 = dktX6_except_0 := by decide +kernel
theorem dksX6_except_1 : cX6_except.data.toList.drop 23 = dktX6_except_1 := dk_seg dksX6_except_0 23 rfl rfl
theorem dksX6_except_2 : cX6_except.data.toList.drop 47 = dktX6_except_2 := dk_seg dksX6_except_1 24 rfl rfl
theorem dksX6_except_3 : cX6_except.data.toList.drop 71 = dktX6_except_3 := dk_seg dksX6_except_2 24 rfl rfl
theorem dX6_except_0 : decode cX6_except 0 = .ok (.aload_n 0, 1) := dk_42 (dk_at dksX6_except_0 0 rfl rfl)
theorem dX6_except_1 : decode cX6_except 1 = .ok (.aload_n 0, 1) := dk_42 (dk_at dksX6_except_0 1 rfl rfl)
theorem dX6_except_2 : decode cX6_except 2 = .ok (.iload_n 1, 1) := dk_27 (dk_at dksX6_except_0 2 rfl rfl)
theorem dX6_except_3 : decode cX6_except 3 = .ok (.invokevirtual 142, 3) := dk_182 0 142 (dk_at dksX6_except_0 3 rfl rfl)
theorem dX6_except_6 : decode cX6_except 6 = .ok (.ifCond .eq 11, 3) := dk_153 0 11 (dk_at dksX6_except_0 6 rfl rfl)
theorem dX6_except_9 : decode cX6_except 9 = .ok (.aload_n 0, 1) := dk_42 (dk_at dksX6_except_0 9 rfl rfl)
theorem dX6_except_10 : decode cX6_except 10 = .ok (.iload_n 2, 1) := dk_28 (dk_at dksX6_except_0 10 rfl rfl)
theorem dX6_except_11 : decode cX6_except 11 = .ok (.invokevirtual 88, 3) := dk_182 0 88 (dk_at dksX6_except_0 11 rfl rfl)
theorem dX6_except_14 : decode cX6_except 14 = .ok (.ifCond .ne 7, 3) := dk_154 0 7 (dk_at dksX6_except_0 14 rfl rfl)
theorem dX6_except_17 : decode cX6_except 17 = .ok (.iconst 1, 1) := dk_4 (dk_at dksX6_except_0 17 rfl rfl)
theorem dX6_except_18 : decode cX6_except 18 = .ok (.goto 34, 3) := dk_167 0 34 (dk_at dksX6_except_0 18 rfl rfl)
theorem dX6_except_21 : decode cX6_except 21 = .ok (.iload_n 3, 1) := dk_29 (dk_at dksX6_except_0 21 rfl rfl)
theorem dX6_except_22 : decode cX6_except 22 = .ok (.iconst 0, 1) := dk_3 (dk_at dksX6_except_0 22 rfl rfl)
theorem dX6_except_23 : decode cX6_except 23 = .ok (.bipush 9, 2) := dk_16 9 (dk_at dksX6_except_1 0 rfl rfl)
theorem dX6_except_25 : decode cX6_except 25 = .ok (.invokestatic 80, 3) := dk_184 0 80 (dk_at dksX6_except_1 2 rfl rfl)
theorem dX6_except_28 : decode cX6_except 28 = .ok (.ifCond .eq 19, 3) := dk_153 0 19 (dk_at dksX6_except_1 5 rfl rfl)
theorem dX6_except_31 : decode cX6_except 31 = .ok (.iload 4, 2) := dk_21 4 (dk_at dksX6_except_1 8 rfl rfl)
theorem dX6_except_33 : decode cX6_except 33 = .ok (.invokestatic 136, 3) := dk_184 0 136 (dk_at dksX6_except_1 10 rfl rfl)
theorem dX6_except_36 : decode cX6_except 36 = .ok (.ifCond .eq 11, 3) := dk_153 0 11 (dk_at dksX6_except_1 13 rfl rfl)
theorem dX6_except_39 : decode cX6_except 39 = .ok (.iload 5, 2) := dk_21 5 (dk_at dksX6_except_1 16 rfl rfl)
theorem dX6_except_41 : decode cX6_except 41 = .ok (.invokestatic 136, 3) := dk_184 0 136 (dk_at dksX6_except_1 18 rfl rfl)
theorem dX6_except_44 : decode cX6_except 44 = .ok (.ifCond .ne 7, 3) := dk_154 0 7 (dk_at dksX6_except_1 21 rfl rfl)
theorem dX6_except_47 : decode cX6_except 47 = .ok (.iconst 2, 1) := dk_5 (dk_at dksX6_except_2 0 rfl rfl)
theorem dX6_except_48 : decode cX6_except 48 = .ok (.goto 4, 3) := dk_167 0 4 (dk_at dksX6_except_2 1 rfl rfl)
theorem dX6_except_51 : decode cX6_except 51 = .ok (.iconst 0, 1) := dk_3 (dk_at dksX6_except_2 4 rfl rfl)
theorem dX6_except_52 : decode cX6_except 52 = .ok (.putfield 62, 3) := dk_181 0 62 (dk_at dksX6_except_2 5 rfl rfl)
theorem dX6_except_55 : decode cX6_except 55 = .ok (.aload_n 0, 1) := dk_42 (dk_at dksX6_except_2 8 rfl rfl)
theorem dX6_except_56 : decode cX6_except 56 = .ok (.getfield 62, 3) := dk_180 0 62 (dk_at dksX6_except_2 9 rfl rfl)
theorem dX6_except_59 : decode cX6_except 59 = .ok (.ifCond .le 7, 3) := dk_158 0 7 (dk_at dksX6_except_2 12 rfl rfl)
theorem dX6_except_62 : decode cX6_except 62 = .ok (.iconst 0, 1) := dk_3 (dk_at dksX6_except_2 15 rfl rfl)
theorem dX6_except_63 : decode cX6_except 63 = .ok (.goto 15, 3) := dk_167 0 15 (dk_at dksX6_except_2 16 rfl rfl)
theorem dX6_except_66 : decode cX6_except 66 = .ok (.aload_n 0, 1) := dk_42 (dk_at dksX6_except_2 19 rfl rfl)
theorem dX6_except_67 : decode cX6_except 67 = .ok (.iconst (-1), 1) := dk_2 (dk_at dksX6_except_2 20 rfl rfl)
theorem dX6_except_68 : decode cX6_except 68 = .ok (.iload_n 1, 1) := dk_27 (dk_at dksX6_except_2 21 rfl rfl)
theorem dX6_except_69 : decode cX6_except 69 = .ok (.iload_n 2, 1) := dk_28 (dk_at dksX6_except_2 22 rfl rfl)
theorem dX6_except_70 : decode cX6_except 70 = .ok (.iload_n 3, 1) := dk_29 (dk_at dksX6_except_2 23 rfl rfl)
theorem dX6_except_71 : decode cX6_except 71 = .ok (.iload 4, 2) := dk_21 4 (dk_at dksX6_except_3 0 rfl rfl)
theorem dX6_except_73 : decode cX6_except 73 = .ok (.iload 5, 2) := dk_21 5 (dk_at dksX6_except_3 2 rfl rfl)
theorem dX6_except_75 : decode cX6_except 75 = .ok (.invokevirtual 139, 3) := dk_182 0 139 (dk_at dksX6_except_3 4 rfl rfl)
theorem dX6_except_78 : decode cX6_except 78 = .ok (.ireturn, 1) := dk_172 (dk_at dksX6_except_3 7 rfl rfl)
abbrev cX6_isRule : ByteArray := prog_27_method_18_code
def yX6_isRule : MethodName := ⟨RX6, "isRule", "(I)Z"⟩
def dkwX6_isRule_0 : List UInt8 := [27, 3, 42, 180, 0, 9, 4, 46, 4, 100, 184, 0, 80, 172]
abbrev dktX6_isRule_0 : List UInt8 := dkwX6_isRule_0 ++ []
theorem dksX6_isRule_0 : cX6_isRule.data.toList.drop 0 = dktX6_isRule_0 := by decide +kernel
theorem dX6_isRule_0 : decode cX6_isRule 0 = .ok (.iload_n 1, 1) := dk_27 (dk_at dksX6_isRule_0 0 rfl rfl)
theorem dX6_isRule_1 : decode cX6_isRule 1 = .ok (.iconst 0, 1) := dk_3 (dk_at dksX6_isRule_0 1 rfl rfl)
theorem dX6_isRule_2 : decode cX6_isRule 2 = .ok (.aload_n 0, 1) := dk_42 (dk_at dksX6_isRule_0 2 rfl rfl)
theorem dX6_isRule_3 : decode cX6_isRule 3 = .ok (.getfield 9, 3) := dk_180 0 9 (dk_at dksX6_isRule_0 3 rfl rfl)
theorem dX6_isRule_6 : decode cX6_isRule 6 = .ok (.iconst 1, 1) := dk_4 (dk_at dksX6_isRule_0 6 rfl rfl)
theorem dX6_isRule_7 : decode cX6_isRule 7 = .ok (.iaload, 1) := dk_46 (dk_at dksX6_isRule_0 7 rfl rfl)
theorem dX6_isRule_8 : decode cX6_isRule 8 = .ok (.iconst 1, 1) := dk_4 (dk_at dksX6_isRule_0 8 rfl rfl)
theorem dX6_isRule_9 : decode cX6_isRule 9 = .ok (.isub, 1) := dk_100 (dk_at dksX6_isRule_0 9 rfl rfl)
theorem dX6_isRule_10 : decode cX6_isRule 10 = .ok (.invokestatic 80, 3) := dk_184 0 80 (dk_at dksX6_isRule_0 10 rfl rfl)
theorem dX6_isRule_13 : decode cX6_isRule 13 = .ok (.ireturn, 1) := dk_172 (dk_at dksX6_isRule_0 13 rfl rfl)
abbrev cX6_test : ByteArray := prog_27_method_34_code
def yX6_test : MethodName := ⟨RX6, "test", "(IIII)I"⟩
def dkwX6_test_3 : List UInt8 := [182, 0, 164, 42, 27, 6, 182, 0, 168, 172]
abbrev dktX6_test_3 : List UInt8 := dkwX6_test_3 ++ []
def dkwX6_test_2 : List UInt8 := [181, 0, 62, 42, 180, 0, 62, 158, 0, 5, 3, 172, 42, 3, 181, 0, 145, 42, 28, 29, 21, 4]
abbrev dktX6_test_2 : List UInt8 := dkwX6_test_2 ++ dktX6_test_3
def dkwX6_test_1 : List UInt8 := [6, 184, 0, 80, 153, 0, 14, 21, 4, 3, 16, 9, 184, 0, 80, 154, 0, 7, 5, 167, 0, 4, 3]
abbrev dktX6_test_1 : List UInt8 := dkwX6_test_1 ++ dktX6_test_2
def dkwX6_test_0 : List UInt8 := [42, 42, 27, 182, 0, 142, 154, 0, 7, 4, 167, 0, 37, 28, 3, 8, 184, 0, 80, 153, 0, 23, 29, 3]
abbrev dktX6_test_0 : List UInt8 := dkwX6_test_0 ++ dktX6_test_1
theorem dksX6_test_0 : cX6_test.data.toList.drop 0 = dktX6_test_0 := by decide +kernel
theorem dksX6_test_1 : cX6_test.data.toList.drop 24 = dktX6_test_1 := dk_seg dksX6_test_0 24 rfl rfl
theorem dksX6_test_2 : cX6_test.data.toList.drop 47 = dktX6_test_2 := dk_seg dksX6_test_1 23 rfl rfl
theorem dksX6_test_3 : cX6_test.data.toList.drop 69 = dktX6_test_3 := dk_seg dksX6_test_2 22 rfl rfl
theorem dX6_test_0 : decode cX6_test 0 = .ok (.aload_n 0, 1) := dk_42 (dk_at dksX6_test_0 0 rfl rfl)
theorem dX6_test_1 : decode cX6_test 1 = .ok (.aload_n 0, 1) := dk_42 (dk_at dksX6_test_0 1 rfl rfl)
theorem dX6_test_2 : decode cX6_test 2 = .ok (.iload_n 1, 1) := dk_27 (dk_at dksX6_test_0 2 rfl rfl)
theorem dX6_test_3 : decode cX6_test 3 = .ok (.invokevirtual 142, 3) := dk_182 0 142 (dk_at dksX6_test_0 3 rfl rfl)
theorem dX6_test_6 : decode cX6_test 6 = .ok (.ifCond .ne 7, 3) := dk_154 0 7 (dk_at dksX6_test_0 6 rfl rfl)
theorem dX6_test_9 : decode cX6_test 9 = .ok (.iconst 1, 1) := dk_4 (dk_at dksX6_test_0 9 rfl rfl)
theorem dX6_test_10 : decode cX6_test 10 = .ok (.goto 37, 3) := dk_167 0 37 (dk_at dksX6_test_0 10 rfl rfl)
theorem dX6_test_13 : decode cX6_test 13 = .ok (.iload_n 2, 1) := dk_28 (dk_at dksX6_test_0 13 rfl rfl)
theorem dX6_test_14 : decode cX6_test 14 = .ok (.iconst 0, 1) := dk_3 (dk_at dksX6_test_0 14 rfl rfl)
theorem dX6_test_15 : decode cX6_test 15 = .ok (.iconst 5, 1) := dk_8 (dk_at dksX6_test_0 15 rfl rfl)
theorem dX6_test_16 : decode cX6_test 16 = .ok (.invokestatic 80, 3) := dk_184 0 80 (dk_at dksX6_test_0 16 rfl rfl)
theorem dX6_test_19 : decode cX6_test 19 = .ok (.ifCond .eq 23, 3) := dk_153 0 23 (dk_at dksX6_test_0 19 rfl rfl)
theorem dX6_test_22 : decode cX6_test 22 = .ok (.iload_n 3, 1) := dk_29 (dk_at dksX6_test_0 22 rfl rfl)
theorem dX6_test_23 : decode cX6_test 23 = .ok (.iconst 0, 1) := dk_3 (dk_at dksX6_test_0 23 rfl rfl)
theorem dX6_test_24 : decode cX6_test 24 = .ok (.iconst 3, 1) := dk_6 (dk_at dksX6_test_1 0 rfl rfl)
theorem dX6_test_25 : decode cX6_test 25 = .ok (.invokestatic 80, 3) := dk_184 0 80 (dk_at dksX6_test_1 1 rfl rfl)
theorem dX6_test_28 : decode cX6_test 28 = .ok (.ifCond .eq 14, 3) := dk_153 0 14 (dk_at dksX6_test_1 4 rfl rfl)
theorem dX6_test_31 : decode cX6_test 31 = .ok (.iload 4, 2) := dk_21 4 (dk_at dksX6_test_1 7 rfl rfl)
theorem dX6_test_33 : decode cX6_test 33 = .ok (.iconst 0, 1) := dk_3 (dk_at dksX6_test_1 9 rfl rfl)
theorem dX6_test_34 : decode cX6_test 34 = .ok (.bipush 9, 2) := dk_16 9 (dk_at dksX6_test_1 10 rfl rfl)
theorem dX6_test_36 : decode cX6_test 36 = .ok (.invokestatic 80, 3) := dk_184 0 80 (dk_at dksX6_test_1 12 rfl rfl)
theorem dX6_test_39 : decode cX6_test 39 = .ok (.ifCond .ne 7, 3) := dk_154 0 7 (dk_at dksX6_test_1 15 rfl rfl)
theorem dX6_test_42 : decode cX6_test 42 = .ok (.iconst 2, 1) := dk_5 (dk_at dksX6_test_1 18 rfl rfl)
theorem dX6_test_43 : decode cX6_test 43 = .ok (.goto 4, 3) := dk_167 0 4 (dk_at dksX6_test_1 19 rfl rfl)
theorem dX6_test_46 : decode cX6_test 46 = .ok (.iconst 0, 1) := dk_3 (dk_at dksX6_test_1 22 rfl rfl)
theorem dX6_test_47 : decode cX6_test 47 = .ok (.putfield 62, 3) := dk_181 0 62 (dk_at dksX6_test_2 0 rfl rfl)
theorem dX6_test_50 : decode cX6_test 50 = .ok (.aload_n 0, 1) := dk_42 (dk_at dksX6_test_2 3 rfl rfl)
theorem dX6_test_51 : decode cX6_test 51 = .ok (.getfield 62, 3) := dk_180 0 62 (dk_at dksX6_test_2 4 rfl rfl)
theorem dX6_test_54 : decode cX6_test 54 = .ok (.ifCond .le 5, 3) := dk_158 0 5 (dk_at dksX6_test_2 7 rfl rfl)
theorem dX6_test_57 : decode cX6_test 57 = .ok (.iconst 0, 1) := dk_3 (dk_at dksX6_test_2 10 rfl rfl)
theorem dX6_test_58 : decode cX6_test 58 = .ok (.ireturn, 1) := dk_172 (dk_at dksX6_test_2 11 rfl rfl)
theorem dX6_test_59 : decode cX6_test 59 = .ok (.aload_n 0, 1) := dk_42 (dk_at dksX6_test_2 12 rfl rfl)
theorem dX6_test_60 : decode cX6_test 60 = .ok (.iconst 0, 1) := dk_3 (dk_at dksX6_test_2 13 rfl rfl)
theorem dX6_test_61 : decode cX6_test 61 = .ok (.putfield 145, 3) := dk_181 0 145 (dk_at dksX6_test_2 14 rfl rfl)
theorem dX6_test_64 : decode cX6_test 64 = .ok (.aload_n 0, 1) := dk_42 (dk_at dksX6_test_2 17 rfl rfl)
theorem dX6_test_65 : decode cX6_test 65 = .ok (.iload_n 2, 1) := dk_28 (dk_at dksX6_test_2 18 rfl rfl)
theorem dX6_test_66 : decode cX6_test 66 = .ok (.iload_n 3, 1) := dk_29 (dk_at dksX6_test_2 19 rfl rfl)
theorem dX6_test_67 : decode cX6_test 67 = .ok (.iload 4, 2) := dk_21 4 (dk_at dksX6_test_2 20 rfl rfl)
theorem dX6_test_69 : decode cX6_test 69 = .ok (.invokevirtual 164, 3) := dk_182 0 164 (dk_at dksX6_test_3 0 rfl rfl)
theorem dX6_test_72 : decode cX6_test 72 = .ok (.aload_n 0, 1) := dk_42 (dk_at dksX6_test_3 3 rfl rfl)
theorem dX6_test_73 : decode cX6_test 73 = .ok (.iload_n 1, 1) := dk_27 (dk_at dksX6_test_3 4 rfl rfl)
theorem dX6_test_74 : decode cX6_test 74 = .ok (.iconst 3, 1) := dk_6 (dk_at dksX6_test_3 5 rfl rfl)
theorem dX6_test_75 : decode cX6_test 75 = .ok (.invokevirtual 168, 3) := dk_182 0 168 (dk_at dksX6_test_3 6 rfl rfl)
theorem dX6_test_78 : decode cX6_test 78 = .ok (.ireturn, 1) := dk_172 (dk_at dksX6_test_3 9 rfl rfl)
abbrev cX6_moreTest : ByteArray := prog_27_method_28_code
def yX6_moreTest : MethodName := ⟨RX6, "moreTest", "(III)V"⟩
def dkwX6_moreTest_2 : List UInt8 := [181, 0, 145, 177]
abbrev dktX6_moreTest_2 : List UInt8 := dkwX6_moreTest_2 ++ []
def dkwX6_moreTest_1 : List UInt8 := [28, 79, 42, 180, 0, 22, 6, 42, 180, 0, 145, 104, 5, 96, 29, 79, 42, 89, 180, 0, 145, 4, 96]
abbrev dktX6_moreTest_1 : List UInt8 := dkwX6_moreTest_1 ++ dktX6_moreTest_2
def dkwX6_moreTest_0 : List UInt8 := [42, 180, 0, 22, 6, 42, 180, 0, 145, 104, 27, 79, 42, 180, 0, 22, 6, 42, 180, 0, 145, 104, 4, 96]
abbrev dktX6_moreTest_0 : List UInt8 := dkwX6_moreTest_0 ++ dktX6_moreTest_1
theorem dksX6_moreTest_0 : cX6_moreTest.data.toList.drop 0 = dktX6_moreTest_0 := by decide +kernel
theorem dksX6_moreTest_1 : cX6_moreTest.data.toList.drop 24 = dktX6_moreTest_1 := dk_seg dksX6_moreTest_0 24 rfl rfl
theorem dksX6_moreTest_2 : cX6_moreTest.data.toList.drop 47 = dktX6_moreTest_2 := dk_seg dksX6_moreTest_1 23 rfl rfl
theorem dX6_moreTest_0 : decode cX6_moreTest 0 = .ok (.aload_n 0, 1) := dk_42 (dk_at dksX6_moreTest_0 0 rfl rfl)
theorem dX6_moreTest_1 : decode cX6_moreTest 1 = .ok (.getfield 22, 3) := dk_180 0 22 (dk_at dksX6_moreTest_0 1 rfl rfl)
theorem dX6_moreTest_4 : decode cX6_moreTest 4 = .ok (.iconst 3, 1) := dk_6 (dk_at dksX6_moreTest_0 4 rfl rfl)
theorem dX6_moreTest_5 : decode cX6_moreTest 5 = .ok (.aload_n 0, 1) := dk_42 (dk_at dksX6_moreTest_0 5 rfl rfl)
theorem dX6_moreTest_6 : decode cX6_moreTest 6 = .ok (.getfield 145, 3) := dk_180 0 145 (dk_at dksX6_moreTest_0 6 rfl rfl)
theorem dX6_moreTest_9 : decode cX6_moreTest 9 = .ok (.imul, 1) := dk_104 (dk_at dksX6_moreTest_0 9 rfl rfl)
theorem dX6_moreTest_10 : decode cX6_moreTest 10 = .ok (.iload_n 1, 1) := dk_27 (dk_at dksX6_moreTest_0 10 rfl rfl)
theorem dX6_moreTest_11 : decode cX6_moreTest 11 = .ok (.iastore, 1) := dk_79 (dk_at dksX6_moreTest_0 11 rfl rfl)
theorem dX6_moreTest_12 : decode cX6_moreTest 12 = .ok (.aload_n 0, 1) := dk_42 (dk_at dksX6_moreTest_0 12 rfl rfl)
theorem dX6_moreTest_13 : decode cX6_moreTest 13 = .ok (.getfield 22, 3) := dk_180 0 22 (dk_at dksX6_moreTest_0 13 rfl rfl)
theorem dX6_moreTest_16 : decode cX6_moreTest 16 = .ok (.iconst 3, 1) := dk_6 (dk_at dksX6_moreTest_0 16 rfl rfl)
theorem dX6_moreTest_17 : decode cX6_moreTest 17 = .ok (.aload_n 0, 1) := dk_42 (dk_at dksX6_moreTest_0 17 rfl rfl)
theorem dX6_moreTest_18 : decode cX6_moreTest 18 = .ok (.getfield 145, 3) := dk_180 0 145 (dk_at dksX6_moreTest_0 18 rfl rfl)
theorem dX6_moreTest_21 : decode cX6_moreTest 21 = .ok (.imul, 1) := dk_104 (dk_at dksX6_moreTest_0 21 rfl rfl)
theorem dX6_moreTest_22 : decode cX6_moreTest 22 = .ok (.iconst 1, 1) := dk_4 (dk_at dksX6_moreTest_0 22 rfl rfl)
theorem dX6_moreTest_23 : decode cX6_moreTest 23 = .ok (.iadd, 1) := dk_96 (dk_at dksX6_moreTest_0 23 rfl rfl)
theorem dX6_moreTest_24 : decode cX6_moreTest 24 = .ok (.iload_n 2, 1) := dk_28 (dk_at dksX6_moreTest_1 0 rfl rfl)
theorem dX6_moreTest_25 : decode cX6_moreTest 25 = .ok (.iastore, 1) := dk_79 (dk_at dksX6_moreTest_1 1 rfl rfl)
theorem dX6_moreTest_26 : decode cX6_moreTest 26 = .ok (.aload_n 0, 1) := dk_42 (dk_at dksX6_moreTest_1 2 rfl rfl)
theorem dX6_moreTest_27 : decode cX6_moreTest 27 = .ok (.getfield 22, 3) := dk_180 0 22 (dk_at dksX6_moreTest_1 3 rfl rfl)
theorem dX6_moreTest_30 : decode cX6_moreTest 30 = .ok (.iconst 3, 1) := dk_6 (dk_at dksX6_moreTest_1 6 rfl rfl)
theorem dX6_moreTest_31 : decode cX6_moreTest 31 = .ok (.aload_n 0, 1) := dk_42 (dk_at dksX6_moreTest_1 7 rfl rfl)
theorem dX6_moreTest_32 : decode cX6_moreTest 32 = .ok (.getfield 145, 3) := dk_180 0 145 (dk_at dksX6_moreTest_1 8 rfl rfl)
theorem dX6_moreTest_35 : decode cX6_moreTest 35 = .ok (.imul, 1) := dk_104 (dk_at dksX6_moreTest_1 11 rfl rfl)
theorem dX6_moreTest_36 : decode cX6_moreTest 36 = .ok (.iconst 2, 1) := dk_5 (dk_at dksX6_moreTest_1 12 rfl rfl)
theorem dX6_moreTest_37 : decode cX6_moreTest 37 = .ok (.iadd, 1) := dk_96 (dk_at dksX6_moreTest_1 13 rfl rfl)
theorem dX6_moreTest_38 : decode cX6_moreTest 38 = .ok (.iload_n 3, 1) := dk_29 (dk_at dksX6_moreTest_1 14 rfl rfl)
theorem dX6_moreTest_39 : decode cX6_moreTest 39 = .ok (.iastore, 1) := dk_79 (dk_at dksX6_moreTest_1 15 rfl rfl)
theorem dX6_moreTest_40 : decode cX6_moreTest 40 = .ok (.aload_n 0, 1) := dk_42 (dk_at dksX6_moreTest_1 16 rfl rfl)
theorem dX6_moreTest_41 : decode cX6_moreTest 41 = .ok (.dup, 1) := dk_89 (dk_at dksX6_moreTest_1 17 rfl rfl)
theorem dX6_moreTest_42 : decode cX6_moreTest 42 = .ok (.getfield 145, 3) := dk_180 0 145 (dk_at dksX6_moreTest_1 18 rfl rfl)
theorem dX6_moreTest_45 : decode cX6_moreTest 45 = .ok (.iconst 1, 1) := dk_4 (dk_at dksX6_moreTest_1 21 rfl rfl)
theorem dX6_moreTest_46 : decode cX6_moreTest 46 = .ok (.iadd, 1) := dk_96 (dk_at dksX6_moreTest_1 22 rfl rfl)
theorem dX6_moreTest_47 : decode cX6_moreTest 47 = .ok (.putfield 145, 3) := dk_181 0 145 (dk_at dksX6_moreTest_2 0 rfl rfl)
theorem dX6_moreTest_50 : decode cX6_moreTest 50 = .ok (.return_, 1) := dk_177 (dk_at dksX6_moreTest_2 3 rfl rfl)
abbrev cX6_addTests : ByteArray := prog_27_method_33_code
def yX6_addTests : MethodName := ⟨RX6, "addTests", "(II)I"⟩
def dkwX6_addTests_1 : List UInt8 := [182, 0, 92, 42, 182, 0, 95, 42, 27, 182, 0, 160, 42, 27, 16, 7, 182, 0, 104, 172]
abbrev dktX6_addTests_1 : List UInt8 := dkwX6_addTests_1 ++ []
def dkwX6_addTests_0 : List UInt8 := [42, 27, 182, 0, 157, 62, 29, 158, 0, 14, 42, 28, 29, 42, 180, 0, 115, 182, 0, 125, 172, 42]
abbrev dktX6_addTests_0 : List UInt8 := dkwX6_addTests_0 ++ dktX6_addTests_1
theorem dksX6_addTests_0 : cX6_addTests.data.toList.drop 0 = dktX6_addTests_0 := by decide +kernel
theorem dksX6_addTests_1 : cX6_addTests.data.toList.drop 22 = dktX6_addTests_1 := dk_seg dksX6_addTests_0 22 rfl rfl
theorem dX6_addTests_0 : decode cX6_addTests 0 = .ok (.aload_n 0, 1) := dk_42 (dk_at dksX6_addTests_0 0 rfl rfl)
theorem dX6_addTests_1 : decode cX6_addTests 1 = .ok (.iload_n 1, 1) := dk_27 (dk_at dksX6_addTests_0 1 rfl rfl)
theorem dX6_addTests_2 : decode cX6_addTests 2 = .ok (.invokevirtual 157, 3) := dk_182 0 157 (dk_at dksX6_addTests_0 2 rfl rfl)
theorem dX6_addTests_5 : decode cX6_addTests 5 = .ok (.istore_n 3, 1) := dk_62 (dk_at dksX6_addTests_0 5 rfl rfl)
theorem dX6_addTests_6 : decode cX6_addTests 6 = .ok (.iload_n 3, 1) := dk_29 (dk_at dksX6_addTests_0 6 rfl rfl)
theorem dX6_addTests_7 : decode cX6_addTests 7 = .ok (.ifCond .le 14, 3) := dk_158 0 14 (dk_at dksX6_addTests_0 7 rfl rfl)
theorem dX6_addTests_10 : decode cX6_addTests 10 = .ok (.aload_n 0, 1) := dk_42 (dk_at dksX6_addTests_0 10 rfl rfl)
theorem dX6_addTests_11 : decode cX6_addTests 11 = .ok (.iload_n 2, 1) := dk_28 (dk_at dksX6_addTests_0 11 rfl rfl)
theorem dX6_addTests_12 : decode cX6_addTests 12 = .ok (.iload_n 3, 1) := dk_29 (dk_at dksX6_addTests_0 12 rfl rfl)
theorem dX6_addTests_13 : decode cX6_addTests 13 = .ok (.aload_n 0, 1) := dk_42 (dk_at dksX6_addTests_0 13 rfl rfl)
theorem dX6_addTests_14 : decode cX6_addTests 14 = .ok (.getfield 115, 3) := dk_180 0 115 (dk_at dksX6_addTests_0 14 rfl rfl)
theorem dX6_addTests_17 : decode cX6_addTests 17 = .ok (.invokevirtual 125, 3) := dk_182 0 125 (dk_at dksX6_addTests_0 17 rfl rfl)
theorem dX6_addTests_20 : decode cX6_addTests 20 = .ok (.ireturn, 1) := dk_172 (dk_at dksX6_addTests_0 20 rfl rfl)
theorem dX6_addTests_21 : decode cX6_addTests 21 = .ok (.aload_n 0, 1) := dk_42 (dk_at dksX6_addTests_0 21 rfl rfl)
theorem dX6_addTests_22 : decode cX6_addTests 22 = .ok (.invokevirtual 92, 3) := dk_182 0 92 (dk_at dksX6_addTests_1 0 rfl rfl)
theorem dX6_addTests_25 : decode cX6_addTests 25 = .ok (.aload_n 0, 1) := dk_42 (dk_at dksX6_addTests_1 3 rfl rfl)
theorem dX6_addTests_26 : decode cX6_addTests 26 = .ok (.invokevirtual 95, 3) := dk_182 0 95 (dk_at dksX6_addTests_1 4 rfl rfl)
theorem dX6_addTests_29 : decode cX6_addTests 29 = .ok (.aload_n 0, 1) := dk_42 (dk_at dksX6_addTests_1 7 rfl rfl)
theorem dX6_addTests_30 : decode cX6_addTests 30 = .ok (.iload_n 1, 1) := dk_27 (dk_at dksX6_addTests_1 8 rfl rfl)
theorem dX6_addTests_31 : decode cX6_addTests 31 = .ok (.invokevirtual 160, 3) := dk_182 0 160 (dk_at dksX6_addTests_1 9 rfl rfl)
theorem dX6_addTests_34 : decode cX6_addTests 34 = .ok (.aload_n 0, 1) := dk_42 (dk_at dksX6_addTests_1 12 rfl rfl)
theorem dX6_addTests_35 : decode cX6_addTests 35 = .ok (.iload_n 1, 1) := dk_27 (dk_at dksX6_addTests_1 13 rfl rfl)
theorem dX6_addTests_36 : decode cX6_addTests 36 = .ok (.bipush 7, 2) := dk_16 7 (dk_at dksX6_addTests_1 14 rfl rfl)
theorem dX6_addTests_38 : decode cX6_addTests 38 = .ok (.invokevirtual 104, 3) := dk_182 0 104 (dk_at dksX6_addTests_1 16 rfl rfl)
theorem dX6_addTests_41 : decode cX6_addTests 41 = .ok (.ireturn, 1) := dk_172 (dk_at dksX6_addTests_1 19 rfl rfl)
abbrev cX6_hindersTests : ByteArray := prog_27_method_31_code
def yX6_hindersTests : MethodName := ⟨RX6, "hindersTests", "(I)I"⟩
def dkwX6_hindersTests_2 : List UInt8 := [167, 0, 5, 16, 7, 172]
abbrev dktX6_hindersTests_2 : List UInt8 := dkwX6_hindersTests_2 ++ []
def dkwX6_hindersTests_1 : List UInt8 := [96, 7, 164, 0, 6, 16, 6, 172, 42, 27, 182, 0, 154, 61, 42, 28, 181, 0, 115, 28, 156, 0, 7, 3]
abbrev dktX6_hindersTests_1 : List UInt8 := dkwX6_hindersTests_1 ++ dktX6_hindersTests_2
def dkwX6_hindersTests_0 : List UInt8 := [42, 3, 181, 0, 115, 27, 156, 0, 7, 3, 167, 0, 10, 42, 27, 16, 7, 182, 0, 104, 42, 180, 0, 145]
abbrev dktX6_hindersTests_0 : List UInt8 := dkwX6_hindersTests_0 ++ dktX6_hindersTests_1
theorem dksX6_hindersTests_0 : cX6_hindersTests.data.toList.drop 0 = dktX6_hindersTests_0 := by decide +kernel
theorem dksX6_hindersTests_1 : cX6_hindersTests.data.toList.drop 24 = dktX6_hindersTests_1 := dk_seg dksX6_hindersTests_0 24 rfl rfl
theorem dksX6_hindersTests_2 : cX6_hindersTests.data.toList.drop 48 = dktX6_hindersTests_2 := dk_seg dksX6_hindersTests_1 24 rfl rfl
theorem dX6_hindersTests_0 : decode cX6_hindersTests 0 = .ok (.aload_n 0, 1) := dk_42 (dk_at dksX6_hindersTests_0 0 rfl rfl)
theorem dX6_hindersTests_1 : decode cX6_hindersTests 1 = .ok (.iconst 0, 1) := dk_3 (dk_at dksX6_hindersTests_0 1 rfl rfl)
theorem dX6_hindersTests_2 : decode cX6_hindersTests 2 = .ok (.putfield 115, 3) := dk_181 0 115 (dk_at dksX6_hindersTests_0 2 rfl rfl)
theorem dX6_hindersTests_5 : decode cX6_hindersTests 5 = .ok (.iload_n 1, 1) := dk_27 (dk_at dksX6_hindersTests_0 5 rfl rfl)
theorem dX6_hindersTests_6 : decode cX6_hindersTests 6 = .ok (.ifCond .ge 7, 3) := dk_156 0 7 (dk_at dksX6_hindersTests_0 6 rfl rfl)
theorem dX6_hindersTests_9 : decode cX6_hindersTests 9 = .ok (.iconst 0, 1) := dk_3 (dk_at dksX6_hindersTests_0 9 rfl rfl)
theorem dX6_hindersTests_10 : decode cX6_hindersTests 10 = .ok (.goto 10, 3) := dk_167 0 10 (dk_at dksX6_hindersTests_0 10 rfl rfl)
theorem dX6_hindersTests_13 : decode cX6_hindersTests 13 = .ok (.aload_n 0, 1) := dk_42 (dk_at dksX6_hindersTests_0 13 rfl rfl)
theorem dX6_hindersTests_14 : decode cX6_hindersTests 14 = .ok (.iload_n 1, 1) := dk_27 (dk_at dksX6_hindersTests_0 14 rfl rfl)
theorem dX6_hindersTests_15 : decode cX6_hindersTests 15 = .ok (.bipush 7, 2) := dk_16 7 (dk_at dksX6_hindersTests_0 15 rfl rfl)
theorem dX6_hindersTests_17 : decode cX6_hindersTests 17 = .ok (.invokevirtual 104, 3) := dk_182 0 104 (dk_at dksX6_hindersTests_0 17 rfl rfl)
theorem dX6_hindersTests_20 : decode cX6_hindersTests 20 = .ok (.aload_n 0, 1) := dk_42 (dk_at dksX6_hindersTests_0 20 rfl rfl)
theorem dX6_hindersTests_21 : decode cX6_hindersTests 21 = .ok (.getfield 145, 3) := dk_180 0 145 (dk_at dksX6_hindersTests_0 21 rfl rfl)
theorem dX6_hindersTests_24 : decode cX6_hindersTests 24 = .ok (.iadd, 1) := dk_96 (dk_at dksX6_hindersTests_1 0 rfl rfl)
theorem dX6_hindersTests_25 : decode cX6_hindersTests 25 = .ok (.iconst 4, 1) := dk_7 (dk_at dksX6_hindersTests_1 1 rfl rfl)
theorem dX6_hindersTests_26 : decode cX6_hindersTests 26 = .ok (.if_icmp .le 6, 3) := dk_164 0 6 (dk_at dksX6_hindersTests_1 2 rfl rfl)
theorem dX6_hindersTests_29 : decode cX6_hindersTests 29 = .ok (.bipush 6, 2) := dk_16 6 (dk_at dksX6_hindersTests_1 5 rfl rfl)
theorem dX6_hindersTests_31 : decode cX6_hindersTests 31 = .ok (.ireturn, 1) := dk_172 (dk_at dksX6_hindersTests_1 7 rfl rfl)
theorem dX6_hindersTests_32 : decode cX6_hindersTests 32 = .ok (.aload_n 0, 1) := dk_42 (dk_at dksX6_hindersTests_1 8 rfl rfl)
theorem dX6_hindersTests_33 : decode cX6_hindersTests 33 = .ok (.iload_n 1, 1) := dk_27 (dk_at dksX6_hindersTests_1 9 rfl rfl)
theorem dX6_hindersTests_34 : decode cX6_hindersTests 34 = .ok (.invokevirtual 154, 3) := dk_182 0 154 (dk_at dksX6_hindersTests_1 10 rfl rfl)
theorem dX6_hindersTests_37 : decode cX6_hindersTests 37 = .ok (.istore_n 2, 1) := dk_61 (dk_at dksX6_hindersTests_1 13 rfl rfl)
theorem dX6_hindersTests_38 : decode cX6_hindersTests 38 = .ok (.aload_n 0, 1) := dk_42 (dk_at dksX6_hindersTests_1 14 rfl rfl)
theorem dX6_hindersTests_39 : decode cX6_hindersTests 39 = .ok (.iload_n 2, 1) := dk_28 (dk_at dksX6_hindersTests_1 15 rfl rfl)
theorem dX6_hindersTests_40 : decode cX6_hindersTests 40 = .ok (.putfield 115, 3) := dk_181 0 115 (dk_at dksX6_hindersTests_1 16 rfl rfl)
theorem dX6_hindersTests_43 : decode cX6_hindersTests 43 = .ok (.iload_n 2, 1) := dk_28 (dk_at dksX6_hindersTests_1 19 rfl rfl)
theorem dX6_hindersTests_44 : decode cX6_hindersTests 44 = .ok (.ifCond .ge 7, 3) := dk_156 0 7 (dk_at dksX6_hindersTests_1 20 rfl rfl)
theorem dX6_hindersTests_47 : decode cX6_hindersTests 47 = .ok (.iconst 0, 1) := dk_3 (dk_at dksX6_hindersTests_1 23 rfl rfl)
theorem dX6_hindersTests_48 : decode cX6_hindersTests 48 = .ok (.goto 5, 3) := dk_167 0 5 (dk_at dksX6_hindersTests_2 0 rfl rfl)
theorem dX6_hindersTests_51 : decode cX6_hindersTests 51 = .ok (.bipush 7, 2) := dk_16 7 (dk_at dksX6_hindersTests_2 3 rfl rfl)
theorem dX6_hindersTests_53 : decode cX6_hindersTests 53 = .ok (.ireturn, 1) := dk_172 (dk_at dksX6_hindersTests_2 5 rfl rfl)
abbrev cX6_lostFeature : ByteArray := prog_27_method_30_code
def yX6_lostFeature : MethodName := ⟨RX6, "lostFeature", "(I)I"⟩
def dkwX6_lostFeature_2 : List UInt8 := [154, 0, 5, 28, 172, 132, 2, 1, 167, 255, 202, 2, 172]
abbrev dktX6_lostFeature_2 : List UInt8 := dkwX6_lostFeature_2 ++ []
def dkwX6_lostFeature_1 : List UInt8 := [42, 27, 28, 21, 4, 182, 0, 151, 153, 0, 7, 4, 167, 0, 4, 3, 62, 132, 4, 1, 167, 255, 225, 29]
abbrev dktX6_lostFeature_1 : List UInt8 := dkwX6_lostFeature_1 ++ dktX6_lostFeature_2
def dkwX6_lostFeature_0 : List UInt8 := [3, 61, 28, 16, 6, 162, 0, 54, 3, 62, 3, 54, 4, 21, 4, 16, 10, 162, 0, 30, 29, 154, 0, 14]
abbrev dktX6_lostFeature_0 : List UInt8 := dkwX6_lostFeature_0 ++ dktX6_lostFeature_1
theorem dksX6_lostFeature_0 : cX6_lostFeature.data.toList.drop 0 = dktX6_lostFeature_0 := by decide +kernel
theorem dksX6_lostFeature_1 : cX6_lostFeature.data.toList.drop 24 = dktX6_lostFeature_1 := dk_seg dksX6_lostFeature_0 24 rfl rfl
theorem dksX6_lostFeature_2 : cX6_lostFeature.data.toList.drop 48 = dktX6_lostFeature_2 := dk_seg dksX6_lostFeature_1 24 rfl rfl
theorem dX6_lostFeature_0 : decode cX6_lostFeature 0 = .ok (.iconst 0, 1) := dk_3 (dk_at dksX6_lostFeature_0 0 rfl rfl)
theorem dX6_lostFeature_1 : decode cX6_lostFeature 1 = .ok (.istore_n 2, 1) := dk_61 (dk_at dksX6_lostFeature_0 1 rfl rfl)
theorem dX6_lostFeature_2 : decode cX6_lostFeature 2 = .ok (.iload_n 2, 1) := dk_28 (dk_at dksX6_lostFeature_0 2 rfl rfl)
theorem dX6_lostFeature_3 : decode cX6_lostFeature 3 = .ok (.bipush 6, 2) := dk_16 6 (dk_at dksX6_lostFeature_0 3 rfl rfl)
theorem dX6_lostFeature_5 : decode cX6_lostFeature 5 = .ok (.if_icmp .ge 54, 3) := dk_162 0 54 (dk_at dksX6_lostFeature_0 5 rfl rfl)
theorem dX6_lostFeature_8 : decode cX6_lostFeature 8 = .ok (.iconst 0, 1) := dk_3 (dk_at dksX6_lostFeature_0 8 rfl rfl)
theorem dX6_lostFeature_9 : decode cX6_lostFeature 9 = .ok (.istore_n 3, 1) := dk_62 (dk_at dksX6_lostFeature_0 9 rfl rfl)
theorem dX6_lostFeature_10 : decode cX6_lostFeature 10 = .ok (.iconst 0, 1) := dk_3 (dk_at dksX6_lostFeature_0 10 rfl rfl)
theorem dX6_lostFeature_11 : decode cX6_lostFeature 11 = .ok (.istore 4, 2) := dk_54 4 (dk_at dksX6_lostFeature_0 11 rfl rfl)
theorem dX6_lostFeature_13 : decode cX6_lostFeature 13 = .ok (.iload 4, 2) := dk_21 4 (dk_at dksX6_lostFeature_0 13 rfl rfl)
theorem dX6_lostFeature_15 : decode cX6_lostFeature 15 = .ok (.bipush 10, 2) := dk_16 10 (dk_at dksX6_lostFeature_0 15 rfl rfl)
theorem dX6_lostFeature_17 : decode cX6_lostFeature 17 = .ok (.if_icmp .ge 30, 3) := dk_162 0 30 (dk_at dksX6_lostFeature_0 17 rfl rfl)
theorem dX6_lostFeature_20 : decode cX6_lostFeature 20 = .ok (.iload_n 3, 1) := dk_29 (dk_at dksX6_lostFeature_0 20 rfl rfl)
theorem dX6_lostFeature_21 : decode cX6_lostFeature 21 = .ok (.ifCond .ne 14, 3) := dk_154 0 14 (dk_at dksX6_lostFeature_0 21 rfl rfl)
theorem dX6_lostFeature_24 : decode cX6_lostFeature 24 = .ok (.aload_n 0, 1) := dk_42 (dk_at dksX6_lostFeature_1 0 rfl rfl)
theorem dX6_lostFeature_25 : decode cX6_lostFeature 25 = .ok (.iload_n 1, 1) := dk_27 (dk_at dksX6_lostFeature_1 1 rfl rfl)
theorem dX6_lostFeature_26 : decode cX6_lostFeature 26 = .ok (.iload_n 2, 1) := dk_28 (dk_at dksX6_lostFeature_1 2 rfl rfl)
theorem dX6_lostFeature_27 : decode cX6_lostFeature 27 = .ok (.iload 4, 2) := dk_21 4 (dk_at dksX6_lostFeature_1 3 rfl rfl)
theorem dX6_lostFeature_29 : decode cX6_lostFeature 29 = .ok (.invokevirtual 151, 3) := dk_182 0 151 (dk_at dksX6_lostFeature_1 5 rfl rfl)
theorem dX6_lostFeature_32 : decode cX6_lostFeature 32 = .ok (.ifCond .eq 7, 3) := dk_153 0 7 (dk_at dksX6_lostFeature_1 8 rfl rfl)
theorem dX6_lostFeature_35 : decode cX6_lostFeature 35 = .ok (.iconst 1, 1) := dk_4 (dk_at dksX6_lostFeature_1 11 rfl rfl)
theorem dX6_lostFeature_36 : decode cX6_lostFeature 36 = .ok (.goto 4, 3) := dk_167 0 4 (dk_at dksX6_lostFeature_1 12 rfl rfl)
theorem dX6_lostFeature_39 : decode cX6_lostFeature 39 = .ok (.iconst 0, 1) := dk_3 (dk_at dksX6_lostFeature_1 15 rfl rfl)
theorem dX6_lostFeature_40 : decode cX6_lostFeature 40 = .ok (.istore_n 3, 1) := dk_62 (dk_at dksX6_lostFeature_1 16 rfl rfl)
theorem dX6_lostFeature_41 : decode cX6_lostFeature 41 = .ok (.iinc 4 1, 3) := dk_132 4 1 (dk_at dksX6_lostFeature_1 17 rfl rfl)
theorem dX6_lostFeature_44 : decode cX6_lostFeature 44 = .ok (.goto (-31), 3) := dk_167 255 225 (dk_at dksX6_lostFeature_1 20 rfl rfl)
theorem dX6_lostFeature_47 : decode cX6_lostFeature 47 = .ok (.iload_n 3, 1) := dk_29 (dk_at dksX6_lostFeature_1 23 rfl rfl)
theorem dX6_lostFeature_48 : decode cX6_lostFeature 48 = .ok (.ifCond .ne 5, 3) := dk_154 0 5 (dk_at dksX6_lostFeature_2 0 rfl rfl)
theorem dX6_lostFeature_51 : decode cX6_lostFeature 51 = .ok (.iload_n 2, 1) := dk_28 (dk_at dksX6_lostFeature_2 3 rfl rfl)
theorem dX6_lostFeature_52 : decode cX6_lostFeature 52 = .ok (.ireturn, 1) := dk_172 (dk_at dksX6_lostFeature_2 4 rfl rfl)
theorem dX6_lostFeature_53 : decode cX6_lostFeature 53 = .ok (.iinc 2 1, 3) := dk_132 2 1 (dk_at dksX6_lostFeature_2 5 rfl rfl)
theorem dX6_lostFeature_56 : decode cX6_lostFeature 56 = .ok (.goto (-54), 3) := dk_167 255 202 (dk_at dksX6_lostFeature_2 8 rfl rfl)
theorem dX6_lostFeature_59 : decode cX6_lostFeature 59 = .ok (.iconst (-1), 1) := dk_2 (dk_at dksX6_lostFeature_2 11 rfl rfl)
theorem dX6_lostFeature_60 : decode cX6_lostFeature 60 = .ok (.ireturn, 1) := dk_172 (dk_at dksX6_lostFeature_2 12 rfl rfl)
abbrev cX6_fulfilsAll : ByteArray := prog_27_method_29_code
def yX6_fulfilsAll : MethodName := ⟨RX6, "fulfilsAll", "(III)Z"⟩
def dkwX6_fulfilsAll_7 : List UInt8 := [167, 255, 190, 21, 4, 172]
abbrev dktX6_fulfilsAll_7 : List UInt8 := dkwX6_fulfilsAll_7 ++ []
def dkwX6_fulfilsAll_6 : List UInt8 := [21, 5, 104, 5, 96, 46, 184, 0, 148, 153, 0, 7, 4, 167, 0, 4, 3, 54, 4, 132, 5, 1]
abbrev dktX6_fulfilsAll_6 : List UInt8 := dkwX6_fulfilsAll_6 ++ dktX6_fulfilsAll_7
def dkwX6_fulfilsAll_5 : List UInt8 := [104, 46, 28, 160, 0, 32, 29, 42, 180, 0, 22, 6, 21, 5, 104, 4, 96, 46, 42, 180, 0, 22, 6]
abbrev dktX6_fulfilsAll_5 : List UInt8 := dkwX6_fulfilsAll_5 ++ dktX6_fulfilsAll_6
def dkwX6_fulfilsAll_4 : List UInt8 := [3, 54, 5, 21, 5, 42, 180, 0, 145, 162, 0, 63, 21, 4, 153, 0, 49, 42, 180, 0, 22, 6, 21, 5]
abbrev dktX6_fulfilsAll_4 : List UInt8 := dkwX6_fulfilsAll_4 ++ dktX6_fulfilsAll_5
def dkwX6_fulfilsAll_3 : List UInt8 := [21, 6, 5, 96, 46, 184, 0, 148, 153, 0, 7, 4, 167, 0, 4, 3, 54, 4, 132, 5, 1, 167, 255, 171]
abbrev dktX6_fulfilsAll_3 : List UInt8 := dkwX6_fulfilsAll_3 ++ dktX6_fulfilsAll_4
def dkwX6_fulfilsAll_2 : List UInt8 := [180, 0, 9, 21, 6, 46, 28, 160, 0, 28, 29, 42, 180, 0, 9, 21, 6, 4, 96, 46, 42, 180, 0, 9]
abbrev dktX6_fulfilsAll_2 : List UInt8 := dkwX6_fulfilsAll_2 ++ dktX6_fulfilsAll_3
def dkwX6_fulfilsAll_1 : List UInt8 := [162, 0, 71, 27, 184, 0, 112, 16, 8, 96, 6, 21, 5, 104, 96, 54, 6, 21, 4, 153, 0, 43, 42]
abbrev dktX6_fulfilsAll_1 : List UInt8 := dkwX6_fulfilsAll_1 ++ dktX6_fulfilsAll_2
def dkwX6_fulfilsAll_0 : List UInt8 := [4, 54, 4, 3, 54, 5, 21, 5, 27, 156, 0, 7, 3, 167, 0, 10, 42, 27, 16, 7, 182, 0, 104]
abbrev dktX6_fulfilsAll_0 : List UInt8 := dkwX6_fulfilsAll_0 ++ dktX6_fulfilsAll_1
theorem dksX6_fulfilsAll_0 : cX6_fulfilsAll.data.toList.drop 0 = dktX6_fulfilsAll_0 := by decide +kernel
theorem dksX6_fulfilsAll_1 : cX6_fulfilsAll.data.toList.drop 23 = dktX6_fulfilsAll_1 := dk_seg dksX6_fulfilsAll_0 23 rfl rfl
theorem dksX6_fulfilsAll_2 : cX6_fulfilsAll.data.toList.drop 46 = dktX6_fulfilsAll_2 := dk_seg dksX6_fulfilsAll_1 23 rfl rfl
theorem dksX6_fulfilsAll_3 : cX6_fulfilsAll.data.toList.drop 70 = dktX6_fulfilsAll_3 := dk_seg dksX6_fulfilsAll_2 24 rfl rfl
theorem dksX6_fulfilsAll_4 : cX6_fulfilsAll.data.toList.drop 94 = dktX6_fulfilsAll_4 := dk_seg dksX6_fulfilsAll_3 24 rfl rfl
theorem dksX6_fulfilsAll_5 : cX6_fulfilsAll.data.toList.drop 118 = dktX6_fulfilsAll_5 := dk_seg dksX6_fulfilsAll_4 24 rfl rfl
theorem dksX6_fulfilsAll_6 : cX6_fulfilsAll.data.toList.drop 141 = dktX6_fulfilsAll_6 := dk_seg dksX6_fulfilsAll_5 23 rfl rfl
theorem dksX6_fulfilsAll_7 : cX6_fulfilsAll.data.toList.drop 163 = dktX6_fulfilsAll_7 := dk_seg dksX6_fulfilsAll_6 22 rfl rfl
theorem dX6_fulfilsAll_0 : decode cX6_fulfilsAll 0 = .ok (.iconst 1, 1) := dk_4 (dk_at dksX6_fulfilsAll_0 0 rfl rfl)
theorem dX6_fulfilsAll_1 : decode cX6_fulfilsAll 1 = .ok (.istore 4, 2) := dk_54 4 (dk_at dksX6_fulfilsAll_0 1 rfl rfl)
theorem dX6_fulfilsAll_3 : decode cX6_fulfilsAll 3 = .ok (.iconst 0, 1) := dk_3 (dk_at dksX6_fulfilsAll_0 3 rfl rfl)
theorem dX6_fulfilsAll_4 : decode cX6_fulfilsAll 4 = .ok (.istore 5, 2) := dk_54 5 (dk_at dksX6_fulfilsAll_0 4 rfl rfl)
theorem dX6_fulfilsAll_6 : decode cX6_fulfilsAll 6 = .ok (.iload 5, 2) := dk_21 5 (dk_at dksX6_fulfilsAll_0 6 rfl rfl)
theorem dX6_fulfilsAll_8 : decode cX6_fulfilsAll 8 = .ok (.iload_n 1, 1) := dk_27 (dk_at dksX6_fulfilsAll_0 8 rfl rfl)
theorem dX6_fulfilsAll_9 : decode cX6_fulfilsAll 9 = .ok (.ifCond .ge 7, 3) := dk_156 0 7 (dk_at dksX6_fulfilsAll_0 9 rfl rfl)
theorem dX6_fulfilsAll_12 : decode cX6_fulfilsAll 12 = .ok (.iconst 0, 1) := dk_3 (dk_at dksX6_fulfilsAll_0 12 rfl rfl)
theorem dX6_fulfilsAll_13 : decode cX6_fulfilsAll 13 = .ok (.goto 10, 3) := dk_167 0 10 (dk_at dksX6_fulfilsAll_0 13 rfl rfl)
theorem dX6_fulfilsAll_16 : decode cX6_fulfilsAll 16 = .ok (.aload_n 0, 1) := dk_42 (dk_at dksX6_fulfilsAll_0 16 rfl rfl)
theorem dX6_fulfilsAll_17 : decode cX6_fulfilsAll 17 = .ok (.iload_n 1, 1) := dk_27 (dk_at dksX6_fulfilsAll_0 17 rfl rfl)
theorem dX6_fulfilsAll_18 : decode cX6_fulfilsAll 18 = .ok (.bipush 7, 2) := dk_16 7 (dk_at dksX6_fulfilsAll_0 18 rfl rfl)
theorem dX6_fulfilsAll_20 : decode cX6_fulfilsAll 20 = .ok (.invokevirtual 104, 3) := dk_182 0 104 (dk_at dksX6_fulfilsAll_0 20 rfl rfl)
theorem dX6_fulfilsAll_23 : decode cX6_fulfilsAll 23 = .ok (.if_icmp .ge 71, 3) := dk_162 0 71 (dk_at dksX6_fulfilsAll_1 0 rfl rfl)
theorem dX6_fulfilsAll_26 : decode cX6_fulfilsAll 26 = .ok (.iload_n 1, 1) := dk_27 (dk_at dksX6_fulfilsAll_1 3 rfl rfl)
theorem dX6_fulfilsAll_27 : decode cX6_fulfilsAll 27 = .ok (.invokestatic 112, 3) := dk_184 0 112 (dk_at dksX6_fulfilsAll_1 4 rfl rfl)
theorem dX6_fulfilsAll_30 : decode cX6_fulfilsAll 30 = .ok (.bipush 8, 2) := dk_16 8 (dk_at dksX6_fulfilsAll_1 7 rfl rfl)
theorem dX6_fulfilsAll_32 : decode cX6_fulfilsAll 32 = .ok (.iadd, 1) := dk_96 (dk_at dksX6_fulfilsAll_1 9 rfl rfl)
theorem dX6_fulfilsAll_33 : decode cX6_fulfilsAll 33 = .ok (.iconst 3, 1) := dk_6 (dk_at dksX6_fulfilsAll_1 10 rfl rfl)
theorem dX6_fulfilsAll_34 : decode cX6_fulfilsAll 34 = .ok (.iload 5, 2) := dk_21 5 (dk_at dksX6_fulfilsAll_1 11 rfl rfl)
theorem dX6_fulfilsAll_36 : decode cX6_fulfilsAll 36 = .ok (.imul, 1) := dk_104 (dk_at dksX6_fulfilsAll_1 13 rfl rfl)
theorem dX6_fulfilsAll_37 : decode cX6_fulfilsAll 37 = .ok (.iadd, 1) := dk_96 (dk_at dksX6_fulfilsAll_1 14 rfl rfl)
theorem dX6_fulfilsAll_38 : decode cX6_fulfilsAll 38 = .ok (.istore 6, 2) := dk_54 6 (dk_at dksX6_fulfilsAll_1 15 rfl rfl)
theorem dX6_fulfilsAll_40 : decode cX6_fulfilsAll 40 = .ok (.iload 4, 2) := dk_21 4 (dk_at dksX6_fulfilsAll_1 17 rfl rfl)
theorem dX6_fulfilsAll_42 : decode cX6_fulfilsAll 42 = .ok (.ifCond .eq 43, 3) := dk_153 0 43 (dk_at dksX6_fulfilsAll_1 19 rfl rfl)
theorem dX6_fulfilsAll_45 : decode cX6_fulfilsAll 45 = .ok (.aload_n 0, 1) := dk_42 (dk_at dksX6_fulfilsAll_1 22 rfl rfl)
theorem dX6_fulfilsAll_46 : decode cX6_fulfilsAll 46 = .ok (.getfield 9, 3) := dk_180 0 9 (dk_at dksX6_fulfilsAll_2 0 rfl rfl)
theorem dX6_fulfilsAll_49 : decode cX6_fulfilsAll 49 = .ok (.iload 6, 2) := dk_21 6 (dk_at dksX6_fulfilsAll_2 3 rfl rfl)
theorem dX6_fulfilsAll_51 : decode cX6_fulfilsAll 51 = .ok (.iaload, 1) := dk_46 (dk_at dksX6_fulfilsAll_2 5 rfl rfl)
theorem dX6_fulfilsAll_52 : decode cX6_fulfilsAll 52 = .ok (.iload_n 2, 1) := dk_28 (dk_at dksX6_fulfilsAll_2 6 rfl rfl)
theorem dX6_fulfilsAll_53 : decode cX6_fulfilsAll 53 = .ok (.if_icmp .ne 28, 3) := dk_160 0 28 (dk_at dksX6_fulfilsAll_2 7 rfl rfl)
theorem dX6_fulfilsAll_56 : decode cX6_fulfilsAll 56 = .ok (.iload_n 3, 1) := dk_29 (dk_at dksX6_fulfilsAll_2 10 rfl rfl)
theorem dX6_fulfilsAll_57 : decode cX6_fulfilsAll 57 = .ok (.aload_n 0, 1) := dk_42 (dk_at dksX6_fulfilsAll_2 11 rfl rfl)
theorem dX6_fulfilsAll_58 : decode cX6_fulfilsAll 58 = .ok (.getfield 9, 3) := dk_180 0 9 (dk_at dksX6_fulfilsAll_2 12 rfl rfl)
theorem dX6_fulfilsAll_61 : decode cX6_fulfilsAll 61 = .ok (.iload 6, 2) := dk_21 6 (dk_at dksX6_fulfilsAll_2 15 rfl rfl)
theorem dX6_fulfilsAll_63 : decode cX6_fulfilsAll 63 = .ok (.iconst 1, 1) := dk_4 (dk_at dksX6_fulfilsAll_2 17 rfl rfl)
theorem dX6_fulfilsAll_64 : decode cX6_fulfilsAll 64 = .ok (.iadd, 1) := dk_96 (dk_at dksX6_fulfilsAll_2 18 rfl rfl)
theorem dX6_fulfilsAll_65 : decode cX6_fulfilsAll 65 = .ok (.iaload, 1) := dk_46 (dk_at dksX6_fulfilsAll_2 19 rfl rfl)
theorem dX6_fulfilsAll_66 : decode cX6_fulfilsAll 66 = .ok (.aload_n 0, 1) := dk_42 (dk_at dksX6_fulfilsAll_2 20 rfl rfl)
theorem dX6_fulfilsAll_67 : decode cX6_fulfilsAll 67 = .ok (.getfield 9, 3) := dk_180 0 9 (dk_at dksX6_fulfilsAll_2 21 rfl rfl)
theorem dX6_fulfilsAll_70 : decode cX6_fulfilsAll 70 = .ok (.iload 6, 2) := dk_21 6 (dk_at dksX6_fulfilsAll_3 0 rfl rfl)
theorem dX6_fulfilsAll_72 : decode cX6_fulfilsAll 72 = .ok (.iconst 2, 1) := dk_5 (dk_at dksX6_fulfilsAll_3 2 rfl rfl)
theorem dX6_fulfilsAll_73 : decode cX6_fulfilsAll 73 = .ok (.iadd, 1) := dk_96 (dk_at dksX6_fulfilsAll_3 3 rfl rfl)
theorem dX6_fulfilsAll_74 : decode cX6_fulfilsAll 74 = .ok (.iaload, 1) := dk_46 (dk_at dksX6_fulfilsAll_3 4 rfl rfl)
theorem dX6_fulfilsAll_75 : decode cX6_fulfilsAll 75 = .ok (.invokestatic 148, 3) := dk_184 0 148 (dk_at dksX6_fulfilsAll_3 5 rfl rfl)
theorem dX6_fulfilsAll_78 : decode cX6_fulfilsAll 78 = .ok (.ifCond .eq 7, 3) := dk_153 0 7 (dk_at dksX6_fulfilsAll_3 8 rfl rfl)
theorem dX6_fulfilsAll_81 : decode cX6_fulfilsAll 81 = .ok (.iconst 1, 1) := dk_4 (dk_at dksX6_fulfilsAll_3 11 rfl rfl)
theorem dX6_fulfilsAll_82 : decode cX6_fulfilsAll 82 = .ok (.goto 4, 3) := dk_167 0 4 (dk_at dksX6_fulfilsAll_3 12 rfl rfl)
theorem dX6_fulfilsAll_85 : decode cX6_fulfilsAll 85 = .ok (.iconst 0, 1) := dk_3 (dk_at dksX6_fulfilsAll_3 15 rfl rfl)
theorem dX6_fulfilsAll_86 : decode cX6_fulfilsAll 86 = .ok (.istore 4, 2) := dk_54 4 (dk_at dksX6_fulfilsAll_3 16 rfl rfl)
theorem dX6_fulfilsAll_88 : decode cX6_fulfilsAll 88 = .ok (.iinc 5 1, 3) := dk_132 5 1 (dk_at dksX6_fulfilsAll_3 18 rfl rfl)
theorem dX6_fulfilsAll_91 : decode cX6_fulfilsAll 91 = .ok (.goto (-85), 3) := dk_167 255 171 (dk_at dksX6_fulfilsAll_3 21 rfl rfl)
theorem dX6_fulfilsAll_94 : decode cX6_fulfilsAll 94 = .ok (.iconst 0, 1) := dk_3 (dk_at dksX6_fulfilsAll_4 0 rfl rfl)
theorem dX6_fulfilsAll_95 : decode cX6_fulfilsAll 95 = .ok (.istore 5, 2) := dk_54 5 (dk_at dksX6_fulfilsAll_4 1 rfl rfl)
theorem dX6_fulfilsAll_97 : decode cX6_fulfilsAll 97 = .ok (.iload 5, 2) := dk_21 5 (dk_at dksX6_fulfilsAll_4 3 rfl rfl)
theorem dX6_fulfilsAll_99 : decode cX6_fulfilsAll 99 = .ok (.aload_n 0, 1) := dk_42 (dk_at dksX6_fulfilsAll_4 5 rfl rfl)
theorem dX6_fulfilsAll_100 : decode cX6_fulfilsAll 100 = .ok (.getfield 145, 3) := dk_180 0 145 (dk_at dksX6_fulfilsAll_4 6 rfl rfl)
theorem dX6_fulfilsAll_103 : decode cX6_fulfilsAll 103 = .ok (.if_icmp .ge 63, 3) := dk_162 0 63 (dk_at dksX6_fulfilsAll_4 9 rfl rfl)
theorem dX6_fulfilsAll_106 : decode cX6_fulfilsAll 106 = .ok (.iload 4, 2) := dk_21 4 (dk_at dksX6_fulfilsAll_4 12 rfl rfl)
theorem dX6_fulfilsAll_108 : decode cX6_fulfilsAll 108 = .ok (.ifCond .eq 49, 3) := dk_153 0 49 (dk_at dksX6_fulfilsAll_4 14 rfl rfl)
theorem dX6_fulfilsAll_111 : decode cX6_fulfilsAll 111 = .ok (.aload_n 0, 1) := dk_42 (dk_at dksX6_fulfilsAll_4 17 rfl rfl)
theorem dX6_fulfilsAll_112 : decode cX6_fulfilsAll 112 = .ok (.getfield 22, 3) := dk_180 0 22 (dk_at dksX6_fulfilsAll_4 18 rfl rfl)
theorem dX6_fulfilsAll_115 : decode cX6_fulfilsAll 115 = .ok (.iconst 3, 1) := dk_6 (dk_at dksX6_fulfilsAll_4 21 rfl rfl)
theorem dX6_fulfilsAll_116 : decode cX6_fulfilsAll 116 = .ok (.iload 5, 2) := dk_21 5 (dk_at dksX6_fulfilsAll_4 22 rfl rfl)
theorem dX6_fulfilsAll_118 : decode cX6_fulfilsAll 118 = .ok (.imul, 1) := dk_104 (dk_at dksX6_fulfilsAll_5 0 rfl rfl)
theorem dX6_fulfilsAll_119 : decode cX6_fulfilsAll 119 = .ok (.iaload, 1) := dk_46 (dk_at dksX6_fulfilsAll_5 1 rfl rfl)
theorem dX6_fulfilsAll_120 : decode cX6_fulfilsAll 120 = .ok (.iload_n 2, 1) := dk_28 (dk_at dksX6_fulfilsAll_5 2 rfl rfl)
theorem dX6_fulfilsAll_121 : decode cX6_fulfilsAll 121 = .ok (.if_icmp .ne 32, 3) := dk_160 0 32 (dk_at dksX6_fulfilsAll_5 3 rfl rfl)
theorem dX6_fulfilsAll_124 : decode cX6_fulfilsAll 124 = .ok (.iload_n 3, 1) := dk_29 (dk_at dksX6_fulfilsAll_5 6 rfl rfl)
theorem dX6_fulfilsAll_125 : decode cX6_fulfilsAll 125 = .ok (.aload_n 0, 1) := dk_42 (dk_at dksX6_fulfilsAll_5 7 rfl rfl)
theorem dX6_fulfilsAll_126 : decode cX6_fulfilsAll 126 = .ok (.getfield 22, 3) := dk_180 0 22 (dk_at dksX6_fulfilsAll_5 8 rfl rfl)
theorem dX6_fulfilsAll_129 : decode cX6_fulfilsAll 129 = .ok (.iconst 3, 1) := dk_6 (dk_at dksX6_fulfilsAll_5 11 rfl rfl)
theorem dX6_fulfilsAll_130 : decode cX6_fulfilsAll 130 = .ok (.iload 5, 2) := dk_21 5 (dk_at dksX6_fulfilsAll_5 12 rfl rfl)
theorem dX6_fulfilsAll_132 : decode cX6_fulfilsAll 132 = .ok (.imul, 1) := dk_104 (dk_at dksX6_fulfilsAll_5 14 rfl rfl)
theorem dX6_fulfilsAll_133 : decode cX6_fulfilsAll 133 = .ok (.iconst 1, 1) := dk_4 (dk_at dksX6_fulfilsAll_5 15 rfl rfl)
theorem dX6_fulfilsAll_134 : decode cX6_fulfilsAll 134 = .ok (.iadd, 1) := dk_96 (dk_at dksX6_fulfilsAll_5 16 rfl rfl)
theorem dX6_fulfilsAll_135 : decode cX6_fulfilsAll 135 = .ok (.iaload, 1) := dk_46 (dk_at dksX6_fulfilsAll_5 17 rfl rfl)
theorem dX6_fulfilsAll_136 : decode cX6_fulfilsAll 136 = .ok (.aload_n 0, 1) := dk_42 (dk_at dksX6_fulfilsAll_5 18 rfl rfl)
theorem dX6_fulfilsAll_137 : decode cX6_fulfilsAll 137 = .ok (.getfield 22, 3) := dk_180 0 22 (dk_at dksX6_fulfilsAll_5 19 rfl rfl)
theorem dX6_fulfilsAll_140 : decode cX6_fulfilsAll 140 = .ok (.iconst 3, 1) := dk_6 (dk_at dksX6_fulfilsAll_5 22 rfl rfl)
theorem dX6_fulfilsAll_141 : decode cX6_fulfilsAll 141 = .ok (.iload 5, 2) := dk_21 5 (dk_at dksX6_fulfilsAll_6 0 rfl rfl)
theorem dX6_fulfilsAll_143 : decode cX6_fulfilsAll 143 = .ok (.imul, 1) := dk_104 (dk_at dksX6_fulfilsAll_6 2 rfl rfl)
theorem dX6_fulfilsAll_144 : decode cX6_fulfilsAll 144 = .ok (.iconst 2, 1) := dk_5 (dk_at dksX6_fulfilsAll_6 3 rfl rfl)
theorem dX6_fulfilsAll_145 : decode cX6_fulfilsAll 145 = .ok (.iadd, 1) := dk_96 (dk_at dksX6_fulfilsAll_6 4 rfl rfl)
theorem dX6_fulfilsAll_146 : decode cX6_fulfilsAll 146 = .ok (.iaload, 1) := dk_46 (dk_at dksX6_fulfilsAll_6 5 rfl rfl)
theorem dX6_fulfilsAll_147 : decode cX6_fulfilsAll 147 = .ok (.invokestatic 148, 3) := dk_184 0 148 (dk_at dksX6_fulfilsAll_6 6 rfl rfl)
theorem dX6_fulfilsAll_150 : decode cX6_fulfilsAll 150 = .ok (.ifCond .eq 7, 3) := dk_153 0 7 (dk_at dksX6_fulfilsAll_6 9 rfl rfl)
theorem dX6_fulfilsAll_153 : decode cX6_fulfilsAll 153 = .ok (.iconst 1, 1) := dk_4 (dk_at dksX6_fulfilsAll_6 12 rfl rfl)
theorem dX6_fulfilsAll_154 : decode cX6_fulfilsAll 154 = .ok (.goto 4, 3) := dk_167 0 4 (dk_at dksX6_fulfilsAll_6 13 rfl rfl)
theorem dX6_fulfilsAll_157 : decode cX6_fulfilsAll 157 = .ok (.iconst 0, 1) := dk_3 (dk_at dksX6_fulfilsAll_6 16 rfl rfl)
theorem dX6_fulfilsAll_158 : decode cX6_fulfilsAll 158 = .ok (.istore 4, 2) := dk_54 4 (dk_at dksX6_fulfilsAll_6 17 rfl rfl)
theorem dX6_fulfilsAll_160 : decode cX6_fulfilsAll 160 = .ok (.iinc 5 1, 3) := dk_132 5 1 (dk_at dksX6_fulfilsAll_6 19 rfl rfl)
theorem dX6_fulfilsAll_163 : decode cX6_fulfilsAll 163 = .ok (.goto (-66), 3) := dk_167 255 190 (dk_at dksX6_fulfilsAll_7 0 rfl rfl)
theorem dX6_fulfilsAll_166 : decode cX6_fulfilsAll 166 = .ok (.iload 4, 2) := dk_21 4 (dk_at dksX6_fulfilsAll_7 3 rfl rfl)
theorem dX6_fulfilsAll_168 : decode cX6_fulfilsAll 168 = .ok (.ireturn, 1) := dk_172 (dk_at dksX6_fulfilsAll_7 5 rfl rfl)
abbrev cX6_fulfils : ByteArray := prog_27_method_27_code
def yX6_fulfils : MethodName := ⟨RX6, "fulfils", "(III)Z"⟩
def dkwX6_fulfils_3 : List UInt8 := [164, 0, 7, 4, 167, 0, 4, 3, 172, 26, 28, 159, 0, 7, 4, 167, 0, 4, 3, 172]
abbrev dktX6_fulfils_3 : List UInt8 := dkwX6_fulfils_3 ++ []
def dkwX6_fulfils_2 : List UInt8 := [26, 28, 160, 0, 7, 4, 167, 0, 4, 3, 172, 26, 28, 162, 0, 7, 4, 167, 0, 4, 3, 172, 26, 28]
abbrev dktX6_fulfils_2 : List UInt8 := dkwX6_fulfils_2 ++ dktX6_fulfils_3
def dkwX6_fulfils_1 : List UInt8 := [170, 0, 0, 0, 0, 0, 60, 0, 0, 0, 0, 0, 0, 0, 2, 0, 0, 0, 27, 0, 0, 0, 38, 0, 0, 0, 49]
abbrev dktX6_fulfils_1 : List UInt8 := dkwX6_fulfils_1 ++ dktX6_fulfils_2
def dkwX6_fulfils_0 : List UInt8 := [27]
abbrev dktX6_fulfils_0 : List UInt8 := dkwX6_fulfils_0 ++ dktX6_fulfils_1
theorem dksX6_fulfils_0 : cX6_fulfils.data.toList.drop 0 = dktX6_fulfils_0 := by decide +kernel
theorem dksX6_fulfils_1 : cX6_fulfils.data.toList.drop 1 = dktX6_fulfils_1 := dk_seg dksX6_fulfils_0 1 rfl rfl
theorem dksX6_fulfils_2 : cX6_fulfils.data.toList.drop 28 = dktX6_fulfils_2 := dk_seg dksX6_fulfils_1 27 rfl rfl
theorem dksX6_fulfils_3 : cX6_fulfils.data.toList.drop 52 = dktX6_fulfils_3 := dk_seg dksX6_fulfils_2 24 rfl rfl
theorem dX6_fulfils_0 : decode cX6_fulfils 0 = .ok (.iload_n 1, 1) := dk_27 (dk_at dksX6_fulfils_0 0 rfl rfl)
theorem dX6_fulfils_1 : decode cX6_fulfils 1 = .ok (.tableswitch 60 0 2 #[27, 38, 49], 27) := by decide +kernel
theorem dX6_fulfils_28 : decode cX6_fulfils 28 = .ok (.iload_n 0, 1) := dk_26 (dk_at dksX6_fulfils_2 0 rfl rfl)
theorem dX6_fulfils_29 : decode cX6_fulfils 29 = .ok (.iload_n 2, 1) := dk_28 (dk_at dksX6_fulfils_2 1 rfl rfl)
theorem dX6_fulfils_30 : decode cX6_fulfils 30 = .ok (.if_icmp .ne 7, 3) := dk_160 0 7 (dk_at dksX6_fulfils_2 2 rfl rfl)
theorem dX6_fulfils_33 : decode cX6_fulfils 33 = .ok (.iconst 1, 1) := dk_4 (dk_at dksX6_fulfils_2 5 rfl rfl)
theorem dX6_fulfils_34 : decode cX6_fulfils 34 = .ok (.goto 4, 3) := dk_167 0 4 (dk_at dksX6_fulfils_2 6 rfl rfl)
theorem dX6_fulfils_37 : decode cX6_fulfils 37 = .ok (.iconst 0, 1) := dk_3 (dk_at dksX6_fulfils_2 9 rfl rfl)
theorem dX6_fulfils_38 : decode cX6_fulfils 38 = .ok (.ireturn, 1) := dk_172 (dk_at dksX6_fulfils_2 10 rfl rfl)
theorem dX6_fulfils_39 : decode cX6_fulfils 39 = .ok (.iload_n 0, 1) := dk_26 (dk_at dksX6_fulfils_2 11 rfl rfl)
theorem dX6_fulfils_40 : decode cX6_fulfils 40 = .ok (.iload_n 2, 1) := dk_28 (dk_at dksX6_fulfils_2 12 rfl rfl)
theorem dX6_fulfils_41 : decode cX6_fulfils 41 = .ok (.if_icmp .ge 7, 3) := dk_162 0 7 (dk_at dksX6_fulfils_2 13 rfl rfl)
theorem dX6_fulfils_44 : decode cX6_fulfils 44 = .ok (.iconst 1, 1) := dk_4 (dk_at dksX6_fulfils_2 16 rfl rfl)
theorem dX6_fulfils_45 : decode cX6_fulfils 45 = .ok (.goto 4, 3) := dk_167 0 4 (dk_at dksX6_fulfils_2 17 rfl rfl)
theorem dX6_fulfils_48 : decode cX6_fulfils 48 = .ok (.iconst 0, 1) := dk_3 (dk_at dksX6_fulfils_2 20 rfl rfl)
theorem dX6_fulfils_49 : decode cX6_fulfils 49 = .ok (.ireturn, 1) := dk_172 (dk_at dksX6_fulfils_2 21 rfl rfl)
theorem dX6_fulfils_50 : decode cX6_fulfils 50 = .ok (.iload_n 0, 1) := dk_26 (dk_at dksX6_fulfils_2 22 rfl rfl)
theorem dX6_fulfils_51 : decode cX6_fulfils 51 = .ok (.iload_n 2, 1) := dk_28 (dk_at dksX6_fulfils_2 23 rfl rfl)
theorem dX6_fulfils_52 : decode cX6_fulfils 52 = .ok (.if_icmp .le 7, 3) := dk_164 0 7 (dk_at dksX6_fulfils_3 0 rfl rfl)
theorem dX6_fulfils_55 : decode cX6_fulfils 55 = .ok (.iconst 1, 1) := dk_4 (dk_at dksX6_fulfils_3 3 rfl rfl)
theorem dX6_fulfils_56 : decode cX6_fulfils 56 = .ok (.goto 4, 3) := dk_167 0 4 (dk_at dksX6_fulfils_3 4 rfl rfl)
theorem dX6_fulfils_59 : decode cX6_fulfils 59 = .ok (.iconst 0, 1) := dk_3 (dk_at dksX6_fulfils_3 7 rfl rfl)
theorem dX6_fulfils_60 : decode cX6_fulfils 60 = .ok (.ireturn, 1) := dk_172 (dk_at dksX6_fulfils_3 8 rfl rfl)
theorem dX6_fulfils_61 : decode cX6_fulfils 61 = .ok (.iload_n 0, 1) := dk_26 (dk_at dksX6_fulfils_3 9 rfl rfl)
theorem dX6_fulfils_62 : decode cX6_fulfils 62 = .ok (.iload_n 2, 1) := dk_28 (dk_at dksX6_fulfils_3 10 rfl rfl)
theorem dX6_fulfils_63 : decode cX6_fulfils 63 = .ok (.if_icmp .eq 7, 3) := dk_159 0 7 (dk_at dksX6_fulfils_3 11 rfl rfl)
theorem dX6_fulfils_66 : decode cX6_fulfils 66 = .ok (.iconst 1, 1) := dk_4 (dk_at dksX6_fulfils_3 14 rfl rfl)
theorem dX6_fulfils_67 : decode cX6_fulfils 67 = .ok (.goto 4, 3) := dk_167 0 4 (dk_at dksX6_fulfils_3 15 rfl rfl)
theorem dX6_fulfils_70 : decode cX6_fulfils 70 = .ok (.iconst 0, 1) := dk_3 (dk_at dksX6_fulfils_3 18 rfl rfl)
theorem dX6_fulfils_71 : decode cX6_fulfils 71 = .ok (.ireturn, 1) := dk_172 (dk_at dksX6_fulfils_3 19 rfl rfl)
abbrev cX6_putTests : ByteArray := prog_27_method_32_code
def yX6_putTests : MethodName := ⟨RX6, "putTests", "(I)V"⟩
def dkwX6_putTests_2 : List UInt8 := [180, 0, 9, 27, 184, 0, 112, 16, 7, 96, 92, 46, 4, 96, 79, 132, 2, 1, 167, 255, 195, 177]
abbrev dktX6_putTests_2 : List UInt8 := dkwX6_putTests_2 ++ []
def dkwX6_putTests_1 : List UInt8 := [182, 0, 104, 104, 96, 62, 42, 180, 0, 22, 6, 28, 104, 42, 180, 0, 9, 29, 6, 184, 0, 65, 42]
abbrev dktX6_putTests_1 : List UInt8 := dkwX6_putTests_1 ++ dktX6_putTests_2
def dkwX6_putTests_0 : List UInt8 := [3, 61, 28, 42, 180, 0, 145, 162, 0, 59, 27, 184, 0, 112, 16, 8, 96, 6, 42, 27, 16, 7]
abbrev dktX6_putTests_0 : List UInt8 := dkwX6_putTests_0 ++ dktX6_putTests_1
theorem dksX6_putTests_0 : cX6_putTests.data.toList.drop 0 = dktX6_putTests_0 := by decide +kernel
theorem dksX6_putTests_1 : cX6_putTests.data.toList.drop 22 = dktX6_putTests_1 := dk_seg dksX6_putTests_0 22 rfl rfl
theorem dksX6_putTests_2 : cX6_putTests.data.toList.drop 45 = dktX6_putTests_2 := dk_seg dksX6_putTests_1 23 rfl rfl
theorem dX6_putTests_0 : decode cX6_putTests 0 = .ok (.iconst 0, 1) := dk_3 (dk_at dksX6_putTests_0 0 rfl rfl)
theorem dX6_putTests_1 : decode cX6_putTests 1 = .ok (.istore_n 2, 1) := dk_61 (dk_at dksX6_putTests_0 1 rfl rfl)
theorem dX6_putTests_2 : decode cX6_putTests 2 = .ok (.iload_n 2, 1) := dk_28 (dk_at dksX6_putTests_0 2 rfl rfl)
theorem dX6_putTests_3 : decode cX6_putTests 3 = .ok (.aload_n 0, 1) := dk_42 (dk_at dksX6_putTests_0 3 rfl rfl)
theorem dX6_putTests_4 : decode cX6_putTests 4 = .ok (.getfield 145, 3) := dk_180 0 145 (dk_at dksX6_putTests_0 4 rfl rfl)
theorem dX6_putTests_7 : decode cX6_putTests 7 = .ok (.if_icmp .ge 59, 3) := dk_162 0 59 (dk_at dksX6_putTests_0 7 rfl rfl)
theorem dX6_putTests_10 : decode cX6_putTests 10 = .ok (.iload_n 1, 1) := dk_27 (dk_at dksX6_putTests_0 10 rfl rfl)
theorem dX6_putTests_11 : decode cX6_putTests 11 = .ok (.invokestatic 112, 3) := dk_184 0 112 (dk_at dksX6_putTests_0 11 rfl rfl)
theorem dX6_putTests_14 : decode cX6_putTests 14 = .ok (.bipush 8, 2) := dk_16 8 (dk_at dksX6_putTests_0 14 rfl rfl)
theorem dX6_putTests_16 : decode cX6_putTests 16 = .ok (.iadd, 1) := dk_96 (dk_at dksX6_putTests_0 16 rfl rfl)
theorem dX6_putTests_17 : decode cX6_putTests 17 = .ok (.iconst 3, 1) := dk_6 (dk_at dksX6_putTests_0 17 rfl rfl)
theorem dX6_putTests_18 : decode cX6_putTests 18 = .ok (.aload_n 0, 1) := dk_42 (dk_at dksX6_putTests_0 18 rfl rfl)
theorem dX6_putTests_19 : decode cX6_putTests 19 = .ok (.iload_n 1, 1) := dk_27 (dk_at dksX6_putTests_0 19 rfl rfl)
theorem dX6_putTests_20 : decode cX6_putTests 20 = .ok (.bipush 7, 2) := dk_16 7 (dk_at dksX6_putTests_0 20 rfl rfl)
theorem dX6_putTests_22 : decode cX6_putTests 22 = .ok (.invokevirtual 104, 3) := dk_182 0 104 (dk_at dksX6_putTests_1 0 rfl rfl)
theorem dX6_putTests_25 : decode cX6_putTests 25 = .ok (.imul, 1) := dk_104 (dk_at dksX6_putTests_1 3 rfl rfl)
theorem dX6_putTests_26 : decode cX6_putTests 26 = .ok (.iadd, 1) := dk_96 (dk_at dksX6_putTests_1 4 rfl rfl)
theorem dX6_putTests_27 : decode cX6_putTests 27 = .ok (.istore_n 3, 1) := dk_62 (dk_at dksX6_putTests_1 5 rfl rfl)
theorem dX6_putTests_28 : decode cX6_putTests 28 = .ok (.aload_n 0, 1) := dk_42 (dk_at dksX6_putTests_1 6 rfl rfl)
theorem dX6_putTests_29 : decode cX6_putTests 29 = .ok (.getfield 22, 3) := dk_180 0 22 (dk_at dksX6_putTests_1 7 rfl rfl)
theorem dX6_putTests_32 : decode cX6_putTests 32 = .ok (.iconst 3, 1) := dk_6 (dk_at dksX6_putTests_1 10 rfl rfl)
theorem dX6_putTests_33 : decode cX6_putTests 33 = .ok (.iload_n 2, 1) := dk_28 (dk_at dksX6_putTests_1 11 rfl rfl)
theorem dX6_putTests_34 : decode cX6_putTests 34 = .ok (.imul, 1) := dk_104 (dk_at dksX6_putTests_1 12 rfl rfl)
theorem dX6_putTests_35 : decode cX6_putTests 35 = .ok (.aload_n 0, 1) := dk_42 (dk_at dksX6_putTests_1 13 rfl rfl)
theorem dX6_putTests_36 : decode cX6_putTests 36 = .ok (.getfield 9, 3) := dk_180 0 9 (dk_at dksX6_putTests_1 14 rfl rfl)
theorem dX6_putTests_39 : decode cX6_putTests 39 = .ok (.iload_n 3, 1) := dk_29 (dk_at dksX6_putTests_1 17 rfl rfl)
theorem dX6_putTests_40 : decode cX6_putTests 40 = .ok (.iconst 3, 1) := dk_6 (dk_at dksX6_putTests_1 18 rfl rfl)
theorem dX6_putTests_41 : decode cX6_putTests 41 = .ok (.invokestatic 65, 3) := dk_184 0 65 (dk_at dksX6_putTests_1 19 rfl rfl)
theorem dX6_putTests_44 : decode cX6_putTests 44 = .ok (.aload_n 0, 1) := dk_42 (dk_at dksX6_putTests_1 22 rfl rfl)
theorem dX6_putTests_45 : decode cX6_putTests 45 = .ok (.getfield 9, 3) := dk_180 0 9 (dk_at dksX6_putTests_2 0 rfl rfl)
theorem dX6_putTests_48 : decode cX6_putTests 48 = .ok (.iload_n 1, 1) := dk_27 (dk_at dksX6_putTests_2 3 rfl rfl)
theorem dX6_putTests_49 : decode cX6_putTests 49 = .ok (.invokestatic 112, 3) := dk_184 0 112 (dk_at dksX6_putTests_2 4 rfl rfl)
theorem dX6_putTests_52 : decode cX6_putTests 52 = .ok (.bipush 7, 2) := dk_16 7 (dk_at dksX6_putTests_2 7 rfl rfl)
theorem dX6_putTests_54 : decode cX6_putTests 54 = .ok (.iadd, 1) := dk_96 (dk_at dksX6_putTests_2 9 rfl rfl)
theorem dX6_putTests_55 : decode cX6_putTests 55 = .ok (.dup2, 1) := dk_92 (dk_at dksX6_putTests_2 10 rfl rfl)
theorem dX6_putTests_56 : decode cX6_putTests 56 = .ok (.iaload, 1) := dk_46 (dk_at dksX6_putTests_2 11 rfl rfl)
theorem dX6_putTests_57 : decode cX6_putTests 57 = .ok (.iconst 1, 1) := dk_4 (dk_at dksX6_putTests_2 12 rfl rfl)
theorem dX6_putTests_58 : decode cX6_putTests 58 = .ok (.iadd, 1) := dk_96 (dk_at dksX6_putTests_2 13 rfl rfl)
theorem dX6_putTests_59 : decode cX6_putTests 59 = .ok (.iastore, 1) := dk_79 (dk_at dksX6_putTests_2 14 rfl rfl)
theorem dX6_putTests_60 : decode cX6_putTests 60 = .ok (.iinc 2 1, 3) := dk_132 2 1 (dk_at dksX6_putTests_2 15 rfl rfl)
theorem dX6_putTests_63 : decode cX6_putTests 63 = .ok (.goto (-61), 3) := dk_167 255 195 (dk_at dksX6_putTests_2 18 rfl rfl)
theorem dX6_putTests_66 : decode cX6_putTests 66 = .ok (.return_, 1) := dk_177 (dk_at dksX6_putTests_2 21 rfl rfl)
abbrev cX6_setFactor : ByteArray := prog_27_method_35_code
def yX6_setFactor : MethodName := ⟨RX6, "setFactor", "(II)I"⟩
def dkwX6_setFactor_3 : List UInt8 := [29, 172]
abbrev dktX6_setFactor_3 : List UInt8 := dkwX6_setFactor_3 ++ []
def dkwX6_setFactor_2 : List UInt8 := [182, 0, 95, 42, 27, 16, 6, 182, 0, 104, 62, 42, 180, 0, 9, 27, 184, 0, 112, 16, 6, 96, 28, 79]
abbrev dktX6_setFactor_2 : List UInt8 := dkwX6_setFactor_2 ++ dktX6_setFactor_3
def dkwX6_setFactor_1 : List UInt8 := [5, 167, 0, 4, 3, 181, 0, 62, 42, 180, 0, 62, 158, 0, 5, 3, 172, 42, 182, 0, 92, 42]
abbrev dktX6_setFactor_1 : List UInt8 := dkwX6_setFactor_1 ++ dktX6_setFactor_2
def dkwX6_setFactor_0 : List UInt8 := [42, 42, 27, 182, 0, 142, 154, 0, 7, 4, 167, 0, 19, 28, 3, 17, 3, 232, 184, 0, 80, 154, 0, 7]
abbrev dktX6_setFactor_0 : List UInt8 := dkwX6_setFactor_0 ++ dktX6_setFactor_1
theorem dksX6_setFactor_0 : cX6_setFactor.data.toList.drop 0 = dktX6_setFactor_0 := by decide +kernel
theorem dksX6_setFactor_1 : cX6_setFactor.data.toList.drop 24 = dktX6_setFactor_1 := dk_seg dksX6_setFactor_0 24 rfl rfl
theorem dksX6_setFactor_2 : cX6_setFactor.data.toList.drop 46 = dktX6_setFactor_2 := dk_seg dksX6_setFactor_1 22 rfl rfl
theorem dksX6_setFactor_3 : cX6_setFactor.data.toList.drop 70 = dktX6_setFactor_3 := dk_seg dksX6_setFactor_2 24 rfl rfl
theorem dX6_setFactor_0 : decode cX6_setFactor 0 = .ok (.aload_n 0, 1) := dk_42 (dk_at dksX6_setFactor_0 0 rfl rfl)
theorem dX6_setFactor_1 : decode cX6_setFactor 1 = .ok (.aload_n 0, 1) := dk_42 (dk_at dksX6_setFactor_0 1 rfl rfl)
theorem dX6_setFactor_2 : decode cX6_setFactor 2 = .ok (.iload_n 1, 1) := dk_27 (dk_at dksX6_setFactor_0 2 rfl rfl)
theorem dX6_setFactor_3 : decode cX6_setFactor 3 = .ok (.invokevirtual 142, 3) := dk_182 0 142 (dk_at dksX6_setFactor_0 3 rfl rfl)
theorem dX6_setFactor_6 : decode cX6_setFactor 6 = .ok (.ifCond .ne 7, 3) := dk_154 0 7 (dk_at dksX6_setFactor_0 6 rfl rfl)
theorem dX6_setFactor_9 : decode cX6_setFactor 9 = .ok (.iconst 1, 1) := dk_4 (dk_at dksX6_setFactor_0 9 rfl rfl)
theorem dX6_setFactor_10 : decode cX6_setFactor 10 = .ok (.goto 19, 3) := dk_167 0 19 (dk_at dksX6_setFactor_0 10 rfl rfl)
theorem dX6_setFactor_13 : decode cX6_setFactor 13 = .ok (.iload_n 2, 1) := dk_28 (dk_at dksX6_setFactor_0 13 rfl rfl)
theorem dX6_setFactor_14 : decode cX6_setFactor 14 = .ok (.iconst 0, 1) := dk_3 (dk_at dksX6_setFactor_0 14 rfl rfl)
theorem dX6_setFactor_15 : decode cX6_setFactor 15 = .ok (.sipush 1000, 3) := dk_17 3 232 (dk_at dksX6_setFactor_0 15 rfl rfl)
theorem dX6_setFactor_18 : decode cX6_setFactor 18 = .ok (.invokestatic 80, 3) := dk_184 0 80 (dk_at dksX6_setFactor_0 18 rfl rfl)
theorem dX6_setFactor_21 : decode cX6_setFactor 21 = .ok (.ifCond .ne 7, 3) := dk_154 0 7 (dk_at dksX6_setFactor_0 21 rfl rfl)
theorem dX6_setFactor_24 : decode cX6_setFactor 24 = .ok (.iconst 2, 1) := dk_5 (dk_at dksX6_setFactor_1 0 rfl rfl)
theorem dX6_setFactor_25 : decode cX6_setFactor 25 = .ok (.goto 4, 3) := dk_167 0 4 (dk_at dksX6_setFactor_1 1 rfl rfl)
theorem dX6_setFactor_28 : decode cX6_setFactor 28 = .ok (.iconst 0, 1) := dk_3 (dk_at dksX6_setFactor_1 4 rfl rfl)
theorem dX6_setFactor_29 : decode cX6_setFactor 29 = .ok (.putfield 62, 3) := dk_181 0 62 (dk_at dksX6_setFactor_1 5 rfl rfl)
theorem dX6_setFactor_32 : decode cX6_setFactor 32 = .ok (.aload_n 0, 1) := dk_42 (dk_at dksX6_setFactor_1 8 rfl rfl)
theorem dX6_setFactor_33 : decode cX6_setFactor 33 = .ok (.getfield 62, 3) := dk_180 0 62 (dk_at dksX6_setFactor_1 9 rfl rfl)
theorem dX6_setFactor_36 : decode cX6_setFactor 36 = .ok (.ifCond .le 5, 3) := dk_158 0 5 (dk_at dksX6_setFactor_1 12 rfl rfl)
theorem dX6_setFactor_39 : decode cX6_setFactor 39 = .ok (.iconst 0, 1) := dk_3 (dk_at dksX6_setFactor_1 15 rfl rfl)
theorem dX6_setFactor_40 : decode cX6_setFactor 40 = .ok (.ireturn, 1) := dk_172 (dk_at dksX6_setFactor_1 16 rfl rfl)
theorem dX6_setFactor_41 : decode cX6_setFactor 41 = .ok (.aload_n 0, 1) := dk_42 (dk_at dksX6_setFactor_1 17 rfl rfl)
theorem dX6_setFactor_42 : decode cX6_setFactor 42 = .ok (.invokevirtual 92, 3) := dk_182 0 92 (dk_at dksX6_setFactor_1 18 rfl rfl)
theorem dX6_setFactor_45 : decode cX6_setFactor 45 = .ok (.aload_n 0, 1) := dk_42 (dk_at dksX6_setFactor_1 21 rfl rfl)
theorem dX6_setFactor_46 : decode cX6_setFactor 46 = .ok (.invokevirtual 95, 3) := dk_182 0 95 (dk_at dksX6_setFactor_2 0 rfl rfl)
theorem dX6_setFactor_49 : decode cX6_setFactor 49 = .ok (.aload_n 0, 1) := dk_42 (dk_at dksX6_setFactor_2 3 rfl rfl)
theorem dX6_setFactor_50 : decode cX6_setFactor 50 = .ok (.iload_n 1, 1) := dk_27 (dk_at dksX6_setFactor_2 4 rfl rfl)
theorem dX6_setFactor_51 : decode cX6_setFactor 51 = .ok (.bipush 6, 2) := dk_16 6 (dk_at dksX6_setFactor_2 5 rfl rfl)
theorem dX6_setFactor_53 : decode cX6_setFactor 53 = .ok (.invokevirtual 104, 3) := dk_182 0 104 (dk_at dksX6_setFactor_2 7 rfl rfl)
theorem dX6_setFactor_56 : decode cX6_setFactor 56 = .ok (.istore_n 3, 1) := dk_62 (dk_at dksX6_setFactor_2 10 rfl rfl)
theorem dX6_setFactor_57 : decode cX6_setFactor 57 = .ok (.aload_n 0, 1) := dk_42 (dk_at dksX6_setFactor_2 11 rfl rfl)
theorem dX6_setFactor_58 : decode cX6_setFactor 58 = .ok (.getfield 9, 3) := dk_180 0 9 (dk_at dksX6_setFactor_2 12 rfl rfl)
theorem dX6_setFactor_61 : decode cX6_setFactor 61 = .ok (.iload_n 1, 1) := dk_27 (dk_at dksX6_setFactor_2 15 rfl rfl)
theorem dX6_setFactor_62 : decode cX6_setFactor 62 = .ok (.invokestatic 112, 3) := dk_184 0 112 (dk_at dksX6_setFactor_2 16 rfl rfl)
theorem dX6_setFactor_65 : decode cX6_setFactor 65 = .ok (.bipush 6, 2) := dk_16 6 (dk_at dksX6_setFactor_2 19 rfl rfl)
theorem dX6_setFactor_67 : decode cX6_setFactor 67 = .ok (.iadd, 1) := dk_96 (dk_at dksX6_setFactor_2 21 rfl rfl)
theorem dX6_setFactor_68 : decode cX6_setFactor 68 = .ok (.iload_n 2, 1) := dk_28 (dk_at dksX6_setFactor_2 22 rfl rfl)
theorem dX6_setFactor_69 : decode cX6_setFactor 69 = .ok (.iastore, 1) := dk_79 (dk_at dksX6_setFactor_2 23 rfl rfl)
theorem dX6_setFactor_70 : decode cX6_setFactor 70 = .ok (.iload_n 3, 1) := dk_29 (dk_at dksX6_setFactor_3 0 rfl rfl)
theorem dX6_setFactor_71 : decode cX6_setFactor 71 = .ok (.ireturn, 1) := dk_172 (dk_at dksX6_setFactor_3 1 rfl rfl)
abbrev cX6_end : ByteArray := prog_27_method_36_code
def yX6_end : MethodName := ⟨RX6, "end", "(II)I"⟩
def dkwX6_end_4 : List UInt8 := [27, 184, 0, 112, 7, 96, 28, 79, 29, 172]
abbrev dktX6_end_4 : List UInt8 := dkwX6_end_4 ++ []
def dkwX6_end_3 : List UInt8 := [162, 0, 12, 42, 6, 16, 8, 29, 182, 0, 125, 172, 42, 182, 0, 92, 42, 182, 0, 95, 42, 180, 0, 9]
abbrev dktX6_end_3 : List UInt8 := dkwX6_end_3 ++ dktX6_end_4
def dkwX6_end_2 : List UInt8 := [182, 0, 104, 28, 164, 0, 16, 42, 6, 6, 42, 27, 6, 182, 0, 104, 182, 0, 125, 172, 29, 28]
abbrev dktX6_end_2 : List UInt8 := dkwX6_end_2 ++ dktX6_end_3
def dkwX6_end_1 : List UInt8 := [3, 181, 0, 62, 42, 180, 0, 62, 158, 0, 5, 3, 172, 42, 27, 7, 182, 0, 104, 62, 42, 27, 6]
abbrev dktX6_end_1 : List UInt8 := dkwX6_end_1 ++ dktX6_end_2
def dkwX6_end_0 : List UInt8 := [42, 42, 27, 182, 0, 142, 154, 0, 7, 4, 167, 0, 15, 28, 184, 0, 136, 154, 0, 7, 5, 167, 0, 4]
abbrev dktX6_end_0 : List UInt8 := dkwX6_end_0 ++ dktX6_end_1
theorem dksX6_end_0 : cX6_end.data.toList.drop 0 = dktX6_end_0 := by decide +kernel
theorem dksX6_end_1 : cX6_end.data.toList.drop 24 = dktX6_end_1 := dk_seg dksX6_end_0 24 rfl rfl
theorem dksX6_end_2 : cX6_end.data.toList.drop 47 = dktX6_end_2 := dk_seg dksX6_end_1 23 rfl rfl
theorem dksX6_end_3 : cX6_end.data.toList.drop 69 = dktX6_end_3 := dk_seg dksX6_end_2 22 rfl rfl
theorem dksX6_end_4 : cX6_end.data.toList.drop 93 = dktX6_end_4 := dk_seg dksX6_end_3 24 rfl rfl
theorem dX6_end_0 : decode cX6_end 0 = .ok (.aload_n 0, 1) := dk_42 (dk_at dksX6_end_0 0 rfl rfl)
theorem dX6_end_1 : decode cX6_end 1 = .ok (.aload_n 0, 1) := dk_42 (dk_at dksX6_end_0 1 rfl rfl)
theorem dX6_end_2 : decode cX6_end 2 = .ok (.iload_n 1, 1) := dk_27 (dk_at dksX6_end_0 2 rfl rfl)
theorem dX6_end_3 : decode cX6_end 3 = .ok (.invokevirtual 142, 3) := dk_182 0 142 (dk_at dksX6_end_0 3 rfl rfl)
theorem dX6_end_6 : decode cX6_end 6 = .ok (.ifCond .ne 7, 3) := dk_154 0 7 (dk_at dksX6_end_0 6 rfl rfl)
theorem dX6_end_9 : decode cX6_end 9 = .ok (.iconst 1, 1) := dk_4 (dk_at dksX6_end_0 9 rfl rfl)
theorem dX6_end_10 : decode cX6_end 10 = .ok (.goto 15, 3) := dk_167 0 15 (dk_at dksX6_end_0 10 rfl rfl)
theorem dX6_end_13 : decode cX6_end 13 = .ok (.iload_n 2, 1) := dk_28 (dk_at dksX6_end_0 13 rfl rfl)
theorem dX6_end_14 : decode cX6_end 14 = .ok (.invokestatic 136, 3) := dk_184 0 136 (dk_at dksX6_end_0 14 rfl rfl)
theorem dX6_end_17 : decode cX6_end 17 = .ok (.ifCond .ne 7, 3) := dk_154 0 7 (dk_at dksX6_end_0 17 rfl rfl)
theorem dX6_end_20 : decode cX6_end 20 = .ok (.iconst 2, 1) := dk_5 (dk_at dksX6_end_0 20 rfl rfl)
theorem dX6_end_21 : decode cX6_end 21 = .ok (.goto 4, 3) := dk_167 0 4 (dk_at dksX6_end_0 21 rfl rfl)
theorem dX6_end_24 : decode cX6_end 24 = .ok (.iconst 0, 1) := dk_3 (dk_at dksX6_end_1 0 rfl rfl)
theorem dX6_end_25 : decode cX6_end 25 = .ok (.putfield 62, 3) := dk_181 0 62 (dk_at dksX6_end_1 1 rfl rfl)
theorem dX6_end_28 : decode cX6_end 28 = .ok (.aload_n 0, 1) := dk_42 (dk_at dksX6_end_1 4 rfl rfl)
theorem dX6_end_29 : decode cX6_end 29 = .ok (.getfield 62, 3) := dk_180 0 62 (dk_at dksX6_end_1 5 rfl rfl)
theorem dX6_end_32 : decode cX6_end 32 = .ok (.ifCond .le 5, 3) := dk_158 0 5 (dk_at dksX6_end_1 8 rfl rfl)
theorem dX6_end_35 : decode cX6_end 35 = .ok (.iconst 0, 1) := dk_3 (dk_at dksX6_end_1 11 rfl rfl)
theorem dX6_end_36 : decode cX6_end 36 = .ok (.ireturn, 1) := dk_172 (dk_at dksX6_end_1 12 rfl rfl)
theorem dX6_end_37 : decode cX6_end 37 = .ok (.aload_n 0, 1) := dk_42 (dk_at dksX6_end_1 13 rfl rfl)
theorem dX6_end_38 : decode cX6_end 38 = .ok (.iload_n 1, 1) := dk_27 (dk_at dksX6_end_1 14 rfl rfl)
theorem dX6_end_39 : decode cX6_end 39 = .ok (.iconst 4, 1) := dk_7 (dk_at dksX6_end_1 15 rfl rfl)
theorem dX6_end_40 : decode cX6_end 40 = .ok (.invokevirtual 104, 3) := dk_182 0 104 (dk_at dksX6_end_1 16 rfl rfl)
theorem dX6_end_43 : decode cX6_end 43 = .ok (.istore_n 3, 1) := dk_62 (dk_at dksX6_end_1 19 rfl rfl)
theorem dX6_end_44 : decode cX6_end 44 = .ok (.aload_n 0, 1) := dk_42 (dk_at dksX6_end_1 20 rfl rfl)
theorem dX6_end_45 : decode cX6_end 45 = .ok (.iload_n 1, 1) := dk_27 (dk_at dksX6_end_1 21 rfl rfl)
theorem dX6_end_46 : decode cX6_end 46 = .ok (.iconst 3, 1) := dk_6 (dk_at dksX6_end_1 22 rfl rfl)
theorem dX6_end_47 : decode cX6_end 47 = .ok (.invokevirtual 104, 3) := dk_182 0 104 (dk_at dksX6_end_2 0 rfl rfl)
theorem dX6_end_50 : decode cX6_end 50 = .ok (.iload_n 2, 1) := dk_28 (dk_at dksX6_end_2 3 rfl rfl)
theorem dX6_end_51 : decode cX6_end 51 = .ok (.if_icmp .le 16, 3) := dk_164 0 16 (dk_at dksX6_end_2 4 rfl rfl)
theorem dX6_end_54 : decode cX6_end 54 = .ok (.aload_n 0, 1) := dk_42 (dk_at dksX6_end_2 7 rfl rfl)
theorem dX6_end_55 : decode cX6_end 55 = .ok (.iconst 3, 1) := dk_6 (dk_at dksX6_end_2 8 rfl rfl)
theorem dX6_end_56 : decode cX6_end 56 = .ok (.iconst 3, 1) := dk_6 (dk_at dksX6_end_2 9 rfl rfl)
theorem dX6_end_57 : decode cX6_end 57 = .ok (.aload_n 0, 1) := dk_42 (dk_at dksX6_end_2 10 rfl rfl)
theorem dX6_end_58 : decode cX6_end 58 = .ok (.iload_n 1, 1) := dk_27 (dk_at dksX6_end_2 11 rfl rfl)
theorem dX6_end_59 : decode cX6_end 59 = .ok (.iconst 3, 1) := dk_6 (dk_at dksX6_end_2 12 rfl rfl)
theorem dX6_end_60 : decode cX6_end 60 = .ok (.invokevirtual 104, 3) := dk_182 0 104 (dk_at dksX6_end_2 13 rfl rfl)
theorem dX6_end_63 : decode cX6_end 63 = .ok (.invokevirtual 125, 3) := dk_182 0 125 (dk_at dksX6_end_2 16 rfl rfl)
theorem dX6_end_66 : decode cX6_end 66 = .ok (.ireturn, 1) := dk_172 (dk_at dksX6_end_2 19 rfl rfl)
theorem dX6_end_67 : decode cX6_end 67 = .ok (.iload_n 3, 1) := dk_29 (dk_at dksX6_end_2 20 rfl rfl)
theorem dX6_end_68 : decode cX6_end 68 = .ok (.iload_n 2, 1) := dk_28 (dk_at dksX6_end_2 21 rfl rfl)
theorem dX6_end_69 : decode cX6_end 69 = .ok (.if_icmp .ge 12, 3) := dk_162 0 12 (dk_at dksX6_end_3 0 rfl rfl)
theorem dX6_end_72 : decode cX6_end 72 = .ok (.aload_n 0, 1) := dk_42 (dk_at dksX6_end_3 3 rfl rfl)
theorem dX6_end_73 : decode cX6_end 73 = .ok (.iconst 3, 1) := dk_6 (dk_at dksX6_end_3 4 rfl rfl)
theorem dX6_end_74 : decode cX6_end 74 = .ok (.bipush 8, 2) := dk_16 8 (dk_at dksX6_end_3 5 rfl rfl)
theorem dX6_end_76 : decode cX6_end 76 = .ok (.iload_n 3, 1) := dk_29 (dk_at dksX6_end_3 7 rfl rfl)
theorem dX6_end_77 : decode cX6_end 77 = .ok (.invokevirtual 125, 3) := dk_182 0 125 (dk_at dksX6_end_3 8 rfl rfl)
theorem dX6_end_80 : decode cX6_end 80 = .ok (.ireturn, 1) := dk_172 (dk_at dksX6_end_3 11 rfl rfl)
theorem dX6_end_81 : decode cX6_end 81 = .ok (.aload_n 0, 1) := dk_42 (dk_at dksX6_end_3 12 rfl rfl)
theorem dX6_end_82 : decode cX6_end 82 = .ok (.invokevirtual 92, 3) := dk_182 0 92 (dk_at dksX6_end_3 13 rfl rfl)
theorem dX6_end_85 : decode cX6_end 85 = .ok (.aload_n 0, 1) := dk_42 (dk_at dksX6_end_3 16 rfl rfl)
theorem dX6_end_86 : decode cX6_end 86 = .ok (.invokevirtual 95, 3) := dk_182 0 95 (dk_at dksX6_end_3 17 rfl rfl)
theorem dX6_end_89 : decode cX6_end 89 = .ok (.aload_n 0, 1) := dk_42 (dk_at dksX6_end_3 20 rfl rfl)
theorem dX6_end_90 : decode cX6_end 90 = .ok (.getfield 9, 3) := dk_180 0 9 (dk_at dksX6_end_3 21 rfl rfl)
theorem dX6_end_93 : decode cX6_end 93 = .ok (.iload_n 1, 1) := dk_27 (dk_at dksX6_end_4 0 rfl rfl)
theorem dX6_end_94 : decode cX6_end 94 = .ok (.invokestatic 112, 3) := dk_184 0 112 (dk_at dksX6_end_4 1 rfl rfl)
theorem dX6_end_97 : decode cX6_end 97 = .ok (.iconst 4, 1) := dk_7 (dk_at dksX6_end_4 4 rfl rfl)
theorem dX6_end_98 : decode cX6_end 98 = .ok (.iadd, 1) := dk_96 (dk_at dksX6_end_4 5 rfl rfl)
theorem dX6_end_99 : decode cX6_end 99 = .ok (.iload_n 2, 1) := dk_28 (dk_at dksX6_end_4 6 rfl rfl)
theorem dX6_end_100 : decode cX6_end 100 = .ok (.iastore, 1) := dk_79 (dk_at dksX6_end_4 7 rfl rfl)
theorem dX6_end_101 : decode cX6_end 101 = .ok (.iload_n 3, 1) := dk_29 (dk_at dksX6_end_4 8 rfl rfl)
theorem dX6_end_102 : decode cX6_end 102 = .ok (.ireturn, 1) := dk_172 (dk_at dksX6_end_4 9 rfl rfl)
abbrev cX6_ruleOf : ByteArray := prog_27_method_37_code
def yX6_ruleOf : MethodName := ⟨RX6, "ruleOf", "(II)I"⟩
def dkwX6_ruleOf_6 : List UInt8 := [182, 0, 104, 172]
abbrev dktX6_ruleOf_6 : List UInt8 := dkwX6_ruleOf_6 ++ []
def dkwX6_ruleOf_5 : List UInt8 := [3, 96, 62, 132, 4, 1, 167, 255, 223, 29, 172, 42, 27, 16, 6, 182, 0, 104, 172, 42, 27, 28]
abbrev dktX6_ruleOf_5 : List UInt8 := dkwX6_ruleOf_5 ++ dktX6_ruleOf_6
def dkwX6_ruleOf_4 : List UInt8 := [180, 0, 9, 4, 46, 162, 0, 28, 29, 42, 21, 4, 8, 182, 0, 104, 27, 160, 0, 7, 4, 167, 0, 4]
abbrev dktX6_ruleOf_4 : List UInt8 := dkwX6_ruleOf_4 ++ dktX6_ruleOf_5
def dkwX6_ruleOf_3 : List UInt8 := [42, 27, 182, 0, 118, 172, 42, 27, 16, 7, 182, 0, 104, 172, 3, 62, 3, 54, 4, 21, 4, 42]
abbrev dktX6_ruleOf_3 : List UInt8 := dkwX6_ruleOf_3 ++ dktX6_ruleOf_4
def dkwX6_ruleOf_2 : List UInt8 := [170, 0, 0, 0, 0, 0, 96, 0, 0, 0, 6, 0, 0, 0, 9, 0, 0, 0, 31, 0, 0, 0, 37, 0, 0, 0, 45, 0, 0, 0, 88]
abbrev dktX6_ruleOf_2 : List UInt8 := dkwX6_ruleOf_2 ++ dktX6_ruleOf_3
def dkwX6_ruleOf_1 : List UInt8 := [167, 0, 4, 3, 181, 0, 62, 42, 180, 0, 62, 158, 0, 5, 3, 172, 28]
abbrev dktX6_ruleOf_1 : List UInt8 := dkwX6_ruleOf_1 ++ dktX6_ruleOf_2
def dkwX6_ruleOf_0 : List UInt8 := [42, 42, 27, 182, 0, 142, 154, 0, 7, 4, 167, 0, 18, 28, 3, 16, 9, 184, 0, 80, 154, 0, 7, 5]
abbrev dktX6_ruleOf_0 : List UInt8 := dkwX6_ruleOf_0 ++ dktX6_ruleOf_1
theorem dksX6_ruleOf_0 : cX6_ruleOf.data.toList.drop 0 = dktX6_ruleOf_0 := by decide +kernel
theorem dksX6_ruleOf_1 : cX6_ruleOf.data.toList.drop 24 = dktX6_ruleOf_1 := dk_seg dksX6_ruleOf_0 24 rfl rfl
theorem dksX6_ruleOf_2 : cX6_ruleOf.data.toList.drop 41 = dktX6_ruleOf_2 := dk_seg dksX6_ruleOf_1 17 rfl rfl
theorem dksX6_ruleOf_3 : cX6_ruleOf.data.toList.drop 72 = dktX6_ruleOf_3 := dk_seg dksX6_ruleOf_2 31 rfl rfl
theorem dksX6_ruleOf_4 : cX6_ruleOf.data.toList.drop 94 = dktX6_ruleOf_4 := dk_seg dksX6_ruleOf_3 22 rfl rfl
theorem dksX6_ruleOf_5 : cX6_ruleOf.data.toList.drop 118 = dktX6_ruleOf_5 := dk_seg dksX6_ruleOf_4 24 rfl rfl
theorem dksX6_ruleOf_6 : cX6_ruleOf.data.toList.drop 140 = dktX6_ruleOf_6 := dk_seg dksX6_ruleOf_5 22 rfl rfl
theorem dX6_ruleOf_0 : decode cX6_ruleOf 0 = .ok (.aload_n 0, 1) := dk_42 (dk_at dksX6_ruleOf_0 0 rfl rfl)
theorem dX6_ruleOf_1 : decode cX6_ruleOf 1 = .ok (.aload_n 0, 1) := dk_42 (dk_at dksX6_ruleOf_0 1 rfl rfl)
theorem dX6_ruleOf_2 : decode cX6_ruleOf 2 = .ok (.iload_n 1, 1) := dk_27 (dk_at dksX6_ruleOf_0 2 rfl rfl)
theorem dX6_ruleOf_3 : decode cX6_ruleOf 3 = .ok (.invokevirtual 142, 3) := dk_182 0 142 (dk_at dksX6_ruleOf_0 3 rfl rfl)
theorem dX6_ruleOf_6 : decode cX6_ruleOf 6 = .ok (.ifCond .ne 7, 3) := dk_154 0 7 (dk_at dksX6_ruleOf_0 6 rfl rfl)
theorem dX6_ruleOf_9 : decode cX6_ruleOf 9 = .ok (.iconst 1, 1) := dk_4 (dk_at dksX6_ruleOf_0 9 rfl rfl)
theorem dX6_ruleOf_10 : decode cX6_ruleOf 10 = .ok (.goto 18, 3) := dk_167 0 18 (dk_at dksX6_ruleOf_0 10 rfl rfl)
theorem dX6_ruleOf_13 : decode cX6_ruleOf 13 = .ok (.iload_n 2, 1) := dk_28 (dk_at dksX6_ruleOf_0 13 rfl rfl)
theorem dX6_ruleOf_14 : decode cX6_ruleOf 14 = .ok (.iconst 0, 1) := dk_3 (dk_at dksX6_ruleOf_0 14 rfl rfl)
theorem dX6_ruleOf_15 : decode cX6_ruleOf 15 = .ok (.bipush 9, 2) := dk_16 9 (dk_at dksX6_ruleOf_0 15 rfl rfl)
theorem dX6_ruleOf_17 : decode cX6_ruleOf 17 = .ok (.invokestatic 80, 3) := dk_184 0 80 (dk_at dksX6_ruleOf_0 17 rfl rfl)
theorem dX6_ruleOf_20 : decode cX6_ruleOf 20 = .ok (.ifCond .ne 7, 3) := dk_154 0 7 (dk_at dksX6_ruleOf_0 20 rfl rfl)
theorem dX6_ruleOf_23 : decode cX6_ruleOf 23 = .ok (.iconst 2, 1) := dk_5 (dk_at dksX6_ruleOf_0 23 rfl rfl)
theorem dX6_ruleOf_24 : decode cX6_ruleOf 24 = .ok (.goto 4, 3) := dk_167 0 4 (dk_at dksX6_ruleOf_1 0 rfl rfl)
theorem dX6_ruleOf_27 : decode cX6_ruleOf 27 = .ok (.iconst 0, 1) := dk_3 (dk_at dksX6_ruleOf_1 3 rfl rfl)
theorem dX6_ruleOf_28 : decode cX6_ruleOf 28 = .ok (.putfield 62, 3) := dk_181 0 62 (dk_at dksX6_ruleOf_1 4 rfl rfl)
theorem dX6_ruleOf_31 : decode cX6_ruleOf 31 = .ok (.aload_n 0, 1) := dk_42 (dk_at dksX6_ruleOf_1 7 rfl rfl)
theorem dX6_ruleOf_32 : decode cX6_ruleOf 32 = .ok (.getfield 62, 3) := dk_180 0 62 (dk_at dksX6_ruleOf_1 8 rfl rfl)
theorem dX6_ruleOf_35 : decode cX6_ruleOf 35 = .ok (.ifCond .le 5, 3) := dk_158 0 5 (dk_at dksX6_ruleOf_1 11 rfl rfl)
theorem dX6_ruleOf_38 : decode cX6_ruleOf 38 = .ok (.iconst 0, 1) := dk_3 (dk_at dksX6_ruleOf_1 14 rfl rfl)
theorem dX6_ruleOf_39 : decode cX6_ruleOf 39 = .ok (.ireturn, 1) := dk_172 (dk_at dksX6_ruleOf_1 15 rfl rfl)
theorem dX6_ruleOf_40 : decode cX6_ruleOf 40 = .ok (.iload_n 2, 1) := dk_28 (dk_at dksX6_ruleOf_1 16 rfl rfl)
theorem dX6_ruleOf_41 : decode cX6_ruleOf 41 = .ok (.tableswitch 96 6 9 #[31, 37, 45, 88], 31) := by decide +kernel
theorem dX6_ruleOf_72 : decode cX6_ruleOf 72 = .ok (.aload_n 0, 1) := dk_42 (dk_at dksX6_ruleOf_3 0 rfl rfl)
theorem dX6_ruleOf_73 : decode cX6_ruleOf 73 = .ok (.iload_n 1, 1) := dk_27 (dk_at dksX6_ruleOf_3 1 rfl rfl)
theorem dX6_ruleOf_74 : decode cX6_ruleOf 74 = .ok (.invokevirtual 118, 3) := dk_182 0 118 (dk_at dksX6_ruleOf_3 2 rfl rfl)
theorem dX6_ruleOf_77 : decode cX6_ruleOf 77 = .ok (.ireturn, 1) := dk_172 (dk_at dksX6_ruleOf_3 5 rfl rfl)
theorem dX6_ruleOf_78 : decode cX6_ruleOf 78 = .ok (.aload_n 0, 1) := dk_42 (dk_at dksX6_ruleOf_3 6 rfl rfl)
theorem dX6_ruleOf_79 : decode cX6_ruleOf 79 = .ok (.iload_n 1, 1) := dk_27 (dk_at dksX6_ruleOf_3 7 rfl rfl)
theorem dX6_ruleOf_80 : decode cX6_ruleOf 80 = .ok (.bipush 7, 2) := dk_16 7 (dk_at dksX6_ruleOf_3 8 rfl rfl)
theorem dX6_ruleOf_82 : decode cX6_ruleOf 82 = .ok (.invokevirtual 104, 3) := dk_182 0 104 (dk_at dksX6_ruleOf_3 10 rfl rfl)
theorem dX6_ruleOf_85 : decode cX6_ruleOf 85 = .ok (.ireturn, 1) := dk_172 (dk_at dksX6_ruleOf_3 13 rfl rfl)
theorem dX6_ruleOf_86 : decode cX6_ruleOf 86 = .ok (.iconst 0, 1) := dk_3 (dk_at dksX6_ruleOf_3 14 rfl rfl)
theorem dX6_ruleOf_87 : decode cX6_ruleOf 87 = .ok (.istore_n 3, 1) := dk_62 (dk_at dksX6_ruleOf_3 15 rfl rfl)
theorem dX6_ruleOf_88 : decode cX6_ruleOf 88 = .ok (.iconst 0, 1) := dk_3 (dk_at dksX6_ruleOf_3 16 rfl rfl)
theorem dX6_ruleOf_89 : decode cX6_ruleOf 89 = .ok (.istore 4, 2) := dk_54 4 (dk_at dksX6_ruleOf_3 17 rfl rfl)
theorem dX6_ruleOf_91 : decode cX6_ruleOf 91 = .ok (.iload 4, 2) := dk_21 4 (dk_at dksX6_ruleOf_3 19 rfl rfl)
theorem dX6_ruleOf_93 : decode cX6_ruleOf 93 = .ok (.aload_n 0, 1) := dk_42 (dk_at dksX6_ruleOf_3 21 rfl rfl)
theorem dX6_ruleOf_94 : decode cX6_ruleOf 94 = .ok (.getfield 9, 3) := dk_180 0 9 (dk_at dksX6_ruleOf_4 0 rfl rfl)
theorem dX6_ruleOf_97 : decode cX6_ruleOf 97 = .ok (.iconst 1, 1) := dk_4 (dk_at dksX6_ruleOf_4 3 rfl rfl)
theorem dX6_ruleOf_98 : decode cX6_ruleOf 98 = .ok (.iaload, 1) := dk_46 (dk_at dksX6_ruleOf_4 4 rfl rfl)
theorem dX6_ruleOf_99 : decode cX6_ruleOf 99 = .ok (.if_icmp .ge 28, 3) := dk_162 0 28 (dk_at dksX6_ruleOf_4 5 rfl rfl)
theorem dX6_ruleOf_102 : decode cX6_ruleOf 102 = .ok (.iload_n 3, 1) := dk_29 (dk_at dksX6_ruleOf_4 8 rfl rfl)
theorem dX6_ruleOf_103 : decode cX6_ruleOf 103 = .ok (.aload_n 0, 1) := dk_42 (dk_at dksX6_ruleOf_4 9 rfl rfl)
theorem dX6_ruleOf_104 : decode cX6_ruleOf 104 = .ok (.iload 4, 2) := dk_21 4 (dk_at dksX6_ruleOf_4 10 rfl rfl)
theorem dX6_ruleOf_106 : decode cX6_ruleOf 106 = .ok (.iconst 5, 1) := dk_8 (dk_at dksX6_ruleOf_4 12 rfl rfl)
theorem dX6_ruleOf_107 : decode cX6_ruleOf 107 = .ok (.invokevirtual 104, 3) := dk_182 0 104 (dk_at dksX6_ruleOf_4 13 rfl rfl)
theorem dX6_ruleOf_110 : decode cX6_ruleOf 110 = .ok (.iload_n 1, 1) := dk_27 (dk_at dksX6_ruleOf_4 16 rfl rfl)
theorem dX6_ruleOf_111 : decode cX6_ruleOf 111 = .ok (.if_icmp .ne 7, 3) := dk_160 0 7 (dk_at dksX6_ruleOf_4 17 rfl rfl)
theorem dX6_ruleOf_114 : decode cX6_ruleOf 114 = .ok (.iconst 1, 1) := dk_4 (dk_at dksX6_ruleOf_4 20 rfl rfl)
theorem dX6_ruleOf_115 : decode cX6_ruleOf 115 = .ok (.goto 4, 3) := dk_167 0 4 (dk_at dksX6_ruleOf_4 21 rfl rfl)
theorem dX6_ruleOf_118 : decode cX6_ruleOf 118 = .ok (.iconst 0, 1) := dk_3 (dk_at dksX6_ruleOf_5 0 rfl rfl)
theorem dX6_ruleOf_119 : decode cX6_ruleOf 119 = .ok (.iadd, 1) := dk_96 (dk_at dksX6_ruleOf_5 1 rfl rfl)
theorem dX6_ruleOf_120 : decode cX6_ruleOf 120 = .ok (.istore_n 3, 1) := dk_62 (dk_at dksX6_ruleOf_5 2 rfl rfl)
theorem dX6_ruleOf_121 : decode cX6_ruleOf 121 = .ok (.iinc 4 1, 3) := dk_132 4 1 (dk_at dksX6_ruleOf_5 3 rfl rfl)
theorem dX6_ruleOf_124 : decode cX6_ruleOf 124 = .ok (.goto (-33), 3) := dk_167 255 223 (dk_at dksX6_ruleOf_5 6 rfl rfl)
theorem dX6_ruleOf_127 : decode cX6_ruleOf 127 = .ok (.iload_n 3, 1) := dk_29 (dk_at dksX6_ruleOf_5 9 rfl rfl)
theorem dX6_ruleOf_128 : decode cX6_ruleOf 128 = .ok (.ireturn, 1) := dk_172 (dk_at dksX6_ruleOf_5 10 rfl rfl)
theorem dX6_ruleOf_129 : decode cX6_ruleOf 129 = .ok (.aload_n 0, 1) := dk_42 (dk_at dksX6_ruleOf_5 11 rfl rfl)
theorem dX6_ruleOf_130 : decode cX6_ruleOf 130 = .ok (.iload_n 1, 1) := dk_27 (dk_at dksX6_ruleOf_5 12 rfl rfl)
theorem dX6_ruleOf_131 : decode cX6_ruleOf 131 = .ok (.bipush 6, 2) := dk_16 6 (dk_at dksX6_ruleOf_5 13 rfl rfl)
theorem dX6_ruleOf_133 : decode cX6_ruleOf 133 = .ok (.invokevirtual 104, 3) := dk_182 0 104 (dk_at dksX6_ruleOf_5 15 rfl rfl)
theorem dX6_ruleOf_136 : decode cX6_ruleOf 136 = .ok (.ireturn, 1) := dk_172 (dk_at dksX6_ruleOf_5 18 rfl rfl)
theorem dX6_ruleOf_137 : decode cX6_ruleOf 137 = .ok (.aload_n 0, 1) := dk_42 (dk_at dksX6_ruleOf_5 19 rfl rfl)
theorem dX6_ruleOf_138 : decode cX6_ruleOf 138 = .ok (.iload_n 1, 1) := dk_27 (dk_at dksX6_ruleOf_5 20 rfl rfl)
theorem dX6_ruleOf_139 : decode cX6_ruleOf 139 = .ok (.iload_n 2, 1) := dk_28 (dk_at dksX6_ruleOf_5 21 rfl rfl)
theorem dX6_ruleOf_140 : decode cX6_ruleOf 140 = .ok (.invokevirtual 104, 3) := dk_182 0 104 (dk_at dksX6_ruleOf_6 0 rfl rfl)
theorem dX6_ruleOf_143 : decode cX6_ruleOf 143 = .ok (.ireturn, 1) := dk_172 (dk_at dksX6_ruleOf_6 3 rfl rfl)
abbrev cX6_testOf : ByteArray := prog_27_method_38_code
def yX6_testOf : MethodName := ⟨RX6, "testOf", "(III)I"⟩
def dkwX6_testOf_3 : List UInt8 := [182, 0, 104, 172]
abbrev dktX6_testOf_3 : List UInt8 := dkwX6_testOf_3 ++ []
def dkwX6_testOf_2 : List UInt8 := [181, 0, 62, 42, 180, 0, 62, 158, 0, 7, 3, 167, 0, 16, 42, 27, 16, 8, 6, 28, 104, 96, 29, 96]
abbrev dktX6_testOf_2 : List UInt8 := dkwX6_testOf_2 ++ dktX6_testOf_3
def dkwX6_testOf_1 : List UInt8 := [184, 0, 80, 154, 0, 7, 5, 167, 0, 17, 29, 3, 5, 184, 0, 80, 154, 0, 7, 6, 167, 0, 4, 3]
abbrev dktX6_testOf_1 : List UInt8 := dkwX6_testOf_1 ++ dktX6_testOf_2
def dkwX6_testOf_0 : List UInt8 := [42, 42, 27, 182, 0, 142, 154, 0, 7, 4, 167, 0, 38, 28, 3, 42, 27, 16, 7, 182, 0, 104, 4, 100]
abbrev dktX6_testOf_0 : List UInt8 := dkwX6_testOf_0 ++ dktX6_testOf_1
theorem dksX6_testOf_0 : cX6_testOf.data.toList.drop 0 = dktX6_testOf_0 := by decide +kernel
theorem dksX6_testOf_1 : cX6_testOf.data.toList.drop 24 = dktX6_testOf_1 := dk_seg dksX6_testOf_0 24 rfl rfl
theorem dksX6_testOf_2 : cX6_testOf.data.toList.drop 48 = dktX6_testOf_2 := dk_seg dksX6_testOf_1 24 rfl rfl
theorem dksX6_testOf_3 : cX6_testOf.data.toList.drop 72 = dktX6_testOf_3 := dk_seg dksX6_testOf_2 24 rfl rfl
theorem dX6_testOf_0 : decode cX6_testOf 0 = .ok (.aload_n 0, 1) := dk_42 (dk_at dksX6_testOf_0 0 rfl rfl)
theorem dX6_testOf_1 : decode cX6_testOf 1 = .ok (.aload_n 0, 1) := dk_42 (dk_at dksX6_testOf_0 1 rfl rfl)
theorem dX6_testOf_2 : decode cX6_testOf 2 = .ok (.iload_n 1, 1) := dk_27 (dk_at dksX6_testOf_0 2 rfl rfl)
theorem dX6_testOf_3 : decode cX6_testOf 3 = .ok (.invokevirtual 142, 3) := dk_182 0 142 (dk_at dksX6_testOf_0 3 rfl rfl)
theorem dX6_testOf_6 : decode cX6_testOf 6 = .ok (.ifCond .ne 7, 3) := dk_154 0 7 (dk_at dksX6_testOf_0 6 rfl rfl)
theorem dX6_testOf_9 : decode cX6_testOf 9 = .ok (.iconst 1, 1) := dk_4 (dk_at dksX6_testOf_0 9 rfl rfl)
theorem dX6_testOf_10 : decode cX6_testOf 10 = .ok (.goto 38, 3) := dk_167 0 38 (dk_at dksX6_testOf_0 10 rfl rfl)
theorem dX6_testOf_13 : decode cX6_testOf 13 = .ok (.iload_n 2, 1) := dk_28 (dk_at dksX6_testOf_0 13 rfl rfl)
theorem dX6_testOf_14 : decode cX6_testOf 14 = .ok (.iconst 0, 1) := dk_3 (dk_at dksX6_testOf_0 14 rfl rfl)
theorem dX6_testOf_15 : decode cX6_testOf 15 = .ok (.aload_n 0, 1) := dk_42 (dk_at dksX6_testOf_0 15 rfl rfl)
theorem dX6_testOf_16 : decode cX6_testOf 16 = .ok (.iload_n 1, 1) := dk_27 (dk_at dksX6_testOf_0 16 rfl rfl)
theorem dX6_testOf_17 : decode cX6_testOf 17 = .ok (.bipush 7, 2) := dk_16 7 (dk_at dksX6_testOf_0 17 rfl rfl)
theorem dX6_testOf_19 : decode cX6_testOf 19 = .ok (.invokevirtual 104, 3) := dk_182 0 104 (dk_at dksX6_testOf_0 19 rfl rfl)
theorem dX6_testOf_22 : decode cX6_testOf 22 = .ok (.iconst 1, 1) := dk_4 (dk_at dksX6_testOf_0 22 rfl rfl)
theorem dX6_testOf_23 : decode cX6_testOf 23 = .ok (.isub, 1) := dk_100 (dk_at dksX6_testOf_0 23 rfl rfl)
theorem dX6_testOf_24 : decode cX6_testOf 24 = .ok (.invokestatic 80, 3) := dk_184 0 80 (dk_at dksX6_testOf_1 0 rfl rfl)
theorem dX6_testOf_27 : decode cX6_testOf 27 = .ok (.ifCond .ne 7, 3) := dk_154 0 7 (dk_at dksX6_testOf_1 3 rfl rfl)
theorem dX6_testOf_30 : decode cX6_testOf 30 = .ok (.iconst 2, 1) := dk_5 (dk_at dksX6_testOf_1 6 rfl rfl)
theorem dX6_testOf_31 : decode cX6_testOf 31 = .ok (.goto 17, 3) := dk_167 0 17 (dk_at dksX6_testOf_1 7 rfl rfl)
theorem dX6_testOf_34 : decode cX6_testOf 34 = .ok (.iload_n 3, 1) := dk_29 (dk_at dksX6_testOf_1 10 rfl rfl)
theorem dX6_testOf_35 : decode cX6_testOf 35 = .ok (.iconst 0, 1) := dk_3 (dk_at dksX6_testOf_1 11 rfl rfl)
theorem dX6_testOf_36 : decode cX6_testOf 36 = .ok (.iconst 2, 1) := dk_5 (dk_at dksX6_testOf_1 12 rfl rfl)
theorem dX6_testOf_37 : decode cX6_testOf 37 = .ok (.invokestatic 80, 3) := dk_184 0 80 (dk_at dksX6_testOf_1 13 rfl rfl)
theorem dX6_testOf_40 : decode cX6_testOf 40 = .ok (.ifCond .ne 7, 3) := dk_154 0 7 (dk_at dksX6_testOf_1 16 rfl rfl)
theorem dX6_testOf_43 : decode cX6_testOf 43 = .ok (.iconst 3, 1) := dk_6 (dk_at dksX6_testOf_1 19 rfl rfl)
theorem dX6_testOf_44 : decode cX6_testOf 44 = .ok (.goto 4, 3) := dk_167 0 4 (dk_at dksX6_testOf_1 20 rfl rfl)
theorem dX6_testOf_47 : decode cX6_testOf 47 = .ok (.iconst 0, 1) := dk_3 (dk_at dksX6_testOf_1 23 rfl rfl)
theorem dX6_testOf_48 : decode cX6_testOf 48 = .ok (.putfield 62, 3) := dk_181 0 62 (dk_at dksX6_testOf_2 0 rfl rfl)
theorem dX6_testOf_51 : decode cX6_testOf 51 = .ok (.aload_n 0, 1) := dk_42 (dk_at dksX6_testOf_2 3 rfl rfl)
theorem dX6_testOf_52 : decode cX6_testOf 52 = .ok (.getfield 62, 3) := dk_180 0 62 (dk_at dksX6_testOf_2 4 rfl rfl)
theorem dX6_testOf_55 : decode cX6_testOf 55 = .ok (.ifCond .le 7, 3) := dk_158 0 7 (dk_at dksX6_testOf_2 7 rfl rfl)
theorem dX6_testOf_58 : decode cX6_testOf 58 = .ok (.iconst 0, 1) := dk_3 (dk_at dksX6_testOf_2 10 rfl rfl)
theorem dX6_testOf_59 : decode cX6_testOf 59 = .ok (.goto 16, 3) := dk_167 0 16 (dk_at dksX6_testOf_2 11 rfl rfl)
theorem dX6_testOf_62 : decode cX6_testOf 62 = .ok (.aload_n 0, 1) := dk_42 (dk_at dksX6_testOf_2 14 rfl rfl)
theorem dX6_testOf_63 : decode cX6_testOf 63 = .ok (.iload_n 1, 1) := dk_27 (dk_at dksX6_testOf_2 15 rfl rfl)
theorem dX6_testOf_64 : decode cX6_testOf 64 = .ok (.bipush 8, 2) := dk_16 8 (dk_at dksX6_testOf_2 16 rfl rfl)
theorem dX6_testOf_66 : decode cX6_testOf 66 = .ok (.iconst 3, 1) := dk_6 (dk_at dksX6_testOf_2 18 rfl rfl)
theorem dX6_testOf_67 : decode cX6_testOf 67 = .ok (.iload_n 2, 1) := dk_28 (dk_at dksX6_testOf_2 19 rfl rfl)
theorem dX6_testOf_68 : decode cX6_testOf 68 = .ok (.imul, 1) := dk_104 (dk_at dksX6_testOf_2 20 rfl rfl)
theorem dX6_testOf_69 : decode cX6_testOf 69 = .ok (.iadd, 1) := dk_96 (dk_at dksX6_testOf_2 21 rfl rfl)
theorem dX6_testOf_70 : decode cX6_testOf 70 = .ok (.iload_n 3, 1) := dk_29 (dk_at dksX6_testOf_2 22 rfl rfl)
theorem dX6_testOf_71 : decode cX6_testOf 71 = .ok (.iadd, 1) := dk_96 (dk_at dksX6_testOf_2 23 rfl rfl)
theorem dX6_testOf_72 : decode cX6_testOf 72 = .ok (.invokevirtual 104, 3) := dk_182 0 104 (dk_at dksX6_testOf_3 0 rfl rfl)
theorem dX6_testOf_75 : decode cX6_testOf 75 = .ok (.ireturn, 1) := dk_172 (dk_at dksX6_testOf_3 3 rfl rfl)
abbrev cX6_covers : ByteArray := prog_27_method_49_code
def yX6_covers : MethodName := ⟨RX6, "covers", "(IIII)Z"⟩
def dkwX6_covers_2 : List UInt8 := [172]
abbrev dktX6_covers_2 : List UInt8 := dkwX6_covers_2 ++ []
def dkwX6_covers_1 : List UInt8 := [42, 180, 0, 62, 154, 0, 19, 42, 27, 28, 29, 21, 4, 182, 0, 174, 153, 0, 7, 4, 167, 0, 4, 3]
abbrev dktX6_covers_1 : List UInt8 := dkwX6_covers_1 ++ dktX6_covers_2
def dkwX6_covers_0 : List UInt8 := [42, 42, 27, 182, 0, 142, 154, 0, 7, 4, 167, 0, 11, 42, 28, 29, 21, 4, 182, 0, 199, 181, 0, 62]
abbrev dktX6_covers_0 : List UInt8 := dkwX6_covers_0 ++ dktX6_covers_1
theorem dksX6_covers_0 : cX6_covers.data.toList.drop 0 = dktX6_covers_0 := by decide +kernel
theorem dksX6_covers_1 : cX6_covers.data.toList.drop 24 = dktX6_covers_1 := dk_seg dksX6_covers_0 24 rfl rfl
theorem dksX6_covers_2 : cX6_covers.data.toList.drop 48 = dktX6_covers_2 := dk_seg dksX6_covers_1 24 rfl rfl
theorem dX6_covers_0 : decode cX6_covers 0 = .ok (.aload_n 0, 1) := dk_42 (dk_at dksX6_covers_0 0 rfl rfl)
theorem dX6_covers_1 : decode cX6_covers 1 = .ok (.aload_n 0, 1) := dk_42 (dk_at dksX6_covers_0 1 rfl rfl)
theorem dX6_covers_2 : decode cX6_covers 2 = .ok (.iload_n 1, 1) := dk_27 (dk_at dksX6_covers_0 2 rfl rfl)
theorem dX6_covers_3 : decode cX6_covers 3 = .ok (.invokevirtual 142, 3) := dk_182 0 142 (dk_at dksX6_covers_0 3 rfl rfl)
theorem dX6_covers_6 : decode cX6_covers 6 = .ok (.ifCond .ne 7, 3) := dk_154 0 7 (dk_at dksX6_covers_0 6 rfl rfl)
theorem dX6_covers_9 : decode cX6_covers 9 = .ok (.iconst 1, 1) := dk_4 (dk_at dksX6_covers_0 9 rfl rfl)
theorem dX6_covers_10 : decode cX6_covers 10 = .ok (.goto 11, 3) := dk_167 0 11 (dk_at dksX6_covers_0 10 rfl rfl)
theorem dX6_covers_13 : decode cX6_covers 13 = .ok (.aload_n 0, 1) := dk_42 (dk_at dksX6_covers_0 13 rfl rfl)
theorem dX6_covers_14 : decode cX6_covers 14 = .ok (.iload_n 2, 1) := dk_28 (dk_at dksX6_covers_0 14 rfl rfl)
theorem dX6_covers_15 : decode cX6_covers 15 = .ok (.iload_n 3, 1) := dk_29 (dk_at dksX6_covers_0 15 rfl rfl)
theorem dX6_covers_16 : decode cX6_covers 16 = .ok (.iload 4, 2) := dk_21 4 (dk_at dksX6_covers_0 16 rfl rfl)
theorem dX6_covers_18 : decode cX6_covers 18 = .ok (.invokevirtual 199, 3) := dk_182 0 199 (dk_at dksX6_covers_0 18 rfl rfl)
theorem dX6_covers_21 : decode cX6_covers 21 = .ok (.putfield 62, 3) := dk_181 0 62 (dk_at dksX6_covers_0 21 rfl rfl)
theorem dX6_covers_24 : decode cX6_covers 24 = .ok (.aload_n 0, 1) := dk_42 (dk_at dksX6_covers_1 0 rfl rfl)
theorem dX6_covers_25 : decode cX6_covers 25 = .ok (.getfield 62, 3) := dk_180 0 62 (dk_at dksX6_covers_1 1 rfl rfl)
theorem dX6_covers_28 : decode cX6_covers 28 = .ok (.ifCond .ne 19, 3) := dk_154 0 19 (dk_at dksX6_covers_1 4 rfl rfl)
theorem dX6_covers_31 : decode cX6_covers 31 = .ok (.aload_n 0, 1) := dk_42 (dk_at dksX6_covers_1 7 rfl rfl)
theorem dX6_covers_32 : decode cX6_covers 32 = .ok (.iload_n 1, 1) := dk_27 (dk_at dksX6_covers_1 8 rfl rfl)
theorem dX6_covers_33 : decode cX6_covers 33 = .ok (.iload_n 2, 1) := dk_28 (dk_at dksX6_covers_1 9 rfl rfl)
theorem dX6_covers_34 : decode cX6_covers 34 = .ok (.iload_n 3, 1) := dk_29 (dk_at dksX6_covers_1 10 rfl rfl)
theorem dX6_covers_35 : decode cX6_covers 35 = .ok (.iload 4, 2) := dk_21 4 (dk_at dksX6_covers_1 11 rfl rfl)
theorem dX6_covers_37 : decode cX6_covers 37 = .ok (.invokevirtual 174, 3) := dk_182 0 174 (dk_at dksX6_covers_1 13 rfl rfl)
theorem dX6_covers_40 : decode cX6_covers 40 = .ok (.ifCond .eq 7, 3) := dk_153 0 7 (dk_at dksX6_covers_1 16 rfl rfl)
theorem dX6_covers_43 : decode cX6_covers 43 = .ok (.iconst 1, 1) := dk_4 (dk_at dksX6_covers_1 19 rfl rfl)
theorem dX6_covers_44 : decode cX6_covers 44 = .ok (.goto 4, 3) := dk_167 0 4 (dk_at dksX6_covers_1 20 rfl rfl)
theorem dX6_covers_47 : decode cX6_covers 47 = .ok (.iconst 0, 1) := dk_3 (dk_at dksX6_covers_1 23 rfl rfl)
theorem dX6_covers_48 : decode cX6_covers 48 = .ok (.ireturn, 1) := dk_172 (dk_at dksX6_covers_2 0 rfl rfl)
abbrev cX6_wrongCase : ByteArray := prog_27_method_48_code
def yX6_wrongCase : MethodName := ⟨RX6, "wrongCase", "(III)I"⟩
def dkwX6_wrongCase_1 : List UInt8 := [3, 172]
abbrev dktX6_wrongCase_1 : List UInt8 := dkwX6_wrongCase_1 ++ []
def dkwX6_wrongCase_0 : List UInt8 := [42, 27, 182, 0, 88, 154, 0, 7, 4, 167, 0, 16, 28, 29, 184, 0, 196, 154, 0, 7, 5, 167, 0, 4]
abbrev dktX6_wrongCase_0 : List UInt8 := dkwX6_wrongCase_0 ++ dktX6_wrongCase_1
theorem dksX6_wrongCase_0 : cX6_wrongCase.data.toList.drop 0 = dktX6_wrongCase_0 := by decide +kernel
theorem dksX6_wrongCase_1 : cX6_wrongCase.data.toList.drop 24 = dktX6_wrongCase_1 := dk_seg dksX6_wrongCase_0 24 rfl rfl
theorem dX6_wrongCase_0 : decode cX6_wrongCase 0 = .ok (.aload_n 0, 1) := dk_42 (dk_at dksX6_wrongCase_0 0 rfl rfl)
theorem dX6_wrongCase_1 : decode cX6_wrongCase 1 = .ok (.iload_n 1, 1) := dk_27 (dk_at dksX6_wrongCase_0 1 rfl rfl)
theorem dX6_wrongCase_2 : decode cX6_wrongCase 2 = .ok (.invokevirtual 88, 3) := dk_182 0 88 (dk_at dksX6_wrongCase_0 2 rfl rfl)
theorem dX6_wrongCase_5 : decode cX6_wrongCase 5 = .ok (.ifCond .ne 7, 3) := dk_154 0 7 (dk_at dksX6_wrongCase_0 5 rfl rfl)
theorem dX6_wrongCase_8 : decode cX6_wrongCase 8 = .ok (.iconst 1, 1) := dk_4 (dk_at dksX6_wrongCase_0 8 rfl rfl)
theorem dX6_wrongCase_9 : decode cX6_wrongCase 9 = .ok (.goto 16, 3) := dk_167 0 16 (dk_at dksX6_wrongCase_0 9 rfl rfl)
theorem dX6_wrongCase_12 : decode cX6_wrongCase 12 = .ok (.iload_n 2, 1) := dk_28 (dk_at dksX6_wrongCase_0 12 rfl rfl)
theorem dX6_wrongCase_13 : decode cX6_wrongCase 13 = .ok (.iload_n 3, 1) := dk_29 (dk_at dksX6_wrongCase_0 13 rfl rfl)
theorem dX6_wrongCase_14 : decode cX6_wrongCase 14 = .ok (.invokestatic 196, 3) := dk_184 0 196 (dk_at dksX6_wrongCase_0 14 rfl rfl)
theorem dX6_wrongCase_17 : decode cX6_wrongCase 17 = .ok (.ifCond .ne 7, 3) := dk_154 0 7 (dk_at dksX6_wrongCase_0 17 rfl rfl)
theorem dX6_wrongCase_20 : decode cX6_wrongCase 20 = .ok (.iconst 2, 1) := dk_5 (dk_at dksX6_wrongCase_0 20 rfl rfl)
theorem dX6_wrongCase_21 : decode cX6_wrongCase 21 = .ok (.goto 4, 3) := dk_167 0 4 (dk_at dksX6_wrongCase_0 21 rfl rfl)
theorem dX6_wrongCase_24 : decode cX6_wrongCase 24 = .ok (.iconst 0, 1) := dk_3 (dk_at dksX6_wrongCase_1 0 rfl rfl)
theorem dX6_wrongCase_25 : decode cX6_wrongCase 25 = .ok (.ireturn, 1) := dk_172 (dk_at dksX6_wrongCase_1 1 rfl rfl)
abbrev cX6_isCase : ByteArray := prog_27_method_47_code
def yX6_isCase : MethodName := ⟨RX6, "isCase", "(II)Z"⟩
def dkwX6_isCase_0 : List UInt8 := [26, 184, 0, 136, 153, 0, 17, 27, 3, 18, 195, 184, 0, 80, 153, 0, 7, 4, 167, 0, 4, 3, 172]
abbrev dktX6_isCase_0 : List UInt8 := dkwX6_isCase_0 ++ []
theorem dksX6_isCase_0 : cX6_isCase.data.toList.drop 0 = dktX6_isCase_0 := by decide +kernel
theorem dX6_isCase_0 : decode cX6_isCase 0 = .ok (.iload_n 0, 1) := dk_26 (dk_at dksX6_isCase_0 0 rfl rfl)
theorem dX6_isCase_1 : decode cX6_isCase 1 = .ok (.invokestatic 136, 3) := dk_184 0 136 (dk_at dksX6_isCase_0 1 rfl rfl)
theorem dX6_isCase_4 : decode cX6_isCase 4 = .ok (.ifCond .eq 17, 3) := dk_153 0 17 (dk_at dksX6_isCase_0 4 rfl rfl)
theorem dX6_isCase_7 : decode cX6_isCase 7 = .ok (.iload_n 1, 1) := dk_27 (dk_at dksX6_isCase_0 7 rfl rfl)
theorem dX6_isCase_8 : decode cX6_isCase 8 = .ok (.iconst 0, 1) := dk_3 (dk_at dksX6_isCase_0 8 rfl rfl)
theorem dX6_isCase_9 : decode cX6_isCase 9 = .ok (.ldc 195, 2) := dk_18 195 (dk_at dksX6_isCase_0 9 rfl rfl)
theorem dX6_isCase_11 : decode cX6_isCase 11 = .ok (.invokestatic 80, 3) := dk_184 0 80 (dk_at dksX6_isCase_0 11 rfl rfl)
theorem dX6_isCase_14 : decode cX6_isCase 14 = .ok (.ifCond .eq 7, 3) := dk_153 0 7 (dk_at dksX6_isCase_0 14 rfl rfl)
theorem dX6_isCase_17 : decode cX6_isCase 17 = .ok (.iconst 1, 1) := dk_4 (dk_at dksX6_isCase_0 17 rfl rfl)
theorem dX6_isCase_18 : decode cX6_isCase 18 = .ok (.goto 4, 3) := dk_167 0 4 (dk_at dksX6_isCase_0 18 rfl rfl)
theorem dX6_isCase_21 : decode cX6_isCase 21 = .ok (.iconst 0, 1) := dk_3 (dk_at dksX6_isCase_0 21 rfl rfl)
theorem dX6_isCase_22 : decode cX6_isCase 22 = .ok (.ireturn, 1) := dk_172 (dk_at dksX6_isCase_0 22 rfl rfl)
abbrev cX6_coversNow : ByteArray := prog_27_method_40_code
def yX6_coversNow : MethodName := ⟨RX6, "coversNow", "(IIII)Z"⟩
def dkwX6_coversNow_5 : List UInt8 := [21, 5, 172]
abbrev dktX6_coversNow_5 : List UInt8 := dkwX6_coversNow_5 ++ []
def dkwX6_coversNow_4 : List UInt8 := [182, 0, 104, 42, 27, 21, 7, 5, 96, 182, 0, 104, 184, 0, 148, 54, 5, 132, 6, 1, 167, 255, 192]
abbrev dktX6_coversNow_4 : List UInt8 := dkwX6_coversNow_4 ++ dktX6_coversNow_5
def dkwX6_coversNow_3 : List UInt8 := [21, 6, 104, 96, 54, 7, 21, 4, 42, 27, 21, 7, 182, 0, 104, 184, 0, 171, 42, 27, 21, 7, 4, 96]
abbrev dktX6_coversNow_3 : List UInt8 := dkwX6_coversNow_3 ++ dktX6_coversNow_4
def dkwX6_coversNow_2 : List UInt8 := [3, 54, 6, 21, 6, 42, 27, 16, 7, 182, 0, 104, 162, 0, 58, 21, 5, 153, 0, 53, 16, 8, 6]
abbrev dktX6_coversNow_2 : List UInt8 := dkwX6_coversNow_2 ++ dktX6_coversNow_3
def dkwX6_coversNow_1 : List UInt8 := [27, 6, 182, 0, 104, 42, 27, 7, 182, 0, 104, 184, 0, 80, 153, 0, 7, 4, 167, 0, 4, 3, 54, 5]
abbrev dktX6_coversNow_1 : List UInt8 := dkwX6_coversNow_1 ++ dktX6_coversNow_2
def dkwX6_coversNow_0 : List UInt8 := [27, 42, 180, 0, 32, 159, 0, 40, 42, 28, 42, 27, 4, 182, 0, 104, 182, 0, 108, 153, 0, 26, 29, 42]
abbrev dktX6_coversNow_0 : List UInt8 := dkwX6_coversNow_0 ++ dktX6_coversNow_1
theorem dksX6_coversNow_0 : cX6_coversNow.data.toList.drop 0 = dktX6_coversNow_0 := by decide +kernel
theorem dksX6_coversNow_1 : cX6_coversNow.data.toList.drop 24 = dktX6_coversNow_1 := dk_seg dksX6_coversNow_0 24 rfl rfl
theorem dksX6_coversNow_2 : cX6_coversNow.data.toList.drop 48 = dktX6_coversNow_2 := dk_seg dksX6_coversNow_1 24 rfl rfl
theorem dksX6_coversNow_3 : cX6_coversNow.data.toList.drop 71 = dktX6_coversNow_3 := dk_seg dksX6_coversNow_2 23 rfl rfl
theorem dksX6_coversNow_4 : cX6_coversNow.data.toList.drop 95 = dktX6_coversNow_4 := dk_seg dksX6_coversNow_3 24 rfl rfl
theorem dksX6_coversNow_5 : cX6_coversNow.data.toList.drop 118 = dktX6_coversNow_5 := dk_seg dksX6_coversNow_4 23 rfl rfl
theorem dX6_coversNow_0 : decode cX6_coversNow 0 = .ok (.iload_n 1, 1) := dk_27 (dk_at dksX6_coversNow_0 0 rfl rfl)
theorem dX6_coversNow_1 : decode cX6_coversNow 1 = .ok (.aload_n 0, 1) := dk_42 (dk_at dksX6_coversNow_0 1 rfl rfl)
theorem dX6_coversNow_2 : decode cX6_coversNow 2 = .ok (.getfield 32, 3) := dk_180 0 32 (dk_at dksX6_coversNow_0 2 rfl rfl)
theorem dX6_coversNow_5 : decode cX6_coversNow 5 = .ok (.if_icmp .eq 40, 3) := dk_159 0 40 (dk_at dksX6_coversNow_0 5 rfl rfl)
theorem dX6_coversNow_8 : decode cX6_coversNow 8 = .ok (.aload_n 0, 1) := dk_42 (dk_at dksX6_coversNow_0 8 rfl rfl)
theorem dX6_coversNow_9 : decode cX6_coversNow 9 = .ok (.iload_n 2, 1) := dk_28 (dk_at dksX6_coversNow_0 9 rfl rfl)
theorem dX6_coversNow_10 : decode cX6_coversNow 10 = .ok (.aload_n 0, 1) := dk_42 (dk_at dksX6_coversNow_0 10 rfl rfl)
theorem dX6_coversNow_11 : decode cX6_coversNow 11 = .ok (.iload_n 1, 1) := dk_27 (dk_at dksX6_coversNow_0 11 rfl rfl)
theorem dX6_coversNow_12 : decode cX6_coversNow 12 = .ok (.iconst 1, 1) := dk_4 (dk_at dksX6_coversNow_0 12 rfl rfl)
theorem dX6_coversNow_13 : decode cX6_coversNow 13 = .ok (.invokevirtual 104, 3) := dk_182 0 104 (dk_at dksX6_coversNow_0 13 rfl rfl)
theorem dX6_coversNow_16 : decode cX6_coversNow 16 = .ok (.invokevirtual 108, 3) := dk_182 0 108 (dk_at dksX6_coversNow_0 16 rfl rfl)
theorem dX6_coversNow_19 : decode cX6_coversNow 19 = .ok (.ifCond .eq 26, 3) := dk_153 0 26 (dk_at dksX6_coversNow_0 19 rfl rfl)
theorem dX6_coversNow_22 : decode cX6_coversNow 22 = .ok (.iload_n 3, 1) := dk_29 (dk_at dksX6_coversNow_0 22 rfl rfl)
theorem dX6_coversNow_23 : decode cX6_coversNow 23 = .ok (.aload_n 0, 1) := dk_42 (dk_at dksX6_coversNow_0 23 rfl rfl)
theorem dX6_coversNow_24 : decode cX6_coversNow 24 = .ok (.iload_n 1, 1) := dk_27 (dk_at dksX6_coversNow_1 0 rfl rfl)
theorem dX6_coversNow_25 : decode cX6_coversNow 25 = .ok (.iconst 3, 1) := dk_6 (dk_at dksX6_coversNow_1 1 rfl rfl)
theorem dX6_coversNow_26 : decode cX6_coversNow 26 = .ok (.invokevirtual 104, 3) := dk_182 0 104 (dk_at dksX6_coversNow_1 2 rfl rfl)
theorem dX6_coversNow_29 : decode cX6_coversNow 29 = .ok (.aload_n 0, 1) := dk_42 (dk_at dksX6_coversNow_1 5 rfl rfl)
theorem dX6_coversNow_30 : decode cX6_coversNow 30 = .ok (.iload_n 1, 1) := dk_27 (dk_at dksX6_coversNow_1 6 rfl rfl)
theorem dX6_coversNow_31 : decode cX6_coversNow 31 = .ok (.iconst 4, 1) := dk_7 (dk_at dksX6_coversNow_1 7 rfl rfl)
theorem dX6_coversNow_32 : decode cX6_coversNow 32 = .ok (.invokevirtual 104, 3) := dk_182 0 104 (dk_at dksX6_coversNow_1 8 rfl rfl)
theorem dX6_coversNow_35 : decode cX6_coversNow 35 = .ok (.invokestatic 80, 3) := dk_184 0 80 (dk_at dksX6_coversNow_1 11 rfl rfl)
theorem dX6_coversNow_38 : decode cX6_coversNow 38 = .ok (.ifCond .eq 7, 3) := dk_153 0 7 (dk_at dksX6_coversNow_1 14 rfl rfl)
theorem dX6_coversNow_41 : decode cX6_coversNow 41 = .ok (.iconst 1, 1) := dk_4 (dk_at dksX6_coversNow_1 17 rfl rfl)
theorem dX6_coversNow_42 : decode cX6_coversNow 42 = .ok (.goto 4, 3) := dk_167 0 4 (dk_at dksX6_coversNow_1 18 rfl rfl)
theorem dX6_coversNow_45 : decode cX6_coversNow 45 = .ok (.iconst 0, 1) := dk_3 (dk_at dksX6_coversNow_1 21 rfl rfl)
theorem dX6_coversNow_46 : decode cX6_coversNow 46 = .ok (.istore 5, 2) := dk_54 5 (dk_at dksX6_coversNow_1 22 rfl rfl)
theorem dX6_coversNow_48 : decode cX6_coversNow 48 = .ok (.iconst 0, 1) := dk_3 (dk_at dksX6_coversNow_2 0 rfl rfl)
theorem dX6_coversNow_49 : decode cX6_coversNow 49 = .ok (.istore 6, 2) := dk_54 6 (dk_at dksX6_coversNow_2 1 rfl rfl)
theorem dX6_coversNow_51 : decode cX6_coversNow 51 = .ok (.iload 6, 2) := dk_21 6 (dk_at dksX6_coversNow_2 3 rfl rfl)
theorem dX6_coversNow_53 : decode cX6_coversNow 53 = .ok (.aload_n 0, 1) := dk_42 (dk_at dksX6_coversNow_2 5 rfl rfl)
theorem dX6_coversNow_54 : decode cX6_coversNow 54 = .ok (.iload_n 1, 1) := dk_27 (dk_at dksX6_coversNow_2 6 rfl rfl)
theorem dX6_coversNow_55 : decode cX6_coversNow 55 = .ok (.bipush 7, 2) := dk_16 7 (dk_at dksX6_coversNow_2 7 rfl rfl)
theorem dX6_coversNow_57 : decode cX6_coversNow 57 = .ok (.invokevirtual 104, 3) := dk_182 0 104 (dk_at dksX6_coversNow_2 9 rfl rfl)
theorem dX6_coversNow_60 : decode cX6_coversNow 60 = .ok (.if_icmp .ge 58, 3) := dk_162 0 58 (dk_at dksX6_coversNow_2 12 rfl rfl)
theorem dX6_coversNow_63 : decode cX6_coversNow 63 = .ok (.iload 5, 2) := dk_21 5 (dk_at dksX6_coversNow_2 15 rfl rfl)
theorem dX6_coversNow_65 : decode cX6_coversNow 65 = .ok (.ifCond .eq 53, 3) := dk_153 0 53 (dk_at dksX6_coversNow_2 17 rfl rfl)
theorem dX6_coversNow_68 : decode cX6_coversNow 68 = .ok (.bipush 8, 2) := dk_16 8 (dk_at dksX6_coversNow_2 20 rfl rfl)
theorem dX6_coversNow_70 : decode cX6_coversNow 70 = .ok (.iconst 3, 1) := dk_6 (dk_at dksX6_coversNow_2 22 rfl rfl)
theorem dX6_coversNow_71 : decode cX6_coversNow 71 = .ok (.iload 6, 2) := dk_21 6 (dk_at dksX6_coversNow_3 0 rfl rfl)
theorem dX6_coversNow_73 : decode cX6_coversNow 73 = .ok (.imul, 1) := dk_104 (dk_at dksX6_coversNow_3 2 rfl rfl)
theorem dX6_coversNow_74 : decode cX6_coversNow 74 = .ok (.iadd, 1) := dk_96 (dk_at dksX6_coversNow_3 3 rfl rfl)
theorem dX6_coversNow_75 : decode cX6_coversNow 75 = .ok (.istore 7, 2) := dk_54 7 (dk_at dksX6_coversNow_3 4 rfl rfl)
theorem dX6_coversNow_77 : decode cX6_coversNow 77 = .ok (.iload 4, 2) := dk_21 4 (dk_at dksX6_coversNow_3 6 rfl rfl)
theorem dX6_coversNow_79 : decode cX6_coversNow 79 = .ok (.aload_n 0, 1) := dk_42 (dk_at dksX6_coversNow_3 8 rfl rfl)
theorem dX6_coversNow_80 : decode cX6_coversNow 80 = .ok (.iload_n 1, 1) := dk_27 (dk_at dksX6_coversNow_3 9 rfl rfl)
theorem dX6_coversNow_81 : decode cX6_coversNow 81 = .ok (.iload 7, 2) := dk_21 7 (dk_at dksX6_coversNow_3 10 rfl rfl)
theorem dX6_coversNow_83 : decode cX6_coversNow 83 = .ok (.invokevirtual 104, 3) := dk_182 0 104 (dk_at dksX6_coversNow_3 12 rfl rfl)
theorem dX6_coversNow_86 : decode cX6_coversNow 86 = .ok (.invokestatic 171, 3) := dk_184 0 171 (dk_at dksX6_coversNow_3 15 rfl rfl)
theorem dX6_coversNow_89 : decode cX6_coversNow 89 = .ok (.aload_n 0, 1) := dk_42 (dk_at dksX6_coversNow_3 18 rfl rfl)
theorem dX6_coversNow_90 : decode cX6_coversNow 90 = .ok (.iload_n 1, 1) := dk_27 (dk_at dksX6_coversNow_3 19 rfl rfl)
theorem dX6_coversNow_91 : decode cX6_coversNow 91 = .ok (.iload 7, 2) := dk_21 7 (dk_at dksX6_coversNow_3 20 rfl rfl)
theorem dX6_coversNow_93 : decode cX6_coversNow 93 = .ok (.iconst 1, 1) := dk_4 (dk_at dksX6_coversNow_3 22 rfl rfl)
theorem dX6_coversNow_94 : decode cX6_coversNow 94 = .ok (.iadd, 1) := dk_96 (dk_at dksX6_coversNow_3 23 rfl rfl)
theorem dX6_coversNow_95 : decode cX6_coversNow 95 = .ok (.invokevirtual 104, 3) := dk_182 0 104 (dk_at dksX6_coversNow_4 0 rfl rfl)
theorem dX6_coversNow_98 : decode cX6_coversNow 98 = .ok (.aload_n 0, 1) := dk_42 (dk_at dksX6_coversNow_4 3 rfl rfl)
theorem dX6_coversNow_99 : decode cX6_coversNow 99 = .ok (.iload_n 1, 1) := dk_27 (dk_at dksX6_coversNow_4 4 rfl rfl)
theorem dX6_coversNow_100 : decode cX6_coversNow 100 = .ok (.iload 7, 2) := dk_21 7 (dk_at dksX6_coversNow_4 5 rfl rfl)
theorem dX6_coversNow_102 : decode cX6_coversNow 102 = .ok (.iconst 2, 1) := dk_5 (dk_at dksX6_coversNow_4 7 rfl rfl)
theorem dX6_coversNow_103 : decode cX6_coversNow 103 = .ok (.iadd, 1) := dk_96 (dk_at dksX6_coversNow_4 8 rfl rfl)
theorem dX6_coversNow_104 : decode cX6_coversNow 104 = .ok (.invokevirtual 104, 3) := dk_182 0 104 (dk_at dksX6_coversNow_4 9 rfl rfl)
theorem dX6_coversNow_107 : decode cX6_coversNow 107 = .ok (.invokestatic 148, 3) := dk_184 0 148 (dk_at dksX6_coversNow_4 12 rfl rfl)
theorem dX6_coversNow_110 : decode cX6_coversNow 110 = .ok (.istore 5, 2) := dk_54 5 (dk_at dksX6_coversNow_4 15 rfl rfl)
theorem dX6_coversNow_112 : decode cX6_coversNow 112 = .ok (.iinc 6 1, 3) := dk_132 6 1 (dk_at dksX6_coversNow_4 17 rfl rfl)
theorem dX6_coversNow_115 : decode cX6_coversNow 115 = .ok (.goto (-64), 3) := dk_167 255 192 (dk_at dksX6_coversNow_4 20 rfl rfl)
theorem dX6_coversNow_118 : decode cX6_coversNow 118 = .ok (.iload 5, 2) := dk_21 5 (dk_at dksX6_coversNow_5 0 rfl rfl)
theorem dX6_coversNow_120 : decode cX6_coversNow 120 = .ok (.ireturn, 1) := dk_172 (dk_at dksX6_coversNow_5 2 rfl rfl)
abbrev cX6_digitOf : ByteArray := prog_27_method_39_code
def yX6_digitOf : MethodName := ⟨RX6, "digitOf", "(II)I"⟩
def dkwX6_digitOf_1 : List UInt8 := [172]
abbrev dktX6_digitOf_1 : List UInt8 := dkwX6_digitOf_1 ++ []
def dkwX6_digitOf_0 : List UInt8 := [26, 61, 27, 62, 29, 8, 162, 0, 14, 28, 16, 10, 108, 61, 132, 3, 1, 167, 255, 243, 28, 16, 10, 112]
abbrev dktX6_digitOf_0 : List UInt8 := dkwX6_digitOf_0 ++ dktX6_digitOf_1
theorem dksX6_digitOf_0 : cX6_digitOf.data.toList.drop 0 = dktX6_digitOf_0 := by decide +kernel
theorem dksX6_digitOf_1 : cX6_digitOf.data.toList.drop 24 = dktX6_digitOf_1 := dk_seg dksX6_digitOf_0 24 rfl rfl
theorem dX6_digitOf_0 : decode cX6_digitOf 0 = .ok (.iload_n 0, 1) := dk_26 (dk_at dksX6_digitOf_0 0 rfl rfl)
theorem dX6_digitOf_1 : decode cX6_digitOf 1 = .ok (.istore_n 2, 1) := dk_61 (dk_at dksX6_digitOf_0 1 rfl rfl)
theorem dX6_digitOf_2 : decode cX6_digitOf 2 = .ok (.iload_n 1, 1) := dk_27 (dk_at dksX6_digitOf_0 2 rfl rfl)
theorem dX6_digitOf_3 : decode cX6_digitOf 3 = .ok (.istore_n 3, 1) := dk_62 (dk_at dksX6_digitOf_0 3 rfl rfl)
theorem dX6_digitOf_4 : decode cX6_digitOf 4 = .ok (.iload_n 3, 1) := dk_29 (dk_at dksX6_digitOf_0 4 rfl rfl)
theorem dX6_digitOf_5 : decode cX6_digitOf 5 = .ok (.iconst 5, 1) := dk_8 (dk_at dksX6_digitOf_0 5 rfl rfl)
theorem dX6_digitOf_6 : decode cX6_digitOf 6 = .ok (.if_icmp .ge 14, 3) := dk_162 0 14 (dk_at dksX6_digitOf_0 6 rfl rfl)
theorem dX6_digitOf_9 : decode cX6_digitOf 9 = .ok (.iload_n 2, 1) := dk_28 (dk_at dksX6_digitOf_0 9 rfl rfl)
theorem dX6_digitOf_10 : decode cX6_digitOf 10 = .ok (.bipush 10, 2) := dk_16 10 (dk_at dksX6_digitOf_0 10 rfl rfl)
theorem dX6_digitOf_12 : decode cX6_digitOf 12 = .ok (.idiv, 1) := dk_108 (dk_at dksX6_digitOf_0 12 rfl rfl)
theorem dX6_digitOf_13 : decode cX6_digitOf 13 = .ok (.istore_n 2, 1) := dk_61 (dk_at dksX6_digitOf_0 13 rfl rfl)
theorem dX6_digitOf_14 : decode cX6_digitOf 14 = .ok (.iinc 3 1, 3) := dk_132 3 1 (dk_at dksX6_digitOf_0 14 rfl rfl)
theorem dX6_digitOf_17 : decode cX6_digitOf 17 = .ok (.goto (-13), 3) := dk_167 255 243 (dk_at dksX6_digitOf_0 17 rfl rfl)
theorem dX6_digitOf_20 : decode cX6_digitOf 20 = .ok (.iload_n 2, 1) := dk_28 (dk_at dksX6_digitOf_0 20 rfl rfl)
theorem dX6_digitOf_21 : decode cX6_digitOf 21 = .ok (.bipush 10, 2) := dk_16 10 (dk_at dksX6_digitOf_0 21 rfl rfl)
theorem dX6_digitOf_23 : decode cX6_digitOf 23 = .ok (.irem, 1) := dk_112 (dk_at dksX6_digitOf_0 23 rfl rfl)
theorem dX6_digitOf_24 : decode cX6_digitOf 24 = .ok (.ireturn, 1) := dk_172 (dk_at dksX6_digitOf_1 0 rfl rfl)
abbrev cX6_holds : ByteArray := prog_27_method_50_code
def yX6_holds : MethodName := ⟨RX6, "holds", "(IIII)Z"⟩
def dkwX6_holds_1 : List UInt8 := [42, 180, 0, 62, 158, 0, 5, 3, 172, 42, 28, 29, 21, 4, 182, 0, 181, 42, 180, 0, 29, 27, 51, 172]
abbrev dktX6_holds_1 : List UInt8 := dkwX6_holds_1 ++ []
def dkwX6_holds_0 : List UInt8 := [42, 42, 27, 182, 0, 142, 154, 0, 7, 4, 167, 0, 11, 42, 28, 29, 21, 4, 182, 0, 199, 181, 0, 62]
abbrev dktX6_holds_0 : List UInt8 := dkwX6_holds_0 ++ dktX6_holds_1
theorem dksX6_holds_0 : cX6_holds.data.toList.drop 0 = dktX6_holds_0 := by decide +kernel
theorem dksX6_holds_1 : cX6_holds.data.toList.drop 24 = dktX6_holds_1 := dk_seg dksX6_holds_0 24 rfl rfl
theorem dX6_holds_0 : decode cX6_holds 0 = .ok (.aload_n 0, 1) := dk_42 (dk_at dksX6_holds_0 0 rfl rfl)
theorem dX6_holds_1 : decode cX6_holds 1 = .ok (.aload_n 0, 1) := dk_42 (dk_at dksX6_holds_0 1 rfl rfl)
theorem dX6_holds_2 : decode cX6_holds 2 = .ok (.iload_n 1, 1) := dk_27 (dk_at dksX6_holds_0 2 rfl rfl)
theorem dX6_holds_3 : decode cX6_holds 3 = .ok (.invokevirtual 142, 3) := dk_182 0 142 (dk_at dksX6_holds_0 3 rfl rfl)
theorem dX6_holds_6 : decode cX6_holds 6 = .ok (.ifCond .ne 7, 3) := dk_154 0 7 (dk_at dksX6_holds_0 6 rfl rfl)
theorem dX6_holds_9 : decode cX6_holds 9 = .ok (.iconst 1, 1) := dk_4 (dk_at dksX6_holds_0 9 rfl rfl)
theorem dX6_holds_10 : decode cX6_holds 10 = .ok (.goto 11, 3) := dk_167 0 11 (dk_at dksX6_holds_0 10 rfl rfl)
theorem dX6_holds_13 : decode cX6_holds 13 = .ok (.aload_n 0, 1) := dk_42 (dk_at dksX6_holds_0 13 rfl rfl)
theorem dX6_holds_14 : decode cX6_holds 14 = .ok (.iload_n 2, 1) := dk_28 (dk_at dksX6_holds_0 14 rfl rfl)
theorem dX6_holds_15 : decode cX6_holds 15 = .ok (.iload_n 3, 1) := dk_29 (dk_at dksX6_holds_0 15 rfl rfl)
theorem dX6_holds_16 : decode cX6_holds 16 = .ok (.iload 4, 2) := dk_21 4 (dk_at dksX6_holds_0 16 rfl rfl)
theorem dX6_holds_18 : decode cX6_holds 18 = .ok (.invokevirtual 199, 3) := dk_182 0 199 (dk_at dksX6_holds_0 18 rfl rfl)
theorem dX6_holds_21 : decode cX6_holds 21 = .ok (.putfield 62, 3) := dk_181 0 62 (dk_at dksX6_holds_0 21 rfl rfl)
theorem dX6_holds_24 : decode cX6_holds 24 = .ok (.aload_n 0, 1) := dk_42 (dk_at dksX6_holds_1 0 rfl rfl)
theorem dX6_holds_25 : decode cX6_holds 25 = .ok (.getfield 62, 3) := dk_180 0 62 (dk_at dksX6_holds_1 1 rfl rfl)
theorem dX6_holds_28 : decode cX6_holds 28 = .ok (.ifCond .le 5, 3) := dk_158 0 5 (dk_at dksX6_holds_1 4 rfl rfl)
theorem dX6_holds_31 : decode cX6_holds 31 = .ok (.iconst 0, 1) := dk_3 (dk_at dksX6_holds_1 7 rfl rfl)
theorem dX6_holds_32 : decode cX6_holds 32 = .ok (.ireturn, 1) := dk_172 (dk_at dksX6_holds_1 8 rfl rfl)
theorem dX6_holds_33 : decode cX6_holds 33 = .ok (.aload_n 0, 1) := dk_42 (dk_at dksX6_holds_1 9 rfl rfl)
theorem dX6_holds_34 : decode cX6_holds 34 = .ok (.iload_n 2, 1) := dk_28 (dk_at dksX6_holds_1 10 rfl rfl)
theorem dX6_holds_35 : decode cX6_holds 35 = .ok (.iload_n 3, 1) := dk_29 (dk_at dksX6_holds_1 11 rfl rfl)
theorem dX6_holds_36 : decode cX6_holds 36 = .ok (.iload 4, 2) := dk_21 4 (dk_at dksX6_holds_1 12 rfl rfl)
theorem dX6_holds_38 : decode cX6_holds 38 = .ok (.invokevirtual 181, 3) := dk_182 0 181 (dk_at dksX6_holds_1 14 rfl rfl)
theorem dX6_holds_41 : decode cX6_holds 41 = .ok (.aload_n 0, 1) := dk_42 (dk_at dksX6_holds_1 17 rfl rfl)
theorem dX6_holds_42 : decode cX6_holds 42 = .ok (.getfield 29, 3) := dk_180 0 29 (dk_at dksX6_holds_1 18 rfl rfl)
theorem dX6_holds_45 : decode cX6_holds 45 = .ok (.iload_n 1, 1) := dk_27 (dk_at dksX6_holds_1 21 rfl rfl)
theorem dX6_holds_46 : decode cX6_holds 46 = .ok (.baload, 1) := dk_51 (dk_at dksX6_holds_1 22 rfl rfl)
theorem dX6_holds_47 : decode cX6_holds 47 = .ok (.ireturn, 1) := dk_172 (dk_at dksX6_holds_1 23 rfl rfl)
abbrev cX6_look : ByteArray := prog_27_method_41_code
def yX6_look : MethodName := ⟨RX6, "look", "(III)V"⟩
def dkwX6_look_4 : List UInt8 := [51, 154, 0, 7, 4, 167, 0, 4, 3, 84, 132, 5, 1, 167, 255, 198, 132, 4, 255, 167, 255, 151, 177]
abbrev dktX6_look_4 : List UInt8 := dkwX6_look_4 ++ []
def dkwX6_look_3 : List UInt8 := [21, 4, 51, 153, 0, 29, 42, 21, 5, 8, 182, 0, 104, 21, 4, 160, 0, 13, 42, 180, 0, 29, 21, 5]
abbrev dktX6_look_3 : List UInt8 := dkwX6_look_3 ++ dktX6_look_4
def dkwX6_look_2 : List UInt8 := [96, 54, 5, 21, 5, 42, 180, 0, 9, 4, 46, 162, 0, 53, 42, 180, 0, 29, 21, 4, 42, 180, 0, 29]
abbrev dktX6_look_2 : List UInt8 := dkwX6_look_2 ++ dktX6_look_3
def dkwX6_look_1 : List UInt8 := [27, 28, 29, 182, 0, 174, 84, 42, 180, 0, 29, 21, 4, 42, 180, 0, 25, 21, 4, 51, 84, 21, 4, 4]
abbrev dktX6_look_1 : List UInt8 := dkwX6_look_1 ++ dktX6_look_2
def dkwX6_look_0 : List UInt8 := [42, 180, 0, 9, 4, 46, 4, 100, 54, 4, 21, 4, 155, 0, 106, 42, 180, 0, 25, 21, 4, 42, 21, 4]
abbrev dktX6_look_0 : List UInt8 := dkwX6_look_0 ++ dktX6_look_1
theorem dksX6_look_0 : cX6_look.data.toList.drop 0 = dktX6_look_0 := by decide +kernel
theorem dksX6_look_1 : cX6_look.data.toList.drop 24 = dktX6_look_1 := dk_seg dksX6_look_0 24 rfl rfl
theorem dksX6_look_2 : cX6_look.data.toList.drop 48 = dktX6_look_2 := dk_seg dksX6_look_1 24 rfl rfl
theorem dksX6_look_3 : cX6_look.data.toList.drop 72 = dktX6_look_3 := dk_seg dksX6_look_2 24 rfl rfl
theorem dksX6_look_4 : cX6_look.data.toList.drop 96 = dktX6_look_4 := dk_seg dksX6_look_3 24 rfl rfl
theorem dX6_look_0 : decode cX6_look 0 = .ok (.aload_n 0, 1) := dk_42 (dk_at dksX6_look_0 0 rfl rfl)
theorem dX6_look_1 : decode cX6_look 1 = .ok (.getfield 9, 3) := dk_180 0 9 (dk_at dksX6_look_0 1 rfl rfl)
theorem dX6_look_4 : decode cX6_look 4 = .ok (.iconst 1, 1) := dk_4 (dk_at dksX6_look_0 4 rfl rfl)
theorem dX6_look_5 : decode cX6_look 5 = .ok (.iaload, 1) := dk_46 (dk_at dksX6_look_0 5 rfl rfl)
theorem dX6_look_6 : decode cX6_look 6 = .ok (.iconst 1, 1) := dk_4 (dk_at dksX6_look_0 6 rfl rfl)
theorem dX6_look_7 : decode cX6_look 7 = .ok (.isub, 1) := dk_100 (dk_at dksX6_look_0 7 rfl rfl)
theorem dX6_look_8 : decode cX6_look 8 = .ok (.istore 4, 2) := dk_54 4 (dk_at dksX6_look_0 8 rfl rfl)
theorem dX6_look_10 : decode cX6_look 10 = .ok (.iload 4, 2) := dk_21 4 (dk_at dksX6_look_0 10 rfl rfl)
theorem dX6_look_12 : decode cX6_look 12 = .ok (.ifCond .lt 106, 3) := dk_155 0 106 (dk_at dksX6_look_0 12 rfl rfl)
theorem dX6_look_15 : decode cX6_look 15 = .ok (.aload_n 0, 1) := dk_42 (dk_at dksX6_look_0 15 rfl rfl)
theorem dX6_look_16 : decode cX6_look 16 = .ok (.getfield 25, 3) := dk_180 0 25 (dk_at dksX6_look_0 16 rfl rfl)
theorem dX6_look_19 : decode cX6_look 19 = .ok (.iload 4, 2) := dk_21 4 (dk_at dksX6_look_0 19 rfl rfl)
theorem dX6_look_21 : decode cX6_look 21 = .ok (.aload_n 0, 1) := dk_42 (dk_at dksX6_look_0 21 rfl rfl)
theorem dX6_look_22 : decode cX6_look 22 = .ok (.iload 4, 2) := dk_21 4 (dk_at dksX6_look_0 22 rfl rfl)
theorem dX6_look_24 : decode cX6_look 24 = .ok (.iload_n 1, 1) := dk_27 (dk_at dksX6_look_1 0 rfl rfl)
theorem dX6_look_25 : decode cX6_look 25 = .ok (.iload_n 2, 1) := dk_28 (dk_at dksX6_look_1 1 rfl rfl)
theorem dX6_look_26 : decode cX6_look 26 = .ok (.iload_n 3, 1) := dk_29 (dk_at dksX6_look_1 2 rfl rfl)
theorem dX6_look_27 : decode cX6_look 27 = .ok (.invokevirtual 174, 3) := dk_182 0 174 (dk_at dksX6_look_1 3 rfl rfl)
theorem dX6_look_30 : decode cX6_look 30 = .ok (.bastore, 1) := dk_84 (dk_at dksX6_look_1 6 rfl rfl)
theorem dX6_look_31 : decode cX6_look 31 = .ok (.aload_n 0, 1) := dk_42 (dk_at dksX6_look_1 7 rfl rfl)
theorem dX6_look_32 : decode cX6_look 32 = .ok (.getfield 29, 3) := dk_180 0 29 (dk_at dksX6_look_1 8 rfl rfl)
theorem dX6_look_35 : decode cX6_look 35 = .ok (.iload 4, 2) := dk_21 4 (dk_at dksX6_look_1 11 rfl rfl)
theorem dX6_look_37 : decode cX6_look 37 = .ok (.aload_n 0, 1) := dk_42 (dk_at dksX6_look_1 13 rfl rfl)
theorem dX6_look_38 : decode cX6_look 38 = .ok (.getfield 25, 3) := dk_180 0 25 (dk_at dksX6_look_1 14 rfl rfl)
theorem dX6_look_41 : decode cX6_look 41 = .ok (.iload 4, 2) := dk_21 4 (dk_at dksX6_look_1 17 rfl rfl)
theorem dX6_look_43 : decode cX6_look 43 = .ok (.baload, 1) := dk_51 (dk_at dksX6_look_1 19 rfl rfl)
theorem dX6_look_44 : decode cX6_look 44 = .ok (.bastore, 1) := dk_84 (dk_at dksX6_look_1 20 rfl rfl)
theorem dX6_look_45 : decode cX6_look 45 = .ok (.iload 4, 2) := dk_21 4 (dk_at dksX6_look_1 21 rfl rfl)
theorem dX6_look_47 : decode cX6_look 47 = .ok (.iconst 1, 1) := dk_4 (dk_at dksX6_look_1 23 rfl rfl)
theorem dX6_look_48 : decode cX6_look 48 = .ok (.iadd, 1) := dk_96 (dk_at dksX6_look_2 0 rfl rfl)
theorem dX6_look_49 : decode cX6_look 49 = .ok (.istore 5, 2) := dk_54 5 (dk_at dksX6_look_2 1 rfl rfl)
theorem dX6_look_51 : decode cX6_look 51 = .ok (.iload 5, 2) := dk_21 5 (dk_at dksX6_look_2 3 rfl rfl)
theorem dX6_look_53 : decode cX6_look 53 = .ok (.aload_n 0, 1) := dk_42 (dk_at dksX6_look_2 5 rfl rfl)
theorem dX6_look_54 : decode cX6_look 54 = .ok (.getfield 9, 3) := dk_180 0 9 (dk_at dksX6_look_2 6 rfl rfl)
theorem dX6_look_57 : decode cX6_look 57 = .ok (.iconst 1, 1) := dk_4 (dk_at dksX6_look_2 9 rfl rfl)
theorem dX6_look_58 : decode cX6_look 58 = .ok (.iaload, 1) := dk_46 (dk_at dksX6_look_2 10 rfl rfl)
theorem dX6_look_59 : decode cX6_look 59 = .ok (.if_icmp .ge 53, 3) := dk_162 0 53 (dk_at dksX6_look_2 11 rfl rfl)
theorem dX6_look_62 : decode cX6_look 62 = .ok (.aload_n 0, 1) := dk_42 (dk_at dksX6_look_2 14 rfl rfl)
theorem dX6_look_63 : decode cX6_look 63 = .ok (.getfield 29, 3) := dk_180 0 29 (dk_at dksX6_look_2 15 rfl rfl)
theorem dX6_look_66 : decode cX6_look 66 = .ok (.iload 4, 2) := dk_21 4 (dk_at dksX6_look_2 18 rfl rfl)
theorem dX6_look_68 : decode cX6_look 68 = .ok (.aload_n 0, 1) := dk_42 (dk_at dksX6_look_2 20 rfl rfl)
theorem dX6_look_69 : decode cX6_look 69 = .ok (.getfield 29, 3) := dk_180 0 29 (dk_at dksX6_look_2 21 rfl rfl)
theorem dX6_look_72 : decode cX6_look 72 = .ok (.iload 4, 2) := dk_21 4 (dk_at dksX6_look_3 0 rfl rfl)
theorem dX6_look_74 : decode cX6_look 74 = .ok (.baload, 1) := dk_51 (dk_at dksX6_look_3 2 rfl rfl)
theorem dX6_look_75 : decode cX6_look 75 = .ok (.ifCond .eq 29, 3) := dk_153 0 29 (dk_at dksX6_look_3 3 rfl rfl)
theorem dX6_look_78 : decode cX6_look 78 = .ok (.aload_n 0, 1) := dk_42 (dk_at dksX6_look_3 6 rfl rfl)
theorem dX6_look_79 : decode cX6_look 79 = .ok (.iload 5, 2) := dk_21 5 (dk_at dksX6_look_3 7 rfl rfl)
theorem dX6_look_81 : decode cX6_look 81 = .ok (.iconst 5, 1) := dk_8 (dk_at dksX6_look_3 9 rfl rfl)
theorem dX6_look_82 : decode cX6_look 82 = .ok (.invokevirtual 104, 3) := dk_182 0 104 (dk_at dksX6_look_3 10 rfl rfl)
theorem dX6_look_85 : decode cX6_look 85 = .ok (.iload 4, 2) := dk_21 4 (dk_at dksX6_look_3 13 rfl rfl)
theorem dX6_look_87 : decode cX6_look 87 = .ok (.if_icmp .ne 13, 3) := dk_160 0 13 (dk_at dksX6_look_3 15 rfl rfl)
theorem dX6_look_90 : decode cX6_look 90 = .ok (.aload_n 0, 1) := dk_42 (dk_at dksX6_look_3 18 rfl rfl)
theorem dX6_look_91 : decode cX6_look 91 = .ok (.getfield 29, 3) := dk_180 0 29 (dk_at dksX6_look_3 19 rfl rfl)
theorem dX6_look_94 : decode cX6_look 94 = .ok (.iload 5, 2) := dk_21 5 (dk_at dksX6_look_3 22 rfl rfl)
theorem dX6_look_96 : decode cX6_look 96 = .ok (.baload, 1) := dk_51 (dk_at dksX6_look_4 0 rfl rfl)
theorem dX6_look_97 : decode cX6_look 97 = .ok (.ifCond .ne 7, 3) := dk_154 0 7 (dk_at dksX6_look_4 1 rfl rfl)
theorem dX6_look_100 : decode cX6_look 100 = .ok (.iconst 1, 1) := dk_4 (dk_at dksX6_look_4 4 rfl rfl)
theorem dX6_look_101 : decode cX6_look 101 = .ok (.goto 4, 3) := dk_167 0 4 (dk_at dksX6_look_4 5 rfl rfl)
theorem dX6_look_104 : decode cX6_look 104 = .ok (.iconst 0, 1) := dk_3 (dk_at dksX6_look_4 8 rfl rfl)
theorem dX6_look_105 : decode cX6_look 105 = .ok (.bastore, 1) := dk_84 (dk_at dksX6_look_4 9 rfl rfl)
theorem dX6_look_106 : decode cX6_look 106 = .ok (.iinc 5 1, 3) := dk_132 5 1 (dk_at dksX6_look_4 10 rfl rfl)
theorem dX6_look_109 : decode cX6_look 109 = .ok (.goto (-58), 3) := dk_167 255 198 (dk_at dksX6_look_4 13 rfl rfl)
theorem dX6_look_112 : decode cX6_look 112 = .ok (.iinc 4 (-1), 3) := dk_132 4 255 (dk_at dksX6_look_4 16 rfl rfl)
theorem dX6_look_115 : decode cX6_look 115 = .ok (.goto (-105), 3) := dk_167 255 151 (dk_at dksX6_look_4 19 rfl rfl)
theorem dX6_look_118 : decode cX6_look 118 = .ok (.return_, 1) := dk_177 (dk_at dksX6_look_4 22 rfl rfl)
abbrev cX6_holdsAgain : ByteArray := prog_27_method_51_code
def yX6_holdsAgain : MethodName := ⟨RX6, "holdsAgain", "(IIII)Z"⟩
def dkwX6_holdsAgain_0 : List UInt8 := [42, 27, 28, 29, 21, 4, 182, 0, 202, 172]
abbrev dktX6_holdsAgain_0 : List UInt8 := dkwX6_holdsAgain_0 ++ []
theorem dksX6_holdsAgain_0 : cX6_holdsAgain.data.toList.drop 0 = dktX6_holdsAgain_0 := by decide +kernel
theorem dX6_holdsAgain_0 : decode cX6_holdsAgain 0 = .ok (.aload_n 0, 1) := dk_42 (dk_at dksX6_holdsAgain_0 0 rfl rfl)
theorem dX6_holdsAgain_1 : decode cX6_holdsAgain 1 = .ok (.iload_n 1, 1) := dk_27 (dk_at dksX6_holdsAgain_0 1 rfl rfl)
theorem dX6_holdsAgain_2 : decode cX6_holdsAgain 2 = .ok (.iload_n 2, 1) := dk_28 (dk_at dksX6_holdsAgain_0 2 rfl rfl)
theorem dX6_holdsAgain_3 : decode cX6_holdsAgain 3 = .ok (.iload_n 3, 1) := dk_29 (dk_at dksX6_holdsAgain_0 3 rfl rfl)
theorem dX6_holdsAgain_4 : decode cX6_holdsAgain 4 = .ok (.iload 4, 2) := dk_21 4 (dk_at dksX6_holdsAgain_0 4 rfl rfl)
theorem dX6_holdsAgain_6 : decode cX6_holdsAgain 6 = .ok (.invokevirtual 202, 3) := dk_182 0 202 (dk_at dksX6_holdsAgain_0 6 rfl rfl)
theorem dX6_holdsAgain_9 : decode cX6_holdsAgain 9 = .ok (.ireturn, 1) := dk_172 (dk_at dksX6_holdsAgain_0 9 rfl rfl)
abbrev cX6_outcome : ByteArray := prog_27_method_52_code
def yX6_outcome : MethodName := ⟨RX6, "outcome", "(III)I"⟩
def dkwX6_outcome_1 : List UInt8 := [28, 29, 182, 0, 204, 172]
abbrev dktX6_outcome_1 : List UInt8 := dkwX6_outcome_1 ++ []
def dkwX6_outcome_0 : List UInt8 := [42, 42, 27, 28, 29, 182, 0, 199, 181, 0, 62, 42, 180, 0, 62, 158, 0, 7, 3, 167, 0, 10, 42, 27]
abbrev dktX6_outcome_0 : List UInt8 := dkwX6_outcome_0 ++ dktX6_outcome_1
theorem dksX6_outcome_0 : cX6_outcome.data.toList.drop 0 = dktX6_outcome_0 := by decide +kernel
theorem dksX6_outcome_1 : cX6_outcome.data.toList.drop 24 = dktX6_outcome_1 := dk_seg dksX6_outcome_0 24 rfl rfl
theorem dX6_outcome_0 : decode cX6_outcome 0 = .ok (.aload_n 0, 1) := dk_42 (dk_at dksX6_outcome_0 0 rfl rfl)
theorem dX6_outcome_1 : decode cX6_outcome 1 = .ok (.aload_n 0, 1) := dk_42 (dk_at dksX6_outcome_0 1 rfl rfl)
theorem dX6_outcome_2 : decode cX6_outcome 2 = .ok (.iload_n 1, 1) := dk_27 (dk_at dksX6_outcome_0 2 rfl rfl)
theorem dX6_outcome_3 : decode cX6_outcome 3 = .ok (.iload_n 2, 1) := dk_28 (dk_at dksX6_outcome_0 3 rfl rfl)
theorem dX6_outcome_4 : decode cX6_outcome 4 = .ok (.iload_n 3, 1) := dk_29 (dk_at dksX6_outcome_0 4 rfl rfl)
theorem dX6_outcome_5 : decode cX6_outcome 5 = .ok (.invokevirtual 199, 3) := dk_182 0 199 (dk_at dksX6_outcome_0 5 rfl rfl)
theorem dX6_outcome_8 : decode cX6_outcome 8 = .ok (.putfield 62, 3) := dk_181 0 62 (dk_at dksX6_outcome_0 8 rfl rfl)
theorem dX6_outcome_11 : decode cX6_outcome 11 = .ok (.aload_n 0, 1) := dk_42 (dk_at dksX6_outcome_0 11 rfl rfl)
theorem dX6_outcome_12 : decode cX6_outcome 12 = .ok (.getfield 62, 3) := dk_180 0 62 (dk_at dksX6_outcome_0 12 rfl rfl)
theorem dX6_outcome_15 : decode cX6_outcome 15 = .ok (.ifCond .le 7, 3) := dk_158 0 7 (dk_at dksX6_outcome_0 15 rfl rfl)
theorem dX6_outcome_18 : decode cX6_outcome 18 = .ok (.iconst 0, 1) := dk_3 (dk_at dksX6_outcome_0 18 rfl rfl)
theorem dX6_outcome_19 : decode cX6_outcome 19 = .ok (.goto 10, 3) := dk_167 0 10 (dk_at dksX6_outcome_0 19 rfl rfl)
theorem dX6_outcome_22 : decode cX6_outcome 22 = .ok (.aload_n 0, 1) := dk_42 (dk_at dksX6_outcome_0 22 rfl rfl)
theorem dX6_outcome_23 : decode cX6_outcome 23 = .ok (.iload_n 1, 1) := dk_27 (dk_at dksX6_outcome_0 23 rfl rfl)
theorem dX6_outcome_24 : decode cX6_outcome 24 = .ok (.iload_n 2, 1) := dk_28 (dk_at dksX6_outcome_1 0 rfl rfl)
theorem dX6_outcome_25 : decode cX6_outcome 25 = .ok (.iload_n 3, 1) := dk_29 (dk_at dksX6_outcome_1 1 rfl rfl)
theorem dX6_outcome_26 : decode cX6_outcome 26 = .ok (.invokevirtual 204, 3) := dk_182 0 204 (dk_at dksX6_outcome_1 2 rfl rfl)
theorem dX6_outcome_29 : decode cX6_outcome 29 = .ok (.ireturn, 1) := dk_172 (dk_at dksX6_outcome_1 5 rfl rfl)
abbrev cX6_outcomeOf : ByteArray := prog_27_method_44_code
def yX6_outcomeOf : MethodName := ⟨RX6, "outcomeOf", "(III)I"⟩
def dkwX6_outcomeOf_1 : List UInt8 := [167, 0, 10, 42, 21, 4, 3, 182, 0, 104, 172]
abbrev dktX6_outcomeOf_1 : List UInt8 := dkwX6_outcomeOf_1 ++ []
def dkwX6_outcomeOf_0 : List UInt8 := [42, 27, 28, 29, 182, 0, 181, 42, 182, 0, 184, 54, 4, 21, 4, 156, 0, 11, 42, 27, 182, 0, 101]
abbrev dktX6_outcomeOf_0 : List UInt8 := dkwX6_outcomeOf_0 ++ dktX6_outcomeOf_1
theorem dksX6_outcomeOf_0 : cX6_outcomeOf.data.toList.drop 0 = dktX6_outcomeOf_0 := by decide +kernel
theorem dksX6_outcomeOf_1 : cX6_outcomeOf.data.toList.drop 23 = dktX6_outcomeOf_1 := dk_seg dksX6_outcomeOf_0 23 rfl rfl
theorem dX6_outcomeOf_0 : decode cX6_outcomeOf 0 = .ok (.aload_n 0, 1) := dk_42 (dk_at dksX6_outcomeOf_0 0 rfl rfl)
theorem dX6_outcomeOf_1 : decode cX6_outcomeOf 1 = .ok (.iload_n 1, 1) := dk_27 (dk_at dksX6_outcomeOf_0 1 rfl rfl)
theorem dX6_outcomeOf_2 : decode cX6_outcomeOf 2 = .ok (.iload_n 2, 1) := dk_28 (dk_at dksX6_outcomeOf_0 2 rfl rfl)
theorem dX6_outcomeOf_3 : decode cX6_outcomeOf 3 = .ok (.iload_n 3, 1) := dk_29 (dk_at dksX6_outcomeOf_0 3 rfl rfl)
theorem dX6_outcomeOf_4 : decode cX6_outcomeOf 4 = .ok (.invokevirtual 181, 3) := dk_182 0 181 (dk_at dksX6_outcomeOf_0 4 rfl rfl)
theorem dX6_outcomeOf_7 : decode cX6_outcomeOf 7 = .ok (.aload_n 0, 1) := dk_42 (dk_at dksX6_outcomeOf_0 7 rfl rfl)
theorem dX6_outcomeOf_8 : decode cX6_outcomeOf 8 = .ok (.invokevirtual 184, 3) := dk_182 0 184 (dk_at dksX6_outcomeOf_0 8 rfl rfl)
theorem dX6_outcomeOf_11 : decode cX6_outcomeOf 11 = .ok (.istore 4, 2) := dk_54 4 (dk_at dksX6_outcomeOf_0 11 rfl rfl)
theorem dX6_outcomeOf_13 : decode cX6_outcomeOf 13 = .ok (.iload 4, 2) := dk_21 4 (dk_at dksX6_outcomeOf_0 13 rfl rfl)
theorem dX6_outcomeOf_15 : decode cX6_outcomeOf 15 = .ok (.ifCond .ge 11, 3) := dk_156 0 11 (dk_at dksX6_outcomeOf_0 15 rfl rfl)
theorem dX6_outcomeOf_18 : decode cX6_outcomeOf 18 = .ok (.aload_n 0, 1) := dk_42 (dk_at dksX6_outcomeOf_0 18 rfl rfl)
theorem dX6_outcomeOf_19 : decode cX6_outcomeOf 19 = .ok (.iload_n 1, 1) := dk_27 (dk_at dksX6_outcomeOf_0 19 rfl rfl)
theorem dX6_outcomeOf_20 : decode cX6_outcomeOf 20 = .ok (.invokevirtual 101, 3) := dk_182 0 101 (dk_at dksX6_outcomeOf_0 20 rfl rfl)
theorem dX6_outcomeOf_23 : decode cX6_outcomeOf 23 = .ok (.goto 10, 3) := dk_167 0 10 (dk_at dksX6_outcomeOf_1 0 rfl rfl)
theorem dX6_outcomeOf_26 : decode cX6_outcomeOf 26 = .ok (.aload_n 0, 1) := dk_42 (dk_at dksX6_outcomeOf_1 3 rfl rfl)
theorem dX6_outcomeOf_27 : decode cX6_outcomeOf 27 = .ok (.iload 4, 2) := dk_21 4 (dk_at dksX6_outcomeOf_1 4 rfl rfl)
theorem dX6_outcomeOf_29 : decode cX6_outcomeOf 29 = .ok (.iconst 0, 1) := dk_3 (dk_at dksX6_outcomeOf_1 6 rfl rfl)
theorem dX6_outcomeOf_30 : decode cX6_outcomeOf 30 = .ok (.invokevirtual 104, 3) := dk_182 0 104 (dk_at dksX6_outcomeOf_1 7 rfl rfl)
theorem dX6_outcomeOf_33 : decode cX6_outcomeOf 33 = .ok (.ireturn, 1) := dk_172 (dk_at dksX6_outcomeOf_1 10 rfl rfl)
abbrev cX6_prevailing : ByteArray := prog_27_method_43_code
def yX6_prevailing : MethodName := ⟨RX6, "prevailing", "()I"⟩
def dkwX6_prevailing_2 : List UInt8 := [132, 2, 1, 167, 255, 210, 27, 172]
abbrev dktX6_prevailing_2 : List UInt8 := dkwX6_prevailing_2 ++ []
def dkwX6_prevailing_1 : List UInt8 := [180, 0, 29, 28, 51, 153, 0, 18, 27, 155, 0, 12, 42, 28, 27, 182, 0, 178, 158, 0, 5, 28, 60]
abbrev dktX6_prevailing_1 : List UInt8 := dkwX6_prevailing_1 ++ dktX6_prevailing_2
def dkwX6_prevailing_0 : List UInt8 := [2, 60, 3, 61, 28, 42, 180, 0, 9, 4, 46, 162, 0, 42, 42, 28, 8, 182, 0, 104, 156, 0, 27, 42]
abbrev dktX6_prevailing_0 : List UInt8 := dkwX6_prevailing_0 ++ dktX6_prevailing_1
theorem dksX6_prevailing_0 : cX6_prevailing.data.toList.drop 0 = dktX6_prevailing_0 := by decide +kernel
theorem dksX6_prevailing_1 : cX6_prevailing.data.toList.drop 24 = dktX6_prevailing_1 := dk_seg dksX6_prevailing_0 24 rfl rfl
theorem dksX6_prevailing_2 : cX6_prevailing.data.toList.drop 47 = dktX6_prevailing_2 := dk_seg dksX6_prevailing_1 23 rfl rfl
theorem dX6_prevailing_0 : decode cX6_prevailing 0 = .ok (.iconst (-1), 1) := dk_2 (dk_at dksX6_prevailing_0 0 rfl rfl)
theorem dX6_prevailing_1 : decode cX6_prevailing 1 = .ok (.istore_n 1, 1) := dk_60 (dk_at dksX6_prevailing_0 1 rfl rfl)
theorem dX6_prevailing_2 : decode cX6_prevailing 2 = .ok (.iconst 0, 1) := dk_3 (dk_at dksX6_prevailing_0 2 rfl rfl)
theorem dX6_prevailing_3 : decode cX6_prevailing 3 = .ok (.istore_n 2, 1) := dk_61 (dk_at dksX6_prevailing_0 3 rfl rfl)
theorem dX6_prevailing_4 : decode cX6_prevailing 4 = .ok (.iload_n 2, 1) := dk_28 (dk_at dksX6_prevailing_0 4 rfl rfl)
theorem dX6_prevailing_5 : decode cX6_prevailing 5 = .ok (.aload_n 0, 1) := dk_42 (dk_at dksX6_prevailing_0 5 rfl rfl)
theorem dX6_prevailing_6 : decode cX6_prevailing 6 = .ok (.getfield 9, 3) := dk_180 0 9 (dk_at dksX6_prevailing_0 6 rfl rfl)
theorem dX6_prevailing_9 : decode cX6_prevailing 9 = .ok (.iconst 1, 1) := dk_4 (dk_at dksX6_prevailing_0 9 rfl rfl)
theorem dX6_prevailing_10 : decode cX6_prevailing 10 = .ok (.iaload, 1) := dk_46 (dk_at dksX6_prevailing_0 10 rfl rfl)
theorem dX6_prevailing_11 : decode cX6_prevailing 11 = .ok (.if_icmp .ge 42, 3) := dk_162 0 42 (dk_at dksX6_prevailing_0 11 rfl rfl)
theorem dX6_prevailing_14 : decode cX6_prevailing 14 = .ok (.aload_n 0, 1) := dk_42 (dk_at dksX6_prevailing_0 14 rfl rfl)
theorem dX6_prevailing_15 : decode cX6_prevailing 15 = .ok (.iload_n 2, 1) := dk_28 (dk_at dksX6_prevailing_0 15 rfl rfl)
theorem dX6_prevailing_16 : decode cX6_prevailing 16 = .ok (.iconst 5, 1) := dk_8 (dk_at dksX6_prevailing_0 16 rfl rfl)
theorem dX6_prevailing_17 : decode cX6_prevailing 17 = .ok (.invokevirtual 104, 3) := dk_182 0 104 (dk_at dksX6_prevailing_0 17 rfl rfl)
theorem dX6_prevailing_20 : decode cX6_prevailing 20 = .ok (.ifCond .ge 27, 3) := dk_156 0 27 (dk_at dksX6_prevailing_0 20 rfl rfl)
theorem dX6_prevailing_23 : decode cX6_prevailing 23 = .ok (.aload_n 0, 1) := dk_42 (dk_at dksX6_prevailing_0 23 rfl rfl)
theorem dX6_prevailing_24 : decode cX6_prevailing 24 = .ok (.getfield 29, 3) := dk_180 0 29 (dk_at dksX6_prevailing_1 0 rfl rfl)
theorem dX6_prevailing_27 : decode cX6_prevailing 27 = .ok (.iload_n 2, 1) := dk_28 (dk_at dksX6_prevailing_1 3 rfl rfl)
theorem dX6_prevailing_28 : decode cX6_prevailing 28 = .ok (.baload, 1) := dk_51 (dk_at dksX6_prevailing_1 4 rfl rfl)
theorem dX6_prevailing_29 : decode cX6_prevailing 29 = .ok (.ifCond .eq 18, 3) := dk_153 0 18 (dk_at dksX6_prevailing_1 5 rfl rfl)
theorem dX6_prevailing_32 : decode cX6_prevailing 32 = .ok (.iload_n 1, 1) := dk_27 (dk_at dksX6_prevailing_1 8 rfl rfl)
theorem dX6_prevailing_33 : decode cX6_prevailing 33 = .ok (.ifCond .lt 12, 3) := dk_155 0 12 (dk_at dksX6_prevailing_1 9 rfl rfl)
theorem dX6_prevailing_36 : decode cX6_prevailing 36 = .ok (.aload_n 0, 1) := dk_42 (dk_at dksX6_prevailing_1 12 rfl rfl)
theorem dX6_prevailing_37 : decode cX6_prevailing 37 = .ok (.iload_n 2, 1) := dk_28 (dk_at dksX6_prevailing_1 13 rfl rfl)
theorem dX6_prevailing_38 : decode cX6_prevailing 38 = .ok (.iload_n 1, 1) := dk_27 (dk_at dksX6_prevailing_1 14 rfl rfl)
theorem dX6_prevailing_39 : decode cX6_prevailing 39 = .ok (.invokevirtual 178, 3) := dk_182 0 178 (dk_at dksX6_prevailing_1 15 rfl rfl)
theorem dX6_prevailing_42 : decode cX6_prevailing 42 = .ok (.ifCond .le 5, 3) := dk_158 0 5 (dk_at dksX6_prevailing_1 18 rfl rfl)
theorem dX6_prevailing_45 : decode cX6_prevailing 45 = .ok (.iload_n 2, 1) := dk_28 (dk_at dksX6_prevailing_1 21 rfl rfl)
theorem dX6_prevailing_46 : decode cX6_prevailing 46 = .ok (.istore_n 1, 1) := dk_60 (dk_at dksX6_prevailing_1 22 rfl rfl)
theorem dX6_prevailing_47 : decode cX6_prevailing 47 = .ok (.iinc 2 1, 3) := dk_132 2 1 (dk_at dksX6_prevailing_2 0 rfl rfl)
theorem dX6_prevailing_50 : decode cX6_prevailing 50 = .ok (.goto (-46), 3) := dk_167 255 210 (dk_at dksX6_prevailing_2 3 rfl rfl)
theorem dX6_prevailing_53 : decode cX6_prevailing 53 = .ok (.iload_n 1, 1) := dk_27 (dk_at dksX6_prevailing_2 6 rfl rfl)
theorem dX6_prevailing_54 : decode cX6_prevailing 54 = .ok (.ireturn, 1) := dk_172 (dk_at dksX6_prevailing_2 7 rfl rfl)
abbrev cX6_above : ByteArray := prog_27_method_42_code
def yX6_above : MethodName := ⟨RX6, "above", "(II)I"⟩
def dkwX6_above_2 : List UInt8 := [154, 0, 19, 42, 27, 6, 182, 0, 104, 42, 28, 6, 182, 0, 104, 100, 167, 0, 4, 29, 172]
abbrev dktX6_above_2 : List UInt8 := dkwX6_above_2 ++ []
def dkwX6_above_1 : List UInt8 := [154, 0, 19, 42, 27, 5, 182, 0, 104, 42, 28, 5, 182, 0, 104, 100, 167, 0, 4, 29, 62, 29]
abbrev dktX6_above_1 : List UInt8 := dkwX6_above_1 ++ dktX6_above_2
def dkwX6_above_0 : List UInt8 := [42, 42, 27, 4, 182, 0, 104, 182, 0, 98, 42, 42, 28, 4, 182, 0, 104, 182, 0, 98, 100, 62, 29]
abbrev dktX6_above_0 : List UInt8 := dkwX6_above_0 ++ dktX6_above_1
theorem dksX6_above_0 : cX6_above.data.toList.drop 0 = dktX6_above_0 := by decide +kernel
theorem dksX6_above_1 : cX6_above.data.toList.drop 23 = dktX6_above_1 := dk_seg dksX6_above_0 23 rfl rfl
theorem dksX6_above_2 : cX6_above.data.toList.drop 45 = dktX6_above_2 := dk_seg dksX6_above_1 22 rfl rfl
theorem dX6_above_0 : decode cX6_above 0 = .ok (.aload_n 0, 1) := dk_42 (dk_at dksX6_above_0 0 rfl rfl)
theorem dX6_above_1 : decode cX6_above 1 = .ok (.aload_n 0, 1) := dk_42 (dk_at dksX6_above_0 1 rfl rfl)
theorem dX6_above_2 : decode cX6_above 2 = .ok (.iload_n 1, 1) := dk_27 (dk_at dksX6_above_0 2 rfl rfl)
theorem dX6_above_3 : decode cX6_above 3 = .ok (.iconst 1, 1) := dk_4 (dk_at dksX6_above_0 3 rfl rfl)
theorem dX6_above_4 : decode cX6_above 4 = .ok (.invokevirtual 104, 3) := dk_182 0 104 (dk_at dksX6_above_0 4 rfl rfl)
theorem dX6_above_7 : decode cX6_above 7 = .ok (.invokevirtual 98, 3) := dk_182 0 98 (dk_at dksX6_above_0 7 rfl rfl)
theorem dX6_above_10 : decode cX6_above 10 = .ok (.aload_n 0, 1) := dk_42 (dk_at dksX6_above_0 10 rfl rfl)
theorem dX6_above_11 : decode cX6_above 11 = .ok (.aload_n 0, 1) := dk_42 (dk_at dksX6_above_0 11 rfl rfl)
theorem dX6_above_12 : decode cX6_above 12 = .ok (.iload_n 2, 1) := dk_28 (dk_at dksX6_above_0 12 rfl rfl)
theorem dX6_above_13 : decode cX6_above 13 = .ok (.iconst 1, 1) := dk_4 (dk_at dksX6_above_0 13 rfl rfl)
theorem dX6_above_14 : decode cX6_above 14 = .ok (.invokevirtual 104, 3) := dk_182 0 104 (dk_at dksX6_above_0 14 rfl rfl)
theorem dX6_above_17 : decode cX6_above 17 = .ok (.invokevirtual 98, 3) := dk_182 0 98 (dk_at dksX6_above_0 17 rfl rfl)
theorem dX6_above_20 : decode cX6_above 20 = .ok (.isub, 1) := dk_100 (dk_at dksX6_above_0 20 rfl rfl)
theorem dX6_above_21 : decode cX6_above 21 = .ok (.istore_n 3, 1) := dk_62 (dk_at dksX6_above_0 21 rfl rfl)
theorem dX6_above_22 : decode cX6_above 22 = .ok (.iload_n 3, 1) := dk_29 (dk_at dksX6_above_0 22 rfl rfl)
theorem dX6_above_23 : decode cX6_above 23 = .ok (.ifCond .ne 19, 3) := dk_154 0 19 (dk_at dksX6_above_1 0 rfl rfl)
theorem dX6_above_26 : decode cX6_above 26 = .ok (.aload_n 0, 1) := dk_42 (dk_at dksX6_above_1 3 rfl rfl)
theorem dX6_above_27 : decode cX6_above 27 = .ok (.iload_n 1, 1) := dk_27 (dk_at dksX6_above_1 4 rfl rfl)
theorem dX6_above_28 : decode cX6_above 28 = .ok (.iconst 2, 1) := dk_5 (dk_at dksX6_above_1 5 rfl rfl)
theorem dX6_above_29 : decode cX6_above 29 = .ok (.invokevirtual 104, 3) := dk_182 0 104 (dk_at dksX6_above_1 6 rfl rfl)
theorem dX6_above_32 : decode cX6_above 32 = .ok (.aload_n 0, 1) := dk_42 (dk_at dksX6_above_1 9 rfl rfl)
theorem dX6_above_33 : decode cX6_above 33 = .ok (.iload_n 2, 1) := dk_28 (dk_at dksX6_above_1 10 rfl rfl)
theorem dX6_above_34 : decode cX6_above 34 = .ok (.iconst 2, 1) := dk_5 (dk_at dksX6_above_1 11 rfl rfl)
theorem dX6_above_35 : decode cX6_above 35 = .ok (.invokevirtual 104, 3) := dk_182 0 104 (dk_at dksX6_above_1 12 rfl rfl)
theorem dX6_above_38 : decode cX6_above 38 = .ok (.isub, 1) := dk_100 (dk_at dksX6_above_1 15 rfl rfl)
theorem dX6_above_39 : decode cX6_above 39 = .ok (.goto 4, 3) := dk_167 0 4 (dk_at dksX6_above_1 16 rfl rfl)
theorem dX6_above_42 : decode cX6_above 42 = .ok (.iload_n 3, 1) := dk_29 (dk_at dksX6_above_1 19 rfl rfl)
theorem dX6_above_43 : decode cX6_above 43 = .ok (.istore_n 3, 1) := dk_62 (dk_at dksX6_above_1 20 rfl rfl)
theorem dX6_above_44 : decode cX6_above 44 = .ok (.iload_n 3, 1) := dk_29 (dk_at dksX6_above_1 21 rfl rfl)
theorem dX6_above_45 : decode cX6_above 45 = .ok (.ifCond .ne 19, 3) := dk_154 0 19 (dk_at dksX6_above_2 0 rfl rfl)
theorem dX6_above_48 : decode cX6_above 48 = .ok (.aload_n 0, 1) := dk_42 (dk_at dksX6_above_2 3 rfl rfl)
theorem dX6_above_49 : decode cX6_above 49 = .ok (.iload_n 1, 1) := dk_27 (dk_at dksX6_above_2 4 rfl rfl)
theorem dX6_above_50 : decode cX6_above 50 = .ok (.iconst 3, 1) := dk_6 (dk_at dksX6_above_2 5 rfl rfl)
theorem dX6_above_51 : decode cX6_above 51 = .ok (.invokevirtual 104, 3) := dk_182 0 104 (dk_at dksX6_above_2 6 rfl rfl)
theorem dX6_above_54 : decode cX6_above 54 = .ok (.aload_n 0, 1) := dk_42 (dk_at dksX6_above_2 9 rfl rfl)
theorem dX6_above_55 : decode cX6_above 55 = .ok (.iload_n 2, 1) := dk_28 (dk_at dksX6_above_2 10 rfl rfl)
theorem dX6_above_56 : decode cX6_above 56 = .ok (.iconst 3, 1) := dk_6 (dk_at dksX6_above_2 11 rfl rfl)
theorem dX6_above_57 : decode cX6_above 57 = .ok (.invokevirtual 104, 3) := dk_182 0 104 (dk_at dksX6_above_2 12 rfl rfl)
theorem dX6_above_60 : decode cX6_above 60 = .ok (.isub, 1) := dk_100 (dk_at dksX6_above_2 15 rfl rfl)
theorem dX6_above_61 : decode cX6_above 61 = .ok (.goto 4, 3) := dk_167 0 4 (dk_at dksX6_above_2 16 rfl rfl)
theorem dX6_above_64 : decode cX6_above 64 = .ok (.iload_n 3, 1) := dk_29 (dk_at dksX6_above_2 19 rfl rfl)
theorem dX6_above_65 : decode cX6_above 65 = .ok (.ireturn, 1) := dk_172 (dk_at dksX6_above_2 20 rfl rfl)
abbrev cX6_chain : ByteArray := prog_27_method_53_code
def yX6_chain : MethodName := ⟨RX6, "chain", "(IIII)I"⟩
def dkwX6_chain_3 : List UInt8 := [167, 0, 10, 42, 180, 0, 36, 21, 4, 46, 172]
abbrev dktX6_chain_3 : List UInt8 := dkwX6_chain_3 ++ []
def dkwX6_chain_2 : List UInt8 := [181, 0, 62, 42, 180, 0, 62, 158, 0, 7, 3, 167, 0, 22, 21, 4, 156, 0, 10, 42, 180, 0, 188]
abbrev dktX6_chain_2 : List UInt8 := dkwX6_chain_2 ++ dktX6_chain_3
def dkwX6_chain_1 : List UInt8 := [182, 0, 207, 42, 21, 4, 2, 42, 180, 0, 188, 4, 100, 184, 0, 80, 153, 0, 7, 3, 167, 0, 4, 6]
abbrev dktX6_chain_1 : List UInt8 := dkwX6_chain_1 ++ dktX6_chain_2
def dkwX6_chain_0 : List UInt8 := [42, 42, 27, 28, 29, 182, 0, 199, 181, 0, 62, 42, 180, 0, 62, 158, 0, 5, 3, 172, 42, 27, 28, 29]
abbrev dktX6_chain_0 : List UInt8 := dkwX6_chain_0 ++ dktX6_chain_1
theorem dksX6_chain_0 : cX6_chain.data.toList.drop 0 = dktX6_chain_0 := by decide +kernel
theorem dksX6_chain_1 : cX6_chain.data.toList.drop 24 = dktX6_chain_1 := dk_seg dksX6_chain_0 24 rfl rfl
theorem dksX6_chain_2 : cX6_chain.data.toList.drop 48 = dktX6_chain_2 := dk_seg dksX6_chain_1 24 rfl rfl
theorem dksX6_chain_3 : cX6_chain.data.toList.drop 71 = dktX6_chain_3 := dk_seg dksX6_chain_2 23 rfl rfl
theorem dX6_chain_0 : decode cX6_chain 0 = .ok (.aload_n 0, 1) := dk_42 (dk_at dksX6_chain_0 0 rfl rfl)
theorem dX6_chain_1 : decode cX6_chain 1 = .ok (.aload_n 0, 1) := dk_42 (dk_at dksX6_chain_0 1 rfl rfl)
theorem dX6_chain_2 : decode cX6_chain 2 = .ok (.iload_n 1, 1) := dk_27 (dk_at dksX6_chain_0 2 rfl rfl)
theorem dX6_chain_3 : decode cX6_chain 3 = .ok (.iload_n 2, 1) := dk_28 (dk_at dksX6_chain_0 3 rfl rfl)
theorem dX6_chain_4 : decode cX6_chain 4 = .ok (.iload_n 3, 1) := dk_29 (dk_at dksX6_chain_0 4 rfl rfl)
theorem dX6_chain_5 : decode cX6_chain 5 = .ok (.invokevirtual 199, 3) := dk_182 0 199 (dk_at dksX6_chain_0 5 rfl rfl)
theorem dX6_chain_8 : decode cX6_chain 8 = .ok (.putfield 62, 3) := dk_181 0 62 (dk_at dksX6_chain_0 8 rfl rfl)
theorem dX6_chain_11 : decode cX6_chain 11 = .ok (.aload_n 0, 1) := dk_42 (dk_at dksX6_chain_0 11 rfl rfl)
theorem dX6_chain_12 : decode cX6_chain 12 = .ok (.getfield 62, 3) := dk_180 0 62 (dk_at dksX6_chain_0 12 rfl rfl)
theorem dX6_chain_15 : decode cX6_chain 15 = .ok (.ifCond .le 5, 3) := dk_158 0 5 (dk_at dksX6_chain_0 15 rfl rfl)
theorem dX6_chain_18 : decode cX6_chain 18 = .ok (.iconst 0, 1) := dk_3 (dk_at dksX6_chain_0 18 rfl rfl)
theorem dX6_chain_19 : decode cX6_chain 19 = .ok (.ireturn, 1) := dk_172 (dk_at dksX6_chain_0 19 rfl rfl)
theorem dX6_chain_20 : decode cX6_chain 20 = .ok (.aload_n 0, 1) := dk_42 (dk_at dksX6_chain_0 20 rfl rfl)
theorem dX6_chain_21 : decode cX6_chain 21 = .ok (.iload_n 1, 1) := dk_27 (dk_at dksX6_chain_0 21 rfl rfl)
theorem dX6_chain_22 : decode cX6_chain 22 = .ok (.iload_n 2, 1) := dk_28 (dk_at dksX6_chain_0 22 rfl rfl)
theorem dX6_chain_23 : decode cX6_chain 23 = .ok (.iload_n 3, 1) := dk_29 (dk_at dksX6_chain_0 23 rfl rfl)
theorem dX6_chain_24 : decode cX6_chain 24 = .ok (.invokevirtual 207, 3) := dk_182 0 207 (dk_at dksX6_chain_1 0 rfl rfl)
theorem dX6_chain_27 : decode cX6_chain 27 = .ok (.aload_n 0, 1) := dk_42 (dk_at dksX6_chain_1 3 rfl rfl)
theorem dX6_chain_28 : decode cX6_chain 28 = .ok (.iload 4, 2) := dk_21 4 (dk_at dksX6_chain_1 4 rfl rfl)
theorem dX6_chain_30 : decode cX6_chain 30 = .ok (.iconst (-1), 1) := dk_2 (dk_at dksX6_chain_1 6 rfl rfl)
theorem dX6_chain_31 : decode cX6_chain 31 = .ok (.aload_n 0, 1) := dk_42 (dk_at dksX6_chain_1 7 rfl rfl)
theorem dX6_chain_32 : decode cX6_chain 32 = .ok (.getfield 188, 3) := dk_180 0 188 (dk_at dksX6_chain_1 8 rfl rfl)
theorem dX6_chain_35 : decode cX6_chain 35 = .ok (.iconst 1, 1) := dk_4 (dk_at dksX6_chain_1 11 rfl rfl)
theorem dX6_chain_36 : decode cX6_chain 36 = .ok (.isub, 1) := dk_100 (dk_at dksX6_chain_1 12 rfl rfl)
theorem dX6_chain_37 : decode cX6_chain 37 = .ok (.invokestatic 80, 3) := dk_184 0 80 (dk_at dksX6_chain_1 13 rfl rfl)
theorem dX6_chain_40 : decode cX6_chain 40 = .ok (.ifCond .eq 7, 3) := dk_153 0 7 (dk_at dksX6_chain_1 16 rfl rfl)
theorem dX6_chain_43 : decode cX6_chain 43 = .ok (.iconst 0, 1) := dk_3 (dk_at dksX6_chain_1 19 rfl rfl)
theorem dX6_chain_44 : decode cX6_chain 44 = .ok (.goto 4, 3) := dk_167 0 4 (dk_at dksX6_chain_1 20 rfl rfl)
theorem dX6_chain_47 : decode cX6_chain 47 = .ok (.iconst 3, 1) := dk_6 (dk_at dksX6_chain_1 23 rfl rfl)
theorem dX6_chain_48 : decode cX6_chain 48 = .ok (.putfield 62, 3) := dk_181 0 62 (dk_at dksX6_chain_2 0 rfl rfl)
theorem dX6_chain_51 : decode cX6_chain 51 = .ok (.aload_n 0, 1) := dk_42 (dk_at dksX6_chain_2 3 rfl rfl)
theorem dX6_chain_52 : decode cX6_chain 52 = .ok (.getfield 62, 3) := dk_180 0 62 (dk_at dksX6_chain_2 4 rfl rfl)
theorem dX6_chain_55 : decode cX6_chain 55 = .ok (.ifCond .le 7, 3) := dk_158 0 7 (dk_at dksX6_chain_2 7 rfl rfl)
theorem dX6_chain_58 : decode cX6_chain 58 = .ok (.iconst 0, 1) := dk_3 (dk_at dksX6_chain_2 10 rfl rfl)
theorem dX6_chain_59 : decode cX6_chain 59 = .ok (.goto 22, 3) := dk_167 0 22 (dk_at dksX6_chain_2 11 rfl rfl)
theorem dX6_chain_62 : decode cX6_chain 62 = .ok (.iload 4, 2) := dk_21 4 (dk_at dksX6_chain_2 14 rfl rfl)
theorem dX6_chain_64 : decode cX6_chain 64 = .ok (.ifCond .ge 10, 3) := dk_156 0 10 (dk_at dksX6_chain_2 16 rfl rfl)
theorem dX6_chain_67 : decode cX6_chain 67 = .ok (.aload_n 0, 1) := dk_42 (dk_at dksX6_chain_2 19 rfl rfl)
theorem dX6_chain_68 : decode cX6_chain 68 = .ok (.getfield 188, 3) := dk_180 0 188 (dk_at dksX6_chain_2 20 rfl rfl)
theorem dX6_chain_71 : decode cX6_chain 71 = .ok (.goto 10, 3) := dk_167 0 10 (dk_at dksX6_chain_3 0 rfl rfl)
theorem dX6_chain_74 : decode cX6_chain 74 = .ok (.aload_n 0, 1) := dk_42 (dk_at dksX6_chain_3 3 rfl rfl)
theorem dX6_chain_75 : decode cX6_chain 75 = .ok (.getfield 36, 3) := dk_180 0 36 (dk_at dksX6_chain_3 4 rfl rfl)
theorem dX6_chain_78 : decode cX6_chain 78 = .ok (.iload 4, 2) := dk_21 4 (dk_at dksX6_chain_3 7 rfl rfl)
theorem dX6_chain_80 : decode cX6_chain 80 = .ok (.iaload, 1) := dk_46 (dk_at dksX6_chain_3 9 rfl rfl)
theorem dX6_chain_81 : decode cX6_chain 81 = .ok (.ireturn, 1) := dk_172 (dk_at dksX6_chain_3 10 rfl rfl)
abbrev cX6_findChain : ByteArray := prog_27_method_45_code
def yX6_findChain : MethodName := ⟨RX6, "findChain", "(III)V"⟩
def dkwX6_findChain_3 : List UInt8 := [167, 255, 202, 177]
abbrev dktX6_findChain_3 : List UInt8 := dkwX6_findChain_3 ++ []
def dkwX6_findChain_2 : List UInt8 := [182, 0, 191, 54, 5, 21, 5, 156, 0, 13, 42, 21, 4, 3, 182, 0, 191, 167, 0, 5, 21, 5, 54, 4]
abbrev dktX6_findChain_2 : List UInt8 := dkwX6_findChain_2 ++ dktX6_findChain_3
def dkwX6_findChain_1 : List UInt8 := [180, 0, 36, 42, 180, 0, 188, 21, 4, 79, 42, 89, 180, 0, 188, 4, 96, 181, 0, 188, 42, 21, 4, 4]
abbrev dktX6_findChain_1 : List UInt8 := dkwX6_findChain_1 ++ dktX6_findChain_2
def dkwX6_findChain_0 : List UInt8 := [42, 27, 28, 29, 182, 0, 181, 42, 3, 181, 0, 188, 42, 182, 0, 184, 54, 4, 21, 4, 155, 0, 55, 42]
abbrev dktX6_findChain_0 : List UInt8 := dkwX6_findChain_0 ++ dktX6_findChain_1
theorem dksX6_findChain_0 : cX6_findChain.data.toList.drop 0 = dktX6_findChain_0 := by decide +kernel
theorem dksX6_findChain_1 : cX6_findChain.data.toList.drop 24 = dktX6_findChain_1 := dk_seg dksX6_findChain_0 24 rfl rfl
theorem dksX6_findChain_2 : cX6_findChain.data.toList.drop 48 = dktX6_findChain_2 := dk_seg dksX6_findChain_1 24 rfl rfl
theorem dksX6_findChain_3 : cX6_findChain.data.toList.drop 72 = dktX6_findChain_3 := dk_seg dksX6_findChain_2 24 rfl rfl
theorem dX6_findChain_0 : decode cX6_findChain 0 = .ok (.aload_n 0, 1) := dk_42 (dk_at dksX6_findChain_0 0 rfl rfl)
theorem dX6_findChain_1 : decode cX6_findChain 1 = .ok (.iload_n 1, 1) := dk_27 (dk_at dksX6_findChain_0 1 rfl rfl)
theorem dX6_findChain_2 : decode cX6_findChain 2 = .ok (.iload_n 2, 1) := dk_28 (dk_at dksX6_findChain_0 2 rfl rfl)
theorem dX6_findChain_3 : decode cX6_findChain 3 = .ok (.iload_n 3, 1) := dk_29 (dk_at dksX6_findChain_0 3 rfl rfl)
theorem dX6_findChain_4 : decode cX6_findChain 4 = .ok (.invokevirtual 181, 3) := dk_182 0 181 (dk_at dksX6_findChain_0 4 rfl rfl)
theorem dX6_findChain_7 : decode cX6_findChain 7 = .ok (.aload_n 0, 1) := dk_42 (dk_at dksX6_findChain_0 7 rfl rfl)
theorem dX6_findChain_8 : decode cX6_findChain 8 = .ok (.iconst 0, 1) := dk_3 (dk_at dksX6_findChain_0 8 rfl rfl)
theorem dX6_findChain_9 : decode cX6_findChain 9 = .ok (.putfield 188, 3) := dk_181 0 188 (dk_at dksX6_findChain_0 9 rfl rfl)
theorem dX6_findChain_12 : decode cX6_findChain 12 = .ok (.aload_n 0, 1) := dk_42 (dk_at dksX6_findChain_0 12 rfl rfl)
theorem dX6_findChain_13 : decode cX6_findChain 13 = .ok (.invokevirtual 184, 3) := dk_182 0 184 (dk_at dksX6_findChain_0 13 rfl rfl)
theorem dX6_findChain_16 : decode cX6_findChain 16 = .ok (.istore 4, 2) := dk_54 4 (dk_at dksX6_findChain_0 16 rfl rfl)
theorem dX6_findChain_18 : decode cX6_findChain 18 = .ok (.iload 4, 2) := dk_21 4 (dk_at dksX6_findChain_0 18 rfl rfl)
theorem dX6_findChain_20 : decode cX6_findChain 20 = .ok (.ifCond .lt 55, 3) := dk_155 0 55 (dk_at dksX6_findChain_0 20 rfl rfl)
theorem dX6_findChain_23 : decode cX6_findChain 23 = .ok (.aload_n 0, 1) := dk_42 (dk_at dksX6_findChain_0 23 rfl rfl)
theorem dX6_findChain_24 : decode cX6_findChain 24 = .ok (.getfield 36, 3) := dk_180 0 36 (dk_at dksX6_findChain_1 0 rfl rfl)
theorem dX6_findChain_27 : decode cX6_findChain 27 = .ok (.aload_n 0, 1) := dk_42 (dk_at dksX6_findChain_1 3 rfl rfl)
theorem dX6_findChain_28 : decode cX6_findChain 28 = .ok (.getfield 188, 3) := dk_180 0 188 (dk_at dksX6_findChain_1 4 rfl rfl)
theorem dX6_findChain_31 : decode cX6_findChain 31 = .ok (.iload 4, 2) := dk_21 4 (dk_at dksX6_findChain_1 7 rfl rfl)
theorem dX6_findChain_33 : decode cX6_findChain 33 = .ok (.iastore, 1) := dk_79 (dk_at dksX6_findChain_1 9 rfl rfl)
theorem dX6_findChain_34 : decode cX6_findChain 34 = .ok (.aload_n 0, 1) := dk_42 (dk_at dksX6_findChain_1 10 rfl rfl)
theorem dX6_findChain_35 : decode cX6_findChain 35 = .ok (.dup, 1) := dk_89 (dk_at dksX6_findChain_1 11 rfl rfl)
theorem dX6_findChain_36 : decode cX6_findChain 36 = .ok (.getfield 188, 3) := dk_180 0 188 (dk_at dksX6_findChain_1 12 rfl rfl)
theorem dX6_findChain_39 : decode cX6_findChain 39 = .ok (.iconst 1, 1) := dk_4 (dk_at dksX6_findChain_1 15 rfl rfl)
theorem dX6_findChain_40 : decode cX6_findChain 40 = .ok (.iadd, 1) := dk_96 (dk_at dksX6_findChain_1 16 rfl rfl)
theorem dX6_findChain_41 : decode cX6_findChain 41 = .ok (.putfield 188, 3) := dk_181 0 188 (dk_at dksX6_findChain_1 17 rfl rfl)
theorem dX6_findChain_44 : decode cX6_findChain 44 = .ok (.aload_n 0, 1) := dk_42 (dk_at dksX6_findChain_1 20 rfl rfl)
theorem dX6_findChain_45 : decode cX6_findChain 45 = .ok (.iload 4, 2) := dk_21 4 (dk_at dksX6_findChain_1 21 rfl rfl)
theorem dX6_findChain_47 : decode cX6_findChain 47 = .ok (.iconst 1, 1) := dk_4 (dk_at dksX6_findChain_1 23 rfl rfl)
theorem dX6_findChain_48 : decode cX6_findChain 48 = .ok (.invokevirtual 191, 3) := dk_182 0 191 (dk_at dksX6_findChain_2 0 rfl rfl)
theorem dX6_findChain_51 : decode cX6_findChain 51 = .ok (.istore 5, 2) := dk_54 5 (dk_at dksX6_findChain_2 3 rfl rfl)
theorem dX6_findChain_53 : decode cX6_findChain 53 = .ok (.iload 5, 2) := dk_21 5 (dk_at dksX6_findChain_2 5 rfl rfl)
theorem dX6_findChain_55 : decode cX6_findChain 55 = .ok (.ifCond .ge 13, 3) := dk_156 0 13 (dk_at dksX6_findChain_2 7 rfl rfl)
theorem dX6_findChain_58 : decode cX6_findChain 58 = .ok (.aload_n 0, 1) := dk_42 (dk_at dksX6_findChain_2 10 rfl rfl)
theorem dX6_findChain_59 : decode cX6_findChain 59 = .ok (.iload 4, 2) := dk_21 4 (dk_at dksX6_findChain_2 11 rfl rfl)
theorem dX6_findChain_61 : decode cX6_findChain 61 = .ok (.iconst 0, 1) := dk_3 (dk_at dksX6_findChain_2 13 rfl rfl)
theorem dX6_findChain_62 : decode cX6_findChain 62 = .ok (.invokevirtual 191, 3) := dk_182 0 191 (dk_at dksX6_findChain_2 14 rfl rfl)
theorem dX6_findChain_65 : decode cX6_findChain 65 = .ok (.goto 5, 3) := dk_167 0 5 (dk_at dksX6_findChain_2 17 rfl rfl)
theorem dX6_findChain_68 : decode cX6_findChain 68 = .ok (.iload 5, 2) := dk_21 5 (dk_at dksX6_findChain_2 20 rfl rfl)
theorem dX6_findChain_70 : decode cX6_findChain 70 = .ok (.istore 4, 2) := dk_54 4 (dk_at dksX6_findChain_2 22 rfl rfl)
theorem dX6_findChain_72 : decode cX6_findChain 72 = .ok (.goto (-54), 3) := dk_167 255 202 (dk_at dksX6_findChain_3 0 rfl rfl)
theorem dX6_findChain_75 : decode cX6_findChain 75 = .ok (.return_, 1) := dk_177 (dk_at dksX6_findChain_3 3 rfl rfl)
abbrev cX6_nextOf : ByteArray := prog_27_method_46_code
def yX6_nextOf : MethodName := ⟨RX6, "nextOf", "(IZ)I"⟩
def dkwX6_nextOf_4 : List UInt8 := [29, 62, 132, 4, 1, 167, 255, 165, 29, 172]
abbrev dktX6_nextOf_4 : List UInt8 := dkwX6_nextOf_4 ++ []
def dkwX6_nextOf_3 : List UInt8 := [155, 0, 19, 42, 21, 4, 5, 182, 0, 104, 42, 29, 5, 182, 0, 104, 164, 0, 8, 21, 4, 167, 0, 4]
abbrev dktX6_nextOf_3 : List UInt8 := dkwX6_nextOf_3 ++ dktX6_nextOf_4
def dkwX6_nextOf_2 : List UInt8 := [42, 180, 0, 25, 21, 4, 51, 153, 0, 7, 4, 167, 0, 4, 3, 54, 5, 21, 5, 153, 0, 28, 29]
abbrev dktX6_nextOf_2 : List UInt8 := dkwX6_nextOf_2 ++ dktX6_nextOf_3
def dkwX6_nextOf_1 : List UInt8 := [182, 0, 104, 27, 160, 0, 34, 28, 153, 0, 16, 42, 180, 0, 29, 21, 4, 51, 153, 0, 20, 167, 0, 13]
abbrev dktX6_nextOf_1 : List UInt8 := dkwX6_nextOf_1 ++ dktX6_nextOf_2
def dkwX6_nextOf_0 : List UInt8 := [2, 62, 27, 4, 96, 54, 4, 21, 4, 42, 180, 0, 9, 4, 46, 162, 0, 86, 42, 21, 4, 8]
abbrev dktX6_nextOf_0 : List UInt8 := dkwX6_nextOf_0 ++ dktX6_nextOf_1
theorem dksX6_nextOf_0 : cX6_nextOf.data.toList.drop 0 = dktX6_nextOf_0 := by decide +kernel
theorem dksX6_nextOf_1 : cX6_nextOf.data.toList.drop 22 = dktX6_nextOf_1 := dk_seg dksX6_nextOf_0 22 rfl rfl
theorem dksX6_nextOf_2 : cX6_nextOf.data.toList.drop 46 = dktX6_nextOf_2 := dk_seg dksX6_nextOf_1 24 rfl rfl
theorem dksX6_nextOf_3 : cX6_nextOf.data.toList.drop 69 = dktX6_nextOf_3 := dk_seg dksX6_nextOf_2 23 rfl rfl
theorem dksX6_nextOf_4 : cX6_nextOf.data.toList.drop 93 = dktX6_nextOf_4 := dk_seg dksX6_nextOf_3 24 rfl rfl
theorem dX6_nextOf_0 : decode cX6_nextOf 0 = .ok (.iconst (-1), 1) := dk_2 (dk_at dksX6_nextOf_0 0 rfl rfl)
theorem dX6_nextOf_1 : decode cX6_nextOf 1 = .ok (.istore_n 3, 1) := dk_62 (dk_at dksX6_nextOf_0 1 rfl rfl)
theorem dX6_nextOf_2 : decode cX6_nextOf 2 = .ok (.iload_n 1, 1) := dk_27 (dk_at dksX6_nextOf_0 2 rfl rfl)
theorem dX6_nextOf_3 : decode cX6_nextOf 3 = .ok (.iconst 1, 1) := dk_4 (dk_at dksX6_nextOf_0 3 rfl rfl)
theorem dX6_nextOf_4 : decode cX6_nextOf 4 = .ok (.iadd, 1) := dk_96 (dk_at dksX6_nextOf_0 4 rfl rfl)
theorem dX6_nextOf_5 : decode cX6_nextOf 5 = .ok (.istore 4, 2) := dk_54 4 (dk_at dksX6_nextOf_0 5 rfl rfl)
theorem dX6_nextOf_7 : decode cX6_nextOf 7 = .ok (.iload 4, 2) := dk_21 4 (dk_at dksX6_nextOf_0 7 rfl rfl)
theorem dX6_nextOf_9 : decode cX6_nextOf 9 = .ok (.aload_n 0, 1) := dk_42 (dk_at dksX6_nextOf_0 9 rfl rfl)
theorem dX6_nextOf_10 : decode cX6_nextOf 10 = .ok (.getfield 9, 3) := dk_180 0 9 (dk_at dksX6_nextOf_0 10 rfl rfl)
theorem dX6_nextOf_13 : decode cX6_nextOf 13 = .ok (.iconst 1, 1) := dk_4 (dk_at dksX6_nextOf_0 13 rfl rfl)
theorem dX6_nextOf_14 : decode cX6_nextOf 14 = .ok (.iaload, 1) := dk_46 (dk_at dksX6_nextOf_0 14 rfl rfl)
theorem dX6_nextOf_15 : decode cX6_nextOf 15 = .ok (.if_icmp .ge 86, 3) := dk_162 0 86 (dk_at dksX6_nextOf_0 15 rfl rfl)
theorem dX6_nextOf_18 : decode cX6_nextOf 18 = .ok (.aload_n 0, 1) := dk_42 (dk_at dksX6_nextOf_0 18 rfl rfl)
theorem dX6_nextOf_19 : decode cX6_nextOf 19 = .ok (.iload 4, 2) := dk_21 4 (dk_at dksX6_nextOf_0 19 rfl rfl)
theorem dX6_nextOf_21 : decode cX6_nextOf 21 = .ok (.iconst 5, 1) := dk_8 (dk_at dksX6_nextOf_0 21 rfl rfl)
theorem dX6_nextOf_22 : decode cX6_nextOf 22 = .ok (.invokevirtual 104, 3) := dk_182 0 104 (dk_at dksX6_nextOf_1 0 rfl rfl)
theorem dX6_nextOf_25 : decode cX6_nextOf 25 = .ok (.iload_n 1, 1) := dk_27 (dk_at dksX6_nextOf_1 3 rfl rfl)
theorem dX6_nextOf_26 : decode cX6_nextOf 26 = .ok (.if_icmp .ne 34, 3) := dk_160 0 34 (dk_at dksX6_nextOf_1 4 rfl rfl)
theorem dX6_nextOf_29 : decode cX6_nextOf 29 = .ok (.iload_n 2, 1) := dk_28 (dk_at dksX6_nextOf_1 7 rfl rfl)
theorem dX6_nextOf_30 : decode cX6_nextOf 30 = .ok (.ifCond .eq 16, 3) := dk_153 0 16 (dk_at dksX6_nextOf_1 8 rfl rfl)
theorem dX6_nextOf_33 : decode cX6_nextOf 33 = .ok (.aload_n 0, 1) := dk_42 (dk_at dksX6_nextOf_1 11 rfl rfl)
theorem dX6_nextOf_34 : decode cX6_nextOf 34 = .ok (.getfield 29, 3) := dk_180 0 29 (dk_at dksX6_nextOf_1 12 rfl rfl)
theorem dX6_nextOf_37 : decode cX6_nextOf 37 = .ok (.iload 4, 2) := dk_21 4 (dk_at dksX6_nextOf_1 15 rfl rfl)
theorem dX6_nextOf_39 : decode cX6_nextOf 39 = .ok (.baload, 1) := dk_51 (dk_at dksX6_nextOf_1 17 rfl rfl)
theorem dX6_nextOf_40 : decode cX6_nextOf 40 = .ok (.ifCond .eq 20, 3) := dk_153 0 20 (dk_at dksX6_nextOf_1 18 rfl rfl)
theorem dX6_nextOf_43 : decode cX6_nextOf 43 = .ok (.goto 13, 3) := dk_167 0 13 (dk_at dksX6_nextOf_1 21 rfl rfl)
theorem dX6_nextOf_46 : decode cX6_nextOf 46 = .ok (.aload_n 0, 1) := dk_42 (dk_at dksX6_nextOf_2 0 rfl rfl)
theorem dX6_nextOf_47 : decode cX6_nextOf 47 = .ok (.getfield 25, 3) := dk_180 0 25 (dk_at dksX6_nextOf_2 1 rfl rfl)
theorem dX6_nextOf_50 : decode cX6_nextOf 50 = .ok (.iload 4, 2) := dk_21 4 (dk_at dksX6_nextOf_2 4 rfl rfl)
theorem dX6_nextOf_52 : decode cX6_nextOf 52 = .ok (.baload, 1) := dk_51 (dk_at dksX6_nextOf_2 6 rfl rfl)
theorem dX6_nextOf_53 : decode cX6_nextOf 53 = .ok (.ifCond .eq 7, 3) := dk_153 0 7 (dk_at dksX6_nextOf_2 7 rfl rfl)
theorem dX6_nextOf_56 : decode cX6_nextOf 56 = .ok (.iconst 1, 1) := dk_4 (dk_at dksX6_nextOf_2 10 rfl rfl)
theorem dX6_nextOf_57 : decode cX6_nextOf 57 = .ok (.goto 4, 3) := dk_167 0 4 (dk_at dksX6_nextOf_2 11 rfl rfl)
theorem dX6_nextOf_60 : decode cX6_nextOf 60 = .ok (.iconst 0, 1) := dk_3 (dk_at dksX6_nextOf_2 14 rfl rfl)
theorem dX6_nextOf_61 : decode cX6_nextOf 61 = .ok (.istore 5, 2) := dk_54 5 (dk_at dksX6_nextOf_2 15 rfl rfl)
theorem dX6_nextOf_63 : decode cX6_nextOf 63 = .ok (.iload 5, 2) := dk_21 5 (dk_at dksX6_nextOf_2 17 rfl rfl)
theorem dX6_nextOf_65 : decode cX6_nextOf 65 = .ok (.ifCond .eq 28, 3) := dk_153 0 28 (dk_at dksX6_nextOf_2 19 rfl rfl)
theorem dX6_nextOf_68 : decode cX6_nextOf 68 = .ok (.iload_n 3, 1) := dk_29 (dk_at dksX6_nextOf_2 22 rfl rfl)
theorem dX6_nextOf_69 : decode cX6_nextOf 69 = .ok (.ifCond .lt 19, 3) := dk_155 0 19 (dk_at dksX6_nextOf_3 0 rfl rfl)
theorem dX6_nextOf_72 : decode cX6_nextOf 72 = .ok (.aload_n 0, 1) := dk_42 (dk_at dksX6_nextOf_3 3 rfl rfl)
theorem dX6_nextOf_73 : decode cX6_nextOf 73 = .ok (.iload 4, 2) := dk_21 4 (dk_at dksX6_nextOf_3 4 rfl rfl)
theorem dX6_nextOf_75 : decode cX6_nextOf 75 = .ok (.iconst 2, 1) := dk_5 (dk_at dksX6_nextOf_3 6 rfl rfl)
theorem dX6_nextOf_76 : decode cX6_nextOf 76 = .ok (.invokevirtual 104, 3) := dk_182 0 104 (dk_at dksX6_nextOf_3 7 rfl rfl)
theorem dX6_nextOf_79 : decode cX6_nextOf 79 = .ok (.aload_n 0, 1) := dk_42 (dk_at dksX6_nextOf_3 10 rfl rfl)
theorem dX6_nextOf_80 : decode cX6_nextOf 80 = .ok (.iload_n 3, 1) := dk_29 (dk_at dksX6_nextOf_3 11 rfl rfl)
theorem dX6_nextOf_81 : decode cX6_nextOf 81 = .ok (.iconst 2, 1) := dk_5 (dk_at dksX6_nextOf_3 12 rfl rfl)
theorem dX6_nextOf_82 : decode cX6_nextOf 82 = .ok (.invokevirtual 104, 3) := dk_182 0 104 (dk_at dksX6_nextOf_3 13 rfl rfl)
theorem dX6_nextOf_85 : decode cX6_nextOf 85 = .ok (.if_icmp .le 8, 3) := dk_164 0 8 (dk_at dksX6_nextOf_3 16 rfl rfl)
theorem dX6_nextOf_88 : decode cX6_nextOf 88 = .ok (.iload 4, 2) := dk_21 4 (dk_at dksX6_nextOf_3 19 rfl rfl)
theorem dX6_nextOf_90 : decode cX6_nextOf 90 = .ok (.goto 4, 3) := dk_167 0 4 (dk_at dksX6_nextOf_3 21 rfl rfl)
theorem dX6_nextOf_93 : decode cX6_nextOf 93 = .ok (.iload_n 3, 1) := dk_29 (dk_at dksX6_nextOf_4 0 rfl rfl)
theorem dX6_nextOf_94 : decode cX6_nextOf 94 = .ok (.istore_n 3, 1) := dk_62 (dk_at dksX6_nextOf_4 1 rfl rfl)
theorem dX6_nextOf_95 : decode cX6_nextOf 95 = .ok (.iinc 4 1, 3) := dk_132 4 1 (dk_at dksX6_nextOf_4 2 rfl rfl)
theorem dX6_nextOf_98 : decode cX6_nextOf 98 = .ok (.goto (-91), 3) := dk_167 255 165 (dk_at dksX6_nextOf_4 5 rfl rfl)
theorem dX6_nextOf_101 : decode cX6_nextOf 101 = .ok (.iload_n 3, 1) := dk_29 (dk_at dksX6_nextOf_4 8 rfl rfl)
theorem dX6_nextOf_102 : decode cX6_nextOf 102 = .ok (.ireturn, 1) := dk_172 (dk_at dksX6_nextOf_4 9 rfl rfl)
abbrev cX6_rival : ByteArray := prog_27_method_54_code
def yX6_rival : MethodName := ⟨RX6, "rival", "(IIII)I"⟩
def dkwX6_rival_7 : List UInt8 := [6, 181, 0, 62, 42, 180, 0, 62, 158, 0, 7, 3, 167, 0, 5, 21, 6, 172]
abbrev dktX6_rival_7 : List UInt8 := dkwX6_rival_7 ++ []
def dkwX6_rival_6 : List UInt8 := [167, 0, 4, 3, 96, 54, 6, 132, 7, 1, 167, 255, 145, 42, 21, 4, 2, 160, 0, 7, 3, 167, 0, 4]
abbrev dktX6_rival_6 : List UInt8 := dkwX6_rival_6 ++ dktX6_rival_7
def dkwX6_rival_5 : List UInt8 := [21, 8, 153, 0, 13, 21, 6, 21, 4, 160, 0, 6, 21, 7, 172, 21, 6, 21, 8, 153, 0, 7, 4]
abbrev dktX6_rival_5 : List UInt8 := dkwX6_rival_5 ++ dktX6_rival_6
def dkwX6_rival_4 : List UInt8 := [182, 0, 104, 159, 0, 18, 42, 21, 7, 21, 5, 182, 0, 178, 154, 0, 7, 4, 167, 0, 4, 3, 54, 8]
abbrev dktX6_rival_4 : List UInt8 := dkwX6_rival_4 ++ dktX6_rival_5
def dkwX6_rival_3 : List UInt8 := [51, 153, 0, 42, 21, 7, 21, 5, 159, 0, 35, 42, 21, 7, 3, 182, 0, 104, 42, 21, 5, 3]
abbrev dktX6_rival_3 : List UInt8 := dkwX6_rival_3 ++ dktX6_rival_4
def dkwX6_rival_2 : List UInt8 := [162, 0, 106, 21, 5, 155, 0, 101, 42, 21, 7, 8, 182, 0, 104, 156, 0, 52, 42, 180, 0, 29, 21, 7]
abbrev dktX6_rival_2 : List UInt8 := dkwX6_rival_2 ++ dktX6_rival_3
def dkwX6_rival_1 : List UInt8 := [182, 0, 181, 42, 182, 0, 184, 54, 5, 3, 54, 6, 3, 54, 7, 21, 7, 42, 180, 0, 9, 4, 46]
abbrev dktX6_rival_1 : List UInt8 := dkwX6_rival_1 ++ dktX6_rival_2
def dkwX6_rival_0 : List UInt8 := [42, 42, 27, 28, 29, 182, 0, 199, 181, 0, 62, 42, 180, 0, 62, 158, 0, 5, 3, 172, 42, 27, 28, 29]
abbrev dktX6_rival_0 : List UInt8 := dkwX6_rival_0 ++ dktX6_rival_1
theorem dksX6_rival_0 : cX6_rival.data.toList.drop 0 = dktX6_rival_0 := by decide +kernel
theorem dksX6_rival_1 : cX6_rival.data.toList.drop 24 = dktX6_rival_1 := dk_seg dksX6_rival_0 24 rfl rfl
theorem dksX6_rival_2 : cX6_rival.data.toList.drop 47 = dktX6_rival_2 := dk_seg dksX6_rival_1 23 rfl rfl
theorem dksX6_rival_3 : cX6_rival.data.toList.drop 71 = dktX6_rival_3 := dk_seg dksX6_rival_2 24 rfl rfl
theorem dksX6_rival_4 : cX6_rival.data.toList.drop 93 = dktX6_rival_4 := dk_seg dksX6_rival_3 22 rfl rfl
theorem dksX6_rival_5 : cX6_rival.data.toList.drop 117 = dktX6_rival_5 := dk_seg dksX6_rival_4 24 rfl rfl
theorem dksX6_rival_6 : cX6_rival.data.toList.drop 140 = dktX6_rival_6 := dk_seg dksX6_rival_5 23 rfl rfl
theorem dksX6_rival_7 : cX6_rival.data.toList.drop 164 = dktX6_rival_7 := dk_seg dksX6_rival_6 24 rfl rfl
theorem dX6_rival_0 : decode cX6_rival 0 = .ok (.aload_n 0, 1) := dk_42 (dk_at dksX6_rival_0 0 rfl rfl)
theorem dX6_rival_1 : decode cX6_rival 1 = .ok (.aload_n 0, 1) := dk_42 (dk_at dksX6_rival_0 1 rfl rfl)
theorem dX6_rival_2 : decode cX6_rival 2 = .ok (.iload_n 1, 1) := dk_27 (dk_at dksX6_rival_0 2 rfl rfl)
theorem dX6_rival_3 : decode cX6_rival 3 = .ok (.iload_n 2, 1) := dk_28 (dk_at dksX6_rival_0 3 rfl rfl)
theorem dX6_rival_4 : decode cX6_rival 4 = .ok (.iload_n 3, 1) := dk_29 (dk_at dksX6_rival_0 4 rfl rfl)
theorem dX6_rival_5 : decode cX6_rival 5 = .ok (.invokevirtual 199, 3) := dk_182 0 199 (dk_at dksX6_rival_0 5 rfl rfl)
theorem dX6_rival_8 : decode cX6_rival 8 = .ok (.putfield 62, 3) := dk_181 0 62 (dk_at dksX6_rival_0 8 rfl rfl)
theorem dX6_rival_11 : decode cX6_rival 11 = .ok (.aload_n 0, 1) := dk_42 (dk_at dksX6_rival_0 11 rfl rfl)
theorem dX6_rival_12 : decode cX6_rival 12 = .ok (.getfield 62, 3) := dk_180 0 62 (dk_at dksX6_rival_0 12 rfl rfl)
theorem dX6_rival_15 : decode cX6_rival 15 = .ok (.ifCond .le 5, 3) := dk_158 0 5 (dk_at dksX6_rival_0 15 rfl rfl)
theorem dX6_rival_18 : decode cX6_rival 18 = .ok (.iconst 0, 1) := dk_3 (dk_at dksX6_rival_0 18 rfl rfl)
theorem dX6_rival_19 : decode cX6_rival 19 = .ok (.ireturn, 1) := dk_172 (dk_at dksX6_rival_0 19 rfl rfl)
theorem dX6_rival_20 : decode cX6_rival 20 = .ok (.aload_n 0, 1) := dk_42 (dk_at dksX6_rival_0 20 rfl rfl)
theorem dX6_rival_21 : decode cX6_rival 21 = .ok (.iload_n 1, 1) := dk_27 (dk_at dksX6_rival_0 21 rfl rfl)
theorem dX6_rival_22 : decode cX6_rival 22 = .ok (.iload_n 2, 1) := dk_28 (dk_at dksX6_rival_0 22 rfl rfl)
theorem dX6_rival_23 : decode cX6_rival 23 = .ok (.iload_n 3, 1) := dk_29 (dk_at dksX6_rival_0 23 rfl rfl)
theorem dX6_rival_24 : decode cX6_rival 24 = .ok (.invokevirtual 181, 3) := dk_182 0 181 (dk_at dksX6_rival_1 0 rfl rfl)
theorem dX6_rival_27 : decode cX6_rival 27 = .ok (.aload_n 0, 1) := dk_42 (dk_at dksX6_rival_1 3 rfl rfl)
theorem dX6_rival_28 : decode cX6_rival 28 = .ok (.invokevirtual 184, 3) := dk_182 0 184 (dk_at dksX6_rival_1 4 rfl rfl)
theorem dX6_rival_31 : decode cX6_rival 31 = .ok (.istore 5, 2) := dk_54 5 (dk_at dksX6_rival_1 7 rfl rfl)
theorem dX6_rival_33 : decode cX6_rival 33 = .ok (.iconst 0, 1) := dk_3 (dk_at dksX6_rival_1 9 rfl rfl)
theorem dX6_rival_34 : decode cX6_rival 34 = .ok (.istore 6, 2) := dk_54 6 (dk_at dksX6_rival_1 10 rfl rfl)
theorem dX6_rival_36 : decode cX6_rival 36 = .ok (.iconst 0, 1) := dk_3 (dk_at dksX6_rival_1 12 rfl rfl)
theorem dX6_rival_37 : decode cX6_rival 37 = .ok (.istore 7, 2) := dk_54 7 (dk_at dksX6_rival_1 13 rfl rfl)
theorem dX6_rival_39 : decode cX6_rival 39 = .ok (.iload 7, 2) := dk_21 7 (dk_at dksX6_rival_1 15 rfl rfl)
theorem dX6_rival_41 : decode cX6_rival 41 = .ok (.aload_n 0, 1) := dk_42 (dk_at dksX6_rival_1 17 rfl rfl)
theorem dX6_rival_42 : decode cX6_rival 42 = .ok (.getfield 9, 3) := dk_180 0 9 (dk_at dksX6_rival_1 18 rfl rfl)
theorem dX6_rival_45 : decode cX6_rival 45 = .ok (.iconst 1, 1) := dk_4 (dk_at dksX6_rival_1 21 rfl rfl)
theorem dX6_rival_46 : decode cX6_rival 46 = .ok (.iaload, 1) := dk_46 (dk_at dksX6_rival_1 22 rfl rfl)
theorem dX6_rival_47 : decode cX6_rival 47 = .ok (.if_icmp .ge 106, 3) := dk_162 0 106 (dk_at dksX6_rival_2 0 rfl rfl)
theorem dX6_rival_50 : decode cX6_rival 50 = .ok (.iload 5, 2) := dk_21 5 (dk_at dksX6_rival_2 3 rfl rfl)
theorem dX6_rival_52 : decode cX6_rival 52 = .ok (.ifCond .lt 101, 3) := dk_155 0 101 (dk_at dksX6_rival_2 5 rfl rfl)
theorem dX6_rival_55 : decode cX6_rival 55 = .ok (.aload_n 0, 1) := dk_42 (dk_at dksX6_rival_2 8 rfl rfl)
theorem dX6_rival_56 : decode cX6_rival 56 = .ok (.iload 7, 2) := dk_21 7 (dk_at dksX6_rival_2 9 rfl rfl)
theorem dX6_rival_58 : decode cX6_rival 58 = .ok (.iconst 5, 1) := dk_8 (dk_at dksX6_rival_2 11 rfl rfl)
theorem dX6_rival_59 : decode cX6_rival 59 = .ok (.invokevirtual 104, 3) := dk_182 0 104 (dk_at dksX6_rival_2 12 rfl rfl)
theorem dX6_rival_62 : decode cX6_rival 62 = .ok (.ifCond .ge 52, 3) := dk_156 0 52 (dk_at dksX6_rival_2 15 rfl rfl)
theorem dX6_rival_65 : decode cX6_rival 65 = .ok (.aload_n 0, 1) := dk_42 (dk_at dksX6_rival_2 18 rfl rfl)
theorem dX6_rival_66 : decode cX6_rival 66 = .ok (.getfield 29, 3) := dk_180 0 29 (dk_at dksX6_rival_2 19 rfl rfl)
theorem dX6_rival_69 : decode cX6_rival 69 = .ok (.iload 7, 2) := dk_21 7 (dk_at dksX6_rival_2 22 rfl rfl)
theorem dX6_rival_71 : decode cX6_rival 71 = .ok (.baload, 1) := dk_51 (dk_at dksX6_rival_3 0 rfl rfl)
theorem dX6_rival_72 : decode cX6_rival 72 = .ok (.ifCond .eq 42, 3) := dk_153 0 42 (dk_at dksX6_rival_3 1 rfl rfl)
theorem dX6_rival_75 : decode cX6_rival 75 = .ok (.iload 7, 2) := dk_21 7 (dk_at dksX6_rival_3 4 rfl rfl)
theorem dX6_rival_77 : decode cX6_rival 77 = .ok (.iload 5, 2) := dk_21 5 (dk_at dksX6_rival_3 6 rfl rfl)
theorem dX6_rival_79 : decode cX6_rival 79 = .ok (.if_icmp .eq 35, 3) := dk_159 0 35 (dk_at dksX6_rival_3 8 rfl rfl)
theorem dX6_rival_82 : decode cX6_rival 82 = .ok (.aload_n 0, 1) := dk_42 (dk_at dksX6_rival_3 11 rfl rfl)
theorem dX6_rival_83 : decode cX6_rival 83 = .ok (.iload 7, 2) := dk_21 7 (dk_at dksX6_rival_3 12 rfl rfl)
theorem dX6_rival_85 : decode cX6_rival 85 = .ok (.iconst 0, 1) := dk_3 (dk_at dksX6_rival_3 14 rfl rfl)
theorem dX6_rival_86 : decode cX6_rival 86 = .ok (.invokevirtual 104, 3) := dk_182 0 104 (dk_at dksX6_rival_3 15 rfl rfl)
theorem dX6_rival_89 : decode cX6_rival 89 = .ok (.aload_n 0, 1) := dk_42 (dk_at dksX6_rival_3 18 rfl rfl)
theorem dX6_rival_90 : decode cX6_rival 90 = .ok (.iload 5, 2) := dk_21 5 (dk_at dksX6_rival_3 19 rfl rfl)
theorem dX6_rival_92 : decode cX6_rival 92 = .ok (.iconst 0, 1) := dk_3 (dk_at dksX6_rival_3 21 rfl rfl)
theorem dX6_rival_93 : decode cX6_rival 93 = .ok (.invokevirtual 104, 3) := dk_182 0 104 (dk_at dksX6_rival_4 0 rfl rfl)
theorem dX6_rival_96 : decode cX6_rival 96 = .ok (.if_icmp .eq 18, 3) := dk_159 0 18 (dk_at dksX6_rival_4 3 rfl rfl)
theorem dX6_rival_99 : decode cX6_rival 99 = .ok (.aload_n 0, 1) := dk_42 (dk_at dksX6_rival_4 6 rfl rfl)
theorem dX6_rival_100 : decode cX6_rival 100 = .ok (.iload 7, 2) := dk_21 7 (dk_at dksX6_rival_4 7 rfl rfl)
theorem dX6_rival_102 : decode cX6_rival 102 = .ok (.iload 5, 2) := dk_21 5 (dk_at dksX6_rival_4 9 rfl rfl)
theorem dX6_rival_104 : decode cX6_rival 104 = .ok (.invokevirtual 178, 3) := dk_182 0 178 (dk_at dksX6_rival_4 11 rfl rfl)
theorem dX6_rival_107 : decode cX6_rival 107 = .ok (.ifCond .ne 7, 3) := dk_154 0 7 (dk_at dksX6_rival_4 14 rfl rfl)
theorem dX6_rival_110 : decode cX6_rival 110 = .ok (.iconst 1, 1) := dk_4 (dk_at dksX6_rival_4 17 rfl rfl)
theorem dX6_rival_111 : decode cX6_rival 111 = .ok (.goto 4, 3) := dk_167 0 4 (dk_at dksX6_rival_4 18 rfl rfl)
theorem dX6_rival_114 : decode cX6_rival 114 = .ok (.iconst 0, 1) := dk_3 (dk_at dksX6_rival_4 21 rfl rfl)
theorem dX6_rival_115 : decode cX6_rival 115 = .ok (.istore 8, 2) := dk_54 8 (dk_at dksX6_rival_4 22 rfl rfl)
theorem dX6_rival_117 : decode cX6_rival 117 = .ok (.iload 8, 2) := dk_21 8 (dk_at dksX6_rival_5 0 rfl rfl)
theorem dX6_rival_119 : decode cX6_rival 119 = .ok (.ifCond .eq 13, 3) := dk_153 0 13 (dk_at dksX6_rival_5 2 rfl rfl)
theorem dX6_rival_122 : decode cX6_rival 122 = .ok (.iload 6, 2) := dk_21 6 (dk_at dksX6_rival_5 5 rfl rfl)
theorem dX6_rival_124 : decode cX6_rival 124 = .ok (.iload 4, 2) := dk_21 4 (dk_at dksX6_rival_5 7 rfl rfl)
theorem dX6_rival_126 : decode cX6_rival 126 = .ok (.if_icmp .ne 6, 3) := dk_160 0 6 (dk_at dksX6_rival_5 9 rfl rfl)
theorem dX6_rival_129 : decode cX6_rival 129 = .ok (.iload 7, 2) := dk_21 7 (dk_at dksX6_rival_5 12 rfl rfl)
theorem dX6_rival_131 : decode cX6_rival 131 = .ok (.ireturn, 1) := dk_172 (dk_at dksX6_rival_5 14 rfl rfl)
theorem dX6_rival_132 : decode cX6_rival 132 = .ok (.iload 6, 2) := dk_21 6 (dk_at dksX6_rival_5 15 rfl rfl)
theorem dX6_rival_134 : decode cX6_rival 134 = .ok (.iload 8, 2) := dk_21 8 (dk_at dksX6_rival_5 17 rfl rfl)
theorem dX6_rival_136 : decode cX6_rival 136 = .ok (.ifCond .eq 7, 3) := dk_153 0 7 (dk_at dksX6_rival_5 19 rfl rfl)
theorem dX6_rival_139 : decode cX6_rival 139 = .ok (.iconst 1, 1) := dk_4 (dk_at dksX6_rival_5 22 rfl rfl)
theorem dX6_rival_140 : decode cX6_rival 140 = .ok (.goto 4, 3) := dk_167 0 4 (dk_at dksX6_rival_6 0 rfl rfl)
theorem dX6_rival_143 : decode cX6_rival 143 = .ok (.iconst 0, 1) := dk_3 (dk_at dksX6_rival_6 3 rfl rfl)
theorem dX6_rival_144 : decode cX6_rival 144 = .ok (.iadd, 1) := dk_96 (dk_at dksX6_rival_6 4 rfl rfl)
theorem dX6_rival_145 : decode cX6_rival 145 = .ok (.istore 6, 2) := dk_54 6 (dk_at dksX6_rival_6 5 rfl rfl)
theorem dX6_rival_147 : decode cX6_rival 147 = .ok (.iinc 7 1, 3) := dk_132 7 1 (dk_at dksX6_rival_6 7 rfl rfl)
theorem dX6_rival_150 : decode cX6_rival 150 = .ok (.goto (-111), 3) := dk_167 255 145 (dk_at dksX6_rival_6 10 rfl rfl)
theorem dX6_rival_153 : decode cX6_rival 153 = .ok (.aload_n 0, 1) := dk_42 (dk_at dksX6_rival_6 13 rfl rfl)
theorem dX6_rival_154 : decode cX6_rival 154 = .ok (.iload 4, 2) := dk_21 4 (dk_at dksX6_rival_6 14 rfl rfl)
theorem dX6_rival_156 : decode cX6_rival 156 = .ok (.iconst (-1), 1) := dk_2 (dk_at dksX6_rival_6 16 rfl rfl)
theorem dX6_rival_157 : decode cX6_rival 157 = .ok (.if_icmp .ne 7, 3) := dk_160 0 7 (dk_at dksX6_rival_6 17 rfl rfl)
theorem dX6_rival_160 : decode cX6_rival 160 = .ok (.iconst 0, 1) := dk_3 (dk_at dksX6_rival_6 20 rfl rfl)
theorem dX6_rival_161 : decode cX6_rival 161 = .ok (.goto 4, 3) := dk_167 0 4 (dk_at dksX6_rival_6 21 rfl rfl)
theorem dX6_rival_164 : decode cX6_rival 164 = .ok (.iconst 3, 1) := dk_6 (dk_at dksX6_rival_7 0 rfl rfl)
theorem dX6_rival_165 : decode cX6_rival 165 = .ok (.putfield 62, 3) := dk_181 0 62 (dk_at dksX6_rival_7 1 rfl rfl)
theorem dX6_rival_168 : decode cX6_rival 168 = .ok (.aload_n 0, 1) := dk_42 (dk_at dksX6_rival_7 4 rfl rfl)
theorem dX6_rival_169 : decode cX6_rival 169 = .ok (.getfield 62, 3) := dk_180 0 62 (dk_at dksX6_rival_7 5 rfl rfl)
theorem dX6_rival_172 : decode cX6_rival 172 = .ok (.ifCond .le 7, 3) := dk_158 0 7 (dk_at dksX6_rival_7 8 rfl rfl)
theorem dX6_rival_175 : decode cX6_rival 175 = .ok (.iconst 0, 1) := dk_3 (dk_at dksX6_rival_7 11 rfl rfl)
theorem dX6_rival_176 : decode cX6_rival 176 = .ok (.goto 5, 3) := dk_167 0 5 (dk_at dksX6_rival_7 12 rfl rfl)
theorem dX6_rival_179 : decode cX6_rival 179 = .ok (.iload 6, 2) := dk_21 6 (dk_at dksX6_rival_7 15 rfl rfl)
theorem dX6_rival_181 : decode cX6_rival 181 = .ok (.ireturn, 1) := dk_172 (dk_at dksX6_rival_7 17 rfl rfl)
abbrev cX6_nextChange : ByteArray := prog_27_method_55_code
def yX6_nextChange : MethodName := ⟨RX6, "nextChange", "(III)I"⟩
def dkwX6_nextChange_2 : List UInt8 := [182, 0, 204, 21, 4, 159, 0, 6, 21, 5, 172, 132, 5, 1, 167, 255, 229, 42, 6, 181, 0, 62, 3, 172]
abbrev dktX6_nextChange_2 : List UInt8 := dkwX6_nextChange_2 ++ []
def dkwX6_nextChange_1 : List UInt8 := [182, 0, 204, 54, 4, 28, 4, 96, 54, 5, 21, 5, 17, 3, 231, 163, 0, 25, 42, 27, 21, 5, 29]
abbrev dktX6_nextChange_1 : List UInt8 := dkwX6_nextChange_1 ++ dktX6_nextChange_2
def dkwX6_nextChange_0 : List UInt8 := [42, 42, 27, 28, 29, 182, 0, 199, 181, 0, 62, 42, 180, 0, 62, 158, 0, 5, 3, 172, 42, 27, 28, 29]
abbrev dktX6_nextChange_0 : List UInt8 := dkwX6_nextChange_0 ++ dktX6_nextChange_1
theorem dksX6_nextChange_0 : cX6_nextChange.data.toList.drop 0 = dktX6_nextChange_0 := by decide +kernel
theorem dksX6_nextChange_1 : cX6_nextChange.data.toList.drop 24 = dktX6_nextChange_1 := dk_seg dksX6_nextChange_0 24 rfl rfl
theorem dksX6_nextChange_2 : cX6_nextChange.data.toList.drop 47 = dktX6_nextChange_2 := dk_seg dksX6_nextChange_1 23 rfl rfl
theorem dX6_nextChange_0 : decode cX6_nextChange 0 = .ok (.aload_n 0, 1) := dk_42 (dk_at dksX6_nextChange_0 0 rfl rfl)
theorem dX6_nextChange_1 : decode cX6_nextChange 1 = .ok (.aload_n 0, 1) := dk_42 (dk_at dksX6_nextChange_0 1 rfl rfl)
theorem dX6_nextChange_2 : decode cX6_nextChange 2 = .ok (.iload_n 1, 1) := dk_27 (dk_at dksX6_nextChange_0 2 rfl rfl)
theorem dX6_nextChange_3 : decode cX6_nextChange 3 = .ok (.iload_n 2, 1) := dk_28 (dk_at dksX6_nextChange_0 3 rfl rfl)
theorem dX6_nextChange_4 : decode cX6_nextChange 4 = .ok (.iload_n 3, 1) := dk_29 (dk_at dksX6_nextChange_0 4 rfl rfl)
theorem dX6_nextChange_5 : decode cX6_nextChange 5 = .ok (.invokevirtual 199, 3) := dk_182 0 199 (dk_at dksX6_nextChange_0 5 rfl rfl)
theorem dX6_nextChange_8 : decode cX6_nextChange 8 = .ok (.putfield 62, 3) := dk_181 0 62 (dk_at dksX6_nextChange_0 8 rfl rfl)
theorem dX6_nextChange_11 : decode cX6_nextChange 11 = .ok (.aload_n 0, 1) := dk_42 (dk_at dksX6_nextChange_0 11 rfl rfl)
theorem dX6_nextChange_12 : decode cX6_nextChange 12 = .ok (.getfield 62, 3) := dk_180 0 62 (dk_at dksX6_nextChange_0 12 rfl rfl)
theorem dX6_nextChange_15 : decode cX6_nextChange 15 = .ok (.ifCond .le 5, 3) := dk_158 0 5 (dk_at dksX6_nextChange_0 15 rfl rfl)
theorem dX6_nextChange_18 : decode cX6_nextChange 18 = .ok (.iconst 0, 1) := dk_3 (dk_at dksX6_nextChange_0 18 rfl rfl)
theorem dX6_nextChange_19 : decode cX6_nextChange 19 = .ok (.ireturn, 1) := dk_172 (dk_at dksX6_nextChange_0 19 rfl rfl)
theorem dX6_nextChange_20 : decode cX6_nextChange 20 = .ok (.aload_n 0, 1) := dk_42 (dk_at dksX6_nextChange_0 20 rfl rfl)
theorem dX6_nextChange_21 : decode cX6_nextChange 21 = .ok (.iload_n 1, 1) := dk_27 (dk_at dksX6_nextChange_0 21 rfl rfl)
theorem dX6_nextChange_22 : decode cX6_nextChange 22 = .ok (.iload_n 2, 1) := dk_28 (dk_at dksX6_nextChange_0 22 rfl rfl)
theorem dX6_nextChange_23 : decode cX6_nextChange 23 = .ok (.iload_n 3, 1) := dk_29 (dk_at dksX6_nextChange_0 23 rfl rfl)
theorem dX6_nextChange_24 : decode cX6_nextChange 24 = .ok (.invokevirtual 204, 3) := dk_182 0 204 (dk_at dksX6_nextChange_1 0 rfl rfl)
theorem dX6_nextChange_27 : decode cX6_nextChange 27 = .ok (.istore 4, 2) := dk_54 4 (dk_at dksX6_nextChange_1 3 rfl rfl)
theorem dX6_nextChange_29 : decode cX6_nextChange 29 = .ok (.iload_n 2, 1) := dk_28 (dk_at dksX6_nextChange_1 5 rfl rfl)
theorem dX6_nextChange_30 : decode cX6_nextChange 30 = .ok (.iconst 1, 1) := dk_4 (dk_at dksX6_nextChange_1 6 rfl rfl)
theorem dX6_nextChange_31 : decode cX6_nextChange 31 = .ok (.iadd, 1) := dk_96 (dk_at dksX6_nextChange_1 7 rfl rfl)
theorem dX6_nextChange_32 : decode cX6_nextChange 32 = .ok (.istore 5, 2) := dk_54 5 (dk_at dksX6_nextChange_1 8 rfl rfl)
theorem dX6_nextChange_34 : decode cX6_nextChange 34 = .ok (.iload 5, 2) := dk_21 5 (dk_at dksX6_nextChange_1 10 rfl rfl)
theorem dX6_nextChange_36 : decode cX6_nextChange 36 = .ok (.sipush 999, 3) := dk_17 3 231 (dk_at dksX6_nextChange_1 12 rfl rfl)
theorem dX6_nextChange_39 : decode cX6_nextChange 39 = .ok (.if_icmp .gt 25, 3) := dk_163 0 25 (dk_at dksX6_nextChange_1 15 rfl rfl)
theorem dX6_nextChange_42 : decode cX6_nextChange 42 = .ok (.aload_n 0, 1) := dk_42 (dk_at dksX6_nextChange_1 18 rfl rfl)
theorem dX6_nextChange_43 : decode cX6_nextChange 43 = .ok (.iload_n 1, 1) := dk_27 (dk_at dksX6_nextChange_1 19 rfl rfl)
theorem dX6_nextChange_44 : decode cX6_nextChange 44 = .ok (.iload 5, 2) := dk_21 5 (dk_at dksX6_nextChange_1 20 rfl rfl)
theorem dX6_nextChange_46 : decode cX6_nextChange 46 = .ok (.iload_n 3, 1) := dk_29 (dk_at dksX6_nextChange_1 22 rfl rfl)
theorem dX6_nextChange_47 : decode cX6_nextChange 47 = .ok (.invokevirtual 204, 3) := dk_182 0 204 (dk_at dksX6_nextChange_2 0 rfl rfl)
theorem dX6_nextChange_50 : decode cX6_nextChange 50 = .ok (.iload 4, 2) := dk_21 4 (dk_at dksX6_nextChange_2 3 rfl rfl)
theorem dX6_nextChange_52 : decode cX6_nextChange 52 = .ok (.if_icmp .eq 6, 3) := dk_159 0 6 (dk_at dksX6_nextChange_2 5 rfl rfl)
theorem dX6_nextChange_55 : decode cX6_nextChange 55 = .ok (.iload 5, 2) := dk_21 5 (dk_at dksX6_nextChange_2 8 rfl rfl)
theorem dX6_nextChange_57 : decode cX6_nextChange 57 = .ok (.ireturn, 1) := dk_172 (dk_at dksX6_nextChange_2 10 rfl rfl)
theorem dX6_nextChange_58 : decode cX6_nextChange 58 = .ok (.iinc 5 1, 3) := dk_132 5 1 (dk_at dksX6_nextChange_2 11 rfl rfl)
theorem dX6_nextChange_61 : decode cX6_nextChange 61 = .ok (.goto (-27), 3) := dk_167 255 229 (dk_at dksX6_nextChange_2 14 rfl rfl)
theorem dX6_nextChange_64 : decode cX6_nextChange 64 = .ok (.aload_n 0, 1) := dk_42 (dk_at dksX6_nextChange_2 17 rfl rfl)
theorem dX6_nextChange_65 : decode cX6_nextChange 65 = .ok (.iconst 3, 1) := dk_6 (dk_at dksX6_nextChange_2 18 rfl rfl)
theorem dX6_nextChange_66 : decode cX6_nextChange 66 = .ok (.putfield 62, 3) := dk_181 0 62 (dk_at dksX6_nextChange_2 19 rfl rfl)
theorem dX6_nextChange_69 : decode cX6_nextChange 69 = .ok (.iconst 0, 1) := dk_3 (dk_at dksX6_nextChange_2 22 rfl rfl)
theorem dX6_nextChange_70 : decode cX6_nextChange 70 = .ok (.ireturn, 1) := dk_172 (dk_at dksX6_nextChange_2 23 rfl rfl)
abbrev cX6_days : ByteArray := prog_27_method_56_code
def yX6_days : MethodName := ⟨RX6, "days", "(III)I"⟩
def dkwX6_days_3 : List UInt8 := [160, 0, 7, 4, 167, 0, 4, 3, 96, 54, 4, 132, 5, 1, 167, 255, 223, 21, 4, 172]
abbrev dktX6_days_3 : List UInt8 := dkwX6_days_3 ++ []
def dkwX6_days_2 : List UInt8 := [54, 4, 3, 54, 5, 21, 5, 17, 3, 231, 163, 0, 31, 21, 4, 42, 28, 21, 5, 29, 182, 0, 204, 27]
abbrev dktX6_days_2 : List UInt8 := dkwX6_days_2 ++ dktX6_days_3
def dkwX6_days_1 : List UInt8 := [184, 0, 196, 154, 0, 7, 5, 167, 0, 4, 3, 181, 0, 62, 42, 180, 0, 62, 158, 0, 5, 3, 172, 3]
abbrev dktX6_days_1 : List UInt8 := dkwX6_days_1 ++ dktX6_days_2
def dkwX6_days_0 : List UInt8 := [42, 42, 28, 182, 0, 88, 154, 0, 7, 4, 167, 0, 23, 27, 184, 0, 133, 153, 0, 11, 3, 29]
abbrev dktX6_days_0 : List UInt8 := dkwX6_days_0 ++ dktX6_days_1
theorem dksX6_days_0 : cX6_days.data.toList.drop 0 = dktX6_days_0 := by decide +kernel
theorem dksX6_days_1 : cX6_days.data.toList.drop 22 = dktX6_days_1 := dk_seg dksX6_days_0 22 rfl rfl
theorem dksX6_days_2 : cX6_days.data.toList.drop 46 = dktX6_days_2 := dk_seg dksX6_days_1 24 rfl rfl
theorem dksX6_days_3 : cX6_days.data.toList.drop 70 = dktX6_days_3 := dk_seg dksX6_days_2 24 rfl rfl
theorem dX6_days_0 : decode cX6_days 0 = .ok (.aload_n 0, 1) := dk_42 (dk_at dksX6_days_0 0 rfl rfl)
theorem dX6_days_1 : decode cX6_days 1 = .ok (.aload_n 0, 1) := dk_42 (dk_at dksX6_days_0 1 rfl rfl)
theorem dX6_days_2 : decode cX6_days 2 = .ok (.iload_n 2, 1) := dk_28 (dk_at dksX6_days_0 2 rfl rfl)
theorem dX6_days_3 : decode cX6_days 3 = .ok (.invokevirtual 88, 3) := dk_182 0 88 (dk_at dksX6_days_0 3 rfl rfl)
theorem dX6_days_6 : decode cX6_days 6 = .ok (.ifCond .ne 7, 3) := dk_154 0 7 (dk_at dksX6_days_0 6 rfl rfl)
theorem dX6_days_9 : decode cX6_days 9 = .ok (.iconst 1, 1) := dk_4 (dk_at dksX6_days_0 9 rfl rfl)
theorem dX6_days_10 : decode cX6_days 10 = .ok (.goto 23, 3) := dk_167 0 23 (dk_at dksX6_days_0 10 rfl rfl)
theorem dX6_days_13 : decode cX6_days 13 = .ok (.iload_n 1, 1) := dk_27 (dk_at dksX6_days_0 13 rfl rfl)
theorem dX6_days_14 : decode cX6_days 14 = .ok (.invokestatic 133, 3) := dk_184 0 133 (dk_at dksX6_days_0 14 rfl rfl)
theorem dX6_days_17 : decode cX6_days 17 = .ok (.ifCond .eq 11, 3) := dk_153 0 11 (dk_at dksX6_days_0 17 rfl rfl)
theorem dX6_days_20 : decode cX6_days 20 = .ok (.iconst 0, 1) := dk_3 (dk_at dksX6_days_0 20 rfl rfl)
theorem dX6_days_21 : decode cX6_days 21 = .ok (.iload_n 3, 1) := dk_29 (dk_at dksX6_days_0 21 rfl rfl)
theorem dX6_days_22 : decode cX6_days 22 = .ok (.invokestatic 196, 3) := dk_184 0 196 (dk_at dksX6_days_1 0 rfl rfl)
theorem dX6_days_25 : decode cX6_days 25 = .ok (.ifCond .ne 7, 3) := dk_154 0 7 (dk_at dksX6_days_1 3 rfl rfl)
theorem dX6_days_28 : decode cX6_days 28 = .ok (.iconst 2, 1) := dk_5 (dk_at dksX6_days_1 6 rfl rfl)
theorem dX6_days_29 : decode cX6_days 29 = .ok (.goto 4, 3) := dk_167 0 4 (dk_at dksX6_days_1 7 rfl rfl)
theorem dX6_days_32 : decode cX6_days 32 = .ok (.iconst 0, 1) := dk_3 (dk_at dksX6_days_1 10 rfl rfl)
theorem dX6_days_33 : decode cX6_days 33 = .ok (.putfield 62, 3) := dk_181 0 62 (dk_at dksX6_days_1 11 rfl rfl)
theorem dX6_days_36 : decode cX6_days 36 = .ok (.aload_n 0, 1) := dk_42 (dk_at dksX6_days_1 14 rfl rfl)
theorem dX6_days_37 : decode cX6_days 37 = .ok (.getfield 62, 3) := dk_180 0 62 (dk_at dksX6_days_1 15 rfl rfl)
theorem dX6_days_40 : decode cX6_days 40 = .ok (.ifCond .le 5, 3) := dk_158 0 5 (dk_at dksX6_days_1 18 rfl rfl)
theorem dX6_days_43 : decode cX6_days 43 = .ok (.iconst 0, 1) := dk_3 (dk_at dksX6_days_1 21 rfl rfl)
theorem dX6_days_44 : decode cX6_days 44 = .ok (.ireturn, 1) := dk_172 (dk_at dksX6_days_1 22 rfl rfl)
theorem dX6_days_45 : decode cX6_days 45 = .ok (.iconst 0, 1) := dk_3 (dk_at dksX6_days_1 23 rfl rfl)
theorem dX6_days_46 : decode cX6_days 46 = .ok (.istore 4, 2) := dk_54 4 (dk_at dksX6_days_2 0 rfl rfl)
theorem dX6_days_48 : decode cX6_days 48 = .ok (.iconst 0, 1) := dk_3 (dk_at dksX6_days_2 2 rfl rfl)
theorem dX6_days_49 : decode cX6_days 49 = .ok (.istore 5, 2) := dk_54 5 (dk_at dksX6_days_2 3 rfl rfl)
theorem dX6_days_51 : decode cX6_days 51 = .ok (.iload 5, 2) := dk_21 5 (dk_at dksX6_days_2 5 rfl rfl)
theorem dX6_days_53 : decode cX6_days 53 = .ok (.sipush 999, 3) := dk_17 3 231 (dk_at dksX6_days_2 7 rfl rfl)
theorem dX6_days_56 : decode cX6_days 56 = .ok (.if_icmp .gt 31, 3) := dk_163 0 31 (dk_at dksX6_days_2 10 rfl rfl)
theorem dX6_days_59 : decode cX6_days 59 = .ok (.iload 4, 2) := dk_21 4 (dk_at dksX6_days_2 13 rfl rfl)
theorem dX6_days_61 : decode cX6_days 61 = .ok (.aload_n 0, 1) := dk_42 (dk_at dksX6_days_2 15 rfl rfl)
theorem dX6_days_62 : decode cX6_days 62 = .ok (.iload_n 2, 1) := dk_28 (dk_at dksX6_days_2 16 rfl rfl)
theorem dX6_days_63 : decode cX6_days 63 = .ok (.iload 5, 2) := dk_21 5 (dk_at dksX6_days_2 17 rfl rfl)
theorem dX6_days_65 : decode cX6_days 65 = .ok (.iload_n 3, 1) := dk_29 (dk_at dksX6_days_2 19 rfl rfl)
theorem dX6_days_66 : decode cX6_days 66 = .ok (.invokevirtual 204, 3) := dk_182 0 204 (dk_at dksX6_days_2 20 rfl rfl)
theorem dX6_days_69 : decode cX6_days 69 = .ok (.iload_n 1, 1) := dk_27 (dk_at dksX6_days_2 23 rfl rfl)
theorem dX6_days_70 : decode cX6_days 70 = .ok (.if_icmp .ne 7, 3) := dk_160 0 7 (dk_at dksX6_days_3 0 rfl rfl)
theorem dX6_days_73 : decode cX6_days 73 = .ok (.iconst 1, 1) := dk_4 (dk_at dksX6_days_3 3 rfl rfl)
theorem dX6_days_74 : decode cX6_days 74 = .ok (.goto 4, 3) := dk_167 0 4 (dk_at dksX6_days_3 4 rfl rfl)
theorem dX6_days_77 : decode cX6_days 77 = .ok (.iconst 0, 1) := dk_3 (dk_at dksX6_days_3 7 rfl rfl)
theorem dX6_days_78 : decode cX6_days 78 = .ok (.iadd, 1) := dk_96 (dk_at dksX6_days_3 8 rfl rfl)
theorem dX6_days_79 : decode cX6_days 79 = .ok (.istore 4, 2) := dk_54 4 (dk_at dksX6_days_3 9 rfl rfl)
theorem dX6_days_81 : decode cX6_days 81 = .ok (.iinc 5 1, 3) := dk_132 5 1 (dk_at dksX6_days_3 11 rfl rfl)
theorem dX6_days_84 : decode cX6_days 84 = .ok (.goto (-33), 3) := dk_167 255 223 (dk_at dksX6_days_3 14 rfl rfl)
theorem dX6_days_87 : decode cX6_days 87 = .ok (.iload 4, 2) := dk_21 4 (dk_at dksX6_days_3 17 rfl rfl)
theorem dX6_days_89 : decode cX6_days 89 = .ok (.ireturn, 1) := dk_172 (dk_at dksX6_days_3 19 rfl rfl)
abbrev cX6_burden : ByteArray := prog_27_method_58_code
def yX6_burden : MethodName := ⟨RX6, "burden", "(III)F"⟩
def dkwX6_burden_1 : List UInt8 := [28, 29, 182, 0, 212, 174]
abbrev dktX6_burden_1 : List UInt8 := dkwX6_burden_1 ++ []
def dkwX6_burden_0 : List UInt8 := [42, 42, 27, 28, 29, 182, 0, 199, 181, 0, 62, 42, 180, 0, 62, 158, 0, 7, 11, 167, 0, 10, 42, 27]
abbrev dktX6_burden_0 : List UInt8 := dkwX6_burden_0 ++ dktX6_burden_1
theorem dksX6_burden_0 : cX6_burden.data.toList.drop 0 = dktX6_burden_0 := by decide +kernel
theorem dksX6_burden_1 : cX6_burden.data.toList.drop 24 = dktX6_burden_1 := dk_seg dksX6_burden_0 24 rfl rfl
theorem dX6_burden_0 : decode cX6_burden 0 = .ok (.aload_n 0, 1) := dk_42 (dk_at dksX6_burden_0 0 rfl rfl)
theorem dX6_burden_1 : decode cX6_burden 1 = .ok (.aload_n 0, 1) := dk_42 (dk_at dksX6_burden_0 1 rfl rfl)
theorem dX6_burden_2 : decode cX6_burden 2 = .ok (.iload_n 1, 1) := dk_27 (dk_at dksX6_burden_0 2 rfl rfl)
theorem dX6_burden_3 : decode cX6_burden 3 = .ok (.iload_n 2, 1) := dk_28 (dk_at dksX6_burden_0 3 rfl rfl)
theorem dX6_burden_4 : decode cX6_burden 4 = .ok (.iload_n 3, 1) := dk_29 (dk_at dksX6_burden_0 4 rfl rfl)
theorem dX6_burden_5 : decode cX6_burden 5 = .ok (.invokevirtual 199, 3) := dk_182 0 199 (dk_at dksX6_burden_0 5 rfl rfl)
theorem dX6_burden_8 : decode cX6_burden 8 = .ok (.putfield 62, 3) := dk_181 0 62 (dk_at dksX6_burden_0 8 rfl rfl)
theorem dX6_burden_11 : decode cX6_burden 11 = .ok (.aload_n 0, 1) := dk_42 (dk_at dksX6_burden_0 11 rfl rfl)
theorem dX6_burden_12 : decode cX6_burden 12 = .ok (.getfield 62, 3) := dk_180 0 62 (dk_at dksX6_burden_0 12 rfl rfl)
theorem dX6_burden_15 : decode cX6_burden 15 = .ok (.ifCond .le 7, 3) := dk_158 0 7 (dk_at dksX6_burden_0 15 rfl rfl)
theorem dX6_burden_18 : decode cX6_burden 18 = .ok (.fconst 0, 1) := dk_11 (dk_at dksX6_burden_0 18 rfl rfl)
theorem dX6_burden_19 : decode cX6_burden 19 = .ok (.goto 10, 3) := dk_167 0 10 (dk_at dksX6_burden_0 19 rfl rfl)
theorem dX6_burden_22 : decode cX6_burden 22 = .ok (.aload_n 0, 1) := dk_42 (dk_at dksX6_burden_0 22 rfl rfl)
theorem dX6_burden_23 : decode cX6_burden 23 = .ok (.iload_n 1, 1) := dk_27 (dk_at dksX6_burden_0 23 rfl rfl)
theorem dX6_burden_24 : decode cX6_burden 24 = .ok (.iload_n 2, 1) := dk_28 (dk_at dksX6_burden_1 0 rfl rfl)
theorem dX6_burden_25 : decode cX6_burden 25 = .ok (.iload_n 3, 1) := dk_29 (dk_at dksX6_burden_1 1 rfl rfl)
theorem dX6_burden_26 : decode cX6_burden 26 = .ok (.invokevirtual 212, 3) := dk_182 0 212 (dk_at dksX6_burden_1 2 rfl rfl)
theorem dX6_burden_29 : decode cX6_burden 29 = .ok (.freturn, 1) := dk_174 (dk_at dksX6_burden_1 5 rfl rfl)
abbrev cX6_burdenOf : ByteArray := prog_27_method_57_code
def yX6_burdenOf : MethodName := ⟨RX6, "burdenOf", "(III)F"⟩
def dkwX6_burdenOf_3 : List UInt8 := [174]
abbrev dktX6_burdenOf_3 : List UInt8 := dkwX6_burdenOf_3 ++ []
def dkwX6_burdenOf_2 : List UInt8 := [110, 56, 4, 132, 5, 1, 167, 255, 215, 23, 4, 18, 211, 149, 158, 0, 8, 18, 211, 167, 0, 5, 23, 4]
abbrev dktX6_burdenOf_2 : List UInt8 := dkwX6_burdenOf_2 ++ dktX6_burdenOf_3
def dkwX6_burdenOf_1 : List UInt8 := [42, 180, 0, 29, 21, 5, 51, 153, 0, 20, 23, 4, 42, 21, 5, 16, 6, 182, 0, 104, 134, 106, 18, 210]
abbrev dktX6_burdenOf_1 : List UInt8 := dkwX6_burdenOf_1 ++ dktX6_burdenOf_2
def dkwX6_burdenOf_0 : List UInt8 := [42, 27, 28, 29, 182, 0, 181, 12, 56, 4, 3, 54, 5, 21, 5, 42, 180, 0, 9, 4, 46, 162, 0, 36]
abbrev dktX6_burdenOf_0 : List UInt8 := dkwX6_burdenOf_0 ++ dktX6_burdenOf_1
theorem dksX6_burdenOf_0 : cX6_burdenOf.data.toList.drop 0 = dktX6_burdenOf_0 := by decide +kernel
theorem dksX6_burdenOf_1 : cX6_burdenOf.data.toList.drop 24 = dktX6_burdenOf_1 := dk_seg dksX6_burdenOf_0 24 rfl rfl
theorem dksX6_burdenOf_2 : cX6_burdenOf.data.toList.drop 48 = dktX6_burdenOf_2 := dk_seg dksX6_burdenOf_1 24 rfl rfl
theorem dksX6_burdenOf_3 : cX6_burdenOf.data.toList.drop 72 = dktX6_burdenOf_3 := dk_seg dksX6_burdenOf_2 24 rfl rfl
theorem dX6_burdenOf_0 : decode cX6_burdenOf 0 = .ok (.aload_n 0, 1) := dk_42 (dk_at dksX6_burdenOf_0 0 rfl rfl)
theorem dX6_burdenOf_1 : decode cX6_burdenOf 1 = .ok (.iload_n 1, 1) := dk_27 (dk_at dksX6_burdenOf_0 1 rfl rfl)
theorem dX6_burdenOf_2 : decode cX6_burdenOf 2 = .ok (.iload_n 2, 1) := dk_28 (dk_at dksX6_burdenOf_0 2 rfl rfl)
theorem dX6_burdenOf_3 : decode cX6_burdenOf 3 = .ok (.iload_n 3, 1) := dk_29 (dk_at dksX6_burdenOf_0 3 rfl rfl)
theorem dX6_burdenOf_4 : decode cX6_burdenOf 4 = .ok (.invokevirtual 181, 3) := dk_182 0 181 (dk_at dksX6_burdenOf_0 4 rfl rfl)
theorem dX6_burdenOf_7 : decode cX6_burdenOf 7 = .ok (.fconst 1, 1) := dk_12 (dk_at dksX6_burdenOf_0 7 rfl rfl)
theorem dX6_burdenOf_8 : decode cX6_burdenOf 8 = .ok (.fstore 4, 2) := dk_56 4 (dk_at dksX6_burdenOf_0 8 rfl rfl)
theorem dX6_burdenOf_10 : decode cX6_burdenOf 10 = .ok (.iconst 0, 1) := dk_3 (dk_at dksX6_burdenOf_0 10 rfl rfl)
theorem dX6_burdenOf_11 : decode cX6_burdenOf 11 = .ok (.istore 5, 2) := dk_54 5 (dk_at dksX6_burdenOf_0 11 rfl rfl)
theorem dX6_burdenOf_13 : decode cX6_burdenOf 13 = .ok (.iload 5, 2) := dk_21 5 (dk_at dksX6_burdenOf_0 13 rfl rfl)
theorem dX6_burdenOf_15 : decode cX6_burdenOf 15 = .ok (.aload_n 0, 1) := dk_42 (dk_at dksX6_burdenOf_0 15 rfl rfl)
theorem dX6_burdenOf_16 : decode cX6_burdenOf 16 = .ok (.getfield 9, 3) := dk_180 0 9 (dk_at dksX6_burdenOf_0 16 rfl rfl)
theorem dX6_burdenOf_19 : decode cX6_burdenOf 19 = .ok (.iconst 1, 1) := dk_4 (dk_at dksX6_burdenOf_0 19 rfl rfl)
theorem dX6_burdenOf_20 : decode cX6_burdenOf 20 = .ok (.iaload, 1) := dk_46 (dk_at dksX6_burdenOf_0 20 rfl rfl)
theorem dX6_burdenOf_21 : decode cX6_burdenOf 21 = .ok (.if_icmp .ge 36, 3) := dk_162 0 36 (dk_at dksX6_burdenOf_0 21 rfl rfl)
theorem dX6_burdenOf_24 : decode cX6_burdenOf 24 = .ok (.aload_n 0, 1) := dk_42 (dk_at dksX6_burdenOf_1 0 rfl rfl)
theorem dX6_burdenOf_25 : decode cX6_burdenOf 25 = .ok (.getfield 29, 3) := dk_180 0 29 (dk_at dksX6_burdenOf_1 1 rfl rfl)
theorem dX6_burdenOf_28 : decode cX6_burdenOf 28 = .ok (.iload 5, 2) := dk_21 5 (dk_at dksX6_burdenOf_1 4 rfl rfl)
theorem dX6_burdenOf_30 : decode cX6_burdenOf 30 = .ok (.baload, 1) := dk_51 (dk_at dksX6_burdenOf_1 6 rfl rfl)
theorem dX6_burdenOf_31 : decode cX6_burdenOf 31 = .ok (.ifCond .eq 20, 3) := dk_153 0 20 (dk_at dksX6_burdenOf_1 7 rfl rfl)
theorem dX6_burdenOf_34 : decode cX6_burdenOf 34 = .ok (.fload 4, 2) := dk_23 4 (dk_at dksX6_burdenOf_1 10 rfl rfl)
theorem dX6_burdenOf_36 : decode cX6_burdenOf 36 = .ok (.aload_n 0, 1) := dk_42 (dk_at dksX6_burdenOf_1 12 rfl rfl)
theorem dX6_burdenOf_37 : decode cX6_burdenOf 37 = .ok (.iload 5, 2) := dk_21 5 (dk_at dksX6_burdenOf_1 13 rfl rfl)
theorem dX6_burdenOf_39 : decode cX6_burdenOf 39 = .ok (.bipush 6, 2) := dk_16 6 (dk_at dksX6_burdenOf_1 15 rfl rfl)
theorem dX6_burdenOf_41 : decode cX6_burdenOf 41 = .ok (.invokevirtual 104, 3) := dk_182 0 104 (dk_at dksX6_burdenOf_1 17 rfl rfl)
theorem dX6_burdenOf_44 : decode cX6_burdenOf 44 = .ok (.i2f, 1) := dk_134 (dk_at dksX6_burdenOf_1 20 rfl rfl)
theorem dX6_burdenOf_45 : decode cX6_burdenOf 45 = .ok (.fmul, 1) := dk_106 (dk_at dksX6_burdenOf_1 21 rfl rfl)
theorem dX6_burdenOf_46 : decode cX6_burdenOf 46 = .ok (.ldc 210, 2) := dk_18 210 (dk_at dksX6_burdenOf_1 22 rfl rfl)
theorem dX6_burdenOf_48 : decode cX6_burdenOf 48 = .ok (.fdiv, 1) := dk_110 (dk_at dksX6_burdenOf_2 0 rfl rfl)
theorem dX6_burdenOf_49 : decode cX6_burdenOf 49 = .ok (.fstore 4, 2) := dk_56 4 (dk_at dksX6_burdenOf_2 1 rfl rfl)
theorem dX6_burdenOf_51 : decode cX6_burdenOf 51 = .ok (.iinc 5 1, 3) := dk_132 5 1 (dk_at dksX6_burdenOf_2 3 rfl rfl)
theorem dX6_burdenOf_54 : decode cX6_burdenOf 54 = .ok (.goto (-41), 3) := dk_167 255 215 (dk_at dksX6_burdenOf_2 6 rfl rfl)
theorem dX6_burdenOf_57 : decode cX6_burdenOf 57 = .ok (.fload 4, 2) := dk_23 4 (dk_at dksX6_burdenOf_2 9 rfl rfl)
theorem dX6_burdenOf_59 : decode cX6_burdenOf 59 = .ok (.ldc 211, 2) := dk_18 211 (dk_at dksX6_burdenOf_2 11 rfl rfl)
theorem dX6_burdenOf_61 : decode cX6_burdenOf 61 = .ok (.fcmp .l, 1) := dk_149 (dk_at dksX6_burdenOf_2 13 rfl rfl)
theorem dX6_burdenOf_62 : decode cX6_burdenOf 62 = .ok (.ifCond .le 8, 3) := dk_158 0 8 (dk_at dksX6_burdenOf_2 14 rfl rfl)
theorem dX6_burdenOf_65 : decode cX6_burdenOf 65 = .ok (.ldc 211, 2) := dk_18 211 (dk_at dksX6_burdenOf_2 17 rfl rfl)
theorem dX6_burdenOf_67 : decode cX6_burdenOf 67 = .ok (.goto 5, 3) := dk_167 0 5 (dk_at dksX6_burdenOf_2 19 rfl rfl)
theorem dX6_burdenOf_70 : decode cX6_burdenOf 70 = .ok (.fload 4, 2) := dk_23 4 (dk_at dksX6_burdenOf_2 22 rfl rfl)
theorem dX6_burdenOf_72 : decode cX6_burdenOf 72 = .ok (.freturn, 1) := dk_174 (dk_at dksX6_burdenOf_3 0 rfl rfl)
abbrev cX6_percent : ByteArray := prog_27_method_59_code
def yX6_percent : MethodName := ⟨RX6, "percent", "(III)I"⟩
def dkwX6_percent_1 : List UInt8 := [28, 29, 182, 0, 212, 18, 210, 106, 139, 172]
abbrev dktX6_percent_1 : List UInt8 := dkwX6_percent_1 ++ []
def dkwX6_percent_0 : List UInt8 := [42, 42, 27, 28, 29, 182, 0, 199, 181, 0, 62, 42, 180, 0, 62, 158, 0, 7, 3, 167, 0, 14, 42, 27]
abbrev dktX6_percent_0 : List UInt8 := dkwX6_percent_0 ++ dktX6_percent_1
theorem dksX6_percent_0 : cX6_percent.data.toList.drop 0 = dktX6_percent_0 := by decide +kernel
theorem dksX6_percent_1 : cX6_percent.data.toList.drop 24 = dktX6_percent_1 := dk_seg dksX6_percent_0 24 rfl rfl
theorem dX6_percent_0 : decode cX6_percent 0 = .ok (.aload_n 0, 1) := dk_42 (dk_at dksX6_percent_0 0 rfl rfl)
theorem dX6_percent_1 : decode cX6_percent 1 = .ok (.aload_n 0, 1) := dk_42 (dk_at dksX6_percent_0 1 rfl rfl)
theorem dX6_percent_2 : decode cX6_percent 2 = .ok (.iload_n 1, 1) := dk_27 (dk_at dksX6_percent_0 2 rfl rfl)
theorem dX6_percent_3 : decode cX6_percent 3 = .ok (.iload_n 2, 1) := dk_28 (dk_at dksX6_percent_0 3 rfl rfl)
theorem dX6_percent_4 : decode cX6_percent 4 = .ok (.iload_n 3, 1) := dk_29 (dk_at dksX6_percent_0 4 rfl rfl)
theorem dX6_percent_5 : decode cX6_percent 5 = .ok (.invokevirtual 199, 3) := dk_182 0 199 (dk_at dksX6_percent_0 5 rfl rfl)
theorem dX6_percent_8 : decode cX6_percent 8 = .ok (.putfield 62, 3) := dk_181 0 62 (dk_at dksX6_percent_0 8 rfl rfl)
theorem dX6_percent_11 : decode cX6_percent 11 = .ok (.aload_n 0, 1) := dk_42 (dk_at dksX6_percent_0 11 rfl rfl)
theorem dX6_percent_12 : decode cX6_percent 12 = .ok (.getfield 62, 3) := dk_180 0 62 (dk_at dksX6_percent_0 12 rfl rfl)
theorem dX6_percent_15 : decode cX6_percent 15 = .ok (.ifCond .le 7, 3) := dk_158 0 7 (dk_at dksX6_percent_0 15 rfl rfl)
theorem dX6_percent_18 : decode cX6_percent 18 = .ok (.iconst 0, 1) := dk_3 (dk_at dksX6_percent_0 18 rfl rfl)
theorem dX6_percent_19 : decode cX6_percent 19 = .ok (.goto 14, 3) := dk_167 0 14 (dk_at dksX6_percent_0 19 rfl rfl)
theorem dX6_percent_22 : decode cX6_percent 22 = .ok (.aload_n 0, 1) := dk_42 (dk_at dksX6_percent_0 22 rfl rfl)
theorem dX6_percent_23 : decode cX6_percent 23 = .ok (.iload_n 1, 1) := dk_27 (dk_at dksX6_percent_0 23 rfl rfl)
theorem dX6_percent_24 : decode cX6_percent 24 = .ok (.iload_n 2, 1) := dk_28 (dk_at dksX6_percent_1 0 rfl rfl)
theorem dX6_percent_25 : decode cX6_percent 25 = .ok (.iload_n 3, 1) := dk_29 (dk_at dksX6_percent_1 1 rfl rfl)
theorem dX6_percent_26 : decode cX6_percent 26 = .ok (.invokevirtual 212, 3) := dk_182 0 212 (dk_at dksX6_percent_1 2 rfl rfl)
theorem dX6_percent_29 : decode cX6_percent 29 = .ok (.ldc 210, 2) := dk_18 210 (dk_at dksX6_percent_1 5 rfl rfl)
theorem dX6_percent_31 : decode cX6_percent 31 = .ok (.fmul, 1) := dk_106 (dk_at dksX6_percent_1 7 rfl rfl)
theorem dX6_percent_32 : decode cX6_percent 32 = .ok (.f2i, 1) := dk_139 (dk_at dksX6_percent_1 8 rfl rfl)
theorem dX6_percent_33 : decode cX6_percent 33 = .ok (.ireturn, 1) := dk_172 (dk_at dksX6_percent_1 9 rfl rfl)
abbrev cX6_work : ByteArray := prog_27_method_61_code
def yX6_work : MethodName := ⟨RX6, "work", "(IIII)I"⟩
def dkwX6_work_6 : List UInt8 := [79, 42, 180, 0, 9, 5, 92, 46, 4, 96, 79, 21, 5, 172]
abbrev dktX6_work_6 : List UInt8 := dkwX6_work_6 ++ []
def dkwX6_work_5 : List UInt8 := [21, 5, 104, 96, 5, 96, 29, 79, 42, 180, 0, 9, 17, 1, 87, 7, 21, 5, 104, 96, 6, 96, 21, 4]
abbrev dktX6_work_5 : List UInt8 := dkwX6_work_5 ++ dktX6_work_6
def dkwX6_work_4 : List UInt8 := [180, 0, 9, 17, 1, 87, 7, 21, 5, 104, 96, 4, 96, 28, 79, 42, 180, 0, 9, 17, 1, 87, 7]
abbrev dktX6_work_4 : List UInt8 := dkwX6_work_4 ++ dktX6_work_5
def dkwX6_work_3 : List UInt8 := [182, 0, 92, 42, 182, 0, 95, 42, 180, 0, 9, 17, 1, 87, 7, 21, 5, 104, 96, 27, 79, 42]
abbrev dktX6_work_3 : List UInt8 := dkwX6_work_3 ++ dktX6_work_4
def dkwX6_work_2 : List UInt8 := [180, 0, 9, 5, 46, 54, 5, 21, 5, 16, 12, 160, 0, 12, 42, 6, 16, 10, 3, 182, 0, 125, 172, 42]
abbrev dktX6_work_2 : List UInt8 := dkwX6_work_2 ++ dktX6_work_3
def dkwX6_work_1 : List UInt8 := [184, 0, 133, 154, 0, 7, 5, 167, 0, 4, 3, 181, 0, 62, 42, 180, 0, 62, 158, 0, 5, 3, 172, 42]
abbrev dktX6_work_1 : List UInt8 := dkwX6_work_1 ++ dktX6_work_2
def dkwX6_work_0 : List UInt8 := [42, 42, 27, 182, 0, 88, 154, 0, 7, 4, 167, 0, 24, 28, 29, 184, 0, 196, 153, 0, 11, 21, 4]
abbrev dktX6_work_0 : List UInt8 := dkwX6_work_0 ++ dktX6_work_1
theorem dksX6_work_0 : cX6_work.data.toList.drop 0 = dktX6_work_0 := by decide +kernel
theorem dksX6_work_1 : cX6_work.data.toList.drop 23 = dktX6_work_1 := dk_seg dksX6_work_0 23 rfl rfl
theorem dksX6_work_2 : cX6_work.data.toList.drop 47 = dktX6_work_2 := dk_seg dksX6_work_1 24 rfl rfl
theorem dksX6_work_3 : cX6_work.data.toList.drop 71 = dktX6_work_3 := dk_seg dksX6_work_2 24 rfl rfl
theorem dksX6_work_4 : cX6_work.data.toList.drop 93 = dktX6_work_4 := dk_seg dksX6_work_3 22 rfl rfl
theorem dksX6_work_5 : cX6_work.data.toList.drop 116 = dktX6_work_5 := dk_seg dksX6_work_4 23 rfl rfl
theorem dksX6_work_6 : cX6_work.data.toList.drop 140 = dktX6_work_6 := dk_seg dksX6_work_5 24 rfl rfl
theorem dX6_work_0 : decode cX6_work 0 = .ok (.aload_n 0, 1) := dk_42 (dk_at dksX6_work_0 0 rfl rfl)
theorem dX6_work_1 : decode cX6_work 1 = .ok (.aload_n 0, 1) := dk_42 (dk_at dksX6_work_0 1 rfl rfl)
theorem dX6_work_2 : decode cX6_work 2 = .ok (.iload_n 1, 1) := dk_27 (dk_at dksX6_work_0 2 rfl rfl)
theorem dX6_work_3 : decode cX6_work 3 = .ok (.invokevirtual 88, 3) := dk_182 0 88 (dk_at dksX6_work_0 3 rfl rfl)
theorem dX6_work_6 : decode cX6_work 6 = .ok (.ifCond .ne 7, 3) := dk_154 0 7 (dk_at dksX6_work_0 6 rfl rfl)
theorem dX6_work_9 : decode cX6_work 9 = .ok (.iconst 1, 1) := dk_4 (dk_at dksX6_work_0 9 rfl rfl)
theorem dX6_work_10 : decode cX6_work 10 = .ok (.goto 24, 3) := dk_167 0 24 (dk_at dksX6_work_0 10 rfl rfl)
theorem dX6_work_13 : decode cX6_work 13 = .ok (.iload_n 2, 1) := dk_28 (dk_at dksX6_work_0 13 rfl rfl)
theorem dX6_work_14 : decode cX6_work 14 = .ok (.iload_n 3, 1) := dk_29 (dk_at dksX6_work_0 14 rfl rfl)
theorem dX6_work_15 : decode cX6_work 15 = .ok (.invokestatic 196, 3) := dk_184 0 196 (dk_at dksX6_work_0 15 rfl rfl)
theorem dX6_work_18 : decode cX6_work 18 = .ok (.ifCond .eq 11, 3) := dk_153 0 11 (dk_at dksX6_work_0 18 rfl rfl)
theorem dX6_work_21 : decode cX6_work 21 = .ok (.iload 4, 2) := dk_21 4 (dk_at dksX6_work_0 21 rfl rfl)
theorem dX6_work_23 : decode cX6_work 23 = .ok (.invokestatic 133, 3) := dk_184 0 133 (dk_at dksX6_work_1 0 rfl rfl)
theorem dX6_work_26 : decode cX6_work 26 = .ok (.ifCond .ne 7, 3) := dk_154 0 7 (dk_at dksX6_work_1 3 rfl rfl)
theorem dX6_work_29 : decode cX6_work 29 = .ok (.iconst 2, 1) := dk_5 (dk_at dksX6_work_1 6 rfl rfl)
theorem dX6_work_30 : decode cX6_work 30 = .ok (.goto 4, 3) := dk_167 0 4 (dk_at dksX6_work_1 7 rfl rfl)
theorem dX6_work_33 : decode cX6_work 33 = .ok (.iconst 0, 1) := dk_3 (dk_at dksX6_work_1 10 rfl rfl)
theorem dX6_work_34 : decode cX6_work 34 = .ok (.putfield 62, 3) := dk_181 0 62 (dk_at dksX6_work_1 11 rfl rfl)
theorem dX6_work_37 : decode cX6_work 37 = .ok (.aload_n 0, 1) := dk_42 (dk_at dksX6_work_1 14 rfl rfl)
theorem dX6_work_38 : decode cX6_work 38 = .ok (.getfield 62, 3) := dk_180 0 62 (dk_at dksX6_work_1 15 rfl rfl)
theorem dX6_work_41 : decode cX6_work 41 = .ok (.ifCond .le 5, 3) := dk_158 0 5 (dk_at dksX6_work_1 18 rfl rfl)
theorem dX6_work_44 : decode cX6_work 44 = .ok (.iconst 0, 1) := dk_3 (dk_at dksX6_work_1 21 rfl rfl)
theorem dX6_work_45 : decode cX6_work 45 = .ok (.ireturn, 1) := dk_172 (dk_at dksX6_work_1 22 rfl rfl)
theorem dX6_work_46 : decode cX6_work 46 = .ok (.aload_n 0, 1) := dk_42 (dk_at dksX6_work_1 23 rfl rfl)
theorem dX6_work_47 : decode cX6_work 47 = .ok (.getfield 9, 3) := dk_180 0 9 (dk_at dksX6_work_2 0 rfl rfl)
theorem dX6_work_50 : decode cX6_work 50 = .ok (.iconst 2, 1) := dk_5 (dk_at dksX6_work_2 3 rfl rfl)
theorem dX6_work_51 : decode cX6_work 51 = .ok (.iaload, 1) := dk_46 (dk_at dksX6_work_2 4 rfl rfl)
theorem dX6_work_52 : decode cX6_work 52 = .ok (.istore 5, 2) := dk_54 5 (dk_at dksX6_work_2 5 rfl rfl)
theorem dX6_work_54 : decode cX6_work 54 = .ok (.iload 5, 2) := dk_21 5 (dk_at dksX6_work_2 7 rfl rfl)
theorem dX6_work_56 : decode cX6_work 56 = .ok (.bipush 12, 2) := dk_16 12 (dk_at dksX6_work_2 9 rfl rfl)
theorem dX6_work_58 : decode cX6_work 58 = .ok (.if_icmp .ne 12, 3) := dk_160 0 12 (dk_at dksX6_work_2 11 rfl rfl)
theorem dX6_work_61 : decode cX6_work 61 = .ok (.aload_n 0, 1) := dk_42 (dk_at dksX6_work_2 14 rfl rfl)
theorem dX6_work_62 : decode cX6_work 62 = .ok (.iconst 3, 1) := dk_6 (dk_at dksX6_work_2 15 rfl rfl)
theorem dX6_work_63 : decode cX6_work 63 = .ok (.bipush 10, 2) := dk_16 10 (dk_at dksX6_work_2 16 rfl rfl)
theorem dX6_work_65 : decode cX6_work 65 = .ok (.iconst 0, 1) := dk_3 (dk_at dksX6_work_2 18 rfl rfl)
theorem dX6_work_66 : decode cX6_work 66 = .ok (.invokevirtual 125, 3) := dk_182 0 125 (dk_at dksX6_work_2 19 rfl rfl)
theorem dX6_work_69 : decode cX6_work 69 = .ok (.ireturn, 1) := dk_172 (dk_at dksX6_work_2 22 rfl rfl)
theorem dX6_work_70 : decode cX6_work 70 = .ok (.aload_n 0, 1) := dk_42 (dk_at dksX6_work_2 23 rfl rfl)
theorem dX6_work_71 : decode cX6_work 71 = .ok (.invokevirtual 92, 3) := dk_182 0 92 (dk_at dksX6_work_3 0 rfl rfl)
theorem dX6_work_74 : decode cX6_work 74 = .ok (.aload_n 0, 1) := dk_42 (dk_at dksX6_work_3 3 rfl rfl)
theorem dX6_work_75 : decode cX6_work 75 = .ok (.invokevirtual 95, 3) := dk_182 0 95 (dk_at dksX6_work_3 4 rfl rfl)
theorem dX6_work_78 : decode cX6_work 78 = .ok (.aload_n 0, 1) := dk_42 (dk_at dksX6_work_3 7 rfl rfl)
theorem dX6_work_79 : decode cX6_work 79 = .ok (.getfield 9, 3) := dk_180 0 9 (dk_at dksX6_work_3 8 rfl rfl)
theorem dX6_work_82 : decode cX6_work 82 = .ok (.sipush 343, 3) := dk_17 1 87 (dk_at dksX6_work_3 11 rfl rfl)
theorem dX6_work_85 : decode cX6_work 85 = .ok (.iconst 4, 1) := dk_7 (dk_at dksX6_work_3 14 rfl rfl)
theorem dX6_work_86 : decode cX6_work 86 = .ok (.iload 5, 2) := dk_21 5 (dk_at dksX6_work_3 15 rfl rfl)
theorem dX6_work_88 : decode cX6_work 88 = .ok (.imul, 1) := dk_104 (dk_at dksX6_work_3 17 rfl rfl)
theorem dX6_work_89 : decode cX6_work 89 = .ok (.iadd, 1) := dk_96 (dk_at dksX6_work_3 18 rfl rfl)
theorem dX6_work_90 : decode cX6_work 90 = .ok (.iload_n 1, 1) := dk_27 (dk_at dksX6_work_3 19 rfl rfl)
theorem dX6_work_91 : decode cX6_work 91 = .ok (.iastore, 1) := dk_79 (dk_at dksX6_work_3 20 rfl rfl)
theorem dX6_work_92 : decode cX6_work 92 = .ok (.aload_n 0, 1) := dk_42 (dk_at dksX6_work_3 21 rfl rfl)
theorem dX6_work_93 : decode cX6_work 93 = .ok (.getfield 9, 3) := dk_180 0 9 (dk_at dksX6_work_4 0 rfl rfl)
theorem dX6_work_96 : decode cX6_work 96 = .ok (.sipush 343, 3) := dk_17 1 87 (dk_at dksX6_work_4 3 rfl rfl)
theorem dX6_work_99 : decode cX6_work 99 = .ok (.iconst 4, 1) := dk_7 (dk_at dksX6_work_4 6 rfl rfl)
theorem dX6_work_100 : decode cX6_work 100 = .ok (.iload 5, 2) := dk_21 5 (dk_at dksX6_work_4 7 rfl rfl)
theorem dX6_work_102 : decode cX6_work 102 = .ok (.imul, 1) := dk_104 (dk_at dksX6_work_4 9 rfl rfl)
theorem dX6_work_103 : decode cX6_work 103 = .ok (.iadd, 1) := dk_96 (dk_at dksX6_work_4 10 rfl rfl)
theorem dX6_work_104 : decode cX6_work 104 = .ok (.iconst 1, 1) := dk_4 (dk_at dksX6_work_4 11 rfl rfl)
theorem dX6_work_105 : decode cX6_work 105 = .ok (.iadd, 1) := dk_96 (dk_at dksX6_work_4 12 rfl rfl)
theorem dX6_work_106 : decode cX6_work 106 = .ok (.iload_n 2, 1) := dk_28 (dk_at dksX6_work_4 13 rfl rfl)
theorem dX6_work_107 : decode cX6_work 107 = .ok (.iastore, 1) := dk_79 (dk_at dksX6_work_4 14 rfl rfl)
theorem dX6_work_108 : decode cX6_work 108 = .ok (.aload_n 0, 1) := dk_42 (dk_at dksX6_work_4 15 rfl rfl)
theorem dX6_work_109 : decode cX6_work 109 = .ok (.getfield 9, 3) := dk_180 0 9 (dk_at dksX6_work_4 16 rfl rfl)
theorem dX6_work_112 : decode cX6_work 112 = .ok (.sipush 343, 3) := dk_17 1 87 (dk_at dksX6_work_4 19 rfl rfl)
theorem dX6_work_115 : decode cX6_work 115 = .ok (.iconst 4, 1) := dk_7 (dk_at dksX6_work_4 22 rfl rfl)
theorem dX6_work_116 : decode cX6_work 116 = .ok (.iload 5, 2) := dk_21 5 (dk_at dksX6_work_5 0 rfl rfl)
theorem dX6_work_118 : decode cX6_work 118 = .ok (.imul, 1) := dk_104 (dk_at dksX6_work_5 2 rfl rfl)
theorem dX6_work_119 : decode cX6_work 119 = .ok (.iadd, 1) := dk_96 (dk_at dksX6_work_5 3 rfl rfl)
theorem dX6_work_120 : decode cX6_work 120 = .ok (.iconst 2, 1) := dk_5 (dk_at dksX6_work_5 4 rfl rfl)
theorem dX6_work_121 : decode cX6_work 121 = .ok (.iadd, 1) := dk_96 (dk_at dksX6_work_5 5 rfl rfl)
theorem dX6_work_122 : decode cX6_work 122 = .ok (.iload_n 3, 1) := dk_29 (dk_at dksX6_work_5 6 rfl rfl)
theorem dX6_work_123 : decode cX6_work 123 = .ok (.iastore, 1) := dk_79 (dk_at dksX6_work_5 7 rfl rfl)
theorem dX6_work_124 : decode cX6_work 124 = .ok (.aload_n 0, 1) := dk_42 (dk_at dksX6_work_5 8 rfl rfl)
theorem dX6_work_125 : decode cX6_work 125 = .ok (.getfield 9, 3) := dk_180 0 9 (dk_at dksX6_work_5 9 rfl rfl)
theorem dX6_work_128 : decode cX6_work 128 = .ok (.sipush 343, 3) := dk_17 1 87 (dk_at dksX6_work_5 12 rfl rfl)
theorem dX6_work_131 : decode cX6_work 131 = .ok (.iconst 4, 1) := dk_7 (dk_at dksX6_work_5 15 rfl rfl)
theorem dX6_work_132 : decode cX6_work 132 = .ok (.iload 5, 2) := dk_21 5 (dk_at dksX6_work_5 16 rfl rfl)
theorem dX6_work_134 : decode cX6_work 134 = .ok (.imul, 1) := dk_104 (dk_at dksX6_work_5 18 rfl rfl)
theorem dX6_work_135 : decode cX6_work 135 = .ok (.iadd, 1) := dk_96 (dk_at dksX6_work_5 19 rfl rfl)
theorem dX6_work_136 : decode cX6_work 136 = .ok (.iconst 3, 1) := dk_6 (dk_at dksX6_work_5 20 rfl rfl)
theorem dX6_work_137 : decode cX6_work 137 = .ok (.iadd, 1) := dk_96 (dk_at dksX6_work_5 21 rfl rfl)
theorem dX6_work_138 : decode cX6_work 138 = .ok (.iload 4, 2) := dk_21 4 (dk_at dksX6_work_5 22 rfl rfl)
theorem dX6_work_140 : decode cX6_work 140 = .ok (.iastore, 1) := dk_79 (dk_at dksX6_work_6 0 rfl rfl)
theorem dX6_work_141 : decode cX6_work 141 = .ok (.aload_n 0, 1) := dk_42 (dk_at dksX6_work_6 1 rfl rfl)
theorem dX6_work_142 : decode cX6_work 142 = .ok (.getfield 9, 3) := dk_180 0 9 (dk_at dksX6_work_6 2 rfl rfl)
theorem dX6_work_145 : decode cX6_work 145 = .ok (.iconst 2, 1) := dk_5 (dk_at dksX6_work_6 5 rfl rfl)
theorem dX6_work_146 : decode cX6_work 146 = .ok (.dup2, 1) := dk_92 (dk_at dksX6_work_6 6 rfl rfl)
theorem dX6_work_147 : decode cX6_work 147 = .ok (.iaload, 1) := dk_46 (dk_at dksX6_work_6 7 rfl rfl)
theorem dX6_work_148 : decode cX6_work 148 = .ok (.iconst 1, 1) := dk_4 (dk_at dksX6_work_6 8 rfl rfl)
theorem dX6_work_149 : decode cX6_work 149 = .ok (.iadd, 1) := dk_96 (dk_at dksX6_work_6 9 rfl rfl)
theorem dX6_work_150 : decode cX6_work 150 = .ok (.iastore, 1) := dk_79 (dk_at dksX6_work_6 10 rfl rfl)
theorem dX6_work_151 : decode cX6_work 151 = .ok (.iload 5, 2) := dk_21 5 (dk_at dksX6_work_6 11 rfl rfl)
theorem dX6_work_153 : decode cX6_work 153 = .ok (.ireturn, 1) := dk_172 (dk_at dksX6_work_6 13 rfl rfl)
abbrev cX6_caseOf : ByteArray := prog_27_method_67_code
def yX6_caseOf : MethodName := ⟨RX6, "caseOf", "(II)I"⟩
def dkwX6_caseOf_4 : List UInt8 := [182, 0, 225, 42, 180, 0, 188, 172, 42, 180, 0, 9, 17, 1, 87, 7, 27, 104, 96, 28, 96, 46, 172]
abbrev dktX6_caseOf_4 : List UInt8 := dkwX6_caseOf_4 ++ []
def dkwX6_caseOf_3 : List UInt8 := [42, 27, 182, 0, 216, 172, 42, 27, 182, 0, 219, 153, 0, 7, 4, 167, 0, 4, 3, 172, 42, 27]
abbrev dktX6_caseOf_3 : List UInt8 := dkwX6_caseOf_3 ++ dktX6_caseOf_4
def dkwX6_caseOf_2 : List UInt8 := [170, 0, 0, 0, 0, 0, 57, 0, 0, 0, 4, 0, 0, 0, 6, 0, 0, 0, 27, 0, 0, 0, 33, 0, 0, 0, 47]
abbrev dktX6_caseOf_2 : List UInt8 := dkwX6_caseOf_2 ++ dktX6_caseOf_3
def dkwX6_caseOf_1 : List UInt8 := [167, 0, 4, 3, 181, 0, 62, 42, 180, 0, 62, 158, 0, 5, 3, 172, 28]
abbrev dktX6_caseOf_1 : List UInt8 := dkwX6_caseOf_1 ++ dktX6_caseOf_2
def dkwX6_caseOf_0 : List UInt8 := [42, 42, 27, 182, 0, 222, 154, 0, 7, 4, 167, 0, 18, 28, 3, 16, 6, 184, 0, 80, 154, 0, 7, 5]
abbrev dktX6_caseOf_0 : List UInt8 := dkwX6_caseOf_0 ++ dktX6_caseOf_1
theorem dksX6_caseOf_0 : cX6_caseOf.data.toList.drop 0 = dktX6_caseOf_0 := by decide +kernel
theorem dksX6_caseOf_1 : cX6_caseOf.data.toList.drop 24 = dktX6_caseOf_1 := dk_seg dksX6_caseOf_0 24 rfl rfl
theorem dksX6_caseOf_2 : cX6_caseOf.data.toList.drop 41 = dktX6_caseOf_2 := dk_seg dksX6_caseOf_1 17 rfl rfl
theorem dksX6_caseOf_3 : cX6_caseOf.data.toList.drop 68 = dktX6_caseOf_3 := dk_seg dksX6_caseOf_2 27 rfl rfl
theorem dksX6_caseOf_4 : cX6_caseOf.data.toList.drop 90 = dktX6_caseOf_4 := dk_seg dksX6_caseOf_3 22 rfl rfl
theorem dX6_caseOf_0 : decode cX6_caseOf 0 = .ok (.aload_n 0, 1) := dk_42 (dk_at dksX6_caseOf_0 0 rfl rfl)
theorem dX6_caseOf_1 : decode cX6_caseOf 1 = .ok (.aload_n 0, 1) := dk_42 (dk_at dksX6_caseOf_0 1 rfl rfl)
theorem dX6_caseOf_2 : decode cX6_caseOf 2 = .ok (.iload_n 1, 1) := dk_27 (dk_at dksX6_caseOf_0 2 rfl rfl)
theorem dX6_caseOf_3 : decode cX6_caseOf 3 = .ok (.invokevirtual 222, 3) := dk_182 0 222 (dk_at dksX6_caseOf_0 3 rfl rfl)
theorem dX6_caseOf_6 : decode cX6_caseOf 6 = .ok (.ifCond .ne 7, 3) := dk_154 0 7 (dk_at dksX6_caseOf_0 6 rfl rfl)
theorem dX6_caseOf_9 : decode cX6_caseOf 9 = .ok (.iconst 1, 1) := dk_4 (dk_at dksX6_caseOf_0 9 rfl rfl)
theorem dX6_caseOf_10 : decode cX6_caseOf 10 = .ok (.goto 18, 3) := dk_167 0 18 (dk_at dksX6_caseOf_0 10 rfl rfl)
theorem dX6_caseOf_13 : decode cX6_caseOf 13 = .ok (.iload_n 2, 1) := dk_28 (dk_at dksX6_caseOf_0 13 rfl rfl)
theorem dX6_caseOf_14 : decode cX6_caseOf 14 = .ok (.iconst 0, 1) := dk_3 (dk_at dksX6_caseOf_0 14 rfl rfl)
theorem dX6_caseOf_15 : decode cX6_caseOf 15 = .ok (.bipush 6, 2) := dk_16 6 (dk_at dksX6_caseOf_0 15 rfl rfl)
theorem dX6_caseOf_17 : decode cX6_caseOf 17 = .ok (.invokestatic 80, 3) := dk_184 0 80 (dk_at dksX6_caseOf_0 17 rfl rfl)
theorem dX6_caseOf_20 : decode cX6_caseOf 20 = .ok (.ifCond .ne 7, 3) := dk_154 0 7 (dk_at dksX6_caseOf_0 20 rfl rfl)
theorem dX6_caseOf_23 : decode cX6_caseOf 23 = .ok (.iconst 2, 1) := dk_5 (dk_at dksX6_caseOf_0 23 rfl rfl)
theorem dX6_caseOf_24 : decode cX6_caseOf 24 = .ok (.goto 4, 3) := dk_167 0 4 (dk_at dksX6_caseOf_1 0 rfl rfl)
theorem dX6_caseOf_27 : decode cX6_caseOf 27 = .ok (.iconst 0, 1) := dk_3 (dk_at dksX6_caseOf_1 3 rfl rfl)
theorem dX6_caseOf_28 : decode cX6_caseOf 28 = .ok (.putfield 62, 3) := dk_181 0 62 (dk_at dksX6_caseOf_1 4 rfl rfl)
theorem dX6_caseOf_31 : decode cX6_caseOf 31 = .ok (.aload_n 0, 1) := dk_42 (dk_at dksX6_caseOf_1 7 rfl rfl)
theorem dX6_caseOf_32 : decode cX6_caseOf 32 = .ok (.getfield 62, 3) := dk_180 0 62 (dk_at dksX6_caseOf_1 8 rfl rfl)
theorem dX6_caseOf_35 : decode cX6_caseOf 35 = .ok (.ifCond .le 5, 3) := dk_158 0 5 (dk_at dksX6_caseOf_1 11 rfl rfl)
theorem dX6_caseOf_38 : decode cX6_caseOf 38 = .ok (.iconst 0, 1) := dk_3 (dk_at dksX6_caseOf_1 14 rfl rfl)
theorem dX6_caseOf_39 : decode cX6_caseOf 39 = .ok (.ireturn, 1) := dk_172 (dk_at dksX6_caseOf_1 15 rfl rfl)
theorem dX6_caseOf_40 : decode cX6_caseOf 40 = .ok (.iload_n 2, 1) := dk_28 (dk_at dksX6_caseOf_1 16 rfl rfl)
theorem dX6_caseOf_41 : decode cX6_caseOf 41 = .ok (.tableswitch 57 4 6 #[27, 33, 47], 27) := by decide +kernel
theorem dX6_caseOf_68 : decode cX6_caseOf 68 = .ok (.aload_n 0, 1) := dk_42 (dk_at dksX6_caseOf_3 0 rfl rfl)
theorem dX6_caseOf_69 : decode cX6_caseOf 69 = .ok (.iload_n 1, 1) := dk_27 (dk_at dksX6_caseOf_3 1 rfl rfl)
theorem dX6_caseOf_70 : decode cX6_caseOf 70 = .ok (.invokevirtual 216, 3) := dk_182 0 216 (dk_at dksX6_caseOf_3 2 rfl rfl)
theorem dX6_caseOf_73 : decode cX6_caseOf 73 = .ok (.ireturn, 1) := dk_172 (dk_at dksX6_caseOf_3 5 rfl rfl)
theorem dX6_caseOf_74 : decode cX6_caseOf 74 = .ok (.aload_n 0, 1) := dk_42 (dk_at dksX6_caseOf_3 6 rfl rfl)
theorem dX6_caseOf_75 : decode cX6_caseOf 75 = .ok (.iload_n 1, 1) := dk_27 (dk_at dksX6_caseOf_3 7 rfl rfl)
theorem dX6_caseOf_76 : decode cX6_caseOf 76 = .ok (.invokevirtual 219, 3) := dk_182 0 219 (dk_at dksX6_caseOf_3 8 rfl rfl)
theorem dX6_caseOf_79 : decode cX6_caseOf 79 = .ok (.ifCond .eq 7, 3) := dk_153 0 7 (dk_at dksX6_caseOf_3 11 rfl rfl)
theorem dX6_caseOf_82 : decode cX6_caseOf 82 = .ok (.iconst 1, 1) := dk_4 (dk_at dksX6_caseOf_3 14 rfl rfl)
theorem dX6_caseOf_83 : decode cX6_caseOf 83 = .ok (.goto 4, 3) := dk_167 0 4 (dk_at dksX6_caseOf_3 15 rfl rfl)
theorem dX6_caseOf_86 : decode cX6_caseOf 86 = .ok (.iconst 0, 1) := dk_3 (dk_at dksX6_caseOf_3 18 rfl rfl)
theorem dX6_caseOf_87 : decode cX6_caseOf 87 = .ok (.ireturn, 1) := dk_172 (dk_at dksX6_caseOf_3 19 rfl rfl)
theorem dX6_caseOf_88 : decode cX6_caseOf 88 = .ok (.aload_n 0, 1) := dk_42 (dk_at dksX6_caseOf_3 20 rfl rfl)
theorem dX6_caseOf_89 : decode cX6_caseOf 89 = .ok (.iload_n 1, 1) := dk_27 (dk_at dksX6_caseOf_3 21 rfl rfl)
theorem dX6_caseOf_90 : decode cX6_caseOf 90 = .ok (.invokevirtual 225, 3) := dk_182 0 225 (dk_at dksX6_caseOf_4 0 rfl rfl)
theorem dX6_caseOf_93 : decode cX6_caseOf 93 = .ok (.aload_n 0, 1) := dk_42 (dk_at dksX6_caseOf_4 3 rfl rfl)
theorem dX6_caseOf_94 : decode cX6_caseOf 94 = .ok (.getfield 188, 3) := dk_180 0 188 (dk_at dksX6_caseOf_4 4 rfl rfl)
theorem dX6_caseOf_97 : decode cX6_caseOf 97 = .ok (.ireturn, 1) := dk_172 (dk_at dksX6_caseOf_4 7 rfl rfl)
theorem dX6_caseOf_98 : decode cX6_caseOf 98 = .ok (.aload_n 0, 1) := dk_42 (dk_at dksX6_caseOf_4 8 rfl rfl)
theorem dX6_caseOf_99 : decode cX6_caseOf 99 = .ok (.getfield 9, 3) := dk_180 0 9 (dk_at dksX6_caseOf_4 9 rfl rfl)
theorem dX6_caseOf_102 : decode cX6_caseOf 102 = .ok (.sipush 343, 3) := dk_17 1 87 (dk_at dksX6_caseOf_4 12 rfl rfl)
theorem dX6_caseOf_105 : decode cX6_caseOf 105 = .ok (.iconst 4, 1) := dk_7 (dk_at dksX6_caseOf_4 15 rfl rfl)
theorem dX6_caseOf_106 : decode cX6_caseOf 106 = .ok (.iload_n 1, 1) := dk_27 (dk_at dksX6_caseOf_4 16 rfl rfl)
theorem dX6_caseOf_107 : decode cX6_caseOf 107 = .ok (.imul, 1) := dk_104 (dk_at dksX6_caseOf_4 17 rfl rfl)
theorem dX6_caseOf_108 : decode cX6_caseOf 108 = .ok (.iadd, 1) := dk_96 (dk_at dksX6_caseOf_4 18 rfl rfl)
theorem dX6_caseOf_109 : decode cX6_caseOf 109 = .ok (.iload_n 2, 1) := dk_28 (dk_at dksX6_caseOf_4 19 rfl rfl)
theorem dX6_caseOf_110 : decode cX6_caseOf 110 = .ok (.iadd, 1) := dk_96 (dk_at dksX6_caseOf_4 20 rfl rfl)
theorem dX6_caseOf_111 : decode cX6_caseOf 111 = .ok (.iaload, 1) := dk_46 (dk_at dksX6_caseOf_4 21 rfl rfl)
theorem dX6_caseOf_112 : decode cX6_caseOf 112 = .ok (.ireturn, 1) := dk_172 (dk_at dksX6_caseOf_4 22 rfl rfl)
abbrev cX6_isWork : ByteArray := prog_27_method_60_code
def yX6_isWork : MethodName := ⟨RX6, "isWork", "(I)Z"⟩
def dkwX6_isWork_0 : List UInt8 := [27, 3, 42, 180, 0, 9, 5, 46, 4, 100, 184, 0, 80, 172]
abbrev dktX6_isWork_0 : List UInt8 := dkwX6_isWork_0 ++ []
theorem dksX6_isWork_0 : cX6_isWork.data.toList.drop 0 = dktX6_isWork_0 := by decide +kernel
theorem dX6_isWork_0 : decode cX6_isWork 0 = .ok (.iload_n 1, 1) := dk_27 (dk_at dksX6_isWork_0 0 rfl rfl)
theorem dX6_isWork_1 : decode cX6_isWork 1 = .ok (.iconst 0, 1) := dk_3 (dk_at dksX6_isWork_0 1 rfl rfl)
theorem dX6_isWork_2 : decode cX6_isWork 2 = .ok (.aload_n 0, 1) := dk_42 (dk_at dksX6_isWork_0 2 rfl rfl)
theorem dX6_isWork_3 : decode cX6_isWork 3 = .ok (.getfield 9, 3) := dk_180 0 9 (dk_at dksX6_isWork_0 3 rfl rfl)
theorem dX6_isWork_6 : decode cX6_isWork 6 = .ok (.iconst 2, 1) := dk_5 (dk_at dksX6_isWork_0 6 rfl rfl)
theorem dX6_isWork_7 : decode cX6_isWork 7 = .ok (.iaload, 1) := dk_46 (dk_at dksX6_isWork_0 7 rfl rfl)
theorem dX6_isWork_8 : decode cX6_isWork 8 = .ok (.iconst 1, 1) := dk_4 (dk_at dksX6_isWork_0 8 rfl rfl)
theorem dX6_isWork_9 : decode cX6_isWork 9 = .ok (.isub, 1) := dk_100 (dk_at dksX6_isWork_0 9 rfl rfl)
theorem dX6_isWork_10 : decode cX6_isWork 10 = .ok (.invokestatic 80, 3) := dk_184 0 80 (dk_at dksX6_isWork_0 10 rfl rfl)
theorem dX6_isWork_13 : decode cX6_isWork 13 = .ok (.ireturn, 1) := dk_172 (dk_at dksX6_isWork_0 13 rfl rfl)
abbrev cX6_outcomeOfWork : ByteArray := prog_27_method_62_code
def yX6_outcomeOfWork : MethodName := ⟨RX6, "outcomeOfWork", "(I)I"⟩
def dkwX6_outcomeOfWork_1 : List UInt8 := [180, 0, 9, 28, 5, 96, 46, 182, 0, 204, 172]
abbrev dktX6_outcomeOfWork_1 : List UInt8 := dkwX6_outcomeOfWork_1 ++ []
def dkwX6_outcomeOfWork_0 : List UInt8 := [17, 1, 87, 7, 27, 104, 96, 61, 42, 42, 180, 0, 9, 28, 46, 42, 180, 0, 9, 28, 4, 96, 46, 42]
abbrev dktX6_outcomeOfWork_0 : List UInt8 := dkwX6_outcomeOfWork_0 ++ dktX6_outcomeOfWork_1
theorem dksX6_outcomeOfWork_0 : cX6_outcomeOfWork.data.toList.drop 0 = dktX6_outcomeOfWork_0 := by decide +kernel
theorem dksX6_outcomeOfWork_1 : cX6_outcomeOfWork.data.toList.drop 24 = dktX6_outcomeOfWork_1 := dk_seg dksX6_outcomeOfWork_0 24 rfl rfl
theorem dX6_outcomeOfWork_0 : decode cX6_outcomeOfWork 0 = .ok (.sipush 343, 3) := dk_17 1 87 (dk_at dksX6_outcomeOfWork_0 0 rfl rfl)
theorem dX6_outcomeOfWork_3 : decode cX6_outcomeOfWork 3 = .ok (.iconst 4, 1) := dk_7 (dk_at dksX6_outcomeOfWork_0 3 rfl rfl)
theorem dX6_outcomeOfWork_4 : decode cX6_outcomeOfWork 4 = .ok (.iload_n 1, 1) := dk_27 (dk_at dksX6_outcomeOfWork_0 4 rfl rfl)
theorem dX6_outcomeOfWork_5 : decode cX6_outcomeOfWork 5 = .ok (.imul, 1) := dk_104 (dk_at dksX6_outcomeOfWork_0 5 rfl rfl)
theorem dX6_outcomeOfWork_6 : decode cX6_outcomeOfWork 6 = .ok (.iadd, 1) := dk_96 (dk_at dksX6_outcomeOfWork_0 6 rfl rfl)
theorem dX6_outcomeOfWork_7 : decode cX6_outcomeOfWork 7 = .ok (.istore_n 2, 1) := dk_61 (dk_at dksX6_outcomeOfWork_0 7 rfl rfl)
theorem dX6_outcomeOfWork_8 : decode cX6_outcomeOfWork 8 = .ok (.aload_n 0, 1) := dk_42 (dk_at dksX6_outcomeOfWork_0 8 rfl rfl)
theorem dX6_outcomeOfWork_9 : decode cX6_outcomeOfWork 9 = .ok (.aload_n 0, 1) := dk_42 (dk_at dksX6_outcomeOfWork_0 9 rfl rfl)
theorem dX6_outcomeOfWork_10 : decode cX6_outcomeOfWork 10 = .ok (.getfield 9, 3) := dk_180 0 9 (dk_at dksX6_outcomeOfWork_0 10 rfl rfl)
theorem dX6_outcomeOfWork_13 : decode cX6_outcomeOfWork 13 = .ok (.iload_n 2, 1) := dk_28 (dk_at dksX6_outcomeOfWork_0 13 rfl rfl)
theorem dX6_outcomeOfWork_14 : decode cX6_outcomeOfWork 14 = .ok (.iaload, 1) := dk_46 (dk_at dksX6_outcomeOfWork_0 14 rfl rfl)
theorem dX6_outcomeOfWork_15 : decode cX6_outcomeOfWork 15 = .ok (.aload_n 0, 1) := dk_42 (dk_at dksX6_outcomeOfWork_0 15 rfl rfl)
theorem dX6_outcomeOfWork_16 : decode cX6_outcomeOfWork 16 = .ok (.getfield 9, 3) := dk_180 0 9 (dk_at dksX6_outcomeOfWork_0 16 rfl rfl)
theorem dX6_outcomeOfWork_19 : decode cX6_outcomeOfWork 19 = .ok (.iload_n 2, 1) := dk_28 (dk_at dksX6_outcomeOfWork_0 19 rfl rfl)
theorem dX6_outcomeOfWork_20 : decode cX6_outcomeOfWork 20 = .ok (.iconst 1, 1) := dk_4 (dk_at dksX6_outcomeOfWork_0 20 rfl rfl)
theorem dX6_outcomeOfWork_21 : decode cX6_outcomeOfWork 21 = .ok (.iadd, 1) := dk_96 (dk_at dksX6_outcomeOfWork_0 21 rfl rfl)
theorem dX6_outcomeOfWork_22 : decode cX6_outcomeOfWork 22 = .ok (.iaload, 1) := dk_46 (dk_at dksX6_outcomeOfWork_0 22 rfl rfl)
theorem dX6_outcomeOfWork_23 : decode cX6_outcomeOfWork 23 = .ok (.aload_n 0, 1) := dk_42 (dk_at dksX6_outcomeOfWork_0 23 rfl rfl)
theorem dX6_outcomeOfWork_24 : decode cX6_outcomeOfWork 24 = .ok (.getfield 9, 3) := dk_180 0 9 (dk_at dksX6_outcomeOfWork_1 0 rfl rfl)
theorem dX6_outcomeOfWork_27 : decode cX6_outcomeOfWork 27 = .ok (.iload_n 2, 1) := dk_28 (dk_at dksX6_outcomeOfWork_1 3 rfl rfl)
theorem dX6_outcomeOfWork_28 : decode cX6_outcomeOfWork 28 = .ok (.iconst 2, 1) := dk_5 (dk_at dksX6_outcomeOfWork_1 4 rfl rfl)
theorem dX6_outcomeOfWork_29 : decode cX6_outcomeOfWork 29 = .ok (.iadd, 1) := dk_96 (dk_at dksX6_outcomeOfWork_1 5 rfl rfl)
theorem dX6_outcomeOfWork_30 : decode cX6_outcomeOfWork 30 = .ok (.iaload, 1) := dk_46 (dk_at dksX6_outcomeOfWork_1 6 rfl rfl)
theorem dX6_outcomeOfWork_31 : decode cX6_outcomeOfWork 31 = .ok (.invokevirtual 204, 3) := dk_182 0 204 (dk_at dksX6_outcomeOfWork_1 7 rfl rfl)
theorem dX6_outcomeOfWork_34 : decode cX6_outcomeOfWork 34 = .ok (.ireturn, 1) := dk_172 (dk_at dksX6_outcomeOfWork_1 10 rfl rfl)
abbrev cX6_isRight : ByteArray := prog_27_method_64_code
def yX6_isRight : MethodName := ⟨RX6, "isRight", "(I)Z"⟩
def dkwX6_isRight_1 : List UInt8 := [167, 0, 4, 3, 172]
abbrev dktX6_isRight_1 : List UInt8 := dkwX6_isRight_1 ++ []
def dkwX6_isRight_0 : List UInt8 := [42, 27, 182, 0, 216, 42, 180, 0, 9, 17, 1, 87, 7, 27, 104, 96, 6, 96, 46, 160, 0, 7, 4]
abbrev dktX6_isRight_0 : List UInt8 := dkwX6_isRight_0 ++ dktX6_isRight_1
theorem dksX6_isRight_0 : cX6_isRight.data.toList.drop 0 = dktX6_isRight_0 := by decide +kernel
theorem dksX6_isRight_1 : cX6_isRight.data.toList.drop 23 = dktX6_isRight_1 := dk_seg dksX6_isRight_0 23 rfl rfl
theorem dX6_isRight_0 : decode cX6_isRight 0 = .ok (.aload_n 0, 1) := dk_42 (dk_at dksX6_isRight_0 0 rfl rfl)
theorem dX6_isRight_1 : decode cX6_isRight 1 = .ok (.iload_n 1, 1) := dk_27 (dk_at dksX6_isRight_0 1 rfl rfl)
theorem dX6_isRight_2 : decode cX6_isRight 2 = .ok (.invokevirtual 216, 3) := dk_182 0 216 (dk_at dksX6_isRight_0 2 rfl rfl)
theorem dX6_isRight_5 : decode cX6_isRight 5 = .ok (.aload_n 0, 1) := dk_42 (dk_at dksX6_isRight_0 5 rfl rfl)
theorem dX6_isRight_6 : decode cX6_isRight 6 = .ok (.getfield 9, 3) := dk_180 0 9 (dk_at dksX6_isRight_0 6 rfl rfl)
theorem dX6_isRight_9 : decode cX6_isRight 9 = .ok (.sipush 343, 3) := dk_17 1 87 (dk_at dksX6_isRight_0 9 rfl rfl)
theorem dX6_isRight_12 : decode cX6_isRight 12 = .ok (.iconst 4, 1) := dk_7 (dk_at dksX6_isRight_0 12 rfl rfl)
theorem dX6_isRight_13 : decode cX6_isRight 13 = .ok (.iload_n 1, 1) := dk_27 (dk_at dksX6_isRight_0 13 rfl rfl)
theorem dX6_isRight_14 : decode cX6_isRight 14 = .ok (.imul, 1) := dk_104 (dk_at dksX6_isRight_0 14 rfl rfl)
theorem dX6_isRight_15 : decode cX6_isRight 15 = .ok (.iadd, 1) := dk_96 (dk_at dksX6_isRight_0 15 rfl rfl)
theorem dX6_isRight_16 : decode cX6_isRight 16 = .ok (.iconst 3, 1) := dk_6 (dk_at dksX6_isRight_0 16 rfl rfl)
theorem dX6_isRight_17 : decode cX6_isRight 17 = .ok (.iadd, 1) := dk_96 (dk_at dksX6_isRight_0 17 rfl rfl)
theorem dX6_isRight_18 : decode cX6_isRight 18 = .ok (.iaload, 1) := dk_46 (dk_at dksX6_isRight_0 18 rfl rfl)
theorem dX6_isRight_19 : decode cX6_isRight 19 = .ok (.if_icmp .ne 7, 3) := dk_160 0 7 (dk_at dksX6_isRight_0 19 rfl rfl)
theorem dX6_isRight_22 : decode cX6_isRight 22 = .ok (.iconst 1, 1) := dk_4 (dk_at dksX6_isRight_0 22 rfl rfl)
theorem dX6_isRight_23 : decode cX6_isRight 23 = .ok (.goto 4, 3) := dk_167 0 4 (dk_at dksX6_isRight_1 0 rfl rfl)
theorem dX6_isRight_26 : decode cX6_isRight 26 = .ok (.iconst 0, 1) := dk_3 (dk_at dksX6_isRight_1 3 rfl rfl)
theorem dX6_isRight_27 : decode cX6_isRight 27 = .ok (.ireturn, 1) := dk_172 (dk_at dksX6_isRight_1 4 rfl rfl)
abbrev cX6_findChainOfWork : ByteArray := prog_27_method_63_code
def yX6_findChainOfWork : MethodName := ⟨RX6, "findChainOfWork", "(I)V"⟩
def dkwX6_findChainOfWork_1 : List UInt8 := [180, 0, 9, 28, 5, 96, 46, 182, 0, 207, 177]
abbrev dktX6_findChainOfWork_1 : List UInt8 := dkwX6_findChainOfWork_1 ++ []
def dkwX6_findChainOfWork_0 : List UInt8 := [17, 1, 87, 7, 27, 104, 96, 61, 42, 42, 180, 0, 9, 28, 46, 42, 180, 0, 9, 28, 4, 96, 46, 42]
abbrev dktX6_findChainOfWork_0 : List UInt8 := dkwX6_findChainOfWork_0 ++ dktX6_findChainOfWork_1
theorem dksX6_findChainOfWork_0 : cX6_findChainOfWork.data.toList.drop 0 = dktX6_findChainOfWork_0 := by decide +kernel
theorem dksX6_findChainOfWork_1 : cX6_findChainOfWork.data.toList.drop 24 = dktX6_findChainOfWork_1 := dk_seg dksX6_findChainOfWork_0 24 rfl rfl
theorem dX6_findChainOfWork_0 : decode cX6_findChainOfWork 0 = .ok (.sipush 343, 3) := dk_17 1 87 (dk_at dksX6_findChainOfWork_0 0 rfl rfl)
theorem dX6_findChainOfWork_3 : decode cX6_findChainOfWork 3 = .ok (.iconst 4, 1) := dk_7 (dk_at dksX6_findChainOfWork_0 3 rfl rfl)
theorem dX6_findChainOfWork_4 : decode cX6_findChainOfWork 4 = .ok (.iload_n 1, 1) := dk_27 (dk_at dksX6_findChainOfWork_0 4 rfl rfl)
theorem dX6_findChainOfWork_5 : decode cX6_findChainOfWork 5 = .ok (.imul, 1) := dk_104 (dk_at dksX6_findChainOfWork_0 5 rfl rfl)
theorem dX6_findChainOfWork_6 : decode cX6_findChainOfWork 6 = .ok (.iadd, 1) := dk_96 (dk_at dksX6_findChainOfWork_0 6 rfl rfl)
theorem dX6_findChainOfWork_7 : decode cX6_findChainOfWork 7 = .ok (.istore_n 2, 1) := dk_61 (dk_at dksX6_findChainOfWork_0 7 rfl rfl)
theorem dX6_findChainOfWork_8 : decode cX6_findChainOfWork 8 = .ok (.aload_n 0, 1) := dk_42 (dk_at dksX6_findChainOfWork_0 8 rfl rfl)
theorem dX6_findChainOfWork_9 : decode cX6_findChainOfWork 9 = .ok (.aload_n 0, 1) := dk_42 (dk_at dksX6_findChainOfWork_0 9 rfl rfl)
theorem dX6_findChainOfWork_10 : decode cX6_findChainOfWork 10 = .ok (.getfield 9, 3) := dk_180 0 9 (dk_at dksX6_findChainOfWork_0 10 rfl rfl)
theorem dX6_findChainOfWork_13 : decode cX6_findChainOfWork 13 = .ok (.iload_n 2, 1) := dk_28 (dk_at dksX6_findChainOfWork_0 13 rfl rfl)
theorem dX6_findChainOfWork_14 : decode cX6_findChainOfWork 14 = .ok (.iaload, 1) := dk_46 (dk_at dksX6_findChainOfWork_0 14 rfl rfl)
theorem dX6_findChainOfWork_15 : decode cX6_findChainOfWork 15 = .ok (.aload_n 0, 1) := dk_42 (dk_at dksX6_findChainOfWork_0 15 rfl rfl)
theorem dX6_findChainOfWork_16 : decode cX6_findChainOfWork 16 = .ok (.getfield 9, 3) := dk_180 0 9 (dk_at dksX6_findChainOfWork_0 16 rfl rfl)
theorem dX6_findChainOfWork_19 : decode cX6_findChainOfWork 19 = .ok (.iload_n 2, 1) := dk_28 (dk_at dksX6_findChainOfWork_0 19 rfl rfl)
theorem dX6_findChainOfWork_20 : decode cX6_findChainOfWork 20 = .ok (.iconst 1, 1) := dk_4 (dk_at dksX6_findChainOfWork_0 20 rfl rfl)
theorem dX6_findChainOfWork_21 : decode cX6_findChainOfWork 21 = .ok (.iadd, 1) := dk_96 (dk_at dksX6_findChainOfWork_0 21 rfl rfl)
theorem dX6_findChainOfWork_22 : decode cX6_findChainOfWork 22 = .ok (.iaload, 1) := dk_46 (dk_at dksX6_findChainOfWork_0 22 rfl rfl)
theorem dX6_findChainOfWork_23 : decode cX6_findChainOfWork 23 = .ok (.aload_n 0, 1) := dk_42 (dk_at dksX6_findChainOfWork_0 23 rfl rfl)
theorem dX6_findChainOfWork_24 : decode cX6_findChainOfWork 24 = .ok (.getfield 9, 3) := dk_180 0 9 (dk_at dksX6_findChainOfWork_1 0 rfl rfl)
theorem dX6_findChainOfWork_27 : decode cX6_findChainOfWork 27 = .ok (.iload_n 2, 1) := dk_28 (dk_at dksX6_findChainOfWork_1 3 rfl rfl)
theorem dX6_findChainOfWork_28 : decode cX6_findChainOfWork 28 = .ok (.iconst 2, 1) := dk_5 (dk_at dksX6_findChainOfWork_1 4 rfl rfl)
theorem dX6_findChainOfWork_29 : decode cX6_findChainOfWork 29 = .ok (.iadd, 1) := dk_96 (dk_at dksX6_findChainOfWork_1 5 rfl rfl)
theorem dX6_findChainOfWork_30 : decode cX6_findChainOfWork 30 = .ok (.iaload, 1) := dk_46 (dk_at dksX6_findChainOfWork_1 6 rfl rfl)
theorem dX6_findChainOfWork_31 : decode cX6_findChainOfWork 31 = .ok (.invokevirtual 207, 3) := dk_182 0 207 (dk_at dksX6_findChainOfWork_1 7 rfl rfl)
theorem dX6_findChainOfWork_34 : decode cX6_findChainOfWork 34 = .ok (.return_, 1) := dk_177 (dk_at dksX6_findChainOfWork_1 10 rfl rfl)
abbrev cX6_dropCase : ByteArray := prog_27_method_68_code
def yX6_dropCase : MethodName := ⟨RX6, "dropCase", "(I)I"⟩
def dkwX6_dropCase_3 : List UInt8 := [180, 0, 9, 5, 46, 27, 100, 104, 184, 0, 65, 42, 180, 0, 9, 5, 46, 172]
abbrev dktX6_dropCase_3 : List UInt8 := dkwX6_dropCase_3 ++ []
def dkwX6_dropCase_2 : List UInt8 := [17, 1, 87, 7, 27, 104, 96, 7, 96, 42, 180, 0, 9, 17, 1, 87, 7, 27, 104, 96, 7, 42]
abbrev dktX6_dropCase_2 : List UInt8 := dkwX6_dropCase_2 ++ dktX6_dropCase_3
def dkwX6_dropCase_1 : List UInt8 := [3, 172, 42, 182, 0, 92, 42, 182, 0, 95, 42, 180, 0, 9, 5, 92, 46, 4, 100, 79, 42, 180, 0, 9]
abbrev dktX6_dropCase_1 : List UInt8 := dkwX6_dropCase_1 ++ dktX6_dropCase_2
def dkwX6_dropCase_0 : List UInt8 := [42, 42, 27, 182, 0, 222, 153, 0, 7, 3, 167, 0, 4, 4, 181, 0, 62, 42, 180, 0, 62, 158, 0, 5]
abbrev dktX6_dropCase_0 : List UInt8 := dkwX6_dropCase_0 ++ dktX6_dropCase_1
theorem dksX6_dropCase_0 : cX6_dropCase.data.toList.drop 0 = dktX6_dropCase_0 := by decide +kernel
theorem dksX6_dropCase_1 : cX6_dropCase.data.toList.drop 24 = dktX6_dropCase_1 := dk_seg dksX6_dropCase_0 24 rfl rfl
theorem dksX6_dropCase_2 : cX6_dropCase.data.toList.drop 48 = dktX6_dropCase_2 := dk_seg dksX6_dropCase_1 24 rfl rfl
theorem dksX6_dropCase_3 : cX6_dropCase.data.toList.drop 70 = dktX6_dropCase_3 := dk_seg dksX6_dropCase_2 22 rfl rfl
theorem dX6_dropCase_0 : decode cX6_dropCase 0 = .ok (.aload_n 0, 1) := dk_42 (dk_at dksX6_dropCase_0 0 rfl rfl)
theorem dX6_dropCase_1 : decode cX6_dropCase 1 = .ok (.aload_n 0, 1) := dk_42 (dk_at dksX6_dropCase_0 1 rfl rfl)
theorem dX6_dropCase_2 : decode cX6_dropCase 2 = .ok (.iload_n 1, 1) := dk_27 (dk_at dksX6_dropCase_0 2 rfl rfl)
theorem dX6_dropCase_3 : decode cX6_dropCase 3 = .ok (.invokevirtual 222, 3) := dk_182 0 222 (dk_at dksX6_dropCase_0 3 rfl rfl)
theorem dX6_dropCase_6 : decode cX6_dropCase 6 = .ok (.ifCond .eq 7, 3) := dk_153 0 7 (dk_at dksX6_dropCase_0 6 rfl rfl)
theorem dX6_dropCase_9 : decode cX6_dropCase 9 = .ok (.iconst 0, 1) := dk_3 (dk_at dksX6_dropCase_0 9 rfl rfl)
theorem dX6_dropCase_10 : decode cX6_dropCase 10 = .ok (.goto 4, 3) := dk_167 0 4 (dk_at dksX6_dropCase_0 10 rfl rfl)
theorem dX6_dropCase_13 : decode cX6_dropCase 13 = .ok (.iconst 1, 1) := dk_4 (dk_at dksX6_dropCase_0 13 rfl rfl)
theorem dX6_dropCase_14 : decode cX6_dropCase 14 = .ok (.putfield 62, 3) := dk_181 0 62 (dk_at dksX6_dropCase_0 14 rfl rfl)
theorem dX6_dropCase_17 : decode cX6_dropCase 17 = .ok (.aload_n 0, 1) := dk_42 (dk_at dksX6_dropCase_0 17 rfl rfl)
theorem dX6_dropCase_18 : decode cX6_dropCase 18 = .ok (.getfield 62, 3) := dk_180 0 62 (dk_at dksX6_dropCase_0 18 rfl rfl)
theorem dX6_dropCase_21 : decode cX6_dropCase 21 = .ok (.ifCond .le 5, 3) := dk_158 0 5 (dk_at dksX6_dropCase_0 21 rfl rfl)
theorem dX6_dropCase_24 : decode cX6_dropCase 24 = .ok (.iconst 0, 1) := dk_3 (dk_at dksX6_dropCase_1 0 rfl rfl)
theorem dX6_dropCase_25 : decode cX6_dropCase 25 = .ok (.ireturn, 1) := dk_172 (dk_at dksX6_dropCase_1 1 rfl rfl)
theorem dX6_dropCase_26 : decode cX6_dropCase 26 = .ok (.aload_n 0, 1) := dk_42 (dk_at dksX6_dropCase_1 2 rfl rfl)
theorem dX6_dropCase_27 : decode cX6_dropCase 27 = .ok (.invokevirtual 92, 3) := dk_182 0 92 (dk_at dksX6_dropCase_1 3 rfl rfl)
theorem dX6_dropCase_30 : decode cX6_dropCase 30 = .ok (.aload_n 0, 1) := dk_42 (dk_at dksX6_dropCase_1 6 rfl rfl)
theorem dX6_dropCase_31 : decode cX6_dropCase 31 = .ok (.invokevirtual 95, 3) := dk_182 0 95 (dk_at dksX6_dropCase_1 7 rfl rfl)
theorem dX6_dropCase_34 : decode cX6_dropCase 34 = .ok (.aload_n 0, 1) := dk_42 (dk_at dksX6_dropCase_1 10 rfl rfl)
theorem dX6_dropCase_35 : decode cX6_dropCase 35 = .ok (.getfield 9, 3) := dk_180 0 9 (dk_at dksX6_dropCase_1 11 rfl rfl)
theorem dX6_dropCase_38 : decode cX6_dropCase 38 = .ok (.iconst 2, 1) := dk_5 (dk_at dksX6_dropCase_1 14 rfl rfl)
theorem dX6_dropCase_39 : decode cX6_dropCase 39 = .ok (.dup2, 1) := dk_92 (dk_at dksX6_dropCase_1 15 rfl rfl)
theorem dX6_dropCase_40 : decode cX6_dropCase 40 = .ok (.iaload, 1) := dk_46 (dk_at dksX6_dropCase_1 16 rfl rfl)
theorem dX6_dropCase_41 : decode cX6_dropCase 41 = .ok (.iconst 1, 1) := dk_4 (dk_at dksX6_dropCase_1 17 rfl rfl)
theorem dX6_dropCase_42 : decode cX6_dropCase 42 = .ok (.isub, 1) := dk_100 (dk_at dksX6_dropCase_1 18 rfl rfl)
theorem dX6_dropCase_43 : decode cX6_dropCase 43 = .ok (.iastore, 1) := dk_79 (dk_at dksX6_dropCase_1 19 rfl rfl)
theorem dX6_dropCase_44 : decode cX6_dropCase 44 = .ok (.aload_n 0, 1) := dk_42 (dk_at dksX6_dropCase_1 20 rfl rfl)
theorem dX6_dropCase_45 : decode cX6_dropCase 45 = .ok (.getfield 9, 3) := dk_180 0 9 (dk_at dksX6_dropCase_1 21 rfl rfl)
theorem dX6_dropCase_48 : decode cX6_dropCase 48 = .ok (.sipush 343, 3) := dk_17 1 87 (dk_at dksX6_dropCase_2 0 rfl rfl)
theorem dX6_dropCase_51 : decode cX6_dropCase 51 = .ok (.iconst 4, 1) := dk_7 (dk_at dksX6_dropCase_2 3 rfl rfl)
theorem dX6_dropCase_52 : decode cX6_dropCase 52 = .ok (.iload_n 1, 1) := dk_27 (dk_at dksX6_dropCase_2 4 rfl rfl)
theorem dX6_dropCase_53 : decode cX6_dropCase 53 = .ok (.imul, 1) := dk_104 (dk_at dksX6_dropCase_2 5 rfl rfl)
theorem dX6_dropCase_54 : decode cX6_dropCase 54 = .ok (.iadd, 1) := dk_96 (dk_at dksX6_dropCase_2 6 rfl rfl)
theorem dX6_dropCase_55 : decode cX6_dropCase 55 = .ok (.iconst 4, 1) := dk_7 (dk_at dksX6_dropCase_2 7 rfl rfl)
theorem dX6_dropCase_56 : decode cX6_dropCase 56 = .ok (.iadd, 1) := dk_96 (dk_at dksX6_dropCase_2 8 rfl rfl)
theorem dX6_dropCase_57 : decode cX6_dropCase 57 = .ok (.aload_n 0, 1) := dk_42 (dk_at dksX6_dropCase_2 9 rfl rfl)
theorem dX6_dropCase_58 : decode cX6_dropCase 58 = .ok (.getfield 9, 3) := dk_180 0 9 (dk_at dksX6_dropCase_2 10 rfl rfl)
theorem dX6_dropCase_61 : decode cX6_dropCase 61 = .ok (.sipush 343, 3) := dk_17 1 87 (dk_at dksX6_dropCase_2 13 rfl rfl)
theorem dX6_dropCase_64 : decode cX6_dropCase 64 = .ok (.iconst 4, 1) := dk_7 (dk_at dksX6_dropCase_2 16 rfl rfl)
theorem dX6_dropCase_65 : decode cX6_dropCase 65 = .ok (.iload_n 1, 1) := dk_27 (dk_at dksX6_dropCase_2 17 rfl rfl)
theorem dX6_dropCase_66 : decode cX6_dropCase 66 = .ok (.imul, 1) := dk_104 (dk_at dksX6_dropCase_2 18 rfl rfl)
theorem dX6_dropCase_67 : decode cX6_dropCase 67 = .ok (.iadd, 1) := dk_96 (dk_at dksX6_dropCase_2 19 rfl rfl)
theorem dX6_dropCase_68 : decode cX6_dropCase 68 = .ok (.iconst 4, 1) := dk_7 (dk_at dksX6_dropCase_2 20 rfl rfl)
theorem dX6_dropCase_69 : decode cX6_dropCase 69 = .ok (.aload_n 0, 1) := dk_42 (dk_at dksX6_dropCase_2 21 rfl rfl)
theorem dX6_dropCase_70 : decode cX6_dropCase 70 = .ok (.getfield 9, 3) := dk_180 0 9 (dk_at dksX6_dropCase_3 0 rfl rfl)
theorem dX6_dropCase_73 : decode cX6_dropCase 73 = .ok (.iconst 2, 1) := dk_5 (dk_at dksX6_dropCase_3 3 rfl rfl)
theorem dX6_dropCase_74 : decode cX6_dropCase 74 = .ok (.iaload, 1) := dk_46 (dk_at dksX6_dropCase_3 4 rfl rfl)
theorem dX6_dropCase_75 : decode cX6_dropCase 75 = .ok (.iload_n 1, 1) := dk_27 (dk_at dksX6_dropCase_3 5 rfl rfl)
theorem dX6_dropCase_76 : decode cX6_dropCase 76 = .ok (.isub, 1) := dk_100 (dk_at dksX6_dropCase_3 6 rfl rfl)
theorem dX6_dropCase_77 : decode cX6_dropCase 77 = .ok (.imul, 1) := dk_104 (dk_at dksX6_dropCase_3 7 rfl rfl)
theorem dX6_dropCase_78 : decode cX6_dropCase 78 = .ok (.invokestatic 65, 3) := dk_184 0 65 (dk_at dksX6_dropCase_3 8 rfl rfl)
theorem dX6_dropCase_81 : decode cX6_dropCase 81 = .ok (.aload_n 0, 1) := dk_42 (dk_at dksX6_dropCase_3 11 rfl rfl)
theorem dX6_dropCase_82 : decode cX6_dropCase 82 = .ok (.getfield 9, 3) := dk_180 0 9 (dk_at dksX6_dropCase_3 12 rfl rfl)
theorem dX6_dropCase_85 : decode cX6_dropCase 85 = .ok (.iconst 2, 1) := dk_5 (dk_at dksX6_dropCase_3 15 rfl rfl)
theorem dX6_dropCase_86 : decode cX6_dropCase 86 = .ok (.iaload, 1) := dk_46 (dk_at dksX6_dropCase_3 16 rfl rfl)
theorem dX6_dropCase_87 : decode cX6_dropCase 87 = .ok (.ireturn, 1) := dk_172 (dk_at dksX6_dropCase_3 17 rfl rfl)
abbrev cX6_wrong : ByteArray := prog_27_method_69_code
def yX6_wrong : MethodName := ⟨RX6, "wrong", "()I"⟩
def dkwX6_wrong_0 : List UInt8 := [42, 3, 181, 0, 62, 42, 182, 0, 228, 172]
abbrev dktX6_wrong_0 : List UInt8 := dkwX6_wrong_0 ++ []
theorem dksX6_wrong_0 : cX6_wrong.data.toList.drop 0 = dktX6_wrong_0 := by decide +kernel
theorem dX6_wrong_0 : decode cX6_wrong 0 = .ok (.aload_n 0, 1) := dk_42 (dk_at dksX6_wrong_0 0 rfl rfl)
theorem dX6_wrong_1 : decode cX6_wrong 1 = .ok (.iconst 0, 1) := dk_3 (dk_at dksX6_wrong_0 1 rfl rfl)
theorem dX6_wrong_2 : decode cX6_wrong 2 = .ok (.putfield 62, 3) := dk_181 0 62 (dk_at dksX6_wrong_0 2 rfl rfl)
theorem dX6_wrong_5 : decode cX6_wrong 5 = .ok (.aload_n 0, 1) := dk_42 (dk_at dksX6_wrong_0 5 rfl rfl)
theorem dX6_wrong_6 : decode cX6_wrong 6 = .ok (.invokevirtual 228, 3) := dk_182 0 228 (dk_at dksX6_wrong_0 6 rfl rfl)
theorem dX6_wrong_9 : decode cX6_wrong 9 = .ok (.ireturn, 1) := dk_172 (dk_at dksX6_wrong_0 9 rfl rfl)
abbrev cX6_wrongSet : ByteArray := prog_27_method_65_code
def yX6_wrongSet : MethodName := ⟨RX6, "wrongSet", "()I"⟩
def dkwX6_wrongSet_1 : List UInt8 := [167, 0, 6, 4, 28, 120, 128, 60, 132, 2, 1, 167, 255, 225, 27, 172]
abbrev dktX6_wrongSet_1 : List UInt8 := dkwX6_wrongSet_1 ++ []
def dkwX6_wrongSet_0 : List UInt8 := [3, 60, 3, 61, 28, 42, 180, 0, 9, 5, 46, 162, 0, 27, 27, 42, 28, 182, 0, 219, 153, 0, 7, 3]
abbrev dktX6_wrongSet_0 : List UInt8 := dkwX6_wrongSet_0 ++ dktX6_wrongSet_1
theorem dksX6_wrongSet_0 : cX6_wrongSet.data.toList.drop 0 = dktX6_wrongSet_0 := by decide +kernel
theorem dksX6_wrongSet_1 : cX6_wrongSet.data.toList.drop 24 = dktX6_wrongSet_1 := dk_seg dksX6_wrongSet_0 24 rfl rfl
theorem dX6_wrongSet_0 : decode cX6_wrongSet 0 = .ok (.iconst 0, 1) := dk_3 (dk_at dksX6_wrongSet_0 0 rfl rfl)
theorem dX6_wrongSet_1 : decode cX6_wrongSet 1 = .ok (.istore_n 1, 1) := dk_60 (dk_at dksX6_wrongSet_0 1 rfl rfl)
theorem dX6_wrongSet_2 : decode cX6_wrongSet 2 = .ok (.iconst 0, 1) := dk_3 (dk_at dksX6_wrongSet_0 2 rfl rfl)
theorem dX6_wrongSet_3 : decode cX6_wrongSet 3 = .ok (.istore_n 2, 1) := dk_61 (dk_at dksX6_wrongSet_0 3 rfl rfl)
theorem dX6_wrongSet_4 : decode cX6_wrongSet 4 = .ok (.iload_n 2, 1) := dk_28 (dk_at dksX6_wrongSet_0 4 rfl rfl)
theorem dX6_wrongSet_5 : decode cX6_wrongSet 5 = .ok (.aload_n 0, 1) := dk_42 (dk_at dksX6_wrongSet_0 5 rfl rfl)
theorem dX6_wrongSet_6 : decode cX6_wrongSet 6 = .ok (.getfield 9, 3) := dk_180 0 9 (dk_at dksX6_wrongSet_0 6 rfl rfl)
theorem dX6_wrongSet_9 : decode cX6_wrongSet 9 = .ok (.iconst 2, 1) := dk_5 (dk_at dksX6_wrongSet_0 9 rfl rfl)
theorem dX6_wrongSet_10 : decode cX6_wrongSet 10 = .ok (.iaload, 1) := dk_46 (dk_at dksX6_wrongSet_0 10 rfl rfl)
theorem dX6_wrongSet_11 : decode cX6_wrongSet 11 = .ok (.if_icmp .ge 27, 3) := dk_162 0 27 (dk_at dksX6_wrongSet_0 11 rfl rfl)
theorem dX6_wrongSet_14 : decode cX6_wrongSet 14 = .ok (.iload_n 1, 1) := dk_27 (dk_at dksX6_wrongSet_0 14 rfl rfl)
theorem dX6_wrongSet_15 : decode cX6_wrongSet 15 = .ok (.aload_n 0, 1) := dk_42 (dk_at dksX6_wrongSet_0 15 rfl rfl)
theorem dX6_wrongSet_16 : decode cX6_wrongSet 16 = .ok (.iload_n 2, 1) := dk_28 (dk_at dksX6_wrongSet_0 16 rfl rfl)
theorem dX6_wrongSet_17 : decode cX6_wrongSet 17 = .ok (.invokevirtual 219, 3) := dk_182 0 219 (dk_at dksX6_wrongSet_0 17 rfl rfl)
theorem dX6_wrongSet_20 : decode cX6_wrongSet 20 = .ok (.ifCond .eq 7, 3) := dk_153 0 7 (dk_at dksX6_wrongSet_0 20 rfl rfl)
theorem dX6_wrongSet_23 : decode cX6_wrongSet 23 = .ok (.iconst 0, 1) := dk_3 (dk_at dksX6_wrongSet_0 23 rfl rfl)
theorem dX6_wrongSet_24 : decode cX6_wrongSet 24 = .ok (.goto 6, 3) := dk_167 0 6 (dk_at dksX6_wrongSet_1 0 rfl rfl)
theorem dX6_wrongSet_27 : decode cX6_wrongSet 27 = .ok (.iconst 1, 1) := dk_4 (dk_at dksX6_wrongSet_1 3 rfl rfl)
theorem dX6_wrongSet_28 : decode cX6_wrongSet 28 = .ok (.iload_n 2, 1) := dk_28 (dk_at dksX6_wrongSet_1 4 rfl rfl)
theorem dX6_wrongSet_29 : decode cX6_wrongSet 29 = .ok (.ishl, 1) := dk_120 (dk_at dksX6_wrongSet_1 5 rfl rfl)
theorem dX6_wrongSet_30 : decode cX6_wrongSet 30 = .ok (.ior, 1) := dk_128 (dk_at dksX6_wrongSet_1 6 rfl rfl)
theorem dX6_wrongSet_31 : decode cX6_wrongSet 31 = .ok (.istore_n 1, 1) := dk_60 (dk_at dksX6_wrongSet_1 7 rfl rfl)
theorem dX6_wrongSet_32 : decode cX6_wrongSet 32 = .ok (.iinc 2 1, 3) := dk_132 2 1 (dk_at dksX6_wrongSet_1 8 rfl rfl)
theorem dX6_wrongSet_35 : decode cX6_wrongSet 35 = .ok (.goto (-31), 3) := dk_167 255 225 (dk_at dksX6_wrongSet_1 11 rfl rfl)
theorem dX6_wrongSet_38 : decode cX6_wrongSet 38 = .ok (.iload_n 1, 1) := dk_27 (dk_at dksX6_wrongSet_1 14 rfl rfl)
theorem dX6_wrongSet_39 : decode cX6_wrongSet 39 = .ok (.ireturn, 1) := dk_172 (dk_at dksX6_wrongSet_1 15 rfl rfl)
abbrev cX6_tested : ByteArray := prog_27_method_70_code
def yX6_tested : MethodName := ⟨RX6, "tested", "()I"⟩
def dkwX6_tested_2 : List UInt8 := [167, 255, 234, 132, 2, 1, 167, 255, 211, 27, 172]
abbrev dktX6_tested_2 : List UInt8 := dkwX6_tested_2 ++ []
def dkwX6_tested_1 : List UInt8 := [3, 62, 29, 42, 180, 0, 188, 162, 0, 20, 27, 4, 42, 180, 0, 36, 29, 46, 120, 128, 60, 132, 3, 1]
abbrev dktX6_tested_1 : List UInt8 := dkwX6_tested_1 ++ dktX6_tested_2
def dkwX6_tested_0 : List UInt8 := [42, 3, 181, 0, 62, 3, 60, 3, 61, 28, 42, 180, 0, 9, 5, 46, 162, 0, 41, 42, 28, 182, 0, 225]
abbrev dktX6_tested_0 : List UInt8 := dkwX6_tested_0 ++ dktX6_tested_1
theorem dksX6_tested_0 : cX6_tested.data.toList.drop 0 = dktX6_tested_0 := by decide +kernel
theorem dksX6_tested_1 : cX6_tested.data.toList.drop 24 = dktX6_tested_1 := dk_seg dksX6_tested_0 24 rfl rfl
theorem dksX6_tested_2 : cX6_tested.data.toList.drop 48 = dktX6_tested_2 := dk_seg dksX6_tested_1 24 rfl rfl
theorem dX6_tested_0 : decode cX6_tested 0 = .ok (.aload_n 0, 1) := dk_42 (dk_at dksX6_tested_0 0 rfl rfl)
theorem dX6_tested_1 : decode cX6_tested 1 = .ok (.iconst 0, 1) := dk_3 (dk_at dksX6_tested_0 1 rfl rfl)
theorem dX6_tested_2 : decode cX6_tested 2 = .ok (.putfield 62, 3) := dk_181 0 62 (dk_at dksX6_tested_0 2 rfl rfl)
theorem dX6_tested_5 : decode cX6_tested 5 = .ok (.iconst 0, 1) := dk_3 (dk_at dksX6_tested_0 5 rfl rfl)
theorem dX6_tested_6 : decode cX6_tested 6 = .ok (.istore_n 1, 1) := dk_60 (dk_at dksX6_tested_0 6 rfl rfl)
theorem dX6_tested_7 : decode cX6_tested 7 = .ok (.iconst 0, 1) := dk_3 (dk_at dksX6_tested_0 7 rfl rfl)
theorem dX6_tested_8 : decode cX6_tested 8 = .ok (.istore_n 2, 1) := dk_61 (dk_at dksX6_tested_0 8 rfl rfl)
theorem dX6_tested_9 : decode cX6_tested 9 = .ok (.iload_n 2, 1) := dk_28 (dk_at dksX6_tested_0 9 rfl rfl)
theorem dX6_tested_10 : decode cX6_tested 10 = .ok (.aload_n 0, 1) := dk_42 (dk_at dksX6_tested_0 10 rfl rfl)
theorem dX6_tested_11 : decode cX6_tested 11 = .ok (.getfield 9, 3) := dk_180 0 9 (dk_at dksX6_tested_0 11 rfl rfl)
theorem dX6_tested_14 : decode cX6_tested 14 = .ok (.iconst 2, 1) := dk_5 (dk_at dksX6_tested_0 14 rfl rfl)
theorem dX6_tested_15 : decode cX6_tested 15 = .ok (.iaload, 1) := dk_46 (dk_at dksX6_tested_0 15 rfl rfl)
theorem dX6_tested_16 : decode cX6_tested 16 = .ok (.if_icmp .ge 41, 3) := dk_162 0 41 (dk_at dksX6_tested_0 16 rfl rfl)
theorem dX6_tested_19 : decode cX6_tested 19 = .ok (.aload_n 0, 1) := dk_42 (dk_at dksX6_tested_0 19 rfl rfl)
theorem dX6_tested_20 : decode cX6_tested 20 = .ok (.iload_n 2, 1) := dk_28 (dk_at dksX6_tested_0 20 rfl rfl)
theorem dX6_tested_21 : decode cX6_tested 21 = .ok (.invokevirtual 225, 3) := dk_182 0 225 (dk_at dksX6_tested_0 21 rfl rfl)
theorem dX6_tested_24 : decode cX6_tested 24 = .ok (.iconst 0, 1) := dk_3 (dk_at dksX6_tested_1 0 rfl rfl)
theorem dX6_tested_25 : decode cX6_tested 25 = .ok (.istore_n 3, 1) := dk_62 (dk_at dksX6_tested_1 1 rfl rfl)
theorem dX6_tested_26 : decode cX6_tested 26 = .ok (.iload_n 3, 1) := dk_29 (dk_at dksX6_tested_1 2 rfl rfl)
theorem dX6_tested_27 : decode cX6_tested 27 = .ok (.aload_n 0, 1) := dk_42 (dk_at dksX6_tested_1 3 rfl rfl)
theorem dX6_tested_28 : decode cX6_tested 28 = .ok (.getfield 188, 3) := dk_180 0 188 (dk_at dksX6_tested_1 4 rfl rfl)
theorem dX6_tested_31 : decode cX6_tested 31 = .ok (.if_icmp .ge 20, 3) := dk_162 0 20 (dk_at dksX6_tested_1 7 rfl rfl)
theorem dX6_tested_34 : decode cX6_tested 34 = .ok (.iload_n 1, 1) := dk_27 (dk_at dksX6_tested_1 10 rfl rfl)
theorem dX6_tested_35 : decode cX6_tested 35 = .ok (.iconst 1, 1) := dk_4 (dk_at dksX6_tested_1 11 rfl rfl)
theorem dX6_tested_36 : decode cX6_tested 36 = .ok (.aload_n 0, 1) := dk_42 (dk_at dksX6_tested_1 12 rfl rfl)
theorem dX6_tested_37 : decode cX6_tested 37 = .ok (.getfield 36, 3) := dk_180 0 36 (dk_at dksX6_tested_1 13 rfl rfl)
theorem dX6_tested_40 : decode cX6_tested 40 = .ok (.iload_n 3, 1) := dk_29 (dk_at dksX6_tested_1 16 rfl rfl)
theorem dX6_tested_41 : decode cX6_tested 41 = .ok (.iaload, 1) := dk_46 (dk_at dksX6_tested_1 17 rfl rfl)
theorem dX6_tested_42 : decode cX6_tested 42 = .ok (.ishl, 1) := dk_120 (dk_at dksX6_tested_1 18 rfl rfl)
theorem dX6_tested_43 : decode cX6_tested 43 = .ok (.ior, 1) := dk_128 (dk_at dksX6_tested_1 19 rfl rfl)
theorem dX6_tested_44 : decode cX6_tested 44 = .ok (.istore_n 1, 1) := dk_60 (dk_at dksX6_tested_1 20 rfl rfl)
theorem dX6_tested_45 : decode cX6_tested 45 = .ok (.iinc 3 1, 3) := dk_132 3 1 (dk_at dksX6_tested_1 21 rfl rfl)
theorem dX6_tested_48 : decode cX6_tested 48 = .ok (.goto (-22), 3) := dk_167 255 234 (dk_at dksX6_tested_2 0 rfl rfl)
theorem dX6_tested_51 : decode cX6_tested 51 = .ok (.iinc 2 1, 3) := dk_132 2 1 (dk_at dksX6_tested_2 3 rfl rfl)
theorem dX6_tested_54 : decode cX6_tested 54 = .ok (.goto (-45), 3) := dk_167 255 211 (dk_at dksX6_tested_2 6 rfl rfl)
theorem dX6_tested_57 : decode cX6_tested 57 = .ok (.iload_n 1, 1) := dk_27 (dk_at dksX6_tested_2 9 rfl rfl)
theorem dX6_tested_58 : decode cX6_tested 58 = .ok (.ireturn, 1) := dk_172 (dk_at dksX6_tested_2 10 rfl rfl)
abbrev cX6_without : ByteArray := prog_27_method_71_code
def yX6_without : MethodName := ⟨RX6, "without", "(I)I"⟩
def dkwX6_without_2 : List UInt8 := [181, 0, 32, 28, 172]
abbrev dktX6_without_2 : List UInt8 := dkwX6_without_2 ++ []
def dkwX6_without_1 : List UInt8 := [3, 172, 42, 27, 181, 0, 32, 42, 180, 0, 9, 5, 46, 42, 182, 0, 228, 184, 0, 231, 100, 61, 42, 2]
abbrev dktX6_without_1 : List UInt8 := dkwX6_without_1 ++ dktX6_without_2
def dkwX6_without_0 : List UInt8 := [42, 42, 27, 182, 0, 142, 153, 0, 7, 3, 167, 0, 4, 4, 181, 0, 62, 42, 180, 0, 62, 158, 0, 5]
abbrev dktX6_without_0 : List UInt8 := dkwX6_without_0 ++ dktX6_without_1
theorem dksX6_without_0 : cX6_without.data.toList.drop 0 = dktX6_without_0 := by decide +kernel
theorem dksX6_without_1 : cX6_without.data.toList.drop 24 = dktX6_without_1 := dk_seg dksX6_without_0 24 rfl rfl
theorem dksX6_without_2 : cX6_without.data.toList.drop 48 = dktX6_without_2 := dk_seg dksX6_without_1 24 rfl rfl
theorem dX6_without_0 : decode cX6_without 0 = .ok (.aload_n 0, 1) := dk_42 (dk_at dksX6_without_0 0 rfl rfl)
theorem dX6_without_1 : decode cX6_without 1 = .ok (.aload_n 0, 1) := dk_42 (dk_at dksX6_without_0 1 rfl rfl)
theorem dX6_without_2 : decode cX6_without 2 = .ok (.iload_n 1, 1) := dk_27 (dk_at dksX6_without_0 2 rfl rfl)
theorem dX6_without_3 : decode cX6_without 3 = .ok (.invokevirtual 142, 3) := dk_182 0 142 (dk_at dksX6_without_0 3 rfl rfl)
theorem dX6_without_6 : decode cX6_without 6 = .ok (.ifCond .eq 7, 3) := dk_153 0 7 (dk_at dksX6_without_0 6 rfl rfl)
theorem dX6_without_9 : decode cX6_without 9 = .ok (.iconst 0, 1) := dk_3 (dk_at dksX6_without_0 9 rfl rfl)
theorem dX6_without_10 : decode cX6_without 10 = .ok (.goto 4, 3) := dk_167 0 4 (dk_at dksX6_without_0 10 rfl rfl)
theorem dX6_without_13 : decode cX6_without 13 = .ok (.iconst 1, 1) := dk_4 (dk_at dksX6_without_0 13 rfl rfl)
theorem dX6_without_14 : decode cX6_without 14 = .ok (.putfield 62, 3) := dk_181 0 62 (dk_at dksX6_without_0 14 rfl rfl)
theorem dX6_without_17 : decode cX6_without 17 = .ok (.aload_n 0, 1) := dk_42 (dk_at dksX6_without_0 17 rfl rfl)
theorem dX6_without_18 : decode cX6_without 18 = .ok (.getfield 62, 3) := dk_180 0 62 (dk_at dksX6_without_0 18 rfl rfl)
theorem dX6_without_21 : decode cX6_without 21 = .ok (.ifCond .le 5, 3) := dk_158 0 5 (dk_at dksX6_without_0 21 rfl rfl)
theorem dX6_without_24 : decode cX6_without 24 = .ok (.iconst 0, 1) := dk_3 (dk_at dksX6_without_1 0 rfl rfl)
theorem dX6_without_25 : decode cX6_without 25 = .ok (.ireturn, 1) := dk_172 (dk_at dksX6_without_1 1 rfl rfl)
theorem dX6_without_26 : decode cX6_without 26 = .ok (.aload_n 0, 1) := dk_42 (dk_at dksX6_without_1 2 rfl rfl)
theorem dX6_without_27 : decode cX6_without 27 = .ok (.iload_n 1, 1) := dk_27 (dk_at dksX6_without_1 3 rfl rfl)
theorem dX6_without_28 : decode cX6_without 28 = .ok (.putfield 32, 3) := dk_181 0 32 (dk_at dksX6_without_1 4 rfl rfl)
theorem dX6_without_31 : decode cX6_without 31 = .ok (.aload_n 0, 1) := dk_42 (dk_at dksX6_without_1 7 rfl rfl)
theorem dX6_without_32 : decode cX6_without 32 = .ok (.getfield 9, 3) := dk_180 0 9 (dk_at dksX6_without_1 8 rfl rfl)
theorem dX6_without_35 : decode cX6_without 35 = .ok (.iconst 2, 1) := dk_5 (dk_at dksX6_without_1 11 rfl rfl)
theorem dX6_without_36 : decode cX6_without 36 = .ok (.iaload, 1) := dk_46 (dk_at dksX6_without_1 12 rfl rfl)
theorem dX6_without_37 : decode cX6_without 37 = .ok (.aload_n 0, 1) := dk_42 (dk_at dksX6_without_1 13 rfl rfl)
theorem dX6_without_38 : decode cX6_without 38 = .ok (.invokevirtual 228, 3) := dk_182 0 228 (dk_at dksX6_without_1 14 rfl rfl)
theorem dX6_without_41 : decode cX6_without 41 = .ok (.invokestatic 231, 3) := dk_184 0 231 (dk_at dksX6_without_1 17 rfl rfl)
theorem dX6_without_44 : decode cX6_without 44 = .ok (.isub, 1) := dk_100 (dk_at dksX6_without_1 20 rfl rfl)
theorem dX6_without_45 : decode cX6_without 45 = .ok (.istore_n 2, 1) := dk_61 (dk_at dksX6_without_1 21 rfl rfl)
theorem dX6_without_46 : decode cX6_without 46 = .ok (.aload_n 0, 1) := dk_42 (dk_at dksX6_without_1 22 rfl rfl)
theorem dX6_without_47 : decode cX6_without 47 = .ok (.iconst (-1), 1) := dk_2 (dk_at dksX6_without_1 23 rfl rfl)
theorem dX6_without_48 : decode cX6_without 48 = .ok (.putfield 32, 3) := dk_181 0 32 (dk_at dksX6_without_2 0 rfl rfl)
theorem dX6_without_51 : decode cX6_without 51 = .ok (.iload_n 2, 1) := dk_28 (dk_at dksX6_without_2 3 rfl rfl)
theorem dX6_without_52 : decode cX6_without 52 = .ok (.ireturn, 1) := dk_172 (dk_at dksX6_without_2 4 rfl rfl)
abbrev cX6_ones : ByteArray := prog_27_method_66_code
def yX6_ones : MethodName := ⟨RX6, "ones", "(I)I"⟩
def dkwX6_ones_0 : List UInt8 := [3, 60, 26, 61, 28, 153, 0, 15, 132, 1, 1, 28, 28, 4, 100, 126, 61, 167, 255, 243, 27, 172]
abbrev dktX6_ones_0 : List UInt8 := dkwX6_ones_0 ++ []
theorem dksX6_ones_0 : cX6_ones.data.toList.drop 0 = dktX6_ones_0 := by decide +kernel
theorem dX6_ones_0 : decode cX6_ones 0 = .ok (.iconst 0, 1) := dk_3 (dk_at dksX6_ones_0 0 rfl rfl)
theorem dX6_ones_1 : decode cX6_ones 1 = .ok (.istore_n 1, 1) := dk_60 (dk_at dksX6_ones_0 1 rfl rfl)
theorem dX6_ones_2 : decode cX6_ones 2 = .ok (.iload_n 0, 1) := dk_26 (dk_at dksX6_ones_0 2 rfl rfl)
theorem dX6_ones_3 : decode cX6_ones 3 = .ok (.istore_n 2, 1) := dk_61 (dk_at dksX6_ones_0 3 rfl rfl)
theorem dX6_ones_4 : decode cX6_ones 4 = .ok (.iload_n 2, 1) := dk_28 (dk_at dksX6_ones_0 4 rfl rfl)
theorem dX6_ones_5 : decode cX6_ones 5 = .ok (.ifCond .eq 15, 3) := dk_153 0 15 (dk_at dksX6_ones_0 5 rfl rfl)
theorem dX6_ones_8 : decode cX6_ones 8 = .ok (.iinc 1 1, 3) := dk_132 1 1 (dk_at dksX6_ones_0 8 rfl rfl)
theorem dX6_ones_11 : decode cX6_ones 11 = .ok (.iload_n 2, 1) := dk_28 (dk_at dksX6_ones_0 11 rfl rfl)
theorem dX6_ones_12 : decode cX6_ones 12 = .ok (.iload_n 2, 1) := dk_28 (dk_at dksX6_ones_0 12 rfl rfl)
theorem dX6_ones_13 : decode cX6_ones 13 = .ok (.iconst 1, 1) := dk_4 (dk_at dksX6_ones_0 13 rfl rfl)
theorem dX6_ones_14 : decode cX6_ones 14 = .ok (.isub, 1) := dk_100 (dk_at dksX6_ones_0 14 rfl rfl)
theorem dX6_ones_15 : decode cX6_ones 15 = .ok (.iand, 1) := dk_126 (dk_at dksX6_ones_0 15 rfl rfl)
theorem dX6_ones_16 : decode cX6_ones 16 = .ok (.istore_n 2, 1) := dk_61 (dk_at dksX6_ones_0 16 rfl rfl)
theorem dX6_ones_17 : decode cX6_ones 17 = .ok (.goto (-13), 3) := dk_167 255 243 (dk_at dksX6_ones_0 17 rfl rfl)
theorem dX6_ones_20 : decode cX6_ones 20 = .ok (.iload_n 1, 1) := dk_27 (dk_at dksX6_ones_0 20 rfl rfl)
theorem dX6_ones_21 : decode cX6_ones 21 = .ok (.ireturn, 1) := dk_172 (dk_at dksX6_ones_0 21 rfl rfl)
abbrev cX6_sheet : ByteArray := prog_27_method_73_code
def yX6_sheet : MethodName := ⟨RX6, "sheet", "(I)I"⟩
def dkwX6_sheet_2 : List UInt8 := [180, 0, 42, 6, 29, 104, 2, 79, 132, 3, 1, 167, 255, 238, 28, 172]
abbrev dktX6_sheet_2 : List UInt8 := dkwX6_sheet_2 ++ []
def dkwX6_sheet_1 : List UInt8 := [158, 0, 5, 3, 172, 42, 182, 0, 234, 61, 42, 27, 181, 0, 39, 3, 62, 29, 16, 6, 162, 0, 18, 42]
abbrev dktX6_sheet_1 : List UInt8 := dkwX6_sheet_1 ++ dktX6_sheet_2
def dkwX6_sheet_0 : List UInt8 := [42, 27, 3, 7, 184, 0, 80, 153, 0, 7, 3, 167, 0, 4, 4, 181, 0, 62, 42, 180, 0, 62]
abbrev dktX6_sheet_0 : List UInt8 := dkwX6_sheet_0 ++ dktX6_sheet_1
theorem dksX6_sheet_0 : cX6_sheet.data.toList.drop 0 = dktX6_sheet_0 := by decide +kernel
theorem dksX6_sheet_1 : cX6_sheet.data.toList.drop 22 = dktX6_sheet_1 := dk_seg dksX6_sheet_0 22 rfl rfl
theorem dksX6_sheet_2 : cX6_sheet.data.toList.drop 46 = dktX6_sheet_2 := dk_seg dksX6_sheet_1 24 rfl rfl
theorem dX6_sheet_0 : decode cX6_sheet 0 = .ok (.aload_n 0, 1) := dk_42 (dk_at dksX6_sheet_0 0 rfl rfl)
theorem dX6_sheet_1 : decode cX6_sheet 1 = .ok (.iload_n 1, 1) := dk_27 (dk_at dksX6_sheet_0 1 rfl rfl)
theorem dX6_sheet_2 : decode cX6_sheet 2 = .ok (.iconst 0, 1) := dk_3 (dk_at dksX6_sheet_0 2 rfl rfl)
theorem dX6_sheet_3 : decode cX6_sheet 3 = .ok (.iconst 4, 1) := dk_7 (dk_at dksX6_sheet_0 3 rfl rfl)
theorem dX6_sheet_4 : decode cX6_sheet 4 = .ok (.invokestatic 80, 3) := dk_184 0 80 (dk_at dksX6_sheet_0 4 rfl rfl)
theorem dX6_sheet_7 : decode cX6_sheet 7 = .ok (.ifCond .eq 7, 3) := dk_153 0 7 (dk_at dksX6_sheet_0 7 rfl rfl)
theorem dX6_sheet_10 : decode cX6_sheet 10 = .ok (.iconst 0, 1) := dk_3 (dk_at dksX6_sheet_0 10 rfl rfl)
theorem dX6_sheet_11 : decode cX6_sheet 11 = .ok (.goto 4, 3) := dk_167 0 4 (dk_at dksX6_sheet_0 11 rfl rfl)
theorem dX6_sheet_14 : decode cX6_sheet 14 = .ok (.iconst 1, 1) := dk_4 (dk_at dksX6_sheet_0 14 rfl rfl)
theorem dX6_sheet_15 : decode cX6_sheet 15 = .ok (.putfield 62, 3) := dk_181 0 62 (dk_at dksX6_sheet_0 15 rfl rfl)
theorem dX6_sheet_18 : decode cX6_sheet 18 = .ok (.aload_n 0, 1) := dk_42 (dk_at dksX6_sheet_0 18 rfl rfl)
theorem dX6_sheet_19 : decode cX6_sheet 19 = .ok (.getfield 62, 3) := dk_180 0 62 (dk_at dksX6_sheet_0 19 rfl rfl)
theorem dX6_sheet_22 : decode cX6_sheet 22 = .ok (.ifCond .le 5, 3) := dk_158 0 5 (dk_at dksX6_sheet_1 0 rfl rfl)
theorem dX6_sheet_25 : decode cX6_sheet 25 = .ok (.iconst 0, 1) := dk_3 (dk_at dksX6_sheet_1 3 rfl rfl)
theorem dX6_sheet_26 : decode cX6_sheet 26 = .ok (.ireturn, 1) := dk_172 (dk_at dksX6_sheet_1 4 rfl rfl)
theorem dX6_sheet_27 : decode cX6_sheet 27 = .ok (.aload_n 0, 1) := dk_42 (dk_at dksX6_sheet_1 5 rfl rfl)
theorem dX6_sheet_28 : decode cX6_sheet 28 = .ok (.invokevirtual 234, 3) := dk_182 0 234 (dk_at dksX6_sheet_1 6 rfl rfl)
theorem dX6_sheet_31 : decode cX6_sheet 31 = .ok (.istore_n 2, 1) := dk_61 (dk_at dksX6_sheet_1 9 rfl rfl)
theorem dX6_sheet_32 : decode cX6_sheet 32 = .ok (.aload_n 0, 1) := dk_42 (dk_at dksX6_sheet_1 10 rfl rfl)
theorem dX6_sheet_33 : decode cX6_sheet 33 = .ok (.iload_n 1, 1) := dk_27 (dk_at dksX6_sheet_1 11 rfl rfl)
theorem dX6_sheet_34 : decode cX6_sheet 34 = .ok (.putfield 39, 3) := dk_181 0 39 (dk_at dksX6_sheet_1 12 rfl rfl)
theorem dX6_sheet_37 : decode cX6_sheet 37 = .ok (.iconst 0, 1) := dk_3 (dk_at dksX6_sheet_1 15 rfl rfl)
theorem dX6_sheet_38 : decode cX6_sheet 38 = .ok (.istore_n 3, 1) := dk_62 (dk_at dksX6_sheet_1 16 rfl rfl)
theorem dX6_sheet_39 : decode cX6_sheet 39 = .ok (.iload_n 3, 1) := dk_29 (dk_at dksX6_sheet_1 17 rfl rfl)
theorem dX6_sheet_40 : decode cX6_sheet 40 = .ok (.bipush 6, 2) := dk_16 6 (dk_at dksX6_sheet_1 18 rfl rfl)
theorem dX6_sheet_42 : decode cX6_sheet 42 = .ok (.if_icmp .ge 18, 3) := dk_162 0 18 (dk_at dksX6_sheet_1 20 rfl rfl)
theorem dX6_sheet_45 : decode cX6_sheet 45 = .ok (.aload_n 0, 1) := dk_42 (dk_at dksX6_sheet_1 23 rfl rfl)
theorem dX6_sheet_46 : decode cX6_sheet 46 = .ok (.getfield 42, 3) := dk_180 0 42 (dk_at dksX6_sheet_2 0 rfl rfl)
theorem dX6_sheet_49 : decode cX6_sheet 49 = .ok (.iconst 3, 1) := dk_6 (dk_at dksX6_sheet_2 3 rfl rfl)
theorem dX6_sheet_50 : decode cX6_sheet 50 = .ok (.iload_n 3, 1) := dk_29 (dk_at dksX6_sheet_2 4 rfl rfl)
theorem dX6_sheet_51 : decode cX6_sheet 51 = .ok (.imul, 1) := dk_104 (dk_at dksX6_sheet_2 5 rfl rfl)
theorem dX6_sheet_52 : decode cX6_sheet 52 = .ok (.iconst (-1), 1) := dk_2 (dk_at dksX6_sheet_2 6 rfl rfl)
theorem dX6_sheet_53 : decode cX6_sheet 53 = .ok (.iastore, 1) := dk_79 (dk_at dksX6_sheet_2 7 rfl rfl)
theorem dX6_sheet_54 : decode cX6_sheet 54 = .ok (.iinc 3 1, 3) := dk_132 3 1 (dk_at dksX6_sheet_2 8 rfl rfl)
theorem dX6_sheet_57 : decode cX6_sheet 57 = .ok (.goto (-18), 3) := dk_167 255 238 (dk_at dksX6_sheet_2 11 rfl rfl)
theorem dX6_sheet_60 : decode cX6_sheet 60 = .ok (.iload_n 2, 1) := dk_28 (dk_at dksX6_sheet_2 14 rfl rfl)
theorem dX6_sheet_61 : decode cX6_sheet 61 = .ok (.ireturn, 1) := dk_172 (dk_at dksX6_sheet_2 15 rfl rfl)
abbrev cX6_onSheet : ByteArray := prog_27_method_72_code
def yX6_onSheet : MethodName := ⟨RX6, "onSheet", "()I"⟩
def dkwX6_onSheet_1 : List UInt8 := [167, 0, 4, 3, 96, 60, 132, 2, 1, 167, 255, 228, 27, 172]
abbrev dktX6_onSheet_1 : List UInt8 := dkwX6_onSheet_1 ++ []
def dkwX6_onSheet_0 : List UInt8 := [3, 60, 3, 61, 28, 16, 6, 162, 0, 28, 27, 42, 180, 0, 42, 6, 28, 104, 46, 155, 0, 7, 4]
abbrev dktX6_onSheet_0 : List UInt8 := dkwX6_onSheet_0 ++ dktX6_onSheet_1
theorem dksX6_onSheet_0 : cX6_onSheet.data.toList.drop 0 = dktX6_onSheet_0 := by decide +kernel
theorem dksX6_onSheet_1 : cX6_onSheet.data.toList.drop 23 = dktX6_onSheet_1 := dk_seg dksX6_onSheet_0 23 rfl rfl
theorem dX6_onSheet_0 : decode cX6_onSheet 0 = .ok (.iconst 0, 1) := dk_3 (dk_at dksX6_onSheet_0 0 rfl rfl)
theorem dX6_onSheet_1 : decode cX6_onSheet 1 = .ok (.istore_n 1, 1) := dk_60 (dk_at dksX6_onSheet_0 1 rfl rfl)
theorem dX6_onSheet_2 : decode cX6_onSheet 2 = .ok (.iconst 0, 1) := dk_3 (dk_at dksX6_onSheet_0 2 rfl rfl)
theorem dX6_onSheet_3 : decode cX6_onSheet 3 = .ok (.istore_n 2, 1) := dk_61 (dk_at dksX6_onSheet_0 3 rfl rfl)
theorem dX6_onSheet_4 : decode cX6_onSheet 4 = .ok (.iload_n 2, 1) := dk_28 (dk_at dksX6_onSheet_0 4 rfl rfl)
theorem dX6_onSheet_5 : decode cX6_onSheet 5 = .ok (.bipush 6, 2) := dk_16 6 (dk_at dksX6_onSheet_0 5 rfl rfl)
theorem dX6_onSheet_7 : decode cX6_onSheet 7 = .ok (.if_icmp .ge 28, 3) := dk_162 0 28 (dk_at dksX6_onSheet_0 7 rfl rfl)
theorem dX6_onSheet_10 : decode cX6_onSheet 10 = .ok (.iload_n 1, 1) := dk_27 (dk_at dksX6_onSheet_0 10 rfl rfl)
theorem dX6_onSheet_11 : decode cX6_onSheet 11 = .ok (.aload_n 0, 1) := dk_42 (dk_at dksX6_onSheet_0 11 rfl rfl)
theorem dX6_onSheet_12 : decode cX6_onSheet 12 = .ok (.getfield 42, 3) := dk_180 0 42 (dk_at dksX6_onSheet_0 12 rfl rfl)
theorem dX6_onSheet_15 : decode cX6_onSheet 15 = .ok (.iconst 3, 1) := dk_6 (dk_at dksX6_onSheet_0 15 rfl rfl)
theorem dX6_onSheet_16 : decode cX6_onSheet 16 = .ok (.iload_n 2, 1) := dk_28 (dk_at dksX6_onSheet_0 16 rfl rfl)
theorem dX6_onSheet_17 : decode cX6_onSheet 17 = .ok (.imul, 1) := dk_104 (dk_at dksX6_onSheet_0 17 rfl rfl)
theorem dX6_onSheet_18 : decode cX6_onSheet 18 = .ok (.iaload, 1) := dk_46 (dk_at dksX6_onSheet_0 18 rfl rfl)
theorem dX6_onSheet_19 : decode cX6_onSheet 19 = .ok (.ifCond .lt 7, 3) := dk_155 0 7 (dk_at dksX6_onSheet_0 19 rfl rfl)
theorem dX6_onSheet_22 : decode cX6_onSheet 22 = .ok (.iconst 1, 1) := dk_4 (dk_at dksX6_onSheet_0 22 rfl rfl)
theorem dX6_onSheet_23 : decode cX6_onSheet 23 = .ok (.goto 4, 3) := dk_167 0 4 (dk_at dksX6_onSheet_1 0 rfl rfl)
theorem dX6_onSheet_26 : decode cX6_onSheet 26 = .ok (.iconst 0, 1) := dk_3 (dk_at dksX6_onSheet_1 3 rfl rfl)
theorem dX6_onSheet_27 : decode cX6_onSheet 27 = .ok (.iadd, 1) := dk_96 (dk_at dksX6_onSheet_1 4 rfl rfl)
theorem dX6_onSheet_28 : decode cX6_onSheet 28 = .ok (.istore_n 1, 1) := dk_60 (dk_at dksX6_onSheet_1 5 rfl rfl)
theorem dX6_onSheet_29 : decode cX6_onSheet 29 = .ok (.iinc 2 1, 3) := dk_132 2 1 (dk_at dksX6_onSheet_1 6 rfl rfl)
theorem dX6_onSheet_32 : decode cX6_onSheet 32 = .ok (.goto (-28), 3) := dk_167 255 228 (dk_at dksX6_onSheet_1 9 rfl rfl)
theorem dX6_onSheet_35 : decode cX6_onSheet 35 = .ok (.iload_n 1, 1) := dk_27 (dk_at dksX6_onSheet_1 12 rfl rfl)
theorem dX6_onSheet_36 : decode cX6_onSheet 36 = .ok (.ireturn, 1) := dk_172 (dk_at dksX6_onSheet_1 13 rfl rfl)
abbrev cX6_lay : ByteArray := prog_27_method_74_code
def yX6_lay : MethodName := ⟨RX6, "lay", "(III)I"⟩
def dkwX6_lay_5 : List UInt8 := [180, 0, 42, 6, 27, 104, 6, 184, 0, 65, 42, 182, 0, 234, 172]
abbrev dktX6_lay_5 : List UInt8 := dkwX6_lay_5 ++ []
def dkwX6_lay_4 : List UInt8 := [6, 16, 9, 42, 180, 0, 9, 21, 4, 4, 96, 46, 182, 0, 125, 172, 42, 180, 0, 9, 21, 4, 42]
abbrev dktX6_lay_4 : List UInt8 := dkwX6_lay_4 ++ dktX6_lay_5
def dkwX6_lay_3 : List UInt8 := [180, 0, 39, 7, 159, 0, 36, 42, 180, 0, 9, 21, 4, 4, 96, 46, 42, 180, 0, 39, 159, 0, 20, 42]
abbrev dktX6_lay_3 : List UInt8 := dkwX6_lay_3 ++ dktX6_lay_4
def dkwX6_lay_2 : List UInt8 := [180, 0, 62, 158, 0, 5, 3, 172, 28, 184, 0, 112, 16, 8, 96, 6, 29, 104, 96, 54, 4, 42]
abbrev dktX6_lay_2 : List UInt8 := dkwX6_lay_2 ++ dktX6_lay_3
def dkwX6_lay_1 : List UInt8 := [42, 28, 16, 7, 182, 0, 104, 4, 100, 184, 0, 80, 154, 0, 7, 5, 167, 0, 4, 3, 181, 0, 62, 42]
abbrev dktX6_lay_1 : List UInt8 := dkwX6_lay_1 ++ dktX6_lay_2
def dkwX6_lay_0 : List UInt8 := [42, 27, 3, 8, 184, 0, 80, 153, 0, 11, 42, 28, 182, 0, 142, 154, 0, 7, 4, 167, 0, 25, 29, 3]
abbrev dktX6_lay_0 : List UInt8 := dkwX6_lay_0 ++ dktX6_lay_1
theorem dksX6_lay_0 : cX6_lay.data.toList.drop 0 = dktX6_lay_0 := by decide +kernel
theorem dksX6_lay_1 : cX6_lay.data.toList.drop 24 = dktX6_lay_1 := dk_seg dksX6_lay_0 24 rfl rfl
theorem dksX6_lay_2 : cX6_lay.data.toList.drop 48 = dktX6_lay_2 := dk_seg dksX6_lay_1 24 rfl rfl
theorem dksX6_lay_3 : cX6_lay.data.toList.drop 70 = dktX6_lay_3 := dk_seg dksX6_lay_2 22 rfl rfl
theorem dksX6_lay_4 : cX6_lay.data.toList.drop 94 = dktX6_lay_4 := dk_seg dksX6_lay_3 24 rfl rfl
theorem dksX6_lay_5 : cX6_lay.data.toList.drop 117 = dktX6_lay_5 := dk_seg dksX6_lay_4 23 rfl rfl
theorem dX6_lay_0 : decode cX6_lay 0 = .ok (.aload_n 0, 1) := dk_42 (dk_at dksX6_lay_0 0 rfl rfl)
theorem dX6_lay_1 : decode cX6_lay 1 = .ok (.iload_n 1, 1) := dk_27 (dk_at dksX6_lay_0 1 rfl rfl)
theorem dX6_lay_2 : decode cX6_lay 2 = .ok (.iconst 0, 1) := dk_3 (dk_at dksX6_lay_0 2 rfl rfl)
theorem dX6_lay_3 : decode cX6_lay 3 = .ok (.iconst 5, 1) := dk_8 (dk_at dksX6_lay_0 3 rfl rfl)
theorem dX6_lay_4 : decode cX6_lay 4 = .ok (.invokestatic 80, 3) := dk_184 0 80 (dk_at dksX6_lay_0 4 rfl rfl)
theorem dX6_lay_7 : decode cX6_lay 7 = .ok (.ifCond .eq 11, 3) := dk_153 0 11 (dk_at dksX6_lay_0 7 rfl rfl)
theorem dX6_lay_10 : decode cX6_lay 10 = .ok (.aload_n 0, 1) := dk_42 (dk_at dksX6_lay_0 10 rfl rfl)
theorem dX6_lay_11 : decode cX6_lay 11 = .ok (.iload_n 2, 1) := dk_28 (dk_at dksX6_lay_0 11 rfl rfl)
theorem dX6_lay_12 : decode cX6_lay 12 = .ok (.invokevirtual 142, 3) := dk_182 0 142 (dk_at dksX6_lay_0 12 rfl rfl)
theorem dX6_lay_15 : decode cX6_lay 15 = .ok (.ifCond .ne 7, 3) := dk_154 0 7 (dk_at dksX6_lay_0 15 rfl rfl)
theorem dX6_lay_18 : decode cX6_lay 18 = .ok (.iconst 1, 1) := dk_4 (dk_at dksX6_lay_0 18 rfl rfl)
theorem dX6_lay_19 : decode cX6_lay 19 = .ok (.goto 25, 3) := dk_167 0 25 (dk_at dksX6_lay_0 19 rfl rfl)
theorem dX6_lay_22 : decode cX6_lay 22 = .ok (.iload_n 3, 1) := dk_29 (dk_at dksX6_lay_0 22 rfl rfl)
theorem dX6_lay_23 : decode cX6_lay 23 = .ok (.iconst 0, 1) := dk_3 (dk_at dksX6_lay_0 23 rfl rfl)
theorem dX6_lay_24 : decode cX6_lay 24 = .ok (.aload_n 0, 1) := dk_42 (dk_at dksX6_lay_1 0 rfl rfl)
theorem dX6_lay_25 : decode cX6_lay 25 = .ok (.iload_n 2, 1) := dk_28 (dk_at dksX6_lay_1 1 rfl rfl)
theorem dX6_lay_26 : decode cX6_lay 26 = .ok (.bipush 7, 2) := dk_16 7 (dk_at dksX6_lay_1 2 rfl rfl)
theorem dX6_lay_28 : decode cX6_lay 28 = .ok (.invokevirtual 104, 3) := dk_182 0 104 (dk_at dksX6_lay_1 4 rfl rfl)
theorem dX6_lay_31 : decode cX6_lay 31 = .ok (.iconst 1, 1) := dk_4 (dk_at dksX6_lay_1 7 rfl rfl)
theorem dX6_lay_32 : decode cX6_lay 32 = .ok (.isub, 1) := dk_100 (dk_at dksX6_lay_1 8 rfl rfl)
theorem dX6_lay_33 : decode cX6_lay 33 = .ok (.invokestatic 80, 3) := dk_184 0 80 (dk_at dksX6_lay_1 9 rfl rfl)
theorem dX6_lay_36 : decode cX6_lay 36 = .ok (.ifCond .ne 7, 3) := dk_154 0 7 (dk_at dksX6_lay_1 12 rfl rfl)
theorem dX6_lay_39 : decode cX6_lay 39 = .ok (.iconst 2, 1) := dk_5 (dk_at dksX6_lay_1 15 rfl rfl)
theorem dX6_lay_40 : decode cX6_lay 40 = .ok (.goto 4, 3) := dk_167 0 4 (dk_at dksX6_lay_1 16 rfl rfl)
theorem dX6_lay_43 : decode cX6_lay 43 = .ok (.iconst 0, 1) := dk_3 (dk_at dksX6_lay_1 19 rfl rfl)
theorem dX6_lay_44 : decode cX6_lay 44 = .ok (.putfield 62, 3) := dk_181 0 62 (dk_at dksX6_lay_1 20 rfl rfl)
theorem dX6_lay_47 : decode cX6_lay 47 = .ok (.aload_n 0, 1) := dk_42 (dk_at dksX6_lay_1 23 rfl rfl)
theorem dX6_lay_48 : decode cX6_lay 48 = .ok (.getfield 62, 3) := dk_180 0 62 (dk_at dksX6_lay_2 0 rfl rfl)
theorem dX6_lay_51 : decode cX6_lay 51 = .ok (.ifCond .le 5, 3) := dk_158 0 5 (dk_at dksX6_lay_2 3 rfl rfl)
theorem dX6_lay_54 : decode cX6_lay 54 = .ok (.iconst 0, 1) := dk_3 (dk_at dksX6_lay_2 6 rfl rfl)
theorem dX6_lay_55 : decode cX6_lay 55 = .ok (.ireturn, 1) := dk_172 (dk_at dksX6_lay_2 7 rfl rfl)
theorem dX6_lay_56 : decode cX6_lay 56 = .ok (.iload_n 2, 1) := dk_28 (dk_at dksX6_lay_2 8 rfl rfl)
theorem dX6_lay_57 : decode cX6_lay 57 = .ok (.invokestatic 112, 3) := dk_184 0 112 (dk_at dksX6_lay_2 9 rfl rfl)
theorem dX6_lay_60 : decode cX6_lay 60 = .ok (.bipush 8, 2) := dk_16 8 (dk_at dksX6_lay_2 12 rfl rfl)
theorem dX6_lay_62 : decode cX6_lay 62 = .ok (.iadd, 1) := dk_96 (dk_at dksX6_lay_2 14 rfl rfl)
theorem dX6_lay_63 : decode cX6_lay 63 = .ok (.iconst 3, 1) := dk_6 (dk_at dksX6_lay_2 15 rfl rfl)
theorem dX6_lay_64 : decode cX6_lay 64 = .ok (.iload_n 3, 1) := dk_29 (dk_at dksX6_lay_2 16 rfl rfl)
theorem dX6_lay_65 : decode cX6_lay 65 = .ok (.imul, 1) := dk_104 (dk_at dksX6_lay_2 17 rfl rfl)
theorem dX6_lay_66 : decode cX6_lay 66 = .ok (.iadd, 1) := dk_96 (dk_at dksX6_lay_2 18 rfl rfl)
theorem dX6_lay_67 : decode cX6_lay 67 = .ok (.istore 4, 2) := dk_54 4 (dk_at dksX6_lay_2 19 rfl rfl)
theorem dX6_lay_69 : decode cX6_lay 69 = .ok (.aload_n 0, 1) := dk_42 (dk_at dksX6_lay_2 21 rfl rfl)
theorem dX6_lay_70 : decode cX6_lay 70 = .ok (.getfield 39, 3) := dk_180 0 39 (dk_at dksX6_lay_3 0 rfl rfl)
theorem dX6_lay_73 : decode cX6_lay 73 = .ok (.iconst 4, 1) := dk_7 (dk_at dksX6_lay_3 3 rfl rfl)
theorem dX6_lay_74 : decode cX6_lay 74 = .ok (.if_icmp .eq 36, 3) := dk_159 0 36 (dk_at dksX6_lay_3 4 rfl rfl)
theorem dX6_lay_77 : decode cX6_lay 77 = .ok (.aload_n 0, 1) := dk_42 (dk_at dksX6_lay_3 7 rfl rfl)
theorem dX6_lay_78 : decode cX6_lay 78 = .ok (.getfield 9, 3) := dk_180 0 9 (dk_at dksX6_lay_3 8 rfl rfl)
theorem dX6_lay_81 : decode cX6_lay 81 = .ok (.iload 4, 2) := dk_21 4 (dk_at dksX6_lay_3 11 rfl rfl)
theorem dX6_lay_83 : decode cX6_lay 83 = .ok (.iconst 1, 1) := dk_4 (dk_at dksX6_lay_3 13 rfl rfl)
theorem dX6_lay_84 : decode cX6_lay 84 = .ok (.iadd, 1) := dk_96 (dk_at dksX6_lay_3 14 rfl rfl)
theorem dX6_lay_85 : decode cX6_lay 85 = .ok (.iaload, 1) := dk_46 (dk_at dksX6_lay_3 15 rfl rfl)
theorem dX6_lay_86 : decode cX6_lay 86 = .ok (.aload_n 0, 1) := dk_42 (dk_at dksX6_lay_3 16 rfl rfl)
theorem dX6_lay_87 : decode cX6_lay 87 = .ok (.getfield 39, 3) := dk_180 0 39 (dk_at dksX6_lay_3 17 rfl rfl)
theorem dX6_lay_90 : decode cX6_lay 90 = .ok (.if_icmp .eq 20, 3) := dk_159 0 20 (dk_at dksX6_lay_3 20 rfl rfl)
theorem dX6_lay_93 : decode cX6_lay 93 = .ok (.aload_n 0, 1) := dk_42 (dk_at dksX6_lay_3 23 rfl rfl)
theorem dX6_lay_94 : decode cX6_lay 94 = .ok (.iconst 3, 1) := dk_6 (dk_at dksX6_lay_4 0 rfl rfl)
theorem dX6_lay_95 : decode cX6_lay 95 = .ok (.bipush 9, 2) := dk_16 9 (dk_at dksX6_lay_4 1 rfl rfl)
theorem dX6_lay_97 : decode cX6_lay 97 = .ok (.aload_n 0, 1) := dk_42 (dk_at dksX6_lay_4 3 rfl rfl)
theorem dX6_lay_98 : decode cX6_lay 98 = .ok (.getfield 9, 3) := dk_180 0 9 (dk_at dksX6_lay_4 4 rfl rfl)
theorem dX6_lay_101 : decode cX6_lay 101 = .ok (.iload 4, 2) := dk_21 4 (dk_at dksX6_lay_4 7 rfl rfl)
theorem dX6_lay_103 : decode cX6_lay 103 = .ok (.iconst 1, 1) := dk_4 (dk_at dksX6_lay_4 9 rfl rfl)
theorem dX6_lay_104 : decode cX6_lay 104 = .ok (.iadd, 1) := dk_96 (dk_at dksX6_lay_4 10 rfl rfl)
theorem dX6_lay_105 : decode cX6_lay 105 = .ok (.iaload, 1) := dk_46 (dk_at dksX6_lay_4 11 rfl rfl)
theorem dX6_lay_106 : decode cX6_lay 106 = .ok (.invokevirtual 125, 3) := dk_182 0 125 (dk_at dksX6_lay_4 12 rfl rfl)
theorem dX6_lay_109 : decode cX6_lay 109 = .ok (.ireturn, 1) := dk_172 (dk_at dksX6_lay_4 15 rfl rfl)
theorem dX6_lay_110 : decode cX6_lay 110 = .ok (.aload_n 0, 1) := dk_42 (dk_at dksX6_lay_4 16 rfl rfl)
theorem dX6_lay_111 : decode cX6_lay 111 = .ok (.getfield 9, 3) := dk_180 0 9 (dk_at dksX6_lay_4 17 rfl rfl)
theorem dX6_lay_114 : decode cX6_lay 114 = .ok (.iload 4, 2) := dk_21 4 (dk_at dksX6_lay_4 20 rfl rfl)
theorem dX6_lay_116 : decode cX6_lay 116 = .ok (.aload_n 0, 1) := dk_42 (dk_at dksX6_lay_4 22 rfl rfl)
theorem dX6_lay_117 : decode cX6_lay 117 = .ok (.getfield 42, 3) := dk_180 0 42 (dk_at dksX6_lay_5 0 rfl rfl)
theorem dX6_lay_120 : decode cX6_lay 120 = .ok (.iconst 3, 1) := dk_6 (dk_at dksX6_lay_5 3 rfl rfl)
theorem dX6_lay_121 : decode cX6_lay 121 = .ok (.iload_n 1, 1) := dk_27 (dk_at dksX6_lay_5 4 rfl rfl)
theorem dX6_lay_122 : decode cX6_lay 122 = .ok (.imul, 1) := dk_104 (dk_at dksX6_lay_5 5 rfl rfl)
theorem dX6_lay_123 : decode cX6_lay 123 = .ok (.iconst 3, 1) := dk_6 (dk_at dksX6_lay_5 6 rfl rfl)
theorem dX6_lay_124 : decode cX6_lay 124 = .ok (.invokestatic 65, 3) := dk_184 0 65 (dk_at dksX6_lay_5 7 rfl rfl)
theorem dX6_lay_127 : decode cX6_lay 127 = .ok (.aload_n 0, 1) := dk_42 (dk_at dksX6_lay_5 10 rfl rfl)
theorem dX6_lay_128 : decode cX6_lay 128 = .ok (.invokevirtual 234, 3) := dk_182 0 234 (dk_at dksX6_lay_5 11 rfl rfl)
theorem dX6_lay_131 : decode cX6_lay 131 = .ok (.ireturn, 1) := dk_172 (dk_at dksX6_lay_5 14 rfl rfl)
abbrev cX6_takeSheet : ByteArray := prog_27_method_75_code
def yX6_takeSheet : MethodName := ⟨RX6, "takeSheet", "(I)I"⟩
def dkwX6_takeSheet_4 : List UInt8 := [172]
abbrev dktX6_takeSheet_4 : List UInt8 := dkwX6_takeSheet_4 ++ []
def dkwX6_takeSheet_3 : List UInt8 := [180, 0, 42, 6, 28, 104, 5, 96, 46, 182, 0, 164, 132, 2, 1, 167, 255, 204, 42, 27, 5, 182, 0, 168]
abbrev dktX6_takeSheet_3 : List UInt8 := dkwX6_takeSheet_3 ++ dktX6_takeSheet_4
def dkwX6_takeSheet_2 : List UInt8 := [155, 0, 35, 42, 42, 180, 0, 42, 6, 28, 104, 46, 42, 180, 0, 42, 6, 28, 104, 4, 96, 46, 42]
abbrev dktX6_takeSheet_2 : List UInt8 := dkwX6_takeSheet_2 ++ dktX6_takeSheet_3
def dkwX6_takeSheet_1 : List UInt8 := [3, 172, 42, 3, 181, 0, 145, 3, 61, 28, 16, 6, 162, 0, 52, 42, 180, 0, 42, 6, 28, 104, 46]
abbrev dktX6_takeSheet_1 : List UInt8 := dkwX6_takeSheet_1 ++ dktX6_takeSheet_2
def dkwX6_takeSheet_0 : List UInt8 := [42, 42, 27, 182, 0, 142, 153, 0, 7, 3, 167, 0, 4, 4, 181, 0, 62, 42, 180, 0, 62, 158, 0, 5]
abbrev dktX6_takeSheet_0 : List UInt8 := dkwX6_takeSheet_0 ++ dktX6_takeSheet_1
theorem dksX6_takeSheet_0 : cX6_takeSheet.data.toList.drop 0 = dktX6_takeSheet_0 := by decide +kernel
theorem dksX6_takeSheet_1 : cX6_takeSheet.data.toList.drop 24 = dktX6_takeSheet_1 := dk_seg dksX6_takeSheet_0 24 rfl rfl
theorem dksX6_takeSheet_2 : cX6_takeSheet.data.toList.drop 47 = dktX6_takeSheet_2 := dk_seg dksX6_takeSheet_1 23 rfl rfl
theorem dksX6_takeSheet_3 : cX6_takeSheet.data.toList.drop 70 = dktX6_takeSheet_3 := dk_seg dksX6_takeSheet_2 23 rfl rfl
theorem dksX6_takeSheet_4 : cX6_takeSheet.data.toList.drop 94 = dktX6_takeSheet_4 := dk_seg dksX6_takeSheet_3 24 rfl rfl
theorem dX6_takeSheet_0 : decode cX6_takeSheet 0 = .ok (.aload_n 0, 1) := dk_42 (dk_at dksX6_takeSheet_0 0 rfl rfl)
theorem dX6_takeSheet_1 : decode cX6_takeSheet 1 = .ok (.aload_n 0, 1) := dk_42 (dk_at dksX6_takeSheet_0 1 rfl rfl)
theorem dX6_takeSheet_2 : decode cX6_takeSheet 2 = .ok (.iload_n 1, 1) := dk_27 (dk_at dksX6_takeSheet_0 2 rfl rfl)
theorem dX6_takeSheet_3 : decode cX6_takeSheet 3 = .ok (.invokevirtual 142, 3) := dk_182 0 142 (dk_at dksX6_takeSheet_0 3 rfl rfl)
theorem dX6_takeSheet_6 : decode cX6_takeSheet 6 = .ok (.ifCond .eq 7, 3) := dk_153 0 7 (dk_at dksX6_takeSheet_0 6 rfl rfl)
theorem dX6_takeSheet_9 : decode cX6_takeSheet 9 = .ok (.iconst 0, 1) := dk_3 (dk_at dksX6_takeSheet_0 9 rfl rfl)
theorem dX6_takeSheet_10 : decode cX6_takeSheet 10 = .ok (.goto 4, 3) := dk_167 0 4 (dk_at dksX6_takeSheet_0 10 rfl rfl)
theorem dX6_takeSheet_13 : decode cX6_takeSheet 13 = .ok (.iconst 1, 1) := dk_4 (dk_at dksX6_takeSheet_0 13 rfl rfl)
theorem dX6_takeSheet_14 : decode cX6_takeSheet 14 = .ok (.putfield 62, 3) := dk_181 0 62 (dk_at dksX6_takeSheet_0 14 rfl rfl)
theorem dX6_takeSheet_17 : decode cX6_takeSheet 17 = .ok (.aload_n 0, 1) := dk_42 (dk_at dksX6_takeSheet_0 17 rfl rfl)
theorem dX6_takeSheet_18 : decode cX6_takeSheet 18 = .ok (.getfield 62, 3) := dk_180 0 62 (dk_at dksX6_takeSheet_0 18 rfl rfl)
theorem dX6_takeSheet_21 : decode cX6_takeSheet 21 = .ok (.ifCond .le 5, 3) := dk_158 0 5 (dk_at dksX6_takeSheet_0 21 rfl rfl)
theorem dX6_takeSheet_24 : decode cX6_takeSheet 24 = .ok (.iconst 0, 1) := dk_3 (dk_at dksX6_takeSheet_1 0 rfl rfl)
theorem dX6_takeSheet_25 : decode cX6_takeSheet 25 = .ok (.ireturn, 1) := dk_172 (dk_at dksX6_takeSheet_1 1 rfl rfl)
theorem dX6_takeSheet_26 : decode cX6_takeSheet 26 = .ok (.aload_n 0, 1) := dk_42 (dk_at dksX6_takeSheet_1 2 rfl rfl)
theorem dX6_takeSheet_27 : decode cX6_takeSheet 27 = .ok (.iconst 0, 1) := dk_3 (dk_at dksX6_takeSheet_1 3 rfl rfl)
theorem dX6_takeSheet_28 : decode cX6_takeSheet 28 = .ok (.putfield 145, 3) := dk_181 0 145 (dk_at dksX6_takeSheet_1 4 rfl rfl)
theorem dX6_takeSheet_31 : decode cX6_takeSheet 31 = .ok (.iconst 0, 1) := dk_3 (dk_at dksX6_takeSheet_1 7 rfl rfl)
theorem dX6_takeSheet_32 : decode cX6_takeSheet 32 = .ok (.istore_n 2, 1) := dk_61 (dk_at dksX6_takeSheet_1 8 rfl rfl)
theorem dX6_takeSheet_33 : decode cX6_takeSheet 33 = .ok (.iload_n 2, 1) := dk_28 (dk_at dksX6_takeSheet_1 9 rfl rfl)
theorem dX6_takeSheet_34 : decode cX6_takeSheet 34 = .ok (.bipush 6, 2) := dk_16 6 (dk_at dksX6_takeSheet_1 10 rfl rfl)
theorem dX6_takeSheet_36 : decode cX6_takeSheet 36 = .ok (.if_icmp .ge 52, 3) := dk_162 0 52 (dk_at dksX6_takeSheet_1 12 rfl rfl)
theorem dX6_takeSheet_39 : decode cX6_takeSheet 39 = .ok (.aload_n 0, 1) := dk_42 (dk_at dksX6_takeSheet_1 15 rfl rfl)
theorem dX6_takeSheet_40 : decode cX6_takeSheet 40 = .ok (.getfield 42, 3) := dk_180 0 42 (dk_at dksX6_takeSheet_1 16 rfl rfl)
theorem dX6_takeSheet_43 : decode cX6_takeSheet 43 = .ok (.iconst 3, 1) := dk_6 (dk_at dksX6_takeSheet_1 19 rfl rfl)
theorem dX6_takeSheet_44 : decode cX6_takeSheet 44 = .ok (.iload_n 2, 1) := dk_28 (dk_at dksX6_takeSheet_1 20 rfl rfl)
theorem dX6_takeSheet_45 : decode cX6_takeSheet 45 = .ok (.imul, 1) := dk_104 (dk_at dksX6_takeSheet_1 21 rfl rfl)
theorem dX6_takeSheet_46 : decode cX6_takeSheet 46 = .ok (.iaload, 1) := dk_46 (dk_at dksX6_takeSheet_1 22 rfl rfl)
theorem dX6_takeSheet_47 : decode cX6_takeSheet 47 = .ok (.ifCond .lt 35, 3) := dk_155 0 35 (dk_at dksX6_takeSheet_2 0 rfl rfl)
theorem dX6_takeSheet_50 : decode cX6_takeSheet 50 = .ok (.aload_n 0, 1) := dk_42 (dk_at dksX6_takeSheet_2 3 rfl rfl)
theorem dX6_takeSheet_51 : decode cX6_takeSheet 51 = .ok (.aload_n 0, 1) := dk_42 (dk_at dksX6_takeSheet_2 4 rfl rfl)
theorem dX6_takeSheet_52 : decode cX6_takeSheet 52 = .ok (.getfield 42, 3) := dk_180 0 42 (dk_at dksX6_takeSheet_2 5 rfl rfl)
theorem dX6_takeSheet_55 : decode cX6_takeSheet 55 = .ok (.iconst 3, 1) := dk_6 (dk_at dksX6_takeSheet_2 8 rfl rfl)
theorem dX6_takeSheet_56 : decode cX6_takeSheet 56 = .ok (.iload_n 2, 1) := dk_28 (dk_at dksX6_takeSheet_2 9 rfl rfl)
theorem dX6_takeSheet_57 : decode cX6_takeSheet 57 = .ok (.imul, 1) := dk_104 (dk_at dksX6_takeSheet_2 10 rfl rfl)
theorem dX6_takeSheet_58 : decode cX6_takeSheet 58 = .ok (.iaload, 1) := dk_46 (dk_at dksX6_takeSheet_2 11 rfl rfl)
theorem dX6_takeSheet_59 : decode cX6_takeSheet 59 = .ok (.aload_n 0, 1) := dk_42 (dk_at dksX6_takeSheet_2 12 rfl rfl)
theorem dX6_takeSheet_60 : decode cX6_takeSheet 60 = .ok (.getfield 42, 3) := dk_180 0 42 (dk_at dksX6_takeSheet_2 13 rfl rfl)
theorem dX6_takeSheet_63 : decode cX6_takeSheet 63 = .ok (.iconst 3, 1) := dk_6 (dk_at dksX6_takeSheet_2 16 rfl rfl)
theorem dX6_takeSheet_64 : decode cX6_takeSheet 64 = .ok (.iload_n 2, 1) := dk_28 (dk_at dksX6_takeSheet_2 17 rfl rfl)
theorem dX6_takeSheet_65 : decode cX6_takeSheet 65 = .ok (.imul, 1) := dk_104 (dk_at dksX6_takeSheet_2 18 rfl rfl)
theorem dX6_takeSheet_66 : decode cX6_takeSheet 66 = .ok (.iconst 1, 1) := dk_4 (dk_at dksX6_takeSheet_2 19 rfl rfl)
theorem dX6_takeSheet_67 : decode cX6_takeSheet 67 = .ok (.iadd, 1) := dk_96 (dk_at dksX6_takeSheet_2 20 rfl rfl)
theorem dX6_takeSheet_68 : decode cX6_takeSheet 68 = .ok (.iaload, 1) := dk_46 (dk_at dksX6_takeSheet_2 21 rfl rfl)
theorem dX6_takeSheet_69 : decode cX6_takeSheet 69 = .ok (.aload_n 0, 1) := dk_42 (dk_at dksX6_takeSheet_2 22 rfl rfl)
theorem dX6_takeSheet_70 : decode cX6_takeSheet 70 = .ok (.getfield 42, 3) := dk_180 0 42 (dk_at dksX6_takeSheet_3 0 rfl rfl)
theorem dX6_takeSheet_73 : decode cX6_takeSheet 73 = .ok (.iconst 3, 1) := dk_6 (dk_at dksX6_takeSheet_3 3 rfl rfl)
theorem dX6_takeSheet_74 : decode cX6_takeSheet 74 = .ok (.iload_n 2, 1) := dk_28 (dk_at dksX6_takeSheet_3 4 rfl rfl)
theorem dX6_takeSheet_75 : decode cX6_takeSheet 75 = .ok (.imul, 1) := dk_104 (dk_at dksX6_takeSheet_3 5 rfl rfl)
theorem dX6_takeSheet_76 : decode cX6_takeSheet 76 = .ok (.iconst 2, 1) := dk_5 (dk_at dksX6_takeSheet_3 6 rfl rfl)
theorem dX6_takeSheet_77 : decode cX6_takeSheet 77 = .ok (.iadd, 1) := dk_96 (dk_at dksX6_takeSheet_3 7 rfl rfl)
theorem dX6_takeSheet_78 : decode cX6_takeSheet 78 = .ok (.iaload, 1) := dk_46 (dk_at dksX6_takeSheet_3 8 rfl rfl)
theorem dX6_takeSheet_79 : decode cX6_takeSheet 79 = .ok (.invokevirtual 164, 3) := dk_182 0 164 (dk_at dksX6_takeSheet_3 9 rfl rfl)
theorem dX6_takeSheet_82 : decode cX6_takeSheet 82 = .ok (.iinc 2 1, 3) := dk_132 2 1 (dk_at dksX6_takeSheet_3 12 rfl rfl)
theorem dX6_takeSheet_85 : decode cX6_takeSheet 85 = .ok (.goto (-52), 3) := dk_167 255 204 (dk_at dksX6_takeSheet_3 15 rfl rfl)
theorem dX6_takeSheet_88 : decode cX6_takeSheet 88 = .ok (.aload_n 0, 1) := dk_42 (dk_at dksX6_takeSheet_3 18 rfl rfl)
theorem dX6_takeSheet_89 : decode cX6_takeSheet 89 = .ok (.iload_n 1, 1) := dk_27 (dk_at dksX6_takeSheet_3 19 rfl rfl)
theorem dX6_takeSheet_90 : decode cX6_takeSheet 90 = .ok (.iconst 2, 1) := dk_5 (dk_at dksX6_takeSheet_3 20 rfl rfl)
theorem dX6_takeSheet_91 : decode cX6_takeSheet 91 = .ok (.invokevirtual 168, 3) := dk_182 0 168 (dk_at dksX6_takeSheet_3 21 rfl rfl)
theorem dX6_takeSheet_94 : decode cX6_takeSheet 94 = .ok (.ireturn, 1) := dk_172 (dk_at dksX6_takeSheet_4 0 rfl rfl)
abbrev cX6_keepRow : ByteArray := prog_27_method_77_code
def yX6_keepRow : MethodName := ⟨RX6, "keepRow", "(I)I"⟩
def dkwX6_keepRow_4 : List UInt8 := [81, 132, 2, 1, 167, 255, 198, 42, 180, 0, 49, 27, 46, 172]
abbrev dktX6_keepRow_4 : List UInt8 := dkwX6_keepRow_4 ++ []
def dkwX6_keepRow_3 : List UInt8 := [180, 0, 9, 29, 46, 42, 180, 0, 9, 29, 4, 96, 46, 42, 180, 0, 9, 29, 5, 96, 46, 182, 0, 212]
abbrev dktX6_keepRow_3 : List UInt8 := dkwX6_keepRow_3 ++ dktX6_keepRow_4
def dkwX6_keepRow_2 : List UInt8 := [162, 0, 54, 17, 1, 87, 7, 28, 104, 96, 62, 42, 180, 0, 45, 16, 12, 27, 104, 28, 96, 42, 42]
abbrev dktX6_keepRow_2 : List UInt8 := dkwX6_keepRow_2 ++ dktX6_keepRow_3
def dkwX6_keepRow_1 : List UInt8 := [172, 42, 180, 0, 49, 27, 42, 180, 0, 9, 5, 46, 79, 3, 61, 28, 42, 180, 0, 9, 5, 46]
abbrev dktX6_keepRow_1 : List UInt8 := dkwX6_keepRow_1 ++ dktX6_keepRow_2
def dkwX6_keepRow_0 : List UInt8 := [42, 27, 184, 0, 237, 153, 0, 7, 3, 167, 0, 4, 4, 181, 0, 62, 42, 180, 0, 62, 158, 0, 5, 3]
abbrev dktX6_keepRow_0 : List UInt8 := dkwX6_keepRow_0 ++ dktX6_keepRow_1
theorem dksX6_keepRow_0 : cX6_keepRow.data.toList.drop 0 = dktX6_keepRow_0 := by decide +kernel
theorem dksX6_keepRow_1 : cX6_keepRow.data.toList.drop 24 = dktX6_keepRow_1 := dk_seg dksX6_keepRow_0 24 rfl rfl
theorem dksX6_keepRow_2 : cX6_keepRow.data.toList.drop 46 = dktX6_keepRow_2 := dk_seg dksX6_keepRow_1 22 rfl rfl
theorem dksX6_keepRow_3 : cX6_keepRow.data.toList.drop 69 = dktX6_keepRow_3 := dk_seg dksX6_keepRow_2 23 rfl rfl
theorem dksX6_keepRow_4 : cX6_keepRow.data.toList.drop 93 = dktX6_keepRow_4 := dk_seg dksX6_keepRow_3 24 rfl rfl
theorem dX6_keepRow_0 : decode cX6_keepRow 0 = .ok (.aload_n 0, 1) := dk_42 (dk_at dksX6_keepRow_0 0 rfl rfl)
theorem dX6_keepRow_1 : decode cX6_keepRow 1 = .ok (.iload_n 1, 1) := dk_27 (dk_at dksX6_keepRow_0 1 rfl rfl)
theorem dX6_keepRow_2 : decode cX6_keepRow 2 = .ok (.invokestatic 237, 3) := dk_184 0 237 (dk_at dksX6_keepRow_0 2 rfl rfl)
theorem dX6_keepRow_5 : decode cX6_keepRow 5 = .ok (.ifCond .eq 7, 3) := dk_153 0 7 (dk_at dksX6_keepRow_0 5 rfl rfl)
theorem dX6_keepRow_8 : decode cX6_keepRow 8 = .ok (.iconst 0, 1) := dk_3 (dk_at dksX6_keepRow_0 8 rfl rfl)
theorem dX6_keepRow_9 : decode cX6_keepRow 9 = .ok (.goto 4, 3) := dk_167 0 4 (dk_at dksX6_keepRow_0 9 rfl rfl)
theorem dX6_keepRow_12 : decode cX6_keepRow 12 = .ok (.iconst 1, 1) := dk_4 (dk_at dksX6_keepRow_0 12 rfl rfl)
theorem dX6_keepRow_13 : decode cX6_keepRow 13 = .ok (.putfield 62, 3) := dk_181 0 62 (dk_at dksX6_keepRow_0 13 rfl rfl)
theorem dX6_keepRow_16 : decode cX6_keepRow 16 = .ok (.aload_n 0, 1) := dk_42 (dk_at dksX6_keepRow_0 16 rfl rfl)
theorem dX6_keepRow_17 : decode cX6_keepRow 17 = .ok (.getfield 62, 3) := dk_180 0 62 (dk_at dksX6_keepRow_0 17 rfl rfl)
theorem dX6_keepRow_20 : decode cX6_keepRow 20 = .ok (.ifCond .le 5, 3) := dk_158 0 5 (dk_at dksX6_keepRow_0 20 rfl rfl)
theorem dX6_keepRow_23 : decode cX6_keepRow 23 = .ok (.iconst 0, 1) := dk_3 (dk_at dksX6_keepRow_0 23 rfl rfl)
theorem dX6_keepRow_24 : decode cX6_keepRow 24 = .ok (.ireturn, 1) := dk_172 (dk_at dksX6_keepRow_1 0 rfl rfl)
theorem dX6_keepRow_25 : decode cX6_keepRow 25 = .ok (.aload_n 0, 1) := dk_42 (dk_at dksX6_keepRow_1 1 rfl rfl)
theorem dX6_keepRow_26 : decode cX6_keepRow 26 = .ok (.getfield 49, 3) := dk_180 0 49 (dk_at dksX6_keepRow_1 2 rfl rfl)
theorem dX6_keepRow_29 : decode cX6_keepRow 29 = .ok (.iload_n 1, 1) := dk_27 (dk_at dksX6_keepRow_1 5 rfl rfl)
theorem dX6_keepRow_30 : decode cX6_keepRow 30 = .ok (.aload_n 0, 1) := dk_42 (dk_at dksX6_keepRow_1 6 rfl rfl)
theorem dX6_keepRow_31 : decode cX6_keepRow 31 = .ok (.getfield 9, 3) := dk_180 0 9 (dk_at dksX6_keepRow_1 7 rfl rfl)
theorem dX6_keepRow_34 : decode cX6_keepRow 34 = .ok (.iconst 2, 1) := dk_5 (dk_at dksX6_keepRow_1 10 rfl rfl)
theorem dX6_keepRow_35 : decode cX6_keepRow 35 = .ok (.iaload, 1) := dk_46 (dk_at dksX6_keepRow_1 11 rfl rfl)
theorem dX6_keepRow_36 : decode cX6_keepRow 36 = .ok (.iastore, 1) := dk_79 (dk_at dksX6_keepRow_1 12 rfl rfl)
theorem dX6_keepRow_37 : decode cX6_keepRow 37 = .ok (.iconst 0, 1) := dk_3 (dk_at dksX6_keepRow_1 13 rfl rfl)
theorem dX6_keepRow_38 : decode cX6_keepRow 38 = .ok (.istore_n 2, 1) := dk_61 (dk_at dksX6_keepRow_1 14 rfl rfl)
theorem dX6_keepRow_39 : decode cX6_keepRow 39 = .ok (.iload_n 2, 1) := dk_28 (dk_at dksX6_keepRow_1 15 rfl rfl)
theorem dX6_keepRow_40 : decode cX6_keepRow 40 = .ok (.aload_n 0, 1) := dk_42 (dk_at dksX6_keepRow_1 16 rfl rfl)
theorem dX6_keepRow_41 : decode cX6_keepRow 41 = .ok (.getfield 9, 3) := dk_180 0 9 (dk_at dksX6_keepRow_1 17 rfl rfl)
theorem dX6_keepRow_44 : decode cX6_keepRow 44 = .ok (.iconst 2, 1) := dk_5 (dk_at dksX6_keepRow_1 20 rfl rfl)
theorem dX6_keepRow_45 : decode cX6_keepRow 45 = .ok (.iaload, 1) := dk_46 (dk_at dksX6_keepRow_1 21 rfl rfl)
theorem dX6_keepRow_46 : decode cX6_keepRow 46 = .ok (.if_icmp .ge 54, 3) := dk_162 0 54 (dk_at dksX6_keepRow_2 0 rfl rfl)
theorem dX6_keepRow_49 : decode cX6_keepRow 49 = .ok (.sipush 343, 3) := dk_17 1 87 (dk_at dksX6_keepRow_2 3 rfl rfl)
theorem dX6_keepRow_52 : decode cX6_keepRow 52 = .ok (.iconst 4, 1) := dk_7 (dk_at dksX6_keepRow_2 6 rfl rfl)
theorem dX6_keepRow_53 : decode cX6_keepRow 53 = .ok (.iload_n 2, 1) := dk_28 (dk_at dksX6_keepRow_2 7 rfl rfl)
theorem dX6_keepRow_54 : decode cX6_keepRow 54 = .ok (.imul, 1) := dk_104 (dk_at dksX6_keepRow_2 8 rfl rfl)
theorem dX6_keepRow_55 : decode cX6_keepRow 55 = .ok (.iadd, 1) := dk_96 (dk_at dksX6_keepRow_2 9 rfl rfl)
theorem dX6_keepRow_56 : decode cX6_keepRow 56 = .ok (.istore_n 3, 1) := dk_62 (dk_at dksX6_keepRow_2 10 rfl rfl)
theorem dX6_keepRow_57 : decode cX6_keepRow 57 = .ok (.aload_n 0, 1) := dk_42 (dk_at dksX6_keepRow_2 11 rfl rfl)
theorem dX6_keepRow_58 : decode cX6_keepRow 58 = .ok (.getfield 45, 3) := dk_180 0 45 (dk_at dksX6_keepRow_2 12 rfl rfl)
theorem dX6_keepRow_61 : decode cX6_keepRow 61 = .ok (.bipush 12, 2) := dk_16 12 (dk_at dksX6_keepRow_2 15 rfl rfl)
theorem dX6_keepRow_63 : decode cX6_keepRow 63 = .ok (.iload_n 1, 1) := dk_27 (dk_at dksX6_keepRow_2 17 rfl rfl)
theorem dX6_keepRow_64 : decode cX6_keepRow 64 = .ok (.imul, 1) := dk_104 (dk_at dksX6_keepRow_2 18 rfl rfl)
theorem dX6_keepRow_65 : decode cX6_keepRow 65 = .ok (.iload_n 2, 1) := dk_28 (dk_at dksX6_keepRow_2 19 rfl rfl)
theorem dX6_keepRow_66 : decode cX6_keepRow 66 = .ok (.iadd, 1) := dk_96 (dk_at dksX6_keepRow_2 20 rfl rfl)
theorem dX6_keepRow_67 : decode cX6_keepRow 67 = .ok (.aload_n 0, 1) := dk_42 (dk_at dksX6_keepRow_2 21 rfl rfl)
theorem dX6_keepRow_68 : decode cX6_keepRow 68 = .ok (.aload_n 0, 1) := dk_42 (dk_at dksX6_keepRow_2 22 rfl rfl)
theorem dX6_keepRow_69 : decode cX6_keepRow 69 = .ok (.getfield 9, 3) := dk_180 0 9 (dk_at dksX6_keepRow_3 0 rfl rfl)
theorem dX6_keepRow_72 : decode cX6_keepRow 72 = .ok (.iload_n 3, 1) := dk_29 (dk_at dksX6_keepRow_3 3 rfl rfl)
theorem dX6_keepRow_73 : decode cX6_keepRow 73 = .ok (.iaload, 1) := dk_46 (dk_at dksX6_keepRow_3 4 rfl rfl)
theorem dX6_keepRow_74 : decode cX6_keepRow 74 = .ok (.aload_n 0, 1) := dk_42 (dk_at dksX6_keepRow_3 5 rfl rfl)
theorem dX6_keepRow_75 : decode cX6_keepRow 75 = .ok (.getfield 9, 3) := dk_180 0 9 (dk_at dksX6_keepRow_3 6 rfl rfl)
theorem dX6_keepRow_78 : decode cX6_keepRow 78 = .ok (.iload_n 3, 1) := dk_29 (dk_at dksX6_keepRow_3 9 rfl rfl)
theorem dX6_keepRow_79 : decode cX6_keepRow 79 = .ok (.iconst 1, 1) := dk_4 (dk_at dksX6_keepRow_3 10 rfl rfl)
theorem dX6_keepRow_80 : decode cX6_keepRow 80 = .ok (.iadd, 1) := dk_96 (dk_at dksX6_keepRow_3 11 rfl rfl)
theorem dX6_keepRow_81 : decode cX6_keepRow 81 = .ok (.iaload, 1) := dk_46 (dk_at dksX6_keepRow_3 12 rfl rfl)
theorem dX6_keepRow_82 : decode cX6_keepRow 82 = .ok (.aload_n 0, 1) := dk_42 (dk_at dksX6_keepRow_3 13 rfl rfl)
theorem dX6_keepRow_83 : decode cX6_keepRow 83 = .ok (.getfield 9, 3) := dk_180 0 9 (dk_at dksX6_keepRow_3 14 rfl rfl)
theorem dX6_keepRow_86 : decode cX6_keepRow 86 = .ok (.iload_n 3, 1) := dk_29 (dk_at dksX6_keepRow_3 17 rfl rfl)
theorem dX6_keepRow_87 : decode cX6_keepRow 87 = .ok (.iconst 2, 1) := dk_5 (dk_at dksX6_keepRow_3 18 rfl rfl)
theorem dX6_keepRow_88 : decode cX6_keepRow 88 = .ok (.iadd, 1) := dk_96 (dk_at dksX6_keepRow_3 19 rfl rfl)
theorem dX6_keepRow_89 : decode cX6_keepRow 89 = .ok (.iaload, 1) := dk_46 (dk_at dksX6_keepRow_3 20 rfl rfl)
theorem dX6_keepRow_90 : decode cX6_keepRow 90 = .ok (.invokevirtual 212, 3) := dk_182 0 212 (dk_at dksX6_keepRow_3 21 rfl rfl)
theorem dX6_keepRow_93 : decode cX6_keepRow 93 = .ok (.fastore, 1) := dk_81 (dk_at dksX6_keepRow_4 0 rfl rfl)
theorem dX6_keepRow_94 : decode cX6_keepRow 94 = .ok (.iinc 2 1, 3) := dk_132 2 1 (dk_at dksX6_keepRow_4 1 rfl rfl)
theorem dX6_keepRow_97 : decode cX6_keepRow 97 = .ok (.goto (-58), 3) := dk_167 255 198 (dk_at dksX6_keepRow_4 4 rfl rfl)
theorem dX6_keepRow_100 : decode cX6_keepRow 100 = .ok (.aload_n 0, 1) := dk_42 (dk_at dksX6_keepRow_4 7 rfl rfl)
theorem dX6_keepRow_101 : decode cX6_keepRow 101 = .ok (.getfield 49, 3) := dk_180 0 49 (dk_at dksX6_keepRow_4 8 rfl rfl)
theorem dX6_keepRow_104 : decode cX6_keepRow 104 = .ok (.iload_n 1, 1) := dk_27 (dk_at dksX6_keepRow_4 11 rfl rfl)
theorem dX6_keepRow_105 : decode cX6_keepRow 105 = .ok (.iaload, 1) := dk_46 (dk_at dksX6_keepRow_4 12 rfl rfl)
theorem dX6_keepRow_106 : decode cX6_keepRow 106 = .ok (.ireturn, 1) := dk_172 (dk_at dksX6_keepRow_4 13 rfl rfl)
abbrev cX6_isRow : ByteArray := prog_27_method_76_code
def yX6_isRow : MethodName := ⟨RX6, "isRow", "(I)Z"⟩
def dkwX6_isRow_0 : List UInt8 := [26, 3, 5, 184, 0, 80, 172]
abbrev dktX6_isRow_0 : List UInt8 := dkwX6_isRow_0 ++ []
theorem dksX6_isRow_0 : cX6_isRow.data.toList.drop 0 = dktX6_isRow_0 := by decide +kernel
theorem dX6_isRow_0 : decode cX6_isRow 0 = .ok (.iload_n 0, 1) := dk_26 (dk_at dksX6_isRow_0 0 rfl rfl)
theorem dX6_isRow_1 : decode cX6_isRow 1 = .ok (.iconst 0, 1) := dk_3 (dk_at dksX6_isRow_0 1 rfl rfl)
theorem dX6_isRow_2 : decode cX6_isRow 2 = .ok (.iconst 2, 1) := dk_5 (dk_at dksX6_isRow_0 2 rfl rfl)
theorem dX6_isRow_3 : decode cX6_isRow 3 = .ok (.invokestatic 80, 3) := dk_184 0 80 (dk_at dksX6_isRow_0 3 rfl rfl)
theorem dX6_isRow_6 : decode cX6_isRow 6 = .ok (.ireturn, 1) := dk_172 (dk_at dksX6_isRow_0 6 rfl rfl)
abbrev cX6_copyRow : ByteArray := prog_27_method_78_code
def yX6_copyRow : MethodName := ⟨RX6, "copyRow", "(III)I"⟩
def dkwX6_copyRow_7 : List UInt8 := [12, 149, 158, 0, 7, 4, 167, 0, 4, 3, 96, 54, 4, 132, 5, 1, 167, 255, 150, 21, 4, 172]
abbrev dktX6_copyRow_7 : List UInt8 := dkwX6_copyRow_7 ++ []
def dkwX6_copyRow_6 : List UInt8 := [106, 18, 210, 110, 56, 8, 42, 180, 0, 45, 16, 12, 28, 104, 21, 5, 96, 23, 8, 81, 21, 4, 23, 8]
abbrev dktX6_copyRow_6 : List UInt8 := dkwX6_copyRow_6 ++ dktX6_copyRow_7
def dkwX6_copyRow_5 : List UInt8 := [154, 0, 7, 4, 167, 0, 4, 3, 54, 7, 21, 7, 153, 0, 8, 18, 243, 167, 0, 11, 23, 6, 29, 134]
abbrev dktX6_copyRow_5 : List UInt8 := dkwX6_copyRow_5 ++ dktX6_copyRow_6
def dkwX6_copyRow_4 : List UInt8 := [104, 21, 5, 96, 48, 56, 6, 23, 6, 23, 6, 149, 154, 0, 15, 23, 6, 18, 242, 149, 154, 0, 11, 29]
abbrev dktX6_copyRow_4 : List UInt8 := dkwX6_copyRow_4 ++ dktX6_copyRow_5
def dkwX6_copyRow_3 : List UInt8 := [3, 54, 4, 3, 54, 5, 21, 5, 42, 180, 0, 49, 27, 46, 162, 0, 101, 42, 180, 0, 45, 16, 12, 27]
abbrev dktX6_copyRow_3 : List UInt8 := dkwX6_copyRow_3 ++ dktX6_copyRow_4
def dkwX6_copyRow_2 : List UInt8 := [181, 0, 62, 42, 180, 0, 62, 158, 0, 5, 3, 172, 42, 180, 0, 49, 28, 42, 180, 0, 49, 27, 46, 79]
abbrev dktX6_copyRow_2 : List UInt8 := dkwX6_copyRow_2 ++ dktX6_copyRow_3
def dkwX6_copyRow_1 : List UInt8 := [184, 0, 80, 154, 0, 7, 5, 167, 0, 17, 42, 180, 0, 49, 27, 46, 156, 0, 7, 6, 167, 0, 4, 3]
abbrev dktX6_copyRow_1 : List UInt8 := dkwX6_copyRow_1 ++ dktX6_copyRow_2
def dkwX6_copyRow_0 : List UInt8 := [42, 27, 184, 0, 237, 153, 0, 10, 28, 184, 0, 237, 154, 0, 7, 4, 167, 0, 32, 29, 3, 17, 3, 232]
abbrev dktX6_copyRow_0 : List UInt8 := dkwX6_copyRow_0 ++ dktX6_copyRow_1
theorem dksX6_copyRow_0 : cX6_copyRow.data.toList.drop 0 = dktX6_copyRow_0 := by decide +kernel
theorem dksX6_copyRow_1 : cX6_copyRow.data.toList.drop 24 = dktX6_copyRow_1 := dk_seg dksX6_copyRow_0 24 rfl rfl
theorem dksX6_copyRow_2 : cX6_copyRow.data.toList.drop 48 = dktX6_copyRow_2 := dk_seg dksX6_copyRow_1 24 rfl rfl
theorem dksX6_copyRow_3 : cX6_copyRow.data.toList.drop 72 = dktX6_copyRow_3 := dk_seg dksX6_copyRow_2 24 rfl rfl
theorem dksX6_copyRow_4 : cX6_copyRow.data.toList.drop 96 = dktX6_copyRow_4 := dk_seg dksX6_copyRow_3 24 rfl rfl
theorem dksX6_copyRow_5 : cX6_copyRow.data.toList.drop 120 = dktX6_copyRow_5 := dk_seg dksX6_copyRow_4 24 rfl rfl
theorem dksX6_copyRow_6 : cX6_copyRow.data.toList.drop 144 = dktX6_copyRow_6 := dk_seg dksX6_copyRow_5 24 rfl rfl
theorem dksX6_copyRow_7 : cX6_copyRow.data.toList.drop 168 = dktX6_copyRow_7 := dk_seg dksX6_copyRow_6 24 rfl rfl
theorem dX6_copyRow_0 : decode cX6_copyRow 0 = .ok (.aload_n 0, 1) := dk_42 (dk_at dksX6_copyRow_0 0 rfl rfl)
theorem dX6_copyRow_1 : decode cX6_copyRow 1 = .ok (.iload_n 1, 1) := dk_27 (dk_at dksX6_copyRow_0 1 rfl rfl)
theorem dX6_copyRow_2 : decode cX6_copyRow 2 = .ok (.invokestatic 237, 3) := dk_184 0 237 (dk_at dksX6_copyRow_0 2 rfl rfl)
theorem dX6_copyRow_5 : decode cX6_copyRow 5 = .ok (.ifCond .eq 10, 3) := dk_153 0 10 (dk_at dksX6_copyRow_0 5 rfl rfl)
theorem dX6_copyRow_8 : decode cX6_copyRow 8 = .ok (.iload_n 2, 1) := dk_28 (dk_at dksX6_copyRow_0 8 rfl rfl)
theorem dX6_copyRow_9 : decode cX6_copyRow 9 = .ok (.invokestatic 237, 3) := dk_184 0 237 (dk_at dksX6_copyRow_0 9 rfl rfl)
theorem dX6_copyRow_12 : decode cX6_copyRow 12 = .ok (.ifCond .ne 7, 3) := dk_154 0 7 (dk_at dksX6_copyRow_0 12 rfl rfl)
theorem dX6_copyRow_15 : decode cX6_copyRow 15 = .ok (.iconst 1, 1) := dk_4 (dk_at dksX6_copyRow_0 15 rfl rfl)
theorem dX6_copyRow_16 : decode cX6_copyRow 16 = .ok (.goto 32, 3) := dk_167 0 32 (dk_at dksX6_copyRow_0 16 rfl rfl)
theorem dX6_copyRow_19 : decode cX6_copyRow 19 = .ok (.iload_n 3, 1) := dk_29 (dk_at dksX6_copyRow_0 19 rfl rfl)
theorem dX6_copyRow_20 : decode cX6_copyRow 20 = .ok (.iconst 0, 1) := dk_3 (dk_at dksX6_copyRow_0 20 rfl rfl)
theorem dX6_copyRow_21 : decode cX6_copyRow 21 = .ok (.sipush 1000, 3) := dk_17 3 232 (dk_at dksX6_copyRow_0 21 rfl rfl)
theorem dX6_copyRow_24 : decode cX6_copyRow 24 = .ok (.invokestatic 80, 3) := dk_184 0 80 (dk_at dksX6_copyRow_1 0 rfl rfl)
theorem dX6_copyRow_27 : decode cX6_copyRow 27 = .ok (.ifCond .ne 7, 3) := dk_154 0 7 (dk_at dksX6_copyRow_1 3 rfl rfl)
theorem dX6_copyRow_30 : decode cX6_copyRow 30 = .ok (.iconst 2, 1) := dk_5 (dk_at dksX6_copyRow_1 6 rfl rfl)
theorem dX6_copyRow_31 : decode cX6_copyRow 31 = .ok (.goto 17, 3) := dk_167 0 17 (dk_at dksX6_copyRow_1 7 rfl rfl)
theorem dX6_copyRow_34 : decode cX6_copyRow 34 = .ok (.aload_n 0, 1) := dk_42 (dk_at dksX6_copyRow_1 10 rfl rfl)
theorem dX6_copyRow_35 : decode cX6_copyRow 35 = .ok (.getfield 49, 3) := dk_180 0 49 (dk_at dksX6_copyRow_1 11 rfl rfl)
theorem dX6_copyRow_38 : decode cX6_copyRow 38 = .ok (.iload_n 1, 1) := dk_27 (dk_at dksX6_copyRow_1 14 rfl rfl)
theorem dX6_copyRow_39 : decode cX6_copyRow 39 = .ok (.iaload, 1) := dk_46 (dk_at dksX6_copyRow_1 15 rfl rfl)
theorem dX6_copyRow_40 : decode cX6_copyRow 40 = .ok (.ifCond .ge 7, 3) := dk_156 0 7 (dk_at dksX6_copyRow_1 16 rfl rfl)
theorem dX6_copyRow_43 : decode cX6_copyRow 43 = .ok (.iconst 3, 1) := dk_6 (dk_at dksX6_copyRow_1 19 rfl rfl)
theorem dX6_copyRow_44 : decode cX6_copyRow 44 = .ok (.goto 4, 3) := dk_167 0 4 (dk_at dksX6_copyRow_1 20 rfl rfl)
theorem dX6_copyRow_47 : decode cX6_copyRow 47 = .ok (.iconst 0, 1) := dk_3 (dk_at dksX6_copyRow_1 23 rfl rfl)
theorem dX6_copyRow_48 : decode cX6_copyRow 48 = .ok (.putfield 62, 3) := dk_181 0 62 (dk_at dksX6_copyRow_2 0 rfl rfl)
theorem dX6_copyRow_51 : decode cX6_copyRow 51 = .ok (.aload_n 0, 1) := dk_42 (dk_at dksX6_copyRow_2 3 rfl rfl)
theorem dX6_copyRow_52 : decode cX6_copyRow 52 = .ok (.getfield 62, 3) := dk_180 0 62 (dk_at dksX6_copyRow_2 4 rfl rfl)
theorem dX6_copyRow_55 : decode cX6_copyRow 55 = .ok (.ifCond .le 5, 3) := dk_158 0 5 (dk_at dksX6_copyRow_2 7 rfl rfl)
theorem dX6_copyRow_58 : decode cX6_copyRow 58 = .ok (.iconst 0, 1) := dk_3 (dk_at dksX6_copyRow_2 10 rfl rfl)
theorem dX6_copyRow_59 : decode cX6_copyRow 59 = .ok (.ireturn, 1) := dk_172 (dk_at dksX6_copyRow_2 11 rfl rfl)
theorem dX6_copyRow_60 : decode cX6_copyRow 60 = .ok (.aload_n 0, 1) := dk_42 (dk_at dksX6_copyRow_2 12 rfl rfl)
theorem dX6_copyRow_61 : decode cX6_copyRow 61 = .ok (.getfield 49, 3) := dk_180 0 49 (dk_at dksX6_copyRow_2 13 rfl rfl)
theorem dX6_copyRow_64 : decode cX6_copyRow 64 = .ok (.iload_n 2, 1) := dk_28 (dk_at dksX6_copyRow_2 16 rfl rfl)
theorem dX6_copyRow_65 : decode cX6_copyRow 65 = .ok (.aload_n 0, 1) := dk_42 (dk_at dksX6_copyRow_2 17 rfl rfl)
theorem dX6_copyRow_66 : decode cX6_copyRow 66 = .ok (.getfield 49, 3) := dk_180 0 49 (dk_at dksX6_copyRow_2 18 rfl rfl)
theorem dX6_copyRow_69 : decode cX6_copyRow 69 = .ok (.iload_n 1, 1) := dk_27 (dk_at dksX6_copyRow_2 21 rfl rfl)
theorem dX6_copyRow_70 : decode cX6_copyRow 70 = .ok (.iaload, 1) := dk_46 (dk_at dksX6_copyRow_2 22 rfl rfl)
theorem dX6_copyRow_71 : decode cX6_copyRow 71 = .ok (.iastore, 1) := dk_79 (dk_at dksX6_copyRow_2 23 rfl rfl)
theorem dX6_copyRow_72 : decode cX6_copyRow 72 = .ok (.iconst 0, 1) := dk_3 (dk_at dksX6_copyRow_3 0 rfl rfl)
theorem dX6_copyRow_73 : decode cX6_copyRow 73 = .ok (.istore 4, 2) := dk_54 4 (dk_at dksX6_copyRow_3 1 rfl rfl)
theorem dX6_copyRow_75 : decode cX6_copyRow 75 = .ok (.iconst 0, 1) := dk_3 (dk_at dksX6_copyRow_3 3 rfl rfl)
theorem dX6_copyRow_76 : decode cX6_copyRow 76 = .ok (.istore 5, 2) := dk_54 5 (dk_at dksX6_copyRow_3 4 rfl rfl)
theorem dX6_copyRow_78 : decode cX6_copyRow 78 = .ok (.iload 5, 2) := dk_21 5 (dk_at dksX6_copyRow_3 6 rfl rfl)
theorem dX6_copyRow_80 : decode cX6_copyRow 80 = .ok (.aload_n 0, 1) := dk_42 (dk_at dksX6_copyRow_3 8 rfl rfl)
theorem dX6_copyRow_81 : decode cX6_copyRow 81 = .ok (.getfield 49, 3) := dk_180 0 49 (dk_at dksX6_copyRow_3 9 rfl rfl)
theorem dX6_copyRow_84 : decode cX6_copyRow 84 = .ok (.iload_n 1, 1) := dk_27 (dk_at dksX6_copyRow_3 12 rfl rfl)
theorem dX6_copyRow_85 : decode cX6_copyRow 85 = .ok (.iaload, 1) := dk_46 (dk_at dksX6_copyRow_3 13 rfl rfl)
theorem dX6_copyRow_86 : decode cX6_copyRow 86 = .ok (.if_icmp .ge 101, 3) := dk_162 0 101 (dk_at dksX6_copyRow_3 14 rfl rfl)
theorem dX6_copyRow_89 : decode cX6_copyRow 89 = .ok (.aload_n 0, 1) := dk_42 (dk_at dksX6_copyRow_3 17 rfl rfl)
theorem dX6_copyRow_90 : decode cX6_copyRow 90 = .ok (.getfield 45, 3) := dk_180 0 45 (dk_at dksX6_copyRow_3 18 rfl rfl)
theorem dX6_copyRow_93 : decode cX6_copyRow 93 = .ok (.bipush 12, 2) := dk_16 12 (dk_at dksX6_copyRow_3 21 rfl rfl)
theorem dX6_copyRow_95 : decode cX6_copyRow 95 = .ok (.iload_n 1, 1) := dk_27 (dk_at dksX6_copyRow_3 23 rfl rfl)
theorem dX6_copyRow_96 : decode cX6_copyRow 96 = .ok (.imul, 1) := dk_104 (dk_at dksX6_copyRow_4 0 rfl rfl)
theorem dX6_copyRow_97 : decode cX6_copyRow 97 = .ok (.iload 5, 2) := dk_21 5 (dk_at dksX6_copyRow_4 1 rfl rfl)
theorem dX6_copyRow_99 : decode cX6_copyRow 99 = .ok (.iadd, 1) := dk_96 (dk_at dksX6_copyRow_4 3 rfl rfl)
theorem dX6_copyRow_100 : decode cX6_copyRow 100 = .ok (.faload, 1) := dk_48 (dk_at dksX6_copyRow_4 4 rfl rfl)
theorem dX6_copyRow_101 : decode cX6_copyRow 101 = .ok (.fstore 6, 2) := dk_56 6 (dk_at dksX6_copyRow_4 5 rfl rfl)
theorem dX6_copyRow_103 : decode cX6_copyRow 103 = .ok (.fload 6, 2) := dk_23 6 (dk_at dksX6_copyRow_4 7 rfl rfl)
theorem dX6_copyRow_105 : decode cX6_copyRow 105 = .ok (.fload 6, 2) := dk_23 6 (dk_at dksX6_copyRow_4 9 rfl rfl)
theorem dX6_copyRow_107 : decode cX6_copyRow 107 = .ok (.fcmp .l, 1) := dk_149 (dk_at dksX6_copyRow_4 11 rfl rfl)
theorem dX6_copyRow_108 : decode cX6_copyRow 108 = .ok (.ifCond .ne 15, 3) := dk_154 0 15 (dk_at dksX6_copyRow_4 12 rfl rfl)
theorem dX6_copyRow_111 : decode cX6_copyRow 111 = .ok (.fload 6, 2) := dk_23 6 (dk_at dksX6_copyRow_4 15 rfl rfl)
theorem dX6_copyRow_113 : decode cX6_copyRow 113 = .ok (.ldc 242, 2) := dk_18 242 (dk_at dksX6_copyRow_4 17 rfl rfl)
theorem dX6_copyRow_115 : decode cX6_copyRow 115 = .ok (.fcmp .l, 1) := dk_149 (dk_at dksX6_copyRow_4 19 rfl rfl)
theorem dX6_copyRow_116 : decode cX6_copyRow 116 = .ok (.ifCond .ne 11, 3) := dk_154 0 11 (dk_at dksX6_copyRow_4 20 rfl rfl)
theorem dX6_copyRow_119 : decode cX6_copyRow 119 = .ok (.iload_n 3, 1) := dk_29 (dk_at dksX6_copyRow_4 23 rfl rfl)
theorem dX6_copyRow_120 : decode cX6_copyRow 120 = .ok (.ifCond .ne 7, 3) := dk_154 0 7 (dk_at dksX6_copyRow_5 0 rfl rfl)
theorem dX6_copyRow_123 : decode cX6_copyRow 123 = .ok (.iconst 1, 1) := dk_4 (dk_at dksX6_copyRow_5 3 rfl rfl)
theorem dX6_copyRow_124 : decode cX6_copyRow 124 = .ok (.goto 4, 3) := dk_167 0 4 (dk_at dksX6_copyRow_5 4 rfl rfl)
theorem dX6_copyRow_127 : decode cX6_copyRow 127 = .ok (.iconst 0, 1) := dk_3 (dk_at dksX6_copyRow_5 7 rfl rfl)
theorem dX6_copyRow_128 : decode cX6_copyRow 128 = .ok (.istore 7, 2) := dk_54 7 (dk_at dksX6_copyRow_5 8 rfl rfl)
theorem dX6_copyRow_130 : decode cX6_copyRow 130 = .ok (.iload 7, 2) := dk_21 7 (dk_at dksX6_copyRow_5 10 rfl rfl)
theorem dX6_copyRow_132 : decode cX6_copyRow 132 = .ok (.ifCond .eq 8, 3) := dk_153 0 8 (dk_at dksX6_copyRow_5 12 rfl rfl)
theorem dX6_copyRow_135 : decode cX6_copyRow 135 = .ok (.ldc 243, 2) := dk_18 243 (dk_at dksX6_copyRow_5 15 rfl rfl)
theorem dX6_copyRow_137 : decode cX6_copyRow 137 = .ok (.goto 11, 3) := dk_167 0 11 (dk_at dksX6_copyRow_5 17 rfl rfl)
theorem dX6_copyRow_140 : decode cX6_copyRow 140 = .ok (.fload 6, 2) := dk_23 6 (dk_at dksX6_copyRow_5 20 rfl rfl)
theorem dX6_copyRow_142 : decode cX6_copyRow 142 = .ok (.iload_n 3, 1) := dk_29 (dk_at dksX6_copyRow_5 22 rfl rfl)
theorem dX6_copyRow_143 : decode cX6_copyRow 143 = .ok (.i2f, 1) := dk_134 (dk_at dksX6_copyRow_5 23 rfl rfl)
theorem dX6_copyRow_144 : decode cX6_copyRow 144 = .ok (.fmul, 1) := dk_106 (dk_at dksX6_copyRow_6 0 rfl rfl)
theorem dX6_copyRow_145 : decode cX6_copyRow 145 = .ok (.ldc 210, 2) := dk_18 210 (dk_at dksX6_copyRow_6 1 rfl rfl)
theorem dX6_copyRow_147 : decode cX6_copyRow 147 = .ok (.fdiv, 1) := dk_110 (dk_at dksX6_copyRow_6 3 rfl rfl)
theorem dX6_copyRow_148 : decode cX6_copyRow 148 = .ok (.fstore 8, 2) := dk_56 8 (dk_at dksX6_copyRow_6 4 rfl rfl)
theorem dX6_copyRow_150 : decode cX6_copyRow 150 = .ok (.aload_n 0, 1) := dk_42 (dk_at dksX6_copyRow_6 6 rfl rfl)
theorem dX6_copyRow_151 : decode cX6_copyRow 151 = .ok (.getfield 45, 3) := dk_180 0 45 (dk_at dksX6_copyRow_6 7 rfl rfl)
theorem dX6_copyRow_154 : decode cX6_copyRow 154 = .ok (.bipush 12, 2) := dk_16 12 (dk_at dksX6_copyRow_6 10 rfl rfl)
theorem dX6_copyRow_156 : decode cX6_copyRow 156 = .ok (.iload_n 2, 1) := dk_28 (dk_at dksX6_copyRow_6 12 rfl rfl)
theorem dX6_copyRow_157 : decode cX6_copyRow 157 = .ok (.imul, 1) := dk_104 (dk_at dksX6_copyRow_6 13 rfl rfl)
theorem dX6_copyRow_158 : decode cX6_copyRow 158 = .ok (.iload 5, 2) := dk_21 5 (dk_at dksX6_copyRow_6 14 rfl rfl)
theorem dX6_copyRow_160 : decode cX6_copyRow 160 = .ok (.iadd, 1) := dk_96 (dk_at dksX6_copyRow_6 16 rfl rfl)
theorem dX6_copyRow_161 : decode cX6_copyRow 161 = .ok (.fload 8, 2) := dk_23 8 (dk_at dksX6_copyRow_6 17 rfl rfl)
theorem dX6_copyRow_163 : decode cX6_copyRow 163 = .ok (.fastore, 1) := dk_81 (dk_at dksX6_copyRow_6 19 rfl rfl)
theorem dX6_copyRow_164 : decode cX6_copyRow 164 = .ok (.iload 4, 2) := dk_21 4 (dk_at dksX6_copyRow_6 20 rfl rfl)
theorem dX6_copyRow_166 : decode cX6_copyRow 166 = .ok (.fload 8, 2) := dk_23 8 (dk_at dksX6_copyRow_6 22 rfl rfl)
theorem dX6_copyRow_168 : decode cX6_copyRow 168 = .ok (.fconst 1, 1) := dk_12 (dk_at dksX6_copyRow_7 0 rfl rfl)
theorem dX6_copyRow_169 : decode cX6_copyRow 169 = .ok (.fcmp .l, 1) := dk_149 (dk_at dksX6_copyRow_7 1 rfl rfl)
theorem dX6_copyRow_170 : decode cX6_copyRow 170 = .ok (.ifCond .le 7, 3) := dk_158 0 7 (dk_at dksX6_copyRow_7 2 rfl rfl)
theorem dX6_copyRow_173 : decode cX6_copyRow 173 = .ok (.iconst 1, 1) := dk_4 (dk_at dksX6_copyRow_7 5 rfl rfl)
theorem dX6_copyRow_174 : decode cX6_copyRow 174 = .ok (.goto 4, 3) := dk_167 0 4 (dk_at dksX6_copyRow_7 6 rfl rfl)
theorem dX6_copyRow_177 : decode cX6_copyRow 177 = .ok (.iconst 0, 1) := dk_3 (dk_at dksX6_copyRow_7 9 rfl rfl)
theorem dX6_copyRow_178 : decode cX6_copyRow 178 = .ok (.iadd, 1) := dk_96 (dk_at dksX6_copyRow_7 10 rfl rfl)
theorem dX6_copyRow_179 : decode cX6_copyRow 179 = .ok (.istore 4, 2) := dk_54 4 (dk_at dksX6_copyRow_7 11 rfl rfl)
theorem dX6_copyRow_181 : decode cX6_copyRow 181 = .ok (.iinc 5 1, 3) := dk_132 5 1 (dk_at dksX6_copyRow_7 13 rfl rfl)
theorem dX6_copyRow_184 : decode cX6_copyRow 184 = .ok (.goto (-106), 3) := dk_167 255 150 (dk_at dksX6_copyRow_7 16 rfl rfl)
theorem dX6_copyRow_187 : decode cX6_copyRow 187 = .ok (.iload 4, 2) := dk_21 4 (dk_at dksX6_copyRow_7 19 rfl rfl)
theorem dX6_copyRow_189 : decode cX6_copyRow 189 = .ok (.ireturn, 1) := dk_172 (dk_at dksX6_copyRow_7 21 rfl rfl)
abbrev cX6_element : ByteArray := prog_27_method_79_code
def yX6_element : MethodName := ⟨RX6, "element", "(II)I"⟩
def dkwX6_element_3 : List UInt8 := [48, 184, 0, 244, 172]
abbrev dktX6_element_3 : List UInt8 := dkwX6_element_3 ++ []
def dkwX6_element_2 : List UInt8 := [181, 0, 62, 42, 180, 0, 62, 158, 0, 7, 3, 167, 0, 17, 42, 180, 0, 45, 16, 12, 27, 104, 28, 96]
abbrev dktX6_element_2 : List UInt8 := dkwX6_element_2 ++ dktX6_element_3
def dkwX6_element_1 : List UInt8 := [167, 0, 24, 28, 3, 42, 180, 0, 49, 27, 46, 4, 100, 184, 0, 80, 154, 0, 7, 6, 167, 0, 4, 3]
abbrev dktX6_element_1 : List UInt8 := dkwX6_element_1 ++ dktX6_element_2
def dkwX6_element_0 : List UInt8 := [42, 27, 184, 0, 237, 154, 0, 7, 4, 167, 0, 37, 42, 180, 0, 49, 27, 46, 156, 0, 7, 5]
abbrev dktX6_element_0 : List UInt8 := dkwX6_element_0 ++ dktX6_element_1
theorem dksX6_element_0 : cX6_element.data.toList.drop 0 = dktX6_element_0 := by decide +kernel
theorem dksX6_element_1 : cX6_element.data.toList.drop 22 = dktX6_element_1 := dk_seg dksX6_element_0 22 rfl rfl
theorem dksX6_element_2 : cX6_element.data.toList.drop 46 = dktX6_element_2 := dk_seg dksX6_element_1 24 rfl rfl
theorem dksX6_element_3 : cX6_element.data.toList.drop 70 = dktX6_element_3 := dk_seg dksX6_element_2 24 rfl rfl
theorem dX6_element_0 : decode cX6_element 0 = .ok (.aload_n 0, 1) := dk_42 (dk_at dksX6_element_0 0 rfl rfl)
theorem dX6_element_1 : decode cX6_element 1 = .ok (.iload_n 1, 1) := dk_27 (dk_at dksX6_element_0 1 rfl rfl)
theorem dX6_element_2 : decode cX6_element 2 = .ok (.invokestatic 237, 3) := dk_184 0 237 (dk_at dksX6_element_0 2 rfl rfl)
theorem dX6_element_5 : decode cX6_element 5 = .ok (.ifCond .ne 7, 3) := dk_154 0 7 (dk_at dksX6_element_0 5 rfl rfl)
theorem dX6_element_8 : decode cX6_element 8 = .ok (.iconst 1, 1) := dk_4 (dk_at dksX6_element_0 8 rfl rfl)
theorem dX6_element_9 : decode cX6_element 9 = .ok (.goto 37, 3) := dk_167 0 37 (dk_at dksX6_element_0 9 rfl rfl)
theorem dX6_element_12 : decode cX6_element 12 = .ok (.aload_n 0, 1) := dk_42 (dk_at dksX6_element_0 12 rfl rfl)
theorem dX6_element_13 : decode cX6_element 13 = .ok (.getfield 49, 3) := dk_180 0 49 (dk_at dksX6_element_0 13 rfl rfl)
theorem dX6_element_16 : decode cX6_element 16 = .ok (.iload_n 1, 1) := dk_27 (dk_at dksX6_element_0 16 rfl rfl)
theorem dX6_element_17 : decode cX6_element 17 = .ok (.iaload, 1) := dk_46 (dk_at dksX6_element_0 17 rfl rfl)
theorem dX6_element_18 : decode cX6_element 18 = .ok (.ifCond .ge 7, 3) := dk_156 0 7 (dk_at dksX6_element_0 18 rfl rfl)
theorem dX6_element_21 : decode cX6_element 21 = .ok (.iconst 2, 1) := dk_5 (dk_at dksX6_element_0 21 rfl rfl)
theorem dX6_element_22 : decode cX6_element 22 = .ok (.goto 24, 3) := dk_167 0 24 (dk_at dksX6_element_1 0 rfl rfl)
theorem dX6_element_25 : decode cX6_element 25 = .ok (.iload_n 2, 1) := dk_28 (dk_at dksX6_element_1 3 rfl rfl)
theorem dX6_element_26 : decode cX6_element 26 = .ok (.iconst 0, 1) := dk_3 (dk_at dksX6_element_1 4 rfl rfl)
theorem dX6_element_27 : decode cX6_element 27 = .ok (.aload_n 0, 1) := dk_42 (dk_at dksX6_element_1 5 rfl rfl)
theorem dX6_element_28 : decode cX6_element 28 = .ok (.getfield 49, 3) := dk_180 0 49 (dk_at dksX6_element_1 6 rfl rfl)
theorem dX6_element_31 : decode cX6_element 31 = .ok (.iload_n 1, 1) := dk_27 (dk_at dksX6_element_1 9 rfl rfl)
theorem dX6_element_32 : decode cX6_element 32 = .ok (.iaload, 1) := dk_46 (dk_at dksX6_element_1 10 rfl rfl)
theorem dX6_element_33 : decode cX6_element 33 = .ok (.iconst 1, 1) := dk_4 (dk_at dksX6_element_1 11 rfl rfl)
theorem dX6_element_34 : decode cX6_element 34 = .ok (.isub, 1) := dk_100 (dk_at dksX6_element_1 12 rfl rfl)
theorem dX6_element_35 : decode cX6_element 35 = .ok (.invokestatic 80, 3) := dk_184 0 80 (dk_at dksX6_element_1 13 rfl rfl)
theorem dX6_element_38 : decode cX6_element 38 = .ok (.ifCond .ne 7, 3) := dk_154 0 7 (dk_at dksX6_element_1 16 rfl rfl)
theorem dX6_element_41 : decode cX6_element 41 = .ok (.iconst 3, 1) := dk_6 (dk_at dksX6_element_1 19 rfl rfl)
theorem dX6_element_42 : decode cX6_element 42 = .ok (.goto 4, 3) := dk_167 0 4 (dk_at dksX6_element_1 20 rfl rfl)
theorem dX6_element_45 : decode cX6_element 45 = .ok (.iconst 0, 1) := dk_3 (dk_at dksX6_element_1 23 rfl rfl)
theorem dX6_element_46 : decode cX6_element 46 = .ok (.putfield 62, 3) := dk_181 0 62 (dk_at dksX6_element_2 0 rfl rfl)
theorem dX6_element_49 : decode cX6_element 49 = .ok (.aload_n 0, 1) := dk_42 (dk_at dksX6_element_2 3 rfl rfl)
theorem dX6_element_50 : decode cX6_element 50 = .ok (.getfield 62, 3) := dk_180 0 62 (dk_at dksX6_element_2 4 rfl rfl)
theorem dX6_element_53 : decode cX6_element 53 = .ok (.ifCond .le 7, 3) := dk_158 0 7 (dk_at dksX6_element_2 7 rfl rfl)
theorem dX6_element_56 : decode cX6_element 56 = .ok (.iconst 0, 1) := dk_3 (dk_at dksX6_element_2 10 rfl rfl)
theorem dX6_element_57 : decode cX6_element 57 = .ok (.goto 17, 3) := dk_167 0 17 (dk_at dksX6_element_2 11 rfl rfl)
theorem dX6_element_60 : decode cX6_element 60 = .ok (.aload_n 0, 1) := dk_42 (dk_at dksX6_element_2 14 rfl rfl)
theorem dX6_element_61 : decode cX6_element 61 = .ok (.getfield 45, 3) := dk_180 0 45 (dk_at dksX6_element_2 15 rfl rfl)
theorem dX6_element_64 : decode cX6_element 64 = .ok (.bipush 12, 2) := dk_16 12 (dk_at dksX6_element_2 18 rfl rfl)
theorem dX6_element_66 : decode cX6_element 66 = .ok (.iload_n 1, 1) := dk_27 (dk_at dksX6_element_2 20 rfl rfl)
theorem dX6_element_67 : decode cX6_element 67 = .ok (.imul, 1) := dk_104 (dk_at dksX6_element_2 21 rfl rfl)
theorem dX6_element_68 : decode cX6_element 68 = .ok (.iload_n 2, 1) := dk_28 (dk_at dksX6_element_2 22 rfl rfl)
theorem dX6_element_69 : decode cX6_element 69 = .ok (.iadd, 1) := dk_96 (dk_at dksX6_element_2 23 rfl rfl)
theorem dX6_element_70 : decode cX6_element 70 = .ok (.faload, 1) := dk_48 (dk_at dksX6_element_3 0 rfl rfl)
theorem dX6_element_71 : decode cX6_element 71 = .ok (.invokestatic 244, 3) := dk_184 0 244 (dk_at dksX6_element_3 1 rfl rfl)
theorem dX6_element_74 : decode cX6_element 74 = .ok (.ireturn, 1) := dk_172 (dk_at dksX6_element_3 4 rfl rfl)
abbrev cX6_total : ByteArray := prog_27_method_80_code
def yX6_total : MethodName := ⟨RX6, "total", "(I)D"⟩
def dkwX6_total_3 : List UInt8 := [23, 5, 149, 153, 0, 7, 20, 0, 250, 175, 40, 23, 5, 141, 99, 73, 132, 4, 1, 167, 255, 203, 40, 175]
abbrev dktX6_total_3 : List UInt8 := dkwX6_total_3 ++ []
def dkwX6_total_2 : List UInt8 := [180, 0, 49, 27, 46, 162, 0, 41, 42, 180, 0, 45, 16, 12, 27, 104, 21, 4, 96, 48, 56, 5, 23, 5]
abbrev dktX6_total_2 : List UInt8 := dkwX6_total_2 ++ dktX6_total_3
def dkwX6_total_1 : List UInt8 := [167, 0, 4, 3, 181, 0, 62, 14, 73, 3, 54, 4, 42, 180, 0, 62, 154, 0, 52, 21, 4, 42]
abbrev dktX6_total_1 : List UInt8 := dkwX6_total_1 ++ dktX6_total_2
def dkwX6_total_0 : List UInt8 := [42, 27, 184, 0, 237, 154, 0, 7, 4, 167, 0, 17, 42, 180, 0, 49, 27, 46, 156, 0, 7, 5]
abbrev dktX6_total_0 : List UInt8 := dkwX6_total_0 ++ dktX6_total_1
theorem dksX6_total_0 : cX6_total.data.toList.drop 0 = dktX6_total_0 := by decide +kernel
theorem dksX6_total_1 : cX6_total.data.toList.drop 22 = dktX6_total_1 := dk_seg dksX6_total_0 22 rfl rfl
theorem dksX6_total_2 : cX6_total.data.toList.drop 44 = dktX6_total_2 := dk_seg dksX6_total_1 22 rfl rfl
theorem dksX6_total_3 : cX6_total.data.toList.drop 68 = dktX6_total_3 := dk_seg dksX6_total_2 24 rfl rfl
theorem dX6_total_0 : decode cX6_total 0 = .ok (.aload_n 0, 1) := dk_42 (dk_at dksX6_total_0 0 rfl rfl)
theorem dX6_total_1 : decode cX6_total 1 = .ok (.iload_n 1, 1) := dk_27 (dk_at dksX6_total_0 1 rfl rfl)
theorem dX6_total_2 : decode cX6_total 2 = .ok (.invokestatic 237, 3) := dk_184 0 237 (dk_at dksX6_total_0 2 rfl rfl)
theorem dX6_total_5 : decode cX6_total 5 = .ok (.ifCond .ne 7, 3) := dk_154 0 7 (dk_at dksX6_total_0 5 rfl rfl)
theorem dX6_total_8 : decode cX6_total 8 = .ok (.iconst 1, 1) := dk_4 (dk_at dksX6_total_0 8 rfl rfl)
theorem dX6_total_9 : decode cX6_total 9 = .ok (.goto 17, 3) := dk_167 0 17 (dk_at dksX6_total_0 9 rfl rfl)
theorem dX6_total_12 : decode cX6_total 12 = .ok (.aload_n 0, 1) := dk_42 (dk_at dksX6_total_0 12 rfl rfl)
theorem dX6_total_13 : decode cX6_total 13 = .ok (.getfield 49, 3) := dk_180 0 49 (dk_at dksX6_total_0 13 rfl rfl)
theorem dX6_total_16 : decode cX6_total 16 = .ok (.iload_n 1, 1) := dk_27 (dk_at dksX6_total_0 16 rfl rfl)
theorem dX6_total_17 : decode cX6_total 17 = .ok (.iaload, 1) := dk_46 (dk_at dksX6_total_0 17 rfl rfl)
theorem dX6_total_18 : decode cX6_total 18 = .ok (.ifCond .ge 7, 3) := dk_156 0 7 (dk_at dksX6_total_0 18 rfl rfl)
theorem dX6_total_21 : decode cX6_total 21 = .ok (.iconst 2, 1) := dk_5 (dk_at dksX6_total_0 21 rfl rfl)
theorem dX6_total_22 : decode cX6_total 22 = .ok (.goto 4, 3) := dk_167 0 4 (dk_at dksX6_total_1 0 rfl rfl)
theorem dX6_total_25 : decode cX6_total 25 = .ok (.iconst 0, 1) := dk_3 (dk_at dksX6_total_1 3 rfl rfl)
theorem dX6_total_26 : decode cX6_total 26 = .ok (.putfield 62, 3) := dk_181 0 62 (dk_at dksX6_total_1 4 rfl rfl)
theorem dX6_total_29 : decode cX6_total 29 = .ok (.dconst 0, 1) := dk_14 (dk_at dksX6_total_1 7 rfl rfl)
theorem dX6_total_30 : decode cX6_total 30 = .ok (.dstore_n 2, 1) := dk_73 (dk_at dksX6_total_1 8 rfl rfl)
theorem dX6_total_31 : decode cX6_total 31 = .ok (.iconst 0, 1) := dk_3 (dk_at dksX6_total_1 9 rfl rfl)
theorem dX6_total_32 : decode cX6_total 32 = .ok (.istore 4, 2) := dk_54 4 (dk_at dksX6_total_1 10 rfl rfl)
theorem dX6_total_34 : decode cX6_total 34 = .ok (.aload_n 0, 1) := dk_42 (dk_at dksX6_total_1 12 rfl rfl)
theorem dX6_total_35 : decode cX6_total 35 = .ok (.getfield 62, 3) := dk_180 0 62 (dk_at dksX6_total_1 13 rfl rfl)
theorem dX6_total_38 : decode cX6_total 38 = .ok (.ifCond .ne 52, 3) := dk_154 0 52 (dk_at dksX6_total_1 16 rfl rfl)
theorem dX6_total_41 : decode cX6_total 41 = .ok (.iload 4, 2) := dk_21 4 (dk_at dksX6_total_1 19 rfl rfl)
theorem dX6_total_43 : decode cX6_total 43 = .ok (.aload_n 0, 1) := dk_42 (dk_at dksX6_total_1 21 rfl rfl)
theorem dX6_total_44 : decode cX6_total 44 = .ok (.getfield 49, 3) := dk_180 0 49 (dk_at dksX6_total_2 0 rfl rfl)
theorem dX6_total_47 : decode cX6_total 47 = .ok (.iload_n 1, 1) := dk_27 (dk_at dksX6_total_2 3 rfl rfl)
theorem dX6_total_48 : decode cX6_total 48 = .ok (.iaload, 1) := dk_46 (dk_at dksX6_total_2 4 rfl rfl)
theorem dX6_total_49 : decode cX6_total 49 = .ok (.if_icmp .ge 41, 3) := dk_162 0 41 (dk_at dksX6_total_2 5 rfl rfl)
theorem dX6_total_52 : decode cX6_total 52 = .ok (.aload_n 0, 1) := dk_42 (dk_at dksX6_total_2 8 rfl rfl)
theorem dX6_total_53 : decode cX6_total 53 = .ok (.getfield 45, 3) := dk_180 0 45 (dk_at dksX6_total_2 9 rfl rfl)
theorem dX6_total_56 : decode cX6_total 56 = .ok (.bipush 12, 2) := dk_16 12 (dk_at dksX6_total_2 12 rfl rfl)
theorem dX6_total_58 : decode cX6_total 58 = .ok (.iload_n 1, 1) := dk_27 (dk_at dksX6_total_2 14 rfl rfl)
theorem dX6_total_59 : decode cX6_total 59 = .ok (.imul, 1) := dk_104 (dk_at dksX6_total_2 15 rfl rfl)
theorem dX6_total_60 : decode cX6_total 60 = .ok (.iload 4, 2) := dk_21 4 (dk_at dksX6_total_2 16 rfl rfl)
theorem dX6_total_62 : decode cX6_total 62 = .ok (.iadd, 1) := dk_96 (dk_at dksX6_total_2 18 rfl rfl)
theorem dX6_total_63 : decode cX6_total 63 = .ok (.faload, 1) := dk_48 (dk_at dksX6_total_2 19 rfl rfl)
theorem dX6_total_64 : decode cX6_total 64 = .ok (.fstore 5, 2) := dk_56 5 (dk_at dksX6_total_2 20 rfl rfl)
theorem dX6_total_66 : decode cX6_total 66 = .ok (.fload 5, 2) := dk_23 5 (dk_at dksX6_total_2 22 rfl rfl)
theorem dX6_total_68 : decode cX6_total 68 = .ok (.fload 5, 2) := dk_23 5 (dk_at dksX6_total_3 0 rfl rfl)
theorem dX6_total_70 : decode cX6_total 70 = .ok (.fcmp .l, 1) := dk_149 (dk_at dksX6_total_3 2 rfl rfl)
theorem dX6_total_71 : decode cX6_total 71 = .ok (.ifCond .eq 7, 3) := dk_153 0 7 (dk_at dksX6_total_3 3 rfl rfl)
theorem dX6_total_74 : decode cX6_total 74 = .ok (.ldc2_w 250, 3) := dk_20 0 250 (dk_at dksX6_total_3 6 rfl rfl)
theorem dX6_total_77 : decode cX6_total 77 = .ok (.dreturn, 1) := dk_175 (dk_at dksX6_total_3 9 rfl rfl)
theorem dX6_total_78 : decode cX6_total 78 = .ok (.dload_n 2, 1) := dk_40 (dk_at dksX6_total_3 10 rfl rfl)
theorem dX6_total_79 : decode cX6_total 79 = .ok (.fload 5, 2) := dk_23 5 (dk_at dksX6_total_3 11 rfl rfl)
theorem dX6_total_81 : decode cX6_total 81 = .ok (.f2d, 1) := dk_141 (dk_at dksX6_total_3 13 rfl rfl)
theorem dX6_total_82 : decode cX6_total 82 = .ok (.dadd, 1) := dk_99 (dk_at dksX6_total_3 14 rfl rfl)
theorem dX6_total_83 : decode cX6_total 83 = .ok (.dstore_n 2, 1) := dk_73 (dk_at dksX6_total_3 15 rfl rfl)
theorem dX6_total_84 : decode cX6_total 84 = .ok (.iinc 4 1, 3) := dk_132 4 1 (dk_at dksX6_total_3 16 rfl rfl)
theorem dX6_total_87 : decode cX6_total 87 = .ok (.goto (-53), 3) := dk_167 255 203 (dk_at dksX6_total_3 19 rfl rfl)
theorem dX6_total_90 : decode cX6_total 90 = .ok (.dload_n 2, 1) := dk_40 (dk_at dksX6_total_3 22 rfl rfl)
theorem dX6_total_91 : decode cX6_total 91 = .ok (.dreturn, 1) := dk_175 (dk_at dksX6_total_3 23 rfl rfl)
abbrev cX6_append : ByteArray := prog_27_method_81_code
def yX6_append : MethodName := ⟨RX6, "append", "(C)I"⟩
def dkwX6_append_2 : List UInt8 := [181, 0, 252, 42, 180, 0, 252, 172]
abbrev dktX6_append_2 : List UInt8 := dkwX6_append_2 ++ []
def dkwX6_append_1 : List UInt8 := [158, 0, 5, 3, 172, 42, 180, 0, 52, 42, 180, 0, 252, 27, 85, 42, 89, 180, 0, 252, 4, 96]
abbrev dktX6_append_1 : List UInt8 := dkwX6_append_1 ++ dktX6_append_2
def dkwX6_append_0 : List UInt8 := [42, 42, 180, 0, 252, 16, 60, 160, 0, 7, 4, 167, 0, 4, 3, 181, 0, 62, 42, 180, 0, 62]
abbrev dktX6_append_0 : List UInt8 := dkwX6_append_0 ++ dktX6_append_1
theorem dksX6_append_0 : cX6_append.data.toList.drop 0 = dktX6_append_0 := by decide +kernel
theorem dksX6_append_1 : cX6_append.data.toList.drop 22 = dktX6_append_1 := dk_seg dksX6_append_0 22 rfl rfl
theorem dksX6_append_2 : cX6_append.data.toList.drop 44 = dktX6_append_2 := dk_seg dksX6_append_1 22 rfl rfl
theorem dX6_append_0 : decode cX6_append 0 = .ok (.aload_n 0, 1) := dk_42 (dk_at dksX6_append_0 0 rfl rfl)
theorem dX6_append_1 : decode cX6_append 1 = .ok (.aload_n 0, 1) := dk_42 (dk_at dksX6_append_0 1 rfl rfl)
theorem dX6_append_2 : decode cX6_append 2 = .ok (.getfield 252, 3) := dk_180 0 252 (dk_at dksX6_append_0 2 rfl rfl)
theorem dX6_append_5 : decode cX6_append 5 = .ok (.bipush 60, 2) := dk_16 60 (dk_at dksX6_append_0 5 rfl rfl)
theorem dX6_append_7 : decode cX6_append 7 = .ok (.if_icmp .ne 7, 3) := dk_160 0 7 (dk_at dksX6_append_0 7 rfl rfl)
theorem dX6_append_10 : decode cX6_append 10 = .ok (.iconst 1, 1) := dk_4 (dk_at dksX6_append_0 10 rfl rfl)
theorem dX6_append_11 : decode cX6_append 11 = .ok (.goto 4, 3) := dk_167 0 4 (dk_at dksX6_append_0 11 rfl rfl)
theorem dX6_append_14 : decode cX6_append 14 = .ok (.iconst 0, 1) := dk_3 (dk_at dksX6_append_0 14 rfl rfl)
theorem dX6_append_15 : decode cX6_append 15 = .ok (.putfield 62, 3) := dk_181 0 62 (dk_at dksX6_append_0 15 rfl rfl)
theorem dX6_append_18 : decode cX6_append 18 = .ok (.aload_n 0, 1) := dk_42 (dk_at dksX6_append_0 18 rfl rfl)
theorem dX6_append_19 : decode cX6_append 19 = .ok (.getfield 62, 3) := dk_180 0 62 (dk_at dksX6_append_0 19 rfl rfl)
theorem dX6_append_22 : decode cX6_append 22 = .ok (.ifCond .le 5, 3) := dk_158 0 5 (dk_at dksX6_append_1 0 rfl rfl)
theorem dX6_append_25 : decode cX6_append 25 = .ok (.iconst 0, 1) := dk_3 (dk_at dksX6_append_1 3 rfl rfl)
theorem dX6_append_26 : decode cX6_append 26 = .ok (.ireturn, 1) := dk_172 (dk_at dksX6_append_1 4 rfl rfl)
theorem dX6_append_27 : decode cX6_append 27 = .ok (.aload_n 0, 1) := dk_42 (dk_at dksX6_append_1 5 rfl rfl)
theorem dX6_append_28 : decode cX6_append 28 = .ok (.getfield 52, 3) := dk_180 0 52 (dk_at dksX6_append_1 6 rfl rfl)
theorem dX6_append_31 : decode cX6_append 31 = .ok (.aload_n 0, 1) := dk_42 (dk_at dksX6_append_1 9 rfl rfl)
theorem dX6_append_32 : decode cX6_append 32 = .ok (.getfield 252, 3) := dk_180 0 252 (dk_at dksX6_append_1 10 rfl rfl)
theorem dX6_append_35 : decode cX6_append 35 = .ok (.iload_n 1, 1) := dk_27 (dk_at dksX6_append_1 13 rfl rfl)
theorem dX6_append_36 : decode cX6_append 36 = .ok (.castore, 1) := dk_85 (dk_at dksX6_append_1 14 rfl rfl)
theorem dX6_append_37 : decode cX6_append 37 = .ok (.aload_n 0, 1) := dk_42 (dk_at dksX6_append_1 15 rfl rfl)
theorem dX6_append_38 : decode cX6_append 38 = .ok (.dup, 1) := dk_89 (dk_at dksX6_append_1 16 rfl rfl)
theorem dX6_append_39 : decode cX6_append 39 = .ok (.getfield 252, 3) := dk_180 0 252 (dk_at dksX6_append_1 17 rfl rfl)
theorem dX6_append_42 : decode cX6_append 42 = .ok (.iconst 1, 1) := dk_4 (dk_at dksX6_append_1 20 rfl rfl)
theorem dX6_append_43 : decode cX6_append 43 = .ok (.iadd, 1) := dk_96 (dk_at dksX6_append_1 21 rfl rfl)
theorem dX6_append_44 : decode cX6_append 44 = .ok (.putfield 252, 3) := dk_181 0 252 (dk_at dksX6_append_2 0 rfl rfl)
theorem dX6_append_47 : decode cX6_append 47 = .ok (.aload_n 0, 1) := dk_42 (dk_at dksX6_append_2 3 rfl rfl)
theorem dX6_append_48 : decode cX6_append 48 = .ok (.getfield 252, 3) := dk_180 0 252 (dk_at dksX6_append_2 4 rfl rfl)
theorem dX6_append_51 : decode cX6_append 51 = .ok (.ireturn, 1) := dk_172 (dk_at dksX6_append_2 7 rfl rfl)
abbrev cX6_read : ByteArray := prog_27_method_89_code
def yX6_read : MethodName := ⟨RX6, "read", "()I"⟩
def dkwX6_read_9 : List UInt8 := [28, 182, 0, 160, 28, 172]
abbrev dktX6_read_9 : List UInt8 := dkwX6_read_9 ++ []
def dkwX6_read_8 : List UInt8 := [180, 1, 31, 42, 180, 1, 41, 42, 180, 1, 53, 42, 180, 1, 47, 42, 180, 1, 50, 182, 0, 129, 61, 42]
abbrev dktX6_read_8 : List UInt8 := dkwX6_read_8 ++ dktX6_read_9
def dkwX6_read_7 : List UInt8 := [27, 42, 180, 0, 115, 182, 0, 125, 172, 42, 182, 0, 92, 42, 182, 0, 95, 42, 42, 180, 1, 28, 42]
abbrev dktX6_read_7 : List UInt8 := dkwX6_read_7 ++ dktX6_read_8
def dkwX6_read_6 : List UInt8 := [182, 0, 121, 60, 27, 154, 0, 11, 42, 2, 182, 0, 157, 167, 0, 4, 27, 60, 27, 158, 0, 14, 42, 5]
abbrev dktX6_read_6 : List UInt8 := dkwX6_read_6 ++ dktX6_read_7
def dkwX6_read_5 : List UInt8 := [180, 1, 41, 182, 0, 125, 172, 42, 42, 180, 1, 31, 42, 180, 1, 41, 42, 180, 1, 47, 42, 180, 1, 50]
abbrev dktX6_read_5 : List UInt8 := dkwX6_read_5 ++ dktX6_read_6
def dkwX6_read_4 : List UInt8 := [180, 1, 31, 182, 0, 125, 172, 42, 42, 180, 1, 41, 182, 0, 88, 154, 0, 14, 42, 5, 4, 42]
abbrev dktX6_read_4 : List UInt8 := dkwX6_read_4 ++ dktX6_read_5
def dkwX6_read_3 : List UInt8 := [172, 42, 3, 181, 0, 62, 42, 180, 1, 31, 42, 180, 0, 9, 4, 46, 161, 0, 14, 42, 5, 4, 42]
abbrev dktX6_read_3 : List UInt8 := dkwX6_read_3 ++ dktX6_read_4
def dkwX6_read_2 : List UInt8 := [181, 0, 252, 42, 180, 0, 255, 153, 0, 18, 42, 42, 180, 1, 3, 181, 0, 56, 42, 4, 181, 0, 62, 3]
abbrev dktX6_read_2 : List UInt8 := dkwX6_read_2 ++ dktX6_read_3
def dkwX6_read_1 : List UInt8 := [154, 0, 14, 42, 180, 1, 3, 42, 180, 0, 252, 162, 0, 7, 4, 167, 0, 4, 3, 181, 0, 255, 42, 3]
abbrev dktX6_read_1 : List UInt8 := dkwX6_read_1 ++ dktX6_read_2
def dkwX6_read_0 : List UInt8 := [42, 3, 181, 1, 3, 42, 3, 181, 0, 255, 42, 3, 181, 0, 145, 42, 182, 1, 56, 42, 42, 180, 0, 255]
abbrev dktX6_read_0 : List UInt8 := dkwX6_read_0 ++ dktX6_read_1
theorem dksX6_read_0 : cX6_read.data.toList.drop 0 = dktX6_read_0 := by decide +kernel
theorem dksX6_read_1 : cX6_read.data.toList.drop 24 = dktX6_read_1 := dk_seg dksX6_read_0 24 rfl rfl
theorem dksX6_read_2 : cX6_read.data.toList.drop 48 = dktX6_read_2 := dk_seg dksX6_read_1 24 rfl rfl
theorem dksX6_read_3 : cX6_read.data.toList.drop 72 = dktX6_read_3 := dk_seg dksX6_read_2 24 rfl rfl
theorem dksX6_read_4 : cX6_read.data.toList.drop 95 = dktX6_read_4 := dk_seg dksX6_read_3 23 rfl rfl
theorem dksX6_read_5 : cX6_read.data.toList.drop 117 = dktX6_read_5 := dk_seg dksX6_read_4 22 rfl rfl
theorem dksX6_read_6 : cX6_read.data.toList.drop 141 = dktX6_read_6 := dk_seg dksX6_read_5 24 rfl rfl
theorem dksX6_read_7 : cX6_read.data.toList.drop 165 = dktX6_read_7 := dk_seg dksX6_read_6 24 rfl rfl
theorem dksX6_read_8 : cX6_read.data.toList.drop 188 = dktX6_read_8 := dk_seg dksX6_read_7 23 rfl rfl
theorem dksX6_read_9 : cX6_read.data.toList.drop 212 = dktX6_read_9 := dk_seg dksX6_read_8 24 rfl rfl
theorem dX6_read_0 : decode cX6_read 0 = .ok (.aload_n 0, 1) := dk_42 (dk_at dksX6_read_0 0 rfl rfl)
theorem dX6_read_1 : decode cX6_read 1 = .ok (.iconst 0, 1) := dk_3 (dk_at dksX6_read_0 1 rfl rfl)
theorem dX6_read_2 : decode cX6_read 2 = .ok (.putfield 259, 3) := dk_181 1 3 (dk_at dksX6_read_0 2 rfl rfl)
theorem dX6_read_5 : decode cX6_read 5 = .ok (.aload_n 0, 1) := dk_42 (dk_at dksX6_read_0 5 rfl rfl)
theorem dX6_read_6 : decode cX6_read 6 = .ok (.iconst 0, 1) := dk_3 (dk_at dksX6_read_0 6 rfl rfl)
theorem dX6_read_7 : decode cX6_read 7 = .ok (.putfield 255, 3) := dk_181 0 255 (dk_at dksX6_read_0 7 rfl rfl)
theorem dX6_read_10 : decode cX6_read 10 = .ok (.aload_n 0, 1) := dk_42 (dk_at dksX6_read_0 10 rfl rfl)
theorem dX6_read_11 : decode cX6_read 11 = .ok (.iconst 0, 1) := dk_3 (dk_at dksX6_read_0 11 rfl rfl)
theorem dX6_read_12 : decode cX6_read 12 = .ok (.putfield 145, 3) := dk_181 0 145 (dk_at dksX6_read_0 12 rfl rfl)
theorem dX6_read_15 : decode cX6_read 15 = .ok (.aload_n 0, 1) := dk_42 (dk_at dksX6_read_0 15 rfl rfl)
theorem dX6_read_16 : decode cX6_read 16 = .ok (.invokevirtual 312, 3) := dk_182 1 56 (dk_at dksX6_read_0 16 rfl rfl)
theorem dX6_read_19 : decode cX6_read 19 = .ok (.aload_n 0, 1) := dk_42 (dk_at dksX6_read_0 19 rfl rfl)
theorem dX6_read_20 : decode cX6_read 20 = .ok (.aload_n 0, 1) := dk_42 (dk_at dksX6_read_0 20 rfl rfl)
theorem dX6_read_21 : decode cX6_read 21 = .ok (.getfield 255, 3) := dk_180 0 255 (dk_at dksX6_read_0 21 rfl rfl)
theorem dX6_read_24 : decode cX6_read 24 = .ok (.ifCond .ne 14, 3) := dk_154 0 14 (dk_at dksX6_read_1 0 rfl rfl)
theorem dX6_read_27 : decode cX6_read 27 = .ok (.aload_n 0, 1) := dk_42 (dk_at dksX6_read_1 3 rfl rfl)
theorem dX6_read_28 : decode cX6_read 28 = .ok (.getfield 259, 3) := dk_180 1 3 (dk_at dksX6_read_1 4 rfl rfl)
theorem dX6_read_31 : decode cX6_read 31 = .ok (.aload_n 0, 1) := dk_42 (dk_at dksX6_read_1 7 rfl rfl)
theorem dX6_read_32 : decode cX6_read 32 = .ok (.getfield 252, 3) := dk_180 0 252 (dk_at dksX6_read_1 8 rfl rfl)
theorem dX6_read_35 : decode cX6_read 35 = .ok (.if_icmp .ge 7, 3) := dk_162 0 7 (dk_at dksX6_read_1 11 rfl rfl)
theorem dX6_read_38 : decode cX6_read 38 = .ok (.iconst 1, 1) := dk_4 (dk_at dksX6_read_1 14 rfl rfl)
theorem dX6_read_39 : decode cX6_read 39 = .ok (.goto 4, 3) := dk_167 0 4 (dk_at dksX6_read_1 15 rfl rfl)
theorem dX6_read_42 : decode cX6_read 42 = .ok (.iconst 0, 1) := dk_3 (dk_at dksX6_read_1 18 rfl rfl)
theorem dX6_read_43 : decode cX6_read 43 = .ok (.putfield 255, 3) := dk_181 0 255 (dk_at dksX6_read_1 19 rfl rfl)
theorem dX6_read_46 : decode cX6_read 46 = .ok (.aload_n 0, 1) := dk_42 (dk_at dksX6_read_1 22 rfl rfl)
theorem dX6_read_47 : decode cX6_read 47 = .ok (.iconst 0, 1) := dk_3 (dk_at dksX6_read_1 23 rfl rfl)
theorem dX6_read_48 : decode cX6_read 48 = .ok (.putfield 252, 3) := dk_181 0 252 (dk_at dksX6_read_2 0 rfl rfl)
theorem dX6_read_51 : decode cX6_read 51 = .ok (.aload_n 0, 1) := dk_42 (dk_at dksX6_read_2 3 rfl rfl)
theorem dX6_read_52 : decode cX6_read 52 = .ok (.getfield 255, 3) := dk_180 0 255 (dk_at dksX6_read_2 4 rfl rfl)
theorem dX6_read_55 : decode cX6_read 55 = .ok (.ifCond .eq 18, 3) := dk_153 0 18 (dk_at dksX6_read_2 7 rfl rfl)
theorem dX6_read_58 : decode cX6_read 58 = .ok (.aload_n 0, 1) := dk_42 (dk_at dksX6_read_2 10 rfl rfl)
theorem dX6_read_59 : decode cX6_read 59 = .ok (.aload_n 0, 1) := dk_42 (dk_at dksX6_read_2 11 rfl rfl)
theorem dX6_read_60 : decode cX6_read 60 = .ok (.getfield 259, 3) := dk_180 1 3 (dk_at dksX6_read_2 12 rfl rfl)
theorem dX6_read_63 : decode cX6_read 63 = .ok (.putfield 56, 3) := dk_181 0 56 (dk_at dksX6_read_2 15 rfl rfl)
theorem dX6_read_66 : decode cX6_read 66 = .ok (.aload_n 0, 1) := dk_42 (dk_at dksX6_read_2 18 rfl rfl)
theorem dX6_read_67 : decode cX6_read 67 = .ok (.iconst 1, 1) := dk_4 (dk_at dksX6_read_2 19 rfl rfl)
theorem dX6_read_68 : decode cX6_read 68 = .ok (.putfield 62, 3) := dk_181 0 62 (dk_at dksX6_read_2 20 rfl rfl)
theorem dX6_read_71 : decode cX6_read 71 = .ok (.iconst 0, 1) := dk_3 (dk_at dksX6_read_2 23 rfl rfl)
theorem dX6_read_72 : decode cX6_read 72 = .ok (.ireturn, 1) := dk_172 (dk_at dksX6_read_3 0 rfl rfl)
theorem dX6_read_73 : decode cX6_read 73 = .ok (.aload_n 0, 1) := dk_42 (dk_at dksX6_read_3 1 rfl rfl)
theorem dX6_read_74 : decode cX6_read 74 = .ok (.iconst 0, 1) := dk_3 (dk_at dksX6_read_3 2 rfl rfl)
theorem dX6_read_75 : decode cX6_read 75 = .ok (.putfield 62, 3) := dk_181 0 62 (dk_at dksX6_read_3 3 rfl rfl)
theorem dX6_read_78 : decode cX6_read 78 = .ok (.aload_n 0, 1) := dk_42 (dk_at dksX6_read_3 6 rfl rfl)
theorem dX6_read_79 : decode cX6_read 79 = .ok (.getfield 287, 3) := dk_180 1 31 (dk_at dksX6_read_3 7 rfl rfl)
theorem dX6_read_82 : decode cX6_read 82 = .ok (.aload_n 0, 1) := dk_42 (dk_at dksX6_read_3 10 rfl rfl)
theorem dX6_read_83 : decode cX6_read 83 = .ok (.getfield 9, 3) := dk_180 0 9 (dk_at dksX6_read_3 11 rfl rfl)
theorem dX6_read_86 : decode cX6_read 86 = .ok (.iconst 1, 1) := dk_4 (dk_at dksX6_read_3 14 rfl rfl)
theorem dX6_read_87 : decode cX6_read 87 = .ok (.iaload, 1) := dk_46 (dk_at dksX6_read_3 15 rfl rfl)
theorem dX6_read_88 : decode cX6_read 88 = .ok (.if_icmp .lt 14, 3) := dk_161 0 14 (dk_at dksX6_read_3 16 rfl rfl)
theorem dX6_read_91 : decode cX6_read 91 = .ok (.aload_n 0, 1) := dk_42 (dk_at dksX6_read_3 19 rfl rfl)
theorem dX6_read_92 : decode cX6_read 92 = .ok (.iconst 2, 1) := dk_5 (dk_at dksX6_read_3 20 rfl rfl)
theorem dX6_read_93 : decode cX6_read 93 = .ok (.iconst 1, 1) := dk_4 (dk_at dksX6_read_3 21 rfl rfl)
theorem dX6_read_94 : decode cX6_read 94 = .ok (.aload_n 0, 1) := dk_42 (dk_at dksX6_read_3 22 rfl rfl)
theorem dX6_read_95 : decode cX6_read 95 = .ok (.getfield 287, 3) := dk_180 1 31 (dk_at dksX6_read_4 0 rfl rfl)
theorem dX6_read_98 : decode cX6_read 98 = .ok (.invokevirtual 125, 3) := dk_182 0 125 (dk_at dksX6_read_4 3 rfl rfl)
theorem dX6_read_101 : decode cX6_read 101 = .ok (.ireturn, 1) := dk_172 (dk_at dksX6_read_4 6 rfl rfl)
theorem dX6_read_102 : decode cX6_read 102 = .ok (.aload_n 0, 1) := dk_42 (dk_at dksX6_read_4 7 rfl rfl)
theorem dX6_read_103 : decode cX6_read 103 = .ok (.aload_n 0, 1) := dk_42 (dk_at dksX6_read_4 8 rfl rfl)
theorem dX6_read_104 : decode cX6_read 104 = .ok (.getfield 297, 3) := dk_180 1 41 (dk_at dksX6_read_4 9 rfl rfl)
theorem dX6_read_107 : decode cX6_read 107 = .ok (.invokevirtual 88, 3) := dk_182 0 88 (dk_at dksX6_read_4 12 rfl rfl)
theorem dX6_read_110 : decode cX6_read 110 = .ok (.ifCond .ne 14, 3) := dk_154 0 14 (dk_at dksX6_read_4 15 rfl rfl)
theorem dX6_read_113 : decode cX6_read 113 = .ok (.aload_n 0, 1) := dk_42 (dk_at dksX6_read_4 18 rfl rfl)
theorem dX6_read_114 : decode cX6_read 114 = .ok (.iconst 2, 1) := dk_5 (dk_at dksX6_read_4 19 rfl rfl)
theorem dX6_read_115 : decode cX6_read 115 = .ok (.iconst 1, 1) := dk_4 (dk_at dksX6_read_4 20 rfl rfl)
theorem dX6_read_116 : decode cX6_read 116 = .ok (.aload_n 0, 1) := dk_42 (dk_at dksX6_read_4 21 rfl rfl)
theorem dX6_read_117 : decode cX6_read 117 = .ok (.getfield 297, 3) := dk_180 1 41 (dk_at dksX6_read_5 0 rfl rfl)
theorem dX6_read_120 : decode cX6_read 120 = .ok (.invokevirtual 125, 3) := dk_182 0 125 (dk_at dksX6_read_5 3 rfl rfl)
theorem dX6_read_123 : decode cX6_read 123 = .ok (.ireturn, 1) := dk_172 (dk_at dksX6_read_5 6 rfl rfl)
theorem dX6_read_124 : decode cX6_read 124 = .ok (.aload_n 0, 1) := dk_42 (dk_at dksX6_read_5 7 rfl rfl)
theorem dX6_read_125 : decode cX6_read 125 = .ok (.aload_n 0, 1) := dk_42 (dk_at dksX6_read_5 8 rfl rfl)
theorem dX6_read_126 : decode cX6_read 126 = .ok (.getfield 287, 3) := dk_180 1 31 (dk_at dksX6_read_5 9 rfl rfl)
theorem dX6_read_129 : decode cX6_read 129 = .ok (.aload_n 0, 1) := dk_42 (dk_at dksX6_read_5 12 rfl rfl)
theorem dX6_read_130 : decode cX6_read 130 = .ok (.getfield 297, 3) := dk_180 1 41 (dk_at dksX6_read_5 13 rfl rfl)
theorem dX6_read_133 : decode cX6_read 133 = .ok (.aload_n 0, 1) := dk_42 (dk_at dksX6_read_5 16 rfl rfl)
theorem dX6_read_134 : decode cX6_read 134 = .ok (.getfield 303, 3) := dk_180 1 47 (dk_at dksX6_read_5 17 rfl rfl)
theorem dX6_read_137 : decode cX6_read 137 = .ok (.aload_n 0, 1) := dk_42 (dk_at dksX6_read_5 20 rfl rfl)
theorem dX6_read_138 : decode cX6_read 138 = .ok (.getfield 306, 3) := dk_180 1 50 (dk_at dksX6_read_5 21 rfl rfl)
theorem dX6_read_141 : decode cX6_read 141 = .ok (.invokevirtual 121, 3) := dk_182 0 121 (dk_at dksX6_read_6 0 rfl rfl)
theorem dX6_read_144 : decode cX6_read 144 = .ok (.istore_n 1, 1) := dk_60 (dk_at dksX6_read_6 3 rfl rfl)
theorem dX6_read_145 : decode cX6_read 145 = .ok (.iload_n 1, 1) := dk_27 (dk_at dksX6_read_6 4 rfl rfl)
theorem dX6_read_146 : decode cX6_read 146 = .ok (.ifCond .ne 11, 3) := dk_154 0 11 (dk_at dksX6_read_6 5 rfl rfl)
theorem dX6_read_149 : decode cX6_read 149 = .ok (.aload_n 0, 1) := dk_42 (dk_at dksX6_read_6 8 rfl rfl)
theorem dX6_read_150 : decode cX6_read 150 = .ok (.iconst (-1), 1) := dk_2 (dk_at dksX6_read_6 9 rfl rfl)
theorem dX6_read_151 : decode cX6_read 151 = .ok (.invokevirtual 157, 3) := dk_182 0 157 (dk_at dksX6_read_6 10 rfl rfl)
theorem dX6_read_154 : decode cX6_read 154 = .ok (.goto 4, 3) := dk_167 0 4 (dk_at dksX6_read_6 13 rfl rfl)
theorem dX6_read_157 : decode cX6_read 157 = .ok (.iload_n 1, 1) := dk_27 (dk_at dksX6_read_6 16 rfl rfl)
theorem dX6_read_158 : decode cX6_read 158 = .ok (.istore_n 1, 1) := dk_60 (dk_at dksX6_read_6 17 rfl rfl)
theorem dX6_read_159 : decode cX6_read 159 = .ok (.iload_n 1, 1) := dk_27 (dk_at dksX6_read_6 18 rfl rfl)
theorem dX6_read_160 : decode cX6_read 160 = .ok (.ifCond .le 14, 3) := dk_158 0 14 (dk_at dksX6_read_6 19 rfl rfl)
theorem dX6_read_163 : decode cX6_read 163 = .ok (.aload_n 0, 1) := dk_42 (dk_at dksX6_read_6 22 rfl rfl)
theorem dX6_read_164 : decode cX6_read 164 = .ok (.iconst 2, 1) := dk_5 (dk_at dksX6_read_6 23 rfl rfl)
theorem dX6_read_165 : decode cX6_read 165 = .ok (.iload_n 1, 1) := dk_27 (dk_at dksX6_read_7 0 rfl rfl)
theorem dX6_read_166 : decode cX6_read 166 = .ok (.aload_n 0, 1) := dk_42 (dk_at dksX6_read_7 1 rfl rfl)
theorem dX6_read_167 : decode cX6_read 167 = .ok (.getfield 115, 3) := dk_180 0 115 (dk_at dksX6_read_7 2 rfl rfl)
theorem dX6_read_170 : decode cX6_read 170 = .ok (.invokevirtual 125, 3) := dk_182 0 125 (dk_at dksX6_read_7 5 rfl rfl)
theorem dX6_read_173 : decode cX6_read 173 = .ok (.ireturn, 1) := dk_172 (dk_at dksX6_read_7 8 rfl rfl)
theorem dX6_read_174 : decode cX6_read 174 = .ok (.aload_n 0, 1) := dk_42 (dk_at dksX6_read_7 9 rfl rfl)
theorem dX6_read_175 : decode cX6_read 175 = .ok (.invokevirtual 92, 3) := dk_182 0 92 (dk_at dksX6_read_7 10 rfl rfl)
theorem dX6_read_178 : decode cX6_read 178 = .ok (.aload_n 0, 1) := dk_42 (dk_at dksX6_read_7 13 rfl rfl)
theorem dX6_read_179 : decode cX6_read 179 = .ok (.invokevirtual 95, 3) := dk_182 0 95 (dk_at dksX6_read_7 14 rfl rfl)
theorem dX6_read_182 : decode cX6_read 182 = .ok (.aload_n 0, 1) := dk_42 (dk_at dksX6_read_7 17 rfl rfl)
theorem dX6_read_183 : decode cX6_read 183 = .ok (.aload_n 0, 1) := dk_42 (dk_at dksX6_read_7 18 rfl rfl)
theorem dX6_read_184 : decode cX6_read 184 = .ok (.getfield 284, 3) := dk_180 1 28 (dk_at dksX6_read_7 19 rfl rfl)
theorem dX6_read_187 : decode cX6_read 187 = .ok (.aload_n 0, 1) := dk_42 (dk_at dksX6_read_7 22 rfl rfl)
theorem dX6_read_188 : decode cX6_read 188 = .ok (.getfield 287, 3) := dk_180 1 31 (dk_at dksX6_read_8 0 rfl rfl)
theorem dX6_read_191 : decode cX6_read 191 = .ok (.aload_n 0, 1) := dk_42 (dk_at dksX6_read_8 3 rfl rfl)
theorem dX6_read_192 : decode cX6_read 192 = .ok (.getfield 297, 3) := dk_180 1 41 (dk_at dksX6_read_8 4 rfl rfl)
theorem dX6_read_195 : decode cX6_read 195 = .ok (.aload_n 0, 1) := dk_42 (dk_at dksX6_read_8 7 rfl rfl)
theorem dX6_read_196 : decode cX6_read 196 = .ok (.getfield 309, 3) := dk_180 1 53 (dk_at dksX6_read_8 8 rfl rfl)
theorem dX6_read_199 : decode cX6_read 199 = .ok (.aload_n 0, 1) := dk_42 (dk_at dksX6_read_8 11 rfl rfl)
theorem dX6_read_200 : decode cX6_read 200 = .ok (.getfield 303, 3) := dk_180 1 47 (dk_at dksX6_read_8 12 rfl rfl)
theorem dX6_read_203 : decode cX6_read 203 = .ok (.aload_n 0, 1) := dk_42 (dk_at dksX6_read_8 15 rfl rfl)
theorem dX6_read_204 : decode cX6_read 204 = .ok (.getfield 306, 3) := dk_180 1 50 (dk_at dksX6_read_8 16 rfl rfl)
theorem dX6_read_207 : decode cX6_read 207 = .ok (.invokevirtual 129, 3) := dk_182 0 129 (dk_at dksX6_read_8 19 rfl rfl)
theorem dX6_read_210 : decode cX6_read 210 = .ok (.istore_n 2, 1) := dk_61 (dk_at dksX6_read_8 22 rfl rfl)
theorem dX6_read_211 : decode cX6_read 211 = .ok (.aload_n 0, 1) := dk_42 (dk_at dksX6_read_8 23 rfl rfl)
theorem dX6_read_212 : decode cX6_read 212 = .ok (.iload_n 2, 1) := dk_28 (dk_at dksX6_read_9 0 rfl rfl)
theorem dX6_read_213 : decode cX6_read 213 = .ok (.invokevirtual 160, 3) := dk_182 0 160 (dk_at dksX6_read_9 1 rfl rfl)
theorem dX6_read_216 : decode cX6_read 216 = .ok (.iload_n 2, 1) := dk_28 (dk_at dksX6_read_9 4 rfl rfl)
theorem dX6_read_217 : decode cX6_read 217 = .ok (.ireturn, 1) := dk_172 (dk_at dksX6_read_9 5 rfl rfl)
abbrev cX6_readRule : ByteArray := prog_27_method_88_code
def yX6_readRule : MethodName := ⟨RX6, "readRule", "()V"⟩
def dkwX6_readRule_8 : List UInt8 := [42, 42, 182, 1, 10, 181, 1, 53, 177]
abbrev dktX6_readRule_8 : List UInt8 := dkwX6_readRule_8 ++ []
def dkwX6_readRule_7 : List UInt8 := [181, 1, 50, 42, 16, 33, 16, 33, 182, 1, 6, 153, 0, 21, 42, 89, 180, 1, 3, 4, 96, 181, 1, 3]
abbrev dktX6_readRule_7 : List UInt8 := dkwX6_readRule_7 ++ dktX6_readRule_8
def dkwX6_readRule_6 : List UInt8 := [181, 1, 3, 42, 42, 182, 1, 34, 181, 1, 47, 42, 16, 45, 182, 1, 37, 42, 42, 182, 1, 34]
abbrev dktX6_readRule_6 : List UInt8 := dkwX6_readRule_6 ++ dktX6_readRule_7
def dkwX6_readRule_5 : List UInt8 := [42, 3, 181, 1, 53, 42, 16, 64, 16, 64, 182, 1, 6, 153, 0, 35, 42, 89, 180, 1, 3, 4, 96]
abbrev dktX6_readRule_5 : List UInt8 := dkwX6_readRule_5 ++ dktX6_readRule_6
def dkwX6_readRule_4 : List UInt8 := [182, 1, 44, 167, 255, 231, 42, 16, 41, 182, 1, 37, 42, 3, 181, 1, 47, 42, 17, 3, 231, 181, 1, 50]
abbrev dktX6_readRule_4 : List UInt8 := dkwX6_readRule_4 ++ dktX6_readRule_5
def dkwX6_readRule_3 : List UInt8 := [42, 16, 44, 16, 44, 182, 1, 6, 153, 0, 20, 42, 89, 180, 1, 3, 4, 96, 181, 1, 3, 42]
abbrev dktX6_readRule_3 : List UInt8 := dkwX6_readRule_3 ++ dktX6_readRule_4
def dkwX6_readRule_2 : List UInt8 := [181, 1, 41, 42, 16, 40, 182, 1, 37, 42, 16, 97, 16, 102, 182, 1, 6, 153, 0, 35, 42, 182, 1, 44]
abbrev dktX6_readRule_2 : List UInt8 := dkwX6_readRule_2 ++ dktX6_readRule_3
def dkwX6_readRule_1 : List UInt8 := [42, 2, 181, 1, 28, 42, 42, 182, 1, 34, 181, 1, 31, 42, 16, 58, 182, 1, 37, 42, 42, 182, 1, 10]
abbrev dktX6_readRule_1 : List UInt8 := dkwX6_readRule_1 ++ dktX6_readRule_2
def dkwX6_readRule_0 : List UInt8 := [42, 42, 19, 1, 26, 182, 1, 20, 181, 1, 28, 42, 2, 181, 1, 31, 42, 180, 1, 28, 6, 160, 0, 22]
abbrev dktX6_readRule_0 : List UInt8 := dkwX6_readRule_0 ++ dktX6_readRule_1
theorem dksX6_readRule_0 : cX6_readRule.data.toList.drop 0 = dktX6_readRule_0 := by decide +kernel
theorem dksX6_readRule_1 : cX6_readRule.data.toList.drop 24 = dktX6_readRule_1 := dk_seg dksX6_readRule_0 24 rfl rfl
theorem dksX6_readRule_2 : cX6_readRule.data.toList.drop 48 = dktX6_readRule_2 := dk_seg dksX6_readRule_1 24 rfl rfl
theorem dksX6_readRule_3 : cX6_readRule.data.toList.drop 72 = dktX6_readRule_3 := dk_seg dksX6_readRule_2 24 rfl rfl
theorem dksX6_readRule_4 : cX6_readRule.data.toList.drop 94 = dktX6_readRule_4 := dk_seg dksX6_readRule_3 22 rfl rfl
theorem dksX6_readRule_5 : cX6_readRule.data.toList.drop 118 = dktX6_readRule_5 := dk_seg dksX6_readRule_4 24 rfl rfl
theorem dksX6_readRule_6 : cX6_readRule.data.toList.drop 141 = dktX6_readRule_6 := dk_seg dksX6_readRule_5 23 rfl rfl
theorem dksX6_readRule_7 : cX6_readRule.data.toList.drop 163 = dktX6_readRule_7 := dk_seg dksX6_readRule_6 22 rfl rfl
theorem dksX6_readRule_8 : cX6_readRule.data.toList.drop 187 = dktX6_readRule_8 := dk_seg dksX6_readRule_7 24 rfl rfl
theorem dX6_readRule_0 : decode cX6_readRule 0 = .ok (.aload_n 0, 1) := dk_42 (dk_at dksX6_readRule_0 0 rfl rfl)
theorem dX6_readRule_1 : decode cX6_readRule 1 = .ok (.aload_n 0, 1) := dk_42 (dk_at dksX6_readRule_0 1 rfl rfl)
theorem dX6_readRule_2 : decode cX6_readRule 2 = .ok (.ldc_w 282, 3) := dk_19 1 26 (dk_at dksX6_readRule_0 2 rfl rfl)
theorem dX6_readRule_5 : decode cX6_readRule 5 = .ok (.invokevirtual 276, 3) := dk_182 1 20 (dk_at dksX6_readRule_0 5 rfl rfl)
theorem dX6_readRule_8 : decode cX6_readRule 8 = .ok (.putfield 284, 3) := dk_181 1 28 (dk_at dksX6_readRule_0 8 rfl rfl)
theorem dX6_readRule_11 : decode cX6_readRule 11 = .ok (.aload_n 0, 1) := dk_42 (dk_at dksX6_readRule_0 11 rfl rfl)
theorem dX6_readRule_12 : decode cX6_readRule 12 = .ok (.iconst (-1), 1) := dk_2 (dk_at dksX6_readRule_0 12 rfl rfl)
theorem dX6_readRule_13 : decode cX6_readRule 13 = .ok (.putfield 287, 3) := dk_181 1 31 (dk_at dksX6_readRule_0 13 rfl rfl)
theorem dX6_readRule_16 : decode cX6_readRule 16 = .ok (.aload_n 0, 1) := dk_42 (dk_at dksX6_readRule_0 16 rfl rfl)
theorem dX6_readRule_17 : decode cX6_readRule 17 = .ok (.getfield 284, 3) := dk_180 1 28 (dk_at dksX6_readRule_0 17 rfl rfl)
theorem dX6_readRule_20 : decode cX6_readRule 20 = .ok (.iconst 3, 1) := dk_6 (dk_at dksX6_readRule_0 20 rfl rfl)
theorem dX6_readRule_21 : decode cX6_readRule 21 = .ok (.if_icmp .ne 22, 3) := dk_160 0 22 (dk_at dksX6_readRule_0 21 rfl rfl)
theorem dX6_readRule_24 : decode cX6_readRule 24 = .ok (.aload_n 0, 1) := dk_42 (dk_at dksX6_readRule_1 0 rfl rfl)
theorem dX6_readRule_25 : decode cX6_readRule 25 = .ok (.iconst (-1), 1) := dk_2 (dk_at dksX6_readRule_1 1 rfl rfl)
theorem dX6_readRule_26 : decode cX6_readRule 26 = .ok (.putfield 284, 3) := dk_181 1 28 (dk_at dksX6_readRule_1 2 rfl rfl)
theorem dX6_readRule_29 : decode cX6_readRule 29 = .ok (.aload_n 0, 1) := dk_42 (dk_at dksX6_readRule_1 5 rfl rfl)
theorem dX6_readRule_30 : decode cX6_readRule 30 = .ok (.aload_n 0, 1) := dk_42 (dk_at dksX6_readRule_1 6 rfl rfl)
theorem dX6_readRule_31 : decode cX6_readRule 31 = .ok (.invokevirtual 290, 3) := dk_182 1 34 (dk_at dksX6_readRule_1 7 rfl rfl)
theorem dX6_readRule_34 : decode cX6_readRule 34 = .ok (.putfield 287, 3) := dk_181 1 31 (dk_at dksX6_readRule_1 10 rfl rfl)
theorem dX6_readRule_37 : decode cX6_readRule 37 = .ok (.aload_n 0, 1) := dk_42 (dk_at dksX6_readRule_1 13 rfl rfl)
theorem dX6_readRule_38 : decode cX6_readRule 38 = .ok (.bipush 58, 2) := dk_16 58 (dk_at dksX6_readRule_1 14 rfl rfl)
theorem dX6_readRule_40 : decode cX6_readRule 40 = .ok (.invokevirtual 293, 3) := dk_182 1 37 (dk_at dksX6_readRule_1 16 rfl rfl)
theorem dX6_readRule_43 : decode cX6_readRule 43 = .ok (.aload_n 0, 1) := dk_42 (dk_at dksX6_readRule_1 19 rfl rfl)
theorem dX6_readRule_44 : decode cX6_readRule 44 = .ok (.aload_n 0, 1) := dk_42 (dk_at dksX6_readRule_1 20 rfl rfl)
theorem dX6_readRule_45 : decode cX6_readRule 45 = .ok (.invokevirtual 266, 3) := dk_182 1 10 (dk_at dksX6_readRule_1 21 rfl rfl)
theorem dX6_readRule_48 : decode cX6_readRule 48 = .ok (.putfield 297, 3) := dk_181 1 41 (dk_at dksX6_readRule_2 0 rfl rfl)
theorem dX6_readRule_51 : decode cX6_readRule 51 = .ok (.aload_n 0, 1) := dk_42 (dk_at dksX6_readRule_2 3 rfl rfl)
theorem dX6_readRule_52 : decode cX6_readRule 52 = .ok (.bipush 40, 2) := dk_16 40 (dk_at dksX6_readRule_2 4 rfl rfl)
theorem dX6_readRule_54 : decode cX6_readRule 54 = .ok (.invokevirtual 293, 3) := dk_182 1 37 (dk_at dksX6_readRule_2 6 rfl rfl)
theorem dX6_readRule_57 : decode cX6_readRule 57 = .ok (.aload_n 0, 1) := dk_42 (dk_at dksX6_readRule_2 9 rfl rfl)
theorem dX6_readRule_58 : decode cX6_readRule 58 = .ok (.bipush 97, 2) := dk_16 97 (dk_at dksX6_readRule_2 10 rfl rfl)
theorem dX6_readRule_60 : decode cX6_readRule 60 = .ok (.bipush 102, 2) := dk_16 102 (dk_at dksX6_readRule_2 12 rfl rfl)
theorem dX6_readRule_62 : decode cX6_readRule 62 = .ok (.invokevirtual 262, 3) := dk_182 1 6 (dk_at dksX6_readRule_2 14 rfl rfl)
theorem dX6_readRule_65 : decode cX6_readRule 65 = .ok (.ifCond .eq 35, 3) := dk_153 0 35 (dk_at dksX6_readRule_2 17 rfl rfl)
theorem dX6_readRule_68 : decode cX6_readRule 68 = .ok (.aload_n 0, 1) := dk_42 (dk_at dksX6_readRule_2 20 rfl rfl)
theorem dX6_readRule_69 : decode cX6_readRule 69 = .ok (.invokevirtual 300, 3) := dk_182 1 44 (dk_at dksX6_readRule_2 21 rfl rfl)
theorem dX6_readRule_72 : decode cX6_readRule 72 = .ok (.aload_n 0, 1) := dk_42 (dk_at dksX6_readRule_3 0 rfl rfl)
theorem dX6_readRule_73 : decode cX6_readRule 73 = .ok (.bipush 44, 2) := dk_16 44 (dk_at dksX6_readRule_3 1 rfl rfl)
theorem dX6_readRule_75 : decode cX6_readRule 75 = .ok (.bipush 44, 2) := dk_16 44 (dk_at dksX6_readRule_3 3 rfl rfl)
theorem dX6_readRule_77 : decode cX6_readRule 77 = .ok (.invokevirtual 262, 3) := dk_182 1 6 (dk_at dksX6_readRule_3 5 rfl rfl)
theorem dX6_readRule_80 : decode cX6_readRule 80 = .ok (.ifCond .eq 20, 3) := dk_153 0 20 (dk_at dksX6_readRule_3 8 rfl rfl)
theorem dX6_readRule_83 : decode cX6_readRule 83 = .ok (.aload_n 0, 1) := dk_42 (dk_at dksX6_readRule_3 11 rfl rfl)
theorem dX6_readRule_84 : decode cX6_readRule 84 = .ok (.dup, 1) := dk_89 (dk_at dksX6_readRule_3 12 rfl rfl)
theorem dX6_readRule_85 : decode cX6_readRule 85 = .ok (.getfield 259, 3) := dk_180 1 3 (dk_at dksX6_readRule_3 13 rfl rfl)
theorem dX6_readRule_88 : decode cX6_readRule 88 = .ok (.iconst 1, 1) := dk_4 (dk_at dksX6_readRule_3 16 rfl rfl)
theorem dX6_readRule_89 : decode cX6_readRule 89 = .ok (.iadd, 1) := dk_96 (dk_at dksX6_readRule_3 17 rfl rfl)
theorem dX6_readRule_90 : decode cX6_readRule 90 = .ok (.putfield 259, 3) := dk_181 1 3 (dk_at dksX6_readRule_3 18 rfl rfl)
theorem dX6_readRule_93 : decode cX6_readRule 93 = .ok (.aload_n 0, 1) := dk_42 (dk_at dksX6_readRule_3 21 rfl rfl)
theorem dX6_readRule_94 : decode cX6_readRule 94 = .ok (.invokevirtual 300, 3) := dk_182 1 44 (dk_at dksX6_readRule_4 0 rfl rfl)
theorem dX6_readRule_97 : decode cX6_readRule 97 = .ok (.goto (-25), 3) := dk_167 255 231 (dk_at dksX6_readRule_4 3 rfl rfl)
theorem dX6_readRule_100 : decode cX6_readRule 100 = .ok (.aload_n 0, 1) := dk_42 (dk_at dksX6_readRule_4 6 rfl rfl)
theorem dX6_readRule_101 : decode cX6_readRule 101 = .ok (.bipush 41, 2) := dk_16 41 (dk_at dksX6_readRule_4 7 rfl rfl)
theorem dX6_readRule_103 : decode cX6_readRule 103 = .ok (.invokevirtual 293, 3) := dk_182 1 37 (dk_at dksX6_readRule_4 9 rfl rfl)
theorem dX6_readRule_106 : decode cX6_readRule 106 = .ok (.aload_n 0, 1) := dk_42 (dk_at dksX6_readRule_4 12 rfl rfl)
theorem dX6_readRule_107 : decode cX6_readRule 107 = .ok (.iconst 0, 1) := dk_3 (dk_at dksX6_readRule_4 13 rfl rfl)
theorem dX6_readRule_108 : decode cX6_readRule 108 = .ok (.putfield 303, 3) := dk_181 1 47 (dk_at dksX6_readRule_4 14 rfl rfl)
theorem dX6_readRule_111 : decode cX6_readRule 111 = .ok (.aload_n 0, 1) := dk_42 (dk_at dksX6_readRule_4 17 rfl rfl)
theorem dX6_readRule_112 : decode cX6_readRule 112 = .ok (.sipush 999, 3) := dk_17 3 231 (dk_at dksX6_readRule_4 18 rfl rfl)
theorem dX6_readRule_115 : decode cX6_readRule 115 = .ok (.putfield 306, 3) := dk_181 1 50 (dk_at dksX6_readRule_4 21 rfl rfl)
theorem dX6_readRule_118 : decode cX6_readRule 118 = .ok (.aload_n 0, 1) := dk_42 (dk_at dksX6_readRule_5 0 rfl rfl)
theorem dX6_readRule_119 : decode cX6_readRule 119 = .ok (.iconst 0, 1) := dk_3 (dk_at dksX6_readRule_5 1 rfl rfl)
theorem dX6_readRule_120 : decode cX6_readRule 120 = .ok (.putfield 309, 3) := dk_181 1 53 (dk_at dksX6_readRule_5 2 rfl rfl)
theorem dX6_readRule_123 : decode cX6_readRule 123 = .ok (.aload_n 0, 1) := dk_42 (dk_at dksX6_readRule_5 5 rfl rfl)
theorem dX6_readRule_124 : decode cX6_readRule 124 = .ok (.bipush 64, 2) := dk_16 64 (dk_at dksX6_readRule_5 6 rfl rfl)
theorem dX6_readRule_126 : decode cX6_readRule 126 = .ok (.bipush 64, 2) := dk_16 64 (dk_at dksX6_readRule_5 8 rfl rfl)
theorem dX6_readRule_128 : decode cX6_readRule 128 = .ok (.invokevirtual 262, 3) := dk_182 1 6 (dk_at dksX6_readRule_5 10 rfl rfl)
theorem dX6_readRule_131 : decode cX6_readRule 131 = .ok (.ifCond .eq 35, 3) := dk_153 0 35 (dk_at dksX6_readRule_5 13 rfl rfl)
theorem dX6_readRule_134 : decode cX6_readRule 134 = .ok (.aload_n 0, 1) := dk_42 (dk_at dksX6_readRule_5 16 rfl rfl)
theorem dX6_readRule_135 : decode cX6_readRule 135 = .ok (.dup, 1) := dk_89 (dk_at dksX6_readRule_5 17 rfl rfl)
theorem dX6_readRule_136 : decode cX6_readRule 136 = .ok (.getfield 259, 3) := dk_180 1 3 (dk_at dksX6_readRule_5 18 rfl rfl)
theorem dX6_readRule_139 : decode cX6_readRule 139 = .ok (.iconst 1, 1) := dk_4 (dk_at dksX6_readRule_5 21 rfl rfl)
theorem dX6_readRule_140 : decode cX6_readRule 140 = .ok (.iadd, 1) := dk_96 (dk_at dksX6_readRule_5 22 rfl rfl)
theorem dX6_readRule_141 : decode cX6_readRule 141 = .ok (.putfield 259, 3) := dk_181 1 3 (dk_at dksX6_readRule_6 0 rfl rfl)
theorem dX6_readRule_144 : decode cX6_readRule 144 = .ok (.aload_n 0, 1) := dk_42 (dk_at dksX6_readRule_6 3 rfl rfl)
theorem dX6_readRule_145 : decode cX6_readRule 145 = .ok (.aload_n 0, 1) := dk_42 (dk_at dksX6_readRule_6 4 rfl rfl)
theorem dX6_readRule_146 : decode cX6_readRule 146 = .ok (.invokevirtual 290, 3) := dk_182 1 34 (dk_at dksX6_readRule_6 5 rfl rfl)
theorem dX6_readRule_149 : decode cX6_readRule 149 = .ok (.putfield 303, 3) := dk_181 1 47 (dk_at dksX6_readRule_6 8 rfl rfl)
theorem dX6_readRule_152 : decode cX6_readRule 152 = .ok (.aload_n 0, 1) := dk_42 (dk_at dksX6_readRule_6 11 rfl rfl)
theorem dX6_readRule_153 : decode cX6_readRule 153 = .ok (.bipush 45, 2) := dk_16 45 (dk_at dksX6_readRule_6 12 rfl rfl)
theorem dX6_readRule_155 : decode cX6_readRule 155 = .ok (.invokevirtual 293, 3) := dk_182 1 37 (dk_at dksX6_readRule_6 14 rfl rfl)
theorem dX6_readRule_158 : decode cX6_readRule 158 = .ok (.aload_n 0, 1) := dk_42 (dk_at dksX6_readRule_6 17 rfl rfl)
theorem dX6_readRule_159 : decode cX6_readRule 159 = .ok (.aload_n 0, 1) := dk_42 (dk_at dksX6_readRule_6 18 rfl rfl)
theorem dX6_readRule_160 : decode cX6_readRule 160 = .ok (.invokevirtual 290, 3) := dk_182 1 34 (dk_at dksX6_readRule_6 19 rfl rfl)
theorem dX6_readRule_163 : decode cX6_readRule 163 = .ok (.putfield 306, 3) := dk_181 1 50 (dk_at dksX6_readRule_7 0 rfl rfl)
theorem dX6_readRule_166 : decode cX6_readRule 166 = .ok (.aload_n 0, 1) := dk_42 (dk_at dksX6_readRule_7 3 rfl rfl)
theorem dX6_readRule_167 : decode cX6_readRule 167 = .ok (.bipush 33, 2) := dk_16 33 (dk_at dksX6_readRule_7 4 rfl rfl)
theorem dX6_readRule_169 : decode cX6_readRule 169 = .ok (.bipush 33, 2) := dk_16 33 (dk_at dksX6_readRule_7 6 rfl rfl)
theorem dX6_readRule_171 : decode cX6_readRule 171 = .ok (.invokevirtual 262, 3) := dk_182 1 6 (dk_at dksX6_readRule_7 8 rfl rfl)
theorem dX6_readRule_174 : decode cX6_readRule 174 = .ok (.ifCond .eq 21, 3) := dk_153 0 21 (dk_at dksX6_readRule_7 11 rfl rfl)
theorem dX6_readRule_177 : decode cX6_readRule 177 = .ok (.aload_n 0, 1) := dk_42 (dk_at dksX6_readRule_7 14 rfl rfl)
theorem dX6_readRule_178 : decode cX6_readRule 178 = .ok (.dup, 1) := dk_89 (dk_at dksX6_readRule_7 15 rfl rfl)
theorem dX6_readRule_179 : decode cX6_readRule 179 = .ok (.getfield 259, 3) := dk_180 1 3 (dk_at dksX6_readRule_7 16 rfl rfl)
theorem dX6_readRule_182 : decode cX6_readRule 182 = .ok (.iconst 1, 1) := dk_4 (dk_at dksX6_readRule_7 19 rfl rfl)
theorem dX6_readRule_183 : decode cX6_readRule 183 = .ok (.iadd, 1) := dk_96 (dk_at dksX6_readRule_7 20 rfl rfl)
theorem dX6_readRule_184 : decode cX6_readRule 184 = .ok (.putfield 259, 3) := dk_181 1 3 (dk_at dksX6_readRule_7 21 rfl rfl)
theorem dX6_readRule_187 : decode cX6_readRule 187 = .ok (.aload_n 0, 1) := dk_42 (dk_at dksX6_readRule_8 0 rfl rfl)
theorem dX6_readRule_188 : decode cX6_readRule 188 = .ok (.aload_n 0, 1) := dk_42 (dk_at dksX6_readRule_8 1 rfl rfl)
theorem dX6_readRule_189 : decode cX6_readRule 189 = .ok (.invokevirtual 266, 3) := dk_182 1 10 (dk_at dksX6_readRule_8 2 rfl rfl)
theorem dX6_readRule_192 : decode cX6_readRule 192 = .ok (.putfield 309, 3) := dk_181 1 53 (dk_at dksX6_readRule_8 5 rfl rfl)
theorem dX6_readRule_195 : decode cX6_readRule 195 = .ok (.return_, 1) := dk_177 (dk_at dksX6_readRule_8 8 rfl rfl)
abbrev cX6_oneOf : ByteArray := prog_27_method_86_code
def yX6_oneOf : MethodName := ⟨RX6, "oneOf", "(Ljava/lang/String;)I"⟩
def dkwX6_oneOf_3 : List UInt8 := [28, 172]
abbrev dktX6_oneOf_3 : List UInt8 := dkwX6_oneOf_3 ++ []
def dkwX6_oneOf_2 : List UInt8 := [181, 0, 255, 42, 89, 180, 1, 3, 42, 180, 0, 255, 153, 0, 7, 3, 167, 0, 4, 4, 96, 181, 1, 3]
abbrev dktX6_oneOf_2 : List UInt8 := dkwX6_oneOf_2 ++ dktX6_oneOf_3
def dkwX6_oneOf_1 : List UInt8 := [180, 1, 3, 52, 182, 1, 13, 167, 0, 4, 2, 61, 42, 28, 156, 0, 7, 4, 167, 0, 4, 3]
abbrev dktX6_oneOf_1 : List UInt8 := dkwX6_oneOf_1 ++ dktX6_oneOf_2
def dkwX6_oneOf_0 : List UInt8 := [42, 180, 0, 255, 154, 0, 30, 42, 180, 1, 3, 42, 180, 0, 252, 162, 0, 19, 43, 42, 180, 0, 52, 42]
abbrev dktX6_oneOf_0 : List UInt8 := dkwX6_oneOf_0 ++ dktX6_oneOf_1
theorem dksX6_oneOf_0 : cX6_oneOf.data.toList.drop 0 = dktX6_oneOf_0 := by decide +kernel
theorem dksX6_oneOf_1 : cX6_oneOf.data.toList.drop 24 = dktX6_oneOf_1 := dk_seg dksX6_oneOf_0 24 rfl rfl
theorem dksX6_oneOf_2 : cX6_oneOf.data.toList.drop 46 = dktX6_oneOf_2 := dk_seg dksX6_oneOf_1 22 rfl rfl
theorem dksX6_oneOf_3 : cX6_oneOf.data.toList.drop 70 = dktX6_oneOf_3 := dk_seg dksX6_oneOf_2 24 rfl rfl
theorem dX6_oneOf_0 : decode cX6_oneOf 0 = .ok (.aload_n 0, 1) := dk_42 (dk_at dksX6_oneOf_0 0 rfl rfl)
theorem dX6_oneOf_1 : decode cX6_oneOf 1 = .ok (.getfield 255, 3) := dk_180 0 255 (dk_at dksX6_oneOf_0 1 rfl rfl)
theorem dX6_oneOf_4 : decode cX6_oneOf 4 = .ok (.ifCond .ne 30, 3) := dk_154 0 30 (dk_at dksX6_oneOf_0 4 rfl rfl)
theorem dX6_oneOf_7 : decode cX6_oneOf 7 = .ok (.aload_n 0, 1) := dk_42 (dk_at dksX6_oneOf_0 7 rfl rfl)
theorem dX6_oneOf_8 : decode cX6_oneOf 8 = .ok (.getfield 259, 3) := dk_180 1 3 (dk_at dksX6_oneOf_0 8 rfl rfl)
theorem dX6_oneOf_11 : decode cX6_oneOf 11 = .ok (.aload_n 0, 1) := dk_42 (dk_at dksX6_oneOf_0 11 rfl rfl)
theorem dX6_oneOf_12 : decode cX6_oneOf 12 = .ok (.getfield 252, 3) := dk_180 0 252 (dk_at dksX6_oneOf_0 12 rfl rfl)
theorem dX6_oneOf_15 : decode cX6_oneOf 15 = .ok (.if_icmp .ge 19, 3) := dk_162 0 19 (dk_at dksX6_oneOf_0 15 rfl rfl)
theorem dX6_oneOf_18 : decode cX6_oneOf 18 = .ok (.aload_n 1, 1) := dk_43 (dk_at dksX6_oneOf_0 18 rfl rfl)
theorem dX6_oneOf_19 : decode cX6_oneOf 19 = .ok (.aload_n 0, 1) := dk_42 (dk_at dksX6_oneOf_0 19 rfl rfl)
theorem dX6_oneOf_20 : decode cX6_oneOf 20 = .ok (.getfield 52, 3) := dk_180 0 52 (dk_at dksX6_oneOf_0 20 rfl rfl)
theorem dX6_oneOf_23 : decode cX6_oneOf 23 = .ok (.aload_n 0, 1) := dk_42 (dk_at dksX6_oneOf_0 23 rfl rfl)
theorem dX6_oneOf_24 : decode cX6_oneOf 24 = .ok (.getfield 259, 3) := dk_180 1 3 (dk_at dksX6_oneOf_1 0 rfl rfl)
theorem dX6_oneOf_27 : decode cX6_oneOf 27 = .ok (.caload, 1) := dk_52 (dk_at dksX6_oneOf_1 3 rfl rfl)
theorem dX6_oneOf_28 : decode cX6_oneOf 28 = .ok (.invokevirtual 269, 3) := dk_182 1 13 (dk_at dksX6_oneOf_1 4 rfl rfl)
theorem dX6_oneOf_31 : decode cX6_oneOf 31 = .ok (.goto 4, 3) := dk_167 0 4 (dk_at dksX6_oneOf_1 7 rfl rfl)
theorem dX6_oneOf_34 : decode cX6_oneOf 34 = .ok (.iconst (-1), 1) := dk_2 (dk_at dksX6_oneOf_1 10 rfl rfl)
theorem dX6_oneOf_35 : decode cX6_oneOf 35 = .ok (.istore_n 2, 1) := dk_61 (dk_at dksX6_oneOf_1 11 rfl rfl)
theorem dX6_oneOf_36 : decode cX6_oneOf 36 = .ok (.aload_n 0, 1) := dk_42 (dk_at dksX6_oneOf_1 12 rfl rfl)
theorem dX6_oneOf_37 : decode cX6_oneOf 37 = .ok (.iload_n 2, 1) := dk_28 (dk_at dksX6_oneOf_1 13 rfl rfl)
theorem dX6_oneOf_38 : decode cX6_oneOf 38 = .ok (.ifCond .ge 7, 3) := dk_156 0 7 (dk_at dksX6_oneOf_1 14 rfl rfl)
theorem dX6_oneOf_41 : decode cX6_oneOf 41 = .ok (.iconst 1, 1) := dk_4 (dk_at dksX6_oneOf_1 17 rfl rfl)
theorem dX6_oneOf_42 : decode cX6_oneOf 42 = .ok (.goto 4, 3) := dk_167 0 4 (dk_at dksX6_oneOf_1 18 rfl rfl)
theorem dX6_oneOf_45 : decode cX6_oneOf 45 = .ok (.iconst 0, 1) := dk_3 (dk_at dksX6_oneOf_1 21 rfl rfl)
theorem dX6_oneOf_46 : decode cX6_oneOf 46 = .ok (.putfield 255, 3) := dk_181 0 255 (dk_at dksX6_oneOf_2 0 rfl rfl)
theorem dX6_oneOf_49 : decode cX6_oneOf 49 = .ok (.aload_n 0, 1) := dk_42 (dk_at dksX6_oneOf_2 3 rfl rfl)
theorem dX6_oneOf_50 : decode cX6_oneOf 50 = .ok (.dup, 1) := dk_89 (dk_at dksX6_oneOf_2 4 rfl rfl)
theorem dX6_oneOf_51 : decode cX6_oneOf 51 = .ok (.getfield 259, 3) := dk_180 1 3 (dk_at dksX6_oneOf_2 5 rfl rfl)
theorem dX6_oneOf_54 : decode cX6_oneOf 54 = .ok (.aload_n 0, 1) := dk_42 (dk_at dksX6_oneOf_2 8 rfl rfl)
theorem dX6_oneOf_55 : decode cX6_oneOf 55 = .ok (.getfield 255, 3) := dk_180 0 255 (dk_at dksX6_oneOf_2 9 rfl rfl)
theorem dX6_oneOf_58 : decode cX6_oneOf 58 = .ok (.ifCond .eq 7, 3) := dk_153 0 7 (dk_at dksX6_oneOf_2 12 rfl rfl)
theorem dX6_oneOf_61 : decode cX6_oneOf 61 = .ok (.iconst 0, 1) := dk_3 (dk_at dksX6_oneOf_2 15 rfl rfl)
theorem dX6_oneOf_62 : decode cX6_oneOf 62 = .ok (.goto 4, 3) := dk_167 0 4 (dk_at dksX6_oneOf_2 16 rfl rfl)
theorem dX6_oneOf_65 : decode cX6_oneOf 65 = .ok (.iconst 1, 1) := dk_4 (dk_at dksX6_oneOf_2 19 rfl rfl)
theorem dX6_oneOf_66 : decode cX6_oneOf 66 = .ok (.iadd, 1) := dk_96 (dk_at dksX6_oneOf_2 20 rfl rfl)
theorem dX6_oneOf_67 : decode cX6_oneOf 67 = .ok (.putfield 259, 3) := dk_181 1 3 (dk_at dksX6_oneOf_2 21 rfl rfl)
theorem dX6_oneOf_70 : decode cX6_oneOf 70 = .ok (.iload_n 2, 1) := dk_28 (dk_at dksX6_oneOf_3 0 rfl rfl)
theorem dX6_oneOf_71 : decode cX6_oneOf 71 = .ok (.ireturn, 1) := dk_172 (dk_at dksX6_oneOf_3 1 rfl rfl)
abbrev cX6_number : ByteArray := prog_27_method_85_code
def yX6_number : MethodName := ⟨RX6, "number", "()I"⟩
def dkwX6_number_1 : List UInt8 := [16, 10, 27, 104, 42, 182, 1, 10, 96, 60, 132, 2, 1, 167, 255, 227, 27, 172]
abbrev dktX6_number_1 : List UInt8 := dkwX6_number_1 ++ []
def dkwX6_number_0 : List UInt8 := [42, 182, 1, 10, 60, 4, 61, 28, 6, 162, 0, 30, 42, 16, 48, 16, 57, 182, 1, 6, 153, 0, 19]
abbrev dktX6_number_0 : List UInt8 := dkwX6_number_0 ++ dktX6_number_1
theorem dksX6_number_0 : cX6_number.data.toList.drop 0 = dktX6_number_0 := by decide +kernel
theorem dksX6_number_1 : cX6_number.data.toList.drop 23 = dktX6_number_1 := dk_seg dksX6_number_0 23 rfl rfl
theorem dX6_number_0 : decode cX6_number 0 = .ok (.aload_n 0, 1) := dk_42 (dk_at dksX6_number_0 0 rfl rfl)
theorem dX6_number_1 : decode cX6_number 1 = .ok (.invokevirtual 266, 3) := dk_182 1 10 (dk_at dksX6_number_0 1 rfl rfl)
theorem dX6_number_4 : decode cX6_number 4 = .ok (.istore_n 1, 1) := dk_60 (dk_at dksX6_number_0 4 rfl rfl)
theorem dX6_number_5 : decode cX6_number 5 = .ok (.iconst 1, 1) := dk_4 (dk_at dksX6_number_0 5 rfl rfl)
theorem dX6_number_6 : decode cX6_number 6 = .ok (.istore_n 2, 1) := dk_61 (dk_at dksX6_number_0 6 rfl rfl)
theorem dX6_number_7 : decode cX6_number 7 = .ok (.iload_n 2, 1) := dk_28 (dk_at dksX6_number_0 7 rfl rfl)
theorem dX6_number_8 : decode cX6_number 8 = .ok (.iconst 3, 1) := dk_6 (dk_at dksX6_number_0 8 rfl rfl)
theorem dX6_number_9 : decode cX6_number 9 = .ok (.if_icmp .ge 30, 3) := dk_162 0 30 (dk_at dksX6_number_0 9 rfl rfl)
theorem dX6_number_12 : decode cX6_number 12 = .ok (.aload_n 0, 1) := dk_42 (dk_at dksX6_number_0 12 rfl rfl)
theorem dX6_number_13 : decode cX6_number 13 = .ok (.bipush 48, 2) := dk_16 48 (dk_at dksX6_number_0 13 rfl rfl)
theorem dX6_number_15 : decode cX6_number 15 = .ok (.bipush 57, 2) := dk_16 57 (dk_at dksX6_number_0 15 rfl rfl)
theorem dX6_number_17 : decode cX6_number 17 = .ok (.invokevirtual 262, 3) := dk_182 1 6 (dk_at dksX6_number_0 17 rfl rfl)
theorem dX6_number_20 : decode cX6_number 20 = .ok (.ifCond .eq 19, 3) := dk_153 0 19 (dk_at dksX6_number_0 20 rfl rfl)
theorem dX6_number_23 : decode cX6_number 23 = .ok (.bipush 10, 2) := dk_16 10 (dk_at dksX6_number_1 0 rfl rfl)
theorem dX6_number_25 : decode cX6_number 25 = .ok (.iload_n 1, 1) := dk_27 (dk_at dksX6_number_1 2 rfl rfl)
theorem dX6_number_26 : decode cX6_number 26 = .ok (.imul, 1) := dk_104 (dk_at dksX6_number_1 3 rfl rfl)
theorem dX6_number_27 : decode cX6_number 27 = .ok (.aload_n 0, 1) := dk_42 (dk_at dksX6_number_1 4 rfl rfl)
theorem dX6_number_28 : decode cX6_number 28 = .ok (.invokevirtual 266, 3) := dk_182 1 10 (dk_at dksX6_number_1 5 rfl rfl)
theorem dX6_number_31 : decode cX6_number 31 = .ok (.iadd, 1) := dk_96 (dk_at dksX6_number_1 8 rfl rfl)
theorem dX6_number_32 : decode cX6_number 32 = .ok (.istore_n 1, 1) := dk_60 (dk_at dksX6_number_1 9 rfl rfl)
theorem dX6_number_33 : decode cX6_number 33 = .ok (.iinc 2 1, 3) := dk_132 2 1 (dk_at dksX6_number_1 10 rfl rfl)
theorem dX6_number_36 : decode cX6_number 36 = .ok (.goto (-29), 3) := dk_167 255 227 (dk_at dksX6_number_1 13 rfl rfl)
theorem dX6_number_39 : decode cX6_number 39 = .ok (.iload_n 1, 1) := dk_27 (dk_at dksX6_number_1 16 rfl rfl)
theorem dX6_number_40 : decode cX6_number 40 = .ok (.ireturn, 1) := dk_172 (dk_at dksX6_number_1 17 rfl rfl)
abbrev cX6_digit : ByteArray := prog_27_method_84_code
def yX6_digit : MethodName := ⟨RX6, "digit", "()I"⟩
def dkwX6_digit_2 : List UInt8 := [100, 52, 16, 48, 100, 172]
abbrev dktX6_digit_2 : List UInt8 := dkwX6_digit_2 ++ []
def dkwX6_digit_1 : List UInt8 := [153, 0, 5, 3, 172, 42, 89, 180, 1, 3, 4, 96, 181, 1, 3, 42, 180, 0, 52, 42, 180, 1, 3, 4]
abbrev dktX6_digit_1 : List UInt8 := dkwX6_digit_1 ++ dktX6_digit_2
def dkwX6_digit_0 : List UInt8 := [42, 42, 16, 48, 16, 57, 182, 1, 6, 154, 0, 7, 4, 167, 0, 4, 3, 181, 0, 255, 42, 180, 0, 255]
abbrev dktX6_digit_0 : List UInt8 := dkwX6_digit_0 ++ dktX6_digit_1
theorem dksX6_digit_0 : cX6_digit.data.toList.drop 0 = dktX6_digit_0 := by decide +kernel
theorem dksX6_digit_1 : cX6_digit.data.toList.drop 24 = dktX6_digit_1 := dk_seg dksX6_digit_0 24 rfl rfl
theorem dksX6_digit_2 : cX6_digit.data.toList.drop 48 = dktX6_digit_2 := dk_seg dksX6_digit_1 24 rfl rfl
theorem dX6_digit_0 : decode cX6_digit 0 = .ok (.aload_n 0, 1) := dk_42 (dk_at dksX6_digit_0 0 rfl rfl)
theorem dX6_digit_1 : decode cX6_digit 1 = .ok (.aload_n 0, 1) := dk_42 (dk_at dksX6_digit_0 1 rfl rfl)
theorem dX6_digit_2 : decode cX6_digit 2 = .ok (.bipush 48, 2) := dk_16 48 (dk_at dksX6_digit_0 2 rfl rfl)
theorem dX6_digit_4 : decode cX6_digit 4 = .ok (.bipush 57, 2) := dk_16 57 (dk_at dksX6_digit_0 4 rfl rfl)
theorem dX6_digit_6 : decode cX6_digit 6 = .ok (.invokevirtual 262, 3) := dk_182 1 6 (dk_at dksX6_digit_0 6 rfl rfl)
theorem dX6_digit_9 : decode cX6_digit 9 = .ok (.ifCond .ne 7, 3) := dk_154 0 7 (dk_at dksX6_digit_0 9 rfl rfl)
theorem dX6_digit_12 : decode cX6_digit 12 = .ok (.iconst 1, 1) := dk_4 (dk_at dksX6_digit_0 12 rfl rfl)
theorem dX6_digit_13 : decode cX6_digit 13 = .ok (.goto 4, 3) := dk_167 0 4 (dk_at dksX6_digit_0 13 rfl rfl)
theorem dX6_digit_16 : decode cX6_digit 16 = .ok (.iconst 0, 1) := dk_3 (dk_at dksX6_digit_0 16 rfl rfl)
theorem dX6_digit_17 : decode cX6_digit 17 = .ok (.putfield 255, 3) := dk_181 0 255 (dk_at dksX6_digit_0 17 rfl rfl)
theorem dX6_digit_20 : decode cX6_digit 20 = .ok (.aload_n 0, 1) := dk_42 (dk_at dksX6_digit_0 20 rfl rfl)
theorem dX6_digit_21 : decode cX6_digit 21 = .ok (.getfield 255, 3) := dk_180 0 255 (dk_at dksX6_digit_0 21 rfl rfl)
theorem dX6_digit_24 : decode cX6_digit 24 = .ok (.ifCond .eq 5, 3) := dk_153 0 5 (dk_at dksX6_digit_1 0 rfl rfl)
theorem dX6_digit_27 : decode cX6_digit 27 = .ok (.iconst 0, 1) := dk_3 (dk_at dksX6_digit_1 3 rfl rfl)
theorem dX6_digit_28 : decode cX6_digit 28 = .ok (.ireturn, 1) := dk_172 (dk_at dksX6_digit_1 4 rfl rfl)
theorem dX6_digit_29 : decode cX6_digit 29 = .ok (.aload_n 0, 1) := dk_42 (dk_at dksX6_digit_1 5 rfl rfl)
theorem dX6_digit_30 : decode cX6_digit 30 = .ok (.dup, 1) := dk_89 (dk_at dksX6_digit_1 6 rfl rfl)
theorem dX6_digit_31 : decode cX6_digit 31 = .ok (.getfield 259, 3) := dk_180 1 3 (dk_at dksX6_digit_1 7 rfl rfl)
theorem dX6_digit_34 : decode cX6_digit 34 = .ok (.iconst 1, 1) := dk_4 (dk_at dksX6_digit_1 10 rfl rfl)
theorem dX6_digit_35 : decode cX6_digit 35 = .ok (.iadd, 1) := dk_96 (dk_at dksX6_digit_1 11 rfl rfl)
theorem dX6_digit_36 : decode cX6_digit 36 = .ok (.putfield 259, 3) := dk_181 1 3 (dk_at dksX6_digit_1 12 rfl rfl)
theorem dX6_digit_39 : decode cX6_digit 39 = .ok (.aload_n 0, 1) := dk_42 (dk_at dksX6_digit_1 15 rfl rfl)
theorem dX6_digit_40 : decode cX6_digit 40 = .ok (.getfield 52, 3) := dk_180 0 52 (dk_at dksX6_digit_1 16 rfl rfl)
theorem dX6_digit_43 : decode cX6_digit 43 = .ok (.aload_n 0, 1) := dk_42 (dk_at dksX6_digit_1 19 rfl rfl)
theorem dX6_digit_44 : decode cX6_digit 44 = .ok (.getfield 259, 3) := dk_180 1 3 (dk_at dksX6_digit_1 20 rfl rfl)
theorem dX6_digit_47 : decode cX6_digit 47 = .ok (.iconst 1, 1) := dk_4 (dk_at dksX6_digit_1 23 rfl rfl)
theorem dX6_digit_48 : decode cX6_digit 48 = .ok (.isub, 1) := dk_100 (dk_at dksX6_digit_2 0 rfl rfl)
theorem dX6_digit_49 : decode cX6_digit 49 = .ok (.caload, 1) := dk_52 (dk_at dksX6_digit_2 1 rfl rfl)
theorem dX6_digit_50 : decode cX6_digit 50 = .ok (.bipush 48, 2) := dk_16 48 (dk_at dksX6_digit_2 2 rfl rfl)
theorem dX6_digit_52 : decode cX6_digit 52 = .ok (.isub, 1) := dk_100 (dk_at dksX6_digit_2 4 rfl rfl)
theorem dX6_digit_53 : decode cX6_digit 53 = .ok (.ireturn, 1) := dk_172 (dk_at dksX6_digit_2 5 rfl rfl)
abbrev cX6_isHere : ByteArray := prog_27_method_82_code
def yX6_isHere : MethodName := ⟨RX6, "isHere", "(CC)Z"⟩
def dkwX6_isHere_1 : List UInt8 := [180, 1, 3, 52, 27, 28, 184, 0, 80, 153, 0, 7, 4, 167, 0, 4, 3, 172]
abbrev dktX6_isHere_1 : List UInt8 := dkwX6_isHere_1 ++ []
def dkwX6_isHere_0 : List UInt8 := [42, 180, 0, 255, 154, 0, 35, 42, 180, 1, 3, 42, 180, 0, 252, 162, 0, 24, 42, 180, 0, 52, 42]
abbrev dktX6_isHere_0 : List UInt8 := dkwX6_isHere_0 ++ dktX6_isHere_1
theorem dksX6_isHere_0 : cX6_isHere.data.toList.drop 0 = dktX6_isHere_0 := by decide +kernel
theorem dksX6_isHere_1 : cX6_isHere.data.toList.drop 23 = dktX6_isHere_1 := dk_seg dksX6_isHere_0 23 rfl rfl
theorem dX6_isHere_0 : decode cX6_isHere 0 = .ok (.aload_n 0, 1) := dk_42 (dk_at dksX6_isHere_0 0 rfl rfl)
theorem dX6_isHere_1 : decode cX6_isHere 1 = .ok (.getfield 255, 3) := dk_180 0 255 (dk_at dksX6_isHere_0 1 rfl rfl)
theorem dX6_isHere_4 : decode cX6_isHere 4 = .ok (.ifCond .ne 35, 3) := dk_154 0 35 (dk_at dksX6_isHere_0 4 rfl rfl)
theorem dX6_isHere_7 : decode cX6_isHere 7 = .ok (.aload_n 0, 1) := dk_42 (dk_at dksX6_isHere_0 7 rfl rfl)
theorem dX6_isHere_8 : decode cX6_isHere 8 = .ok (.getfield 259, 3) := dk_180 1 3 (dk_at dksX6_isHere_0 8 rfl rfl)
theorem dX6_isHere_11 : decode cX6_isHere 11 = .ok (.aload_n 0, 1) := dk_42 (dk_at dksX6_isHere_0 11 rfl rfl)
theorem dX6_isHere_12 : decode cX6_isHere 12 = .ok (.getfield 252, 3) := dk_180 0 252 (dk_at dksX6_isHere_0 12 rfl rfl)
theorem dX6_isHere_15 : decode cX6_isHere 15 = .ok (.if_icmp .ge 24, 3) := dk_162 0 24 (dk_at dksX6_isHere_0 15 rfl rfl)
theorem dX6_isHere_18 : decode cX6_isHere 18 = .ok (.aload_n 0, 1) := dk_42 (dk_at dksX6_isHere_0 18 rfl rfl)
theorem dX6_isHere_19 : decode cX6_isHere 19 = .ok (.getfield 52, 3) := dk_180 0 52 (dk_at dksX6_isHere_0 19 rfl rfl)
theorem dX6_isHere_22 : decode cX6_isHere 22 = .ok (.aload_n 0, 1) := dk_42 (dk_at dksX6_isHere_0 22 rfl rfl)
theorem dX6_isHere_23 : decode cX6_isHere 23 = .ok (.getfield 259, 3) := dk_180 1 3 (dk_at dksX6_isHere_1 0 rfl rfl)
theorem dX6_isHere_26 : decode cX6_isHere 26 = .ok (.caload, 1) := dk_52 (dk_at dksX6_isHere_1 3 rfl rfl)
theorem dX6_isHere_27 : decode cX6_isHere 27 = .ok (.iload_n 1, 1) := dk_27 (dk_at dksX6_isHere_1 4 rfl rfl)
theorem dX6_isHere_28 : decode cX6_isHere 28 = .ok (.iload_n 2, 1) := dk_28 (dk_at dksX6_isHere_1 5 rfl rfl)
theorem dX6_isHere_29 : decode cX6_isHere 29 = .ok (.invokestatic 80, 3) := dk_184 0 80 (dk_at dksX6_isHere_1 6 rfl rfl)
theorem dX6_isHere_32 : decode cX6_isHere 32 = .ok (.ifCond .eq 7, 3) := dk_153 0 7 (dk_at dksX6_isHere_1 9 rfl rfl)
theorem dX6_isHere_35 : decode cX6_isHere 35 = .ok (.iconst 1, 1) := dk_4 (dk_at dksX6_isHere_1 12 rfl rfl)
theorem dX6_isHere_36 : decode cX6_isHere 36 = .ok (.goto 4, 3) := dk_167 0 4 (dk_at dksX6_isHere_1 13 rfl rfl)
theorem dX6_isHere_39 : decode cX6_isHere 39 = .ok (.iconst 0, 1) := dk_3 (dk_at dksX6_isHere_1 16 rfl rfl)
theorem dX6_isHere_40 : decode cX6_isHere 40 = .ok (.ireturn, 1) := dk_172 (dk_at dksX6_isHere_1 17 rfl rfl)
abbrev cX6_sign : ByteArray := prog_27_method_83_code
def yX6_sign : MethodName := ⟨RX6, "sign", "(C)V"⟩
def dkwX6_sign_1 : List UInt8 := [180, 0, 255, 153, 0, 7, 3, 167, 0, 4, 4, 96, 181, 1, 3, 177]
abbrev dktX6_sign_1 : List UInt8 := dkwX6_sign_1 ++ []
def dkwX6_sign_0 : List UInt8 := [42, 42, 27, 27, 182, 1, 6, 154, 0, 7, 4, 167, 0, 4, 3, 181, 0, 255, 42, 89, 180, 1, 3, 42]
abbrev dktX6_sign_0 : List UInt8 := dkwX6_sign_0 ++ dktX6_sign_1
theorem dksX6_sign_0 : cX6_sign.data.toList.drop 0 = dktX6_sign_0 := by decide +kernel
theorem dksX6_sign_1 : cX6_sign.data.toList.drop 24 = dktX6_sign_1 := dk_seg dksX6_sign_0 24 rfl rfl
theorem dX6_sign_0 : decode cX6_sign 0 = .ok (.aload_n 0, 1) := dk_42 (dk_at dksX6_sign_0 0 rfl rfl)
theorem dX6_sign_1 : decode cX6_sign 1 = .ok (.aload_n 0, 1) := dk_42 (dk_at dksX6_sign_0 1 rfl rfl)
theorem dX6_sign_2 : decode cX6_sign 2 = .ok (.iload_n 1, 1) := dk_27 (dk_at dksX6_sign_0 2 rfl rfl)
theorem dX6_sign_3 : decode cX6_sign 3 = .ok (.iload_n 1, 1) := dk_27 (dk_at dksX6_sign_0 3 rfl rfl)
theorem dX6_sign_4 : decode cX6_sign 4 = .ok (.invokevirtual 262, 3) := dk_182 1 6 (dk_at dksX6_sign_0 4 rfl rfl)
theorem dX6_sign_7 : decode cX6_sign 7 = .ok (.ifCond .ne 7, 3) := dk_154 0 7 (dk_at dksX6_sign_0 7 rfl rfl)
theorem dX6_sign_10 : decode cX6_sign 10 = .ok (.iconst 1, 1) := dk_4 (dk_at dksX6_sign_0 10 rfl rfl)
theorem dX6_sign_11 : decode cX6_sign 11 = .ok (.goto 4, 3) := dk_167 0 4 (dk_at dksX6_sign_0 11 rfl rfl)
theorem dX6_sign_14 : decode cX6_sign 14 = .ok (.iconst 0, 1) := dk_3 (dk_at dksX6_sign_0 14 rfl rfl)
theorem dX6_sign_15 : decode cX6_sign 15 = .ok (.putfield 255, 3) := dk_181 0 255 (dk_at dksX6_sign_0 15 rfl rfl)
theorem dX6_sign_18 : decode cX6_sign 18 = .ok (.aload_n 0, 1) := dk_42 (dk_at dksX6_sign_0 18 rfl rfl)
theorem dX6_sign_19 : decode cX6_sign 19 = .ok (.dup, 1) := dk_89 (dk_at dksX6_sign_0 19 rfl rfl)
theorem dX6_sign_20 : decode cX6_sign 20 = .ok (.getfield 259, 3) := dk_180 1 3 (dk_at dksX6_sign_0 20 rfl rfl)
theorem dX6_sign_23 : decode cX6_sign 23 = .ok (.aload_n 0, 1) := dk_42 (dk_at dksX6_sign_0 23 rfl rfl)
theorem dX6_sign_24 : decode cX6_sign 24 = .ok (.getfield 255, 3) := dk_180 0 255 (dk_at dksX6_sign_1 0 rfl rfl)
theorem dX6_sign_27 : decode cX6_sign 27 = .ok (.ifCond .eq 7, 3) := dk_153 0 7 (dk_at dksX6_sign_1 3 rfl rfl)
theorem dX6_sign_30 : decode cX6_sign 30 = .ok (.iconst 0, 1) := dk_3 (dk_at dksX6_sign_1 6 rfl rfl)
theorem dX6_sign_31 : decode cX6_sign 31 = .ok (.goto 4, 3) := dk_167 0 4 (dk_at dksX6_sign_1 7 rfl rfl)
theorem dX6_sign_34 : decode cX6_sign 34 = .ok (.iconst 1, 1) := dk_4 (dk_at dksX6_sign_1 10 rfl rfl)
theorem dX6_sign_35 : decode cX6_sign 35 = .ok (.iadd, 1) := dk_96 (dk_at dksX6_sign_1 11 rfl rfl)
theorem dX6_sign_36 : decode cX6_sign 36 = .ok (.putfield 259, 3) := dk_181 1 3 (dk_at dksX6_sign_1 12 rfl rfl)
theorem dX6_sign_39 : decode cX6_sign 39 = .ok (.return_, 1) := dk_177 (dk_at dksX6_sign_1 15 rfl rfl)
abbrev cX6_readTest : ByteArray := prog_27_method_87_code
def yX6_readTest : MethodName := ⟨RX6, "readTest", "()V"⟩
def dkwX6_readTest_1 : List UInt8 := [180, 0, 255, 154, 0, 10, 42, 27, 28, 29, 182, 0, 164, 177]
abbrev dktX6_readTest_1 : List UInt8 := dkwX6_readTest_1 ++ []
def dkwX6_readTest_0 : List UInt8 := [42, 19, 1, 18, 182, 1, 20, 60, 42, 19, 1, 24, 182, 1, 20, 61, 42, 182, 1, 10, 62, 42]
abbrev dktX6_readTest_0 : List UInt8 := dkwX6_readTest_0 ++ dktX6_readTest_1
theorem dksX6_readTest_0 : cX6_readTest.data.toList.drop 0 = dktX6_readTest_0 := by decide +kernel
theorem dksX6_readTest_1 : cX6_readTest.data.toList.drop 22 = dktX6_readTest_1 := dk_seg dksX6_readTest_0 22 rfl rfl
theorem dX6_readTest_0 : decode cX6_readTest 0 = .ok (.aload_n 0, 1) := dk_42 (dk_at dksX6_readTest_0 0 rfl rfl)
theorem dX6_readTest_1 : decode cX6_readTest 1 = .ok (.ldc_w 274, 3) := dk_19 1 18 (dk_at dksX6_readTest_0 1 rfl rfl)
theorem dX6_readTest_4 : decode cX6_readTest 4 = .ok (.invokevirtual 276, 3) := dk_182 1 20 (dk_at dksX6_readTest_0 4 rfl rfl)
theorem dX6_readTest_7 : decode cX6_readTest 7 = .ok (.istore_n 1, 1) := dk_60 (dk_at dksX6_readTest_0 7 rfl rfl)
theorem dX6_readTest_8 : decode cX6_readTest 8 = .ok (.aload_n 0, 1) := dk_42 (dk_at dksX6_readTest_0 8 rfl rfl)
theorem dX6_readTest_9 : decode cX6_readTest 9 = .ok (.ldc_w 280, 3) := dk_19 1 24 (dk_at dksX6_readTest_0 9 rfl rfl)
theorem dX6_readTest_12 : decode cX6_readTest 12 = .ok (.invokevirtual 276, 3) := dk_182 1 20 (dk_at dksX6_readTest_0 12 rfl rfl)
theorem dX6_readTest_15 : decode cX6_readTest 15 = .ok (.istore_n 2, 1) := dk_61 (dk_at dksX6_readTest_0 15 rfl rfl)
theorem dX6_readTest_16 : decode cX6_readTest 16 = .ok (.aload_n 0, 1) := dk_42 (dk_at dksX6_readTest_0 16 rfl rfl)
theorem dX6_readTest_17 : decode cX6_readTest 17 = .ok (.invokevirtual 266, 3) := dk_182 1 10 (dk_at dksX6_readTest_0 17 rfl rfl)
theorem dX6_readTest_20 : decode cX6_readTest 20 = .ok (.istore_n 3, 1) := dk_62 (dk_at dksX6_readTest_0 20 rfl rfl)
theorem dX6_readTest_21 : decode cX6_readTest 21 = .ok (.aload_n 0, 1) := dk_42 (dk_at dksX6_readTest_0 21 rfl rfl)
theorem dX6_readTest_22 : decode cX6_readTest 22 = .ok (.getfield 255, 3) := dk_180 0 255 (dk_at dksX6_readTest_1 0 rfl rfl)
theorem dX6_readTest_25 : decode cX6_readTest 25 = .ok (.ifCond .ne 10, 3) := dk_154 0 10 (dk_at dksX6_readTest_1 3 rfl rfl)
theorem dX6_readTest_28 : decode cX6_readTest 28 = .ok (.aload_n 0, 1) := dk_42 (dk_at dksX6_readTest_1 6 rfl rfl)
theorem dX6_readTest_29 : decode cX6_readTest 29 = .ok (.iload_n 1, 1) := dk_27 (dk_at dksX6_readTest_1 7 rfl rfl)
theorem dX6_readTest_30 : decode cX6_readTest 30 = .ok (.iload_n 2, 1) := dk_28 (dk_at dksX6_readTest_1 8 rfl rfl)
theorem dX6_readTest_31 : decode cX6_readTest 31 = .ok (.iload_n 3, 1) := dk_29 (dk_at dksX6_readTest_1 9 rfl rfl)
theorem dX6_readTest_32 : decode cX6_readTest 32 = .ok (.invokevirtual 164, 3) := dk_182 0 164 (dk_at dksX6_readTest_1 10 rfl rfl)
theorem dX6_readTest_35 : decode cX6_readTest 35 = .ok (.return_, 1) := dk_177 (dk_at dksX6_readTest_1 13 rfl rfl)
abbrev cX6_faultPosition : ByteArray := prog_27_method_90_code
def yX6_faultPosition : MethodName := ⟨RX6, "faultPosition", "()I"⟩
def dkwX6_faultPosition_1 : List UInt8 := [167, 0, 7, 42, 180, 0, 56, 172]
abbrev dktX6_faultPosition_1 : List UInt8 := dkwX6_faultPosition_1 ++ []
def dkwX6_faultPosition_0 : List UInt8 := [42, 42, 180, 0, 56, 156, 0, 7, 4, 167, 0, 4, 3, 181, 0, 62, 42, 180, 0, 62, 158, 0, 7, 3]
abbrev dktX6_faultPosition_0 : List UInt8 := dkwX6_faultPosition_0 ++ dktX6_faultPosition_1
theorem dksX6_faultPosition_0 : cX6_faultPosition.data.toList.drop 0 = dktX6_faultPosition_0 := by decide +kernel
theorem dksX6_faultPosition_1 : cX6_faultPosition.data.toList.drop 24 = dktX6_faultPosition_1 := dk_seg dksX6_faultPosition_0 24 rfl rfl
theorem dX6_faultPosition_0 : decode cX6_faultPosition 0 = .ok (.aload_n 0, 1) := dk_42 (dk_at dksX6_faultPosition_0 0 rfl rfl)
theorem dX6_faultPosition_1 : decode cX6_faultPosition 1 = .ok (.aload_n 0, 1) := dk_42 (dk_at dksX6_faultPosition_0 1 rfl rfl)
theorem dX6_faultPosition_2 : decode cX6_faultPosition 2 = .ok (.getfield 56, 3) := dk_180 0 56 (dk_at dksX6_faultPosition_0 2 rfl rfl)
theorem dX6_faultPosition_5 : decode cX6_faultPosition 5 = .ok (.ifCond .ge 7, 3) := dk_156 0 7 (dk_at dksX6_faultPosition_0 5 rfl rfl)
theorem dX6_faultPosition_8 : decode cX6_faultPosition 8 = .ok (.iconst 1, 1) := dk_4 (dk_at dksX6_faultPosition_0 8 rfl rfl)
theorem dX6_faultPosition_9 : decode cX6_faultPosition 9 = .ok (.goto 4, 3) := dk_167 0 4 (dk_at dksX6_faultPosition_0 9 rfl rfl)
theorem dX6_faultPosition_12 : decode cX6_faultPosition 12 = .ok (.iconst 0, 1) := dk_3 (dk_at dksX6_faultPosition_0 12 rfl rfl)
theorem dX6_faultPosition_13 : decode cX6_faultPosition 13 = .ok (.putfield 62, 3) := dk_181 0 62 (dk_at dksX6_faultPosition_0 13 rfl rfl)
theorem dX6_faultPosition_16 : decode cX6_faultPosition 16 = .ok (.aload_n 0, 1) := dk_42 (dk_at dksX6_faultPosition_0 16 rfl rfl)
theorem dX6_faultPosition_17 : decode cX6_faultPosition 17 = .ok (.getfield 62, 3) := dk_180 0 62 (dk_at dksX6_faultPosition_0 17 rfl rfl)
theorem dX6_faultPosition_20 : decode cX6_faultPosition 20 = .ok (.ifCond .le 7, 3) := dk_158 0 7 (dk_at dksX6_faultPosition_0 20 rfl rfl)
theorem dX6_faultPosition_23 : decode cX6_faultPosition 23 = .ok (.iconst 0, 1) := dk_3 (dk_at dksX6_faultPosition_0 23 rfl rfl)
theorem dX6_faultPosition_24 : decode cX6_faultPosition 24 = .ok (.goto 7, 3) := dk_167 0 7 (dk_at dksX6_faultPosition_1 0 rfl rfl)
theorem dX6_faultPosition_27 : decode cX6_faultPosition 27 = .ok (.aload_n 0, 1) := dk_42 (dk_at dksX6_faultPosition_1 3 rfl rfl)
theorem dX6_faultPosition_28 : decode cX6_faultPosition 28 = .ok (.getfield 56, 3) := dk_180 0 56 (dk_at dksX6_faultPosition_1 4 rfl rfl)
theorem dX6_faultPosition_31 : decode cX6_faultPosition 31 = .ok (.ireturn, 1) := dk_172 (dk_at dksX6_faultPosition_1 7 rfl rfl)
abbrev cX6_explain : ByteArray := prog_27_method_92_code
def yX6_explain : MethodName := ⟨RX6, "explain", "(III)I"⟩
def dkwX6_explain_6 : List UInt8 := [160, 0, 9, 19, 1, 94, 167, 0, 6, 19, 1, 96, 182, 1, 72, 42, 180, 1, 61, 172]
abbrev dktX6_explain_6 : List UInt8 := dkwX6_explain_6 ++ []
def dkwX6_explain_5 : List UInt8 := [167, 0, 6, 19, 1, 68, 182, 1, 72, 42, 21, 4, 154, 0, 9, 19, 1, 92, 167, 0, 18, 21, 4, 4]
abbrev dktX6_explain_5 : List UInt8 := dkwX6_explain_5 ++ dktX6_explain_6
def dkwX6_explain_4 : List UInt8 := [182, 1, 86, 182, 1, 72, 132, 5, 1, 167, 255, 196, 42, 42, 180, 0, 188, 154, 0, 9, 19, 1, 90]
abbrev dktX6_explain_4 : List UInt8 := dkwX6_explain_4 ++ dktX6_explain_5
def dkwX6_explain_3 : List UInt8 := [42, 187, 1, 76, 89, 183, 1, 78, 19, 1, 68, 182, 1, 79, 42, 180, 0, 36, 21, 5, 46, 182, 1, 83]
abbrev dktX6_explain_3 : List UInt8 := dkwX6_explain_3 ++ dktX6_explain_4
def dkwX6_explain_2 : List UInt8 := [180, 0, 188, 162, 0, 57, 42, 21, 5, 154, 0, 9, 19, 1, 68, 167, 0, 6, 19, 1, 70, 182, 1, 72]
abbrev dktX6_explain_2 : List UInt8 := dkwX6_explain_2 ++ dktX6_explain_3
def dkwX6_explain_1 : List UInt8 := [182, 0, 204, 54, 4, 42, 27, 28, 29, 182, 0, 207, 42, 3, 181, 1, 61, 3, 54, 5, 21, 5, 42]
abbrev dktX6_explain_1 : List UInt8 := dkwX6_explain_1 ++ dktX6_explain_2
def dkwX6_explain_0 : List UInt8 := [42, 42, 27, 28, 29, 182, 0, 199, 181, 0, 62, 42, 180, 0, 62, 158, 0, 5, 3, 172, 42, 27, 28, 29]
abbrev dktX6_explain_0 : List UInt8 := dkwX6_explain_0 ++ dktX6_explain_1
theorem dksX6_explain_0 : cX6_explain.data.toList.drop 0 = dktX6_explain_0 := by decide +kernel
theorem dksX6_explain_1 : cX6_explain.data.toList.drop 24 = dktX6_explain_1 := dk_seg dksX6_explain_0 24 rfl rfl
theorem dksX6_explain_2 : cX6_explain.data.toList.drop 47 = dktX6_explain_2 := dk_seg dksX6_explain_1 23 rfl rfl
theorem dksX6_explain_3 : cX6_explain.data.toList.drop 71 = dktX6_explain_3 := dk_seg dksX6_explain_2 24 rfl rfl
theorem dksX6_explain_4 : cX6_explain.data.toList.drop 95 = dktX6_explain_4 := dk_seg dksX6_explain_3 24 rfl rfl
theorem dksX6_explain_5 : cX6_explain.data.toList.drop 118 = dktX6_explain_5 := dk_seg dksX6_explain_4 23 rfl rfl
theorem dksX6_explain_6 : cX6_explain.data.toList.drop 142 = dktX6_explain_6 := dk_seg dksX6_explain_5 24 rfl rfl
theorem dX6_explain_0 : decode cX6_explain 0 = .ok (.aload_n 0, 1) := dk_42 (dk_at dksX6_explain_0 0 rfl rfl)
theorem dX6_explain_1 : decode cX6_explain 1 = .ok (.aload_n 0, 1) := dk_42 (dk_at dksX6_explain_0 1 rfl rfl)
theorem dX6_explain_2 : decode cX6_explain 2 = .ok (.iload_n 1, 1) := dk_27 (dk_at dksX6_explain_0 2 rfl rfl)
theorem dX6_explain_3 : decode cX6_explain 3 = .ok (.iload_n 2, 1) := dk_28 (dk_at dksX6_explain_0 3 rfl rfl)
theorem dX6_explain_4 : decode cX6_explain 4 = .ok (.iload_n 3, 1) := dk_29 (dk_at dksX6_explain_0 4 rfl rfl)
theorem dX6_explain_5 : decode cX6_explain 5 = .ok (.invokevirtual 199, 3) := dk_182 0 199 (dk_at dksX6_explain_0 5 rfl rfl)
theorem dX6_explain_8 : decode cX6_explain 8 = .ok (.putfield 62, 3) := dk_181 0 62 (dk_at dksX6_explain_0 8 rfl rfl)
theorem dX6_explain_11 : decode cX6_explain 11 = .ok (.aload_n 0, 1) := dk_42 (dk_at dksX6_explain_0 11 rfl rfl)
theorem dX6_explain_12 : decode cX6_explain 12 = .ok (.getfield 62, 3) := dk_180 0 62 (dk_at dksX6_explain_0 12 rfl rfl)
theorem dX6_explain_15 : decode cX6_explain 15 = .ok (.ifCond .le 5, 3) := dk_158 0 5 (dk_at dksX6_explain_0 15 rfl rfl)
theorem dX6_explain_18 : decode cX6_explain 18 = .ok (.iconst 0, 1) := dk_3 (dk_at dksX6_explain_0 18 rfl rfl)
theorem dX6_explain_19 : decode cX6_explain 19 = .ok (.ireturn, 1) := dk_172 (dk_at dksX6_explain_0 19 rfl rfl)
theorem dX6_explain_20 : decode cX6_explain 20 = .ok (.aload_n 0, 1) := dk_42 (dk_at dksX6_explain_0 20 rfl rfl)
theorem dX6_explain_21 : decode cX6_explain 21 = .ok (.iload_n 1, 1) := dk_27 (dk_at dksX6_explain_0 21 rfl rfl)
theorem dX6_explain_22 : decode cX6_explain 22 = .ok (.iload_n 2, 1) := dk_28 (dk_at dksX6_explain_0 22 rfl rfl)
theorem dX6_explain_23 : decode cX6_explain 23 = .ok (.iload_n 3, 1) := dk_29 (dk_at dksX6_explain_0 23 rfl rfl)
theorem dX6_explain_24 : decode cX6_explain 24 = .ok (.invokevirtual 204, 3) := dk_182 0 204 (dk_at dksX6_explain_1 0 rfl rfl)
theorem dX6_explain_27 : decode cX6_explain 27 = .ok (.istore 4, 2) := dk_54 4 (dk_at dksX6_explain_1 3 rfl rfl)
theorem dX6_explain_29 : decode cX6_explain 29 = .ok (.aload_n 0, 1) := dk_42 (dk_at dksX6_explain_1 5 rfl rfl)
theorem dX6_explain_30 : decode cX6_explain 30 = .ok (.iload_n 1, 1) := dk_27 (dk_at dksX6_explain_1 6 rfl rfl)
theorem dX6_explain_31 : decode cX6_explain 31 = .ok (.iload_n 2, 1) := dk_28 (dk_at dksX6_explain_1 7 rfl rfl)
theorem dX6_explain_32 : decode cX6_explain 32 = .ok (.iload_n 3, 1) := dk_29 (dk_at dksX6_explain_1 8 rfl rfl)
theorem dX6_explain_33 : decode cX6_explain 33 = .ok (.invokevirtual 207, 3) := dk_182 0 207 (dk_at dksX6_explain_1 9 rfl rfl)
theorem dX6_explain_36 : decode cX6_explain 36 = .ok (.aload_n 0, 1) := dk_42 (dk_at dksX6_explain_1 12 rfl rfl)
theorem dX6_explain_37 : decode cX6_explain 37 = .ok (.iconst 0, 1) := dk_3 (dk_at dksX6_explain_1 13 rfl rfl)
theorem dX6_explain_38 : decode cX6_explain 38 = .ok (.putfield 317, 3) := dk_181 1 61 (dk_at dksX6_explain_1 14 rfl rfl)
theorem dX6_explain_41 : decode cX6_explain 41 = .ok (.iconst 0, 1) := dk_3 (dk_at dksX6_explain_1 17 rfl rfl)
theorem dX6_explain_42 : decode cX6_explain 42 = .ok (.istore 5, 2) := dk_54 5 (dk_at dksX6_explain_1 18 rfl rfl)
theorem dX6_explain_44 : decode cX6_explain 44 = .ok (.iload 5, 2) := dk_21 5 (dk_at dksX6_explain_1 20 rfl rfl)
theorem dX6_explain_46 : decode cX6_explain 46 = .ok (.aload_n 0, 1) := dk_42 (dk_at dksX6_explain_1 22 rfl rfl)
theorem dX6_explain_47 : decode cX6_explain 47 = .ok (.getfield 188, 3) := dk_180 0 188 (dk_at dksX6_explain_2 0 rfl rfl)
theorem dX6_explain_50 : decode cX6_explain 50 = .ok (.if_icmp .ge 57, 3) := dk_162 0 57 (dk_at dksX6_explain_2 3 rfl rfl)
theorem dX6_explain_53 : decode cX6_explain 53 = .ok (.aload_n 0, 1) := dk_42 (dk_at dksX6_explain_2 6 rfl rfl)
theorem dX6_explain_54 : decode cX6_explain 54 = .ok (.iload 5, 2) := dk_21 5 (dk_at dksX6_explain_2 7 rfl rfl)
theorem dX6_explain_56 : decode cX6_explain 56 = .ok (.ifCond .ne 9, 3) := dk_154 0 9 (dk_at dksX6_explain_2 9 rfl rfl)
theorem dX6_explain_59 : decode cX6_explain 59 = .ok (.ldc_w 324, 3) := dk_19 1 68 (dk_at dksX6_explain_2 12 rfl rfl)
theorem dX6_explain_62 : decode cX6_explain 62 = .ok (.goto 6, 3) := dk_167 0 6 (dk_at dksX6_explain_2 15 rfl rfl)
theorem dX6_explain_65 : decode cX6_explain 65 = .ok (.ldc_w 326, 3) := dk_19 1 70 (dk_at dksX6_explain_2 18 rfl rfl)
theorem dX6_explain_68 : decode cX6_explain 68 = .ok (.invokevirtual 328, 3) := dk_182 1 72 (dk_at dksX6_explain_2 21 rfl rfl)
theorem dX6_explain_71 : decode cX6_explain 71 = .ok (.aload_n 0, 1) := dk_42 (dk_at dksX6_explain_3 0 rfl rfl)
theorem dX6_explain_72 : decode cX6_explain 72 = .ok (.new 332, 3) := dk_187 1 76 (dk_at dksX6_explain_3 1 rfl rfl)
theorem dX6_explain_75 : decode cX6_explain 75 = .ok (.dup, 1) := dk_89 (dk_at dksX6_explain_3 4 rfl rfl)
theorem dX6_explain_76 : decode cX6_explain 76 = .ok (.invokespecial 334, 3) := dk_183 1 78 (dk_at dksX6_explain_3 5 rfl rfl)
theorem dX6_explain_79 : decode cX6_explain 79 = .ok (.ldc_w 324, 3) := dk_19 1 68 (dk_at dksX6_explain_3 8 rfl rfl)
theorem dX6_explain_82 : decode cX6_explain 82 = .ok (.invokevirtual 335, 3) := dk_182 1 79 (dk_at dksX6_explain_3 11 rfl rfl)
theorem dX6_explain_85 : decode cX6_explain 85 = .ok (.aload_n 0, 1) := dk_42 (dk_at dksX6_explain_3 14 rfl rfl)
theorem dX6_explain_86 : decode cX6_explain 86 = .ok (.getfield 36, 3) := dk_180 0 36 (dk_at dksX6_explain_3 15 rfl rfl)
theorem dX6_explain_89 : decode cX6_explain 89 = .ok (.iload 5, 2) := dk_21 5 (dk_at dksX6_explain_3 18 rfl rfl)
theorem dX6_explain_91 : decode cX6_explain 91 = .ok (.iaload, 1) := dk_46 (dk_at dksX6_explain_3 20 rfl rfl)
theorem dX6_explain_92 : decode cX6_explain 92 = .ok (.invokevirtual 339, 3) := dk_182 1 83 (dk_at dksX6_explain_3 21 rfl rfl)
theorem dX6_explain_95 : decode cX6_explain 95 = .ok (.invokevirtual 342, 3) := dk_182 1 86 (dk_at dksX6_explain_4 0 rfl rfl)
theorem dX6_explain_98 : decode cX6_explain 98 = .ok (.invokevirtual 328, 3) := dk_182 1 72 (dk_at dksX6_explain_4 3 rfl rfl)
theorem dX6_explain_101 : decode cX6_explain 101 = .ok (.iinc 5 1, 3) := dk_132 5 1 (dk_at dksX6_explain_4 6 rfl rfl)
theorem dX6_explain_104 : decode cX6_explain 104 = .ok (.goto (-60), 3) := dk_167 255 196 (dk_at dksX6_explain_4 9 rfl rfl)
theorem dX6_explain_107 : decode cX6_explain 107 = .ok (.aload_n 0, 1) := dk_42 (dk_at dksX6_explain_4 12 rfl rfl)
theorem dX6_explain_108 : decode cX6_explain 108 = .ok (.aload_n 0, 1) := dk_42 (dk_at dksX6_explain_4 13 rfl rfl)
theorem dX6_explain_109 : decode cX6_explain 109 = .ok (.getfield 188, 3) := dk_180 0 188 (dk_at dksX6_explain_4 14 rfl rfl)
theorem dX6_explain_112 : decode cX6_explain 112 = .ok (.ifCond .ne 9, 3) := dk_154 0 9 (dk_at dksX6_explain_4 17 rfl rfl)
theorem dX6_explain_115 : decode cX6_explain 115 = .ok (.ldc_w 346, 3) := dk_19 1 90 (dk_at dksX6_explain_4 20 rfl rfl)
theorem dX6_explain_118 : decode cX6_explain 118 = .ok (.goto 6, 3) := dk_167 0 6 (dk_at dksX6_explain_5 0 rfl rfl)
theorem dX6_explain_121 : decode cX6_explain 121 = .ok (.ldc_w 324, 3) := dk_19 1 68 (dk_at dksX6_explain_5 3 rfl rfl)
theorem dX6_explain_124 : decode cX6_explain 124 = .ok (.invokevirtual 328, 3) := dk_182 1 72 (dk_at dksX6_explain_5 6 rfl rfl)
theorem dX6_explain_127 : decode cX6_explain 127 = .ok (.aload_n 0, 1) := dk_42 (dk_at dksX6_explain_5 9 rfl rfl)
theorem dX6_explain_128 : decode cX6_explain 128 = .ok (.iload 4, 2) := dk_21 4 (dk_at dksX6_explain_5 10 rfl rfl)
theorem dX6_explain_130 : decode cX6_explain 130 = .ok (.ifCond .ne 9, 3) := dk_154 0 9 (dk_at dksX6_explain_5 12 rfl rfl)
theorem dX6_explain_133 : decode cX6_explain 133 = .ok (.ldc_w 348, 3) := dk_19 1 92 (dk_at dksX6_explain_5 15 rfl rfl)
theorem dX6_explain_136 : decode cX6_explain 136 = .ok (.goto 18, 3) := dk_167 0 18 (dk_at dksX6_explain_5 18 rfl rfl)
theorem dX6_explain_139 : decode cX6_explain 139 = .ok (.iload 4, 2) := dk_21 4 (dk_at dksX6_explain_5 21 rfl rfl)
theorem dX6_explain_141 : decode cX6_explain 141 = .ok (.iconst 1, 1) := dk_4 (dk_at dksX6_explain_5 23 rfl rfl)
theorem dX6_explain_142 : decode cX6_explain 142 = .ok (.if_icmp .ne 9, 3) := dk_160 0 9 (dk_at dksX6_explain_6 0 rfl rfl)
theorem dX6_explain_145 : decode cX6_explain 145 = .ok (.ldc_w 350, 3) := dk_19 1 94 (dk_at dksX6_explain_6 3 rfl rfl)
theorem dX6_explain_148 : decode cX6_explain 148 = .ok (.goto 6, 3) := dk_167 0 6 (dk_at dksX6_explain_6 6 rfl rfl)
theorem dX6_explain_151 : decode cX6_explain 151 = .ok (.ldc_w 352, 3) := dk_19 1 96 (dk_at dksX6_explain_6 9 rfl rfl)
theorem dX6_explain_154 : decode cX6_explain 154 = .ok (.invokevirtual 328, 3) := dk_182 1 72 (dk_at dksX6_explain_6 12 rfl rfl)
theorem dX6_explain_157 : decode cX6_explain 157 = .ok (.aload_n 0, 1) := dk_42 (dk_at dksX6_explain_6 15 rfl rfl)
theorem dX6_explain_158 : decode cX6_explain 158 = .ok (.getfield 317, 3) := dk_180 1 61 (dk_at dksX6_explain_6 16 rfl rfl)
theorem dX6_explain_161 : decode cX6_explain 161 = .ok (.ireturn, 1) := dk_172 (dk_at dksX6_explain_6 19 rfl rfl)
abbrev cX6_says : ByteArray := prog_27_method_91_code
def yX6_says : MethodName := ⟨RX6, "says", "(Ljava/lang/String;)V"⟩
def dkwX6_says_1 : List UInt8 := [42, 89, 180, 1, 61, 4, 96, 181, 1, 61, 132, 2, 1, 167, 255, 221, 177]
abbrev dktX6_says_1 : List UInt8 := dkwX6_says_1 ++ []
def dkwX6_says_0 : List UInt8 := [3, 61, 28, 43, 182, 1, 59, 162, 0, 33, 42, 180, 0, 59, 42, 180, 1, 61, 43, 28, 182, 1, 64, 85]
abbrev dktX6_says_0 : List UInt8 := dkwX6_says_0 ++ dktX6_says_1
theorem dksX6_says_0 : cX6_says.data.toList.drop 0 = dktX6_says_0 := by decide +kernel
theorem dksX6_says_1 : cX6_says.data.toList.drop 24 = dktX6_says_1 := dk_seg dksX6_says_0 24 rfl rfl
theorem dX6_says_0 : decode cX6_says 0 = .ok (.iconst 0, 1) := dk_3 (dk_at dksX6_says_0 0 rfl rfl)
theorem dX6_says_1 : decode cX6_says 1 = .ok (.istore_n 2, 1) := dk_61 (dk_at dksX6_says_0 1 rfl rfl)
theorem dX6_says_2 : decode cX6_says 2 = .ok (.iload_n 2, 1) := dk_28 (dk_at dksX6_says_0 2 rfl rfl)
theorem dX6_says_3 : decode cX6_says 3 = .ok (.aload_n 1, 1) := dk_43 (dk_at dksX6_says_0 3 rfl rfl)
theorem dX6_says_4 : decode cX6_says 4 = .ok (.invokevirtual 315, 3) := dk_182 1 59 (dk_at dksX6_says_0 4 rfl rfl)
theorem dX6_says_7 : decode cX6_says 7 = .ok (.if_icmp .ge 33, 3) := dk_162 0 33 (dk_at dksX6_says_0 7 rfl rfl)
theorem dX6_says_10 : decode cX6_says 10 = .ok (.aload_n 0, 1) := dk_42 (dk_at dksX6_says_0 10 rfl rfl)
theorem dX6_says_11 : decode cX6_says 11 = .ok (.getfield 59, 3) := dk_180 0 59 (dk_at dksX6_says_0 11 rfl rfl)
theorem dX6_says_14 : decode cX6_says 14 = .ok (.aload_n 0, 1) := dk_42 (dk_at dksX6_says_0 14 rfl rfl)
theorem dX6_says_15 : decode cX6_says 15 = .ok (.getfield 317, 3) := dk_180 1 61 (dk_at dksX6_says_0 15 rfl rfl)
theorem dX6_says_18 : decode cX6_says 18 = .ok (.aload_n 1, 1) := dk_43 (dk_at dksX6_says_0 18 rfl rfl)
theorem dX6_says_19 : decode cX6_says 19 = .ok (.iload_n 2, 1) := dk_28 (dk_at dksX6_says_0 19 rfl rfl)
theorem dX6_says_20 : decode cX6_says 20 = .ok (.invokevirtual 320, 3) := dk_182 1 64 (dk_at dksX6_says_0 20 rfl rfl)
theorem dX6_says_23 : decode cX6_says 23 = .ok (.castore, 1) := dk_85 (dk_at dksX6_says_0 23 rfl rfl)
theorem dX6_says_24 : decode cX6_says 24 = .ok (.aload_n 0, 1) := dk_42 (dk_at dksX6_says_1 0 rfl rfl)
theorem dX6_says_25 : decode cX6_says 25 = .ok (.dup, 1) := dk_89 (dk_at dksX6_says_1 1 rfl rfl)
theorem dX6_says_26 : decode cX6_says 26 = .ok (.getfield 317, 3) := dk_180 1 61 (dk_at dksX6_says_1 2 rfl rfl)
theorem dX6_says_29 : decode cX6_says 29 = .ok (.iconst 1, 1) := dk_4 (dk_at dksX6_says_1 5 rfl rfl)
theorem dX6_says_30 : decode cX6_says 30 = .ok (.iadd, 1) := dk_96 (dk_at dksX6_says_1 6 rfl rfl)
theorem dX6_says_31 : decode cX6_says 31 = .ok (.putfield 317, 3) := dk_181 1 61 (dk_at dksX6_says_1 7 rfl rfl)
theorem dX6_says_34 : decode cX6_says 34 = .ok (.iinc 2 1, 3) := dk_132 2 1 (dk_at dksX6_says_1 10 rfl rfl)
theorem dX6_says_37 : decode cX6_says 37 = .ok (.goto (-35), 3) := dk_167 255 221 (dk_at dksX6_says_1 13 rfl rfl)
theorem dX6_says_40 : decode cX6_says 40 = .ok (.return_, 1) := dk_177 (dk_at dksX6_says_1 16 rfl rfl)
abbrev cX6_character : ByteArray := prog_27_method_93_code
def yX6_character : MethodName := ⟨RX6, "character", "(I)C"⟩
def dkwX6_character_1 : List UInt8 := [180, 0, 62, 158, 0, 8, 16, 32, 167, 0, 9, 42, 180, 0, 59, 27, 52, 172]
abbrev dktX6_character_1 : List UInt8 := dkwX6_character_1 ++ []
def dkwX6_character_0 : List UInt8 := [42, 27, 3, 42, 180, 1, 61, 4, 100, 184, 0, 80, 153, 0, 7, 3, 167, 0, 4, 4, 181, 0, 62, 42]
abbrev dktX6_character_0 : List UInt8 := dkwX6_character_0 ++ dktX6_character_1
theorem dksX6_character_0 : cX6_character.data.toList.drop 0 = dktX6_character_0 := by decide +kernel
theorem dksX6_character_1 : cX6_character.data.toList.drop 24 = dktX6_character_1 := dk_seg dksX6_character_0 24 rfl rfl
theorem dX6_character_0 : decode cX6_character 0 = .ok (.aload_n 0, 1) := dk_42 (dk_at dksX6_character_0 0 rfl rfl)
theorem dX6_character_1 : decode cX6_character 1 = .ok (.iload_n 1, 1) := dk_27 (dk_at dksX6_character_0 1 rfl rfl)
theorem dX6_character_2 : decode cX6_character 2 = .ok (.iconst 0, 1) := dk_3 (dk_at dksX6_character_0 2 rfl rfl)
theorem dX6_character_3 : decode cX6_character 3 = .ok (.aload_n 0, 1) := dk_42 (dk_at dksX6_character_0 3 rfl rfl)
theorem dX6_character_4 : decode cX6_character 4 = .ok (.getfield 317, 3) := dk_180 1 61 (dk_at dksX6_character_0 4 rfl rfl)
theorem dX6_character_7 : decode cX6_character 7 = .ok (.iconst 1, 1) := dk_4 (dk_at dksX6_character_0 7 rfl rfl)
theorem dX6_character_8 : decode cX6_character 8 = .ok (.isub, 1) := dk_100 (dk_at dksX6_character_0 8 rfl rfl)
theorem dX6_character_9 : decode cX6_character 9 = .ok (.invokestatic 80, 3) := dk_184 0 80 (dk_at dksX6_character_0 9 rfl rfl)
theorem dX6_character_12 : decode cX6_character 12 = .ok (.ifCond .eq 7, 3) := dk_153 0 7 (dk_at dksX6_character_0 12 rfl rfl)
theorem dX6_character_15 : decode cX6_character 15 = .ok (.iconst 0, 1) := dk_3 (dk_at dksX6_character_0 15 rfl rfl)
theorem dX6_character_16 : decode cX6_character 16 = .ok (.goto 4, 3) := dk_167 0 4 (dk_at dksX6_character_0 16 rfl rfl)
theorem dX6_character_19 : decode cX6_character 19 = .ok (.iconst 1, 1) := dk_4 (dk_at dksX6_character_0 19 rfl rfl)
theorem dX6_character_20 : decode cX6_character 20 = .ok (.putfield 62, 3) := dk_181 0 62 (dk_at dksX6_character_0 20 rfl rfl)
theorem dX6_character_23 : decode cX6_character 23 = .ok (.aload_n 0, 1) := dk_42 (dk_at dksX6_character_0 23 rfl rfl)
theorem dX6_character_24 : decode cX6_character 24 = .ok (.getfield 62, 3) := dk_180 0 62 (dk_at dksX6_character_1 0 rfl rfl)
theorem dX6_character_27 : decode cX6_character 27 = .ok (.ifCond .le 8, 3) := dk_158 0 8 (dk_at dksX6_character_1 3 rfl rfl)
theorem dX6_character_30 : decode cX6_character 30 = .ok (.bipush 32, 2) := dk_16 32 (dk_at dksX6_character_1 6 rfl rfl)
theorem dX6_character_32 : decode cX6_character 32 = .ok (.goto 9, 3) := dk_167 0 9 (dk_at dksX6_character_1 8 rfl rfl)
theorem dX6_character_35 : decode cX6_character 35 = .ok (.aload_n 0, 1) := dk_42 (dk_at dksX6_character_1 11 rfl rfl)
theorem dX6_character_36 : decode cX6_character 36 = .ok (.getfield 59, 3) := dk_180 0 59 (dk_at dksX6_character_1 12 rfl rfl)
theorem dX6_character_39 : decode cX6_character 39 = .ok (.iload_n 1, 1) := dk_27 (dk_at dksX6_character_1 15 rfl rfl)
theorem dX6_character_40 : decode cX6_character 40 = .ok (.caload, 1) := dk_52 (dk_at dksX6_character_1 16 rfl rfl)
theorem dX6_character_41 : decode cX6_character 41 = .ok (.ireturn, 1) := dk_172 (dk_at dksX6_character_1 17 rfl rfl)
abbrev cX6_reason : ByteArray := prog_27_method_94_code
def yX6_reason : MethodName := ⟨RX6, "reason", "(Z)I"⟩
def dkwX6_reason_1 : List UInt8 := [167, 0, 18, 27, 153, 0, 10, 42, 180, 0, 77, 167, 0, 7, 42, 180, 0, 74, 172]
abbrev dktX6_reason_1 : List UInt8 := dkwX6_reason_1 ++ []
def dkwX6_reason_0 : List UInt8 := [42, 42, 180, 0, 74, 154, 0, 7, 4, 167, 0, 4, 3, 181, 0, 62, 42, 180, 0, 62, 158, 0, 7, 3]
abbrev dktX6_reason_0 : List UInt8 := dkwX6_reason_0 ++ dktX6_reason_1
theorem dksX6_reason_0 : cX6_reason.data.toList.drop 0 = dktX6_reason_0 := by decide +kernel
theorem dksX6_reason_1 : cX6_reason.data.toList.drop 24 = dktX6_reason_1 := dk_seg dksX6_reason_0 24 rfl rfl
theorem dX6_reason_0 : decode cX6_reason 0 = .ok (.aload_n 0, 1) := dk_42 (dk_at dksX6_reason_0 0 rfl rfl)
theorem dX6_reason_1 : decode cX6_reason 1 = .ok (.aload_n 0, 1) := dk_42 (dk_at dksX6_reason_0 1 rfl rfl)
theorem dX6_reason_2 : decode cX6_reason 2 = .ok (.getfield 74, 3) := dk_180 0 74 (dk_at dksX6_reason_0 2 rfl rfl)
theorem dX6_reason_5 : decode cX6_reason 5 = .ok (.ifCond .ne 7, 3) := dk_154 0 7 (dk_at dksX6_reason_0 5 rfl rfl)
theorem dX6_reason_8 : decode cX6_reason 8 = .ok (.iconst 1, 1) := dk_4 (dk_at dksX6_reason_0 8 rfl rfl)
theorem dX6_reason_9 : decode cX6_reason 9 = .ok (.goto 4, 3) := dk_167 0 4 (dk_at dksX6_reason_0 9 rfl rfl)
theorem dX6_reason_12 : decode cX6_reason 12 = .ok (.iconst 0, 1) := dk_3 (dk_at dksX6_reason_0 12 rfl rfl)
theorem dX6_reason_13 : decode cX6_reason 13 = .ok (.putfield 62, 3) := dk_181 0 62 (dk_at dksX6_reason_0 13 rfl rfl)
theorem dX6_reason_16 : decode cX6_reason 16 = .ok (.aload_n 0, 1) := dk_42 (dk_at dksX6_reason_0 16 rfl rfl)
theorem dX6_reason_17 : decode cX6_reason 17 = .ok (.getfield 62, 3) := dk_180 0 62 (dk_at dksX6_reason_0 17 rfl rfl)
theorem dX6_reason_20 : decode cX6_reason 20 = .ok (.ifCond .le 7, 3) := dk_158 0 7 (dk_at dksX6_reason_0 20 rfl rfl)
theorem dX6_reason_23 : decode cX6_reason 23 = .ok (.iconst 0, 1) := dk_3 (dk_at dksX6_reason_0 23 rfl rfl)
theorem dX6_reason_24 : decode cX6_reason 24 = .ok (.goto 18, 3) := dk_167 0 18 (dk_at dksX6_reason_1 0 rfl rfl)
theorem dX6_reason_27 : decode cX6_reason 27 = .ok (.iload_n 1, 1) := dk_27 (dk_at dksX6_reason_1 3 rfl rfl)
theorem dX6_reason_28 : decode cX6_reason 28 = .ok (.ifCond .eq 10, 3) := dk_153 0 10 (dk_at dksX6_reason_1 4 rfl rfl)
theorem dX6_reason_31 : decode cX6_reason 31 = .ok (.aload_n 0, 1) := dk_42 (dk_at dksX6_reason_1 7 rfl rfl)
theorem dX6_reason_32 : decode cX6_reason 32 = .ok (.getfield 77, 3) := dk_180 0 77 (dk_at dksX6_reason_1 8 rfl rfl)
theorem dX6_reason_35 : decode cX6_reason 35 = .ok (.goto 7, 3) := dk_167 0 7 (dk_at dksX6_reason_1 11 rfl rfl)
theorem dX6_reason_38 : decode cX6_reason 38 = .ok (.aload_n 0, 1) := dk_42 (dk_at dksX6_reason_1 14 rfl rfl)
theorem dX6_reason_39 : decode cX6_reason 39 = .ok (.getfield 74, 3) := dk_180 0 74 (dk_at dksX6_reason_1 15 rfl rfl)
theorem dX6_reason_42 : decode cX6_reason 42 = .ok (.ireturn, 1) := dk_172 (dk_at dksX6_reason_1 18 rfl rfl)
abbrev cX6_account : ByteArray := prog_27_method_96_code
def yX6_account : MethodName := ⟨RX6, "account", "(I)I"⟩
def dkwX6_account_7 : List UInt8 := [180, 0, 252, 172, 42, 180, 0, 71, 172]
abbrev dktX6_account_7 : List UInt8 := dkwX6_account_7 ++ []
def dkwX6_account_6 : List UInt8 := [167, 0, 4, 4, 96, 42, 180, 0, 49, 5, 46, 156, 0, 7, 3, 167, 0, 4, 4, 96, 172, 42]
abbrev dktX6_account_6 : List UInt8 := dkwX6_account_6 ++ dktX6_account_7
def dkwX6_account_5 : List UInt8 := [180, 0, 49, 3, 46, 156, 0, 7, 3, 167, 0, 4, 4, 42, 180, 0, 49, 4, 46, 156, 0, 7, 3]
abbrev dktX6_account_5 : List UInt8 := dkwX6_account_5 ++ dktX6_account_6
def dkwX6_account_4 : List UInt8 := [5, 46, 172, 42, 180, 0, 9, 5, 46, 42, 182, 0, 228, 184, 0, 231, 100, 172, 42, 182, 0, 234, 172, 42]
abbrev dktX6_account_4 : List UInt8 := dkwX6_account_4 ++ dktX6_account_5
def dkwX6_account_3 : List UInt8 := [42, 180, 0, 9, 3, 46, 172, 42, 180, 0, 9, 4, 46, 172, 42, 27, 182, 1, 103, 172, 42, 180, 0, 9]
abbrev dktX6_account_3 : List UInt8 := dkwX6_account_3 ++ dktX6_account_4
def dkwX6_account_2 : List UInt8 := [170, 0, 0, 0, 0, 0, 152, 0, 0, 0, 0, 0, 0, 0, 9, 0, 0, 0, 55, 0, 0, 0, 62, 0, 0, 0, 69, 0, 0, 0, 69, 0, 0, 0, 69, 0, 0, 0, 75, 0, 0, 0, 82, 0, 0, 0, 97, 0, 0, 0, 102, 0, 0, 0, 147]
abbrev dktX6_account_2 : List UInt8 := dkwX6_account_2 ++ dktX6_account_3
def dkwX6_account_1 : List UInt8 := [158, 0, 5, 3, 172, 27]
abbrev dktX6_account_1 : List UInt8 := dkwX6_account_1 ++ dktX6_account_2
def dkwX6_account_0 : List UInt8 := [42, 27, 3, 16, 10, 184, 0, 80, 153, 0, 7, 3, 167, 0, 4, 4, 181, 0, 62, 42, 180, 0, 62]
abbrev dktX6_account_0 : List UInt8 := dkwX6_account_0 ++ dktX6_account_1
theorem dksX6_account_0 : cX6_account.data.toList.drop 0 = dktX6_account_0 := by decide +kernel
theorem dksX6_account_1 : cX6_account.data.toList.drop 23 = dktX6_account_1 := dk_seg dksX6_account_0 23 rfl rfl
theorem dksX6_account_2 : cX6_account.data.toList.drop 29 = dktX6_account_2 := dk_seg dksX6_account_1 6 rfl rfl
theorem dksX6_account_3 : cX6_account.data.toList.drop 84 = dktX6_account_3 := dk_seg dksX6_account_2 55 rfl rfl
theorem dksX6_account_4 : cX6_account.data.toList.drop 108 = dktX6_account_4 := dk_seg dksX6_account_3 24 rfl rfl
theorem dksX6_account_5 : cX6_account.data.toList.drop 132 = dktX6_account_5 := dk_seg dksX6_account_4 24 rfl rfl
theorem dksX6_account_6 : cX6_account.data.toList.drop 155 = dktX6_account_6 := dk_seg dksX6_account_5 23 rfl rfl
theorem dksX6_account_7 : cX6_account.data.toList.drop 177 = dktX6_account_7 := dk_seg dksX6_account_6 22 rfl rfl
theorem dX6_account_0 : decode cX6_account 0 = .ok (.aload_n 0, 1) := dk_42 (dk_at dksX6_account_0 0 rfl rfl)
theorem dX6_account_1 : decode cX6_account 1 = .ok (.iload_n 1, 1) := dk_27 (dk_at dksX6_account_0 1 rfl rfl)
theorem dX6_account_2 : decode cX6_account 2 = .ok (.iconst 0, 1) := dk_3 (dk_at dksX6_account_0 2 rfl rfl)
theorem dX6_account_3 : decode cX6_account 3 = .ok (.bipush 10, 2) := dk_16 10 (dk_at dksX6_account_0 3 rfl rfl)
theorem dX6_account_5 : decode cX6_account 5 = .ok (.invokestatic 80, 3) := dk_184 0 80 (dk_at dksX6_account_0 5 rfl rfl)
theorem dX6_account_8 : decode cX6_account 8 = .ok (.ifCond .eq 7, 3) := dk_153 0 7 (dk_at dksX6_account_0 8 rfl rfl)
theorem dX6_account_11 : decode cX6_account 11 = .ok (.iconst 0, 1) := dk_3 (dk_at dksX6_account_0 11 rfl rfl)
theorem dX6_account_12 : decode cX6_account 12 = .ok (.goto 4, 3) := dk_167 0 4 (dk_at dksX6_account_0 12 rfl rfl)
theorem dX6_account_15 : decode cX6_account 15 = .ok (.iconst 1, 1) := dk_4 (dk_at dksX6_account_0 15 rfl rfl)
theorem dX6_account_16 : decode cX6_account 16 = .ok (.putfield 62, 3) := dk_181 0 62 (dk_at dksX6_account_0 16 rfl rfl)
theorem dX6_account_19 : decode cX6_account 19 = .ok (.aload_n 0, 1) := dk_42 (dk_at dksX6_account_0 19 rfl rfl)
theorem dX6_account_20 : decode cX6_account 20 = .ok (.getfield 62, 3) := dk_180 0 62 (dk_at dksX6_account_0 20 rfl rfl)
theorem dX6_account_23 : decode cX6_account 23 = .ok (.ifCond .le 5, 3) := dk_158 0 5 (dk_at dksX6_account_1 0 rfl rfl)
theorem dX6_account_26 : decode cX6_account 26 = .ok (.iconst 0, 1) := dk_3 (dk_at dksX6_account_1 3 rfl rfl)
theorem dX6_account_27 : decode cX6_account 27 = .ok (.ireturn, 1) := dk_172 (dk_at dksX6_account_1 4 rfl rfl)
theorem dX6_account_28 : decode cX6_account 28 = .ok (.iload_n 1, 1) := dk_27 (dk_at dksX6_account_1 5 rfl rfl)
theorem dX6_account_29 : decode cX6_account 29 = .ok (.tableswitch 152 0 9 #[55, 62, 69, 69, 69, 75, 82, 97, 102, 147], 55) := by decide +kernel
theorem dX6_account_84 : decode cX6_account 84 = .ok (.aload_n 0, 1) := dk_42 (dk_at dksX6_account_3 0 rfl rfl)
theorem dX6_account_85 : decode cX6_account 85 = .ok (.getfield 9, 3) := dk_180 0 9 (dk_at dksX6_account_3 1 rfl rfl)
theorem dX6_account_88 : decode cX6_account 88 = .ok (.iconst 0, 1) := dk_3 (dk_at dksX6_account_3 4 rfl rfl)
theorem dX6_account_89 : decode cX6_account 89 = .ok (.iaload, 1) := dk_46 (dk_at dksX6_account_3 5 rfl rfl)
theorem dX6_account_90 : decode cX6_account 90 = .ok (.ireturn, 1) := dk_172 (dk_at dksX6_account_3 6 rfl rfl)
theorem dX6_account_91 : decode cX6_account 91 = .ok (.aload_n 0, 1) := dk_42 (dk_at dksX6_account_3 7 rfl rfl)
theorem dX6_account_92 : decode cX6_account 92 = .ok (.getfield 9, 3) := dk_180 0 9 (dk_at dksX6_account_3 8 rfl rfl)
theorem dX6_account_95 : decode cX6_account 95 = .ok (.iconst 1, 1) := dk_4 (dk_at dksX6_account_3 11 rfl rfl)
theorem dX6_account_96 : decode cX6_account 96 = .ok (.iaload, 1) := dk_46 (dk_at dksX6_account_3 12 rfl rfl)
theorem dX6_account_97 : decode cX6_account 97 = .ok (.ireturn, 1) := dk_172 (dk_at dksX6_account_3 13 rfl rfl)
theorem dX6_account_98 : decode cX6_account 98 = .ok (.aload_n 0, 1) := dk_42 (dk_at dksX6_account_3 14 rfl rfl)
theorem dX6_account_99 : decode cX6_account 99 = .ok (.iload_n 1, 1) := dk_27 (dk_at dksX6_account_3 15 rfl rfl)
theorem dX6_account_100 : decode cX6_account 100 = .ok (.invokevirtual 359, 3) := dk_182 1 103 (dk_at dksX6_account_3 16 rfl rfl)
theorem dX6_account_103 : decode cX6_account 103 = .ok (.ireturn, 1) := dk_172 (dk_at dksX6_account_3 19 rfl rfl)
theorem dX6_account_104 : decode cX6_account 104 = .ok (.aload_n 0, 1) := dk_42 (dk_at dksX6_account_3 20 rfl rfl)
theorem dX6_account_105 : decode cX6_account 105 = .ok (.getfield 9, 3) := dk_180 0 9 (dk_at dksX6_account_3 21 rfl rfl)
theorem dX6_account_108 : decode cX6_account 108 = .ok (.iconst 2, 1) := dk_5 (dk_at dksX6_account_4 0 rfl rfl)
theorem dX6_account_109 : decode cX6_account 109 = .ok (.iaload, 1) := dk_46 (dk_at dksX6_account_4 1 rfl rfl)
theorem dX6_account_110 : decode cX6_account 110 = .ok (.ireturn, 1) := dk_172 (dk_at dksX6_account_4 2 rfl rfl)
theorem dX6_account_111 : decode cX6_account 111 = .ok (.aload_n 0, 1) := dk_42 (dk_at dksX6_account_4 3 rfl rfl)
theorem dX6_account_112 : decode cX6_account 112 = .ok (.getfield 9, 3) := dk_180 0 9 (dk_at dksX6_account_4 4 rfl rfl)
theorem dX6_account_115 : decode cX6_account 115 = .ok (.iconst 2, 1) := dk_5 (dk_at dksX6_account_4 7 rfl rfl)
theorem dX6_account_116 : decode cX6_account 116 = .ok (.iaload, 1) := dk_46 (dk_at dksX6_account_4 8 rfl rfl)
theorem dX6_account_117 : decode cX6_account 117 = .ok (.aload_n 0, 1) := dk_42 (dk_at dksX6_account_4 9 rfl rfl)
theorem dX6_account_118 : decode cX6_account 118 = .ok (.invokevirtual 228, 3) := dk_182 0 228 (dk_at dksX6_account_4 10 rfl rfl)
theorem dX6_account_121 : decode cX6_account 121 = .ok (.invokestatic 231, 3) := dk_184 0 231 (dk_at dksX6_account_4 13 rfl rfl)
theorem dX6_account_124 : decode cX6_account 124 = .ok (.isub, 1) := dk_100 (dk_at dksX6_account_4 16 rfl rfl)
theorem dX6_account_125 : decode cX6_account 125 = .ok (.ireturn, 1) := dk_172 (dk_at dksX6_account_4 17 rfl rfl)
theorem dX6_account_126 : decode cX6_account 126 = .ok (.aload_n 0, 1) := dk_42 (dk_at dksX6_account_4 18 rfl rfl)
theorem dX6_account_127 : decode cX6_account 127 = .ok (.invokevirtual 234, 3) := dk_182 0 234 (dk_at dksX6_account_4 19 rfl rfl)
theorem dX6_account_130 : decode cX6_account 130 = .ok (.ireturn, 1) := dk_172 (dk_at dksX6_account_4 22 rfl rfl)
theorem dX6_account_131 : decode cX6_account 131 = .ok (.aload_n 0, 1) := dk_42 (dk_at dksX6_account_4 23 rfl rfl)
theorem dX6_account_132 : decode cX6_account 132 = .ok (.getfield 49, 3) := dk_180 0 49 (dk_at dksX6_account_5 0 rfl rfl)
theorem dX6_account_135 : decode cX6_account 135 = .ok (.iconst 0, 1) := dk_3 (dk_at dksX6_account_5 3 rfl rfl)
theorem dX6_account_136 : decode cX6_account 136 = .ok (.iaload, 1) := dk_46 (dk_at dksX6_account_5 4 rfl rfl)
theorem dX6_account_137 : decode cX6_account 137 = .ok (.ifCond .ge 7, 3) := dk_156 0 7 (dk_at dksX6_account_5 5 rfl rfl)
theorem dX6_account_140 : decode cX6_account 140 = .ok (.iconst 0, 1) := dk_3 (dk_at dksX6_account_5 8 rfl rfl)
theorem dX6_account_141 : decode cX6_account 141 = .ok (.goto 4, 3) := dk_167 0 4 (dk_at dksX6_account_5 9 rfl rfl)
theorem dX6_account_144 : decode cX6_account 144 = .ok (.iconst 1, 1) := dk_4 (dk_at dksX6_account_5 12 rfl rfl)
theorem dX6_account_145 : decode cX6_account 145 = .ok (.aload_n 0, 1) := dk_42 (dk_at dksX6_account_5 13 rfl rfl)
theorem dX6_account_146 : decode cX6_account 146 = .ok (.getfield 49, 3) := dk_180 0 49 (dk_at dksX6_account_5 14 rfl rfl)
theorem dX6_account_149 : decode cX6_account 149 = .ok (.iconst 1, 1) := dk_4 (dk_at dksX6_account_5 17 rfl rfl)
theorem dX6_account_150 : decode cX6_account 150 = .ok (.iaload, 1) := dk_46 (dk_at dksX6_account_5 18 rfl rfl)
theorem dX6_account_151 : decode cX6_account 151 = .ok (.ifCond .ge 7, 3) := dk_156 0 7 (dk_at dksX6_account_5 19 rfl rfl)
theorem dX6_account_154 : decode cX6_account 154 = .ok (.iconst 0, 1) := dk_3 (dk_at dksX6_account_5 22 rfl rfl)
theorem dX6_account_155 : decode cX6_account 155 = .ok (.goto 4, 3) := dk_167 0 4 (dk_at dksX6_account_6 0 rfl rfl)
theorem dX6_account_158 : decode cX6_account 158 = .ok (.iconst 1, 1) := dk_4 (dk_at dksX6_account_6 3 rfl rfl)
theorem dX6_account_159 : decode cX6_account 159 = .ok (.iadd, 1) := dk_96 (dk_at dksX6_account_6 4 rfl rfl)
theorem dX6_account_160 : decode cX6_account 160 = .ok (.aload_n 0, 1) := dk_42 (dk_at dksX6_account_6 5 rfl rfl)
theorem dX6_account_161 : decode cX6_account 161 = .ok (.getfield 49, 3) := dk_180 0 49 (dk_at dksX6_account_6 6 rfl rfl)
theorem dX6_account_164 : decode cX6_account 164 = .ok (.iconst 2, 1) := dk_5 (dk_at dksX6_account_6 9 rfl rfl)
theorem dX6_account_165 : decode cX6_account 165 = .ok (.iaload, 1) := dk_46 (dk_at dksX6_account_6 10 rfl rfl)
theorem dX6_account_166 : decode cX6_account 166 = .ok (.ifCond .ge 7, 3) := dk_156 0 7 (dk_at dksX6_account_6 11 rfl rfl)
theorem dX6_account_169 : decode cX6_account 169 = .ok (.iconst 0, 1) := dk_3 (dk_at dksX6_account_6 14 rfl rfl)
theorem dX6_account_170 : decode cX6_account 170 = .ok (.goto 4, 3) := dk_167 0 4 (dk_at dksX6_account_6 15 rfl rfl)
theorem dX6_account_173 : decode cX6_account 173 = .ok (.iconst 1, 1) := dk_4 (dk_at dksX6_account_6 18 rfl rfl)
theorem dX6_account_174 : decode cX6_account 174 = .ok (.iadd, 1) := dk_96 (dk_at dksX6_account_6 19 rfl rfl)
theorem dX6_account_175 : decode cX6_account 175 = .ok (.ireturn, 1) := dk_172 (dk_at dksX6_account_6 20 rfl rfl)
theorem dX6_account_176 : decode cX6_account 176 = .ok (.aload_n 0, 1) := dk_42 (dk_at dksX6_account_6 21 rfl rfl)
theorem dX6_account_177 : decode cX6_account 177 = .ok (.getfield 252, 3) := dk_180 0 252 (dk_at dksX6_account_7 0 rfl rfl)
theorem dX6_account_180 : decode cX6_account 180 = .ok (.ireturn, 1) := dk_172 (dk_at dksX6_account_7 3 rfl rfl)
theorem dX6_account_181 : decode cX6_account 181 = .ok (.aload_n 0, 1) := dk_42 (dk_at dksX6_account_7 4 rfl rfl)
theorem dX6_account_182 : decode cX6_account 182 = .ok (.getfield 71, 3) := dk_180 0 71 (dk_at dksX6_account_7 5 rfl rfl)
theorem dX6_account_185 : decode cX6_account 185 = .ok (.ireturn, 1) := dk_172 (dk_at dksX6_account_7 8 rfl rfl)
abbrev cX6_overRules : ByteArray := prog_27_method_95_code
def yX6_overRules : MethodName := ⟨RX6, "overRules", "(I)I"⟩
def dkwX6_overRules_3 : List UInt8 := [184, 1, 98, 61, 132, 3, 1, 167, 255, 192, 28, 172]
abbrev dktX6_overRules_3 : List UInt8 := dkwX6_overRules_3 ++ []
def dkwX6_overRules_2 : List UInt8 := [6, 160, 0, 15, 28, 42, 29, 16, 7, 182, 0, 104, 96, 167, 0, 12, 28, 42, 29, 182, 0, 118]
abbrev dktX6_overRules_2 : List UInt8 := dkwX6_overRules_2 ++ dktX6_overRules_3
def dkwX6_overRules_1 : List UInt8 := [5, 160, 0, 22, 28, 42, 29, 8, 182, 0, 104, 156, 0, 7, 4, 167, 0, 4, 3, 96, 167, 0, 29, 27]
abbrev dktX6_overRules_1 : List UInt8 := dkwX6_overRules_1 ++ dktX6_overRules_2
def dkwX6_overRules_0 : List UInt8 := [27, 7, 160, 0, 7, 2, 167, 0, 4, 3, 61, 3, 62, 29, 42, 180, 0, 9, 4, 46, 162, 0, 60, 27]
abbrev dktX6_overRules_0 : List UInt8 := dkwX6_overRules_0 ++ dktX6_overRules_1
theorem dksX6_overRules_0 : cX6_overRules.data.toList.drop 0 = dktX6_overRules_0 := by decide +kernel
theorem dksX6_overRules_1 : cX6_overRules.data.toList.drop 24 = dktX6_overRules_1 := dk_seg dksX6_overRules_0 24 rfl rfl
theorem dksX6_overRules_2 : cX6_overRules.data.toList.drop 48 = dktX6_overRules_2 := dk_seg dksX6_overRules_1 24 rfl rfl
theorem dksX6_overRules_3 : cX6_overRules.data.toList.drop 70 = dktX6_overRules_3 := dk_seg dksX6_overRules_2 22 rfl rfl
theorem dX6_overRules_0 : decode cX6_overRules 0 = .ok (.iload_n 1, 1) := dk_27 (dk_at dksX6_overRules_0 0 rfl rfl)
theorem dX6_overRules_1 : decode cX6_overRules 1 = .ok (.iconst 4, 1) := dk_7 (dk_at dksX6_overRules_0 1 rfl rfl)
theorem dX6_overRules_2 : decode cX6_overRules 2 = .ok (.if_icmp .ne 7, 3) := dk_160 0 7 (dk_at dksX6_overRules_0 2 rfl rfl)
theorem dX6_overRules_5 : decode cX6_overRules 5 = .ok (.iconst (-1), 1) := dk_2 (dk_at dksX6_overRules_0 5 rfl rfl)
theorem dX6_overRules_6 : decode cX6_overRules 6 = .ok (.goto 4, 3) := dk_167 0 4 (dk_at dksX6_overRules_0 6 rfl rfl)
theorem dX6_overRules_9 : decode cX6_overRules 9 = .ok (.iconst 0, 1) := dk_3 (dk_at dksX6_overRules_0 9 rfl rfl)
theorem dX6_overRules_10 : decode cX6_overRules 10 = .ok (.istore_n 2, 1) := dk_61 (dk_at dksX6_overRules_0 10 rfl rfl)
theorem dX6_overRules_11 : decode cX6_overRules 11 = .ok (.iconst 0, 1) := dk_3 (dk_at dksX6_overRules_0 11 rfl rfl)
theorem dX6_overRules_12 : decode cX6_overRules 12 = .ok (.istore_n 3, 1) := dk_62 (dk_at dksX6_overRules_0 12 rfl rfl)
theorem dX6_overRules_13 : decode cX6_overRules 13 = .ok (.iload_n 3, 1) := dk_29 (dk_at dksX6_overRules_0 13 rfl rfl)
theorem dX6_overRules_14 : decode cX6_overRules 14 = .ok (.aload_n 0, 1) := dk_42 (dk_at dksX6_overRules_0 14 rfl rfl)
theorem dX6_overRules_15 : decode cX6_overRules 15 = .ok (.getfield 9, 3) := dk_180 0 9 (dk_at dksX6_overRules_0 15 rfl rfl)
theorem dX6_overRules_18 : decode cX6_overRules 18 = .ok (.iconst 1, 1) := dk_4 (dk_at dksX6_overRules_0 18 rfl rfl)
theorem dX6_overRules_19 : decode cX6_overRules 19 = .ok (.iaload, 1) := dk_46 (dk_at dksX6_overRules_0 19 rfl rfl)
theorem dX6_overRules_20 : decode cX6_overRules 20 = .ok (.if_icmp .ge 60, 3) := dk_162 0 60 (dk_at dksX6_overRules_0 20 rfl rfl)
theorem dX6_overRules_23 : decode cX6_overRules 23 = .ok (.iload_n 1, 1) := dk_27 (dk_at dksX6_overRules_0 23 rfl rfl)
theorem dX6_overRules_24 : decode cX6_overRules 24 = .ok (.iconst 2, 1) := dk_5 (dk_at dksX6_overRules_1 0 rfl rfl)
theorem dX6_overRules_25 : decode cX6_overRules 25 = .ok (.if_icmp .ne 22, 3) := dk_160 0 22 (dk_at dksX6_overRules_1 1 rfl rfl)
theorem dX6_overRules_28 : decode cX6_overRules 28 = .ok (.iload_n 2, 1) := dk_28 (dk_at dksX6_overRules_1 4 rfl rfl)
theorem dX6_overRules_29 : decode cX6_overRules 29 = .ok (.aload_n 0, 1) := dk_42 (dk_at dksX6_overRules_1 5 rfl rfl)
theorem dX6_overRules_30 : decode cX6_overRules 30 = .ok (.iload_n 3, 1) := dk_29 (dk_at dksX6_overRules_1 6 rfl rfl)
theorem dX6_overRules_31 : decode cX6_overRules 31 = .ok (.iconst 5, 1) := dk_8 (dk_at dksX6_overRules_1 7 rfl rfl)
theorem dX6_overRules_32 : decode cX6_overRules 32 = .ok (.invokevirtual 104, 3) := dk_182 0 104 (dk_at dksX6_overRules_1 8 rfl rfl)
theorem dX6_overRules_35 : decode cX6_overRules 35 = .ok (.ifCond .ge 7, 3) := dk_156 0 7 (dk_at dksX6_overRules_1 11 rfl rfl)
theorem dX6_overRules_38 : decode cX6_overRules 38 = .ok (.iconst 1, 1) := dk_4 (dk_at dksX6_overRules_1 14 rfl rfl)
theorem dX6_overRules_39 : decode cX6_overRules 39 = .ok (.goto 4, 3) := dk_167 0 4 (dk_at dksX6_overRules_1 15 rfl rfl)
theorem dX6_overRules_42 : decode cX6_overRules 42 = .ok (.iconst 0, 1) := dk_3 (dk_at dksX6_overRules_1 18 rfl rfl)
theorem dX6_overRules_43 : decode cX6_overRules 43 = .ok (.iadd, 1) := dk_96 (dk_at dksX6_overRules_1 19 rfl rfl)
theorem dX6_overRules_44 : decode cX6_overRules 44 = .ok (.goto 29, 3) := dk_167 0 29 (dk_at dksX6_overRules_1 20 rfl rfl)
theorem dX6_overRules_47 : decode cX6_overRules 47 = .ok (.iload_n 1, 1) := dk_27 (dk_at dksX6_overRules_1 23 rfl rfl)
theorem dX6_overRules_48 : decode cX6_overRules 48 = .ok (.iconst 3, 1) := dk_6 (dk_at dksX6_overRules_2 0 rfl rfl)
theorem dX6_overRules_49 : decode cX6_overRules 49 = .ok (.if_icmp .ne 15, 3) := dk_160 0 15 (dk_at dksX6_overRules_2 1 rfl rfl)
theorem dX6_overRules_52 : decode cX6_overRules 52 = .ok (.iload_n 2, 1) := dk_28 (dk_at dksX6_overRules_2 4 rfl rfl)
theorem dX6_overRules_53 : decode cX6_overRules 53 = .ok (.aload_n 0, 1) := dk_42 (dk_at dksX6_overRules_2 5 rfl rfl)
theorem dX6_overRules_54 : decode cX6_overRules 54 = .ok (.iload_n 3, 1) := dk_29 (dk_at dksX6_overRules_2 6 rfl rfl)
theorem dX6_overRules_55 : decode cX6_overRules 55 = .ok (.bipush 7, 2) := dk_16 7 (dk_at dksX6_overRules_2 7 rfl rfl)
theorem dX6_overRules_57 : decode cX6_overRules 57 = .ok (.invokevirtual 104, 3) := dk_182 0 104 (dk_at dksX6_overRules_2 9 rfl rfl)
theorem dX6_overRules_60 : decode cX6_overRules 60 = .ok (.iadd, 1) := dk_96 (dk_at dksX6_overRules_2 12 rfl rfl)
theorem dX6_overRules_61 : decode cX6_overRules 61 = .ok (.goto 12, 3) := dk_167 0 12 (dk_at dksX6_overRules_2 13 rfl rfl)
theorem dX6_overRules_64 : decode cX6_overRules 64 = .ok (.iload_n 2, 1) := dk_28 (dk_at dksX6_overRules_2 16 rfl rfl)
theorem dX6_overRules_65 : decode cX6_overRules 65 = .ok (.aload_n 0, 1) := dk_42 (dk_at dksX6_overRules_2 17 rfl rfl)
theorem dX6_overRules_66 : decode cX6_overRules 66 = .ok (.iload_n 3, 1) := dk_29 (dk_at dksX6_overRules_2 18 rfl rfl)
theorem dX6_overRules_67 : decode cX6_overRules 67 = .ok (.invokevirtual 118, 3) := dk_182 0 118 (dk_at dksX6_overRules_2 19 rfl rfl)
theorem dX6_overRules_70 : decode cX6_overRules 70 = .ok (.invokestatic 354, 3) := dk_184 1 98 (dk_at dksX6_overRules_3 0 rfl rfl)
theorem dX6_overRules_73 : decode cX6_overRules 73 = .ok (.istore_n 2, 1) := dk_61 (dk_at dksX6_overRules_3 3 rfl rfl)
theorem dX6_overRules_74 : decode cX6_overRules 74 = .ok (.iinc 3 1, 3) := dk_132 3 1 (dk_at dksX6_overRules_3 4 rfl rfl)
theorem dX6_overRules_77 : decode cX6_overRules 77 = .ok (.goto (-64), 3) := dk_167 255 192 (dk_at dksX6_overRules_3 7 rfl rfl)
theorem dX6_overRules_80 : decode cX6_overRules 80 = .ok (.iload_n 2, 1) := dk_28 (dk_at dksX6_overRules_3 10 rfl rfl)
theorem dX6_overRules_81 : decode cX6_overRules 81 = .ok (.ireturn, 1) := dk_172 (dk_at dksX6_overRules_3 11 rfl rfl)
abbrev cX6_undo : ByteArray := prog_27_method_97_code
def yX6_undo : MethodName := ⟨RX6, "undo", "()I"⟩
def dkwX6_undo_2 : List UInt8 := [180, 0, 9, 3, 17, 1, 135, 184, 0, 65, 42, 180, 0, 71, 172]
abbrev dktX6_undo_2 : List UInt8 := dkwX6_undo_2 ++ []
def dkwX6_undo_1 : List UInt8 := [172, 42, 89, 180, 0, 71, 4, 100, 181, 0, 71, 42, 180, 0, 19, 17, 1, 135, 42, 180, 0, 71, 104, 42]
abbrev dktX6_undo_1 : List UInt8 := dkwX6_undo_1 ++ dktX6_undo_2
def dkwX6_undo_0 : List UInt8 := [42, 42, 180, 0, 71, 154, 0, 7, 4, 167, 0, 4, 3, 181, 0, 62, 42, 180, 0, 62, 158, 0, 5, 3]
abbrev dktX6_undo_0 : List UInt8 := dkwX6_undo_0 ++ dktX6_undo_1
theorem dksX6_undo_0 : cX6_undo.data.toList.drop 0 = dktX6_undo_0 := by decide +kernel
theorem dksX6_undo_1 : cX6_undo.data.toList.drop 24 = dktX6_undo_1 := dk_seg dksX6_undo_0 24 rfl rfl
theorem dksX6_undo_2 : cX6_undo.data.toList.drop 48 = dktX6_undo_2 := dk_seg dksX6_undo_1 24 rfl rfl
theorem dX6_undo_0 : decode cX6_undo 0 = .ok (.aload_n 0, 1) := dk_42 (dk_at dksX6_undo_0 0 rfl rfl)
theorem dX6_undo_1 : decode cX6_undo 1 = .ok (.aload_n 0, 1) := dk_42 (dk_at dksX6_undo_0 1 rfl rfl)
theorem dX6_undo_2 : decode cX6_undo 2 = .ok (.getfield 71, 3) := dk_180 0 71 (dk_at dksX6_undo_0 2 rfl rfl)
theorem dX6_undo_5 : decode cX6_undo 5 = .ok (.ifCond .ne 7, 3) := dk_154 0 7 (dk_at dksX6_undo_0 5 rfl rfl)
theorem dX6_undo_8 : decode cX6_undo 8 = .ok (.iconst 1, 1) := dk_4 (dk_at dksX6_undo_0 8 rfl rfl)
theorem dX6_undo_9 : decode cX6_undo 9 = .ok (.goto 4, 3) := dk_167 0 4 (dk_at dksX6_undo_0 9 rfl rfl)
theorem dX6_undo_12 : decode cX6_undo 12 = .ok (.iconst 0, 1) := dk_3 (dk_at dksX6_undo_0 12 rfl rfl)
theorem dX6_undo_13 : decode cX6_undo 13 = .ok (.putfield 62, 3) := dk_181 0 62 (dk_at dksX6_undo_0 13 rfl rfl)
theorem dX6_undo_16 : decode cX6_undo 16 = .ok (.aload_n 0, 1) := dk_42 (dk_at dksX6_undo_0 16 rfl rfl)
theorem dX6_undo_17 : decode cX6_undo 17 = .ok (.getfield 62, 3) := dk_180 0 62 (dk_at dksX6_undo_0 17 rfl rfl)
theorem dX6_undo_20 : decode cX6_undo 20 = .ok (.ifCond .le 5, 3) := dk_158 0 5 (dk_at dksX6_undo_0 20 rfl rfl)
theorem dX6_undo_23 : decode cX6_undo 23 = .ok (.iconst 0, 1) := dk_3 (dk_at dksX6_undo_0 23 rfl rfl)
theorem dX6_undo_24 : decode cX6_undo 24 = .ok (.ireturn, 1) := dk_172 (dk_at dksX6_undo_1 0 rfl rfl)
theorem dX6_undo_25 : decode cX6_undo 25 = .ok (.aload_n 0, 1) := dk_42 (dk_at dksX6_undo_1 1 rfl rfl)
theorem dX6_undo_26 : decode cX6_undo 26 = .ok (.dup, 1) := dk_89 (dk_at dksX6_undo_1 2 rfl rfl)
theorem dX6_undo_27 : decode cX6_undo 27 = .ok (.getfield 71, 3) := dk_180 0 71 (dk_at dksX6_undo_1 3 rfl rfl)
theorem dX6_undo_30 : decode cX6_undo 30 = .ok (.iconst 1, 1) := dk_4 (dk_at dksX6_undo_1 6 rfl rfl)
theorem dX6_undo_31 : decode cX6_undo 31 = .ok (.isub, 1) := dk_100 (dk_at dksX6_undo_1 7 rfl rfl)
theorem dX6_undo_32 : decode cX6_undo 32 = .ok (.putfield 71, 3) := dk_181 0 71 (dk_at dksX6_undo_1 8 rfl rfl)
theorem dX6_undo_35 : decode cX6_undo 35 = .ok (.aload_n 0, 1) := dk_42 (dk_at dksX6_undo_1 11 rfl rfl)
theorem dX6_undo_36 : decode cX6_undo 36 = .ok (.getfield 19, 3) := dk_180 0 19 (dk_at dksX6_undo_1 12 rfl rfl)
theorem dX6_undo_39 : decode cX6_undo 39 = .ok (.sipush 391, 3) := dk_17 1 135 (dk_at dksX6_undo_1 15 rfl rfl)
theorem dX6_undo_42 : decode cX6_undo 42 = .ok (.aload_n 0, 1) := dk_42 (dk_at dksX6_undo_1 18 rfl rfl)
theorem dX6_undo_43 : decode cX6_undo 43 = .ok (.getfield 71, 3) := dk_180 0 71 (dk_at dksX6_undo_1 19 rfl rfl)
theorem dX6_undo_46 : decode cX6_undo 46 = .ok (.imul, 1) := dk_104 (dk_at dksX6_undo_1 22 rfl rfl)
theorem dX6_undo_47 : decode cX6_undo 47 = .ok (.aload_n 0, 1) := dk_42 (dk_at dksX6_undo_1 23 rfl rfl)
theorem dX6_undo_48 : decode cX6_undo 48 = .ok (.getfield 9, 3) := dk_180 0 9 (dk_at dksX6_undo_2 0 rfl rfl)
theorem dX6_undo_51 : decode cX6_undo 51 = .ok (.iconst 0, 1) := dk_3 (dk_at dksX6_undo_2 3 rfl rfl)
theorem dX6_undo_52 : decode cX6_undo 52 = .ok (.sipush 391, 3) := dk_17 1 135 (dk_at dksX6_undo_2 4 rfl rfl)
theorem dX6_undo_55 : decode cX6_undo 55 = .ok (.invokestatic 65, 3) := dk_184 0 65 (dk_at dksX6_undo_2 7 rfl rfl)
theorem dX6_undo_58 : decode cX6_undo 58 = .ok (.aload_n 0, 1) := dk_42 (dk_at dksX6_undo_2 10 rfl rfl)
theorem dX6_undo_59 : decode cX6_undo 59 = .ok (.getfield 71, 3) := dk_180 0 71 (dk_at dksX6_undo_2 11 rfl rfl)
theorem dX6_undo_62 : decode cX6_undo 62 = .ok (.ireturn, 1) := dk_172 (dk_at dksX6_undo_2 14 rfl rfl)
abbrev cX6_save : ByteArray := prog_27_method_98_code
def yX6_save : MethodName := ⟨RX6, "save", "()I"⟩
def dkwX6_save_1 : List UInt8 := [181, 1, 106, 42, 180, 0, 9, 4, 46, 172]
abbrev dktX6_save_1 : List UInt8 := dkwX6_save_1 ++ []
def dkwX6_save_0 : List UInt8 := [42, 3, 181, 0, 62, 42, 180, 0, 9, 3, 42, 180, 0, 16, 3, 17, 1, 135, 184, 0, 65, 42, 4]
abbrev dktX6_save_0 : List UInt8 := dkwX6_save_0 ++ dktX6_save_1
theorem dksX6_save_0 : cX6_save.data.toList.drop 0 = dktX6_save_0 := by decide +kernel
theorem dksX6_save_1 : cX6_save.data.toList.drop 23 = dktX6_save_1 := dk_seg dksX6_save_0 23 rfl rfl
theorem dX6_save_0 : decode cX6_save 0 = .ok (.aload_n 0, 1) := dk_42 (dk_at dksX6_save_0 0 rfl rfl)
theorem dX6_save_1 : decode cX6_save 1 = .ok (.iconst 0, 1) := dk_3 (dk_at dksX6_save_0 1 rfl rfl)
theorem dX6_save_2 : decode cX6_save 2 = .ok (.putfield 62, 3) := dk_181 0 62 (dk_at dksX6_save_0 2 rfl rfl)
theorem dX6_save_5 : decode cX6_save 5 = .ok (.aload_n 0, 1) := dk_42 (dk_at dksX6_save_0 5 rfl rfl)
theorem dX6_save_6 : decode cX6_save 6 = .ok (.getfield 9, 3) := dk_180 0 9 (dk_at dksX6_save_0 6 rfl rfl)
theorem dX6_save_9 : decode cX6_save 9 = .ok (.iconst 0, 1) := dk_3 (dk_at dksX6_save_0 9 rfl rfl)
theorem dX6_save_10 : decode cX6_save 10 = .ok (.aload_n 0, 1) := dk_42 (dk_at dksX6_save_0 10 rfl rfl)
theorem dX6_save_11 : decode cX6_save 11 = .ok (.getfield 16, 3) := dk_180 0 16 (dk_at dksX6_save_0 11 rfl rfl)
theorem dX6_save_14 : decode cX6_save 14 = .ok (.iconst 0, 1) := dk_3 (dk_at dksX6_save_0 14 rfl rfl)
theorem dX6_save_15 : decode cX6_save 15 = .ok (.sipush 391, 3) := dk_17 1 135 (dk_at dksX6_save_0 15 rfl rfl)
theorem dX6_save_18 : decode cX6_save 18 = .ok (.invokestatic 65, 3) := dk_184 0 65 (dk_at dksX6_save_0 18 rfl rfl)
theorem dX6_save_21 : decode cX6_save 21 = .ok (.aload_n 0, 1) := dk_42 (dk_at dksX6_save_0 21 rfl rfl)
theorem dX6_save_22 : decode cX6_save 22 = .ok (.iconst 1, 1) := dk_4 (dk_at dksX6_save_0 22 rfl rfl)
theorem dX6_save_23 : decode cX6_save 23 = .ok (.putfield 362, 3) := dk_181 1 106 (dk_at dksX6_save_1 0 rfl rfl)
theorem dX6_save_26 : decode cX6_save 26 = .ok (.aload_n 0, 1) := dk_42 (dk_at dksX6_save_1 3 rfl rfl)
theorem dX6_save_27 : decode cX6_save 27 = .ok (.getfield 9, 3) := dk_180 0 9 (dk_at dksX6_save_1 4 rfl rfl)
theorem dX6_save_30 : decode cX6_save 30 = .ok (.iconst 1, 1) := dk_4 (dk_at dksX6_save_1 7 rfl rfl)
theorem dX6_save_31 : decode cX6_save 31 = .ok (.iaload, 1) := dk_46 (dk_at dksX6_save_1 8 rfl rfl)
theorem dX6_save_32 : decode cX6_save 32 = .ok (.ireturn, 1) := dk_172 (dk_at dksX6_save_1 9 rfl rfl)
abbrev cX6_restore : ByteArray := prog_27_method_99_code
def yX6_restore : MethodName := ⟨RX6, "restore", "()I"⟩
def dkwX6_restore_2 : List UInt8 := [180, 0, 9, 4, 46, 172]
abbrev dktX6_restore_2 : List UInt8 := dkwX6_restore_2 ++ []
def dkwX6_restore_1 : List UInt8 := [172, 42, 180, 0, 16, 3, 42, 180, 0, 9, 3, 17, 1, 135, 184, 0, 65, 42, 3, 181, 0, 71, 42]
abbrev dktX6_restore_1 : List UInt8 := dkwX6_restore_1 ++ dktX6_restore_2
def dkwX6_restore_0 : List UInt8 := [42, 42, 180, 1, 106, 153, 0, 7, 3, 167, 0, 4, 4, 181, 0, 62, 42, 180, 0, 62, 158, 0, 5, 3]
abbrev dktX6_restore_0 : List UInt8 := dkwX6_restore_0 ++ dktX6_restore_1
theorem dksX6_restore_0 : cX6_restore.data.toList.drop 0 = dktX6_restore_0 := by decide +kernel
theorem dksX6_restore_1 : cX6_restore.data.toList.drop 24 = dktX6_restore_1 := dk_seg dksX6_restore_0 24 rfl rfl
theorem dksX6_restore_2 : cX6_restore.data.toList.drop 47 = dktX6_restore_2 := dk_seg dksX6_restore_1 23 rfl rfl
theorem dX6_restore_0 : decode cX6_restore 0 = .ok (.aload_n 0, 1) := dk_42 (dk_at dksX6_restore_0 0 rfl rfl)
theorem dX6_restore_1 : decode cX6_restore 1 = .ok (.aload_n 0, 1) := dk_42 (dk_at dksX6_restore_0 1 rfl rfl)
theorem dX6_restore_2 : decode cX6_restore 2 = .ok (.getfield 362, 3) := dk_180 1 106 (dk_at dksX6_restore_0 2 rfl rfl)
theorem dX6_restore_5 : decode cX6_restore 5 = .ok (.ifCond .eq 7, 3) := dk_153 0 7 (dk_at dksX6_restore_0 5 rfl rfl)
theorem dX6_restore_8 : decode cX6_restore 8 = .ok (.iconst 0, 1) := dk_3 (dk_at dksX6_restore_0 8 rfl rfl)
theorem dX6_restore_9 : decode cX6_restore 9 = .ok (.goto 4, 3) := dk_167 0 4 (dk_at dksX6_restore_0 9 rfl rfl)
theorem dX6_restore_12 : decode cX6_restore 12 = .ok (.iconst 1, 1) := dk_4 (dk_at dksX6_restore_0 12 rfl rfl)
theorem dX6_restore_13 : decode cX6_restore 13 = .ok (.putfield 62, 3) := dk_181 0 62 (dk_at dksX6_restore_0 13 rfl rfl)
theorem dX6_restore_16 : decode cX6_restore 16 = .ok (.aload_n 0, 1) := dk_42 (dk_at dksX6_restore_0 16 rfl rfl)
theorem dX6_restore_17 : decode cX6_restore 17 = .ok (.getfield 62, 3) := dk_180 0 62 (dk_at dksX6_restore_0 17 rfl rfl)
theorem dX6_restore_20 : decode cX6_restore 20 = .ok (.ifCond .le 5, 3) := dk_158 0 5 (dk_at dksX6_restore_0 20 rfl rfl)
theorem dX6_restore_23 : decode cX6_restore 23 = .ok (.iconst 0, 1) := dk_3 (dk_at dksX6_restore_0 23 rfl rfl)
theorem dX6_restore_24 : decode cX6_restore 24 = .ok (.ireturn, 1) := dk_172 (dk_at dksX6_restore_1 0 rfl rfl)
theorem dX6_restore_25 : decode cX6_restore 25 = .ok (.aload_n 0, 1) := dk_42 (dk_at dksX6_restore_1 1 rfl rfl)
theorem dX6_restore_26 : decode cX6_restore 26 = .ok (.getfield 16, 3) := dk_180 0 16 (dk_at dksX6_restore_1 2 rfl rfl)
theorem dX6_restore_29 : decode cX6_restore 29 = .ok (.iconst 0, 1) := dk_3 (dk_at dksX6_restore_1 5 rfl rfl)
theorem dX6_restore_30 : decode cX6_restore 30 = .ok (.aload_n 0, 1) := dk_42 (dk_at dksX6_restore_1 6 rfl rfl)
theorem dX6_restore_31 : decode cX6_restore 31 = .ok (.getfield 9, 3) := dk_180 0 9 (dk_at dksX6_restore_1 7 rfl rfl)
theorem dX6_restore_34 : decode cX6_restore 34 = .ok (.iconst 0, 1) := dk_3 (dk_at dksX6_restore_1 10 rfl rfl)
theorem dX6_restore_35 : decode cX6_restore 35 = .ok (.sipush 391, 3) := dk_17 1 135 (dk_at dksX6_restore_1 11 rfl rfl)
theorem dX6_restore_38 : decode cX6_restore 38 = .ok (.invokestatic 65, 3) := dk_184 0 65 (dk_at dksX6_restore_1 14 rfl rfl)
theorem dX6_restore_41 : decode cX6_restore 41 = .ok (.aload_n 0, 1) := dk_42 (dk_at dksX6_restore_1 17 rfl rfl)
theorem dX6_restore_42 : decode cX6_restore 42 = .ok (.iconst 0, 1) := dk_3 (dk_at dksX6_restore_1 18 rfl rfl)
theorem dX6_restore_43 : decode cX6_restore 43 = .ok (.putfield 71, 3) := dk_181 0 71 (dk_at dksX6_restore_1 19 rfl rfl)
theorem dX6_restore_46 : decode cX6_restore 46 = .ok (.aload_n 0, 1) := dk_42 (dk_at dksX6_restore_1 22 rfl rfl)
theorem dX6_restore_47 : decode cX6_restore 47 = .ok (.getfield 9, 3) := dk_180 0 9 (dk_at dksX6_restore_2 0 rfl rfl)
theorem dX6_restore_50 : decode cX6_restore 50 = .ok (.iconst 1, 1) := dk_4 (dk_at dksX6_restore_2 3 rfl rfl)
theorem dX6_restore_51 : decode cX6_restore 51 = .ok (.iaload, 1) := dk_46 (dk_at dksX6_restore_2 4 rfl rfl)
theorem dX6_restore_52 : decode cX6_restore 52 = .ok (.ireturn, 1) := dk_172 (dk_at dksX6_restore_2 5 rfl rfl)
theorem q118 : (Jvm.Cond.initialized "PolicyNotationModel") ∈ lw_all := lw_g (lw_at lw_m1 27 rfl) rfl
theorem q572 : (Jvm.Cond.selects "PolicyNotationModel" ({ cls := "java/lang/Object", name := "getClass", desc := "()Ljava/lang/Class;" } : Jvm.MethodName) ({ cls := "java/lang/Object", name := "getClass", desc := "()Ljava/lang/Class;" } : Jvm.MethodName)) ∈ lw_all := lw_g (lw_at lw_m3 1 rfl) rfl
theorem q2242 : (Jvm.Cond.instantiable "PolicyNotationModel" (34 : Nat)) ∈ lw_all := lw_g (lw_at lw_m9 231 rfl) rfl
theorem q2244 : (Jvm.Cond.instanceMethod ({ cls := "PolicyNotationModel", name := "<init>", desc := "()V" } : Jvm.MethodName)) ∈ lw_all := lw_g (lw_at lw_m9 233 rfl) rfl
theorem q2245 : (Jvm.Cond.code ({ cls := "PolicyNotationModel", name := "<init>", desc := "()V" } : Jvm.MethodName) prog_27_method_1_code (2 : Nat) (Option.none : Option Jvm.ClassFile.FieldType)) ∈ lw_all := lw_g (lw_at lw_m9 234 rfl) rfl
theorem q2246 : (Jvm.Cond.methodLink "PolicyNotationModel" (3 : Nat) ({ cls := "java/lang/Object", name := "<init>", desc := "()V" } : Jvm.MethodName)) ∈ lw_all := lw_g (lw_at lw_m9 235 rfl) rfl
theorem q2247 : (Jvm.Cond.fieldLink "PolicyNotationModel" (9 : Nat) "PolicyNotationModel" "s" "[I") ∈ lw_all := lw_g (lw_at lw_m9 236 rfl) rfl
theorem q2248 : (Jvm.Cond.fieldLink "PolicyNotationModel" (13 : Nat) "PolicyNotationModel" "before" "[I") ∈ lw_all := lw_g (lw_at lw_m9 237 rfl) rfl
theorem q2249 : (Jvm.Cond.fieldLink "PolicyNotationModel" (16 : Nat) "PolicyNotationModel" "saved" "[I") ∈ lw_all := lw_g (lw_at lw_m9 238 rfl) rfl
theorem q2250 : (Jvm.Cond.fieldLink "PolicyNotationModel" (362 : Nat) "PolicyNotationModel" "isSaved" "Z") ∈ lw_all := lw_g (lw_at lw_m9 239 rfl) rfl
theorem q2251 : (Jvm.Cond.fieldLink "PolicyNotationModel" (19 : Nat) "PolicyNotationModel" "past" "[I") ∈ lw_all := lw_g (lw_at lw_m10 0 rfl) rfl
theorem q2252 : (Jvm.Cond.fieldLink "PolicyNotationModel" (71 : Nat) "PolicyNotationModel" "pastMany" "I") ∈ lw_all := lw_g (lw_at lw_m10 1 rfl) rfl
theorem q2253 : (Jvm.Cond.fieldLink "PolicyNotationModel" (62 : Nat) "PolicyNotationModel" "thrown" "I") ∈ lw_all := lw_g (lw_at lw_m10 2 rfl) rfl
theorem q2254 : (Jvm.Cond.fieldLink "PolicyNotationModel" (74 : Nat) "PolicyNotationModel" "reason" "I") ∈ lw_all := lw_g (lw_at lw_m10 3 rfl) rfl
theorem q2255 : (Jvm.Cond.fieldLink "PolicyNotationModel" (77 : Nat) "PolicyNotationModel" "detail" "I") ∈ lw_all := lw_g (lw_at lw_m10 4 rfl) rfl
theorem q2256 : (Jvm.Cond.fieldLink "PolicyNotationModel" (115 : Nat) "PolicyNotationModel" "detailNow" "I") ∈ lw_all := lw_g (lw_at lw_m10 5 rfl) rfl
theorem q2257 : (Jvm.Cond.fieldLink "PolicyNotationModel" (22 : Nat) "PolicyNotationModel" "more" "[I") ∈ lw_all := lw_g (lw_at lw_m10 6 rfl) rfl
theorem q2258 : (Jvm.Cond.fieldLink "PolicyNotationModel" (145 : Nat) "PolicyNotationModel" "moreMany" "I") ∈ lw_all := lw_g (lw_at lw_m10 7 rfl) rfl
theorem q2259 : (Jvm.Cond.fieldLink "PolicyNotationModel" (25 : Nat) "PolicyNotationModel" "covers" "[Z") ∈ lw_all := lw_g (lw_at lw_m10 8 rfl) rfl
theorem q2260 : (Jvm.Cond.fieldLink "PolicyNotationModel" (29 : Nat) "PolicyNotationModel" "holds" "[Z") ∈ lw_all := lw_g (lw_at lw_m10 9 rfl) rfl
theorem q2261 : (Jvm.Cond.fieldLink "PolicyNotationModel" (32 : Nat) "PolicyNotationModel" "without" "I") ∈ lw_all := lw_g (lw_at lw_m10 10 rfl) rfl
theorem q2262 : (Jvm.Cond.fieldLink "PolicyNotationModel" (36 : Nat) "PolicyNotationModel" "chain" "[I") ∈ lw_all := lw_g (lw_at lw_m10 11 rfl) rfl
theorem q2263 : (Jvm.Cond.fieldLink "PolicyNotationModel" (188 : Nat) "PolicyNotationModel" "chainMany" "I") ∈ lw_all := lw_g (lw_at lw_m10 12 rfl) rfl
theorem q2264 : (Jvm.Cond.fieldLink "PolicyNotationModel" (39 : Nat) "PolicyNotationModel" "sheetSign" "I") ∈ lw_all := lw_g (lw_at lw_m10 13 rfl) rfl
theorem q2265 : (Jvm.Cond.fieldLink "PolicyNotationModel" (42 : Nat) "PolicyNotationModel" "sheet" "[I") ∈ lw_all := lw_g (lw_at lw_m10 14 rfl) rfl
theorem q2266 : (Jvm.Cond.fieldLink "PolicyNotationModel" (45 : Nat) "PolicyNotationModel" "rows" "[F") ∈ lw_all := lw_g (lw_at lw_m10 15 rfl) rfl
theorem q2267 : (Jvm.Cond.fieldLink "PolicyNotationModel" (49 : Nat) "PolicyNotationModel" "rowMany" "[I") ∈ lw_all := lw_g (lw_at lw_m10 16 rfl) rfl
theorem q2268 : (Jvm.Cond.fieldLink "PolicyNotationModel" (52 : Nat) "PolicyNotationModel" "input" "[C") ∈ lw_all := lw_g (lw_at lw_m10 17 rfl) rfl
theorem q2269 : (Jvm.Cond.fieldLink "PolicyNotationModel" (252 : Nat) "PolicyNotationModel" "length" "I") ∈ lw_all := lw_g (lw_at lw_m10 18 rfl) rfl
theorem q2270 : (Jvm.Cond.fieldLink "PolicyNotationModel" (259 : Nat) "PolicyNotationModel" "place" "I") ∈ lw_all := lw_g (lw_at lw_m10 19 rfl) rfl
theorem q2271 : (Jvm.Cond.fieldLink "PolicyNotationModel" (255 : Nat) "PolicyNotationModel" "isWrong" "Z") ∈ lw_all := lw_g (lw_at lw_m10 20 rfl) rfl
theorem q2272 : (Jvm.Cond.fieldLink "PolicyNotationModel" (56 : Nat) "PolicyNotationModel" "fault" "I") ∈ lw_all := lw_g (lw_at lw_m10 21 rfl) rfl
theorem q2273 : (Jvm.Cond.fieldLink "PolicyNotationModel" (284 : Nat) "PolicyNotationModel" "readEffect" "I") ∈ lw_all := lw_g (lw_at lw_m10 22 rfl) rfl
theorem q2274 : (Jvm.Cond.fieldLink "PolicyNotationModel" (287 : Nat) "PolicyNotationModel" "readParent" "I") ∈ lw_all := lw_g (lw_at lw_m10 23 rfl) rfl
theorem q2275 : (Jvm.Cond.fieldLink "PolicyNotationModel" (297 : Nat) "PolicyNotationModel" "readScope" "I") ∈ lw_all := lw_g (lw_at lw_m10 24 rfl) rfl
theorem q2276 : (Jvm.Cond.fieldLink "PolicyNotationModel" (303 : Nat) "PolicyNotationModel" "readFirst" "I") ∈ lw_all := lw_g (lw_at lw_m10 25 rfl) rfl
theorem q2277 : (Jvm.Cond.fieldLink "PolicyNotationModel" (306 : Nat) "PolicyNotationModel" "readLast" "I") ∈ lw_all := lw_g (lw_at lw_m10 26 rfl) rfl
theorem q2278 : (Jvm.Cond.fieldLink "PolicyNotationModel" (309 : Nat) "PolicyNotationModel" "readRank" "I") ∈ lw_all := lw_g (lw_at lw_m10 27 rfl) rfl
theorem q2279 : (Jvm.Cond.fieldLink "PolicyNotationModel" (59 : Nat) "PolicyNotationModel" "line" "[C") ∈ lw_all := lw_g (lw_at lw_m10 28 rfl) rfl
theorem q2280 : (Jvm.Cond.fieldLink "PolicyNotationModel" (317 : Nat) "PolicyNotationModel" "lineMany" "I") ∈ lw_all := lw_g (lw_at lw_m10 29 rfl) rfl
theorem q2281 : (Jvm.Cond.laysFinal "PolicyNotationModel" "PolicyNotationModel" "s" "[I") ∈ lw_all := lw_g (lw_at lw_m10 30 rfl) rfl
theorem q2282 : (Jvm.Cond.soleField "PolicyNotationModel" "s") ∈ lw_all := lw_g (lw_at lw_m10 31 rfl) rfl
theorem q2283 : (Jvm.Cond.laysFinal "PolicyNotationModel" "PolicyNotationModel" "before" "[I") ∈ lw_all := lw_g (lw_at lw_m10 32 rfl) rfl
theorem q2284 : (Jvm.Cond.soleField "PolicyNotationModel" "before") ∈ lw_all := lw_g (lw_at lw_m10 33 rfl) rfl
theorem q2285 : (Jvm.Cond.laysFinal "PolicyNotationModel" "PolicyNotationModel" "saved" "[I") ∈ lw_all := lw_g (lw_at lw_m10 34 rfl) rfl
theorem q2286 : (Jvm.Cond.soleField "PolicyNotationModel" "saved") ∈ lw_all := lw_g (lw_at lw_m10 35 rfl) rfl
theorem q2287 : (Jvm.Cond.lays "PolicyNotationModel" "PolicyNotationModel" "isSaved" "Z") ∈ lw_all := lw_g (lw_at lw_m10 36 rfl) rfl
theorem q2288 : (Jvm.Cond.soleField "PolicyNotationModel" "isSaved") ∈ lw_all := lw_g (lw_at lw_m10 37 rfl) rfl
theorem q2289 : (Jvm.Cond.laysFinal "PolicyNotationModel" "PolicyNotationModel" "past" "[I") ∈ lw_all := lw_g (lw_at lw_m10 38 rfl) rfl
theorem q2290 : (Jvm.Cond.soleField "PolicyNotationModel" "past") ∈ lw_all := lw_g (lw_at lw_m10 39 rfl) rfl
theorem q2291 : (Jvm.Cond.lays "PolicyNotationModel" "PolicyNotationModel" "pastMany" "I") ∈ lw_all := lw_g (lw_at lw_m10 40 rfl) rfl
theorem q2292 : (Jvm.Cond.soleField "PolicyNotationModel" "pastMany") ∈ lw_all := lw_g (lw_at lw_m10 41 rfl) rfl
theorem q2293 : (Jvm.Cond.lays "PolicyNotationModel" "PolicyNotationModel" "thrown" "I") ∈ lw_all := lw_g (lw_at lw_m10 42 rfl) rfl
theorem q2294 : (Jvm.Cond.soleField "PolicyNotationModel" "thrown") ∈ lw_all := lw_g (lw_at lw_m10 43 rfl) rfl
theorem q2295 : (Jvm.Cond.lays "PolicyNotationModel" "PolicyNotationModel" "reason" "I") ∈ lw_all := lw_g (lw_at lw_m10 44 rfl) rfl
theorem q2296 : (Jvm.Cond.soleField "PolicyNotationModel" "reason") ∈ lw_all := lw_g (lw_at lw_m10 45 rfl) rfl
theorem q2297 : (Jvm.Cond.lays "PolicyNotationModel" "PolicyNotationModel" "detail" "I") ∈ lw_all := lw_g (lw_at lw_m10 46 rfl) rfl
theorem q2298 : (Jvm.Cond.soleField "PolicyNotationModel" "detail") ∈ lw_all := lw_g (lw_at lw_m10 47 rfl) rfl
theorem q2299 : (Jvm.Cond.lays "PolicyNotationModel" "PolicyNotationModel" "detailNow" "I") ∈ lw_all := lw_g (lw_at lw_m10 48 rfl) rfl
theorem q2300 : (Jvm.Cond.soleField "PolicyNotationModel" "detailNow") ∈ lw_all := lw_g (lw_at lw_m10 49 rfl) rfl
theorem q2301 : (Jvm.Cond.laysFinal "PolicyNotationModel" "PolicyNotationModel" "more" "[I") ∈ lw_all := lw_g (lw_at lw_m10 50 rfl) rfl
theorem q2302 : (Jvm.Cond.soleField "PolicyNotationModel" "more") ∈ lw_all := lw_g (lw_at lw_m10 51 rfl) rfl
theorem q2303 : (Jvm.Cond.lays "PolicyNotationModel" "PolicyNotationModel" "moreMany" "I") ∈ lw_all := lw_g (lw_at lw_m10 52 rfl) rfl
theorem q2304 : (Jvm.Cond.soleField "PolicyNotationModel" "moreMany") ∈ lw_all := lw_g (lw_at lw_m10 53 rfl) rfl
theorem q2305 : (Jvm.Cond.laysFinal "PolicyNotationModel" "PolicyNotationModel" "covers" "[Z") ∈ lw_all := lw_g (lw_at lw_m10 54 rfl) rfl
theorem q2306 : (Jvm.Cond.soleField "PolicyNotationModel" "covers") ∈ lw_all := lw_g (lw_at lw_m10 55 rfl) rfl
theorem q2307 : (Jvm.Cond.laysFinal "PolicyNotationModel" "PolicyNotationModel" "holds" "[Z") ∈ lw_all := lw_g (lw_at lw_m10 56 rfl) rfl
theorem q2308 : (Jvm.Cond.soleField "PolicyNotationModel" "holds") ∈ lw_all := lw_g (lw_at lw_m10 57 rfl) rfl
theorem q2309 : (Jvm.Cond.lays "PolicyNotationModel" "PolicyNotationModel" "without" "I") ∈ lw_all := lw_g (lw_at lw_m10 58 rfl) rfl
theorem q2310 : (Jvm.Cond.soleField "PolicyNotationModel" "without") ∈ lw_all := lw_g (lw_at lw_m10 59 rfl) rfl
theorem q2311 : (Jvm.Cond.laysFinal "PolicyNotationModel" "PolicyNotationModel" "chain" "[I") ∈ lw_all := lw_g (lw_at lw_m10 60 rfl) rfl
theorem q2312 : (Jvm.Cond.soleField "PolicyNotationModel" "chain") ∈ lw_all := lw_g (lw_at lw_m10 61 rfl) rfl
theorem q2313 : (Jvm.Cond.lays "PolicyNotationModel" "PolicyNotationModel" "chainMany" "I") ∈ lw_all := lw_g (lw_at lw_m10 62 rfl) rfl
theorem q2314 : (Jvm.Cond.soleField "PolicyNotationModel" "chainMany") ∈ lw_all := lw_g (lw_at lw_m10 63 rfl) rfl
theorem q2315 : (Jvm.Cond.lays "PolicyNotationModel" "PolicyNotationModel" "sheetSign" "I") ∈ lw_all := lw_g (lw_at lw_m10 64 rfl) rfl
theorem q2316 : (Jvm.Cond.soleField "PolicyNotationModel" "sheetSign") ∈ lw_all := lw_g (lw_at lw_m10 65 rfl) rfl
theorem q2317 : (Jvm.Cond.laysFinal "PolicyNotationModel" "PolicyNotationModel" "sheet" "[I") ∈ lw_all := lw_g (lw_at lw_m10 66 rfl) rfl
theorem q2318 : (Jvm.Cond.soleField "PolicyNotationModel" "sheet") ∈ lw_all := lw_g (lw_at lw_m10 67 rfl) rfl
theorem q2319 : (Jvm.Cond.laysFinal "PolicyNotationModel" "PolicyNotationModel" "rows" "[F") ∈ lw_all := lw_g (lw_at lw_m10 68 rfl) rfl
theorem q2320 : (Jvm.Cond.soleField "PolicyNotationModel" "rows") ∈ lw_all := lw_g (lw_at lw_m10 69 rfl) rfl
theorem q2321 : (Jvm.Cond.laysFinal "PolicyNotationModel" "PolicyNotationModel" "rowMany" "[I") ∈ lw_all := lw_g (lw_at lw_m10 70 rfl) rfl
theorem q2322 : (Jvm.Cond.soleField "PolicyNotationModel" "rowMany") ∈ lw_all := lw_g (lw_at lw_m10 71 rfl) rfl
theorem q2323 : (Jvm.Cond.laysFinal "PolicyNotationModel" "PolicyNotationModel" "input" "[C") ∈ lw_all := lw_g (lw_at lw_m10 72 rfl) rfl
theorem q2324 : (Jvm.Cond.soleField "PolicyNotationModel" "input") ∈ lw_all := lw_g (lw_at lw_m10 73 rfl) rfl
theorem q2325 : (Jvm.Cond.lays "PolicyNotationModel" "PolicyNotationModel" "length" "I") ∈ lw_all := lw_g (lw_at lw_m10 74 rfl) rfl
theorem q2326 : (Jvm.Cond.soleField "PolicyNotationModel" "length") ∈ lw_all := lw_g (lw_at lw_m10 75 rfl) rfl
theorem q2327 : (Jvm.Cond.lays "PolicyNotationModel" "PolicyNotationModel" "place" "I") ∈ lw_all := lw_g (lw_at lw_m10 76 rfl) rfl
theorem q2328 : (Jvm.Cond.soleField "PolicyNotationModel" "place") ∈ lw_all := lw_g (lw_at lw_m10 77 rfl) rfl
theorem q2329 : (Jvm.Cond.lays "PolicyNotationModel" "PolicyNotationModel" "isWrong" "Z") ∈ lw_all := lw_g (lw_at lw_m10 78 rfl) rfl
theorem q2330 : (Jvm.Cond.soleField "PolicyNotationModel" "isWrong") ∈ lw_all := lw_g (lw_at lw_m10 79 rfl) rfl
theorem q2331 : (Jvm.Cond.lays "PolicyNotationModel" "PolicyNotationModel" "fault" "I") ∈ lw_all := lw_g (lw_at lw_m10 80 rfl) rfl
theorem q2332 : (Jvm.Cond.soleField "PolicyNotationModel" "fault") ∈ lw_all := lw_g (lw_at lw_m10 81 rfl) rfl
theorem q2333 : (Jvm.Cond.lays "PolicyNotationModel" "PolicyNotationModel" "readEffect" "I") ∈ lw_all := lw_g (lw_at lw_m10 82 rfl) rfl
theorem q2334 : (Jvm.Cond.soleField "PolicyNotationModel" "readEffect") ∈ lw_all := lw_g (lw_at lw_m10 83 rfl) rfl
theorem q2335 : (Jvm.Cond.lays "PolicyNotationModel" "PolicyNotationModel" "readParent" "I") ∈ lw_all := lw_g (lw_at lw_m10 84 rfl) rfl
theorem q2336 : (Jvm.Cond.soleField "PolicyNotationModel" "readParent") ∈ lw_all := lw_g (lw_at lw_m10 85 rfl) rfl
theorem q2337 : (Jvm.Cond.lays "PolicyNotationModel" "PolicyNotationModel" "readScope" "I") ∈ lw_all := lw_g (lw_at lw_m10 86 rfl) rfl
theorem q2338 : (Jvm.Cond.soleField "PolicyNotationModel" "readScope") ∈ lw_all := lw_g (lw_at lw_m10 87 rfl) rfl
theorem q2339 : (Jvm.Cond.lays "PolicyNotationModel" "PolicyNotationModel" "readFirst" "I") ∈ lw_all := lw_g (lw_at lw_m10 88 rfl) rfl
theorem q2340 : (Jvm.Cond.soleField "PolicyNotationModel" "readFirst") ∈ lw_all := lw_g (lw_at lw_m10 89 rfl) rfl
theorem q2341 : (Jvm.Cond.lays "PolicyNotationModel" "PolicyNotationModel" "readLast" "I") ∈ lw_all := lw_g (lw_at lw_m10 90 rfl) rfl
theorem q2342 : (Jvm.Cond.soleField "PolicyNotationModel" "readLast") ∈ lw_all := lw_g (lw_at lw_m10 91 rfl) rfl
theorem q2343 : (Jvm.Cond.lays "PolicyNotationModel" "PolicyNotationModel" "readRank" "I") ∈ lw_all := lw_g (lw_at lw_m10 92 rfl) rfl
theorem q2344 : (Jvm.Cond.soleField "PolicyNotationModel" "readRank") ∈ lw_all := lw_g (lw_at lw_m10 93 rfl) rfl
theorem q2345 : (Jvm.Cond.laysFinal "PolicyNotationModel" "PolicyNotationModel" "line" "[C") ∈ lw_all := lw_g (lw_at lw_m10 94 rfl) rfl
theorem q2346 : (Jvm.Cond.soleField "PolicyNotationModel" "line") ∈ lw_all := lw_g (lw_at lw_m10 95 rfl) rfl
theorem q2347 : (Jvm.Cond.lays "PolicyNotationModel" "PolicyNotationModel" "lineMany" "I") ∈ lw_all := lw_g (lw_at lw_m10 96 rfl) rfl
theorem q2348 : (Jvm.Cond.soleField "PolicyNotationModel" "lineMany") ∈ lw_all := lw_g (lw_at lw_m10 97 rfl) rfl
theorem q2349 : (Jvm.Cond.superclass "PolicyNotationModel" "java/lang/Object") ∈ lw_all := lw_g (lw_at lw_m10 98 rfl) rfl
theorem q2353 : (Jvm.Cond.instanceMethod ({ cls := "PolicyNotationModel", name := "thrown", desc := "()I" } : Jvm.MethodName)) ∈ lw_all := lw_g (lw_at lw_m10 102 rfl) rfl
theorem q2354 : (Jvm.Cond.selects "PolicyNotationModel" ({ cls := "PolicyNotationModel", name := "thrown", desc := "()I" } : Jvm.MethodName) ({ cls := "PolicyNotationModel", name := "thrown", desc := "()I" } : Jvm.MethodName)) ∈ lw_all := lw_g (lw_at lw_m10 103 rfl) rfl
theorem q2355 : (Jvm.Cond.code ({ cls := "PolicyNotationModel", name := "thrown", desc := "()I" } : Jvm.MethodName) prog_27_method_2_code (1 : Nat) (Option.some Jvm.ClassFile.FieldType.int)) ∈ lw_all := lw_g (lw_at lw_m10 104 rfl) rfl
theorem q2357 : (Jvm.Cond.instanceMethod ({ cls := "PolicyNotationModel", name := "scope", desc := "(I)I" } : Jvm.MethodName)) ∈ lw_all := lw_g (lw_at lw_m10 106 rfl) rfl
theorem q2358 : (Jvm.Cond.selects "PolicyNotationModel" ({ cls := "PolicyNotationModel", name := "scope", desc := "(I)I" } : Jvm.MethodName) ({ cls := "PolicyNotationModel", name := "scope", desc := "(I)I" } : Jvm.MethodName)) ∈ lw_all := lw_g (lw_at lw_m10 107 rfl) rfl
theorem q2359 : (Jvm.Cond.code ({ cls := "PolicyNotationModel", name := "scope", desc := "(I)I" } : Jvm.MethodName) prog_27_method_14_code (3 : Nat) (Option.some Jvm.ClassFile.FieldType.int)) ∈ lw_all := lw_g (lw_at lw_m10 108 rfl) rfl
theorem q2360 : (Jvm.Cond.methodLink "PolicyNotationModel" (88 : Nat) ({ cls := "PolicyNotationModel", name := "isScope", desc := "(I)Z" } : Jvm.MethodName)) ∈ lw_all := lw_g (lw_at lw_m10 109 rfl) rfl
theorem q2361 : (Jvm.Cond.privateMethod ({ cls := "PolicyNotationModel", name := "isScope", desc := "(I)Z" } : Jvm.MethodName)) ∈ lw_tbl := lw_at lw_m10 110 rfl
theorem q2362 : (Jvm.Cond.instanceMethod ({ cls := "PolicyNotationModel", name := "isScope", desc := "(I)Z" } : Jvm.MethodName)) ∈ lw_all := lw_g (lw_at lw_m10 111 rfl) rfl
theorem q2363 : (Jvm.Cond.code ({ cls := "PolicyNotationModel", name := "isScope", desc := "(I)Z" } : Jvm.MethodName) prog_27_method_9_code (2 : Nat) (Option.some Jvm.ClassFile.FieldType.boolean)) ∈ lw_all := lw_g (lw_at lw_m10 112 rfl) rfl
theorem q2364 : (Jvm.Cond.methodLink "PolicyNotationModel" (80 : Nat) ({ cls := "PolicyNotationModel", name := "in", desc := "(III)Z" } : Jvm.MethodName)) ∈ lw_all := lw_g (lw_at lw_m10 113 rfl) rfl
theorem q2365 : (Jvm.Cond.static ({ cls := "PolicyNotationModel", name := "in", desc := "(III)Z" } : Jvm.MethodName)) ∈ lw_all := lw_g (lw_at lw_m10 114 rfl) rfl
theorem q2366 : (Jvm.Cond.code ({ cls := "PolicyNotationModel", name := "in", desc := "(III)Z" } : Jvm.MethodName) prog_27_method_3_code (3 : Nat) (Option.some Jvm.ClassFile.FieldType.boolean)) ∈ lw_all := lw_g (lw_at lw_m10 115 rfl) rfl
theorem q2367 : (Jvm.Cond.methodLink "PolicyNotationModel" (92 : Nat) ({ cls := "PolicyNotationModel", name := "keepState", desc := "()V" } : Jvm.MethodName)) ∈ lw_all := lw_g (lw_at lw_m10 116 rfl) rfl
theorem q2368 : (Jvm.Cond.privateMethod ({ cls := "PolicyNotationModel", name := "keepState", desc := "()V" } : Jvm.MethodName)) ∈ lw_tbl := lw_at lw_m10 117 rfl
theorem q2369 : (Jvm.Cond.instanceMethod ({ cls := "PolicyNotationModel", name := "keepState", desc := "()V" } : Jvm.MethodName)) ∈ lw_all := lw_g (lw_at lw_m10 118 rfl) rfl
theorem q2370 : (Jvm.Cond.code ({ cls := "PolicyNotationModel", name := "keepState", desc := "()V" } : Jvm.MethodName) prog_27_method_4_code (1 : Nat) (Option.none : Option Jvm.ClassFile.FieldType)) ∈ lw_all := lw_g (lw_at lw_m10 119 rfl) rfl
theorem q2371 : (Jvm.Cond.methodLink "PolicyNotationModel" (65 : Nat) ({ cls := "java/lang/System", name := "arraycopy", desc := "(Ljava/lang/Object;ILjava/lang/Object;II)V" } : Jvm.MethodName)) ∈ lw_all := lw_g (lw_at lw_m10 120 rfl) rfl
theorem q2372 : (Jvm.Cond.methodLink "PolicyNotationModel" (95 : Nat) ({ cls := "PolicyNotationModel", name := "change", desc := "()V" } : Jvm.MethodName)) ∈ lw_all := lw_g (lw_at lw_m10 121 rfl) rfl
theorem q2373 : (Jvm.Cond.privateMethod ({ cls := "PolicyNotationModel", name := "change", desc := "()V" } : Jvm.MethodName)) ∈ lw_tbl := lw_at lw_m10 122 rfl
theorem q2374 : (Jvm.Cond.instanceMethod ({ cls := "PolicyNotationModel", name := "change", desc := "()V" } : Jvm.MethodName)) ∈ lw_all := lw_g (lw_at lw_m10 123 rfl) rfl
theorem q2375 : (Jvm.Cond.code ({ cls := "PolicyNotationModel", name := "change", desc := "()V" } : Jvm.MethodName) prog_27_method_5_code (1 : Nat) (Option.none : Option Jvm.ClassFile.FieldType)) ∈ lw_all := lw_g (lw_at lw_m10 124 rfl) rfl
theorem q2377 : (Jvm.Cond.instanceMethod ({ cls := "PolicyNotationModel", name := "setDefault", desc := "(II)I" } : Jvm.MethodName)) ∈ lw_all := lw_g (lw_at lw_m10 126 rfl) rfl
theorem q2378 : (Jvm.Cond.selects "PolicyNotationModel" ({ cls := "PolicyNotationModel", name := "setDefault", desc := "(II)I" } : Jvm.MethodName) ({ cls := "PolicyNotationModel", name := "setDefault", desc := "(II)I" } : Jvm.MethodName)) ∈ lw_all := lw_g (lw_at lw_m10 127 rfl) rfl
theorem q2379 : (Jvm.Cond.code ({ cls := "PolicyNotationModel", name := "setDefault", desc := "(II)I" } : Jvm.MethodName) prog_27_method_15_code (4 : Nat) (Option.some Jvm.ClassFile.FieldType.int)) ∈ lw_all := lw_g (lw_at lw_m10 128 rfl) rfl
theorem q2381 : (Jvm.Cond.instanceMethod ({ cls := "PolicyNotationModel", name := "scopeOf", desc := "(II)I" } : Jvm.MethodName)) ∈ lw_all := lw_g (lw_at lw_m10 130 rfl) rfl
theorem q2382 : (Jvm.Cond.selects "PolicyNotationModel" ({ cls := "PolicyNotationModel", name := "scopeOf", desc := "(II)I" } : Jvm.MethodName) ({ cls := "PolicyNotationModel", name := "scopeOf", desc := "(II)I" } : Jvm.MethodName)) ∈ lw_all := lw_g (lw_at lw_m10 131 rfl) rfl
theorem q2383 : (Jvm.Cond.code ({ cls := "PolicyNotationModel", name := "scopeOf", desc := "(II)I" } : Jvm.MethodName) prog_27_method_16_code (5 : Nat) (Option.some Jvm.ClassFile.FieldType.int)) ∈ lw_all := lw_g (lw_at lw_m10 132 rfl) rfl
theorem q2384 : (Jvm.Cond.methodLink "PolicyNotationModel" (84 : Nat) ({ cls := "PolicyNotationModel", name := "outer", desc := "(I)I" } : Jvm.MethodName)) ∈ lw_all := lw_g (lw_at lw_m10 133 rfl) rfl
theorem q2385 : (Jvm.Cond.privateMethod ({ cls := "PolicyNotationModel", name := "outer", desc := "(I)I" } : Jvm.MethodName)) ∈ lw_tbl := lw_at lw_m10 134 rfl
theorem q2386 : (Jvm.Cond.instanceMethod ({ cls := "PolicyNotationModel", name := "outer", desc := "(I)I" } : Jvm.MethodName)) ∈ lw_all := lw_g (lw_at lw_m10 135 rfl) rfl
theorem q2387 : (Jvm.Cond.code ({ cls := "PolicyNotationModel", name := "outer", desc := "(I)I" } : Jvm.MethodName) prog_27_method_10_code (2 : Nat) (Option.some Jvm.ClassFile.FieldType.int)) ∈ lw_all := lw_g (lw_at lw_m10 136 rfl) rfl
theorem q2388 : (Jvm.Cond.methodLink "PolicyNotationModel" (98 : Nat) ({ cls := "PolicyNotationModel", name := "depthOf", desc := "(I)I" } : Jvm.MethodName)) ∈ lw_all := lw_g (lw_at lw_m10 137 rfl) rfl
theorem q2389 : (Jvm.Cond.privateMethod ({ cls := "PolicyNotationModel", name := "depthOf", desc := "(I)I" } : Jvm.MethodName)) ∈ lw_tbl := lw_at lw_m10 138 rfl
theorem q2390 : (Jvm.Cond.instanceMethod ({ cls := "PolicyNotationModel", name := "depthOf", desc := "(I)I" } : Jvm.MethodName)) ∈ lw_all := lw_g (lw_at lw_m10 139 rfl) rfl
theorem q2391 : (Jvm.Cond.code ({ cls := "PolicyNotationModel", name := "depthOf", desc := "(I)I" } : Jvm.MethodName) prog_27_method_11_code (4 : Nat) (Option.some Jvm.ClassFile.FieldType.int)) ∈ lw_all := lw_g (lw_at lw_m10 140 rfl) rfl
theorem q2392 : (Jvm.Cond.methodLink "PolicyNotationModel" (101 : Nat) ({ cls := "PolicyNotationModel", name := "defaultFor", desc := "(I)I" } : Jvm.MethodName)) ∈ lw_all := lw_g (lw_at lw_m10 141 rfl) rfl
theorem q2393 : (Jvm.Cond.privateMethod ({ cls := "PolicyNotationModel", name := "defaultFor", desc := "(I)I" } : Jvm.MethodName)) ∈ lw_tbl := lw_at lw_m10 142 rfl
theorem q2394 : (Jvm.Cond.instanceMethod ({ cls := "PolicyNotationModel", name := "defaultFor", desc := "(I)I" } : Jvm.MethodName)) ∈ lw_all := lw_g (lw_at lw_m10 143 rfl) rfl
theorem q2395 : (Jvm.Cond.code ({ cls := "PolicyNotationModel", name := "defaultFor", desc := "(I)I" } : Jvm.MethodName) prog_27_method_13_code (3 : Nat) (Option.some Jvm.ClassFile.FieldType.int)) ∈ lw_all := lw_g (lw_at lw_m10 144 rfl) rfl
theorem q2396 : (Jvm.Cond.methodLink "PolicyNotationModel" (104 : Nat) ({ cls := "PolicyNotationModel", name := "of", desc := "(II)I" } : Jvm.MethodName)) ∈ lw_all := lw_g (lw_at lw_m10 145 rfl) rfl
theorem q2397 : (Jvm.Cond.privateMethod ({ cls := "PolicyNotationModel", name := "of", desc := "(II)I" } : Jvm.MethodName)) ∈ lw_tbl := lw_at lw_m10 146 rfl
theorem q2398 : (Jvm.Cond.instanceMethod ({ cls := "PolicyNotationModel", name := "of", desc := "(II)I" } : Jvm.MethodName)) ∈ lw_all := lw_g (lw_at lw_m10 147 rfl) rfl
theorem q2399 : (Jvm.Cond.code ({ cls := "PolicyNotationModel", name := "of", desc := "(II)I" } : Jvm.MethodName) prog_27_method_20_code (3 : Nat) (Option.some Jvm.ClassFile.FieldType.int)) ∈ lw_all := lw_g (lw_at lw_m10 148 rfl) rfl
theorem q2400 : (Jvm.Cond.methodLink "PolicyNotationModel" (112 : Nat) ({ cls := "PolicyNotationModel", name := "at", desc := "(I)I" } : Jvm.MethodName)) ∈ lw_all := lw_g (lw_at lw_m10 149 rfl) rfl
theorem q2401 : (Jvm.Cond.static ({ cls := "PolicyNotationModel", name := "at", desc := "(I)I" } : Jvm.MethodName)) ∈ lw_all := lw_g (lw_at lw_m10 150 rfl) rfl
theorem q2402 : (Jvm.Cond.code ({ cls := "PolicyNotationModel", name := "at", desc := "(I)I" } : Jvm.MethodName) prog_27_method_19_code (1 : Nat) (Option.some Jvm.ClassFile.FieldType.int)) ∈ lw_all := lw_g (lw_at lw_m10 151 rfl) rfl
theorem q2404 : (Jvm.Cond.instanceMethod ({ cls := "PolicyNotationModel", name := "isWithin", desc := "(II)Z" } : Jvm.MethodName)) ∈ lw_all := lw_g (lw_at lw_m10 153 rfl) rfl
theorem q2405 : (Jvm.Cond.selects "PolicyNotationModel" ({ cls := "PolicyNotationModel", name := "isWithin", desc := "(II)Z" } : Jvm.MethodName) ({ cls := "PolicyNotationModel", name := "isWithin", desc := "(II)Z" } : Jvm.MethodName)) ∈ lw_all := lw_g (lw_at lw_m10 154 rfl) rfl
theorem q2406 : (Jvm.Cond.code ({ cls := "PolicyNotationModel", name := "isWithin", desc := "(II)Z" } : Jvm.MethodName) prog_27_method_17_code (3 : Nat) (Option.some Jvm.ClassFile.FieldType.boolean)) ∈ lw_all := lw_g (lw_at lw_m10 155 rfl) rfl
theorem q2407 : (Jvm.Cond.methodLink "PolicyNotationModel" (108 : Nat) ({ cls := "PolicyNotationModel", name := "within", desc := "(II)Z" } : Jvm.MethodName)) ∈ lw_all := lw_g (lw_at lw_m10 156 rfl) rfl
theorem q2408 : (Jvm.Cond.privateMethod ({ cls := "PolicyNotationModel", name := "within", desc := "(II)Z" } : Jvm.MethodName)) ∈ lw_tbl := lw_at lw_m10 157 rfl
theorem q2409 : (Jvm.Cond.instanceMethod ({ cls := "PolicyNotationModel", name := "within", desc := "(II)Z" } : Jvm.MethodName)) ∈ lw_all := lw_g (lw_at lw_m10 158 rfl) rfl
theorem q2410 : (Jvm.Cond.code ({ cls := "PolicyNotationModel", name := "within", desc := "(II)Z" } : Jvm.MethodName) prog_27_method_12_code (4 : Nat) (Option.some Jvm.ClassFile.FieldType.boolean)) ∈ lw_all := lw_g (lw_at lw_m10 159 rfl) rfl
theorem q2412 : (Jvm.Cond.instanceMethod ({ cls := "PolicyNotationModel", name := "rule", desc := "(IIIII)I" } : Jvm.MethodName)) ∈ lw_all := lw_g (lw_at lw_m10 161 rfl) rfl
theorem q2413 : (Jvm.Cond.selects "PolicyNotationModel" ({ cls := "PolicyNotationModel", name := "rule", desc := "(IIIII)I" } : Jvm.MethodName) ({ cls := "PolicyNotationModel", name := "rule", desc := "(IIIII)I" } : Jvm.MethodName)) ∈ lw_all := lw_g (lw_at lw_m10 162 rfl) rfl
theorem q2414 : (Jvm.Cond.code ({ cls := "PolicyNotationModel", name := "rule", desc := "(IIIII)I" } : Jvm.MethodName) prog_27_method_25_code (6 : Nat) (Option.some Jvm.ClassFile.FieldType.int)) ∈ lw_all := lw_g (lw_at lw_m10 163 rfl) rfl
theorem q2415 : (Jvm.Cond.methodLink "PolicyNotationModel" (133 : Nat) ({ cls := "PolicyNotationModel", name := "isEffect", desc := "(I)Z" } : Jvm.MethodName)) ∈ lw_all := lw_g (lw_at lw_m10 164 rfl) rfl
theorem q2416 : (Jvm.Cond.static ({ cls := "PolicyNotationModel", name := "isEffect", desc := "(I)Z" } : Jvm.MethodName)) ∈ lw_all := lw_g (lw_at lw_m10 165 rfl) rfl
theorem q2417 : (Jvm.Cond.code ({ cls := "PolicyNotationModel", name := "isEffect", desc := "(I)Z" } : Jvm.MethodName) prog_27_method_8_code (1 : Nat) (Option.some Jvm.ClassFile.FieldType.boolean)) ∈ lw_all := lw_g (lw_at lw_m10 166 rfl) rfl
theorem q2418 : (Jvm.Cond.methodLink "PolicyNotationModel" (136 : Nat) ({ cls := "PolicyNotationModel", name := "isDay", desc := "(I)Z" } : Jvm.MethodName)) ∈ lw_all := lw_g (lw_at lw_m10 167 rfl) rfl
theorem q2419 : (Jvm.Cond.static ({ cls := "PolicyNotationModel", name := "isDay", desc := "(I)Z" } : Jvm.MethodName)) ∈ lw_all := lw_g (lw_at lw_m10 168 rfl) rfl
theorem q2420 : (Jvm.Cond.code ({ cls := "PolicyNotationModel", name := "isDay", desc := "(I)Z" } : Jvm.MethodName) prog_27_method_7_code (1 : Nat) (Option.some Jvm.ClassFile.FieldType.boolean)) ∈ lw_all := lw_g (lw_at lw_m10 169 rfl) rfl
theorem q2421 : (Jvm.Cond.methodLink "PolicyNotationModel" (139 : Nat) ({ cls := "PolicyNotationModel", name := "add", desc := "(IIIIII)I" } : Jvm.MethodName)) ∈ lw_all := lw_g (lw_at lw_m10 170 rfl) rfl
theorem q2422 : (Jvm.Cond.privateMethod ({ cls := "PolicyNotationModel", name := "add", desc := "(IIIIII)I" } : Jvm.MethodName)) ∈ lw_tbl := lw_at lw_m10 171 rfl
theorem q2423 : (Jvm.Cond.instanceMethod ({ cls := "PolicyNotationModel", name := "add", desc := "(IIIIII)I" } : Jvm.MethodName)) ∈ lw_all := lw_g (lw_at lw_m10 172 rfl) rfl
theorem q2424 : (Jvm.Cond.code ({ cls := "PolicyNotationModel", name := "add", desc := "(IIIIII)I" } : Jvm.MethodName) prog_27_method_24_code (8 : Nat) (Option.some Jvm.ClassFile.FieldType.int)) ∈ lw_all := lw_g (lw_at lw_m10 173 rfl) rfl
theorem q2425 : (Jvm.Cond.methodLink "PolicyNotationModel" (121 : Nat) ({ cls := "PolicyNotationModel", name := "hinders", desc := "(IIII)I" } : Jvm.MethodName)) ∈ lw_all := lw_g (lw_at lw_m10 174 rfl) rfl
theorem q2426 : (Jvm.Cond.privateMethod ({ cls := "PolicyNotationModel", name := "hinders", desc := "(IIII)I" } : Jvm.MethodName)) ∈ lw_tbl := lw_at lw_m10 175 rfl
theorem q2427 : (Jvm.Cond.instanceMethod ({ cls := "PolicyNotationModel", name := "hinders", desc := "(IIII)I" } : Jvm.MethodName)) ∈ lw_all := lw_g (lw_at lw_m10 176 rfl) rfl
theorem q2428 : (Jvm.Cond.code ({ cls := "PolicyNotationModel", name := "hinders", desc := "(IIII)I" } : Jvm.MethodName) prog_27_method_22_code (5 : Nat) (Option.some Jvm.ClassFile.FieldType.int)) ∈ lw_all := lw_g (lw_at lw_m10 177 rfl) rfl
theorem q2429 : (Jvm.Cond.methodLink "PolicyNotationModel" (118 : Nat) ({ cls := "PolicyNotationModel", name := "depthOfRule", desc := "(I)I" } : Jvm.MethodName)) ∈ lw_all := lw_g (lw_at lw_m10 178 rfl) rfl
theorem q2430 : (Jvm.Cond.privateMethod ({ cls := "PolicyNotationModel", name := "depthOfRule", desc := "(I)I" } : Jvm.MethodName)) ∈ lw_tbl := lw_at lw_m10 179 rfl
theorem q2431 : (Jvm.Cond.instanceMethod ({ cls := "PolicyNotationModel", name := "depthOfRule", desc := "(I)I" } : Jvm.MethodName)) ∈ lw_all := lw_g (lw_at lw_m10 180 rfl) rfl
theorem q2432 : (Jvm.Cond.code ({ cls := "PolicyNotationModel", name := "depthOfRule", desc := "(I)I" } : Jvm.MethodName) prog_27_method_21_code (4 : Nat) (Option.some Jvm.ClassFile.FieldType.int)) ∈ lw_all := lw_g (lw_at lw_m10 181 rfl) rfl
theorem q2433 : (Jvm.Cond.methodLink "PolicyNotationModel" (125 : Nat) ({ cls := "PolicyNotationModel", name := "refuse", desc := "(III)I" } : Jvm.MethodName)) ∈ lw_all := lw_g (lw_at lw_m10 182 rfl) rfl
theorem q2434 : (Jvm.Cond.privateMethod ({ cls := "PolicyNotationModel", name := "refuse", desc := "(III)I" } : Jvm.MethodName)) ∈ lw_tbl := lw_at lw_m10 183 rfl
theorem q2435 : (Jvm.Cond.instanceMethod ({ cls := "PolicyNotationModel", name := "refuse", desc := "(III)I" } : Jvm.MethodName)) ∈ lw_all := lw_g (lw_at lw_m10 184 rfl) rfl
theorem q2436 : (Jvm.Cond.code ({ cls := "PolicyNotationModel", name := "refuse", desc := "(III)I" } : Jvm.MethodName) prog_27_method_6_code (4 : Nat) (Option.some Jvm.ClassFile.FieldType.int)) ∈ lw_all := lw_g (lw_at lw_m10 185 rfl) rfl
theorem q2437 : (Jvm.Cond.methodLink "PolicyNotationModel" (129 : Nat) ({ cls := "PolicyNotationModel", name := "put", desc := "(IIIIII)I" } : Jvm.MethodName)) ∈ lw_all := lw_g (lw_at lw_m10 186 rfl) rfl
theorem q2438 : (Jvm.Cond.privateMethod ({ cls := "PolicyNotationModel", name := "put", desc := "(IIIIII)I" } : Jvm.MethodName)) ∈ lw_tbl := lw_at lw_m10 187 rfl
theorem q2439 : (Jvm.Cond.instanceMethod ({ cls := "PolicyNotationModel", name := "put", desc := "(IIIIII)I" } : Jvm.MethodName)) ∈ lw_all := lw_g (lw_at lw_m10 188 rfl) rfl
theorem q2440 : (Jvm.Cond.code ({ cls := "PolicyNotationModel", name := "put", desc := "(IIIIII)I" } : Jvm.MethodName) prog_27_method_23_code (10 : Nat) (Option.some Jvm.ClassFile.FieldType.int)) ∈ lw_all := lw_g (lw_at lw_m10 189 rfl) rfl
theorem q2442 : (Jvm.Cond.instanceMethod ({ cls := "PolicyNotationModel", name := "except", desc := "(IIIII)I" } : Jvm.MethodName)) ∈ lw_all := lw_g (lw_at lw_m10 191 rfl) rfl
theorem q2443 : (Jvm.Cond.selects "PolicyNotationModel" ({ cls := "PolicyNotationModel", name := "except", desc := "(IIIII)I" } : Jvm.MethodName) ({ cls := "PolicyNotationModel", name := "except", desc := "(IIIII)I" } : Jvm.MethodName)) ∈ lw_all := lw_g (lw_at lw_m10 192 rfl) rfl
theorem q2444 : (Jvm.Cond.code ({ cls := "PolicyNotationModel", name := "except", desc := "(IIIII)I" } : Jvm.MethodName) prog_27_method_26_code (6 : Nat) (Option.some Jvm.ClassFile.FieldType.int)) ∈ lw_all := lw_g (lw_at lw_m10 193 rfl) rfl
theorem q2445 : (Jvm.Cond.methodLink "PolicyNotationModel" (142 : Nat) ({ cls := "PolicyNotationModel", name := "isRule", desc := "(I)Z" } : Jvm.MethodName)) ∈ lw_all := lw_g (lw_at lw_m10 194 rfl) rfl
theorem q2446 : (Jvm.Cond.privateMethod ({ cls := "PolicyNotationModel", name := "isRule", desc := "(I)Z" } : Jvm.MethodName)) ∈ lw_tbl := lw_at lw_m10 195 rfl
theorem q2447 : (Jvm.Cond.instanceMethod ({ cls := "PolicyNotationModel", name := "isRule", desc := "(I)Z" } : Jvm.MethodName)) ∈ lw_all := lw_g (lw_at lw_m10 196 rfl) rfl
theorem q2448 : (Jvm.Cond.code ({ cls := "PolicyNotationModel", name := "isRule", desc := "(I)Z" } : Jvm.MethodName) prog_27_method_18_code (2 : Nat) (Option.some Jvm.ClassFile.FieldType.boolean)) ∈ lw_all := lw_g (lw_at lw_m10 197 rfl) rfl
theorem q2450 : (Jvm.Cond.instanceMethod ({ cls := "PolicyNotationModel", name := "test", desc := "(IIII)I" } : Jvm.MethodName)) ∈ lw_all := lw_g (lw_at lw_m10 199 rfl) rfl
theorem q2451 : (Jvm.Cond.selects "PolicyNotationModel" ({ cls := "PolicyNotationModel", name := "test", desc := "(IIII)I" } : Jvm.MethodName) ({ cls := "PolicyNotationModel", name := "test", desc := "(IIII)I" } : Jvm.MethodName)) ∈ lw_all := lw_g (lw_at lw_m10 200 rfl) rfl
theorem q2452 : (Jvm.Cond.code ({ cls := "PolicyNotationModel", name := "test", desc := "(IIII)I" } : Jvm.MethodName) prog_27_method_34_code (5 : Nat) (Option.some Jvm.ClassFile.FieldType.int)) ∈ lw_all := lw_g (lw_at lw_m10 201 rfl) rfl
theorem q2453 : (Jvm.Cond.methodLink "PolicyNotationModel" (164 : Nat) ({ cls := "PolicyNotationModel", name := "moreTest", desc := "(III)V" } : Jvm.MethodName)) ∈ lw_all := lw_g (lw_at lw_m10 202 rfl) rfl
theorem q2454 : (Jvm.Cond.privateMethod ({ cls := "PolicyNotationModel", name := "moreTest", desc := "(III)V" } : Jvm.MethodName)) ∈ lw_tbl := lw_at lw_m10 203 rfl
theorem q2455 : (Jvm.Cond.instanceMethod ({ cls := "PolicyNotationModel", name := "moreTest", desc := "(III)V" } : Jvm.MethodName)) ∈ lw_all := lw_g (lw_at lw_m10 204 rfl) rfl
theorem q2456 : (Jvm.Cond.code ({ cls := "PolicyNotationModel", name := "moreTest", desc := "(III)V" } : Jvm.MethodName) prog_27_method_28_code (4 : Nat) (Option.none : Option Jvm.ClassFile.FieldType)) ∈ lw_all := lw_g (lw_at lw_m10 205 rfl) rfl
theorem q2457 : (Jvm.Cond.methodLink "PolicyNotationModel" (168 : Nat) ({ cls := "PolicyNotationModel", name := "addTests", desc := "(II)I" } : Jvm.MethodName)) ∈ lw_all := lw_g (lw_at lw_m10 206 rfl) rfl
theorem q2458 : (Jvm.Cond.privateMethod ({ cls := "PolicyNotationModel", name := "addTests", desc := "(II)I" } : Jvm.MethodName)) ∈ lw_tbl := lw_at lw_m10 207 rfl
theorem q2459 : (Jvm.Cond.instanceMethod ({ cls := "PolicyNotationModel", name := "addTests", desc := "(II)I" } : Jvm.MethodName)) ∈ lw_all := lw_g (lw_at lw_m10 208 rfl) rfl
theorem q2460 : (Jvm.Cond.code ({ cls := "PolicyNotationModel", name := "addTests", desc := "(II)I" } : Jvm.MethodName) prog_27_method_33_code (4 : Nat) (Option.some Jvm.ClassFile.FieldType.int)) ∈ lw_all := lw_g (lw_at lw_m10 209 rfl) rfl
theorem q2461 : (Jvm.Cond.methodLink "PolicyNotationModel" (157 : Nat) ({ cls := "PolicyNotationModel", name := "hindersTests", desc := "(I)I" } : Jvm.MethodName)) ∈ lw_all := lw_g (lw_at lw_m10 210 rfl) rfl
theorem q2462 : (Jvm.Cond.privateMethod ({ cls := "PolicyNotationModel", name := "hindersTests", desc := "(I)I" } : Jvm.MethodName)) ∈ lw_tbl := lw_at lw_m10 211 rfl
theorem q2463 : (Jvm.Cond.instanceMethod ({ cls := "PolicyNotationModel", name := "hindersTests", desc := "(I)I" } : Jvm.MethodName)) ∈ lw_all := lw_g (lw_at lw_m10 212 rfl) rfl
theorem q2464 : (Jvm.Cond.code ({ cls := "PolicyNotationModel", name := "hindersTests", desc := "(I)I" } : Jvm.MethodName) prog_27_method_31_code (3 : Nat) (Option.some Jvm.ClassFile.FieldType.int)) ∈ lw_all := lw_g (lw_at lw_m10 213 rfl) rfl
theorem q2465 : (Jvm.Cond.methodLink "PolicyNotationModel" (154 : Nat) ({ cls := "PolicyNotationModel", name := "lostFeature", desc := "(I)I" } : Jvm.MethodName)) ∈ lw_all := lw_g (lw_at lw_m10 214 rfl) rfl
theorem q2466 : (Jvm.Cond.privateMethod ({ cls := "PolicyNotationModel", name := "lostFeature", desc := "(I)I" } : Jvm.MethodName)) ∈ lw_tbl := lw_at lw_m10 215 rfl
theorem q2467 : (Jvm.Cond.instanceMethod ({ cls := "PolicyNotationModel", name := "lostFeature", desc := "(I)I" } : Jvm.MethodName)) ∈ lw_all := lw_g (lw_at lw_m10 216 rfl) rfl
theorem q2468 : (Jvm.Cond.code ({ cls := "PolicyNotationModel", name := "lostFeature", desc := "(I)I" } : Jvm.MethodName) prog_27_method_30_code (5 : Nat) (Option.some Jvm.ClassFile.FieldType.int)) ∈ lw_all := lw_g (lw_at lw_m10 217 rfl) rfl
theorem q2469 : (Jvm.Cond.methodLink "PolicyNotationModel" (151 : Nat) ({ cls := "PolicyNotationModel", name := "fulfilsAll", desc := "(III)Z" } : Jvm.MethodName)) ∈ lw_all := lw_g (lw_at lw_m10 218 rfl) rfl
theorem q2470 : (Jvm.Cond.privateMethod ({ cls := "PolicyNotationModel", name := "fulfilsAll", desc := "(III)Z" } : Jvm.MethodName)) ∈ lw_tbl := lw_at lw_m10 219 rfl
theorem q2471 : (Jvm.Cond.instanceMethod ({ cls := "PolicyNotationModel", name := "fulfilsAll", desc := "(III)Z" } : Jvm.MethodName)) ∈ lw_all := lw_g (lw_at lw_m10 220 rfl) rfl
theorem q2472 : (Jvm.Cond.code ({ cls := "PolicyNotationModel", name := "fulfilsAll", desc := "(III)Z" } : Jvm.MethodName) prog_27_method_29_code (7 : Nat) (Option.some Jvm.ClassFile.FieldType.boolean)) ∈ lw_all := lw_g (lw_at lw_m10 221 rfl) rfl
theorem q2473 : (Jvm.Cond.methodLink "PolicyNotationModel" (148 : Nat) ({ cls := "PolicyNotationModel", name := "fulfils", desc := "(III)Z" } : Jvm.MethodName)) ∈ lw_all := lw_g (lw_at lw_m10 222 rfl) rfl
theorem q2474 : (Jvm.Cond.static ({ cls := "PolicyNotationModel", name := "fulfils", desc := "(III)Z" } : Jvm.MethodName)) ∈ lw_all := lw_g (lw_at lw_m10 223 rfl) rfl
theorem q2475 : (Jvm.Cond.code ({ cls := "PolicyNotationModel", name := "fulfils", desc := "(III)Z" } : Jvm.MethodName) prog_27_method_27_code (3 : Nat) (Option.some Jvm.ClassFile.FieldType.boolean)) ∈ lw_all := lw_g (lw_at lw_m10 224 rfl) rfl
theorem q2476 : (Jvm.Cond.methodLink "PolicyNotationModel" (160 : Nat) ({ cls := "PolicyNotationModel", name := "putTests", desc := "(I)V" } : Jvm.MethodName)) ∈ lw_all := lw_g (lw_at lw_m10 225 rfl) rfl
theorem q2477 : (Jvm.Cond.privateMethod ({ cls := "PolicyNotationModel", name := "putTests", desc := "(I)V" } : Jvm.MethodName)) ∈ lw_tbl := lw_at lw_m10 226 rfl
theorem q2478 : (Jvm.Cond.instanceMethod ({ cls := "PolicyNotationModel", name := "putTests", desc := "(I)V" } : Jvm.MethodName)) ∈ lw_all := lw_g (lw_at lw_m10 227 rfl) rfl
theorem q2479 : (Jvm.Cond.code ({ cls := "PolicyNotationModel", name := "putTests", desc := "(I)V" } : Jvm.MethodName) prog_27_method_32_code (4 : Nat) (Option.none : Option Jvm.ClassFile.FieldType)) ∈ lw_all := lw_g (lw_at lw_m10 228 rfl) rfl
theorem q2481 : (Jvm.Cond.instanceMethod ({ cls := "PolicyNotationModel", name := "setFactor", desc := "(II)I" } : Jvm.MethodName)) ∈ lw_all := lw_g (lw_at lw_m10 230 rfl) rfl
theorem q2482 : (Jvm.Cond.selects "PolicyNotationModel" ({ cls := "PolicyNotationModel", name := "setFactor", desc := "(II)I" } : Jvm.MethodName) ({ cls := "PolicyNotationModel", name := "setFactor", desc := "(II)I" } : Jvm.MethodName)) ∈ lw_all := lw_g (lw_at lw_m10 231 rfl) rfl
theorem q2483 : (Jvm.Cond.code ({ cls := "PolicyNotationModel", name := "setFactor", desc := "(II)I" } : Jvm.MethodName) prog_27_method_35_code (4 : Nat) (Option.some Jvm.ClassFile.FieldType.int)) ∈ lw_all := lw_g (lw_at lw_m10 232 rfl) rfl
theorem q2485 : (Jvm.Cond.instanceMethod ({ cls := "PolicyNotationModel", name := "end", desc := "(II)I" } : Jvm.MethodName)) ∈ lw_all := lw_g (lw_at lw_m10 234 rfl) rfl
theorem q2486 : (Jvm.Cond.selects "PolicyNotationModel" ({ cls := "PolicyNotationModel", name := "end", desc := "(II)I" } : Jvm.MethodName) ({ cls := "PolicyNotationModel", name := "end", desc := "(II)I" } : Jvm.MethodName)) ∈ lw_all := lw_g (lw_at lw_m10 235 rfl) rfl
theorem q2487 : (Jvm.Cond.code ({ cls := "PolicyNotationModel", name := "end", desc := "(II)I" } : Jvm.MethodName) prog_27_method_36_code (4 : Nat) (Option.some Jvm.ClassFile.FieldType.int)) ∈ lw_all := lw_g (lw_at lw_m10 236 rfl) rfl
theorem q2489 : (Jvm.Cond.instanceMethod ({ cls := "PolicyNotationModel", name := "ruleOf", desc := "(II)I" } : Jvm.MethodName)) ∈ lw_all := lw_g (lw_at lw_m10 238 rfl) rfl
theorem q2490 : (Jvm.Cond.selects "PolicyNotationModel" ({ cls := "PolicyNotationModel", name := "ruleOf", desc := "(II)I" } : Jvm.MethodName) ({ cls := "PolicyNotationModel", name := "ruleOf", desc := "(II)I" } : Jvm.MethodName)) ∈ lw_all := lw_g (lw_at lw_m10 239 rfl) rfl
theorem q2491 : (Jvm.Cond.code ({ cls := "PolicyNotationModel", name := "ruleOf", desc := "(II)I" } : Jvm.MethodName) prog_27_method_37_code (5 : Nat) (Option.some Jvm.ClassFile.FieldType.int)) ∈ lw_all := lw_g (lw_at lw_m11 0 rfl) rfl
theorem q2493 : (Jvm.Cond.instanceMethod ({ cls := "PolicyNotationModel", name := "testOf", desc := "(III)I" } : Jvm.MethodName)) ∈ lw_all := lw_g (lw_at lw_m11 2 rfl) rfl
theorem q2494 : (Jvm.Cond.selects "PolicyNotationModel" ({ cls := "PolicyNotationModel", name := "testOf", desc := "(III)I" } : Jvm.MethodName) ({ cls := "PolicyNotationModel", name := "testOf", desc := "(III)I" } : Jvm.MethodName)) ∈ lw_all := lw_g (lw_at lw_m11 3 rfl) rfl
theorem q2495 : (Jvm.Cond.code ({ cls := "PolicyNotationModel", name := "testOf", desc := "(III)I" } : Jvm.MethodName) prog_27_method_38_code (4 : Nat) (Option.some Jvm.ClassFile.FieldType.int)) ∈ lw_all := lw_g (lw_at lw_m11 4 rfl) rfl
theorem q2497 : (Jvm.Cond.instanceMethod ({ cls := "PolicyNotationModel", name := "covers", desc := "(IIII)Z" } : Jvm.MethodName)) ∈ lw_all := lw_g (lw_at lw_m11 6 rfl) rfl
theorem q2498 : (Jvm.Cond.selects "PolicyNotationModel" ({ cls := "PolicyNotationModel", name := "covers", desc := "(IIII)Z" } : Jvm.MethodName) ({ cls := "PolicyNotationModel", name := "covers", desc := "(IIII)Z" } : Jvm.MethodName)) ∈ lw_all := lw_g (lw_at lw_m11 7 rfl) rfl
theorem q2499 : (Jvm.Cond.code ({ cls := "PolicyNotationModel", name := "covers", desc := "(IIII)Z" } : Jvm.MethodName) prog_27_method_49_code (5 : Nat) (Option.some Jvm.ClassFile.FieldType.boolean)) ∈ lw_all := lw_g (lw_at lw_m11 8 rfl) rfl
theorem q2500 : (Jvm.Cond.methodLink "PolicyNotationModel" (199 : Nat) ({ cls := "PolicyNotationModel", name := "wrongCase", desc := "(III)I" } : Jvm.MethodName)) ∈ lw_all := lw_g (lw_at lw_m11 9 rfl) rfl
theorem q2501 : (Jvm.Cond.privateMethod ({ cls := "PolicyNotationModel", name := "wrongCase", desc := "(III)I" } : Jvm.MethodName)) ∈ lw_tbl := lw_at lw_m11 10 rfl
theorem q2502 : (Jvm.Cond.instanceMethod ({ cls := "PolicyNotationModel", name := "wrongCase", desc := "(III)I" } : Jvm.MethodName)) ∈ lw_all := lw_g (lw_at lw_m11 11 rfl) rfl
theorem q2503 : (Jvm.Cond.code ({ cls := "PolicyNotationModel", name := "wrongCase", desc := "(III)I" } : Jvm.MethodName) prog_27_method_48_code (4 : Nat) (Option.some Jvm.ClassFile.FieldType.int)) ∈ lw_all := lw_g (lw_at lw_m11 12 rfl) rfl
theorem q2504 : (Jvm.Cond.methodLink "PolicyNotationModel" (196 : Nat) ({ cls := "PolicyNotationModel", name := "isCase", desc := "(II)Z" } : Jvm.MethodName)) ∈ lw_all := lw_g (lw_at lw_m11 13 rfl) rfl
theorem q2505 : (Jvm.Cond.static ({ cls := "PolicyNotationModel", name := "isCase", desc := "(II)Z" } : Jvm.MethodName)) ∈ lw_all := lw_g (lw_at lw_m11 14 rfl) rfl
theorem q2506 : (Jvm.Cond.code ({ cls := "PolicyNotationModel", name := "isCase", desc := "(II)Z" } : Jvm.MethodName) prog_27_method_47_code (2 : Nat) (Option.some Jvm.ClassFile.FieldType.boolean)) ∈ lw_all := lw_g (lw_at lw_m11 15 rfl) rfl
theorem q2507 : (Jvm.Cond.constant "PolicyNotationModel" (195 : Nat) (999999 : Int32)) ∈ lw_all := lw_g (lw_at lw_m11 16 rfl) rfl
theorem q2508 : (Jvm.Cond.methodLink "PolicyNotationModel" (174 : Nat) ({ cls := "PolicyNotationModel", name := "coversNow", desc := "(IIII)Z" } : Jvm.MethodName)) ∈ lw_all := lw_g (lw_at lw_m11 17 rfl) rfl
theorem q2509 : (Jvm.Cond.privateMethod ({ cls := "PolicyNotationModel", name := "coversNow", desc := "(IIII)Z" } : Jvm.MethodName)) ∈ lw_tbl := lw_at lw_m11 18 rfl
theorem q2510 : (Jvm.Cond.instanceMethod ({ cls := "PolicyNotationModel", name := "coversNow", desc := "(IIII)Z" } : Jvm.MethodName)) ∈ lw_all := lw_g (lw_at lw_m11 19 rfl) rfl
theorem q2511 : (Jvm.Cond.code ({ cls := "PolicyNotationModel", name := "coversNow", desc := "(IIII)Z" } : Jvm.MethodName) prog_27_method_40_code (8 : Nat) (Option.some Jvm.ClassFile.FieldType.boolean)) ∈ lw_all := lw_g (lw_at lw_m11 20 rfl) rfl
theorem q2512 : (Jvm.Cond.methodLink "PolicyNotationModel" (171 : Nat) ({ cls := "PolicyNotationModel", name := "digitOf", desc := "(II)I" } : Jvm.MethodName)) ∈ lw_all := lw_g (lw_at lw_m11 21 rfl) rfl
theorem q2513 : (Jvm.Cond.static ({ cls := "PolicyNotationModel", name := "digitOf", desc := "(II)I" } : Jvm.MethodName)) ∈ lw_all := lw_g (lw_at lw_m11 22 rfl) rfl
theorem q2514 : (Jvm.Cond.code ({ cls := "PolicyNotationModel", name := "digitOf", desc := "(II)I" } : Jvm.MethodName) prog_27_method_39_code (4 : Nat) (Option.some Jvm.ClassFile.FieldType.int)) ∈ lw_all := lw_g (lw_at lw_m11 23 rfl) rfl
theorem q2516 : (Jvm.Cond.instanceMethod ({ cls := "PolicyNotationModel", name := "holds", desc := "(IIII)Z" } : Jvm.MethodName)) ∈ lw_all := lw_g (lw_at lw_m11 25 rfl) rfl
theorem q2517 : (Jvm.Cond.selects "PolicyNotationModel" ({ cls := "PolicyNotationModel", name := "holds", desc := "(IIII)Z" } : Jvm.MethodName) ({ cls := "PolicyNotationModel", name := "holds", desc := "(IIII)Z" } : Jvm.MethodName)) ∈ lw_all := lw_g (lw_at lw_m11 26 rfl) rfl
theorem q2518 : (Jvm.Cond.code ({ cls := "PolicyNotationModel", name := "holds", desc := "(IIII)Z" } : Jvm.MethodName) prog_27_method_50_code (5 : Nat) (Option.some Jvm.ClassFile.FieldType.boolean)) ∈ lw_all := lw_g (lw_at lw_m11 27 rfl) rfl
theorem q2519 : (Jvm.Cond.methodLink "PolicyNotationModel" (181 : Nat) ({ cls := "PolicyNotationModel", name := "look", desc := "(III)V" } : Jvm.MethodName)) ∈ lw_all := lw_g (lw_at lw_m11 28 rfl) rfl
theorem q2520 : (Jvm.Cond.privateMethod ({ cls := "PolicyNotationModel", name := "look", desc := "(III)V" } : Jvm.MethodName)) ∈ lw_tbl := lw_at lw_m11 29 rfl
theorem q2521 : (Jvm.Cond.instanceMethod ({ cls := "PolicyNotationModel", name := "look", desc := "(III)V" } : Jvm.MethodName)) ∈ lw_all := lw_g (lw_at lw_m11 30 rfl) rfl
theorem q2522 : (Jvm.Cond.code ({ cls := "PolicyNotationModel", name := "look", desc := "(III)V" } : Jvm.MethodName) prog_27_method_41_code (6 : Nat) (Option.none : Option Jvm.ClassFile.FieldType)) ∈ lw_all := lw_g (lw_at lw_m11 31 rfl) rfl
theorem q2524 : (Jvm.Cond.instanceMethod ({ cls := "PolicyNotationModel", name := "holdsAgain", desc := "(IIII)Z" } : Jvm.MethodName)) ∈ lw_all := lw_g (lw_at lw_m11 33 rfl) rfl
theorem q2525 : (Jvm.Cond.selects "PolicyNotationModel" ({ cls := "PolicyNotationModel", name := "holdsAgain", desc := "(IIII)Z" } : Jvm.MethodName) ({ cls := "PolicyNotationModel", name := "holdsAgain", desc := "(IIII)Z" } : Jvm.MethodName)) ∈ lw_all := lw_g (lw_at lw_m11 34 rfl) rfl
theorem q2526 : (Jvm.Cond.code ({ cls := "PolicyNotationModel", name := "holdsAgain", desc := "(IIII)Z" } : Jvm.MethodName) prog_27_method_51_code (5 : Nat) (Option.some Jvm.ClassFile.FieldType.boolean)) ∈ lw_all := lw_g (lw_at lw_m11 35 rfl) rfl
theorem q2527 : (Jvm.Cond.methodLink "PolicyNotationModel" (202 : Nat) ({ cls := "PolicyNotationModel", name := "holds", desc := "(IIII)Z" } : Jvm.MethodName)) ∈ lw_all := lw_g (lw_at lw_m11 36 rfl) rfl
theorem q2529 : (Jvm.Cond.instanceMethod ({ cls := "PolicyNotationModel", name := "outcome", desc := "(III)I" } : Jvm.MethodName)) ∈ lw_all := lw_g (lw_at lw_m11 38 rfl) rfl
theorem q2530 : (Jvm.Cond.selects "PolicyNotationModel" ({ cls := "PolicyNotationModel", name := "outcome", desc := "(III)I" } : Jvm.MethodName) ({ cls := "PolicyNotationModel", name := "outcome", desc := "(III)I" } : Jvm.MethodName)) ∈ lw_all := lw_g (lw_at lw_m11 39 rfl) rfl
theorem q2531 : (Jvm.Cond.code ({ cls := "PolicyNotationModel", name := "outcome", desc := "(III)I" } : Jvm.MethodName) prog_27_method_52_code (4 : Nat) (Option.some Jvm.ClassFile.FieldType.int)) ∈ lw_all := lw_g (lw_at lw_m11 40 rfl) rfl
theorem q2532 : (Jvm.Cond.methodLink "PolicyNotationModel" (204 : Nat) ({ cls := "PolicyNotationModel", name := "outcomeOf", desc := "(III)I" } : Jvm.MethodName)) ∈ lw_all := lw_g (lw_at lw_m11 41 rfl) rfl
theorem q2533 : (Jvm.Cond.privateMethod ({ cls := "PolicyNotationModel", name := "outcomeOf", desc := "(III)I" } : Jvm.MethodName)) ∈ lw_tbl := lw_at lw_m11 42 rfl
theorem q2534 : (Jvm.Cond.instanceMethod ({ cls := "PolicyNotationModel", name := "outcomeOf", desc := "(III)I" } : Jvm.MethodName)) ∈ lw_all := lw_g (lw_at lw_m11 43 rfl) rfl
theorem q2535 : (Jvm.Cond.code ({ cls := "PolicyNotationModel", name := "outcomeOf", desc := "(III)I" } : Jvm.MethodName) prog_27_method_44_code (5 : Nat) (Option.some Jvm.ClassFile.FieldType.int)) ∈ lw_all := lw_g (lw_at lw_m11 44 rfl) rfl
theorem q2536 : (Jvm.Cond.methodLink "PolicyNotationModel" (184 : Nat) ({ cls := "PolicyNotationModel", name := "prevailing", desc := "()I" } : Jvm.MethodName)) ∈ lw_all := lw_g (lw_at lw_m11 45 rfl) rfl
theorem q2537 : (Jvm.Cond.privateMethod ({ cls := "PolicyNotationModel", name := "prevailing", desc := "()I" } : Jvm.MethodName)) ∈ lw_tbl := lw_at lw_m11 46 rfl
theorem q2538 : (Jvm.Cond.instanceMethod ({ cls := "PolicyNotationModel", name := "prevailing", desc := "()I" } : Jvm.MethodName)) ∈ lw_all := lw_g (lw_at lw_m11 47 rfl) rfl
theorem q2539 : (Jvm.Cond.code ({ cls := "PolicyNotationModel", name := "prevailing", desc := "()I" } : Jvm.MethodName) prog_27_method_43_code (3 : Nat) (Option.some Jvm.ClassFile.FieldType.int)) ∈ lw_all := lw_g (lw_at lw_m11 48 rfl) rfl
theorem q2540 : (Jvm.Cond.methodLink "PolicyNotationModel" (178 : Nat) ({ cls := "PolicyNotationModel", name := "above", desc := "(II)I" } : Jvm.MethodName)) ∈ lw_all := lw_g (lw_at lw_m11 49 rfl) rfl
theorem q2541 : (Jvm.Cond.privateMethod ({ cls := "PolicyNotationModel", name := "above", desc := "(II)I" } : Jvm.MethodName)) ∈ lw_tbl := lw_at lw_m11 50 rfl
theorem q2542 : (Jvm.Cond.instanceMethod ({ cls := "PolicyNotationModel", name := "above", desc := "(II)I" } : Jvm.MethodName)) ∈ lw_all := lw_g (lw_at lw_m11 51 rfl) rfl
theorem q2543 : (Jvm.Cond.code ({ cls := "PolicyNotationModel", name := "above", desc := "(II)I" } : Jvm.MethodName) prog_27_method_42_code (4 : Nat) (Option.some Jvm.ClassFile.FieldType.int)) ∈ lw_all := lw_g (lw_at lw_m11 52 rfl) rfl
theorem q2545 : (Jvm.Cond.instanceMethod ({ cls := "PolicyNotationModel", name := "chain", desc := "(IIII)I" } : Jvm.MethodName)) ∈ lw_all := lw_g (lw_at lw_m11 54 rfl) rfl
theorem q2546 : (Jvm.Cond.selects "PolicyNotationModel" ({ cls := "PolicyNotationModel", name := "chain", desc := "(IIII)I" } : Jvm.MethodName) ({ cls := "PolicyNotationModel", name := "chain", desc := "(IIII)I" } : Jvm.MethodName)) ∈ lw_all := lw_g (lw_at lw_m11 55 rfl) rfl
theorem q2547 : (Jvm.Cond.code ({ cls := "PolicyNotationModel", name := "chain", desc := "(IIII)I" } : Jvm.MethodName) prog_27_method_53_code (5 : Nat) (Option.some Jvm.ClassFile.FieldType.int)) ∈ lw_all := lw_g (lw_at lw_m11 56 rfl) rfl
theorem q2548 : (Jvm.Cond.methodLink "PolicyNotationModel" (207 : Nat) ({ cls := "PolicyNotationModel", name := "findChain", desc := "(III)V" } : Jvm.MethodName)) ∈ lw_all := lw_g (lw_at lw_m11 57 rfl) rfl
theorem q2549 : (Jvm.Cond.privateMethod ({ cls := "PolicyNotationModel", name := "findChain", desc := "(III)V" } : Jvm.MethodName)) ∈ lw_tbl := lw_at lw_m11 58 rfl
theorem q2550 : (Jvm.Cond.instanceMethod ({ cls := "PolicyNotationModel", name := "findChain", desc := "(III)V" } : Jvm.MethodName)) ∈ lw_all := lw_g (lw_at lw_m11 59 rfl) rfl
theorem q2551 : (Jvm.Cond.code ({ cls := "PolicyNotationModel", name := "findChain", desc := "(III)V" } : Jvm.MethodName) prog_27_method_45_code (6 : Nat) (Option.none : Option Jvm.ClassFile.FieldType)) ∈ lw_all := lw_g (lw_at lw_m11 60 rfl) rfl
theorem q2552 : (Jvm.Cond.methodLink "PolicyNotationModel" (191 : Nat) ({ cls := "PolicyNotationModel", name := "nextOf", desc := "(IZ)I" } : Jvm.MethodName)) ∈ lw_all := lw_g (lw_at lw_m11 61 rfl) rfl
theorem q2553 : (Jvm.Cond.privateMethod ({ cls := "PolicyNotationModel", name := "nextOf", desc := "(IZ)I" } : Jvm.MethodName)) ∈ lw_tbl := lw_at lw_m11 62 rfl
theorem q2554 : (Jvm.Cond.instanceMethod ({ cls := "PolicyNotationModel", name := "nextOf", desc := "(IZ)I" } : Jvm.MethodName)) ∈ lw_all := lw_g (lw_at lw_m11 63 rfl) rfl
theorem q2555 : (Jvm.Cond.code ({ cls := "PolicyNotationModel", name := "nextOf", desc := "(IZ)I" } : Jvm.MethodName) prog_27_method_46_code (6 : Nat) (Option.some Jvm.ClassFile.FieldType.int)) ∈ lw_all := lw_g (lw_at lw_m11 64 rfl) rfl
theorem q2557 : (Jvm.Cond.instanceMethod ({ cls := "PolicyNotationModel", name := "rival", desc := "(IIII)I" } : Jvm.MethodName)) ∈ lw_all := lw_g (lw_at lw_m11 66 rfl) rfl
theorem q2558 : (Jvm.Cond.selects "PolicyNotationModel" ({ cls := "PolicyNotationModel", name := "rival", desc := "(IIII)I" } : Jvm.MethodName) ({ cls := "PolicyNotationModel", name := "rival", desc := "(IIII)I" } : Jvm.MethodName)) ∈ lw_all := lw_g (lw_at lw_m11 67 rfl) rfl
theorem q2559 : (Jvm.Cond.code ({ cls := "PolicyNotationModel", name := "rival", desc := "(IIII)I" } : Jvm.MethodName) prog_27_method_54_code (9 : Nat) (Option.some Jvm.ClassFile.FieldType.int)) ∈ lw_all := lw_g (lw_at lw_m11 68 rfl) rfl
theorem q2561 : (Jvm.Cond.instanceMethod ({ cls := "PolicyNotationModel", name := "nextChange", desc := "(III)I" } : Jvm.MethodName)) ∈ lw_all := lw_g (lw_at lw_m11 70 rfl) rfl
theorem q2562 : (Jvm.Cond.selects "PolicyNotationModel" ({ cls := "PolicyNotationModel", name := "nextChange", desc := "(III)I" } : Jvm.MethodName) ({ cls := "PolicyNotationModel", name := "nextChange", desc := "(III)I" } : Jvm.MethodName)) ∈ lw_all := lw_g (lw_at lw_m11 71 rfl) rfl
theorem q2563 : (Jvm.Cond.code ({ cls := "PolicyNotationModel", name := "nextChange", desc := "(III)I" } : Jvm.MethodName) prog_27_method_55_code (6 : Nat) (Option.some Jvm.ClassFile.FieldType.int)) ∈ lw_all := lw_g (lw_at lw_m11 72 rfl) rfl
theorem q2565 : (Jvm.Cond.instanceMethod ({ cls := "PolicyNotationModel", name := "days", desc := "(III)I" } : Jvm.MethodName)) ∈ lw_all := lw_g (lw_at lw_m11 74 rfl) rfl
theorem q2566 : (Jvm.Cond.selects "PolicyNotationModel" ({ cls := "PolicyNotationModel", name := "days", desc := "(III)I" } : Jvm.MethodName) ({ cls := "PolicyNotationModel", name := "days", desc := "(III)I" } : Jvm.MethodName)) ∈ lw_all := lw_g (lw_at lw_m11 75 rfl) rfl
theorem q2567 : (Jvm.Cond.code ({ cls := "PolicyNotationModel", name := "days", desc := "(III)I" } : Jvm.MethodName) prog_27_method_56_code (6 : Nat) (Option.some Jvm.ClassFile.FieldType.int)) ∈ lw_all := lw_g (lw_at lw_m11 76 rfl) rfl
theorem q2569 : (Jvm.Cond.instanceMethod ({ cls := "PolicyNotationModel", name := "burden", desc := "(III)F" } : Jvm.MethodName)) ∈ lw_all := lw_g (lw_at lw_m11 78 rfl) rfl
theorem q2570 : (Jvm.Cond.selects "PolicyNotationModel" ({ cls := "PolicyNotationModel", name := "burden", desc := "(III)F" } : Jvm.MethodName) ({ cls := "PolicyNotationModel", name := "burden", desc := "(III)F" } : Jvm.MethodName)) ∈ lw_all := lw_g (lw_at lw_m11 79 rfl) rfl
theorem q2571 : (Jvm.Cond.code ({ cls := "PolicyNotationModel", name := "burden", desc := "(III)F" } : Jvm.MethodName) prog_27_method_58_code (4 : Nat) (Option.some Jvm.ClassFile.FieldType.float)) ∈ lw_all := lw_g (lw_at lw_m11 80 rfl) rfl
theorem q2572 : (Jvm.Cond.methodLink "PolicyNotationModel" (212 : Nat) ({ cls := "PolicyNotationModel", name := "burdenOf", desc := "(III)F" } : Jvm.MethodName)) ∈ lw_all := lw_g (lw_at lw_m11 81 rfl) rfl
theorem q2573 : (Jvm.Cond.privateMethod ({ cls := "PolicyNotationModel", name := "burdenOf", desc := "(III)F" } : Jvm.MethodName)) ∈ lw_tbl := lw_at lw_m11 82 rfl
theorem q2574 : (Jvm.Cond.instanceMethod ({ cls := "PolicyNotationModel", name := "burdenOf", desc := "(III)F" } : Jvm.MethodName)) ∈ lw_all := lw_g (lw_at lw_m11 83 rfl) rfl
theorem q2575 : (Jvm.Cond.code ({ cls := "PolicyNotationModel", name := "burdenOf", desc := "(III)F" } : Jvm.MethodName) prog_27_method_57_code (6 : Nat) (Option.some Jvm.ClassFile.FieldType.float)) ∈ lw_all := lw_g (lw_at lw_m11 84 rfl) rfl
theorem q2576 : (Jvm.Cond.constantFloat "PolicyNotationModel" (210 : Nat) (1120403456 : UInt32)) ∈ lw_all := lw_g (lw_at lw_m11 85 rfl) rfl
theorem q2577 : (Jvm.Cond.constantFloat "PolicyNotationModel" (211 : Nat) (1232348160 : UInt32)) ∈ lw_all := lw_g (lw_at lw_m11 86 rfl) rfl
theorem q2579 : (Jvm.Cond.instanceMethod ({ cls := "PolicyNotationModel", name := "percent", desc := "(III)I" } : Jvm.MethodName)) ∈ lw_all := lw_g (lw_at lw_m11 88 rfl) rfl
theorem q2580 : (Jvm.Cond.selects "PolicyNotationModel" ({ cls := "PolicyNotationModel", name := "percent", desc := "(III)I" } : Jvm.MethodName) ({ cls := "PolicyNotationModel", name := "percent", desc := "(III)I" } : Jvm.MethodName)) ∈ lw_all := lw_g (lw_at lw_m11 89 rfl) rfl
theorem q2581 : (Jvm.Cond.code ({ cls := "PolicyNotationModel", name := "percent", desc := "(III)I" } : Jvm.MethodName) prog_27_method_59_code (4 : Nat) (Option.some Jvm.ClassFile.FieldType.int)) ∈ lw_all := lw_g (lw_at lw_m11 90 rfl) rfl
theorem q2583 : (Jvm.Cond.instanceMethod ({ cls := "PolicyNotationModel", name := "work", desc := "(IIII)I" } : Jvm.MethodName)) ∈ lw_all := lw_g (lw_at lw_m11 92 rfl) rfl
theorem q2584 : (Jvm.Cond.selects "PolicyNotationModel" ({ cls := "PolicyNotationModel", name := "work", desc := "(IIII)I" } : Jvm.MethodName) ({ cls := "PolicyNotationModel", name := "work", desc := "(IIII)I" } : Jvm.MethodName)) ∈ lw_all := lw_g (lw_at lw_m11 93 rfl) rfl
theorem q2585 : (Jvm.Cond.code ({ cls := "PolicyNotationModel", name := "work", desc := "(IIII)I" } : Jvm.MethodName) prog_27_method_61_code (6 : Nat) (Option.some Jvm.ClassFile.FieldType.int)) ∈ lw_all := lw_g (lw_at lw_m11 94 rfl) rfl
theorem q2587 : (Jvm.Cond.instanceMethod ({ cls := "PolicyNotationModel", name := "caseOf", desc := "(II)I" } : Jvm.MethodName)) ∈ lw_all := lw_g (lw_at lw_m11 96 rfl) rfl
theorem q2588 : (Jvm.Cond.selects "PolicyNotationModel" ({ cls := "PolicyNotationModel", name := "caseOf", desc := "(II)I" } : Jvm.MethodName) ({ cls := "PolicyNotationModel", name := "caseOf", desc := "(II)I" } : Jvm.MethodName)) ∈ lw_all := lw_g (lw_at lw_m11 97 rfl) rfl
theorem q2589 : (Jvm.Cond.code ({ cls := "PolicyNotationModel", name := "caseOf", desc := "(II)I" } : Jvm.MethodName) prog_27_method_67_code (3 : Nat) (Option.some Jvm.ClassFile.FieldType.int)) ∈ lw_all := lw_g (lw_at lw_m11 98 rfl) rfl
theorem q2590 : (Jvm.Cond.methodLink "PolicyNotationModel" (222 : Nat) ({ cls := "PolicyNotationModel", name := "isWork", desc := "(I)Z" } : Jvm.MethodName)) ∈ lw_all := lw_g (lw_at lw_m11 99 rfl) rfl
theorem q2591 : (Jvm.Cond.privateMethod ({ cls := "PolicyNotationModel", name := "isWork", desc := "(I)Z" } : Jvm.MethodName)) ∈ lw_tbl := lw_at lw_m11 100 rfl
theorem q2592 : (Jvm.Cond.instanceMethod ({ cls := "PolicyNotationModel", name := "isWork", desc := "(I)Z" } : Jvm.MethodName)) ∈ lw_all := lw_g (lw_at lw_m11 101 rfl) rfl
theorem q2593 : (Jvm.Cond.code ({ cls := "PolicyNotationModel", name := "isWork", desc := "(I)Z" } : Jvm.MethodName) prog_27_method_60_code (2 : Nat) (Option.some Jvm.ClassFile.FieldType.boolean)) ∈ lw_all := lw_g (lw_at lw_m11 102 rfl) rfl
theorem q2594 : (Jvm.Cond.methodLink "PolicyNotationModel" (216 : Nat) ({ cls := "PolicyNotationModel", name := "outcomeOfWork", desc := "(I)I" } : Jvm.MethodName)) ∈ lw_all := lw_g (lw_at lw_m11 103 rfl) rfl
theorem q2595 : (Jvm.Cond.privateMethod ({ cls := "PolicyNotationModel", name := "outcomeOfWork", desc := "(I)I" } : Jvm.MethodName)) ∈ lw_tbl := lw_at lw_m11 104 rfl
theorem q2596 : (Jvm.Cond.instanceMethod ({ cls := "PolicyNotationModel", name := "outcomeOfWork", desc := "(I)I" } : Jvm.MethodName)) ∈ lw_all := lw_g (lw_at lw_m11 105 rfl) rfl
theorem q2597 : (Jvm.Cond.code ({ cls := "PolicyNotationModel", name := "outcomeOfWork", desc := "(I)I" } : Jvm.MethodName) prog_27_method_62_code (3 : Nat) (Option.some Jvm.ClassFile.FieldType.int)) ∈ lw_all := lw_g (lw_at lw_m11 106 rfl) rfl
theorem q2598 : (Jvm.Cond.methodLink "PolicyNotationModel" (219 : Nat) ({ cls := "PolicyNotationModel", name := "isRight", desc := "(I)Z" } : Jvm.MethodName)) ∈ lw_all := lw_g (lw_at lw_m11 107 rfl) rfl
theorem q2599 : (Jvm.Cond.privateMethod ({ cls := "PolicyNotationModel", name := "isRight", desc := "(I)Z" } : Jvm.MethodName)) ∈ lw_tbl := lw_at lw_m11 108 rfl
theorem q2600 : (Jvm.Cond.instanceMethod ({ cls := "PolicyNotationModel", name := "isRight", desc := "(I)Z" } : Jvm.MethodName)) ∈ lw_all := lw_g (lw_at lw_m11 109 rfl) rfl
theorem q2601 : (Jvm.Cond.code ({ cls := "PolicyNotationModel", name := "isRight", desc := "(I)Z" } : Jvm.MethodName) prog_27_method_64_code (2 : Nat) (Option.some Jvm.ClassFile.FieldType.boolean)) ∈ lw_all := lw_g (lw_at lw_m11 110 rfl) rfl
theorem q2602 : (Jvm.Cond.methodLink "PolicyNotationModel" (225 : Nat) ({ cls := "PolicyNotationModel", name := "findChainOfWork", desc := "(I)V" } : Jvm.MethodName)) ∈ lw_all := lw_g (lw_at lw_m11 111 rfl) rfl
theorem q2603 : (Jvm.Cond.privateMethod ({ cls := "PolicyNotationModel", name := "findChainOfWork", desc := "(I)V" } : Jvm.MethodName)) ∈ lw_tbl := lw_at lw_m11 112 rfl
theorem q2604 : (Jvm.Cond.instanceMethod ({ cls := "PolicyNotationModel", name := "findChainOfWork", desc := "(I)V" } : Jvm.MethodName)) ∈ lw_all := lw_g (lw_at lw_m11 113 rfl) rfl
theorem q2605 : (Jvm.Cond.code ({ cls := "PolicyNotationModel", name := "findChainOfWork", desc := "(I)V" } : Jvm.MethodName) prog_27_method_63_code (3 : Nat) (Option.none : Option Jvm.ClassFile.FieldType)) ∈ lw_all := lw_g (lw_at lw_m11 114 rfl) rfl
theorem q2607 : (Jvm.Cond.instanceMethod ({ cls := "PolicyNotationModel", name := "dropCase", desc := "(I)I" } : Jvm.MethodName)) ∈ lw_all := lw_g (lw_at lw_m11 116 rfl) rfl
theorem q2608 : (Jvm.Cond.selects "PolicyNotationModel" ({ cls := "PolicyNotationModel", name := "dropCase", desc := "(I)I" } : Jvm.MethodName) ({ cls := "PolicyNotationModel", name := "dropCase", desc := "(I)I" } : Jvm.MethodName)) ∈ lw_all := lw_g (lw_at lw_m11 117 rfl) rfl
theorem q2609 : (Jvm.Cond.code ({ cls := "PolicyNotationModel", name := "dropCase", desc := "(I)I" } : Jvm.MethodName) prog_27_method_68_code (2 : Nat) (Option.some Jvm.ClassFile.FieldType.int)) ∈ lw_all := lw_g (lw_at lw_m11 118 rfl) rfl
theorem q2611 : (Jvm.Cond.instanceMethod ({ cls := "PolicyNotationModel", name := "wrong", desc := "()I" } : Jvm.MethodName)) ∈ lw_all := lw_g (lw_at lw_m11 120 rfl) rfl
theorem q2612 : (Jvm.Cond.selects "PolicyNotationModel" ({ cls := "PolicyNotationModel", name := "wrong", desc := "()I" } : Jvm.MethodName) ({ cls := "PolicyNotationModel", name := "wrong", desc := "()I" } : Jvm.MethodName)) ∈ lw_all := lw_g (lw_at lw_m11 121 rfl) rfl
theorem q2613 : (Jvm.Cond.code ({ cls := "PolicyNotationModel", name := "wrong", desc := "()I" } : Jvm.MethodName) prog_27_method_69_code (1 : Nat) (Option.some Jvm.ClassFile.FieldType.int)) ∈ lw_all := lw_g (lw_at lw_m11 122 rfl) rfl
theorem q2614 : (Jvm.Cond.methodLink "PolicyNotationModel" (228 : Nat) ({ cls := "PolicyNotationModel", name := "wrongSet", desc := "()I" } : Jvm.MethodName)) ∈ lw_all := lw_g (lw_at lw_m11 123 rfl) rfl
theorem q2615 : (Jvm.Cond.privateMethod ({ cls := "PolicyNotationModel", name := "wrongSet", desc := "()I" } : Jvm.MethodName)) ∈ lw_tbl := lw_at lw_m11 124 rfl
theorem q2616 : (Jvm.Cond.instanceMethod ({ cls := "PolicyNotationModel", name := "wrongSet", desc := "()I" } : Jvm.MethodName)) ∈ lw_all := lw_g (lw_at lw_m11 125 rfl) rfl
theorem q2617 : (Jvm.Cond.code ({ cls := "PolicyNotationModel", name := "wrongSet", desc := "()I" } : Jvm.MethodName) prog_27_method_65_code (3 : Nat) (Option.some Jvm.ClassFile.FieldType.int)) ∈ lw_all := lw_g (lw_at lw_m11 126 rfl) rfl
theorem q2619 : (Jvm.Cond.instanceMethod ({ cls := "PolicyNotationModel", name := "tested", desc := "()I" } : Jvm.MethodName)) ∈ lw_all := lw_g (lw_at lw_m11 128 rfl) rfl
theorem q2620 : (Jvm.Cond.selects "PolicyNotationModel" ({ cls := "PolicyNotationModel", name := "tested", desc := "()I" } : Jvm.MethodName) ({ cls := "PolicyNotationModel", name := "tested", desc := "()I" } : Jvm.MethodName)) ∈ lw_all := lw_g (lw_at lw_m11 129 rfl) rfl
theorem q2621 : (Jvm.Cond.code ({ cls := "PolicyNotationModel", name := "tested", desc := "()I" } : Jvm.MethodName) prog_27_method_70_code (4 : Nat) (Option.some Jvm.ClassFile.FieldType.int)) ∈ lw_all := lw_g (lw_at lw_m11 130 rfl) rfl
theorem q2623 : (Jvm.Cond.instanceMethod ({ cls := "PolicyNotationModel", name := "without", desc := "(I)I" } : Jvm.MethodName)) ∈ lw_all := lw_g (lw_at lw_m11 132 rfl) rfl
theorem q2624 : (Jvm.Cond.selects "PolicyNotationModel" ({ cls := "PolicyNotationModel", name := "without", desc := "(I)I" } : Jvm.MethodName) ({ cls := "PolicyNotationModel", name := "without", desc := "(I)I" } : Jvm.MethodName)) ∈ lw_all := lw_g (lw_at lw_m11 133 rfl) rfl
theorem q2625 : (Jvm.Cond.code ({ cls := "PolicyNotationModel", name := "without", desc := "(I)I" } : Jvm.MethodName) prog_27_method_71_code (3 : Nat) (Option.some Jvm.ClassFile.FieldType.int)) ∈ lw_all := lw_g (lw_at lw_m11 134 rfl) rfl
theorem q2626 : (Jvm.Cond.methodLink "PolicyNotationModel" (231 : Nat) ({ cls := "PolicyNotationModel", name := "ones", desc := "(I)I" } : Jvm.MethodName)) ∈ lw_all := lw_g (lw_at lw_m11 135 rfl) rfl
theorem q2627 : (Jvm.Cond.static ({ cls := "PolicyNotationModel", name := "ones", desc := "(I)I" } : Jvm.MethodName)) ∈ lw_all := lw_g (lw_at lw_m11 136 rfl) rfl
theorem q2628 : (Jvm.Cond.code ({ cls := "PolicyNotationModel", name := "ones", desc := "(I)I" } : Jvm.MethodName) prog_27_method_66_code (3 : Nat) (Option.some Jvm.ClassFile.FieldType.int)) ∈ lw_all := lw_g (lw_at lw_m11 137 rfl) rfl
theorem q2630 : (Jvm.Cond.instanceMethod ({ cls := "PolicyNotationModel", name := "sheet", desc := "(I)I" } : Jvm.MethodName)) ∈ lw_all := lw_g (lw_at lw_m11 139 rfl) rfl
theorem q2631 : (Jvm.Cond.selects "PolicyNotationModel" ({ cls := "PolicyNotationModel", name := "sheet", desc := "(I)I" } : Jvm.MethodName) ({ cls := "PolicyNotationModel", name := "sheet", desc := "(I)I" } : Jvm.MethodName)) ∈ lw_all := lw_g (lw_at lw_m11 140 rfl) rfl
theorem q2632 : (Jvm.Cond.code ({ cls := "PolicyNotationModel", name := "sheet", desc := "(I)I" } : Jvm.MethodName) prog_27_method_73_code (4 : Nat) (Option.some Jvm.ClassFile.FieldType.int)) ∈ lw_all := lw_g (lw_at lw_m11 141 rfl) rfl
theorem q2633 : (Jvm.Cond.methodLink "PolicyNotationModel" (234 : Nat) ({ cls := "PolicyNotationModel", name := "onSheet", desc := "()I" } : Jvm.MethodName)) ∈ lw_all := lw_g (lw_at lw_m11 142 rfl) rfl
theorem q2634 : (Jvm.Cond.privateMethod ({ cls := "PolicyNotationModel", name := "onSheet", desc := "()I" } : Jvm.MethodName)) ∈ lw_tbl := lw_at lw_m11 143 rfl
theorem q2635 : (Jvm.Cond.instanceMethod ({ cls := "PolicyNotationModel", name := "onSheet", desc := "()I" } : Jvm.MethodName)) ∈ lw_all := lw_g (lw_at lw_m11 144 rfl) rfl
theorem q2636 : (Jvm.Cond.code ({ cls := "PolicyNotationModel", name := "onSheet", desc := "()I" } : Jvm.MethodName) prog_27_method_72_code (3 : Nat) (Option.some Jvm.ClassFile.FieldType.int)) ∈ lw_all := lw_g (lw_at lw_m11 145 rfl) rfl
theorem q2638 : (Jvm.Cond.instanceMethod ({ cls := "PolicyNotationModel", name := "lay", desc := "(III)I" } : Jvm.MethodName)) ∈ lw_all := lw_g (lw_at lw_m11 147 rfl) rfl
theorem q2639 : (Jvm.Cond.selects "PolicyNotationModel" ({ cls := "PolicyNotationModel", name := "lay", desc := "(III)I" } : Jvm.MethodName) ({ cls := "PolicyNotationModel", name := "lay", desc := "(III)I" } : Jvm.MethodName)) ∈ lw_all := lw_g (lw_at lw_m11 148 rfl) rfl
theorem q2640 : (Jvm.Cond.code ({ cls := "PolicyNotationModel", name := "lay", desc := "(III)I" } : Jvm.MethodName) prog_27_method_74_code (5 : Nat) (Option.some Jvm.ClassFile.FieldType.int)) ∈ lw_all := lw_g (lw_at lw_m11 149 rfl) rfl
theorem q2642 : (Jvm.Cond.instanceMethod ({ cls := "PolicyNotationModel", name := "takeSheet", desc := "(I)I" } : Jvm.MethodName)) ∈ lw_all := lw_g (lw_at lw_m11 151 rfl) rfl
theorem q2643 : (Jvm.Cond.selects "PolicyNotationModel" ({ cls := "PolicyNotationModel", name := "takeSheet", desc := "(I)I" } : Jvm.MethodName) ({ cls := "PolicyNotationModel", name := "takeSheet", desc := "(I)I" } : Jvm.MethodName)) ∈ lw_all := lw_g (lw_at lw_m11 152 rfl) rfl
theorem q2644 : (Jvm.Cond.code ({ cls := "PolicyNotationModel", name := "takeSheet", desc := "(I)I" } : Jvm.MethodName) prog_27_method_75_code (3 : Nat) (Option.some Jvm.ClassFile.FieldType.int)) ∈ lw_all := lw_g (lw_at lw_m11 153 rfl) rfl
theorem q2646 : (Jvm.Cond.instanceMethod ({ cls := "PolicyNotationModel", name := "keepRow", desc := "(I)I" } : Jvm.MethodName)) ∈ lw_all := lw_g (lw_at lw_m11 155 rfl) rfl
theorem q2647 : (Jvm.Cond.selects "PolicyNotationModel" ({ cls := "PolicyNotationModel", name := "keepRow", desc := "(I)I" } : Jvm.MethodName) ({ cls := "PolicyNotationModel", name := "keepRow", desc := "(I)I" } : Jvm.MethodName)) ∈ lw_all := lw_g (lw_at lw_m11 156 rfl) rfl
theorem q2648 : (Jvm.Cond.code ({ cls := "PolicyNotationModel", name := "keepRow", desc := "(I)I" } : Jvm.MethodName) prog_27_method_77_code (4 : Nat) (Option.some Jvm.ClassFile.FieldType.int)) ∈ lw_all := lw_g (lw_at lw_m11 157 rfl) rfl
theorem q2649 : (Jvm.Cond.methodLink "PolicyNotationModel" (237 : Nat) ({ cls := "PolicyNotationModel", name := "isRow", desc := "(I)Z" } : Jvm.MethodName)) ∈ lw_all := lw_g (lw_at lw_m11 158 rfl) rfl
theorem q2650 : (Jvm.Cond.static ({ cls := "PolicyNotationModel", name := "isRow", desc := "(I)Z" } : Jvm.MethodName)) ∈ lw_all := lw_g (lw_at lw_m11 159 rfl) rfl
theorem q2651 : (Jvm.Cond.code ({ cls := "PolicyNotationModel", name := "isRow", desc := "(I)Z" } : Jvm.MethodName) prog_27_method_76_code (1 : Nat) (Option.some Jvm.ClassFile.FieldType.boolean)) ∈ lw_all := lw_g (lw_at lw_m11 160 rfl) rfl
theorem q2653 : (Jvm.Cond.instanceMethod ({ cls := "PolicyNotationModel", name := "copyRow", desc := "(III)I" } : Jvm.MethodName)) ∈ lw_all := lw_g (lw_at lw_m11 162 rfl) rfl
theorem q2654 : (Jvm.Cond.selects "PolicyNotationModel" ({ cls := "PolicyNotationModel", name := "copyRow", desc := "(III)I" } : Jvm.MethodName) ({ cls := "PolicyNotationModel", name := "copyRow", desc := "(III)I" } : Jvm.MethodName)) ∈ lw_all := lw_g (lw_at lw_m11 163 rfl) rfl
theorem q2655 : (Jvm.Cond.code ({ cls := "PolicyNotationModel", name := "copyRow", desc := "(III)I" } : Jvm.MethodName) prog_27_method_78_code (9 : Nat) (Option.some Jvm.ClassFile.FieldType.int)) ∈ lw_all := lw_g (lw_at lw_m11 164 rfl) rfl
theorem q2656 : (Jvm.Cond.constantFloat "PolicyNotationModel" (242 : Nat) (2139095040 : UInt32)) ∈ lw_all := lw_g (lw_at lw_m11 165 rfl) rfl
theorem q2657 : (Jvm.Cond.constantFloat "PolicyNotationModel" (243 : Nat) (2143289344 : UInt32)) ∈ lw_all := lw_g (lw_at lw_m11 166 rfl) rfl
theorem q2659 : (Jvm.Cond.instanceMethod ({ cls := "PolicyNotationModel", name := "element", desc := "(II)I" } : Jvm.MethodName)) ∈ lw_all := lw_g (lw_at lw_m11 168 rfl) rfl
theorem q2660 : (Jvm.Cond.selects "PolicyNotationModel" ({ cls := "PolicyNotationModel", name := "element", desc := "(II)I" } : Jvm.MethodName) ({ cls := "PolicyNotationModel", name := "element", desc := "(II)I" } : Jvm.MethodName)) ∈ lw_all := lw_g (lw_at lw_m11 169 rfl) rfl
theorem q2661 : (Jvm.Cond.code ({ cls := "PolicyNotationModel", name := "element", desc := "(II)I" } : Jvm.MethodName) prog_27_method_79_code (3 : Nat) (Option.some Jvm.ClassFile.FieldType.int)) ∈ lw_all := lw_g (lw_at lw_m11 170 rfl) rfl
theorem q2662 : (Jvm.Cond.methodLink "PolicyNotationModel" (244 : Nat) ({ cls := "java/lang/Float", name := "floatToIntBits", desc := "(F)I" } : Jvm.MethodName)) ∈ lw_all := lw_g (lw_at lw_m11 171 rfl) rfl
theorem q2664 : (Jvm.Cond.instanceMethod ({ cls := "PolicyNotationModel", name := "total", desc := "(I)D" } : Jvm.MethodName)) ∈ lw_all := lw_g (lw_at lw_m11 173 rfl) rfl
theorem q2665 : (Jvm.Cond.selects "PolicyNotationModel" ({ cls := "PolicyNotationModel", name := "total", desc := "(I)D" } : Jvm.MethodName) ({ cls := "PolicyNotationModel", name := "total", desc := "(I)D" } : Jvm.MethodName)) ∈ lw_all := lw_g (lw_at lw_m11 174 rfl) rfl
theorem q2666 : (Jvm.Cond.code ({ cls := "PolicyNotationModel", name := "total", desc := "(I)D" } : Jvm.MethodName) prog_27_method_80_code (6 : Nat) (Option.some Jvm.ClassFile.FieldType.double)) ∈ lw_all := lw_g (lw_at lw_m11 175 rfl) rfl
theorem q2667 : (Jvm.Cond.constantDouble "PolicyNotationModel" (250 : Nat) (9221120237041090560 : UInt64)) ∈ lw_all := lw_g (lw_at lw_m11 176 rfl) rfl
theorem q2669 : (Jvm.Cond.instanceMethod ({ cls := "PolicyNotationModel", name := "append", desc := "(C)I" } : Jvm.MethodName)) ∈ lw_all := lw_g (lw_at lw_m11 178 rfl) rfl
theorem q2670 : (Jvm.Cond.selects "PolicyNotationModel" ({ cls := "PolicyNotationModel", name := "append", desc := "(C)I" } : Jvm.MethodName) ({ cls := "PolicyNotationModel", name := "append", desc := "(C)I" } : Jvm.MethodName)) ∈ lw_all := lw_g (lw_at lw_m11 179 rfl) rfl
theorem q2671 : (Jvm.Cond.code ({ cls := "PolicyNotationModel", name := "append", desc := "(C)I" } : Jvm.MethodName) prog_27_method_81_code (2 : Nat) (Option.some Jvm.ClassFile.FieldType.int)) ∈ lw_all := lw_g (lw_at lw_m11 180 rfl) rfl
theorem q2673 : (Jvm.Cond.instanceMethod ({ cls := "PolicyNotationModel", name := "read", desc := "()I" } : Jvm.MethodName)) ∈ lw_all := lw_g (lw_at lw_m11 182 rfl) rfl
theorem q2674 : (Jvm.Cond.selects "PolicyNotationModel" ({ cls := "PolicyNotationModel", name := "read", desc := "()I" } : Jvm.MethodName) ({ cls := "PolicyNotationModel", name := "read", desc := "()I" } : Jvm.MethodName)) ∈ lw_all := lw_g (lw_at lw_m11 183 rfl) rfl
theorem q2675 : (Jvm.Cond.code ({ cls := "PolicyNotationModel", name := "read", desc := "()I" } : Jvm.MethodName) prog_27_method_89_code (3 : Nat) (Option.some Jvm.ClassFile.FieldType.int)) ∈ lw_all := lw_g (lw_at lw_m11 184 rfl) rfl
theorem q2676 : (Jvm.Cond.methodLink "PolicyNotationModel" (312 : Nat) ({ cls := "PolicyNotationModel", name := "readRule", desc := "()V" } : Jvm.MethodName)) ∈ lw_all := lw_g (lw_at lw_m11 185 rfl) rfl
theorem q2677 : (Jvm.Cond.privateMethod ({ cls := "PolicyNotationModel", name := "readRule", desc := "()V" } : Jvm.MethodName)) ∈ lw_tbl := lw_at lw_m11 186 rfl
theorem q2678 : (Jvm.Cond.instanceMethod ({ cls := "PolicyNotationModel", name := "readRule", desc := "()V" } : Jvm.MethodName)) ∈ lw_all := lw_g (lw_at lw_m11 187 rfl) rfl
theorem q2679 : (Jvm.Cond.code ({ cls := "PolicyNotationModel", name := "readRule", desc := "()V" } : Jvm.MethodName) prog_27_method_88_code (1 : Nat) (Option.none : Option Jvm.ClassFile.FieldType)) ∈ lw_all := lw_g (lw_at lw_m11 188 rfl) rfl
theorem q2680 : (Jvm.Cond.stringRef "PolicyNotationModel" (282 : Nat) "pflx") ∈ lw_tbl := lw_at lw_m11 189 rfl
theorem q2681 : (Jvm.Cond.methodLink "PolicyNotationModel" (276 : Nat) ({ cls := "PolicyNotationModel", name := "oneOf", desc := "(Ljava/lang/String;)I" } : Jvm.MethodName)) ∈ lw_all := lw_g (lw_at lw_m11 190 rfl) rfl
theorem q2682 : (Jvm.Cond.privateMethod ({ cls := "PolicyNotationModel", name := "oneOf", desc := "(Ljava/lang/String;)I" } : Jvm.MethodName)) ∈ lw_tbl := lw_at lw_m11 191 rfl
theorem q2683 : (Jvm.Cond.instanceMethod ({ cls := "PolicyNotationModel", name := "oneOf", desc := "(Ljava/lang/String;)I" } : Jvm.MethodName)) ∈ lw_all := lw_g (lw_at lw_m11 192 rfl) rfl
theorem q2684 : (Jvm.Cond.code ({ cls := "PolicyNotationModel", name := "oneOf", desc := "(Ljava/lang/String;)I" } : Jvm.MethodName) prog_27_method_86_code (3 : Nat) (Option.some Jvm.ClassFile.FieldType.int)) ∈ lw_all := lw_g (lw_at lw_m11 193 rfl) rfl
theorem q2685 : (Jvm.Cond.methodLink "PolicyNotationModel" (269 : Nat) ({ cls := "java/lang/String", name := "indexOf", desc := "(I)I" } : Jvm.MethodName)) ∈ lw_all := lw_g (lw_at lw_m11 194 rfl) rfl
theorem q2686 : (Jvm.Cond.methodLink "PolicyNotationModel" (290 : Nat) ({ cls := "PolicyNotationModel", name := "number", desc := "()I" } : Jvm.MethodName)) ∈ lw_all := lw_g (lw_at lw_m11 195 rfl) rfl
theorem q2687 : (Jvm.Cond.privateMethod ({ cls := "PolicyNotationModel", name := "number", desc := "()I" } : Jvm.MethodName)) ∈ lw_tbl := lw_at lw_m11 196 rfl
theorem q2688 : (Jvm.Cond.instanceMethod ({ cls := "PolicyNotationModel", name := "number", desc := "()I" } : Jvm.MethodName)) ∈ lw_all := lw_g (lw_at lw_m11 197 rfl) rfl
theorem q2689 : (Jvm.Cond.code ({ cls := "PolicyNotationModel", name := "number", desc := "()I" } : Jvm.MethodName) prog_27_method_85_code (3 : Nat) (Option.some Jvm.ClassFile.FieldType.int)) ∈ lw_all := lw_g (lw_at lw_m11 198 rfl) rfl
theorem q2690 : (Jvm.Cond.methodLink "PolicyNotationModel" (266 : Nat) ({ cls := "PolicyNotationModel", name := "digit", desc := "()I" } : Jvm.MethodName)) ∈ lw_all := lw_g (lw_at lw_m11 199 rfl) rfl
theorem q2691 : (Jvm.Cond.privateMethod ({ cls := "PolicyNotationModel", name := "digit", desc := "()I" } : Jvm.MethodName)) ∈ lw_tbl := lw_at lw_m11 200 rfl
theorem q2692 : (Jvm.Cond.instanceMethod ({ cls := "PolicyNotationModel", name := "digit", desc := "()I" } : Jvm.MethodName)) ∈ lw_all := lw_g (lw_at lw_m11 201 rfl) rfl
theorem q2693 : (Jvm.Cond.code ({ cls := "PolicyNotationModel", name := "digit", desc := "()I" } : Jvm.MethodName) prog_27_method_84_code (1 : Nat) (Option.some Jvm.ClassFile.FieldType.int)) ∈ lw_all := lw_g (lw_at lw_m11 202 rfl) rfl
theorem q2694 : (Jvm.Cond.methodLink "PolicyNotationModel" (262 : Nat) ({ cls := "PolicyNotationModel", name := "isHere", desc := "(CC)Z" } : Jvm.MethodName)) ∈ lw_all := lw_g (lw_at lw_m11 203 rfl) rfl
theorem q2695 : (Jvm.Cond.privateMethod ({ cls := "PolicyNotationModel", name := "isHere", desc := "(CC)Z" } : Jvm.MethodName)) ∈ lw_tbl := lw_at lw_m11 204 rfl
theorem q2696 : (Jvm.Cond.instanceMethod ({ cls := "PolicyNotationModel", name := "isHere", desc := "(CC)Z" } : Jvm.MethodName)) ∈ lw_all := lw_g (lw_at lw_m11 205 rfl) rfl
theorem q2697 : (Jvm.Cond.code ({ cls := "PolicyNotationModel", name := "isHere", desc := "(CC)Z" } : Jvm.MethodName) prog_27_method_82_code (3 : Nat) (Option.some Jvm.ClassFile.FieldType.boolean)) ∈ lw_all := lw_g (lw_at lw_m11 206 rfl) rfl
theorem q2698 : (Jvm.Cond.methodLink "PolicyNotationModel" (293 : Nat) ({ cls := "PolicyNotationModel", name := "sign", desc := "(C)V" } : Jvm.MethodName)) ∈ lw_all := lw_g (lw_at lw_m11 207 rfl) rfl
theorem q2699 : (Jvm.Cond.privateMethod ({ cls := "PolicyNotationModel", name := "sign", desc := "(C)V" } : Jvm.MethodName)) ∈ lw_tbl := lw_at lw_m11 208 rfl
theorem q2700 : (Jvm.Cond.instanceMethod ({ cls := "PolicyNotationModel", name := "sign", desc := "(C)V" } : Jvm.MethodName)) ∈ lw_all := lw_g (lw_at lw_m11 209 rfl) rfl
theorem q2701 : (Jvm.Cond.code ({ cls := "PolicyNotationModel", name := "sign", desc := "(C)V" } : Jvm.MethodName) prog_27_method_83_code (2 : Nat) (Option.none : Option Jvm.ClassFile.FieldType)) ∈ lw_all := lw_g (lw_at lw_m11 210 rfl) rfl
theorem q2702 : (Jvm.Cond.methodLink "PolicyNotationModel" (300 : Nat) ({ cls := "PolicyNotationModel", name := "readTest", desc := "()V" } : Jvm.MethodName)) ∈ lw_all := lw_g (lw_at lw_m11 211 rfl) rfl
theorem q2703 : (Jvm.Cond.privateMethod ({ cls := "PolicyNotationModel", name := "readTest", desc := "()V" } : Jvm.MethodName)) ∈ lw_tbl := lw_at lw_m11 212 rfl
theorem q2704 : (Jvm.Cond.instanceMethod ({ cls := "PolicyNotationModel", name := "readTest", desc := "()V" } : Jvm.MethodName)) ∈ lw_all := lw_g (lw_at lw_m11 213 rfl) rfl
theorem q2705 : (Jvm.Cond.code ({ cls := "PolicyNotationModel", name := "readTest", desc := "()V" } : Jvm.MethodName) prog_27_method_87_code (4 : Nat) (Option.none : Option Jvm.ClassFile.FieldType)) ∈ lw_all := lw_g (lw_at lw_m11 214 rfl) rfl
theorem q2706 : (Jvm.Cond.stringRef "PolicyNotationModel" (274 : Nat) "abcdef") ∈ lw_tbl := lw_at lw_m11 215 rfl
theorem q2707 : (Jvm.Cond.stringRef "PolicyNotationModel" (280 : Nat) "=<>#") ∈ lw_tbl := lw_at lw_m11 216 rfl
theorem q2709 : (Jvm.Cond.instanceMethod ({ cls := "PolicyNotationModel", name := "faultPosition", desc := "()I" } : Jvm.MethodName)) ∈ lw_all := lw_g (lw_at lw_m11 218 rfl) rfl
theorem q2710 : (Jvm.Cond.selects "PolicyNotationModel" ({ cls := "PolicyNotationModel", name := "faultPosition", desc := "()I" } : Jvm.MethodName) ({ cls := "PolicyNotationModel", name := "faultPosition", desc := "()I" } : Jvm.MethodName)) ∈ lw_all := lw_g (lw_at lw_m11 219 rfl) rfl
theorem q2711 : (Jvm.Cond.code ({ cls := "PolicyNotationModel", name := "faultPosition", desc := "()I" } : Jvm.MethodName) prog_27_method_90_code (1 : Nat) (Option.some Jvm.ClassFile.FieldType.int)) ∈ lw_all := lw_g (lw_at lw_m11 220 rfl) rfl
theorem q2713 : (Jvm.Cond.instanceMethod ({ cls := "PolicyNotationModel", name := "explain", desc := "(III)I" } : Jvm.MethodName)) ∈ lw_all := lw_g (lw_at lw_m11 222 rfl) rfl
theorem q2714 : (Jvm.Cond.selects "PolicyNotationModel" ({ cls := "PolicyNotationModel", name := "explain", desc := "(III)I" } : Jvm.MethodName) ({ cls := "PolicyNotationModel", name := "explain", desc := "(III)I" } : Jvm.MethodName)) ∈ lw_all := lw_g (lw_at lw_m11 223 rfl) rfl
theorem q2715 : (Jvm.Cond.code ({ cls := "PolicyNotationModel", name := "explain", desc := "(III)I" } : Jvm.MethodName) prog_27_method_92_code (6 : Nat) (Option.some Jvm.ClassFile.FieldType.int)) ∈ lw_all := lw_g (lw_at lw_m11 224 rfl) rfl
theorem q2716 : (Jvm.Cond.stringRef "PolicyNotationModel" (324 : Nat) "") ∈ lw_tbl := lw_at lw_m11 225 rfl
theorem q2717 : (Jvm.Cond.stringRef "PolicyNotationModel" (326 : Nat) " but ") ∈ lw_tbl := lw_at lw_m11 226 rfl
theorem q2718 : (Jvm.Cond.methodLink "PolicyNotationModel" (328 : Nat) ({ cls := "PolicyNotationModel", name := "says", desc := "(Ljava/lang/String;)V" } : Jvm.MethodName)) ∈ lw_all := lw_g (lw_at lw_m11 227 rfl) rfl
theorem q2719 : (Jvm.Cond.privateMethod ({ cls := "PolicyNotationModel", name := "says", desc := "(Ljava/lang/String;)V" } : Jvm.MethodName)) ∈ lw_tbl := lw_at lw_m11 228 rfl
theorem q2720 : (Jvm.Cond.instanceMethod ({ cls := "PolicyNotationModel", name := "says", desc := "(Ljava/lang/String;)V" } : Jvm.MethodName)) ∈ lw_all := lw_g (lw_at lw_m11 229 rfl) rfl
theorem q2721 : (Jvm.Cond.code ({ cls := "PolicyNotationModel", name := "says", desc := "(Ljava/lang/String;)V" } : Jvm.MethodName) prog_27_method_91_code (3 : Nat) (Option.none : Option Jvm.ClassFile.FieldType)) ∈ lw_all := lw_g (lw_at lw_m11 230 rfl) rfl
theorem q2722 : (Jvm.Cond.methodLink "PolicyNotationModel" (315 : Nat) ({ cls := "java/lang/String", name := "length", desc := "()I" } : Jvm.MethodName)) ∈ lw_all := lw_g (lw_at lw_m11 231 rfl) rfl
theorem q2723 : (Jvm.Cond.methodLink "PolicyNotationModel" (320 : Nat) ({ cls := "java/lang/String", name := "charAt", desc := "(I)C" } : Jvm.MethodName)) ∈ lw_all := lw_g (lw_at lw_m11 232 rfl) rfl
theorem q2724 : (Jvm.Cond.classLink "PolicyNotationModel" (332 : Nat) "java/lang/StringBuilder") ∈ lw_all := lw_g (lw_at lw_m11 233 rfl) rfl
theorem q2725 : (Jvm.Cond.methodLink "PolicyNotationModel" (334 : Nat) ({ cls := "java/lang/StringBuilder", name := "<init>", desc := "()V" } : Jvm.MethodName)) ∈ lw_all := lw_g (lw_at lw_m11 234 rfl) rfl
theorem q2726 : (Jvm.Cond.methodLink "PolicyNotationModel" (335 : Nat) ({ cls := "java/lang/StringBuilder", name := "append", desc := "(Ljava/lang/String;)Ljava/lang/StringBuilder;" } : Jvm.MethodName)) ∈ lw_all := lw_g (lw_at lw_m11 235 rfl) rfl
theorem q2727 : (Jvm.Cond.methodLink "PolicyNotationModel" (339 : Nat) ({ cls := "java/lang/StringBuilder", name := "append", desc := "(I)Ljava/lang/StringBuilder;" } : Jvm.MethodName)) ∈ lw_all := lw_g (lw_at lw_m11 236 rfl) rfl
theorem q2728 : (Jvm.Cond.methodLink "PolicyNotationModel" (342 : Nat) ({ cls := "java/lang/StringBuilder", name := "toString", desc := "()Ljava/lang/String;" } : Jvm.MethodName)) ∈ lw_all := lw_g (lw_at lw_m11 237 rfl) rfl
theorem q2729 : (Jvm.Cond.stringRef "PolicyNotationModel" (346 : Nat) "default") ∈ lw_tbl := lw_at lw_m11 238 rfl
theorem q2730 : (Jvm.Cond.stringRef "PolicyNotationModel" (348 : Nat) ": permits") ∈ lw_tbl := lw_at lw_m11 239 rfl
theorem q2731 : (Jvm.Cond.stringRef "PolicyNotationModel" (350 : Nat) ": forbids") ∈ lw_tbl := lw_at lw_m12 0 rfl
theorem q2732 : (Jvm.Cond.stringRef "PolicyNotationModel" (352 : Nat) ": limits") ∈ lw_tbl := lw_at lw_m12 1 rfl
theorem q2734 : (Jvm.Cond.instanceMethod ({ cls := "PolicyNotationModel", name := "character", desc := "(I)C" } : Jvm.MethodName)) ∈ lw_all := lw_g (lw_at lw_m12 3 rfl) rfl
theorem q2735 : (Jvm.Cond.selects "PolicyNotationModel" ({ cls := "PolicyNotationModel", name := "character", desc := "(I)C" } : Jvm.MethodName) ({ cls := "PolicyNotationModel", name := "character", desc := "(I)C" } : Jvm.MethodName)) ∈ lw_all := lw_g (lw_at lw_m12 4 rfl) rfl
theorem q2736 : (Jvm.Cond.code ({ cls := "PolicyNotationModel", name := "character", desc := "(I)C" } : Jvm.MethodName) prog_27_method_93_code (2 : Nat) (Option.some Jvm.ClassFile.FieldType.char)) ∈ lw_all := lw_g (lw_at lw_m12 5 rfl) rfl
theorem q2738 : (Jvm.Cond.instanceMethod ({ cls := "PolicyNotationModel", name := "reason", desc := "(Z)I" } : Jvm.MethodName)) ∈ lw_all := lw_g (lw_at lw_m12 7 rfl) rfl
theorem q2739 : (Jvm.Cond.selects "PolicyNotationModel" ({ cls := "PolicyNotationModel", name := "reason", desc := "(Z)I" } : Jvm.MethodName) ({ cls := "PolicyNotationModel", name := "reason", desc := "(Z)I" } : Jvm.MethodName)) ∈ lw_all := lw_g (lw_at lw_m12 8 rfl) rfl
theorem q2740 : (Jvm.Cond.code ({ cls := "PolicyNotationModel", name := "reason", desc := "(Z)I" } : Jvm.MethodName) prog_27_method_94_code (2 : Nat) (Option.some Jvm.ClassFile.FieldType.int)) ∈ lw_all := lw_g (lw_at lw_m12 9 rfl) rfl
theorem q2742 : (Jvm.Cond.instanceMethod ({ cls := "PolicyNotationModel", name := "account", desc := "(I)I" } : Jvm.MethodName)) ∈ lw_all := lw_g (lw_at lw_m12 11 rfl) rfl
theorem q2743 : (Jvm.Cond.selects "PolicyNotationModel" ({ cls := "PolicyNotationModel", name := "account", desc := "(I)I" } : Jvm.MethodName) ({ cls := "PolicyNotationModel", name := "account", desc := "(I)I" } : Jvm.MethodName)) ∈ lw_all := lw_g (lw_at lw_m12 12 rfl) rfl
theorem q2744 : (Jvm.Cond.code ({ cls := "PolicyNotationModel", name := "account", desc := "(I)I" } : Jvm.MethodName) prog_27_method_96_code (2 : Nat) (Option.some Jvm.ClassFile.FieldType.int)) ∈ lw_all := lw_g (lw_at lw_m12 13 rfl) rfl
theorem q2745 : (Jvm.Cond.methodLink "PolicyNotationModel" (359 : Nat) ({ cls := "PolicyNotationModel", name := "overRules", desc := "(I)I" } : Jvm.MethodName)) ∈ lw_all := lw_g (lw_at lw_m12 14 rfl) rfl
theorem q2746 : (Jvm.Cond.privateMethod ({ cls := "PolicyNotationModel", name := "overRules", desc := "(I)I" } : Jvm.MethodName)) ∈ lw_tbl := lw_at lw_m12 15 rfl
theorem q2747 : (Jvm.Cond.instanceMethod ({ cls := "PolicyNotationModel", name := "overRules", desc := "(I)I" } : Jvm.MethodName)) ∈ lw_all := lw_g (lw_at lw_m12 16 rfl) rfl
theorem q2748 : (Jvm.Cond.code ({ cls := "PolicyNotationModel", name := "overRules", desc := "(I)I" } : Jvm.MethodName) prog_27_method_95_code (4 : Nat) (Option.some Jvm.ClassFile.FieldType.int)) ∈ lw_all := lw_g (lw_at lw_m12 17 rfl) rfl
theorem q2749 : (Jvm.Cond.methodLink "PolicyNotationModel" (354 : Nat) ({ cls := "java/lang/Math", name := "max", desc := "(II)I" } : Jvm.MethodName)) ∈ lw_all := lw_g (lw_at lw_m12 18 rfl) rfl
theorem q2751 : (Jvm.Cond.instanceMethod ({ cls := "PolicyNotationModel", name := "undo", desc := "()I" } : Jvm.MethodName)) ∈ lw_all := lw_g (lw_at lw_m12 20 rfl) rfl
theorem q2752 : (Jvm.Cond.selects "PolicyNotationModel" ({ cls := "PolicyNotationModel", name := "undo", desc := "()I" } : Jvm.MethodName) ({ cls := "PolicyNotationModel", name := "undo", desc := "()I" } : Jvm.MethodName)) ∈ lw_all := lw_g (lw_at lw_m12 21 rfl) rfl
theorem q2753 : (Jvm.Cond.code ({ cls := "PolicyNotationModel", name := "undo", desc := "()I" } : Jvm.MethodName) prog_27_method_97_code (1 : Nat) (Option.some Jvm.ClassFile.FieldType.int)) ∈ lw_all := lw_g (lw_at lw_m12 22 rfl) rfl
theorem q2755 : (Jvm.Cond.instanceMethod ({ cls := "PolicyNotationModel", name := "save", desc := "()I" } : Jvm.MethodName)) ∈ lw_all := lw_g (lw_at lw_m12 24 rfl) rfl
theorem q2756 : (Jvm.Cond.selects "PolicyNotationModel" ({ cls := "PolicyNotationModel", name := "save", desc := "()I" } : Jvm.MethodName) ({ cls := "PolicyNotationModel", name := "save", desc := "()I" } : Jvm.MethodName)) ∈ lw_all := lw_g (lw_at lw_m12 25 rfl) rfl
theorem q2757 : (Jvm.Cond.code ({ cls := "PolicyNotationModel", name := "save", desc := "()I" } : Jvm.MethodName) prog_27_method_98_code (1 : Nat) (Option.some Jvm.ClassFile.FieldType.int)) ∈ lw_all := lw_g (lw_at lw_m12 26 rfl) rfl
theorem q2759 : (Jvm.Cond.instanceMethod ({ cls := "PolicyNotationModel", name := "restore", desc := "()I" } : Jvm.MethodName)) ∈ lw_all := lw_g (lw_at lw_m12 28 rfl) rfl
theorem q2760 : (Jvm.Cond.selects "PolicyNotationModel" ({ cls := "PolicyNotationModel", name := "restore", desc := "()I" } : Jvm.MethodName) ({ cls := "PolicyNotationModel", name := "restore", desc := "()I" } : Jvm.MethodName)) ∈ lw_all := lw_g (lw_at lw_m12 29 rfl) rfl
theorem q2761 : (Jvm.Cond.code ({ cls := "PolicyNotationModel", name := "restore", desc := "()I" } : Jvm.MethodName) prog_27_method_99_code (1 : Nat) (Option.some Jvm.ClassFile.FieldType.int)) ∈ lw_all := lw_g (lw_at lw_m12 30 rfl) rfl
theorem q2809 : (Jvm.Cond.castable "PolicyNotationModel" "java/lang/Object") ∈ lw_tbl := lw_at lw_m12 78 rfl
theorem in_X6 : ∀ w ∈ wsX60, w ∈ lw_all := lw_in wsX60 [2281, 2283, 2285, 2287, 2289, 2291, 2293, 2295, 2297, 2299, 2301, 2303, 2305, 2307, 2309, 2311, 2313, 2315, 2317, 2319, 2321, 2323, 2325, 2327, 2329, 2331, 2333, 2335, 2337, 2339, 2341, 2343, 2345, 2347] (by decide +kernel) (by decide +kernel)
