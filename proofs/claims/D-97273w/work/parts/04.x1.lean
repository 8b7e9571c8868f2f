/-! LostQuestionsModel -/
set_option maxRecDepth 100000
def RX1 : String := "LostQuestionsModel"
def TX1 : u_T := fun k => match k with
  | 0 => ("LostQuestionsModel", "rowSizes", "[I", true)
  | 1 => ("LostQuestionsModel", "rows", "[I", true)
  | 2 => ("LostQuestionsModel", "textSizes", "[I", true)
  | 3 => ("LostQuestionsModel", "texts", "[I", true)
  | 4 => ("LostQuestionsModel", "now", "[I", true)
  | 5 => ("LostQuestionsModel", "keeps", "[I", true)
  | 6 => ("LostQuestionsModel", "kept", "[Z", true)
  | 7 => ("LostQuestionsModel", "asked", "I", false)
  | 8 => ("LostQuestionsModel", "upper", "J", false)
  | 9 => ("LostQuestionsModel", "lower", "J", false)
  | 10 => ("LostQuestionsModel", "finding", "I", false)
  | 11 => ("LostQuestionsModel", "findings", "[I", true)
  | 12 => ("LostQuestionsModel", "read", "[I", true)
  | 13 => ("LostQuestionsModel", "at", "I", false)
  | 14 => ("LostQuestionsModel", "chosen", "[I", true)
  | 15 => ("LostQuestionsModel", "best", "[I", true)
  | 16 => ("LostQuestionsModel", "within", "[I", true)
  | 17 => ("LostQuestionsModel", "all", "I", false)
  | 18 => ("LostQuestionsModel", "most", "I", false)
  | 19 => ("LostQuestionsModel", "asks", "[I", true)
  | _ => ("LostQuestionsModel", "firsts", "[I", true)
def tyX1 : Nat → FieldType := fun k => match k with
  | 0 => .array .int
  | 1 => .array .int
  | 2 => .array .int
  | 3 => .array .int
  | 4 => .array .int
  | 5 => .array .int
  | 6 => .array .boolean
  | 7 => .int
  | 8 => .long
  | 9 => .long
  | 10 => .int
  | 11 => .array .int
  | 12 => .array .int
  | 13 => .int
  | 14 => .array .int
  | 15 => .array .int
  | 16 => .array .int
  | 17 => .int
  | 18 => .int
  | 19 => .array .int
  | _ => .array .int
abbrev wsX10 : List Cond := u_ws RX1 TX1 21
set_option maxRecDepth 100000 in
theorem nmX1 : ∀ a, a < 21 → ∀ b, b < 21 → a ≠ b → (TX1 a).2.1 ≠ (TX1 b).2.1 := by decide +kernel
set_option maxRecDepth 100000 in
theorem tyX1_ok : ∀ k, k < 21 → parseFieldDescriptor (TX1 k).2.2.1 = some (tyX1 k) := by decide +kernel
abbrev cX1_init : ByteArray := prog_10_method_1_code
def yX1_init : MethodName := ⟨RX1, "<init>", "()V"⟩
def dkwX1_init_7 : List UInt8 := [167, 255, 241, 177]
abbrev dktX1_init_7 : List UInt8 := dkwX1_init_7 ++ []
def dkwX1_init_6 : List UInt8 := [132, 1, 1, 167, 255, 240, 3, 60, 27, 7, 162, 0, 16, 42, 180, 0, 16, 27, 2, 79, 132, 1, 1]
abbrev dktX1_init_6 : List UInt8 := dkwX1_init_6 ++ dktX1_init_7
def dkwX1_init_5 : List UInt8 := [42, 17, 0, 128, 188, 10, 181, 0, 54, 3, 60, 27, 16, 6, 162, 0, 16, 42, 180, 0, 7, 27, 2, 79]
abbrev dktX1_init_5 : List UInt8 := dkwX1_init_5 ++ dktX1_init_6
def dkwX1_init_4 : List UInt8 := [16, 7, 188, 10, 181, 0, 45, 42, 16, 49, 188, 10, 181, 0, 48, 42, 17, 0, 128, 188, 10, 181, 0, 51]
abbrev dktX1_init_4 : List UInt8 := dkwX1_init_4 ++ dktX1_init_5
def dkwX1_init_3 : List UInt8 := [188, 10, 181, 0, 36, 42, 17, 1, 137, 188, 10, 181, 0, 39, 42, 16, 7, 188, 10, 181, 0, 42, 42]
abbrev dktX1_init_3 : List UInt8 := dkwX1_init_3 ++ dktX1_init_4
def dkwX1_init_2 : List UInt8 := [17, 4, 155, 188, 10, 181, 0, 25, 42, 6, 188, 4, 181, 0, 28, 42, 10, 181, 0, 32, 42, 16, 6]
abbrev dktX1_init_2 : List UInt8 := dkwX1_init_2 ++ dktX1_init_3
def dkwX1_init_1 : List UInt8 := [188, 10, 181, 0, 16, 42, 17, 1, 64, 188, 10, 181, 0, 19, 42, 17, 1, 137, 188, 10, 181, 0, 22, 42]
abbrev dktX1_init_1 : List UInt8 := dkwX1_init_1 ++ dktX1_init_2
def dkwX1_init_0 : List UInt8 := [42, 183, 0, 1, 42, 16, 6, 188, 10, 181, 0, 7, 42, 17, 0, 240, 188, 10, 181, 0, 13, 42, 7]
abbrev dktX1_init_0 : List UInt8 := dkwX1_init_0 ++ dktX1_init_1
theorem dksX1_init_0 : cX1_init.data.toList.drop 0 = dktX1_init_0 := by decide +kernel
theorem dksX1_init_1 : cX1_init.data.toList.drop 23 = dktX1_init_1 := dk_seg dksX1_init_0 23 rfl rfl
theorem dksX1_init_2 : cX1_init.data.toList.drop 47 = dktX1_init_2 := dk_seg dksX1_init_1 24 rfl rfl
theorem dksX1_init_3 : cX1_init.data.toList.drop 70 = dktX1_init_3 := dk_seg dksX1_init_2 23 rfl rfl
theorem dksX1_init_4 : cX1_init.data.toList.drop 93 = dktX1_init_4 := dk_seg dksX1_init_3 23 rfl rfl
theorem dksX1_init_5 : cX1_init.data.toList.drop 117 = dktX1_init_5 := dk_seg dksX1_init_4 24 rfl rfl
theorem dksX1_init_6 : cX1_init.data.toList.drop 141 = dktX1_init_6 := dk_seg dksX1_init_5 24 rfl rfl
theorem dksX1_init_7 : cX1_init.data.toList.drop 164 = dktX1_init_7 := dk_seg dksX1_init_6 23 rfl rfl
theorem dX1_init_0 : decode cX1_init 0 = .ok (.aload_n 0, 1) := dk_42 (dk_at dksX1_init_0 0 rfl rfl)
theorem dX1_init_1 : decode cX1_init 1 = .ok (.invokespecial 1, 3) := dk_183 0 1 (dk_at dksX1_init_0 1 rfl rfl)
theorem dX1_init_4 : decode cX1_init 4 = .ok (.aload_n 0, 1) := dk_42 (dk_at dksX1_init_0 4 rfl rfl)
theorem dX1_init_5 : decode cX1_init 5 = .ok (.bipush 6, 2) := dk_16 6 (dk_at dksX1_init_0 5 rfl rfl)
theorem dX1_init_7 : decode cX1_init 7 = .ok (.newarray .int, 2) := dk_188_10 (dk_at dksX1_init_0 7 rfl rfl)
theorem dX1_init_9 : decode cX1_init 9 = .ok (.putfield 7, 3) := dk_181 0 7 (dk_at dksX1_init_0 9 rfl rfl)
theorem dX1_init_12 : decode cX1_init 12 = .ok (.aload_n 0, 1) := dk_42 (dk_at dksX1_init_0 12 rfl rfl)
theorem dX1_init_13 : decode cX1_init 13 = .ok (.sipush 240, 3) := dk_17 0 240 (dk_at dksX1_init_0 13 rfl rfl)
theorem dX1_init_16 : decode cX1_init 16 = .ok (.newarray .int, 2) := dk_188_10 (dk_at dksX1_init_0 16 rfl rfl)
theorem dX1_init_18 : decode cX1_init 18 = .ok (.putfield 13, 3) := dk_181 0 13 (dk_at dksX1_init_0 18 rfl rfl)
theorem dX1_init_21 : decode cX1_init 21 = .ok (.aload_n 0, 1) := dk_42 (dk_at dksX1_init_0 21 rfl rfl)
theorem dX1_init_22 : decode cX1_init 22 = .ok (.iconst 4, 1) := dk_7 (dk_at dksX1_init_0 22 rfl rfl)
theorem dX1_init_23 : decode cX1_init 23 = .ok (.newarray .int, 2) := dk_188_10 (dk_at dksX1_init_1 0 rfl rfl)
theorem dX1_init_25 : decode cX1_init 25 = .ok (.putfield 16, 3) := dk_181 0 16 (dk_at dksX1_init_1 2 rfl rfl)
theorem dX1_init_28 : decode cX1_init 28 = .ok (.aload_n 0, 1) := dk_42 (dk_at dksX1_init_1 5 rfl rfl)
theorem dX1_init_29 : decode cX1_init 29 = .ok (.sipush 320, 3) := dk_17 1 64 (dk_at dksX1_init_1 6 rfl rfl)
theorem dX1_init_32 : decode cX1_init 32 = .ok (.newarray .int, 2) := dk_188_10 (dk_at dksX1_init_1 9 rfl rfl)
theorem dX1_init_34 : decode cX1_init 34 = .ok (.putfield 19, 3) := dk_181 0 19 (dk_at dksX1_init_1 11 rfl rfl)
theorem dX1_init_37 : decode cX1_init 37 = .ok (.aload_n 0, 1) := dk_42 (dk_at dksX1_init_1 14 rfl rfl)
theorem dX1_init_38 : decode cX1_init 38 = .ok (.sipush 393, 3) := dk_17 1 137 (dk_at dksX1_init_1 15 rfl rfl)
theorem dX1_init_41 : decode cX1_init 41 = .ok (.newarray .int, 2) := dk_188_10 (dk_at dksX1_init_1 18 rfl rfl)
theorem dX1_init_43 : decode cX1_init 43 = .ok (.putfield 22, 3) := dk_181 0 22 (dk_at dksX1_init_1 20 rfl rfl)
theorem dX1_init_46 : decode cX1_init 46 = .ok (.aload_n 0, 1) := dk_42 (dk_at dksX1_init_1 23 rfl rfl)
theorem dX1_init_47 : decode cX1_init 47 = .ok (.sipush 1179, 3) := dk_17 4 155 (dk_at dksX1_init_2 0 rfl rfl)
theorem dX1_init_50 : decode cX1_init 50 = .ok (.newarray .int, 2) := dk_188_10 (dk_at dksX1_init_2 3 rfl rfl)
theorem dX1_init_52 : decode cX1_init 52 = .ok (.putfield 25, 3) := dk_181 0 25 (dk_at dksX1_init_2 5 rfl rfl)
theorem dX1_init_55 : decode cX1_init 55 = .ok (.aload_n 0, 1) := dk_42 (dk_at dksX1_init_2 8 rfl rfl)
theorem dX1_init_56 : decode cX1_init 56 = .ok (.iconst 3, 1) := dk_6 (dk_at dksX1_init_2 9 rfl rfl)
theorem dX1_init_57 : decode cX1_init 57 = .ok (.newarray .boolean, 2) := dk_188_4 (dk_at dksX1_init_2 10 rfl rfl)
theorem dX1_init_59 : decode cX1_init 59 = .ok (.putfield 28, 3) := dk_181 0 28 (dk_at dksX1_init_2 12 rfl rfl)
theorem dX1_init_62 : decode cX1_init 62 = .ok (.aload_n 0, 1) := dk_42 (dk_at dksX1_init_2 15 rfl rfl)
theorem dX1_init_63 : decode cX1_init 63 = .ok (.lconst 1, 1) := dk_10 (dk_at dksX1_init_2 16 rfl rfl)
theorem dX1_init_64 : decode cX1_init 64 = .ok (.putfield 32, 3) := dk_181 0 32 (dk_at dksX1_init_2 17 rfl rfl)
theorem dX1_init_67 : decode cX1_init 67 = .ok (.aload_n 0, 1) := dk_42 (dk_at dksX1_init_2 20 rfl rfl)
theorem dX1_init_68 : decode cX1_init 68 = .ok (.bipush 6, 2) := dk_16 6 (dk_at dksX1_init_2 21 rfl rfl)
theorem dX1_init_70 : decode cX1_init 70 = .ok (.newarray .int, 2) := dk_188_10 (dk_at dksX1_init_3 0 rfl rfl)
theorem dX1_init_72 : decode cX1_init 72 = .ok (.putfield 36, 3) := dk_181 0 36 (dk_at dksX1_init_3 2 rfl rfl)
theorem dX1_init_75 : decode cX1_init 75 = .ok (.aload_n 0, 1) := dk_42 (dk_at dksX1_init_3 5 rfl rfl)
theorem dX1_init_76 : decode cX1_init 76 = .ok (.sipush 393, 3) := dk_17 1 137 (dk_at dksX1_init_3 6 rfl rfl)
theorem dX1_init_79 : decode cX1_init 79 = .ok (.newarray .int, 2) := dk_188_10 (dk_at dksX1_init_3 9 rfl rfl)
theorem dX1_init_81 : decode cX1_init 81 = .ok (.putfield 39, 3) := dk_181 0 39 (dk_at dksX1_init_3 11 rfl rfl)
theorem dX1_init_84 : decode cX1_init 84 = .ok (.aload_n 0, 1) := dk_42 (dk_at dksX1_init_3 14 rfl rfl)
theorem dX1_init_85 : decode cX1_init 85 = .ok (.bipush 7, 2) := dk_16 7 (dk_at dksX1_init_3 15 rfl rfl)
theorem dX1_init_87 : decode cX1_init 87 = .ok (.newarray .int, 2) := dk_188_10 (dk_at dksX1_init_3 17 rfl rfl)
theorem dX1_init_89 : decode cX1_init 89 = .ok (.putfield 42, 3) := dk_181 0 42 (dk_at dksX1_init_3 19 rfl rfl)
theorem dX1_init_92 : decode cX1_init 92 = .ok (.aload_n 0, 1) := dk_42 (dk_at dksX1_init_3 22 rfl rfl)
theorem dX1_init_93 : decode cX1_init 93 = .ok (.bipush 7, 2) := dk_16 7 (dk_at dksX1_init_4 0 rfl rfl)
theorem dX1_init_95 : decode cX1_init 95 = .ok (.newarray .int, 2) := dk_188_10 (dk_at dksX1_init_4 2 rfl rfl)
theorem dX1_init_97 : decode cX1_init 97 = .ok (.putfield 45, 3) := dk_181 0 45 (dk_at dksX1_init_4 4 rfl rfl)
theorem dX1_init_100 : decode cX1_init 100 = .ok (.aload_n 0, 1) := dk_42 (dk_at dksX1_init_4 7 rfl rfl)
theorem dX1_init_101 : decode cX1_init 101 = .ok (.bipush 49, 2) := dk_16 49 (dk_at dksX1_init_4 8 rfl rfl)
theorem dX1_init_103 : decode cX1_init 103 = .ok (.newarray .int, 2) := dk_188_10 (dk_at dksX1_init_4 10 rfl rfl)
theorem dX1_init_105 : decode cX1_init 105 = .ok (.putfield 48, 3) := dk_181 0 48 (dk_at dksX1_init_4 12 rfl rfl)
theorem dX1_init_108 : decode cX1_init 108 = .ok (.aload_n 0, 1) := dk_42 (dk_at dksX1_init_4 15 rfl rfl)
theorem dX1_init_109 : decode cX1_init 109 = .ok (.sipush 128, 3) := dk_17 0 128 (dk_at dksX1_init_4 16 rfl rfl)
theorem dX1_init_112 : decode cX1_init 112 = .ok (.newarray .int, 2) := dk_188_10 (dk_at dksX1_init_4 19 rfl rfl)
theorem dX1_init_114 : decode cX1_init 114 = .ok (.putfield 51, 3) := dk_181 0 51 (dk_at dksX1_init_4 21 rfl rfl)
theorem dX1_init_117 : decode cX1_init 117 = .ok (.aload_n 0, 1) := dk_42 (dk_at dksX1_init_5 0 rfl rfl)
theorem dX1_init_118 : decode cX1_init 118 = .ok (.sipush 128, 3) := dk_17 0 128 (dk_at dksX1_init_5 1 rfl rfl)
theorem dX1_init_121 : decode cX1_init 121 = .ok (.newarray .int, 2) := dk_188_10 (dk_at dksX1_init_5 4 rfl rfl)
theorem dX1_init_123 : decode cX1_init 123 = .ok (.putfield 54, 3) := dk_181 0 54 (dk_at dksX1_init_5 6 rfl rfl)
theorem dX1_init_126 : decode cX1_init 126 = .ok (.iconst 0, 1) := dk_3 (dk_at dksX1_init_5 9 rfl rfl)
theorem dX1_init_127 : decode cX1_init 127 = .ok (.istore_n 1, 1) := dk_60 (dk_at dksX1_init_5 10 rfl rfl)
theorem dX1_init_128 : decode cX1_init 128 = .ok (.iload_n 1, 1) := dk_27 (dk_at dksX1_init_5 11 rfl rfl)
theorem dX1_init_129 : decode cX1_init 129 = .ok (.bipush 6, 2) := dk_16 6 (dk_at dksX1_init_5 12 rfl rfl)
theorem dX1_init_131 : decode cX1_init 131 = .ok (.if_icmp .ge 16, 3) := dk_162 0 16 (dk_at dksX1_init_5 14 rfl rfl)
theorem dX1_init_134 : decode cX1_init 134 = .ok (.aload_n 0, 1) := dk_42 (dk_at dksX1_init_5 17 rfl rfl)
theorem dX1_init_135 : decode cX1_init 135 = .ok (.getfield 7, 3) := dk_180 0 7 (dk_at dksX1_init_5 18 rfl rfl)
theorem dX1_init_138 : decode cX1_init 138 = .ok (.iload_n 1, 1) := dk_27 (dk_at dksX1_init_5 21 rfl rfl)
theorem dX1_init_139 : decode cX1_init 139 = .ok (.iconst (-1), 1) := dk_2 (dk_at dksX1_init_5 22 rfl rfl)
theorem dX1_init_140 : decode cX1_init 140 = .ok (.iastore, 1) := dk_79 (dk_at dksX1_init_5 23 rfl rfl)
theorem dX1_init_141 : decode cX1_init 141 = .ok (.iinc 1 1, 3) := dk_132 1 1 (dk_at dksX1_init_6 0 rfl rfl)
theorem dX1_init_144 : decode cX1_init 144 = .ok (.goto (-16), 3) := dk_167 255 240 (dk_at dksX1_init_6 3 rfl rfl)
theorem dX1_init_147 : decode cX1_init 147 = .ok (.iconst 0, 1) := dk_3 (dk_at dksX1_init_6 6 rfl rfl)
theorem dX1_init_148 : decode cX1_init 148 = .ok (.istore_n 1, 1) := dk_60 (dk_at dksX1_init_6 7 rfl rfl)
theorem dX1_init_149 : decode cX1_init 149 = .ok (.iload_n 1, 1) := dk_27 (dk_at dksX1_init_6 8 rfl rfl)
theorem dX1_init_150 : decode cX1_init 150 = .ok (.iconst 4, 1) := dk_7 (dk_at dksX1_init_6 9 rfl rfl)
theorem dX1_init_151 : decode cX1_init 151 = .ok (.if_icmp .ge 16, 3) := dk_162 0 16 (dk_at dksX1_init_6 10 rfl rfl)
theorem dX1_init_154 : decode cX1_init 154 = .ok (.aload_n 0, 1) := dk_42 (dk_at dksX1_init_6 13 rfl rfl)
theorem dX1_init_155 : decode cX1_init 155 = .ok (.getfield 16, 3) := dk_180 0 16 (dk_at dksX1_init_6 14 rfl rfl)
theorem dX1_init_158 : decode cX1_init 158 = .ok (.iload_n 1, 1) := dk_27 (dk_at dksX1_init_6 17 rfl rfl)
theorem dX1_init_159 : decode cX1_init 159 = .ok (.iconst (-1), 1) := dk_2 (dk_at dksX1_init_6 18 rfl rfl)
theorem dX1_init_160 : decode cX1_init 160 = .ok (.iastore, 1) := dk_79 (dk_at dksX1_init_6 19 rfl rfl)
theorem dX1_init_161 : decode cX1_init 161 = .ok (.iinc 1 1, 3) := dk_132 1 1 (dk_at dksX1_init_6 20 rfl rfl)
theorem dX1_init_164 : decode cX1_init 164 = .ok (.goto (-15), 3) := dk_167 255 241 (dk_at dksX1_init_7 0 rfl rfl)
theorem dX1_init_167 : decode cX1_init 167 = .ok (.return_, 1) := dk_177 (dk_at dksX1_init_7 3 rfl rfl)
abbrev cX1_row : ByteArray := prog_10_method_8_code
def yX1_row : MethodName := ⟨RX1, "row", "(II)I"⟩
def dkwX1_row_2 : List UInt8 := [29, 96, 3, 79, 132, 3, 1, 167, 255, 235, 28, 172]
abbrev dktX1_row_2 : List UInt8 := dkwX1_row_2 ++ []
def dkwX1_row_1 : List UInt8 := [172, 42, 180, 0, 7, 27, 28, 79, 3, 62, 29, 16, 40, 162, 0, 21, 42, 180, 0, 13, 16, 40, 27, 104]
abbrev dktX1_row_1 : List UInt8 := dkwX1_row_1 ++ dktX1_row_2
def dkwX1_row_0 : List UInt8 := [27, 184, 0, 72, 153, 0, 9, 28, 16, 40, 164, 0, 5, 2, 172, 28, 156, 0, 9, 42, 8, 182, 0, 76]
abbrev dktX1_row_0 : List UInt8 := dkwX1_row_0 ++ dktX1_row_1
theorem dksX1_row_0 : cX1_row.data.toList.drop 0 = dktX1_row_0 := by decide +kernel
theorem dksX1_row_1 : cX1_row.data.toList.drop 24 = dktX1_row_1 := dk_seg dksX1_row_0 24 rfl rfl
theorem dksX1_row_2 : cX1_row.data.toList.drop 48 = dktX1_row_2 := dk_seg dksX1_row_1 24 rfl rfl
theorem dX1_row_0 : decode cX1_row 0 = .ok (.iload_n 1, 1) := dk_27 (dk_at dksX1_row_0 0 rfl rfl)
theorem dX1_row_1 : decode cX1_row 1 = .ok (.invokestatic 72, 3) := dk_184 0 72 (dk_at dksX1_row_0 1 rfl rfl)
theorem dX1_row_4 : decode cX1_row 4 = .ok (.ifCond .eq 9, 3) := dk_153 0 9 (dk_at dksX1_row_0 4 rfl rfl)
theorem dX1_row_7 : decode cX1_row 7 = .ok (.iload_n 2, 1) := dk_28 (dk_at dksX1_row_0 7 rfl rfl)
theorem dX1_row_8 : decode cX1_row 8 = .ok (.bipush 40, 2) := dk_16 40 (dk_at dksX1_row_0 8 rfl rfl)
theorem dX1_row_10 : decode cX1_row 10 = .ok (.if_icmp .le 5, 3) := dk_164 0 5 (dk_at dksX1_row_0 10 rfl rfl)
theorem dX1_row_13 : decode cX1_row 13 = .ok (.iconst (-1), 1) := dk_2 (dk_at dksX1_row_0 13 rfl rfl)
theorem dX1_row_14 : decode cX1_row 14 = .ok (.ireturn, 1) := dk_172 (dk_at dksX1_row_0 14 rfl rfl)
theorem dX1_row_15 : decode cX1_row 15 = .ok (.iload_n 2, 1) := dk_28 (dk_at dksX1_row_0 15 rfl rfl)
theorem dX1_row_16 : decode cX1_row 16 = .ok (.ifCond .ge 9, 3) := dk_156 0 9 (dk_at dksX1_row_0 16 rfl rfl)
theorem dX1_row_19 : decode cX1_row 19 = .ok (.aload_n 0, 1) := dk_42 (dk_at dksX1_row_0 19 rfl rfl)
theorem dX1_row_20 : decode cX1_row 20 = .ok (.iconst 5, 1) := dk_8 (dk_at dksX1_row_0 20 rfl rfl)
theorem dX1_row_21 : decode cX1_row 21 = .ok (.invokevirtual 76, 3) := dk_182 0 76 (dk_at dksX1_row_0 21 rfl rfl)
theorem dX1_row_24 : decode cX1_row 24 = .ok (.ireturn, 1) := dk_172 (dk_at dksX1_row_1 0 rfl rfl)
theorem dX1_row_25 : decode cX1_row 25 = .ok (.aload_n 0, 1) := dk_42 (dk_at dksX1_row_1 1 rfl rfl)
theorem dX1_row_26 : decode cX1_row 26 = .ok (.getfield 7, 3) := dk_180 0 7 (dk_at dksX1_row_1 2 rfl rfl)
theorem dX1_row_29 : decode cX1_row 29 = .ok (.iload_n 1, 1) := dk_27 (dk_at dksX1_row_1 5 rfl rfl)
theorem dX1_row_30 : decode cX1_row 30 = .ok (.iload_n 2, 1) := dk_28 (dk_at dksX1_row_1 6 rfl rfl)
theorem dX1_row_31 : decode cX1_row 31 = .ok (.iastore, 1) := dk_79 (dk_at dksX1_row_1 7 rfl rfl)
theorem dX1_row_32 : decode cX1_row 32 = .ok (.iconst 0, 1) := dk_3 (dk_at dksX1_row_1 8 rfl rfl)
theorem dX1_row_33 : decode cX1_row 33 = .ok (.istore_n 3, 1) := dk_62 (dk_at dksX1_row_1 9 rfl rfl)
theorem dX1_row_34 : decode cX1_row 34 = .ok (.iload_n 3, 1) := dk_29 (dk_at dksX1_row_1 10 rfl rfl)
theorem dX1_row_35 : decode cX1_row 35 = .ok (.bipush 40, 2) := dk_16 40 (dk_at dksX1_row_1 11 rfl rfl)
theorem dX1_row_37 : decode cX1_row 37 = .ok (.if_icmp .ge 21, 3) := dk_162 0 21 (dk_at dksX1_row_1 13 rfl rfl)
theorem dX1_row_40 : decode cX1_row 40 = .ok (.aload_n 0, 1) := dk_42 (dk_at dksX1_row_1 16 rfl rfl)
theorem dX1_row_41 : decode cX1_row 41 = .ok (.getfield 13, 3) := dk_180 0 13 (dk_at dksX1_row_1 17 rfl rfl)
theorem dX1_row_44 : decode cX1_row 44 = .ok (.bipush 40, 2) := dk_16 40 (dk_at dksX1_row_1 20 rfl rfl)
theorem dX1_row_46 : decode cX1_row 46 = .ok (.iload_n 1, 1) := dk_27 (dk_at dksX1_row_1 22 rfl rfl)
theorem dX1_row_47 : decode cX1_row 47 = .ok (.imul, 1) := dk_104 (dk_at dksX1_row_1 23 rfl rfl)
theorem dX1_row_48 : decode cX1_row 48 = .ok (.iload_n 3, 1) := dk_29 (dk_at dksX1_row_2 0 rfl rfl)
theorem dX1_row_49 : decode cX1_row 49 = .ok (.iadd, 1) := dk_96 (dk_at dksX1_row_2 1 rfl rfl)
theorem dX1_row_50 : decode cX1_row 50 = .ok (.iconst 0, 1) := dk_3 (dk_at dksX1_row_2 2 rfl rfl)
theorem dX1_row_51 : decode cX1_row 51 = .ok (.iastore, 1) := dk_79 (dk_at dksX1_row_2 3 rfl rfl)
theorem dX1_row_52 : decode cX1_row 52 = .ok (.iinc 3 1, 3) := dk_132 3 1 (dk_at dksX1_row_2 4 rfl rfl)
theorem dX1_row_55 : decode cX1_row 55 = .ok (.goto (-21), 3) := dk_167 255 235 (dk_at dksX1_row_2 7 rfl rfl)
theorem dX1_row_58 : decode cX1_row 58 = .ok (.iload_n 2, 1) := dk_28 (dk_at dksX1_row_2 10 rfl rfl)
theorem dX1_row_59 : decode cX1_row 59 = .ok (.ireturn, 1) := dk_172 (dk_at dksX1_row_2 11 rfl rfl)
abbrev cX1_isRow : ByteArray := prog_10_method_6_code
def yX1_isRow : MethodName := ⟨RX1, "isRow", "(I)Z"⟩
def dkwX1_isRow_0 : List UInt8 := [26, 133, 9, 20, 0, 64, 184, 0, 66, 172]
abbrev dktX1_isRow_0 : List UInt8 := dkwX1_isRow_0 ++ []
theorem dksX1_isRow_0 : cX1_isRow.data.toList.drop 0 = dktX1_isRow_0 := by decide +kernel
theorem dX1_isRow_0 : decode cX1_isRow 0 = .ok (.iload_n 0, 1) := dk_26 (dk_at dksX1_isRow_0 0 rfl rfl)
theorem dX1_isRow_1 : decode cX1_isRow 1 = .ok (.i2l, 1) := dk_133 (dk_at dksX1_isRow_0 1 rfl rfl)
theorem dX1_isRow_2 : decode cX1_isRow 2 = .ok (.lconst 0, 1) := dk_9 (dk_at dksX1_isRow_0 2 rfl rfl)
theorem dX1_isRow_3 : decode cX1_isRow 3 = .ok (.ldc2_w 64, 3) := dk_20 0 64 (dk_at dksX1_isRow_0 3 rfl rfl)
theorem dX1_isRow_6 : decode cX1_isRow 6 = .ok (.invokestatic 66, 3) := dk_184 0 66 (dk_at dksX1_isRow_0 6 rfl rfl)
theorem dX1_isRow_9 : decode cX1_isRow 9 = .ok (.ireturn, 1) := dk_172 (dk_at dksX1_isRow_0 9 rfl rfl)
abbrev cX1_in : ByteArray := prog_10_method_3_code
def yX1_in : MethodName := ⟨RX1, "in", "(JJJ)Z"⟩
def dkwX1_in_0 : List UInt8 := [30, 32, 148, 155, 0, 14, 30, 22, 4, 148, 157, 0, 7, 4, 167, 0, 4, 3, 172]
abbrev dktX1_in_0 : List UInt8 := dkwX1_in_0 ++ []
theorem dksX1_in_0 : cX1_in.data.toList.drop 0 = dktX1_in_0 := by decide +kernel
theorem dX1_in_0 : decode cX1_in 0 = .ok (.lload_n 0, 1) := dk_30 (dk_at dksX1_in_0 0 rfl rfl)
theorem dX1_in_1 : decode cX1_in 1 = .ok (.lload_n 2, 1) := dk_32 (dk_at dksX1_in_0 1 rfl rfl)
theorem dX1_in_2 : decode cX1_in 2 = .ok (.lcmp, 1) := dk_148 (dk_at dksX1_in_0 2 rfl rfl)
theorem dX1_in_3 : decode cX1_in 3 = .ok (.ifCond .lt 14, 3) := dk_155 0 14 (dk_at dksX1_in_0 3 rfl rfl)
theorem dX1_in_6 : decode cX1_in 6 = .ok (.lload_n 0, 1) := dk_30 (dk_at dksX1_in_0 6 rfl rfl)
theorem dX1_in_7 : decode cX1_in 7 = .ok (.lload 4, 2) := dk_22 4 (dk_at dksX1_in_0 7 rfl rfl)
theorem dX1_in_9 : decode cX1_in 9 = .ok (.lcmp, 1) := dk_148 (dk_at dksX1_in_0 9 rfl rfl)
theorem dX1_in_10 : decode cX1_in 10 = .ok (.ifCond .gt 7, 3) := dk_157 0 7 (dk_at dksX1_in_0 10 rfl rfl)
theorem dX1_in_13 : decode cX1_in 13 = .ok (.iconst 1, 1) := dk_4 (dk_at dksX1_in_0 13 rfl rfl)
theorem dX1_in_14 : decode cX1_in 14 = .ok (.goto 4, 3) := dk_167 0 4 (dk_at dksX1_in_0 14 rfl rfl)
theorem dX1_in_17 : decode cX1_in 17 = .ok (.iconst 0, 1) := dk_3 (dk_at dksX1_in_0 17 rfl rfl)
theorem dX1_in_18 : decode cX1_in 18 = .ok (.ireturn, 1) := dk_172 (dk_at dksX1_in_0 18 rfl rfl)
abbrev cX1_found : ByteArray := prog_10_method_4_code
def yX1_found : MethodName := ⟨RX1, "found", "(I)I"⟩
def dkwX1_found_0 : List UInt8 := [42, 27, 181, 0, 57, 42, 180, 0, 36, 27, 92, 46, 4, 96, 79, 16, 253, 172]
abbrev dktX1_found_0 : List UInt8 := dkwX1_found_0 ++ []
theorem dksX1_found_0 : cX1_found.data.toList.drop 0 = dktX1_found_0 := by decide +kernel
theorem dX1_found_0 : decode cX1_found 0 = .ok (.aload_n 0, 1) := dk_42 (dk_at dksX1_found_0 0 rfl rfl)
theorem dX1_found_1 : decode cX1_found 1 = .ok (.iload_n 1, 1) := dk_27 (dk_at dksX1_found_0 1 rfl rfl)
theorem dX1_found_2 : decode cX1_found 2 = .ok (.putfield 57, 3) := dk_181 0 57 (dk_at dksX1_found_0 2 rfl rfl)
theorem dX1_found_5 : decode cX1_found 5 = .ok (.aload_n 0, 1) := dk_42 (dk_at dksX1_found_0 5 rfl rfl)
theorem dX1_found_6 : decode cX1_found 6 = .ok (.getfield 36, 3) := dk_180 0 36 (dk_at dksX1_found_0 6 rfl rfl)
theorem dX1_found_9 : decode cX1_found 9 = .ok (.iload_n 1, 1) := dk_27 (dk_at dksX1_found_0 9 rfl rfl)
theorem dX1_found_10 : decode cX1_found 10 = .ok (.dup2, 1) := dk_92 (dk_at dksX1_found_0 10 rfl rfl)
theorem dX1_found_11 : decode cX1_found 11 = .ok (.iaload, 1) := dk_46 (dk_at dksX1_found_0 11 rfl rfl)
theorem dX1_found_12 : decode cX1_found 12 = .ok (.iconst 1, 1) := dk_4 (dk_at dksX1_found_0 12 rfl rfl)
theorem dX1_found_13 : decode cX1_found 13 = .ok (.iadd, 1) := dk_96 (dk_at dksX1_found_0 13 rfl rfl)
theorem dX1_found_14 : decode cX1_found 14 = .ok (.iastore, 1) := dk_79 (dk_at dksX1_found_0 14 rfl rfl)
theorem dX1_found_15 : decode cX1_found 15 = .ok (.bipush (-3), 2) := dk_16 253 (dk_at dksX1_found_0 15 rfl rfl)
theorem dX1_found_17 : decode cX1_found 17 = .ok (.ireturn, 1) := dk_172 (dk_at dksX1_found_0 17 rfl rfl)
abbrev cX1_lay : ByteArray := prog_10_method_9_code
def yX1_lay : MethodName := ⟨RX1, "lay", "(III)I"⟩
def dkwX1_lay_3 : List UInt8 := [79, 42, 21, 4, 182, 0, 80, 172]
abbrev dktX1_lay_3 : List UInt8 := dkwX1_lay_3 ++ []
def dkwX1_lay_2 : List UInt8 := [42, 180, 0, 13, 16, 40, 27, 104, 28, 96, 46, 54, 4, 42, 180, 0, 13, 16, 40, 27, 104, 28, 96, 29]
abbrev dktX1_lay_2 : List UInt8 := dkwX1_lay_2 ++ dktX1_lay_3
def dkwX1_lay_1 : List UInt8 := [28, 133, 9, 42, 180, 0, 7, 27, 46, 4, 100, 133, 184, 0, 66, 154, 0, 9, 42, 5, 182, 0, 76, 172]
abbrev dktX1_lay_1 : List UInt8 := dkwX1_lay_1 ++ dktX1_lay_2
def dkwX1_lay_0 : List UInt8 := [27, 184, 0, 72, 154, 0, 5, 2, 172, 42, 180, 0, 7, 27, 46, 156, 0, 9, 42, 4, 182, 0, 76, 172]
abbrev dktX1_lay_0 : List UInt8 := dkwX1_lay_0 ++ dktX1_lay_1
theorem dksX1_lay_0 : cX1_lay.data.toList.drop 0 = dktX1_lay_0 := by decide +kernel
theorem dksX1_lay_1 : cX1_lay.data.toList.drop 24 = dktX1_lay_1 := dk_seg dksX1_lay_0 24 rfl rfl
theorem dksX1_lay_2 : cX1_lay.data.toList.drop 48 = dktX1_lay_2 := dk_seg dksX1_lay_1 24 rfl rfl
theorem dksX1_lay_3 : cX1_lay.data.toList.drop 72 = dktX1_lay_3 := dk_seg dksX1_lay_2 24 rfl rfl
theorem dX1_lay_0 : decode cX1_lay 0 = .ok (.iload_n 1, 1) := dk_27 (dk_at dksX1_lay_0 0 rfl rfl)
theorem dX1_lay_1 : decode cX1_lay 1 = .ok (.invokestatic 72, 3) := dk_184 0 72 (dk_at dksX1_lay_0 1 rfl rfl)
theorem dX1_lay_4 : decode cX1_lay 4 = .ok (.ifCond .ne 5, 3) := dk_154 0 5 (dk_at dksX1_lay_0 4 rfl rfl)
theorem dX1_lay_7 : decode cX1_lay 7 = .ok (.iconst (-1), 1) := dk_2 (dk_at dksX1_lay_0 7 rfl rfl)
theorem dX1_lay_8 : decode cX1_lay 8 = .ok (.ireturn, 1) := dk_172 (dk_at dksX1_lay_0 8 rfl rfl)
theorem dX1_lay_9 : decode cX1_lay 9 = .ok (.aload_n 0, 1) := dk_42 (dk_at dksX1_lay_0 9 rfl rfl)
theorem dX1_lay_10 : decode cX1_lay 10 = .ok (.getfield 7, 3) := dk_180 0 7 (dk_at dksX1_lay_0 10 rfl rfl)
theorem dX1_lay_13 : decode cX1_lay 13 = .ok (.iload_n 1, 1) := dk_27 (dk_at dksX1_lay_0 13 rfl rfl)
theorem dX1_lay_14 : decode cX1_lay 14 = .ok (.iaload, 1) := dk_46 (dk_at dksX1_lay_0 14 rfl rfl)
theorem dX1_lay_15 : decode cX1_lay 15 = .ok (.ifCond .ge 9, 3) := dk_156 0 9 (dk_at dksX1_lay_0 15 rfl rfl)
theorem dX1_lay_18 : decode cX1_lay 18 = .ok (.aload_n 0, 1) := dk_42 (dk_at dksX1_lay_0 18 rfl rfl)
theorem dX1_lay_19 : decode cX1_lay 19 = .ok (.iconst 1, 1) := dk_4 (dk_at dksX1_lay_0 19 rfl rfl)
theorem dX1_lay_20 : decode cX1_lay 20 = .ok (.invokevirtual 76, 3) := dk_182 0 76 (dk_at dksX1_lay_0 20 rfl rfl)
theorem dX1_lay_23 : decode cX1_lay 23 = .ok (.ireturn, 1) := dk_172 (dk_at dksX1_lay_0 23 rfl rfl)
theorem dX1_lay_24 : decode cX1_lay 24 = .ok (.iload_n 2, 1) := dk_28 (dk_at dksX1_lay_1 0 rfl rfl)
theorem dX1_lay_25 : decode cX1_lay 25 = .ok (.i2l, 1) := dk_133 (dk_at dksX1_lay_1 1 rfl rfl)
theorem dX1_lay_26 : decode cX1_lay 26 = .ok (.lconst 0, 1) := dk_9 (dk_at dksX1_lay_1 2 rfl rfl)
theorem dX1_lay_27 : decode cX1_lay 27 = .ok (.aload_n 0, 1) := dk_42 (dk_at dksX1_lay_1 3 rfl rfl)
theorem dX1_lay_28 : decode cX1_lay 28 = .ok (.getfield 7, 3) := dk_180 0 7 (dk_at dksX1_lay_1 4 rfl rfl)
theorem dX1_lay_31 : decode cX1_lay 31 = .ok (.iload_n 1, 1) := dk_27 (dk_at dksX1_lay_1 7 rfl rfl)
theorem dX1_lay_32 : decode cX1_lay 32 = .ok (.iaload, 1) := dk_46 (dk_at dksX1_lay_1 8 rfl rfl)
theorem dX1_lay_33 : decode cX1_lay 33 = .ok (.iconst 1, 1) := dk_4 (dk_at dksX1_lay_1 9 rfl rfl)
theorem dX1_lay_34 : decode cX1_lay 34 = .ok (.isub, 1) := dk_100 (dk_at dksX1_lay_1 10 rfl rfl)
theorem dX1_lay_35 : decode cX1_lay 35 = .ok (.i2l, 1) := dk_133 (dk_at dksX1_lay_1 11 rfl rfl)
theorem dX1_lay_36 : decode cX1_lay 36 = .ok (.invokestatic 66, 3) := dk_184 0 66 (dk_at dksX1_lay_1 12 rfl rfl)
theorem dX1_lay_39 : decode cX1_lay 39 = .ok (.ifCond .ne 9, 3) := dk_154 0 9 (dk_at dksX1_lay_1 15 rfl rfl)
theorem dX1_lay_42 : decode cX1_lay 42 = .ok (.aload_n 0, 1) := dk_42 (dk_at dksX1_lay_1 18 rfl rfl)
theorem dX1_lay_43 : decode cX1_lay 43 = .ok (.iconst 2, 1) := dk_5 (dk_at dksX1_lay_1 19 rfl rfl)
theorem dX1_lay_44 : decode cX1_lay 44 = .ok (.invokevirtual 76, 3) := dk_182 0 76 (dk_at dksX1_lay_1 20 rfl rfl)
theorem dX1_lay_47 : decode cX1_lay 47 = .ok (.ireturn, 1) := dk_172 (dk_at dksX1_lay_1 23 rfl rfl)
theorem dX1_lay_48 : decode cX1_lay 48 = .ok (.aload_n 0, 1) := dk_42 (dk_at dksX1_lay_2 0 rfl rfl)
theorem dX1_lay_49 : decode cX1_lay 49 = .ok (.getfield 13, 3) := dk_180 0 13 (dk_at dksX1_lay_2 1 rfl rfl)
theorem dX1_lay_52 : decode cX1_lay 52 = .ok (.bipush 40, 2) := dk_16 40 (dk_at dksX1_lay_2 4 rfl rfl)
theorem dX1_lay_54 : decode cX1_lay 54 = .ok (.iload_n 1, 1) := dk_27 (dk_at dksX1_lay_2 6 rfl rfl)
theorem dX1_lay_55 : decode cX1_lay 55 = .ok (.imul, 1) := dk_104 (dk_at dksX1_lay_2 7 rfl rfl)
theorem dX1_lay_56 : decode cX1_lay 56 = .ok (.iload_n 2, 1) := dk_28 (dk_at dksX1_lay_2 8 rfl rfl)
theorem dX1_lay_57 : decode cX1_lay 57 = .ok (.iadd, 1) := dk_96 (dk_at dksX1_lay_2 9 rfl rfl)
theorem dX1_lay_58 : decode cX1_lay 58 = .ok (.iaload, 1) := dk_46 (dk_at dksX1_lay_2 10 rfl rfl)
theorem dX1_lay_59 : decode cX1_lay 59 = .ok (.istore 4, 2) := dk_54 4 (dk_at dksX1_lay_2 11 rfl rfl)
theorem dX1_lay_61 : decode cX1_lay 61 = .ok (.aload_n 0, 1) := dk_42 (dk_at dksX1_lay_2 13 rfl rfl)
theorem dX1_lay_62 : decode cX1_lay 62 = .ok (.getfield 13, 3) := dk_180 0 13 (dk_at dksX1_lay_2 14 rfl rfl)
theorem dX1_lay_65 : decode cX1_lay 65 = .ok (.bipush 40, 2) := dk_16 40 (dk_at dksX1_lay_2 17 rfl rfl)
theorem dX1_lay_67 : decode cX1_lay 67 = .ok (.iload_n 1, 1) := dk_27 (dk_at dksX1_lay_2 19 rfl rfl)
theorem dX1_lay_68 : decode cX1_lay 68 = .ok (.imul, 1) := dk_104 (dk_at dksX1_lay_2 20 rfl rfl)
theorem dX1_lay_69 : decode cX1_lay 69 = .ok (.iload_n 2, 1) := dk_28 (dk_at dksX1_lay_2 21 rfl rfl)
theorem dX1_lay_70 : decode cX1_lay 70 = .ok (.iadd, 1) := dk_96 (dk_at dksX1_lay_2 22 rfl rfl)
theorem dX1_lay_71 : decode cX1_lay 71 = .ok (.iload_n 3, 1) := dk_29 (dk_at dksX1_lay_2 23 rfl rfl)
theorem dX1_lay_72 : decode cX1_lay 72 = .ok (.iastore, 1) := dk_79 (dk_at dksX1_lay_3 0 rfl rfl)
theorem dX1_lay_73 : decode cX1_lay 73 = .ok (.aload_n 0, 1) := dk_42 (dk_at dksX1_lay_3 1 rfl rfl)
theorem dX1_lay_74 : decode cX1_lay 74 = .ok (.iload 4, 2) := dk_21 4 (dk_at dksX1_lay_3 2 rfl rfl)
theorem dX1_lay_76 : decode cX1_lay 76 = .ok (.invokevirtual 80, 3) := dk_182 0 80 (dk_at dksX1_lay_3 4 rfl rfl)
theorem dX1_lay_79 : decode cX1_lay 79 = .ok (.ireturn, 1) := dk_172 (dk_at dksX1_lay_3 7 rfl rfl)
abbrev cX1_tell : ByteArray := prog_10_method_5_code
def yX1_tell : MethodName := ⟨RX1, "tell", "(I)I"⟩
def dkwX1_tell_0 : List UInt8 := [42, 27, 181, 0, 61, 4, 172]
abbrev dktX1_tell_0 : List UInt8 := dkwX1_tell_0 ++ []
theorem dksX1_tell_0 : cX1_tell.data.toList.drop 0 = dktX1_tell_0 := by decide +kernel
theorem dX1_tell_0 : decode cX1_tell 0 = .ok (.aload_n 0, 1) := dk_42 (dk_at dksX1_tell_0 0 rfl rfl)
theorem dX1_tell_1 : decode cX1_tell 1 = .ok (.iload_n 1, 1) := dk_27 (dk_at dksX1_tell_0 1 rfl rfl)
theorem dX1_tell_2 : decode cX1_tell 2 = .ok (.putfield 61, 3) := dk_181 0 61 (dk_at dksX1_tell_0 2 rfl rfl)
theorem dX1_tell_5 : decode cX1_tell 5 = .ok (.iconst 1, 1) := dk_4 (dk_at dksX1_tell_0 5 rfl rfl)
theorem dX1_tell_6 : decode cX1_tell 6 = .ok (.ireturn, 1) := dk_172 (dk_at dksX1_tell_0 6 rfl rfl)
abbrev cX1_at : ByteArray := prog_10_method_10_code
def yX1_at : MethodName := ⟨RX1, "at", "(II)I"⟩
def dkwX1_at_2 : List UInt8 := [16, 40, 27, 104, 28, 96, 46, 182, 0, 80, 167, 0, 8, 42, 5, 182, 0, 76, 172]
abbrev dktX1_at_2 : List UInt8 := dkwX1_at_2 ++ []
def dkwX1_at_1 : List UInt8 := [28, 133, 9, 42, 180, 0, 7, 27, 46, 4, 100, 133, 184, 0, 66, 153, 0, 21, 42, 42, 180, 0, 13]
abbrev dktX1_at_1 : List UInt8 := dkwX1_at_1 ++ dktX1_at_2
def dkwX1_at_0 : List UInt8 := [27, 184, 0, 72, 154, 0, 5, 2, 172, 42, 180, 0, 7, 27, 46, 156, 0, 9, 42, 4, 182, 0, 76, 172]
abbrev dktX1_at_0 : List UInt8 := dkwX1_at_0 ++ dktX1_at_1
theorem dksX1_at_0 : cX1_at.data.toList.drop 0 = dktX1_at_0 := by decide +kernel
theorem dksX1_at_1 : cX1_at.data.toList.drop 24 = dktX1_at_1 := dk_seg dksX1_at_0 24 rfl rfl
theorem dksX1_at_2 : cX1_at.data.toList.drop 47 = dktX1_at_2 := dk_seg dksX1_at_1 23 rfl rfl
theorem dX1_at_0 : decode cX1_at 0 = .ok (.iload_n 1, 1) := dk_27 (dk_at dksX1_at_0 0 rfl rfl)
theorem dX1_at_1 : decode cX1_at 1 = .ok (.invokestatic 72, 3) := dk_184 0 72 (dk_at dksX1_at_0 1 rfl rfl)
theorem dX1_at_4 : decode cX1_at 4 = .ok (.ifCond .ne 5, 3) := dk_154 0 5 (dk_at dksX1_at_0 4 rfl rfl)
theorem dX1_at_7 : decode cX1_at 7 = .ok (.iconst (-1), 1) := dk_2 (dk_at dksX1_at_0 7 rfl rfl)
theorem dX1_at_8 : decode cX1_at 8 = .ok (.ireturn, 1) := dk_172 (dk_at dksX1_at_0 8 rfl rfl)
theorem dX1_at_9 : decode cX1_at 9 = .ok (.aload_n 0, 1) := dk_42 (dk_at dksX1_at_0 9 rfl rfl)
theorem dX1_at_10 : decode cX1_at 10 = .ok (.getfield 7, 3) := dk_180 0 7 (dk_at dksX1_at_0 10 rfl rfl)
theorem dX1_at_13 : decode cX1_at 13 = .ok (.iload_n 1, 1) := dk_27 (dk_at dksX1_at_0 13 rfl rfl)
theorem dX1_at_14 : decode cX1_at 14 = .ok (.iaload, 1) := dk_46 (dk_at dksX1_at_0 14 rfl rfl)
theorem dX1_at_15 : decode cX1_at 15 = .ok (.ifCond .ge 9, 3) := dk_156 0 9 (dk_at dksX1_at_0 15 rfl rfl)
theorem dX1_at_18 : decode cX1_at 18 = .ok (.aload_n 0, 1) := dk_42 (dk_at dksX1_at_0 18 rfl rfl)
theorem dX1_at_19 : decode cX1_at 19 = .ok (.iconst 1, 1) := dk_4 (dk_at dksX1_at_0 19 rfl rfl)
theorem dX1_at_20 : decode cX1_at 20 = .ok (.invokevirtual 76, 3) := dk_182 0 76 (dk_at dksX1_at_0 20 rfl rfl)
theorem dX1_at_23 : decode cX1_at 23 = .ok (.ireturn, 1) := dk_172 (dk_at dksX1_at_0 23 rfl rfl)
theorem dX1_at_24 : decode cX1_at 24 = .ok (.iload_n 2, 1) := dk_28 (dk_at dksX1_at_1 0 rfl rfl)
theorem dX1_at_25 : decode cX1_at 25 = .ok (.i2l, 1) := dk_133 (dk_at dksX1_at_1 1 rfl rfl)
theorem dX1_at_26 : decode cX1_at 26 = .ok (.lconst 0, 1) := dk_9 (dk_at dksX1_at_1 2 rfl rfl)
theorem dX1_at_27 : decode cX1_at 27 = .ok (.aload_n 0, 1) := dk_42 (dk_at dksX1_at_1 3 rfl rfl)
theorem dX1_at_28 : decode cX1_at 28 = .ok (.getfield 7, 3) := dk_180 0 7 (dk_at dksX1_at_1 4 rfl rfl)
theorem dX1_at_31 : decode cX1_at 31 = .ok (.iload_n 1, 1) := dk_27 (dk_at dksX1_at_1 7 rfl rfl)
theorem dX1_at_32 : decode cX1_at 32 = .ok (.iaload, 1) := dk_46 (dk_at dksX1_at_1 8 rfl rfl)
theorem dX1_at_33 : decode cX1_at 33 = .ok (.iconst 1, 1) := dk_4 (dk_at dksX1_at_1 9 rfl rfl)
theorem dX1_at_34 : decode cX1_at 34 = .ok (.isub, 1) := dk_100 (dk_at dksX1_at_1 10 rfl rfl)
theorem dX1_at_35 : decode cX1_at 35 = .ok (.i2l, 1) := dk_133 (dk_at dksX1_at_1 11 rfl rfl)
theorem dX1_at_36 : decode cX1_at 36 = .ok (.invokestatic 66, 3) := dk_184 0 66 (dk_at dksX1_at_1 12 rfl rfl)
theorem dX1_at_39 : decode cX1_at 39 = .ok (.ifCond .eq 21, 3) := dk_153 0 21 (dk_at dksX1_at_1 15 rfl rfl)
theorem dX1_at_42 : decode cX1_at 42 = .ok (.aload_n 0, 1) := dk_42 (dk_at dksX1_at_1 18 rfl rfl)
theorem dX1_at_43 : decode cX1_at 43 = .ok (.aload_n 0, 1) := dk_42 (dk_at dksX1_at_1 19 rfl rfl)
theorem dX1_at_44 : decode cX1_at 44 = .ok (.getfield 13, 3) := dk_180 0 13 (dk_at dksX1_at_1 20 rfl rfl)
theorem dX1_at_47 : decode cX1_at 47 = .ok (.bipush 40, 2) := dk_16 40 (dk_at dksX1_at_2 0 rfl rfl)
theorem dX1_at_49 : decode cX1_at 49 = .ok (.iload_n 1, 1) := dk_27 (dk_at dksX1_at_2 2 rfl rfl)
theorem dX1_at_50 : decode cX1_at 50 = .ok (.imul, 1) := dk_104 (dk_at dksX1_at_2 3 rfl rfl)
theorem dX1_at_51 : decode cX1_at 51 = .ok (.iload_n 2, 1) := dk_28 (dk_at dksX1_at_2 4 rfl rfl)
theorem dX1_at_52 : decode cX1_at 52 = .ok (.iadd, 1) := dk_96 (dk_at dksX1_at_2 5 rfl rfl)
theorem dX1_at_53 : decode cX1_at 53 = .ok (.iaload, 1) := dk_46 (dk_at dksX1_at_2 6 rfl rfl)
theorem dX1_at_54 : decode cX1_at 54 = .ok (.invokevirtual 80, 3) := dk_182 0 80 (dk_at dksX1_at_2 7 rfl rfl)
theorem dX1_at_57 : decode cX1_at 57 = .ok (.goto 8, 3) := dk_167 0 8 (dk_at dksX1_at_2 10 rfl rfl)
theorem dX1_at_60 : decode cX1_at 60 = .ok (.aload_n 0, 1) := dk_42 (dk_at dksX1_at_2 13 rfl rfl)
theorem dX1_at_61 : decode cX1_at 61 = .ok (.iconst 2, 1) := dk_5 (dk_at dksX1_at_2 14 rfl rfl)
theorem dX1_at_62 : decode cX1_at 62 = .ok (.invokevirtual 76, 3) := dk_182 0 76 (dk_at dksX1_at_2 15 rfl rfl)
theorem dX1_at_65 : decode cX1_at 65 = .ok (.ireturn, 1) := dk_172 (dk_at dksX1_at_2 18 rfl rfl)
abbrev cX1_tear : ByteArray := prog_10_method_11_code
def yX1_tear : MethodName := ⟨RX1, "tear", "(I)I"⟩
def dkwX1_tear_1 : List UInt8 := [42, 180, 0, 7, 27, 2, 79, 4, 172]
abbrev dktX1_tear_1 : List UInt8 := dkwX1_tear_1 ++ []
def dkwX1_tear_0 : List UInt8 := [27, 184, 0, 72, 154, 0, 5, 2, 172, 42, 180, 0, 7, 27, 46, 156, 0, 9, 42, 4, 182, 0, 76, 172]
abbrev dktX1_tear_0 : List UInt8 := dkwX1_tear_0 ++ dktX1_tear_1
theorem dksX1_tear_0 : cX1_tear.data.toList.drop 0 = dktX1_tear_0 := by decide +kernel
theorem dksX1_tear_1 : cX1_tear.data.toList.drop 24 = dktX1_tear_1 := dk_seg dksX1_tear_0 24 rfl rfl
theorem dX1_tear_0 : decode cX1_tear 0 = .ok (.iload_n 1, 1) := dk_27 (dk_at dksX1_tear_0 0 rfl rfl)
theorem dX1_tear_1 : decode cX1_tear 1 = .ok (.invokestatic 72, 3) := dk_184 0 72 (dk_at dksX1_tear_0 1 rfl rfl)
theorem dX1_tear_4 : decode cX1_tear 4 = .ok (.ifCond .ne 5, 3) := dk_154 0 5 (dk_at dksX1_tear_0 4 rfl rfl)
theorem dX1_tear_7 : decode cX1_tear 7 = .ok (.iconst (-1), 1) := dk_2 (dk_at dksX1_tear_0 7 rfl rfl)
theorem dX1_tear_8 : decode cX1_tear 8 = .ok (.ireturn, 1) := dk_172 (dk_at dksX1_tear_0 8 rfl rfl)
theorem dX1_tear_9 : decode cX1_tear 9 = .ok (.aload_n 0, 1) := dk_42 (dk_at dksX1_tear_0 9 rfl rfl)
theorem dX1_tear_10 : decode cX1_tear 10 = .ok (.getfield 7, 3) := dk_180 0 7 (dk_at dksX1_tear_0 10 rfl rfl)
theorem dX1_tear_13 : decode cX1_tear 13 = .ok (.iload_n 1, 1) := dk_27 (dk_at dksX1_tear_0 13 rfl rfl)
theorem dX1_tear_14 : decode cX1_tear 14 = .ok (.iaload, 1) := dk_46 (dk_at dksX1_tear_0 14 rfl rfl)
theorem dX1_tear_15 : decode cX1_tear 15 = .ok (.ifCond .ge 9, 3) := dk_156 0 9 (dk_at dksX1_tear_0 15 rfl rfl)
theorem dX1_tear_18 : decode cX1_tear 18 = .ok (.aload_n 0, 1) := dk_42 (dk_at dksX1_tear_0 18 rfl rfl)
theorem dX1_tear_19 : decode cX1_tear 19 = .ok (.iconst 1, 1) := dk_4 (dk_at dksX1_tear_0 19 rfl rfl)
theorem dX1_tear_20 : decode cX1_tear 20 = .ok (.invokevirtual 76, 3) := dk_182 0 76 (dk_at dksX1_tear_0 20 rfl rfl)
theorem dX1_tear_23 : decode cX1_tear 23 = .ok (.ireturn, 1) := dk_172 (dk_at dksX1_tear_0 23 rfl rfl)
theorem dX1_tear_24 : decode cX1_tear 24 = .ok (.aload_n 0, 1) := dk_42 (dk_at dksX1_tear_1 0 rfl rfl)
theorem dX1_tear_25 : decode cX1_tear 25 = .ok (.getfield 7, 3) := dk_180 0 7 (dk_at dksX1_tear_1 1 rfl rfl)
theorem dX1_tear_28 : decode cX1_tear 28 = .ok (.iload_n 1, 1) := dk_27 (dk_at dksX1_tear_1 4 rfl rfl)
theorem dX1_tear_29 : decode cX1_tear 29 = .ok (.iconst (-1), 1) := dk_2 (dk_at dksX1_tear_1 5 rfl rfl)
theorem dX1_tear_30 : decode cX1_tear 30 = .ok (.iastore, 1) := dk_79 (dk_at dksX1_tear_1 6 rfl rfl)
theorem dX1_tear_31 : decode cX1_tear 31 = .ok (.iconst 1, 1) := dk_4 (dk_at dksX1_tear_1 7 rfl rfl)
theorem dX1_tear_32 : decode cX1_tear 32 = .ok (.ireturn, 1) := dk_172 (dk_at dksX1_tear_1 8 rfl rfl)
abbrev cX1_copy : ByteArray := prog_10_method_12_code
def yX1_copy : MethodName := ⟨RX1, "copy", "(IIIII)I"⟩
def dkwX1_copy_7 : List UInt8 := [4, 172]
abbrev dktX1_copy_7 : List UInt8 := dkwX1_copy_7 ++ []
def dkwX1_copy_6 : List UInt8 := [21, 7, 96, 42, 180, 0, 13, 16, 40, 27, 104, 28, 96, 21, 7, 96, 46, 79, 132, 6, 1, 167, 255, 197]
abbrev dktX1_copy_6 : List UInt8 := dkwX1_copy_6 ++ dktX1_copy_7
def dkwX1_copy_5 : List UInt8 := [4, 100, 21, 6, 100, 167, 0, 5, 21, 6, 54, 7, 42, 180, 0, 13, 16, 40, 29, 104, 21, 4, 96]
abbrev dktX1_copy_5 : List UInt8 := dkwX1_copy_5 ++ dktX1_copy_6
def dkwX1_copy_4 : List UInt8 := [42, 5, 182, 0, 76, 172, 3, 54, 6, 21, 6, 21, 5, 162, 0, 58, 21, 4, 28, 164, 0, 13, 21, 5]
abbrev dktX1_copy_4 : List UInt8 := dkwX1_copy_4 ++ dktX1_copy_5
def dkwX1_copy_3 : List UInt8 := [46, 133, 148, 157, 0, 21, 21, 4, 133, 21, 5, 133, 97, 42, 180, 0, 7, 29, 46, 133, 148, 158, 0, 9]
abbrev dktX1_copy_3 : List UInt8 := dkwX1_copy_3 ++ dktX1_copy_4
def dkwX1_copy_2 : List UInt8 := [182, 0, 76, 172, 28, 155, 0, 43, 21, 4, 155, 0, 38, 28, 133, 21, 5, 133, 97, 42, 180, 0, 7, 27]
abbrev dktX1_copy_2 : List UInt8 := dkwX1_copy_2 ++ dktX1_copy_3
def dkwX1_copy_1 : List UInt8 := [182, 0, 76, 172, 42, 180, 0, 7, 27, 46, 155, 0, 12, 42, 180, 0, 7, 29, 46, 156, 0, 9, 42, 4]
abbrev dktX1_copy_1 : List UInt8 := dkwX1_copy_1 ++ dktX1_copy_2
def dkwX1_copy_0 : List UInt8 := [27, 184, 0, 72, 153, 0, 10, 29, 184, 0, 72, 154, 0, 5, 2, 172, 21, 5, 156, 0, 9, 42, 8]
abbrev dktX1_copy_0 : List UInt8 := dkwX1_copy_0 ++ dktX1_copy_1
theorem dksX1_copy_0 : cX1_copy.data.toList.drop 0 = dktX1_copy_0 := by decide +kernel
theorem dksX1_copy_1 : cX1_copy.data.toList.drop 23 = dktX1_copy_1 := dk_seg dksX1_copy_0 23 rfl rfl
theorem dksX1_copy_2 : cX1_copy.data.toList.drop 47 = dktX1_copy_2 := dk_seg dksX1_copy_1 24 rfl rfl
theorem dksX1_copy_3 : cX1_copy.data.toList.drop 71 = dktX1_copy_3 := dk_seg dksX1_copy_2 24 rfl rfl
theorem dksX1_copy_4 : cX1_copy.data.toList.drop 95 = dktX1_copy_4 := dk_seg dksX1_copy_3 24 rfl rfl
theorem dksX1_copy_5 : cX1_copy.data.toList.drop 119 = dktX1_copy_5 := dk_seg dksX1_copy_4 24 rfl rfl
theorem dksX1_copy_6 : cX1_copy.data.toList.drop 142 = dktX1_copy_6 := dk_seg dksX1_copy_5 23 rfl rfl
theorem dksX1_copy_7 : cX1_copy.data.toList.drop 166 = dktX1_copy_7 := dk_seg dksX1_copy_6 24 rfl rfl
theorem dX1_copy_0 : decode cX1_copy 0 = .ok (.iload_n 1, 1) := dk_27 (dk_at dksX1_copy_0 0 rfl rfl)
theorem dX1_copy_1 : decode cX1_copy 1 = .ok (.invokestatic 72, 3) := dk_184 0 72 (dk_at dksX1_copy_0 1 rfl rfl)
theorem dX1_copy_4 : decode cX1_copy 4 = .ok (.ifCond .eq 10, 3) := dk_153 0 10 (dk_at dksX1_copy_0 4 rfl rfl)
theorem dX1_copy_7 : decode cX1_copy 7 = .ok (.iload_n 3, 1) := dk_29 (dk_at dksX1_copy_0 7 rfl rfl)
theorem dX1_copy_8 : decode cX1_copy 8 = .ok (.invokestatic 72, 3) := dk_184 0 72 (dk_at dksX1_copy_0 8 rfl rfl)
theorem dX1_copy_11 : decode cX1_copy 11 = .ok (.ifCond .ne 5, 3) := dk_154 0 5 (dk_at dksX1_copy_0 11 rfl rfl)
theorem dX1_copy_14 : decode cX1_copy 14 = .ok (.iconst (-1), 1) := dk_2 (dk_at dksX1_copy_0 14 rfl rfl)
theorem dX1_copy_15 : decode cX1_copy 15 = .ok (.ireturn, 1) := dk_172 (dk_at dksX1_copy_0 15 rfl rfl)
theorem dX1_copy_16 : decode cX1_copy 16 = .ok (.iload 5, 2) := dk_21 5 (dk_at dksX1_copy_0 16 rfl rfl)
theorem dX1_copy_18 : decode cX1_copy 18 = .ok (.ifCond .ge 9, 3) := dk_156 0 9 (dk_at dksX1_copy_0 18 rfl rfl)
theorem dX1_copy_21 : decode cX1_copy 21 = .ok (.aload_n 0, 1) := dk_42 (dk_at dksX1_copy_0 21 rfl rfl)
theorem dX1_copy_22 : decode cX1_copy 22 = .ok (.iconst 5, 1) := dk_8 (dk_at dksX1_copy_0 22 rfl rfl)
theorem dX1_copy_23 : decode cX1_copy 23 = .ok (.invokevirtual 76, 3) := dk_182 0 76 (dk_at dksX1_copy_1 0 rfl rfl)
theorem dX1_copy_26 : decode cX1_copy 26 = .ok (.ireturn, 1) := dk_172 (dk_at dksX1_copy_1 3 rfl rfl)
theorem dX1_copy_27 : decode cX1_copy 27 = .ok (.aload_n 0, 1) := dk_42 (dk_at dksX1_copy_1 4 rfl rfl)
theorem dX1_copy_28 : decode cX1_copy 28 = .ok (.getfield 7, 3) := dk_180 0 7 (dk_at dksX1_copy_1 5 rfl rfl)
theorem dX1_copy_31 : decode cX1_copy 31 = .ok (.iload_n 1, 1) := dk_27 (dk_at dksX1_copy_1 8 rfl rfl)
theorem dX1_copy_32 : decode cX1_copy 32 = .ok (.iaload, 1) := dk_46 (dk_at dksX1_copy_1 9 rfl rfl)
theorem dX1_copy_33 : decode cX1_copy 33 = .ok (.ifCond .lt 12, 3) := dk_155 0 12 (dk_at dksX1_copy_1 10 rfl rfl)
theorem dX1_copy_36 : decode cX1_copy 36 = .ok (.aload_n 0, 1) := dk_42 (dk_at dksX1_copy_1 13 rfl rfl)
theorem dX1_copy_37 : decode cX1_copy 37 = .ok (.getfield 7, 3) := dk_180 0 7 (dk_at dksX1_copy_1 14 rfl rfl)
theorem dX1_copy_40 : decode cX1_copy 40 = .ok (.iload_n 3, 1) := dk_29 (dk_at dksX1_copy_1 17 rfl rfl)
theorem dX1_copy_41 : decode cX1_copy 41 = .ok (.iaload, 1) := dk_46 (dk_at dksX1_copy_1 18 rfl rfl)
theorem dX1_copy_42 : decode cX1_copy 42 = .ok (.ifCond .ge 9, 3) := dk_156 0 9 (dk_at dksX1_copy_1 19 rfl rfl)
theorem dX1_copy_45 : decode cX1_copy 45 = .ok (.aload_n 0, 1) := dk_42 (dk_at dksX1_copy_1 22 rfl rfl)
theorem dX1_copy_46 : decode cX1_copy 46 = .ok (.iconst 1, 1) := dk_4 (dk_at dksX1_copy_1 23 rfl rfl)
theorem dX1_copy_47 : decode cX1_copy 47 = .ok (.invokevirtual 76, 3) := dk_182 0 76 (dk_at dksX1_copy_2 0 rfl rfl)
theorem dX1_copy_50 : decode cX1_copy 50 = .ok (.ireturn, 1) := dk_172 (dk_at dksX1_copy_2 3 rfl rfl)
theorem dX1_copy_51 : decode cX1_copy 51 = .ok (.iload_n 2, 1) := dk_28 (dk_at dksX1_copy_2 4 rfl rfl)
theorem dX1_copy_52 : decode cX1_copy 52 = .ok (.ifCond .lt 43, 3) := dk_155 0 43 (dk_at dksX1_copy_2 5 rfl rfl)
theorem dX1_copy_55 : decode cX1_copy 55 = .ok (.iload 4, 2) := dk_21 4 (dk_at dksX1_copy_2 8 rfl rfl)
theorem dX1_copy_57 : decode cX1_copy 57 = .ok (.ifCond .lt 38, 3) := dk_155 0 38 (dk_at dksX1_copy_2 10 rfl rfl)
theorem dX1_copy_60 : decode cX1_copy 60 = .ok (.iload_n 2, 1) := dk_28 (dk_at dksX1_copy_2 13 rfl rfl)
theorem dX1_copy_61 : decode cX1_copy 61 = .ok (.i2l, 1) := dk_133 (dk_at dksX1_copy_2 14 rfl rfl)
theorem dX1_copy_62 : decode cX1_copy 62 = .ok (.iload 5, 2) := dk_21 5 (dk_at dksX1_copy_2 15 rfl rfl)
theorem dX1_copy_64 : decode cX1_copy 64 = .ok (.i2l, 1) := dk_133 (dk_at dksX1_copy_2 17 rfl rfl)
theorem dX1_copy_65 : decode cX1_copy 65 = .ok (.ladd, 1) := dk_97 (dk_at dksX1_copy_2 18 rfl rfl)
theorem dX1_copy_66 : decode cX1_copy 66 = .ok (.aload_n 0, 1) := dk_42 (dk_at dksX1_copy_2 19 rfl rfl)
theorem dX1_copy_67 : decode cX1_copy 67 = .ok (.getfield 7, 3) := dk_180 0 7 (dk_at dksX1_copy_2 20 rfl rfl)
theorem dX1_copy_70 : decode cX1_copy 70 = .ok (.iload_n 1, 1) := dk_27 (dk_at dksX1_copy_2 23 rfl rfl)
theorem dX1_copy_71 : decode cX1_copy 71 = .ok (.iaload, 1) := dk_46 (dk_at dksX1_copy_3 0 rfl rfl)
theorem dX1_copy_72 : decode cX1_copy 72 = .ok (.i2l, 1) := dk_133 (dk_at dksX1_copy_3 1 rfl rfl)
theorem dX1_copy_73 : decode cX1_copy 73 = .ok (.lcmp, 1) := dk_148 (dk_at dksX1_copy_3 2 rfl rfl)
theorem dX1_copy_74 : decode cX1_copy 74 = .ok (.ifCond .gt 21, 3) := dk_157 0 21 (dk_at dksX1_copy_3 3 rfl rfl)
theorem dX1_copy_77 : decode cX1_copy 77 = .ok (.iload 4, 2) := dk_21 4 (dk_at dksX1_copy_3 6 rfl rfl)
theorem dX1_copy_79 : decode cX1_copy 79 = .ok (.i2l, 1) := dk_133 (dk_at dksX1_copy_3 8 rfl rfl)
theorem dX1_copy_80 : decode cX1_copy 80 = .ok (.iload 5, 2) := dk_21 5 (dk_at dksX1_copy_3 9 rfl rfl)
theorem dX1_copy_82 : decode cX1_copy 82 = .ok (.i2l, 1) := dk_133 (dk_at dksX1_copy_3 11 rfl rfl)
theorem dX1_copy_83 : decode cX1_copy 83 = .ok (.ladd, 1) := dk_97 (dk_at dksX1_copy_3 12 rfl rfl)
theorem dX1_copy_84 : decode cX1_copy 84 = .ok (.aload_n 0, 1) := dk_42 (dk_at dksX1_copy_3 13 rfl rfl)
theorem dX1_copy_85 : decode cX1_copy 85 = .ok (.getfield 7, 3) := dk_180 0 7 (dk_at dksX1_copy_3 14 rfl rfl)
theorem dX1_copy_88 : decode cX1_copy 88 = .ok (.iload_n 3, 1) := dk_29 (dk_at dksX1_copy_3 17 rfl rfl)
theorem dX1_copy_89 : decode cX1_copy 89 = .ok (.iaload, 1) := dk_46 (dk_at dksX1_copy_3 18 rfl rfl)
theorem dX1_copy_90 : decode cX1_copy 90 = .ok (.i2l, 1) := dk_133 (dk_at dksX1_copy_3 19 rfl rfl)
theorem dX1_copy_91 : decode cX1_copy 91 = .ok (.lcmp, 1) := dk_148 (dk_at dksX1_copy_3 20 rfl rfl)
theorem dX1_copy_92 : decode cX1_copy 92 = .ok (.ifCond .le 9, 3) := dk_158 0 9 (dk_at dksX1_copy_3 21 rfl rfl)
theorem dX1_copy_95 : decode cX1_copy 95 = .ok (.aload_n 0, 1) := dk_42 (dk_at dksX1_copy_4 0 rfl rfl)
theorem dX1_copy_96 : decode cX1_copy 96 = .ok (.iconst 2, 1) := dk_5 (dk_at dksX1_copy_4 1 rfl rfl)
theorem dX1_copy_97 : decode cX1_copy 97 = .ok (.invokevirtual 76, 3) := dk_182 0 76 (dk_at dksX1_copy_4 2 rfl rfl)
theorem dX1_copy_100 : decode cX1_copy 100 = .ok (.ireturn, 1) := dk_172 (dk_at dksX1_copy_4 5 rfl rfl)
theorem dX1_copy_101 : decode cX1_copy 101 = .ok (.iconst 0, 1) := dk_3 (dk_at dksX1_copy_4 6 rfl rfl)
theorem dX1_copy_102 : decode cX1_copy 102 = .ok (.istore 6, 2) := dk_54 6 (dk_at dksX1_copy_4 7 rfl rfl)
theorem dX1_copy_104 : decode cX1_copy 104 = .ok (.iload 6, 2) := dk_21 6 (dk_at dksX1_copy_4 9 rfl rfl)
theorem dX1_copy_106 : decode cX1_copy 106 = .ok (.iload 5, 2) := dk_21 5 (dk_at dksX1_copy_4 11 rfl rfl)
theorem dX1_copy_108 : decode cX1_copy 108 = .ok (.if_icmp .ge 58, 3) := dk_162 0 58 (dk_at dksX1_copy_4 13 rfl rfl)
theorem dX1_copy_111 : decode cX1_copy 111 = .ok (.iload 4, 2) := dk_21 4 (dk_at dksX1_copy_4 16 rfl rfl)
theorem dX1_copy_113 : decode cX1_copy 113 = .ok (.iload_n 2, 1) := dk_28 (dk_at dksX1_copy_4 18 rfl rfl)
theorem dX1_copy_114 : decode cX1_copy 114 = .ok (.if_icmp .le 13, 3) := dk_164 0 13 (dk_at dksX1_copy_4 19 rfl rfl)
theorem dX1_copy_117 : decode cX1_copy 117 = .ok (.iload 5, 2) := dk_21 5 (dk_at dksX1_copy_4 22 rfl rfl)
theorem dX1_copy_119 : decode cX1_copy 119 = .ok (.iconst 1, 1) := dk_4 (dk_at dksX1_copy_5 0 rfl rfl)
theorem dX1_copy_120 : decode cX1_copy 120 = .ok (.isub, 1) := dk_100 (dk_at dksX1_copy_5 1 rfl rfl)
theorem dX1_copy_121 : decode cX1_copy 121 = .ok (.iload 6, 2) := dk_21 6 (dk_at dksX1_copy_5 2 rfl rfl)
theorem dX1_copy_123 : decode cX1_copy 123 = .ok (.isub, 1) := dk_100 (dk_at dksX1_copy_5 4 rfl rfl)
theorem dX1_copy_124 : decode cX1_copy 124 = .ok (.goto 5, 3) := dk_167 0 5 (dk_at dksX1_copy_5 5 rfl rfl)
theorem dX1_copy_127 : decode cX1_copy 127 = .ok (.iload 6, 2) := dk_21 6 (dk_at dksX1_copy_5 8 rfl rfl)
theorem dX1_copy_129 : decode cX1_copy 129 = .ok (.istore 7, 2) := dk_54 7 (dk_at dksX1_copy_5 10 rfl rfl)
theorem dX1_copy_131 : decode cX1_copy 131 = .ok (.aload_n 0, 1) := dk_42 (dk_at dksX1_copy_5 12 rfl rfl)
theorem dX1_copy_132 : decode cX1_copy 132 = .ok (.getfield 13, 3) := dk_180 0 13 (dk_at dksX1_copy_5 13 rfl rfl)
theorem dX1_copy_135 : decode cX1_copy 135 = .ok (.bipush 40, 2) := dk_16 40 (dk_at dksX1_copy_5 16 rfl rfl)
theorem dX1_copy_137 : decode cX1_copy 137 = .ok (.iload_n 3, 1) := dk_29 (dk_at dksX1_copy_5 18 rfl rfl)
theorem dX1_copy_138 : decode cX1_copy 138 = .ok (.imul, 1) := dk_104 (dk_at dksX1_copy_5 19 rfl rfl)
theorem dX1_copy_139 : decode cX1_copy 139 = .ok (.iload 4, 2) := dk_21 4 (dk_at dksX1_copy_5 20 rfl rfl)
theorem dX1_copy_141 : decode cX1_copy 141 = .ok (.iadd, 1) := dk_96 (dk_at dksX1_copy_5 22 rfl rfl)
theorem dX1_copy_142 : decode cX1_copy 142 = .ok (.iload 7, 2) := dk_21 7 (dk_at dksX1_copy_6 0 rfl rfl)
theorem dX1_copy_144 : decode cX1_copy 144 = .ok (.iadd, 1) := dk_96 (dk_at dksX1_copy_6 2 rfl rfl)
theorem dX1_copy_145 : decode cX1_copy 145 = .ok (.aload_n 0, 1) := dk_42 (dk_at dksX1_copy_6 3 rfl rfl)
theorem dX1_copy_146 : decode cX1_copy 146 = .ok (.getfield 13, 3) := dk_180 0 13 (dk_at dksX1_copy_6 4 rfl rfl)
theorem dX1_copy_149 : decode cX1_copy 149 = .ok (.bipush 40, 2) := dk_16 40 (dk_at dksX1_copy_6 7 rfl rfl)
theorem dX1_copy_151 : decode cX1_copy 151 = .ok (.iload_n 1, 1) := dk_27 (dk_at dksX1_copy_6 9 rfl rfl)
theorem dX1_copy_152 : decode cX1_copy 152 = .ok (.imul, 1) := dk_104 (dk_at dksX1_copy_6 10 rfl rfl)
theorem dX1_copy_153 : decode cX1_copy 153 = .ok (.iload_n 2, 1) := dk_28 (dk_at dksX1_copy_6 11 rfl rfl)
theorem dX1_copy_154 : decode cX1_copy 154 = .ok (.iadd, 1) := dk_96 (dk_at dksX1_copy_6 12 rfl rfl)
theorem dX1_copy_155 : decode cX1_copy 155 = .ok (.iload 7, 2) := dk_21 7 (dk_at dksX1_copy_6 13 rfl rfl)
theorem dX1_copy_157 : decode cX1_copy 157 = .ok (.iadd, 1) := dk_96 (dk_at dksX1_copy_6 15 rfl rfl)
theorem dX1_copy_158 : decode cX1_copy 158 = .ok (.iaload, 1) := dk_46 (dk_at dksX1_copy_6 16 rfl rfl)
theorem dX1_copy_159 : decode cX1_copy 159 = .ok (.iastore, 1) := dk_79 (dk_at dksX1_copy_6 17 rfl rfl)
theorem dX1_copy_160 : decode cX1_copy 160 = .ok (.iinc 6 1, 3) := dk_132 6 1 (dk_at dksX1_copy_6 18 rfl rfl)
theorem dX1_copy_163 : decode cX1_copy 163 = .ok (.goto (-59), 3) := dk_167 255 197 (dk_at dksX1_copy_6 21 rfl rfl)
theorem dX1_copy_166 : decode cX1_copy 166 = .ok (.iconst 1, 1) := dk_4 (dk_at dksX1_copy_7 0 rfl rfl)
theorem dX1_copy_167 : decode cX1_copy 167 = .ok (.ireturn, 1) := dk_172 (dk_at dksX1_copy_7 1 rfl rfl)
abbrev cX1_mean : ByteArray := prog_10_method_13_code
def yX1_mean : MethodName := ⟨RX1, "mean", "(I)I"⟩
def dkwX1_mean_3 : List UInt8 := [132, 4, 1, 167, 255, 226, 42, 32, 42, 180, 0, 7, 27, 46, 133, 109, 136, 182, 0, 80, 172]
abbrev dktX1_mean_3 : List UInt8 := dkwX1_mean_3 ++ []
def dkwX1_mean_2 : List UInt8 := [180, 0, 7, 27, 46, 162, 0, 25, 32, 42, 180, 0, 13, 16, 40, 27, 104, 21, 4, 96, 46, 133, 97, 65]
abbrev dktX1_mean_2 : List UInt8 := dkwX1_mean_2 ++ dktX1_mean_3
def dkwX1_mean_1 : List UInt8 := [42, 180, 0, 7, 27, 46, 154, 0, 9, 42, 7, 182, 0, 76, 172, 9, 65, 3, 54, 4, 21, 4, 42]
abbrev dktX1_mean_1 : List UInt8 := dkwX1_mean_1 ++ dktX1_mean_2
def dkwX1_mean_0 : List UInt8 := [27, 184, 0, 72, 154, 0, 5, 2, 172, 42, 180, 0, 7, 27, 46, 156, 0, 9, 42, 4, 182, 0, 76, 172]
abbrev dktX1_mean_0 : List UInt8 := dkwX1_mean_0 ++ dktX1_mean_1
theorem dksX1_mean_0 : cX1_mean.data.toList.drop 0 = dktX1_mean_0 := by decide +kernel
theorem dksX1_mean_1 : cX1_mean.data.toList.drop 24 = dktX1_mean_1 := dk_seg dksX1_mean_0 24 rfl rfl
theorem dksX1_mean_2 : cX1_mean.data.toList.drop 47 = dktX1_mean_2 := dk_seg dksX1_mean_1 23 rfl rfl
theorem dksX1_mean_3 : cX1_mean.data.toList.drop 71 = dktX1_mean_3 := dk_seg dksX1_mean_2 24 rfl rfl
theorem dX1_mean_0 : decode cX1_mean 0 = .ok (.iload_n 1, 1) := dk_27 (dk_at dksX1_mean_0 0 rfl rfl)
theorem dX1_mean_1 : decode cX1_mean 1 = .ok (.invokestatic 72, 3) := dk_184 0 72 (dk_at dksX1_mean_0 1 rfl rfl)
theorem dX1_mean_4 : decode cX1_mean 4 = .ok (.ifCond .ne 5, 3) := dk_154 0 5 (dk_at dksX1_mean_0 4 rfl rfl)
theorem dX1_mean_7 : decode cX1_mean 7 = .ok (.iconst (-1), 1) := dk_2 (dk_at dksX1_mean_0 7 rfl rfl)
theorem dX1_mean_8 : decode cX1_mean 8 = .ok (.ireturn, 1) := dk_172 (dk_at dksX1_mean_0 8 rfl rfl)
theorem dX1_mean_9 : decode cX1_mean 9 = .ok (.aload_n 0, 1) := dk_42 (dk_at dksX1_mean_0 9 rfl rfl)
theorem dX1_mean_10 : decode cX1_mean 10 = .ok (.getfield 7, 3) := dk_180 0 7 (dk_at dksX1_mean_0 10 rfl rfl)
theorem dX1_mean_13 : decode cX1_mean 13 = .ok (.iload_n 1, 1) := dk_27 (dk_at dksX1_mean_0 13 rfl rfl)
theorem dX1_mean_14 : decode cX1_mean 14 = .ok (.iaload, 1) := dk_46 (dk_at dksX1_mean_0 14 rfl rfl)
theorem dX1_mean_15 : decode cX1_mean 15 = .ok (.ifCond .ge 9, 3) := dk_156 0 9 (dk_at dksX1_mean_0 15 rfl rfl)
theorem dX1_mean_18 : decode cX1_mean 18 = .ok (.aload_n 0, 1) := dk_42 (dk_at dksX1_mean_0 18 rfl rfl)
theorem dX1_mean_19 : decode cX1_mean 19 = .ok (.iconst 1, 1) := dk_4 (dk_at dksX1_mean_0 19 rfl rfl)
theorem dX1_mean_20 : decode cX1_mean 20 = .ok (.invokevirtual 76, 3) := dk_182 0 76 (dk_at dksX1_mean_0 20 rfl rfl)
theorem dX1_mean_23 : decode cX1_mean 23 = .ok (.ireturn, 1) := dk_172 (dk_at dksX1_mean_0 23 rfl rfl)
theorem dX1_mean_24 : decode cX1_mean 24 = .ok (.aload_n 0, 1) := dk_42 (dk_at dksX1_mean_1 0 rfl rfl)
theorem dX1_mean_25 : decode cX1_mean 25 = .ok (.getfield 7, 3) := dk_180 0 7 (dk_at dksX1_mean_1 1 rfl rfl)
theorem dX1_mean_28 : decode cX1_mean 28 = .ok (.iload_n 1, 1) := dk_27 (dk_at dksX1_mean_1 4 rfl rfl)
theorem dX1_mean_29 : decode cX1_mean 29 = .ok (.iaload, 1) := dk_46 (dk_at dksX1_mean_1 5 rfl rfl)
theorem dX1_mean_30 : decode cX1_mean 30 = .ok (.ifCond .ne 9, 3) := dk_154 0 9 (dk_at dksX1_mean_1 6 rfl rfl)
theorem dX1_mean_33 : decode cX1_mean 33 = .ok (.aload_n 0, 1) := dk_42 (dk_at dksX1_mean_1 9 rfl rfl)
theorem dX1_mean_34 : decode cX1_mean 34 = .ok (.iconst 4, 1) := dk_7 (dk_at dksX1_mean_1 10 rfl rfl)
theorem dX1_mean_35 : decode cX1_mean 35 = .ok (.invokevirtual 76, 3) := dk_182 0 76 (dk_at dksX1_mean_1 11 rfl rfl)
theorem dX1_mean_38 : decode cX1_mean 38 = .ok (.ireturn, 1) := dk_172 (dk_at dksX1_mean_1 14 rfl rfl)
theorem dX1_mean_39 : decode cX1_mean 39 = .ok (.lconst 0, 1) := dk_9 (dk_at dksX1_mean_1 15 rfl rfl)
theorem dX1_mean_40 : decode cX1_mean 40 = .ok (.lstore_n 2, 1) := dk_65 (dk_at dksX1_mean_1 16 rfl rfl)
theorem dX1_mean_41 : decode cX1_mean 41 = .ok (.iconst 0, 1) := dk_3 (dk_at dksX1_mean_1 17 rfl rfl)
theorem dX1_mean_42 : decode cX1_mean 42 = .ok (.istore 4, 2) := dk_54 4 (dk_at dksX1_mean_1 18 rfl rfl)
theorem dX1_mean_44 : decode cX1_mean 44 = .ok (.iload 4, 2) := dk_21 4 (dk_at dksX1_mean_1 20 rfl rfl)
theorem dX1_mean_46 : decode cX1_mean 46 = .ok (.aload_n 0, 1) := dk_42 (dk_at dksX1_mean_1 22 rfl rfl)
theorem dX1_mean_47 : decode cX1_mean 47 = .ok (.getfield 7, 3) := dk_180 0 7 (dk_at dksX1_mean_2 0 rfl rfl)
theorem dX1_mean_50 : decode cX1_mean 50 = .ok (.iload_n 1, 1) := dk_27 (dk_at dksX1_mean_2 3 rfl rfl)
theorem dX1_mean_51 : decode cX1_mean 51 = .ok (.iaload, 1) := dk_46 (dk_at dksX1_mean_2 4 rfl rfl)
theorem dX1_mean_52 : decode cX1_mean 52 = .ok (.if_icmp .ge 25, 3) := dk_162 0 25 (dk_at dksX1_mean_2 5 rfl rfl)
theorem dX1_mean_55 : decode cX1_mean 55 = .ok (.lload_n 2, 1) := dk_32 (dk_at dksX1_mean_2 8 rfl rfl)
theorem dX1_mean_56 : decode cX1_mean 56 = .ok (.aload_n 0, 1) := dk_42 (dk_at dksX1_mean_2 9 rfl rfl)
theorem dX1_mean_57 : decode cX1_mean 57 = .ok (.getfield 13, 3) := dk_180 0 13 (dk_at dksX1_mean_2 10 rfl rfl)
theorem dX1_mean_60 : decode cX1_mean 60 = .ok (.bipush 40, 2) := dk_16 40 (dk_at dksX1_mean_2 13 rfl rfl)
theorem dX1_mean_62 : decode cX1_mean 62 = .ok (.iload_n 1, 1) := dk_27 (dk_at dksX1_mean_2 15 rfl rfl)
theorem dX1_mean_63 : decode cX1_mean 63 = .ok (.imul, 1) := dk_104 (dk_at dksX1_mean_2 16 rfl rfl)
theorem dX1_mean_64 : decode cX1_mean 64 = .ok (.iload 4, 2) := dk_21 4 (dk_at dksX1_mean_2 17 rfl rfl)
theorem dX1_mean_66 : decode cX1_mean 66 = .ok (.iadd, 1) := dk_96 (dk_at dksX1_mean_2 19 rfl rfl)
theorem dX1_mean_67 : decode cX1_mean 67 = .ok (.iaload, 1) := dk_46 (dk_at dksX1_mean_2 20 rfl rfl)
theorem dX1_mean_68 : decode cX1_mean 68 = .ok (.i2l, 1) := dk_133 (dk_at dksX1_mean_2 21 rfl rfl)
theorem dX1_mean_69 : decode cX1_mean 69 = .ok (.ladd, 1) := dk_97 (dk_at dksX1_mean_2 22 rfl rfl)
theorem dX1_mean_70 : decode cX1_mean 70 = .ok (.lstore_n 2, 1) := dk_65 (dk_at dksX1_mean_2 23 rfl rfl)
theorem dX1_mean_71 : decode cX1_mean 71 = .ok (.iinc 4 1, 3) := dk_132 4 1 (dk_at dksX1_mean_3 0 rfl rfl)
theorem dX1_mean_74 : decode cX1_mean 74 = .ok (.goto (-30), 3) := dk_167 255 226 (dk_at dksX1_mean_3 3 rfl rfl)
theorem dX1_mean_77 : decode cX1_mean 77 = .ok (.aload_n 0, 1) := dk_42 (dk_at dksX1_mean_3 6 rfl rfl)
theorem dX1_mean_78 : decode cX1_mean 78 = .ok (.lload_n 2, 1) := dk_32 (dk_at dksX1_mean_3 7 rfl rfl)
theorem dX1_mean_79 : decode cX1_mean 79 = .ok (.aload_n 0, 1) := dk_42 (dk_at dksX1_mean_3 8 rfl rfl)
theorem dX1_mean_80 : decode cX1_mean 80 = .ok (.getfield 7, 3) := dk_180 0 7 (dk_at dksX1_mean_3 9 rfl rfl)
theorem dX1_mean_83 : decode cX1_mean 83 = .ok (.iload_n 1, 1) := dk_27 (dk_at dksX1_mean_3 12 rfl rfl)
theorem dX1_mean_84 : decode cX1_mean 84 = .ok (.iaload, 1) := dk_46 (dk_at dksX1_mean_3 13 rfl rfl)
theorem dX1_mean_85 : decode cX1_mean 85 = .ok (.i2l, 1) := dk_133 (dk_at dksX1_mean_3 14 rfl rfl)
theorem dX1_mean_86 : decode cX1_mean 86 = .ok (.ldiv, 1) := dk_109 (dk_at dksX1_mean_3 15 rfl rfl)
theorem dX1_mean_87 : decode cX1_mean 87 = .ok (.l2i, 1) := dk_136 (dk_at dksX1_mean_3 16 rfl rfl)
theorem dX1_mean_88 : decode cX1_mean 88 = .ok (.invokevirtual 80, 3) := dk_182 0 80 (dk_at dksX1_mean_3 17 rfl rfl)
theorem dX1_mean_91 : decode cX1_mean 91 = .ok (.ireturn, 1) := dk_172 (dk_at dksX1_mean_3 20 rfl rfl)
abbrev cX1_text : ByteArray := prog_10_method_14_code
def yX1_text : MethodName := ⟨RX1, "text", "(II)I"⟩
def dkwX1_text_2 : List UInt8 := [29, 96, 16, 32, 79, 132, 3, 1, 167, 255, 234, 28, 172]
abbrev dktX1_text_2 : List UInt8 := dkwX1_text_2 ++ []
def dkwX1_text_1 : List UInt8 := [172, 42, 180, 0, 16, 27, 28, 79, 3, 62, 29, 16, 80, 162, 0, 22, 42, 180, 0, 19, 16, 80, 27, 104]
abbrev dktX1_text_1 : List UInt8 := dkwX1_text_1 ++ dktX1_text_2
def dkwX1_text_0 : List UInt8 := [27, 184, 0, 83, 153, 0, 9, 28, 16, 80, 164, 0, 5, 2, 172, 28, 156, 0, 9, 42, 8, 182, 0, 76]
abbrev dktX1_text_0 : List UInt8 := dkwX1_text_0 ++ dktX1_text_1
theorem dksX1_text_0 : cX1_text.data.toList.drop 0 = dktX1_text_0 := by decide +kernel
theorem dksX1_text_1 : cX1_text.data.toList.drop 24 = dktX1_text_1 := dk_seg dksX1_text_0 24 rfl rfl
theorem dksX1_text_2 : cX1_text.data.toList.drop 48 = dktX1_text_2 := dk_seg dksX1_text_1 24 rfl rfl
theorem dX1_text_0 : decode cX1_text 0 = .ok (.iload_n 1, 1) := dk_27 (dk_at dksX1_text_0 0 rfl rfl)
theorem dX1_text_1 : decode cX1_text 1 = .ok (.invokestatic 83, 3) := dk_184 0 83 (dk_at dksX1_text_0 1 rfl rfl)
theorem dX1_text_4 : decode cX1_text 4 = .ok (.ifCond .eq 9, 3) := dk_153 0 9 (dk_at dksX1_text_0 4 rfl rfl)
theorem dX1_text_7 : decode cX1_text 7 = .ok (.iload_n 2, 1) := dk_28 (dk_at dksX1_text_0 7 rfl rfl)
theorem dX1_text_8 : decode cX1_text 8 = .ok (.bipush 80, 2) := dk_16 80 (dk_at dksX1_text_0 8 rfl rfl)
theorem dX1_text_10 : decode cX1_text 10 = .ok (.if_icmp .le 5, 3) := dk_164 0 5 (dk_at dksX1_text_0 10 rfl rfl)
theorem dX1_text_13 : decode cX1_text 13 = .ok (.iconst (-1), 1) := dk_2 (dk_at dksX1_text_0 13 rfl rfl)
theorem dX1_text_14 : decode cX1_text 14 = .ok (.ireturn, 1) := dk_172 (dk_at dksX1_text_0 14 rfl rfl)
theorem dX1_text_15 : decode cX1_text 15 = .ok (.iload_n 2, 1) := dk_28 (dk_at dksX1_text_0 15 rfl rfl)
theorem dX1_text_16 : decode cX1_text 16 = .ok (.ifCond .ge 9, 3) := dk_156 0 9 (dk_at dksX1_text_0 16 rfl rfl)
theorem dX1_text_19 : decode cX1_text 19 = .ok (.aload_n 0, 1) := dk_42 (dk_at dksX1_text_0 19 rfl rfl)
theorem dX1_text_20 : decode cX1_text 20 = .ok (.iconst 5, 1) := dk_8 (dk_at dksX1_text_0 20 rfl rfl)
theorem dX1_text_21 : decode cX1_text 21 = .ok (.invokevirtual 76, 3) := dk_182 0 76 (dk_at dksX1_text_0 21 rfl rfl)
theorem dX1_text_24 : decode cX1_text 24 = .ok (.ireturn, 1) := dk_172 (dk_at dksX1_text_1 0 rfl rfl)
theorem dX1_text_25 : decode cX1_text 25 = .ok (.aload_n 0, 1) := dk_42 (dk_at dksX1_text_1 1 rfl rfl)
theorem dX1_text_26 : decode cX1_text 26 = .ok (.getfield 16, 3) := dk_180 0 16 (dk_at dksX1_text_1 2 rfl rfl)
theorem dX1_text_29 : decode cX1_text 29 = .ok (.iload_n 1, 1) := dk_27 (dk_at dksX1_text_1 5 rfl rfl)
theorem dX1_text_30 : decode cX1_text 30 = .ok (.iload_n 2, 1) := dk_28 (dk_at dksX1_text_1 6 rfl rfl)
theorem dX1_text_31 : decode cX1_text 31 = .ok (.iastore, 1) := dk_79 (dk_at dksX1_text_1 7 rfl rfl)
theorem dX1_text_32 : decode cX1_text 32 = .ok (.iconst 0, 1) := dk_3 (dk_at dksX1_text_1 8 rfl rfl)
theorem dX1_text_33 : decode cX1_text 33 = .ok (.istore_n 3, 1) := dk_62 (dk_at dksX1_text_1 9 rfl rfl)
theorem dX1_text_34 : decode cX1_text 34 = .ok (.iload_n 3, 1) := dk_29 (dk_at dksX1_text_1 10 rfl rfl)
theorem dX1_text_35 : decode cX1_text 35 = .ok (.bipush 80, 2) := dk_16 80 (dk_at dksX1_text_1 11 rfl rfl)
theorem dX1_text_37 : decode cX1_text 37 = .ok (.if_icmp .ge 22, 3) := dk_162 0 22 (dk_at dksX1_text_1 13 rfl rfl)
theorem dX1_text_40 : decode cX1_text 40 = .ok (.aload_n 0, 1) := dk_42 (dk_at dksX1_text_1 16 rfl rfl)
theorem dX1_text_41 : decode cX1_text 41 = .ok (.getfield 19, 3) := dk_180 0 19 (dk_at dksX1_text_1 17 rfl rfl)
theorem dX1_text_44 : decode cX1_text 44 = .ok (.bipush 80, 2) := dk_16 80 (dk_at dksX1_text_1 20 rfl rfl)
theorem dX1_text_46 : decode cX1_text 46 = .ok (.iload_n 1, 1) := dk_27 (dk_at dksX1_text_1 22 rfl rfl)
theorem dX1_text_47 : decode cX1_text 47 = .ok (.imul, 1) := dk_104 (dk_at dksX1_text_1 23 rfl rfl)
theorem dX1_text_48 : decode cX1_text 48 = .ok (.iload_n 3, 1) := dk_29 (dk_at dksX1_text_2 0 rfl rfl)
theorem dX1_text_49 : decode cX1_text 49 = .ok (.iadd, 1) := dk_96 (dk_at dksX1_text_2 1 rfl rfl)
theorem dX1_text_50 : decode cX1_text 50 = .ok (.bipush 32, 2) := dk_16 32 (dk_at dksX1_text_2 2 rfl rfl)
theorem dX1_text_52 : decode cX1_text 52 = .ok (.iastore, 1) := dk_79 (dk_at dksX1_text_2 4 rfl rfl)
theorem dX1_text_53 : decode cX1_text 53 = .ok (.iinc 3 1, 3) := dk_132 3 1 (dk_at dksX1_text_2 5 rfl rfl)
theorem dX1_text_56 : decode cX1_text 56 = .ok (.goto (-22), 3) := dk_167 255 234 (dk_at dksX1_text_2 8 rfl rfl)
theorem dX1_text_59 : decode cX1_text 59 = .ok (.iload_n 2, 1) := dk_28 (dk_at dksX1_text_2 11 rfl rfl)
theorem dX1_text_60 : decode cX1_text 60 = .ok (.ireturn, 1) := dk_172 (dk_at dksX1_text_2 12 rfl rfl)
abbrev cX1_isText : ByteArray := prog_10_method_7_code
def yX1_isText : MethodName := ⟨RX1, "isText", "(I)Z"⟩
def dkwX1_isText_0 : List UInt8 := [26, 133, 9, 20, 0, 70, 184, 0, 66, 172]
abbrev dktX1_isText_0 : List UInt8 := dkwX1_isText_0 ++ []
theorem dksX1_isText_0 : cX1_isText.data.toList.drop 0 = dktX1_isText_0 := by decide +kernel
theorem dX1_isText_0 : decode cX1_isText 0 = .ok (.iload_n 0, 1) := dk_26 (dk_at dksX1_isText_0 0 rfl rfl)
theorem dX1_isText_1 : decode cX1_isText 1 = .ok (.i2l, 1) := dk_133 (dk_at dksX1_isText_0 1 rfl rfl)
theorem dX1_isText_2 : decode cX1_isText 2 = .ok (.lconst 0, 1) := dk_9 (dk_at dksX1_isText_0 2 rfl rfl)
theorem dX1_isText_3 : decode cX1_isText 3 = .ok (.ldc2_w 70, 3) := dk_20 0 70 (dk_at dksX1_isText_0 3 rfl rfl)
theorem dX1_isText_6 : decode cX1_isText 6 = .ok (.invokestatic 66, 3) := dk_184 0 66 (dk_at dksX1_isText_0 6 rfl rfl)
theorem dX1_isText_9 : decode cX1_isText 9 = .ok (.ireturn, 1) := dk_172 (dk_at dksX1_isText_0 9 rfl rfl)
abbrev cX1_put : ByteArray := prog_10_method_15_code
def yX1_put : MethodName := ⟨RX1, "put", "(III)I"⟩
def dkwX1_put_3 : List UInt8 := [145, 79, 21, 4, 17, 3, 232, 96, 172]
abbrev dktX1_put_3 : List UInt8 := dkwX1_put_3 ++ []
def dkwX1_put_2 : List UInt8 := [42, 180, 0, 19, 16, 80, 27, 104, 28, 96, 46, 54, 4, 42, 180, 0, 19, 16, 80, 27, 104, 28, 96, 29]
abbrev dktX1_put_2 : List UInt8 := dkwX1_put_2 ++ dktX1_put_3
def dkwX1_put_1 : List UInt8 := [28, 133, 9, 42, 180, 0, 16, 27, 46, 4, 100, 133, 184, 0, 66, 154, 0, 9, 42, 5, 182, 0, 76, 172]
abbrev dktX1_put_1 : List UInt8 := dkwX1_put_1 ++ dktX1_put_2
def dkwX1_put_0 : List UInt8 := [27, 184, 0, 83, 154, 0, 5, 2, 172, 42, 180, 0, 16, 27, 46, 156, 0, 9, 42, 4, 182, 0, 76, 172]
abbrev dktX1_put_0 : List UInt8 := dkwX1_put_0 ++ dktX1_put_1
theorem dksX1_put_0 : cX1_put.data.toList.drop 0 = dktX1_put_0 := by decide +kernel
theorem dksX1_put_1 : cX1_put.data.toList.drop 24 = dktX1_put_1 := dk_seg dksX1_put_0 24 rfl rfl
theorem dksX1_put_2 : cX1_put.data.toList.drop 48 = dktX1_put_2 := dk_seg dksX1_put_1 24 rfl rfl
theorem dksX1_put_3 : cX1_put.data.toList.drop 72 = dktX1_put_3 := dk_seg dksX1_put_2 24 rfl rfl
theorem dX1_put_0 : decode cX1_put 0 = .ok (.iload_n 1, 1) := dk_27 (dk_at dksX1_put_0 0 rfl rfl)
theorem dX1_put_1 : decode cX1_put 1 = .ok (.invokestatic 83, 3) := dk_184 0 83 (dk_at dksX1_put_0 1 rfl rfl)
theorem dX1_put_4 : decode cX1_put 4 = .ok (.ifCond .ne 5, 3) := dk_154 0 5 (dk_at dksX1_put_0 4 rfl rfl)
theorem dX1_put_7 : decode cX1_put 7 = .ok (.iconst (-1), 1) := dk_2 (dk_at dksX1_put_0 7 rfl rfl)
theorem dX1_put_8 : decode cX1_put 8 = .ok (.ireturn, 1) := dk_172 (dk_at dksX1_put_0 8 rfl rfl)
theorem dX1_put_9 : decode cX1_put 9 = .ok (.aload_n 0, 1) := dk_42 (dk_at dksX1_put_0 9 rfl rfl)
theorem dX1_put_10 : decode cX1_put 10 = .ok (.getfield 16, 3) := dk_180 0 16 (dk_at dksX1_put_0 10 rfl rfl)
theorem dX1_put_13 : decode cX1_put 13 = .ok (.iload_n 1, 1) := dk_27 (dk_at dksX1_put_0 13 rfl rfl)
theorem dX1_put_14 : decode cX1_put 14 = .ok (.iaload, 1) := dk_46 (dk_at dksX1_put_0 14 rfl rfl)
theorem dX1_put_15 : decode cX1_put 15 = .ok (.ifCond .ge 9, 3) := dk_156 0 9 (dk_at dksX1_put_0 15 rfl rfl)
theorem dX1_put_18 : decode cX1_put 18 = .ok (.aload_n 0, 1) := dk_42 (dk_at dksX1_put_0 18 rfl rfl)
theorem dX1_put_19 : decode cX1_put 19 = .ok (.iconst 1, 1) := dk_4 (dk_at dksX1_put_0 19 rfl rfl)
theorem dX1_put_20 : decode cX1_put 20 = .ok (.invokevirtual 76, 3) := dk_182 0 76 (dk_at dksX1_put_0 20 rfl rfl)
theorem dX1_put_23 : decode cX1_put 23 = .ok (.ireturn, 1) := dk_172 (dk_at dksX1_put_0 23 rfl rfl)
theorem dX1_put_24 : decode cX1_put 24 = .ok (.iload_n 2, 1) := dk_28 (dk_at dksX1_put_1 0 rfl rfl)
theorem dX1_put_25 : decode cX1_put 25 = .ok (.i2l, 1) := dk_133 (dk_at dksX1_put_1 1 rfl rfl)
theorem dX1_put_26 : decode cX1_put 26 = .ok (.lconst 0, 1) := dk_9 (dk_at dksX1_put_1 2 rfl rfl)
theorem dX1_put_27 : decode cX1_put 27 = .ok (.aload_n 0, 1) := dk_42 (dk_at dksX1_put_1 3 rfl rfl)
theorem dX1_put_28 : decode cX1_put 28 = .ok (.getfield 16, 3) := dk_180 0 16 (dk_at dksX1_put_1 4 rfl rfl)
theorem dX1_put_31 : decode cX1_put 31 = .ok (.iload_n 1, 1) := dk_27 (dk_at dksX1_put_1 7 rfl rfl)
theorem dX1_put_32 : decode cX1_put 32 = .ok (.iaload, 1) := dk_46 (dk_at dksX1_put_1 8 rfl rfl)
theorem dX1_put_33 : decode cX1_put 33 = .ok (.iconst 1, 1) := dk_4 (dk_at dksX1_put_1 9 rfl rfl)
theorem dX1_put_34 : decode cX1_put 34 = .ok (.isub, 1) := dk_100 (dk_at dksX1_put_1 10 rfl rfl)
theorem dX1_put_35 : decode cX1_put 35 = .ok (.i2l, 1) := dk_133 (dk_at dksX1_put_1 11 rfl rfl)
theorem dX1_put_36 : decode cX1_put 36 = .ok (.invokestatic 66, 3) := dk_184 0 66 (dk_at dksX1_put_1 12 rfl rfl)
theorem dX1_put_39 : decode cX1_put 39 = .ok (.ifCond .ne 9, 3) := dk_154 0 9 (dk_at dksX1_put_1 15 rfl rfl)
theorem dX1_put_42 : decode cX1_put 42 = .ok (.aload_n 0, 1) := dk_42 (dk_at dksX1_put_1 18 rfl rfl)
theorem dX1_put_43 : decode cX1_put 43 = .ok (.iconst 2, 1) := dk_5 (dk_at dksX1_put_1 19 rfl rfl)
theorem dX1_put_44 : decode cX1_put 44 = .ok (.invokevirtual 76, 3) := dk_182 0 76 (dk_at dksX1_put_1 20 rfl rfl)
theorem dX1_put_47 : decode cX1_put 47 = .ok (.ireturn, 1) := dk_172 (dk_at dksX1_put_1 23 rfl rfl)
theorem dX1_put_48 : decode cX1_put 48 = .ok (.aload_n 0, 1) := dk_42 (dk_at dksX1_put_2 0 rfl rfl)
theorem dX1_put_49 : decode cX1_put 49 = .ok (.getfield 19, 3) := dk_180 0 19 (dk_at dksX1_put_2 1 rfl rfl)
theorem dX1_put_52 : decode cX1_put 52 = .ok (.bipush 80, 2) := dk_16 80 (dk_at dksX1_put_2 4 rfl rfl)
theorem dX1_put_54 : decode cX1_put 54 = .ok (.iload_n 1, 1) := dk_27 (dk_at dksX1_put_2 6 rfl rfl)
theorem dX1_put_55 : decode cX1_put 55 = .ok (.imul, 1) := dk_104 (dk_at dksX1_put_2 7 rfl rfl)
theorem dX1_put_56 : decode cX1_put 56 = .ok (.iload_n 2, 1) := dk_28 (dk_at dksX1_put_2 8 rfl rfl)
theorem dX1_put_57 : decode cX1_put 57 = .ok (.iadd, 1) := dk_96 (dk_at dksX1_put_2 9 rfl rfl)
theorem dX1_put_58 : decode cX1_put 58 = .ok (.iaload, 1) := dk_46 (dk_at dksX1_put_2 10 rfl rfl)
theorem dX1_put_59 : decode cX1_put 59 = .ok (.istore 4, 2) := dk_54 4 (dk_at dksX1_put_2 11 rfl rfl)
theorem dX1_put_61 : decode cX1_put 61 = .ok (.aload_n 0, 1) := dk_42 (dk_at dksX1_put_2 13 rfl rfl)
theorem dX1_put_62 : decode cX1_put 62 = .ok (.getfield 19, 3) := dk_180 0 19 (dk_at dksX1_put_2 14 rfl rfl)
theorem dX1_put_65 : decode cX1_put 65 = .ok (.bipush 80, 2) := dk_16 80 (dk_at dksX1_put_2 17 rfl rfl)
theorem dX1_put_67 : decode cX1_put 67 = .ok (.iload_n 1, 1) := dk_27 (dk_at dksX1_put_2 19 rfl rfl)
theorem dX1_put_68 : decode cX1_put 68 = .ok (.imul, 1) := dk_104 (dk_at dksX1_put_2 20 rfl rfl)
theorem dX1_put_69 : decode cX1_put 69 = .ok (.iload_n 2, 1) := dk_28 (dk_at dksX1_put_2 21 rfl rfl)
theorem dX1_put_70 : decode cX1_put 70 = .ok (.iadd, 1) := dk_96 (dk_at dksX1_put_2 22 rfl rfl)
theorem dX1_put_71 : decode cX1_put 71 = .ok (.iload_n 3, 1) := dk_29 (dk_at dksX1_put_2 23 rfl rfl)
theorem dX1_put_72 : decode cX1_put 72 = .ok (.i2b, 1) := dk_145 (dk_at dksX1_put_3 0 rfl rfl)
theorem dX1_put_73 : decode cX1_put 73 = .ok (.iastore, 1) := dk_79 (dk_at dksX1_put_3 1 rfl rfl)
theorem dX1_put_74 : decode cX1_put 74 = .ok (.iload 4, 2) := dk_21 4 (dk_at dksX1_put_3 2 rfl rfl)
theorem dX1_put_76 : decode cX1_put 76 = .ok (.sipush 1000, 3) := dk_17 3 232 (dk_at dksX1_put_3 4 rfl rfl)
theorem dX1_put_79 : decode cX1_put 79 = .ok (.iadd, 1) := dk_96 (dk_at dksX1_put_3 7 rfl rfl)
theorem dX1_put_80 : decode cX1_put 80 = .ok (.ireturn, 1) := dk_172 (dk_at dksX1_put_3 8 rfl rfl)
abbrev cX1_fault : ByteArray := prog_10_method_22_code
def yX1_fault : MethodName := ⟨RX1, "fault", "(I)I"⟩
def dkwX1_fault_1 : List UInt8 := [167, 0, 8, 42, 27, 182, 0, 109, 172]
abbrev dktX1_fault_1 : List UInt8 := dkwX1_fault_1 ++ []
def dkwX1_fault_0 : List UInt8 := [27, 184, 0, 83, 154, 0, 5, 2, 172, 42, 180, 0, 16, 27, 46, 156, 0, 11, 42, 4, 182, 0, 76]
abbrev dktX1_fault_0 : List UInt8 := dkwX1_fault_0 ++ dktX1_fault_1
theorem dksX1_fault_0 : cX1_fault.data.toList.drop 0 = dktX1_fault_0 := by decide +kernel
theorem dksX1_fault_1 : cX1_fault.data.toList.drop 23 = dktX1_fault_1 := dk_seg dksX1_fault_0 23 rfl rfl
theorem dX1_fault_0 : decode cX1_fault 0 = .ok (.iload_n 1, 1) := dk_27 (dk_at dksX1_fault_0 0 rfl rfl)
theorem dX1_fault_1 : decode cX1_fault 1 = .ok (.invokestatic 83, 3) := dk_184 0 83 (dk_at dksX1_fault_0 1 rfl rfl)
theorem dX1_fault_4 : decode cX1_fault 4 = .ok (.ifCond .ne 5, 3) := dk_154 0 5 (dk_at dksX1_fault_0 4 rfl rfl)
theorem dX1_fault_7 : decode cX1_fault 7 = .ok (.iconst (-1), 1) := dk_2 (dk_at dksX1_fault_0 7 rfl rfl)
theorem dX1_fault_8 : decode cX1_fault 8 = .ok (.ireturn, 1) := dk_172 (dk_at dksX1_fault_0 8 rfl rfl)
theorem dX1_fault_9 : decode cX1_fault 9 = .ok (.aload_n 0, 1) := dk_42 (dk_at dksX1_fault_0 9 rfl rfl)
theorem dX1_fault_10 : decode cX1_fault 10 = .ok (.getfield 16, 3) := dk_180 0 16 (dk_at dksX1_fault_0 10 rfl rfl)
theorem dX1_fault_13 : decode cX1_fault 13 = .ok (.iload_n 1, 1) := dk_27 (dk_at dksX1_fault_0 13 rfl rfl)
theorem dX1_fault_14 : decode cX1_fault 14 = .ok (.iaload, 1) := dk_46 (dk_at dksX1_fault_0 14 rfl rfl)
theorem dX1_fault_15 : decode cX1_fault 15 = .ok (.ifCond .ge 11, 3) := dk_156 0 11 (dk_at dksX1_fault_0 15 rfl rfl)
theorem dX1_fault_18 : decode cX1_fault 18 = .ok (.aload_n 0, 1) := dk_42 (dk_at dksX1_fault_0 18 rfl rfl)
theorem dX1_fault_19 : decode cX1_fault 19 = .ok (.iconst 1, 1) := dk_4 (dk_at dksX1_fault_0 19 rfl rfl)
theorem dX1_fault_20 : decode cX1_fault 20 = .ok (.invokevirtual 76, 3) := dk_182 0 76 (dk_at dksX1_fault_0 20 rfl rfl)
theorem dX1_fault_23 : decode cX1_fault 23 = .ok (.goto 8, 3) := dk_167 0 8 (dk_at dksX1_fault_1 0 rfl rfl)
theorem dX1_fault_26 : decode cX1_fault 26 = .ok (.aload_n 0, 1) := dk_42 (dk_at dksX1_fault_1 3 rfl rfl)
theorem dX1_fault_27 : decode cX1_fault 27 = .ok (.iload_n 1, 1) := dk_27 (dk_at dksX1_fault_1 4 rfl rfl)
theorem dX1_fault_28 : decode cX1_fault 28 = .ok (.invokevirtual 109, 3) := dk_182 0 109 (dk_at dksX1_fault_1 5 rfl rfl)
theorem dX1_fault_31 : decode cX1_fault 31 = .ok (.ireturn, 1) := dk_172 (dk_at dksX1_fault_1 8 rfl rfl)
abbrev cX1_reads : ByteArray := prog_10_method_21_code
def yX1_reads : MethodName := ⟨RX1, "reads", "(I)I"⟩
def dkwX1_reads_5 : List UInt8 := [180, 0, 39, 3, 46, 154, 0, 10, 42, 180, 0, 86, 167, 0, 5, 16, 247, 172]
abbrev dktX1_reads_5 : List UInt8 := dkwX1_reads_5 ++ []
def dkwX1_reads_4 : List UInt8 := [182, 0, 103, 153, 0, 14, 167, 255, 202, 42, 27, 182, 0, 106, 154, 255, 194, 42, 180, 0, 86, 172, 42]
abbrev dktX1_reads_4 : List UInt8 := dkwX1_reads_4 ++ dktX1_reads_5
def dkwX1_reads_3 : List UInt8 := [89, 180, 0, 86, 4, 96, 181, 0, 86, 167, 255, 223, 42, 27, 182, 0, 89, 16, 113, 160, 0, 14, 42, 27]
abbrev dktX1_reads_3 : List UInt8 := dkwX1_reads_3 ++ dktX1_reads_4
def dkwX1_reads_2 : List UInt8 := [42, 180, 0, 86, 42, 180, 0, 16, 27, 46, 162, 0, 60, 42, 27, 182, 0, 89, 16, 32, 160, 0, 16, 42]
abbrev dktX1_reads_2 : List UInt8 := dkwX1_reads_2 ++ dktX1_reads_3
def dkwX1_reads_1 : List UInt8 := [184, 0, 66, 153, 0, 8, 16, 247, 167, 0, 4, 3, 79, 132, 2, 1, 167, 255, 220, 42, 3, 181, 0, 86]
abbrev dktX1_reads_1 : List UInt8 := dkwX1_reads_1 ++ dktX1_reads_2
def dkwX1_reads_0 : List UInt8 := [3, 61, 28, 17, 1, 137, 162, 0, 35, 42, 180, 0, 39, 28, 28, 133, 20, 0, 99, 20, 0, 101]
abbrev dktX1_reads_0 : List UInt8 := dkwX1_reads_0 ++ dktX1_reads_1
theorem dksX1_reads_0 : cX1_reads.data.toList.drop 0 = dktX1_reads_0 := by decide +kernel
theorem dksX1_reads_1 : cX1_reads.data.toList.drop 22 = dktX1_reads_1 := dk_seg dksX1_reads_0 22 rfl rfl
theorem dksX1_reads_2 : cX1_reads.data.toList.drop 46 = dktX1_reads_2 := dk_seg dksX1_reads_1 24 rfl rfl
theorem dksX1_reads_3 : cX1_reads.data.toList.drop 70 = dktX1_reads_3 := dk_seg dksX1_reads_2 24 rfl rfl
theorem dksX1_reads_4 : cX1_reads.data.toList.drop 94 = dktX1_reads_4 := dk_seg dksX1_reads_3 24 rfl rfl
theorem dksX1_reads_5 : cX1_reads.data.toList.drop 117 = dktX1_reads_5 := dk_seg dksX1_reads_4 23 rfl rfl
theorem dX1_reads_0 : decode cX1_reads 0 = .ok (.iconst 0, 1) := dk_3 (dk_at dksX1_reads_0 0 rfl rfl)
theorem dX1_reads_1 : decode cX1_reads 1 = .ok (.istore_n 2, 1) := dk_61 (dk_at dksX1_reads_0 1 rfl rfl)
theorem dX1_reads_2 : decode cX1_reads 2 = .ok (.iload_n 2, 1) := dk_28 (dk_at dksX1_reads_0 2 rfl rfl)
theorem dX1_reads_3 : decode cX1_reads 3 = .ok (.sipush 393, 3) := dk_17 1 137 (dk_at dksX1_reads_0 3 rfl rfl)
theorem dX1_reads_6 : decode cX1_reads 6 = .ok (.if_icmp .ge 35, 3) := dk_162 0 35 (dk_at dksX1_reads_0 6 rfl rfl)
theorem dX1_reads_9 : decode cX1_reads 9 = .ok (.aload_n 0, 1) := dk_42 (dk_at dksX1_reads_0 9 rfl rfl)
theorem dX1_reads_10 : decode cX1_reads 10 = .ok (.getfield 39, 3) := dk_180 0 39 (dk_at dksX1_reads_0 10 rfl rfl)
theorem dX1_reads_13 : decode cX1_reads 13 = .ok (.iload_n 2, 1) := dk_28 (dk_at dksX1_reads_0 13 rfl rfl)
theorem dX1_reads_14 : decode cX1_reads 14 = .ok (.iload_n 2, 1) := dk_28 (dk_at dksX1_reads_0 14 rfl rfl)
theorem dX1_reads_15 : decode cX1_reads 15 = .ok (.i2l, 1) := dk_133 (dk_at dksX1_reads_0 15 rfl rfl)
theorem dX1_reads_16 : decode cX1_reads 16 = .ok (.ldc2_w 99, 3) := dk_20 0 99 (dk_at dksX1_reads_0 16 rfl rfl)
theorem dX1_reads_19 : decode cX1_reads 19 = .ok (.ldc2_w 101, 3) := dk_20 0 101 (dk_at dksX1_reads_0 19 rfl rfl)
theorem dX1_reads_22 : decode cX1_reads 22 = .ok (.invokestatic 66, 3) := dk_184 0 66 (dk_at dksX1_reads_1 0 rfl rfl)
theorem dX1_reads_25 : decode cX1_reads 25 = .ok (.ifCond .eq 8, 3) := dk_153 0 8 (dk_at dksX1_reads_1 3 rfl rfl)
theorem dX1_reads_28 : decode cX1_reads 28 = .ok (.bipush (-9), 2) := dk_16 247 (dk_at dksX1_reads_1 6 rfl rfl)
theorem dX1_reads_30 : decode cX1_reads 30 = .ok (.goto 4, 3) := dk_167 0 4 (dk_at dksX1_reads_1 8 rfl rfl)
theorem dX1_reads_33 : decode cX1_reads 33 = .ok (.iconst 0, 1) := dk_3 (dk_at dksX1_reads_1 11 rfl rfl)
theorem dX1_reads_34 : decode cX1_reads 34 = .ok (.iastore, 1) := dk_79 (dk_at dksX1_reads_1 12 rfl rfl)
theorem dX1_reads_35 : decode cX1_reads 35 = .ok (.iinc 2 1, 3) := dk_132 2 1 (dk_at dksX1_reads_1 13 rfl rfl)
theorem dX1_reads_38 : decode cX1_reads 38 = .ok (.goto (-36), 3) := dk_167 255 220 (dk_at dksX1_reads_1 16 rfl rfl)
theorem dX1_reads_41 : decode cX1_reads 41 = .ok (.aload_n 0, 1) := dk_42 (dk_at dksX1_reads_1 19 rfl rfl)
theorem dX1_reads_42 : decode cX1_reads 42 = .ok (.iconst 0, 1) := dk_3 (dk_at dksX1_reads_1 20 rfl rfl)
theorem dX1_reads_43 : decode cX1_reads 43 = .ok (.putfield 86, 3) := dk_181 0 86 (dk_at dksX1_reads_1 21 rfl rfl)
theorem dX1_reads_46 : decode cX1_reads 46 = .ok (.aload_n 0, 1) := dk_42 (dk_at dksX1_reads_2 0 rfl rfl)
theorem dX1_reads_47 : decode cX1_reads 47 = .ok (.getfield 86, 3) := dk_180 0 86 (dk_at dksX1_reads_2 1 rfl rfl)
theorem dX1_reads_50 : decode cX1_reads 50 = .ok (.aload_n 0, 1) := dk_42 (dk_at dksX1_reads_2 4 rfl rfl)
theorem dX1_reads_51 : decode cX1_reads 51 = .ok (.getfield 16, 3) := dk_180 0 16 (dk_at dksX1_reads_2 5 rfl rfl)
theorem dX1_reads_54 : decode cX1_reads 54 = .ok (.iload_n 1, 1) := dk_27 (dk_at dksX1_reads_2 8 rfl rfl)
theorem dX1_reads_55 : decode cX1_reads 55 = .ok (.iaload, 1) := dk_46 (dk_at dksX1_reads_2 9 rfl rfl)
theorem dX1_reads_56 : decode cX1_reads 56 = .ok (.if_icmp .ge 60, 3) := dk_162 0 60 (dk_at dksX1_reads_2 10 rfl rfl)
theorem dX1_reads_59 : decode cX1_reads 59 = .ok (.aload_n 0, 1) := dk_42 (dk_at dksX1_reads_2 13 rfl rfl)
theorem dX1_reads_60 : decode cX1_reads 60 = .ok (.iload_n 1, 1) := dk_27 (dk_at dksX1_reads_2 14 rfl rfl)
theorem dX1_reads_61 : decode cX1_reads 61 = .ok (.invokevirtual 89, 3) := dk_182 0 89 (dk_at dksX1_reads_2 15 rfl rfl)
theorem dX1_reads_64 : decode cX1_reads 64 = .ok (.bipush 32, 2) := dk_16 32 (dk_at dksX1_reads_2 18 rfl rfl)
theorem dX1_reads_66 : decode cX1_reads 66 = .ok (.if_icmp .ne 16, 3) := dk_160 0 16 (dk_at dksX1_reads_2 20 rfl rfl)
theorem dX1_reads_69 : decode cX1_reads 69 = .ok (.aload_n 0, 1) := dk_42 (dk_at dksX1_reads_2 23 rfl rfl)
theorem dX1_reads_70 : decode cX1_reads 70 = .ok (.dup, 1) := dk_89 (dk_at dksX1_reads_3 0 rfl rfl)
theorem dX1_reads_71 : decode cX1_reads 71 = .ok (.getfield 86, 3) := dk_180 0 86 (dk_at dksX1_reads_3 1 rfl rfl)
theorem dX1_reads_74 : decode cX1_reads 74 = .ok (.iconst 1, 1) := dk_4 (dk_at dksX1_reads_3 4 rfl rfl)
theorem dX1_reads_75 : decode cX1_reads 75 = .ok (.iadd, 1) := dk_96 (dk_at dksX1_reads_3 5 rfl rfl)
theorem dX1_reads_76 : decode cX1_reads 76 = .ok (.putfield 86, 3) := dk_181 0 86 (dk_at dksX1_reads_3 6 rfl rfl)
theorem dX1_reads_79 : decode cX1_reads 79 = .ok (.goto (-33), 3) := dk_167 255 223 (dk_at dksX1_reads_3 9 rfl rfl)
theorem dX1_reads_82 : decode cX1_reads 82 = .ok (.aload_n 0, 1) := dk_42 (dk_at dksX1_reads_3 12 rfl rfl)
theorem dX1_reads_83 : decode cX1_reads 83 = .ok (.iload_n 1, 1) := dk_27 (dk_at dksX1_reads_3 13 rfl rfl)
theorem dX1_reads_84 : decode cX1_reads 84 = .ok (.invokevirtual 89, 3) := dk_182 0 89 (dk_at dksX1_reads_3 14 rfl rfl)
theorem dX1_reads_87 : decode cX1_reads 87 = .ok (.bipush 113, 2) := dk_16 113 (dk_at dksX1_reads_3 17 rfl rfl)
theorem dX1_reads_89 : decode cX1_reads 89 = .ok (.if_icmp .ne 14, 3) := dk_160 0 14 (dk_at dksX1_reads_3 19 rfl rfl)
theorem dX1_reads_92 : decode cX1_reads 92 = .ok (.aload_n 0, 1) := dk_42 (dk_at dksX1_reads_3 22 rfl rfl)
theorem dX1_reads_93 : decode cX1_reads 93 = .ok (.iload_n 1, 1) := dk_27 (dk_at dksX1_reads_3 23 rfl rfl)
theorem dX1_reads_94 : decode cX1_reads 94 = .ok (.invokevirtual 103, 3) := dk_182 0 103 (dk_at dksX1_reads_4 0 rfl rfl)
theorem dX1_reads_97 : decode cX1_reads 97 = .ok (.ifCond .eq 14, 3) := dk_153 0 14 (dk_at dksX1_reads_4 3 rfl rfl)
theorem dX1_reads_100 : decode cX1_reads 100 = .ok (.goto (-54), 3) := dk_167 255 202 (dk_at dksX1_reads_4 6 rfl rfl)
theorem dX1_reads_103 : decode cX1_reads 103 = .ok (.aload_n 0, 1) := dk_42 (dk_at dksX1_reads_4 9 rfl rfl)
theorem dX1_reads_104 : decode cX1_reads 104 = .ok (.iload_n 1, 1) := dk_27 (dk_at dksX1_reads_4 10 rfl rfl)
theorem dX1_reads_105 : decode cX1_reads 105 = .ok (.invokevirtual 106, 3) := dk_182 0 106 (dk_at dksX1_reads_4 11 rfl rfl)
theorem dX1_reads_108 : decode cX1_reads 108 = .ok (.ifCond .ne (-62), 3) := dk_154 255 194 (dk_at dksX1_reads_4 14 rfl rfl)
theorem dX1_reads_111 : decode cX1_reads 111 = .ok (.aload_n 0, 1) := dk_42 (dk_at dksX1_reads_4 17 rfl rfl)
theorem dX1_reads_112 : decode cX1_reads 112 = .ok (.getfield 86, 3) := dk_180 0 86 (dk_at dksX1_reads_4 18 rfl rfl)
theorem dX1_reads_115 : decode cX1_reads 115 = .ok (.ireturn, 1) := dk_172 (dk_at dksX1_reads_4 21 rfl rfl)
theorem dX1_reads_116 : decode cX1_reads 116 = .ok (.aload_n 0, 1) := dk_42 (dk_at dksX1_reads_4 22 rfl rfl)
theorem dX1_reads_117 : decode cX1_reads 117 = .ok (.getfield 39, 3) := dk_180 0 39 (dk_at dksX1_reads_5 0 rfl rfl)
theorem dX1_reads_120 : decode cX1_reads 120 = .ok (.iconst 0, 1) := dk_3 (dk_at dksX1_reads_5 3 rfl rfl)
theorem dX1_reads_121 : decode cX1_reads 121 = .ok (.iaload, 1) := dk_46 (dk_at dksX1_reads_5 4 rfl rfl)
theorem dX1_reads_122 : decode cX1_reads 122 = .ok (.ifCond .ne 10, 3) := dk_154 0 10 (dk_at dksX1_reads_5 5 rfl rfl)
theorem dX1_reads_125 : decode cX1_reads 125 = .ok (.aload_n 0, 1) := dk_42 (dk_at dksX1_reads_5 8 rfl rfl)
theorem dX1_reads_126 : decode cX1_reads 126 = .ok (.getfield 86, 3) := dk_180 0 86 (dk_at dksX1_reads_5 9 rfl rfl)
theorem dX1_reads_129 : decode cX1_reads 129 = .ok (.goto 5, 3) := dk_167 0 5 (dk_at dksX1_reads_5 12 rfl rfl)
theorem dX1_reads_132 : decode cX1_reads 132 = .ok (.bipush (-9), 2) := dk_16 247 (dk_at dksX1_reads_5 15 rfl rfl)
theorem dX1_reads_134 : decode cX1_reads 134 = .ok (.ireturn, 1) := dk_172 (dk_at dksX1_reads_5 17 rfl rfl)
abbrev cX1_byteAt : ByteArray := prog_10_method_17_code
def yX1_byteAt : MethodName := ⟨RX1, "byteAt", "(I)I"⟩
def dkwX1_byteAt_1 : List UInt8 := [180, 0, 86, 96, 46, 167, 0, 6, 17, 252, 24, 172]
abbrev dktX1_byteAt_1 : List UInt8 := dkwX1_byteAt_1 ++ []
def dkwX1_byteAt_0 : List UInt8 := [42, 180, 0, 86, 42, 180, 0, 16, 27, 46, 162, 0, 20, 42, 180, 0, 19, 16, 80, 27, 104, 42]
abbrev dktX1_byteAt_0 : List UInt8 := dkwX1_byteAt_0 ++ dktX1_byteAt_1
theorem dksX1_byteAt_0 : cX1_byteAt.data.toList.drop 0 = dktX1_byteAt_0 := by decide +kernel
theorem dksX1_byteAt_1 : cX1_byteAt.data.toList.drop 22 = dktX1_byteAt_1 := dk_seg dksX1_byteAt_0 22 rfl rfl
theorem dX1_byteAt_0 : decode cX1_byteAt 0 = .ok (.aload_n 0, 1) := dk_42 (dk_at dksX1_byteAt_0 0 rfl rfl)
theorem dX1_byteAt_1 : decode cX1_byteAt 1 = .ok (.getfield 86, 3) := dk_180 0 86 (dk_at dksX1_byteAt_0 1 rfl rfl)
theorem dX1_byteAt_4 : decode cX1_byteAt 4 = .ok (.aload_n 0, 1) := dk_42 (dk_at dksX1_byteAt_0 4 rfl rfl)
theorem dX1_byteAt_5 : decode cX1_byteAt 5 = .ok (.getfield 16, 3) := dk_180 0 16 (dk_at dksX1_byteAt_0 5 rfl rfl)
theorem dX1_byteAt_8 : decode cX1_byteAt 8 = .ok (.iload_n 1, 1) := dk_27 (dk_at dksX1_byteAt_0 8 rfl rfl)
theorem dX1_byteAt_9 : decode cX1_byteAt 9 = .ok (.iaload, 1) := dk_46 (dk_at dksX1_byteAt_0 9 rfl rfl)
theorem dX1_byteAt_10 : decode cX1_byteAt 10 = .ok (.if_icmp .ge 20, 3) := dk_162 0 20 (dk_at dksX1_byteAt_0 10 rfl rfl)
theorem dX1_byteAt_13 : decode cX1_byteAt 13 = .ok (.aload_n 0, 1) := dk_42 (dk_at dksX1_byteAt_0 13 rfl rfl)
theorem dX1_byteAt_14 : decode cX1_byteAt 14 = .ok (.getfield 19, 3) := dk_180 0 19 (dk_at dksX1_byteAt_0 14 rfl rfl)
theorem dX1_byteAt_17 : decode cX1_byteAt 17 = .ok (.bipush 80, 2) := dk_16 80 (dk_at dksX1_byteAt_0 17 rfl rfl)
theorem dX1_byteAt_19 : decode cX1_byteAt 19 = .ok (.iload_n 1, 1) := dk_27 (dk_at dksX1_byteAt_0 19 rfl rfl)
theorem dX1_byteAt_20 : decode cX1_byteAt 20 = .ok (.imul, 1) := dk_104 (dk_at dksX1_byteAt_0 20 rfl rfl)
theorem dX1_byteAt_21 : decode cX1_byteAt 21 = .ok (.aload_n 0, 1) := dk_42 (dk_at dksX1_byteAt_0 21 rfl rfl)
theorem dX1_byteAt_22 : decode cX1_byteAt 22 = .ok (.getfield 86, 3) := dk_180 0 86 (dk_at dksX1_byteAt_1 0 rfl rfl)
theorem dX1_byteAt_25 : decode cX1_byteAt 25 = .ok (.iadd, 1) := dk_96 (dk_at dksX1_byteAt_1 3 rfl rfl)
theorem dX1_byteAt_26 : decode cX1_byteAt 26 = .ok (.iaload, 1) := dk_46 (dk_at dksX1_byteAt_1 4 rfl rfl)
theorem dX1_byteAt_27 : decode cX1_byteAt 27 = .ok (.goto 6, 3) := dk_167 0 6 (dk_at dksX1_byteAt_1 5 rfl rfl)
theorem dX1_byteAt_30 : decode cX1_byteAt 30 = .ok (.sipush (-1000), 3) := dk_17 252 24 (dk_at dksX1_byteAt_1 8 rfl rfl)
theorem dX1_byteAt_33 : decode cX1_byteAt 33 = .ok (.ireturn, 1) := dk_172 (dk_at dksX1_byteAt_1 11 rfl rfl)
abbrev cX1_takesQuestion : ByteArray := prog_10_method_20_code
def yX1_takesQuestion : MethodName := ⟨RX1, "takesQuestion", "(I)Z"⟩
def dkwX1_takesQuestion_4 : List UInt8 := [153, 0, 22, 42, 27, 16, 52, 28, 96, 4, 16, 9, 182, 0, 95, 153, 0, 7, 4, 167, 0, 4, 3, 172]
abbrev dktX1_takesQuestion_4 : List UInt8 := dkwX1_takesQuestion_4 ++ []
def dkwX1_takesQuestion_3 : List UInt8 := [153, 0, 45, 42, 27, 16, 45, 28, 96, 42, 180, 0, 39, 16, 38, 28, 96, 46, 16, 9, 182, 0, 95]
abbrev dktX1_takesQuestion_3 : List UInt8 := dkwX1_takesQuestion_3 ++ dktX1_takesQuestion_4
def dkwX1_takesQuestion_2 : List UInt8 := [28, 96, 3, 8, 182, 0, 95, 153, 0, 60, 42, 27, 16, 38, 28, 96, 3, 16, 9, 182, 0, 95]
abbrev dktX1_takesQuestion_2 : List UInt8 := dkwX1_takesQuestion_2 ++ dktX1_takesQuestion_3
def dkwX1_takesQuestion_1 : List UInt8 := [42, 89, 180, 0, 86, 4, 96, 181, 0, 86, 42, 180, 0, 39, 4, 92, 46, 4, 96, 79, 42, 27, 16, 31]
abbrev dktX1_takesQuestion_1 : List UInt8 := dkwX1_takesQuestion_1 ++ dktX1_takesQuestion_2
def dkwX1_takesQuestion_0 : List UInt8 := [42, 180, 0, 39, 4, 46, 61, 42, 180, 0, 39, 3, 46, 153, 0, 9, 28, 16, 7, 160, 0, 5, 3, 172]
abbrev dktX1_takesQuestion_0 : List UInt8 := dkwX1_takesQuestion_0 ++ dktX1_takesQuestion_1
theorem dksX1_takesQuestion_0 : cX1_takesQuestion.data.toList.drop 0 = dktX1_takesQuestion_0 := by decide +kernel
theorem dksX1_takesQuestion_1 : cX1_takesQuestion.data.toList.drop 24 = dktX1_takesQuestion_1 := dk_seg dksX1_takesQuestion_0 24 rfl rfl
theorem dksX1_takesQuestion_2 : cX1_takesQuestion.data.toList.drop 48 = dktX1_takesQuestion_2 := dk_seg dksX1_takesQuestion_1 24 rfl rfl
theorem dksX1_takesQuestion_3 : cX1_takesQuestion.data.toList.drop 70 = dktX1_takesQuestion_3 := dk_seg dksX1_takesQuestion_2 22 rfl rfl
theorem dksX1_takesQuestion_4 : cX1_takesQuestion.data.toList.drop 93 = dktX1_takesQuestion_4 := dk_seg dksX1_takesQuestion_3 23 rfl rfl
theorem dX1_takesQuestion_0 : decode cX1_takesQuestion 0 = .ok (.aload_n 0, 1) := dk_42 (dk_at dksX1_takesQuestion_0 0 rfl rfl)
theorem dX1_takesQuestion_1 : decode cX1_takesQuestion 1 = .ok (.getfield 39, 3) := dk_180 0 39 (dk_at dksX1_takesQuestion_0 1 rfl rfl)
theorem dX1_takesQuestion_4 : decode cX1_takesQuestion 4 = .ok (.iconst 1, 1) := dk_4 (dk_at dksX1_takesQuestion_0 4 rfl rfl)
theorem dX1_takesQuestion_5 : decode cX1_takesQuestion 5 = .ok (.iaload, 1) := dk_46 (dk_at dksX1_takesQuestion_0 5 rfl rfl)
theorem dX1_takesQuestion_6 : decode cX1_takesQuestion 6 = .ok (.istore_n 2, 1) := dk_61 (dk_at dksX1_takesQuestion_0 6 rfl rfl)
theorem dX1_takesQuestion_7 : decode cX1_takesQuestion 7 = .ok (.aload_n 0, 1) := dk_42 (dk_at dksX1_takesQuestion_0 7 rfl rfl)
theorem dX1_takesQuestion_8 : decode cX1_takesQuestion 8 = .ok (.getfield 39, 3) := dk_180 0 39 (dk_at dksX1_takesQuestion_0 8 rfl rfl)
theorem dX1_takesQuestion_11 : decode cX1_takesQuestion 11 = .ok (.iconst 0, 1) := dk_3 (dk_at dksX1_takesQuestion_0 11 rfl rfl)
theorem dX1_takesQuestion_12 : decode cX1_takesQuestion 12 = .ok (.iaload, 1) := dk_46 (dk_at dksX1_takesQuestion_0 12 rfl rfl)
theorem dX1_takesQuestion_13 : decode cX1_takesQuestion 13 = .ok (.ifCond .eq 9, 3) := dk_153 0 9 (dk_at dksX1_takesQuestion_0 13 rfl rfl)
theorem dX1_takesQuestion_16 : decode cX1_takesQuestion 16 = .ok (.iload_n 2, 1) := dk_28 (dk_at dksX1_takesQuestion_0 16 rfl rfl)
theorem dX1_takesQuestion_17 : decode cX1_takesQuestion 17 = .ok (.bipush 7, 2) := dk_16 7 (dk_at dksX1_takesQuestion_0 17 rfl rfl)
theorem dX1_takesQuestion_19 : decode cX1_takesQuestion 19 = .ok (.if_icmp .ne 5, 3) := dk_160 0 5 (dk_at dksX1_takesQuestion_0 19 rfl rfl)
theorem dX1_takesQuestion_22 : decode cX1_takesQuestion 22 = .ok (.iconst 0, 1) := dk_3 (dk_at dksX1_takesQuestion_0 22 rfl rfl)
theorem dX1_takesQuestion_23 : decode cX1_takesQuestion 23 = .ok (.ireturn, 1) := dk_172 (dk_at dksX1_takesQuestion_0 23 rfl rfl)
theorem dX1_takesQuestion_24 : decode cX1_takesQuestion 24 = .ok (.aload_n 0, 1) := dk_42 (dk_at dksX1_takesQuestion_1 0 rfl rfl)
theorem dX1_takesQuestion_25 : decode cX1_takesQuestion 25 = .ok (.dup, 1) := dk_89 (dk_at dksX1_takesQuestion_1 1 rfl rfl)
theorem dX1_takesQuestion_26 : decode cX1_takesQuestion 26 = .ok (.getfield 86, 3) := dk_180 0 86 (dk_at dksX1_takesQuestion_1 2 rfl rfl)
theorem dX1_takesQuestion_29 : decode cX1_takesQuestion 29 = .ok (.iconst 1, 1) := dk_4 (dk_at dksX1_takesQuestion_1 5 rfl rfl)
theorem dX1_takesQuestion_30 : decode cX1_takesQuestion 30 = .ok (.iadd, 1) := dk_96 (dk_at dksX1_takesQuestion_1 6 rfl rfl)
theorem dX1_takesQuestion_31 : decode cX1_takesQuestion 31 = .ok (.putfield 86, 3) := dk_181 0 86 (dk_at dksX1_takesQuestion_1 7 rfl rfl)
theorem dX1_takesQuestion_34 : decode cX1_takesQuestion 34 = .ok (.aload_n 0, 1) := dk_42 (dk_at dksX1_takesQuestion_1 10 rfl rfl)
theorem dX1_takesQuestion_35 : decode cX1_takesQuestion 35 = .ok (.getfield 39, 3) := dk_180 0 39 (dk_at dksX1_takesQuestion_1 11 rfl rfl)
theorem dX1_takesQuestion_38 : decode cX1_takesQuestion 38 = .ok (.iconst 1, 1) := dk_4 (dk_at dksX1_takesQuestion_1 14 rfl rfl)
theorem dX1_takesQuestion_39 : decode cX1_takesQuestion 39 = .ok (.dup2, 1) := dk_92 (dk_at dksX1_takesQuestion_1 15 rfl rfl)
theorem dX1_takesQuestion_40 : decode cX1_takesQuestion 40 = .ok (.iaload, 1) := dk_46 (dk_at dksX1_takesQuestion_1 16 rfl rfl)
theorem dX1_takesQuestion_41 : decode cX1_takesQuestion 41 = .ok (.iconst 1, 1) := dk_4 (dk_at dksX1_takesQuestion_1 17 rfl rfl)
theorem dX1_takesQuestion_42 : decode cX1_takesQuestion 42 = .ok (.iadd, 1) := dk_96 (dk_at dksX1_takesQuestion_1 18 rfl rfl)
theorem dX1_takesQuestion_43 : decode cX1_takesQuestion 43 = .ok (.iastore, 1) := dk_79 (dk_at dksX1_takesQuestion_1 19 rfl rfl)
theorem dX1_takesQuestion_44 : decode cX1_takesQuestion 44 = .ok (.aload_n 0, 1) := dk_42 (dk_at dksX1_takesQuestion_1 20 rfl rfl)
theorem dX1_takesQuestion_45 : decode cX1_takesQuestion 45 = .ok (.iload_n 1, 1) := dk_27 (dk_at dksX1_takesQuestion_1 21 rfl rfl)
theorem dX1_takesQuestion_46 : decode cX1_takesQuestion 46 = .ok (.bipush 31, 2) := dk_16 31 (dk_at dksX1_takesQuestion_1 22 rfl rfl)
theorem dX1_takesQuestion_48 : decode cX1_takesQuestion 48 = .ok (.iload_n 2, 1) := dk_28 (dk_at dksX1_takesQuestion_2 0 rfl rfl)
theorem dX1_takesQuestion_49 : decode cX1_takesQuestion 49 = .ok (.iadd, 1) := dk_96 (dk_at dksX1_takesQuestion_2 1 rfl rfl)
theorem dX1_takesQuestion_50 : decode cX1_takesQuestion 50 = .ok (.iconst 0, 1) := dk_3 (dk_at dksX1_takesQuestion_2 2 rfl rfl)
theorem dX1_takesQuestion_51 : decode cX1_takesQuestion 51 = .ok (.iconst 5, 1) := dk_8 (dk_at dksX1_takesQuestion_2 3 rfl rfl)
theorem dX1_takesQuestion_52 : decode cX1_takesQuestion 52 = .ok (.invokevirtual 95, 3) := dk_182 0 95 (dk_at dksX1_takesQuestion_2 4 rfl rfl)
theorem dX1_takesQuestion_55 : decode cX1_takesQuestion 55 = .ok (.ifCond .eq 60, 3) := dk_153 0 60 (dk_at dksX1_takesQuestion_2 7 rfl rfl)
theorem dX1_takesQuestion_58 : decode cX1_takesQuestion 58 = .ok (.aload_n 0, 1) := dk_42 (dk_at dksX1_takesQuestion_2 10 rfl rfl)
theorem dX1_takesQuestion_59 : decode cX1_takesQuestion 59 = .ok (.iload_n 1, 1) := dk_27 (dk_at dksX1_takesQuestion_2 11 rfl rfl)
theorem dX1_takesQuestion_60 : decode cX1_takesQuestion 60 = .ok (.bipush 38, 2) := dk_16 38 (dk_at dksX1_takesQuestion_2 12 rfl rfl)
theorem dX1_takesQuestion_62 : decode cX1_takesQuestion 62 = .ok (.iload_n 2, 1) := dk_28 (dk_at dksX1_takesQuestion_2 14 rfl rfl)
theorem dX1_takesQuestion_63 : decode cX1_takesQuestion 63 = .ok (.iadd, 1) := dk_96 (dk_at dksX1_takesQuestion_2 15 rfl rfl)
theorem dX1_takesQuestion_64 : decode cX1_takesQuestion 64 = .ok (.iconst 0, 1) := dk_3 (dk_at dksX1_takesQuestion_2 16 rfl rfl)
theorem dX1_takesQuestion_65 : decode cX1_takesQuestion 65 = .ok (.bipush 9, 2) := dk_16 9 (dk_at dksX1_takesQuestion_2 17 rfl rfl)
theorem dX1_takesQuestion_67 : decode cX1_takesQuestion 67 = .ok (.invokevirtual 95, 3) := dk_182 0 95 (dk_at dksX1_takesQuestion_2 19 rfl rfl)
theorem dX1_takesQuestion_70 : decode cX1_takesQuestion 70 = .ok (.ifCond .eq 45, 3) := dk_153 0 45 (dk_at dksX1_takesQuestion_3 0 rfl rfl)
theorem dX1_takesQuestion_73 : decode cX1_takesQuestion 73 = .ok (.aload_n 0, 1) := dk_42 (dk_at dksX1_takesQuestion_3 3 rfl rfl)
theorem dX1_takesQuestion_74 : decode cX1_takesQuestion 74 = .ok (.iload_n 1, 1) := dk_27 (dk_at dksX1_takesQuestion_3 4 rfl rfl)
theorem dX1_takesQuestion_75 : decode cX1_takesQuestion 75 = .ok (.bipush 45, 2) := dk_16 45 (dk_at dksX1_takesQuestion_3 5 rfl rfl)
theorem dX1_takesQuestion_77 : decode cX1_takesQuestion 77 = .ok (.iload_n 2, 1) := dk_28 (dk_at dksX1_takesQuestion_3 7 rfl rfl)
theorem dX1_takesQuestion_78 : decode cX1_takesQuestion 78 = .ok (.iadd, 1) := dk_96 (dk_at dksX1_takesQuestion_3 8 rfl rfl)
theorem dX1_takesQuestion_79 : decode cX1_takesQuestion 79 = .ok (.aload_n 0, 1) := dk_42 (dk_at dksX1_takesQuestion_3 9 rfl rfl)
theorem dX1_takesQuestion_80 : decode cX1_takesQuestion 80 = .ok (.getfield 39, 3) := dk_180 0 39 (dk_at dksX1_takesQuestion_3 10 rfl rfl)
theorem dX1_takesQuestion_83 : decode cX1_takesQuestion 83 = .ok (.bipush 38, 2) := dk_16 38 (dk_at dksX1_takesQuestion_3 13 rfl rfl)
theorem dX1_takesQuestion_85 : decode cX1_takesQuestion 85 = .ok (.iload_n 2, 1) := dk_28 (dk_at dksX1_takesQuestion_3 15 rfl rfl)
theorem dX1_takesQuestion_86 : decode cX1_takesQuestion 86 = .ok (.iadd, 1) := dk_96 (dk_at dksX1_takesQuestion_3 16 rfl rfl)
theorem dX1_takesQuestion_87 : decode cX1_takesQuestion 87 = .ok (.iaload, 1) := dk_46 (dk_at dksX1_takesQuestion_3 17 rfl rfl)
theorem dX1_takesQuestion_88 : decode cX1_takesQuestion 88 = .ok (.bipush 9, 2) := dk_16 9 (dk_at dksX1_takesQuestion_3 18 rfl rfl)
theorem dX1_takesQuestion_90 : decode cX1_takesQuestion 90 = .ok (.invokevirtual 95, 3) := dk_182 0 95 (dk_at dksX1_takesQuestion_3 20 rfl rfl)
theorem dX1_takesQuestion_93 : decode cX1_takesQuestion 93 = .ok (.ifCond .eq 22, 3) := dk_153 0 22 (dk_at dksX1_takesQuestion_4 0 rfl rfl)
theorem dX1_takesQuestion_96 : decode cX1_takesQuestion 96 = .ok (.aload_n 0, 1) := dk_42 (dk_at dksX1_takesQuestion_4 3 rfl rfl)
theorem dX1_takesQuestion_97 : decode cX1_takesQuestion 97 = .ok (.iload_n 1, 1) := dk_27 (dk_at dksX1_takesQuestion_4 4 rfl rfl)
theorem dX1_takesQuestion_98 : decode cX1_takesQuestion 98 = .ok (.bipush 52, 2) := dk_16 52 (dk_at dksX1_takesQuestion_4 5 rfl rfl)
theorem dX1_takesQuestion_100 : decode cX1_takesQuestion 100 = .ok (.iload_n 2, 1) := dk_28 (dk_at dksX1_takesQuestion_4 7 rfl rfl)
theorem dX1_takesQuestion_101 : decode cX1_takesQuestion 101 = .ok (.iadd, 1) := dk_96 (dk_at dksX1_takesQuestion_4 8 rfl rfl)
theorem dX1_takesQuestion_102 : decode cX1_takesQuestion 102 = .ok (.iconst 1, 1) := dk_4 (dk_at dksX1_takesQuestion_4 9 rfl rfl)
theorem dX1_takesQuestion_103 : decode cX1_takesQuestion 103 = .ok (.bipush 9, 2) := dk_16 9 (dk_at dksX1_takesQuestion_4 10 rfl rfl)
theorem dX1_takesQuestion_105 : decode cX1_takesQuestion 105 = .ok (.invokevirtual 95, 3) := dk_182 0 95 (dk_at dksX1_takesQuestion_4 12 rfl rfl)
theorem dX1_takesQuestion_108 : decode cX1_takesQuestion 108 = .ok (.ifCond .eq 7, 3) := dk_153 0 7 (dk_at dksX1_takesQuestion_4 15 rfl rfl)
theorem dX1_takesQuestion_111 : decode cX1_takesQuestion 111 = .ok (.iconst 1, 1) := dk_4 (dk_at dksX1_takesQuestion_4 18 rfl rfl)
theorem dX1_takesQuestion_112 : decode cX1_takesQuestion 112 = .ok (.goto 4, 3) := dk_167 0 4 (dk_at dksX1_takesQuestion_4 19 rfl rfl)
theorem dX1_takesQuestion_115 : decode cX1_takesQuestion 115 = .ok (.iconst 0, 1) := dk_3 (dk_at dksX1_takesQuestion_4 22 rfl rfl)
theorem dX1_takesQuestion_116 : decode cX1_takesQuestion 116 = .ok (.ireturn, 1) := dk_172 (dk_at dksX1_takesQuestion_4 23 rfl rfl)
abbrev cX1_takes : ByteArray := prog_10_method_18_code
def yX1_takes : MethodName := ⟨RX1, "takes", "(IIII)Z"⟩
def dkwX1_takes_1 : List UInt8 := [3, 172, 42, 180, 0, 39, 28, 21, 5, 79, 42, 89, 180, 0, 86, 4, 96, 181, 0, 86, 4, 172]
abbrev dktX1_takes_1 : List UInt8 := dkwX1_takes_1 ++ []
def dkwX1_takes_0 : List UInt8 := [42, 27, 182, 0, 89, 16, 48, 100, 54, 5, 21, 5, 133, 29, 133, 21, 4, 133, 184, 0, 66, 154, 0, 5]
abbrev dktX1_takes_0 : List UInt8 := dkwX1_takes_0 ++ dktX1_takes_1
theorem dksX1_takes_0 : cX1_takes.data.toList.drop 0 = dktX1_takes_0 := by decide +kernel
theorem dksX1_takes_1 : cX1_takes.data.toList.drop 24 = dktX1_takes_1 := dk_seg dksX1_takes_0 24 rfl rfl
theorem dX1_takes_0 : decode cX1_takes 0 = .ok (.aload_n 0, 1) := dk_42 (dk_at dksX1_takes_0 0 rfl rfl)
theorem dX1_takes_1 : decode cX1_takes 1 = .ok (.iload_n 1, 1) := dk_27 (dk_at dksX1_takes_0 1 rfl rfl)
theorem dX1_takes_2 : decode cX1_takes 2 = .ok (.invokevirtual 89, 3) := dk_182 0 89 (dk_at dksX1_takes_0 2 rfl rfl)
theorem dX1_takes_5 : decode cX1_takes 5 = .ok (.bipush 48, 2) := dk_16 48 (dk_at dksX1_takes_0 5 rfl rfl)
theorem dX1_takes_7 : decode cX1_takes 7 = .ok (.isub, 1) := dk_100 (dk_at dksX1_takes_0 7 rfl rfl)
theorem dX1_takes_8 : decode cX1_takes 8 = .ok (.istore 5, 2) := dk_54 5 (dk_at dksX1_takes_0 8 rfl rfl)
theorem dX1_takes_10 : decode cX1_takes 10 = .ok (.iload 5, 2) := dk_21 5 (dk_at dksX1_takes_0 10 rfl rfl)
theorem dX1_takes_12 : decode cX1_takes 12 = .ok (.i2l, 1) := dk_133 (dk_at dksX1_takes_0 12 rfl rfl)
theorem dX1_takes_13 : decode cX1_takes 13 = .ok (.iload_n 3, 1) := dk_29 (dk_at dksX1_takes_0 13 rfl rfl)
theorem dX1_takes_14 : decode cX1_takes 14 = .ok (.i2l, 1) := dk_133 (dk_at dksX1_takes_0 14 rfl rfl)
theorem dX1_takes_15 : decode cX1_takes 15 = .ok (.iload 4, 2) := dk_21 4 (dk_at dksX1_takes_0 15 rfl rfl)
theorem dX1_takes_17 : decode cX1_takes 17 = .ok (.i2l, 1) := dk_133 (dk_at dksX1_takes_0 17 rfl rfl)
theorem dX1_takes_18 : decode cX1_takes 18 = .ok (.invokestatic 66, 3) := dk_184 0 66 (dk_at dksX1_takes_0 18 rfl rfl)
theorem dX1_takes_21 : decode cX1_takes 21 = .ok (.ifCond .ne 5, 3) := dk_154 0 5 (dk_at dksX1_takes_0 21 rfl rfl)
theorem dX1_takes_24 : decode cX1_takes 24 = .ok (.iconst 0, 1) := dk_3 (dk_at dksX1_takes_1 0 rfl rfl)
theorem dX1_takes_25 : decode cX1_takes 25 = .ok (.ireturn, 1) := dk_172 (dk_at dksX1_takes_1 1 rfl rfl)
theorem dX1_takes_26 : decode cX1_takes 26 = .ok (.aload_n 0, 1) := dk_42 (dk_at dksX1_takes_1 2 rfl rfl)
theorem dX1_takes_27 : decode cX1_takes 27 = .ok (.getfield 39, 3) := dk_180 0 39 (dk_at dksX1_takes_1 3 rfl rfl)
theorem dX1_takes_30 : decode cX1_takes 30 = .ok (.iload_n 2, 1) := dk_28 (dk_at dksX1_takes_1 6 rfl rfl)
theorem dX1_takes_31 : decode cX1_takes 31 = .ok (.iload 5, 2) := dk_21 5 (dk_at dksX1_takes_1 7 rfl rfl)
theorem dX1_takes_33 : decode cX1_takes 33 = .ok (.iastore, 1) := dk_79 (dk_at dksX1_takes_1 9 rfl rfl)
theorem dX1_takes_34 : decode cX1_takes 34 = .ok (.aload_n 0, 1) := dk_42 (dk_at dksX1_takes_1 10 rfl rfl)
theorem dX1_takes_35 : decode cX1_takes 35 = .ok (.dup, 1) := dk_89 (dk_at dksX1_takes_1 11 rfl rfl)
theorem dX1_takes_36 : decode cX1_takes 36 = .ok (.getfield 86, 3) := dk_180 0 86 (dk_at dksX1_takes_1 12 rfl rfl)
theorem dX1_takes_39 : decode cX1_takes 39 = .ok (.iconst 1, 1) := dk_4 (dk_at dksX1_takes_1 15 rfl rfl)
theorem dX1_takes_40 : decode cX1_takes 40 = .ok (.iadd, 1) := dk_96 (dk_at dksX1_takes_1 16 rfl rfl)
theorem dX1_takes_41 : decode cX1_takes 41 = .ok (.putfield 86, 3) := dk_181 0 86 (dk_at dksX1_takes_1 17 rfl rfl)
theorem dX1_takes_44 : decode cX1_takes 44 = .ok (.iconst 1, 1) := dk_4 (dk_at dksX1_takes_1 20 rfl rfl)
theorem dX1_takes_45 : decode cX1_takes 45 = .ok (.ireturn, 1) := dk_172 (dk_at dksX1_takes_1 21 rfl rfl)
abbrev cX1_takesCard : ByteArray := prog_10_method_19_code
def yX1_takesCard : MethodName := ⟨RX1, "takesCard", "(I)Z"⟩
def dkwX1_takesCard_4 : List UInt8 := [42, 27, 16, 24, 28, 96, 3, 16, 9, 182, 0, 95, 153, 0, 7, 4, 167, 0, 4, 3, 172]
abbrev dktX1_takesCard_4 : List UInt8 := dkwX1_takesCard_4 ++ []
def dkwX1_takesCard_3 : List UInt8 := [96, 3, 16, 9, 182, 0, 95, 153, 0, 36, 42, 27, 16, 17, 28, 96, 3, 6, 182, 0, 95, 153, 0, 22]
abbrev dktX1_takesCard_3 : List UInt8 := dkwX1_takesCard_3 ++ dktX1_takesCard_4
def dkwX1_takesCard_2 : List UInt8 := [42, 180, 0, 39, 6, 28, 96, 29, 79, 42, 180, 0, 39, 3, 92, 46, 4, 96, 79, 42, 27, 16, 10, 28]
abbrev dktX1_takesCard_2 : List UInt8 := dkwX1_takesCard_2 ++ dktX1_takesCard_3
def dkwX1_takesCard_1 : List UInt8 := [159, 0, 12, 42, 180, 0, 39, 4, 46, 158, 0, 5, 3, 172, 42, 89, 180, 0, 86, 4, 96, 181, 0, 86]
abbrev dktX1_takesCard_1 : List UInt8 := dkwX1_takesCard_1 ++ dktX1_takesCard_2
def dkwX1_takesCard_0 : List UInt8 := [42, 180, 0, 39, 3, 46, 61, 42, 27, 182, 0, 89, 184, 0, 92, 62, 29, 155, 0, 18, 28, 16, 7]
abbrev dktX1_takesCard_0 : List UInt8 := dkwX1_takesCard_0 ++ dktX1_takesCard_1
theorem dksX1_takesCard_0 : cX1_takesCard.data.toList.drop 0 = dktX1_takesCard_0 := by decide +kernel
theorem dksX1_takesCard_1 : cX1_takesCard.data.toList.drop 23 = dktX1_takesCard_1 := dk_seg dksX1_takesCard_0 23 rfl rfl
theorem dksX1_takesCard_2 : cX1_takesCard.data.toList.drop 47 = dktX1_takesCard_2 := dk_seg dksX1_takesCard_1 24 rfl rfl
theorem dksX1_takesCard_3 : cX1_takesCard.data.toList.drop 71 = dktX1_takesCard_3 := dk_seg dksX1_takesCard_2 24 rfl rfl
theorem dksX1_takesCard_4 : cX1_takesCard.data.toList.drop 95 = dktX1_takesCard_4 := dk_seg dksX1_takesCard_3 24 rfl rfl
theorem dX1_takesCard_0 : decode cX1_takesCard 0 = .ok (.aload_n 0, 1) := dk_42 (dk_at dksX1_takesCard_0 0 rfl rfl)
theorem dX1_takesCard_1 : decode cX1_takesCard 1 = .ok (.getfield 39, 3) := dk_180 0 39 (dk_at dksX1_takesCard_0 1 rfl rfl)
theorem dX1_takesCard_4 : decode cX1_takesCard 4 = .ok (.iconst 0, 1) := dk_3 (dk_at dksX1_takesCard_0 4 rfl rfl)
theorem dX1_takesCard_5 : decode cX1_takesCard 5 = .ok (.iaload, 1) := dk_46 (dk_at dksX1_takesCard_0 5 rfl rfl)
theorem dX1_takesCard_6 : decode cX1_takesCard 6 = .ok (.istore_n 2, 1) := dk_61 (dk_at dksX1_takesCard_0 6 rfl rfl)
theorem dX1_takesCard_7 : decode cX1_takesCard 7 = .ok (.aload_n 0, 1) := dk_42 (dk_at dksX1_takesCard_0 7 rfl rfl)
theorem dX1_takesCard_8 : decode cX1_takesCard 8 = .ok (.iload_n 1, 1) := dk_27 (dk_at dksX1_takesCard_0 8 rfl rfl)
theorem dX1_takesCard_9 : decode cX1_takesCard 9 = .ok (.invokevirtual 89, 3) := dk_182 0 89 (dk_at dksX1_takesCard_0 9 rfl rfl)
theorem dX1_takesCard_12 : decode cX1_takesCard 12 = .ok (.invokestatic 92, 3) := dk_184 0 92 (dk_at dksX1_takesCard_0 12 rfl rfl)
theorem dX1_takesCard_15 : decode cX1_takesCard 15 = .ok (.istore_n 3, 1) := dk_62 (dk_at dksX1_takesCard_0 15 rfl rfl)
theorem dX1_takesCard_16 : decode cX1_takesCard 16 = .ok (.iload_n 3, 1) := dk_29 (dk_at dksX1_takesCard_0 16 rfl rfl)
theorem dX1_takesCard_17 : decode cX1_takesCard 17 = .ok (.ifCond .lt 18, 3) := dk_155 0 18 (dk_at dksX1_takesCard_0 17 rfl rfl)
theorem dX1_takesCard_20 : decode cX1_takesCard 20 = .ok (.iload_n 2, 1) := dk_28 (dk_at dksX1_takesCard_0 20 rfl rfl)
theorem dX1_takesCard_21 : decode cX1_takesCard 21 = .ok (.bipush 7, 2) := dk_16 7 (dk_at dksX1_takesCard_0 21 rfl rfl)
theorem dX1_takesCard_23 : decode cX1_takesCard 23 = .ok (.if_icmp .eq 12, 3) := dk_159 0 12 (dk_at dksX1_takesCard_1 0 rfl rfl)
theorem dX1_takesCard_26 : decode cX1_takesCard 26 = .ok (.aload_n 0, 1) := dk_42 (dk_at dksX1_takesCard_1 3 rfl rfl)
theorem dX1_takesCard_27 : decode cX1_takesCard 27 = .ok (.getfield 39, 3) := dk_180 0 39 (dk_at dksX1_takesCard_1 4 rfl rfl)
theorem dX1_takesCard_30 : decode cX1_takesCard 30 = .ok (.iconst 1, 1) := dk_4 (dk_at dksX1_takesCard_1 7 rfl rfl)
theorem dX1_takesCard_31 : decode cX1_takesCard 31 = .ok (.iaload, 1) := dk_46 (dk_at dksX1_takesCard_1 8 rfl rfl)
theorem dX1_takesCard_32 : decode cX1_takesCard 32 = .ok (.ifCond .le 5, 3) := dk_158 0 5 (dk_at dksX1_takesCard_1 9 rfl rfl)
theorem dX1_takesCard_35 : decode cX1_takesCard 35 = .ok (.iconst 0, 1) := dk_3 (dk_at dksX1_takesCard_1 12 rfl rfl)
theorem dX1_takesCard_36 : decode cX1_takesCard 36 = .ok (.ireturn, 1) := dk_172 (dk_at dksX1_takesCard_1 13 rfl rfl)
theorem dX1_takesCard_37 : decode cX1_takesCard 37 = .ok (.aload_n 0, 1) := dk_42 (dk_at dksX1_takesCard_1 14 rfl rfl)
theorem dX1_takesCard_38 : decode cX1_takesCard 38 = .ok (.dup, 1) := dk_89 (dk_at dksX1_takesCard_1 15 rfl rfl)
theorem dX1_takesCard_39 : decode cX1_takesCard 39 = .ok (.getfield 86, 3) := dk_180 0 86 (dk_at dksX1_takesCard_1 16 rfl rfl)
theorem dX1_takesCard_42 : decode cX1_takesCard 42 = .ok (.iconst 1, 1) := dk_4 (dk_at dksX1_takesCard_1 19 rfl rfl)
theorem dX1_takesCard_43 : decode cX1_takesCard 43 = .ok (.iadd, 1) := dk_96 (dk_at dksX1_takesCard_1 20 rfl rfl)
theorem dX1_takesCard_44 : decode cX1_takesCard 44 = .ok (.putfield 86, 3) := dk_181 0 86 (dk_at dksX1_takesCard_1 21 rfl rfl)
theorem dX1_takesCard_47 : decode cX1_takesCard 47 = .ok (.aload_n 0, 1) := dk_42 (dk_at dksX1_takesCard_2 0 rfl rfl)
theorem dX1_takesCard_48 : decode cX1_takesCard 48 = .ok (.getfield 39, 3) := dk_180 0 39 (dk_at dksX1_takesCard_2 1 rfl rfl)
theorem dX1_takesCard_51 : decode cX1_takesCard 51 = .ok (.iconst 3, 1) := dk_6 (dk_at dksX1_takesCard_2 4 rfl rfl)
theorem dX1_takesCard_52 : decode cX1_takesCard 52 = .ok (.iload_n 2, 1) := dk_28 (dk_at dksX1_takesCard_2 5 rfl rfl)
theorem dX1_takesCard_53 : decode cX1_takesCard 53 = .ok (.iadd, 1) := dk_96 (dk_at dksX1_takesCard_2 6 rfl rfl)
theorem dX1_takesCard_54 : decode cX1_takesCard 54 = .ok (.iload_n 3, 1) := dk_29 (dk_at dksX1_takesCard_2 7 rfl rfl)
theorem dX1_takesCard_55 : decode cX1_takesCard 55 = .ok (.iastore, 1) := dk_79 (dk_at dksX1_takesCard_2 8 rfl rfl)
theorem dX1_takesCard_56 : decode cX1_takesCard 56 = .ok (.aload_n 0, 1) := dk_42 (dk_at dksX1_takesCard_2 9 rfl rfl)
theorem dX1_takesCard_57 : decode cX1_takesCard 57 = .ok (.getfield 39, 3) := dk_180 0 39 (dk_at dksX1_takesCard_2 10 rfl rfl)
theorem dX1_takesCard_60 : decode cX1_takesCard 60 = .ok (.iconst 0, 1) := dk_3 (dk_at dksX1_takesCard_2 13 rfl rfl)
theorem dX1_takesCard_61 : decode cX1_takesCard 61 = .ok (.dup2, 1) := dk_92 (dk_at dksX1_takesCard_2 14 rfl rfl)
theorem dX1_takesCard_62 : decode cX1_takesCard 62 = .ok (.iaload, 1) := dk_46 (dk_at dksX1_takesCard_2 15 rfl rfl)
theorem dX1_takesCard_63 : decode cX1_takesCard 63 = .ok (.iconst 1, 1) := dk_4 (dk_at dksX1_takesCard_2 16 rfl rfl)
theorem dX1_takesCard_64 : decode cX1_takesCard 64 = .ok (.iadd, 1) := dk_96 (dk_at dksX1_takesCard_2 17 rfl rfl)
theorem dX1_takesCard_65 : decode cX1_takesCard 65 = .ok (.iastore, 1) := dk_79 (dk_at dksX1_takesCard_2 18 rfl rfl)
theorem dX1_takesCard_66 : decode cX1_takesCard 66 = .ok (.aload_n 0, 1) := dk_42 (dk_at dksX1_takesCard_2 19 rfl rfl)
theorem dX1_takesCard_67 : decode cX1_takesCard 67 = .ok (.iload_n 1, 1) := dk_27 (dk_at dksX1_takesCard_2 20 rfl rfl)
theorem dX1_takesCard_68 : decode cX1_takesCard 68 = .ok (.bipush 10, 2) := dk_16 10 (dk_at dksX1_takesCard_2 21 rfl rfl)
theorem dX1_takesCard_70 : decode cX1_takesCard 70 = .ok (.iload_n 2, 1) := dk_28 (dk_at dksX1_takesCard_2 23 rfl rfl)
theorem dX1_takesCard_71 : decode cX1_takesCard 71 = .ok (.iadd, 1) := dk_96 (dk_at dksX1_takesCard_3 0 rfl rfl)
theorem dX1_takesCard_72 : decode cX1_takesCard 72 = .ok (.iconst 0, 1) := dk_3 (dk_at dksX1_takesCard_3 1 rfl rfl)
theorem dX1_takesCard_73 : decode cX1_takesCard 73 = .ok (.bipush 9, 2) := dk_16 9 (dk_at dksX1_takesCard_3 2 rfl rfl)
theorem dX1_takesCard_75 : decode cX1_takesCard 75 = .ok (.invokevirtual 95, 3) := dk_182 0 95 (dk_at dksX1_takesCard_3 4 rfl rfl)
theorem dX1_takesCard_78 : decode cX1_takesCard 78 = .ok (.ifCond .eq 36, 3) := dk_153 0 36 (dk_at dksX1_takesCard_3 7 rfl rfl)
theorem dX1_takesCard_81 : decode cX1_takesCard 81 = .ok (.aload_n 0, 1) := dk_42 (dk_at dksX1_takesCard_3 10 rfl rfl)
theorem dX1_takesCard_82 : decode cX1_takesCard 82 = .ok (.iload_n 1, 1) := dk_27 (dk_at dksX1_takesCard_3 11 rfl rfl)
theorem dX1_takesCard_83 : decode cX1_takesCard 83 = .ok (.bipush 17, 2) := dk_16 17 (dk_at dksX1_takesCard_3 12 rfl rfl)
theorem dX1_takesCard_85 : decode cX1_takesCard 85 = .ok (.iload_n 2, 1) := dk_28 (dk_at dksX1_takesCard_3 14 rfl rfl)
theorem dX1_takesCard_86 : decode cX1_takesCard 86 = .ok (.iadd, 1) := dk_96 (dk_at dksX1_takesCard_3 15 rfl rfl)
theorem dX1_takesCard_87 : decode cX1_takesCard 87 = .ok (.iconst 0, 1) := dk_3 (dk_at dksX1_takesCard_3 16 rfl rfl)
theorem dX1_takesCard_88 : decode cX1_takesCard 88 = .ok (.iconst 3, 1) := dk_6 (dk_at dksX1_takesCard_3 17 rfl rfl)
theorem dX1_takesCard_89 : decode cX1_takesCard 89 = .ok (.invokevirtual 95, 3) := dk_182 0 95 (dk_at dksX1_takesCard_3 18 rfl rfl)
theorem dX1_takesCard_92 : decode cX1_takesCard 92 = .ok (.ifCond .eq 22, 3) := dk_153 0 22 (dk_at dksX1_takesCard_3 21 rfl rfl)
theorem dX1_takesCard_95 : decode cX1_takesCard 95 = .ok (.aload_n 0, 1) := dk_42 (dk_at dksX1_takesCard_4 0 rfl rfl)
theorem dX1_takesCard_96 : decode cX1_takesCard 96 = .ok (.iload_n 1, 1) := dk_27 (dk_at dksX1_takesCard_4 1 rfl rfl)
theorem dX1_takesCard_97 : decode cX1_takesCard 97 = .ok (.bipush 24, 2) := dk_16 24 (dk_at dksX1_takesCard_4 2 rfl rfl)
theorem dX1_takesCard_99 : decode cX1_takesCard 99 = .ok (.iload_n 2, 1) := dk_28 (dk_at dksX1_takesCard_4 4 rfl rfl)
theorem dX1_takesCard_100 : decode cX1_takesCard 100 = .ok (.iadd, 1) := dk_96 (dk_at dksX1_takesCard_4 5 rfl rfl)
theorem dX1_takesCard_101 : decode cX1_takesCard 101 = .ok (.iconst 0, 1) := dk_3 (dk_at dksX1_takesCard_4 6 rfl rfl)
theorem dX1_takesCard_102 : decode cX1_takesCard 102 = .ok (.bipush 9, 2) := dk_16 9 (dk_at dksX1_takesCard_4 7 rfl rfl)
theorem dX1_takesCard_104 : decode cX1_takesCard 104 = .ok (.invokevirtual 95, 3) := dk_182 0 95 (dk_at dksX1_takesCard_4 9 rfl rfl)
theorem dX1_takesCard_107 : decode cX1_takesCard 107 = .ok (.ifCond .eq 7, 3) := dk_153 0 7 (dk_at dksX1_takesCard_4 12 rfl rfl)
theorem dX1_takesCard_110 : decode cX1_takesCard 110 = .ok (.iconst 1, 1) := dk_4 (dk_at dksX1_takesCard_4 15 rfl rfl)
theorem dX1_takesCard_111 : decode cX1_takesCard 111 = .ok (.goto 4, 3) := dk_167 0 4 (dk_at dksX1_takesCard_4 16 rfl rfl)
theorem dX1_takesCard_114 : decode cX1_takesCard 114 = .ok (.iconst 0, 1) := dk_3 (dk_at dksX1_takesCard_4 19 rfl rfl)
theorem dX1_takesCard_115 : decode cX1_takesCard 115 = .ok (.ireturn, 1) := dk_172 (dk_at dksX1_takesCard_4 20 rfl rfl)
abbrev cX1_kindOf : ByteArray := prog_10_method_16_code
def yX1_kindOf : MethodName := ⟨RX1, "kindOf", "(I)I"⟩
def dkwX1_kindOf_2 : List UInt8 := [167, 0, 14, 26, 16, 98, 160, 0, 7, 8, 167, 0, 4, 2, 172]
abbrev dktX1_kindOf_2 : List UInt8 := dkwX1_kindOf_2 ++ []
def dkwX1_kindOf_1 : List UInt8 := [160, 0, 7, 5, 167, 0, 34, 26, 16, 118, 160, 0, 7, 6, 167, 0, 24, 26, 16, 116, 160, 0, 7, 7]
abbrev dktX1_kindOf_1 : List UInt8 := dkwX1_kindOf_1 ++ dktX1_kindOf_2
def dkwX1_kindOf_0 : List UInt8 := [26, 16, 110, 160, 0, 7, 3, 167, 0, 54, 26, 16, 121, 160, 0, 7, 4, 167, 0, 44, 26, 16, 112]
abbrev dktX1_kindOf_0 : List UInt8 := dkwX1_kindOf_0 ++ dktX1_kindOf_1
theorem dksX1_kindOf_0 : cX1_kindOf.data.toList.drop 0 = dktX1_kindOf_0 := by decide +kernel
theorem dksX1_kindOf_1 : cX1_kindOf.data.toList.drop 23 = dktX1_kindOf_1 := dk_seg dksX1_kindOf_0 23 rfl rfl
theorem dksX1_kindOf_2 : cX1_kindOf.data.toList.drop 47 = dktX1_kindOf_2 := dk_seg dksX1_kindOf_1 24 rfl rfl
theorem dX1_kindOf_0 : decode cX1_kindOf 0 = .ok (.iload_n 0, 1) := dk_26 (dk_at dksX1_kindOf_0 0 rfl rfl)
theorem dX1_kindOf_1 : decode cX1_kindOf 1 = .ok (.bipush 110, 2) := dk_16 110 (dk_at dksX1_kindOf_0 1 rfl rfl)
theorem dX1_kindOf_3 : decode cX1_kindOf 3 = .ok (.if_icmp .ne 7, 3) := dk_160 0 7 (dk_at dksX1_kindOf_0 3 rfl rfl)
theorem dX1_kindOf_6 : decode cX1_kindOf 6 = .ok (.iconst 0, 1) := dk_3 (dk_at dksX1_kindOf_0 6 rfl rfl)
theorem dX1_kindOf_7 : decode cX1_kindOf 7 = .ok (.goto 54, 3) := dk_167 0 54 (dk_at dksX1_kindOf_0 7 rfl rfl)
theorem dX1_kindOf_10 : decode cX1_kindOf 10 = .ok (.iload_n 0, 1) := dk_26 (dk_at dksX1_kindOf_0 10 rfl rfl)
theorem dX1_kindOf_11 : decode cX1_kindOf 11 = .ok (.bipush 121, 2) := dk_16 121 (dk_at dksX1_kindOf_0 11 rfl rfl)
theorem dX1_kindOf_13 : decode cX1_kindOf 13 = .ok (.if_icmp .ne 7, 3) := dk_160 0 7 (dk_at dksX1_kindOf_0 13 rfl rfl)
theorem dX1_kindOf_16 : decode cX1_kindOf 16 = .ok (.iconst 1, 1) := dk_4 (dk_at dksX1_kindOf_0 16 rfl rfl)
theorem dX1_kindOf_17 : decode cX1_kindOf 17 = .ok (.goto 44, 3) := dk_167 0 44 (dk_at dksX1_kindOf_0 17 rfl rfl)
theorem dX1_kindOf_20 : decode cX1_kindOf 20 = .ok (.iload_n 0, 1) := dk_26 (dk_at dksX1_kindOf_0 20 rfl rfl)
theorem dX1_kindOf_21 : decode cX1_kindOf 21 = .ok (.bipush 112, 2) := dk_16 112 (dk_at dksX1_kindOf_0 21 rfl rfl)
theorem dX1_kindOf_23 : decode cX1_kindOf 23 = .ok (.if_icmp .ne 7, 3) := dk_160 0 7 (dk_at dksX1_kindOf_1 0 rfl rfl)
theorem dX1_kindOf_26 : decode cX1_kindOf 26 = .ok (.iconst 2, 1) := dk_5 (dk_at dksX1_kindOf_1 3 rfl rfl)
theorem dX1_kindOf_27 : decode cX1_kindOf 27 = .ok (.goto 34, 3) := dk_167 0 34 (dk_at dksX1_kindOf_1 4 rfl rfl)
theorem dX1_kindOf_30 : decode cX1_kindOf 30 = .ok (.iload_n 0, 1) := dk_26 (dk_at dksX1_kindOf_1 7 rfl rfl)
theorem dX1_kindOf_31 : decode cX1_kindOf 31 = .ok (.bipush 118, 2) := dk_16 118 (dk_at dksX1_kindOf_1 8 rfl rfl)
theorem dX1_kindOf_33 : decode cX1_kindOf 33 = .ok (.if_icmp .ne 7, 3) := dk_160 0 7 (dk_at dksX1_kindOf_1 10 rfl rfl)
theorem dX1_kindOf_36 : decode cX1_kindOf 36 = .ok (.iconst 3, 1) := dk_6 (dk_at dksX1_kindOf_1 13 rfl rfl)
theorem dX1_kindOf_37 : decode cX1_kindOf 37 = .ok (.goto 24, 3) := dk_167 0 24 (dk_at dksX1_kindOf_1 14 rfl rfl)
theorem dX1_kindOf_40 : decode cX1_kindOf 40 = .ok (.iload_n 0, 1) := dk_26 (dk_at dksX1_kindOf_1 17 rfl rfl)
theorem dX1_kindOf_41 : decode cX1_kindOf 41 = .ok (.bipush 116, 2) := dk_16 116 (dk_at dksX1_kindOf_1 18 rfl rfl)
theorem dX1_kindOf_43 : decode cX1_kindOf 43 = .ok (.if_icmp .ne 7, 3) := dk_160 0 7 (dk_at dksX1_kindOf_1 20 rfl rfl)
theorem dX1_kindOf_46 : decode cX1_kindOf 46 = .ok (.iconst 4, 1) := dk_7 (dk_at dksX1_kindOf_1 23 rfl rfl)
theorem dX1_kindOf_47 : decode cX1_kindOf 47 = .ok (.goto 14, 3) := dk_167 0 14 (dk_at dksX1_kindOf_2 0 rfl rfl)
theorem dX1_kindOf_50 : decode cX1_kindOf 50 = .ok (.iload_n 0, 1) := dk_26 (dk_at dksX1_kindOf_2 3 rfl rfl)
theorem dX1_kindOf_51 : decode cX1_kindOf 51 = .ok (.bipush 98, 2) := dk_16 98 (dk_at dksX1_kindOf_2 4 rfl rfl)
theorem dX1_kindOf_53 : decode cX1_kindOf 53 = .ok (.if_icmp .ne 7, 3) := dk_160 0 7 (dk_at dksX1_kindOf_2 6 rfl rfl)
theorem dX1_kindOf_56 : decode cX1_kindOf 56 = .ok (.iconst 5, 1) := dk_8 (dk_at dksX1_kindOf_2 9 rfl rfl)
theorem dX1_kindOf_57 : decode cX1_kindOf 57 = .ok (.goto 4, 3) := dk_167 0 4 (dk_at dksX1_kindOf_2 10 rfl rfl)
theorem dX1_kindOf_60 : decode cX1_kindOf 60 = .ok (.iconst (-1), 1) := dk_2 (dk_at dksX1_kindOf_2 13 rfl rfl)
theorem dX1_kindOf_61 : decode cX1_kindOf 61 = .ok (.ireturn, 1) := dk_172 (dk_at dksX1_kindOf_2 14 rfl rfl)
abbrev cX1_library : ByteArray := prog_10_method_24_code
def yX1_library : MethodName := ⟨RX1, "library", "(I)I"⟩
def dkwX1_library_3 : List UInt8 := [180, 0, 22, 3, 46, 172]
abbrev dktX1_library_3 : List UInt8 := dkwX1_library_3 ++ []
def dkwX1_library_2 : List UInt8 := [184, 0, 112, 3, 61, 28, 6, 162, 0, 16, 42, 180, 0, 28, 28, 3, 84, 132, 2, 1, 167, 255, 241, 42]
abbrev dktX1_library_2 : List UInt8 := dkwX1_library_2 ++ dktX1_library_3
def dkwX1_library_1 : List UInt8 := [42, 27, 182, 0, 109, 16, 247, 159, 0, 6, 16, 252, 172, 42, 180, 0, 39, 3, 42, 180, 0, 22, 3]
abbrev dktX1_library_1 : List UInt8 := dkwX1_library_1 ++ dktX1_library_2
def dkwX1_library_0 : List UInt8 := [27, 184, 0, 83, 154, 0, 5, 2, 172, 42, 180, 0, 16, 27, 46, 156, 0, 9, 42, 4, 182, 0, 76, 172]
abbrev dktX1_library_0 : List UInt8 := dkwX1_library_0 ++ dktX1_library_1
theorem dksX1_library_0 : cX1_library.data.toList.drop 0 = dktX1_library_0 := by decide +kernel
theorem dksX1_library_1 : cX1_library.data.toList.drop 24 = dktX1_library_1 := dk_seg dksX1_library_0 24 rfl rfl
theorem dksX1_library_2 : cX1_library.data.toList.drop 47 = dktX1_library_2 := dk_seg dksX1_library_1 23 rfl rfl
theorem dksX1_library_3 : cX1_library.data.toList.drop 71 = dktX1_library_3 := dk_seg dksX1_library_2 24 rfl rfl
theorem dX1_library_0 : decode cX1_library 0 = .ok (.iload_n 1, 1) := dk_27 (dk_at dksX1_library_0 0 rfl rfl)
theorem dX1_library_1 : decode cX1_library 1 = .ok (.invokestatic 83, 3) := dk_184 0 83 (dk_at dksX1_library_0 1 rfl rfl)
theorem dX1_library_4 : decode cX1_library 4 = .ok (.ifCond .ne 5, 3) := dk_154 0 5 (dk_at dksX1_library_0 4 rfl rfl)
theorem dX1_library_7 : decode cX1_library 7 = .ok (.iconst (-1), 1) := dk_2 (dk_at dksX1_library_0 7 rfl rfl)
theorem dX1_library_8 : decode cX1_library 8 = .ok (.ireturn, 1) := dk_172 (dk_at dksX1_library_0 8 rfl rfl)
theorem dX1_library_9 : decode cX1_library 9 = .ok (.aload_n 0, 1) := dk_42 (dk_at dksX1_library_0 9 rfl rfl)
theorem dX1_library_10 : decode cX1_library 10 = .ok (.getfield 16, 3) := dk_180 0 16 (dk_at dksX1_library_0 10 rfl rfl)
theorem dX1_library_13 : decode cX1_library 13 = .ok (.iload_n 1, 1) := dk_27 (dk_at dksX1_library_0 13 rfl rfl)
theorem dX1_library_14 : decode cX1_library 14 = .ok (.iaload, 1) := dk_46 (dk_at dksX1_library_0 14 rfl rfl)
theorem dX1_library_15 : decode cX1_library 15 = .ok (.ifCond .ge 9, 3) := dk_156 0 9 (dk_at dksX1_library_0 15 rfl rfl)
theorem dX1_library_18 : decode cX1_library 18 = .ok (.aload_n 0, 1) := dk_42 (dk_at dksX1_library_0 18 rfl rfl)
theorem dX1_library_19 : decode cX1_library 19 = .ok (.iconst 1, 1) := dk_4 (dk_at dksX1_library_0 19 rfl rfl)
theorem dX1_library_20 : decode cX1_library 20 = .ok (.invokevirtual 76, 3) := dk_182 0 76 (dk_at dksX1_library_0 20 rfl rfl)
theorem dX1_library_23 : decode cX1_library 23 = .ok (.ireturn, 1) := dk_172 (dk_at dksX1_library_0 23 rfl rfl)
theorem dX1_library_24 : decode cX1_library 24 = .ok (.aload_n 0, 1) := dk_42 (dk_at dksX1_library_1 0 rfl rfl)
theorem dX1_library_25 : decode cX1_library 25 = .ok (.iload_n 1, 1) := dk_27 (dk_at dksX1_library_1 1 rfl rfl)
theorem dX1_library_26 : decode cX1_library 26 = .ok (.invokevirtual 109, 3) := dk_182 0 109 (dk_at dksX1_library_1 2 rfl rfl)
theorem dX1_library_29 : decode cX1_library 29 = .ok (.bipush (-9), 2) := dk_16 247 (dk_at dksX1_library_1 5 rfl rfl)
theorem dX1_library_31 : decode cX1_library 31 = .ok (.if_icmp .eq 6, 3) := dk_159 0 6 (dk_at dksX1_library_1 7 rfl rfl)
theorem dX1_library_34 : decode cX1_library 34 = .ok (.bipush (-4), 2) := dk_16 252 (dk_at dksX1_library_1 10 rfl rfl)
theorem dX1_library_36 : decode cX1_library 36 = .ok (.ireturn, 1) := dk_172 (dk_at dksX1_library_1 12 rfl rfl)
theorem dX1_library_37 : decode cX1_library 37 = .ok (.aload_n 0, 1) := dk_42 (dk_at dksX1_library_1 13 rfl rfl)
theorem dX1_library_38 : decode cX1_library 38 = .ok (.getfield 39, 3) := dk_180 0 39 (dk_at dksX1_library_1 14 rfl rfl)
theorem dX1_library_41 : decode cX1_library 41 = .ok (.iconst 0, 1) := dk_3 (dk_at dksX1_library_1 17 rfl rfl)
theorem dX1_library_42 : decode cX1_library 42 = .ok (.aload_n 0, 1) := dk_42 (dk_at dksX1_library_1 18 rfl rfl)
theorem dX1_library_43 : decode cX1_library 43 = .ok (.getfield 22, 3) := dk_180 0 22 (dk_at dksX1_library_1 19 rfl rfl)
theorem dX1_library_46 : decode cX1_library 46 = .ok (.iconst 0, 1) := dk_3 (dk_at dksX1_library_1 22 rfl rfl)
theorem dX1_library_47 : decode cX1_library 47 = .ok (.invokestatic 112, 3) := dk_184 0 112 (dk_at dksX1_library_2 0 rfl rfl)
theorem dX1_library_50 : decode cX1_library 50 = .ok (.iconst 0, 1) := dk_3 (dk_at dksX1_library_2 3 rfl rfl)
theorem dX1_library_51 : decode cX1_library 51 = .ok (.istore_n 2, 1) := dk_61 (dk_at dksX1_library_2 4 rfl rfl)
theorem dX1_library_52 : decode cX1_library 52 = .ok (.iload_n 2, 1) := dk_28 (dk_at dksX1_library_2 5 rfl rfl)
theorem dX1_library_53 : decode cX1_library 53 = .ok (.iconst 3, 1) := dk_6 (dk_at dksX1_library_2 6 rfl rfl)
theorem dX1_library_54 : decode cX1_library 54 = .ok (.if_icmp .ge 16, 3) := dk_162 0 16 (dk_at dksX1_library_2 7 rfl rfl)
theorem dX1_library_57 : decode cX1_library 57 = .ok (.aload_n 0, 1) := dk_42 (dk_at dksX1_library_2 10 rfl rfl)
theorem dX1_library_58 : decode cX1_library 58 = .ok (.getfield 28, 3) := dk_180 0 28 (dk_at dksX1_library_2 11 rfl rfl)
theorem dX1_library_61 : decode cX1_library 61 = .ok (.iload_n 2, 1) := dk_28 (dk_at dksX1_library_2 14 rfl rfl)
theorem dX1_library_62 : decode cX1_library 62 = .ok (.iconst 0, 1) := dk_3 (dk_at dksX1_library_2 15 rfl rfl)
theorem dX1_library_63 : decode cX1_library 63 = .ok (.bastore, 1) := dk_84 (dk_at dksX1_library_2 16 rfl rfl)
theorem dX1_library_64 : decode cX1_library 64 = .ok (.iinc 2 1, 3) := dk_132 2 1 (dk_at dksX1_library_2 17 rfl rfl)
theorem dX1_library_67 : decode cX1_library 67 = .ok (.goto (-15), 3) := dk_167 255 241 (dk_at dksX1_library_2 20 rfl rfl)
theorem dX1_library_70 : decode cX1_library 70 = .ok (.aload_n 0, 1) := dk_42 (dk_at dksX1_library_2 23 rfl rfl)
theorem dX1_library_71 : decode cX1_library 71 = .ok (.getfield 22, 3) := dk_180 0 22 (dk_at dksX1_library_3 0 rfl rfl)
theorem dX1_library_74 : decode cX1_library 74 = .ok (.iconst 0, 1) := dk_3 (dk_at dksX1_library_3 3 rfl rfl)
theorem dX1_library_75 : decode cX1_library 75 = .ok (.iaload, 1) := dk_46 (dk_at dksX1_library_3 4 rfl rfl)
theorem dX1_library_76 : decode cX1_library 76 = .ok (.ireturn, 1) := dk_172 (dk_at dksX1_library_3 5 rfl rfl)
abbrev cX1_copies : ByteArray := prog_10_method_23_code
def yX1_copies : MethodName := ⟨RX1, "copies", "([II[II)V"⟩
def dkwX1_copies_1 : List UInt8 := [132, 4, 1, 167, 255, 233, 177]
abbrev dktX1_copies_1 : List UInt8 := dkwX1_copies_1 ++ []
def dkwX1_copies_0 : List UInt8 := [3, 54, 4, 21, 4, 17, 1, 137, 162, 0, 21, 44, 29, 21, 4, 96, 42, 27, 21, 4, 96, 46, 79]
abbrev dktX1_copies_0 : List UInt8 := dkwX1_copies_0 ++ dktX1_copies_1
theorem dksX1_copies_0 : cX1_copies.data.toList.drop 0 = dktX1_copies_0 := by decide +kernel
theorem dksX1_copies_1 : cX1_copies.data.toList.drop 23 = dktX1_copies_1 := dk_seg dksX1_copies_0 23 rfl rfl
theorem dX1_copies_0 : decode cX1_copies 0 = .ok (.iconst 0, 1) := dk_3 (dk_at dksX1_copies_0 0 rfl rfl)
theorem dX1_copies_1 : decode cX1_copies 1 = .ok (.istore 4, 2) := dk_54 4 (dk_at dksX1_copies_0 1 rfl rfl)
theorem dX1_copies_3 : decode cX1_copies 3 = .ok (.iload 4, 2) := dk_21 4 (dk_at dksX1_copies_0 3 rfl rfl)
theorem dX1_copies_5 : decode cX1_copies 5 = .ok (.sipush 393, 3) := dk_17 1 137 (dk_at dksX1_copies_0 5 rfl rfl)
theorem dX1_copies_8 : decode cX1_copies 8 = .ok (.if_icmp .ge 21, 3) := dk_162 0 21 (dk_at dksX1_copies_0 8 rfl rfl)
theorem dX1_copies_11 : decode cX1_copies 11 = .ok (.aload_n 2, 1) := dk_44 (dk_at dksX1_copies_0 11 rfl rfl)
theorem dX1_copies_12 : decode cX1_copies 12 = .ok (.iload_n 3, 1) := dk_29 (dk_at dksX1_copies_0 12 rfl rfl)
theorem dX1_copies_13 : decode cX1_copies 13 = .ok (.iload 4, 2) := dk_21 4 (dk_at dksX1_copies_0 13 rfl rfl)
theorem dX1_copies_15 : decode cX1_copies 15 = .ok (.iadd, 1) := dk_96 (dk_at dksX1_copies_0 15 rfl rfl)
theorem dX1_copies_16 : decode cX1_copies 16 = .ok (.aload_n 0, 1) := dk_42 (dk_at dksX1_copies_0 16 rfl rfl)
theorem dX1_copies_17 : decode cX1_copies 17 = .ok (.iload_n 1, 1) := dk_27 (dk_at dksX1_copies_0 17 rfl rfl)
theorem dX1_copies_18 : decode cX1_copies 18 = .ok (.iload 4, 2) := dk_21 4 (dk_at dksX1_copies_0 18 rfl rfl)
theorem dX1_copies_20 : decode cX1_copies 20 = .ok (.iadd, 1) := dk_96 (dk_at dksX1_copies_0 20 rfl rfl)
theorem dX1_copies_21 : decode cX1_copies 21 = .ok (.iaload, 1) := dk_46 (dk_at dksX1_copies_0 21 rfl rfl)
theorem dX1_copies_22 : decode cX1_copies 22 = .ok (.iastore, 1) := dk_79 (dk_at dksX1_copies_0 22 rfl rfl)
theorem dX1_copies_23 : decode cX1_copies 23 = .ok (.iinc 4 1, 3) := dk_132 4 1 (dk_at dksX1_copies_1 0 rfl rfl)
theorem dX1_copies_26 : decode cX1_copies 26 = .ok (.goto (-23), 3) := dk_167 255 233 (dk_at dksX1_copies_1 3 rfl rfl)
theorem dX1_copies_29 : decode cX1_copies 29 = .ok (.return_, 1) := dk_177 (dk_at dksX1_copies_1 6 rfl rfl)
abbrev cX1_card : ByteArray := prog_10_method_33_code
def yX1_card : MethodName := ⟨RX1, "card", "(II)I"⟩
def dkwX1_card_1 : List UInt8 := [182, 0, 132, 182, 0, 80, 167, 0, 4, 2, 172]
abbrev dktX1_card_1 : List UInt8 := dkwX1_card_1 ++ []
def dkwX1_card_0 : List UInt8 := [42, 27, 182, 0, 129, 153, 0, 28, 28, 133, 9, 20, 0, 64, 184, 0, 66, 153, 0, 16, 42, 42, 27, 28]
abbrev dktX1_card_0 : List UInt8 := dkwX1_card_0 ++ dktX1_card_1
theorem dksX1_card_0 : cX1_card.data.toList.drop 0 = dktX1_card_0 := by decide +kernel
theorem dksX1_card_1 : cX1_card.data.toList.drop 24 = dktX1_card_1 := dk_seg dksX1_card_0 24 rfl rfl
theorem dX1_card_0 : decode cX1_card 0 = .ok (.aload_n 0, 1) := dk_42 (dk_at dksX1_card_0 0 rfl rfl)
theorem dX1_card_1 : decode cX1_card 1 = .ok (.iload_n 1, 1) := dk_27 (dk_at dksX1_card_0 1 rfl rfl)
theorem dX1_card_2 : decode cX1_card 2 = .ok (.invokevirtual 129, 3) := dk_182 0 129 (dk_at dksX1_card_0 2 rfl rfl)
theorem dX1_card_5 : decode cX1_card 5 = .ok (.ifCond .eq 28, 3) := dk_153 0 28 (dk_at dksX1_card_0 5 rfl rfl)
theorem dX1_card_8 : decode cX1_card 8 = .ok (.iload_n 2, 1) := dk_28 (dk_at dksX1_card_0 8 rfl rfl)
theorem dX1_card_9 : decode cX1_card 9 = .ok (.i2l, 1) := dk_133 (dk_at dksX1_card_0 9 rfl rfl)
theorem dX1_card_10 : decode cX1_card 10 = .ok (.lconst 0, 1) := dk_9 (dk_at dksX1_card_0 10 rfl rfl)
theorem dX1_card_11 : decode cX1_card 11 = .ok (.ldc2_w 64, 3) := dk_20 0 64 (dk_at dksX1_card_0 11 rfl rfl)
theorem dX1_card_14 : decode cX1_card 14 = .ok (.invokestatic 66, 3) := dk_184 0 66 (dk_at dksX1_card_0 14 rfl rfl)
theorem dX1_card_17 : decode cX1_card 17 = .ok (.ifCond .eq 16, 3) := dk_153 0 16 (dk_at dksX1_card_0 17 rfl rfl)
theorem dX1_card_20 : decode cX1_card 20 = .ok (.aload_n 0, 1) := dk_42 (dk_at dksX1_card_0 20 rfl rfl)
theorem dX1_card_21 : decode cX1_card 21 = .ok (.aload_n 0, 1) := dk_42 (dk_at dksX1_card_0 21 rfl rfl)
theorem dX1_card_22 : decode cX1_card 22 = .ok (.iload_n 1, 1) := dk_27 (dk_at dksX1_card_0 22 rfl rfl)
theorem dX1_card_23 : decode cX1_card 23 = .ok (.iload_n 2, 1) := dk_28 (dk_at dksX1_card_0 23 rfl rfl)
theorem dX1_card_24 : decode cX1_card 24 = .ok (.invokevirtual 132, 3) := dk_182 0 132 (dk_at dksX1_card_1 0 rfl rfl)
theorem dX1_card_27 : decode cX1_card 27 = .ok (.invokevirtual 80, 3) := dk_182 0 80 (dk_at dksX1_card_1 3 rfl rfl)
theorem dX1_card_30 : decode cX1_card 30 = .ok (.goto 4, 3) := dk_167 0 4 (dk_at dksX1_card_1 6 rfl rfl)
theorem dX1_card_33 : decode cX1_card 33 = .ok (.iconst (-1), 1) := dk_2 (dk_at dksX1_card_1 9 rfl rfl)
theorem dX1_card_34 : decode cX1_card 34 = .ok (.ireturn, 1) := dk_172 (dk_at dksX1_card_1 10 rfl rfl)
abbrev cX1_isCard : ByteArray := prog_10_method_25_code
def yX1_isCard : MethodName := ⟨RX1, "isCard", "(I)Z"⟩
def dkwX1_isCard_0 : List UInt8 := [27, 133, 9, 42, 180, 0, 22, 3, 46, 4, 100, 133, 184, 0, 66, 172]
abbrev dktX1_isCard_0 : List UInt8 := dkwX1_isCard_0 ++ []
theorem dksX1_isCard_0 : cX1_isCard.data.toList.drop 0 = dktX1_isCard_0 := by decide +kernel
theorem dX1_isCard_0 : decode cX1_isCard 0 = .ok (.iload_n 1, 1) := dk_27 (dk_at dksX1_isCard_0 0 rfl rfl)
theorem dX1_isCard_1 : decode cX1_isCard 1 = .ok (.i2l, 1) := dk_133 (dk_at dksX1_isCard_0 1 rfl rfl)
theorem dX1_isCard_2 : decode cX1_isCard 2 = .ok (.lconst 0, 1) := dk_9 (dk_at dksX1_isCard_0 2 rfl rfl)
theorem dX1_isCard_3 : decode cX1_isCard 3 = .ok (.aload_n 0, 1) := dk_42 (dk_at dksX1_isCard_0 3 rfl rfl)
theorem dX1_isCard_4 : decode cX1_isCard 4 = .ok (.getfield 22, 3) := dk_180 0 22 (dk_at dksX1_isCard_0 4 rfl rfl)
theorem dX1_isCard_7 : decode cX1_isCard 7 = .ok (.iconst 0, 1) := dk_3 (dk_at dksX1_isCard_0 7 rfl rfl)
theorem dX1_isCard_8 : decode cX1_isCard 8 = .ok (.iaload, 1) := dk_46 (dk_at dksX1_isCard_0 8 rfl rfl)
theorem dX1_isCard_9 : decode cX1_isCard 9 = .ok (.iconst 1, 1) := dk_4 (dk_at dksX1_isCard_0 9 rfl rfl)
theorem dX1_isCard_10 : decode cX1_isCard 10 = .ok (.isub, 1) := dk_100 (dk_at dksX1_isCard_0 10 rfl rfl)
theorem dX1_isCard_11 : decode cX1_isCard 11 = .ok (.i2l, 1) := dk_133 (dk_at dksX1_isCard_0 11 rfl rfl)
theorem dX1_isCard_12 : decode cX1_isCard 12 = .ok (.invokestatic 66, 3) := dk_184 0 66 (dk_at dksX1_isCard_0 12 rfl rfl)
theorem dX1_isCard_15 : decode cX1_isCard 15 = .ok (.ireturn, 1) := dk_172 (dk_at dksX1_isCard_0 15 rfl rfl)
abbrev cX1_toldCard : ByteArray := prog_10_method_32_code
def yX1_toldCard : MethodName := ⟨RX1, "toldCard", "(II)I"⟩
def dkwX1_toldCard_3 : List UInt8 := [16, 24, 27, 96, 46, 167, 0, 8, 42, 27, 182, 0, 126, 172]
abbrev dktX1_toldCard_3 : List UInt8 := dkwX1_toldCard_3 ++ []
def dkwX1_toldCard_2 : List UInt8 := [160, 0, 15, 42, 180, 0, 22, 16, 17, 27, 96, 46, 167, 0, 25, 28, 7, 160, 0, 15, 42, 180, 0, 22]
abbrev dktX1_toldCard_2 : List UInt8 := dkwX1_toldCard_2 ++ dktX1_toldCard_3
def dkwX1_toldCard_1 : List UInt8 := [16, 10, 27, 96, 46, 167, 0, 55, 28, 5, 160, 0, 11, 42, 27, 182, 0, 120, 167, 0, 42, 28, 6]
abbrev dktX1_toldCard_1 : List UInt8 := dkwX1_toldCard_1 ++ dktX1_toldCard_2
def dkwX1_toldCard_0 : List UInt8 := [28, 154, 0, 14, 42, 180, 0, 22, 6, 27, 96, 46, 167, 0, 72, 28, 4, 160, 0, 15, 42, 180, 0, 22]
abbrev dktX1_toldCard_0 : List UInt8 := dkwX1_toldCard_0 ++ dktX1_toldCard_1
theorem dksX1_toldCard_0 : cX1_toldCard.data.toList.drop 0 = dktX1_toldCard_0 := by decide +kernel
theorem dksX1_toldCard_1 : cX1_toldCard.data.toList.drop 24 = dktX1_toldCard_1 := dk_seg dksX1_toldCard_0 24 rfl rfl
theorem dksX1_toldCard_2 : cX1_toldCard.data.toList.drop 47 = dktX1_toldCard_2 := dk_seg dksX1_toldCard_1 23 rfl rfl
theorem dksX1_toldCard_3 : cX1_toldCard.data.toList.drop 71 = dktX1_toldCard_3 := dk_seg dksX1_toldCard_2 24 rfl rfl
theorem dX1_toldCard_0 : decode cX1_toldCard 0 = .ok (.iload_n 2, 1) := dk_28 (dk_at dksX1_toldCard_0 0 rfl rfl)
theorem dX1_toldCard_1 : decode cX1_toldCard 1 = .ok (.ifCond .ne 14, 3) := dk_154 0 14 (dk_at dksX1_toldCard_0 1 rfl rfl)
theorem dX1_toldCard_4 : decode cX1_toldCard 4 = .ok (.aload_n 0, 1) := dk_42 (dk_at dksX1_toldCard_0 4 rfl rfl)
theorem dX1_toldCard_5 : decode cX1_toldCard 5 = .ok (.getfield 22, 3) := dk_180 0 22 (dk_at dksX1_toldCard_0 5 rfl rfl)
theorem dX1_toldCard_8 : decode cX1_toldCard 8 = .ok (.iconst 3, 1) := dk_6 (dk_at dksX1_toldCard_0 8 rfl rfl)
theorem dX1_toldCard_9 : decode cX1_toldCard 9 = .ok (.iload_n 1, 1) := dk_27 (dk_at dksX1_toldCard_0 9 rfl rfl)
theorem dX1_toldCard_10 : decode cX1_toldCard 10 = .ok (.iadd, 1) := dk_96 (dk_at dksX1_toldCard_0 10 rfl rfl)
theorem dX1_toldCard_11 : decode cX1_toldCard 11 = .ok (.iaload, 1) := dk_46 (dk_at dksX1_toldCard_0 11 rfl rfl)
theorem dX1_toldCard_12 : decode cX1_toldCard 12 = .ok (.goto 72, 3) := dk_167 0 72 (dk_at dksX1_toldCard_0 12 rfl rfl)
theorem dX1_toldCard_15 : decode cX1_toldCard 15 = .ok (.iload_n 2, 1) := dk_28 (dk_at dksX1_toldCard_0 15 rfl rfl)
theorem dX1_toldCard_16 : decode cX1_toldCard 16 = .ok (.iconst 1, 1) := dk_4 (dk_at dksX1_toldCard_0 16 rfl rfl)
theorem dX1_toldCard_17 : decode cX1_toldCard 17 = .ok (.if_icmp .ne 15, 3) := dk_160 0 15 (dk_at dksX1_toldCard_0 17 rfl rfl)
theorem dX1_toldCard_20 : decode cX1_toldCard 20 = .ok (.aload_n 0, 1) := dk_42 (dk_at dksX1_toldCard_0 20 rfl rfl)
theorem dX1_toldCard_21 : decode cX1_toldCard 21 = .ok (.getfield 22, 3) := dk_180 0 22 (dk_at dksX1_toldCard_0 21 rfl rfl)
theorem dX1_toldCard_24 : decode cX1_toldCard 24 = .ok (.bipush 10, 2) := dk_16 10 (dk_at dksX1_toldCard_1 0 rfl rfl)
theorem dX1_toldCard_26 : decode cX1_toldCard 26 = .ok (.iload_n 1, 1) := dk_27 (dk_at dksX1_toldCard_1 2 rfl rfl)
theorem dX1_toldCard_27 : decode cX1_toldCard 27 = .ok (.iadd, 1) := dk_96 (dk_at dksX1_toldCard_1 3 rfl rfl)
theorem dX1_toldCard_28 : decode cX1_toldCard 28 = .ok (.iaload, 1) := dk_46 (dk_at dksX1_toldCard_1 4 rfl rfl)
theorem dX1_toldCard_29 : decode cX1_toldCard 29 = .ok (.goto 55, 3) := dk_167 0 55 (dk_at dksX1_toldCard_1 5 rfl rfl)
theorem dX1_toldCard_32 : decode cX1_toldCard 32 = .ok (.iload_n 2, 1) := dk_28 (dk_at dksX1_toldCard_1 8 rfl rfl)
theorem dX1_toldCard_33 : decode cX1_toldCard 33 = .ok (.iconst 2, 1) := dk_5 (dk_at dksX1_toldCard_1 9 rfl rfl)
theorem dX1_toldCard_34 : decode cX1_toldCard 34 = .ok (.if_icmp .ne 11, 3) := dk_160 0 11 (dk_at dksX1_toldCard_1 10 rfl rfl)
theorem dX1_toldCard_37 : decode cX1_toldCard 37 = .ok (.aload_n 0, 1) := dk_42 (dk_at dksX1_toldCard_1 13 rfl rfl)
theorem dX1_toldCard_38 : decode cX1_toldCard 38 = .ok (.iload_n 1, 1) := dk_27 (dk_at dksX1_toldCard_1 14 rfl rfl)
theorem dX1_toldCard_39 : decode cX1_toldCard 39 = .ok (.invokevirtual 120, 3) := dk_182 0 120 (dk_at dksX1_toldCard_1 15 rfl rfl)
theorem dX1_toldCard_42 : decode cX1_toldCard 42 = .ok (.goto 42, 3) := dk_167 0 42 (dk_at dksX1_toldCard_1 18 rfl rfl)
theorem dX1_toldCard_45 : decode cX1_toldCard 45 = .ok (.iload_n 2, 1) := dk_28 (dk_at dksX1_toldCard_1 21 rfl rfl)
theorem dX1_toldCard_46 : decode cX1_toldCard 46 = .ok (.iconst 3, 1) := dk_6 (dk_at dksX1_toldCard_1 22 rfl rfl)
theorem dX1_toldCard_47 : decode cX1_toldCard 47 = .ok (.if_icmp .ne 15, 3) := dk_160 0 15 (dk_at dksX1_toldCard_2 0 rfl rfl)
theorem dX1_toldCard_50 : decode cX1_toldCard 50 = .ok (.aload_n 0, 1) := dk_42 (dk_at dksX1_toldCard_2 3 rfl rfl)
theorem dX1_toldCard_51 : decode cX1_toldCard 51 = .ok (.getfield 22, 3) := dk_180 0 22 (dk_at dksX1_toldCard_2 4 rfl rfl)
theorem dX1_toldCard_54 : decode cX1_toldCard 54 = .ok (.bipush 17, 2) := dk_16 17 (dk_at dksX1_toldCard_2 7 rfl rfl)
theorem dX1_toldCard_56 : decode cX1_toldCard 56 = .ok (.iload_n 1, 1) := dk_27 (dk_at dksX1_toldCard_2 9 rfl rfl)
theorem dX1_toldCard_57 : decode cX1_toldCard 57 = .ok (.iadd, 1) := dk_96 (dk_at dksX1_toldCard_2 10 rfl rfl)
theorem dX1_toldCard_58 : decode cX1_toldCard 58 = .ok (.iaload, 1) := dk_46 (dk_at dksX1_toldCard_2 11 rfl rfl)
theorem dX1_toldCard_59 : decode cX1_toldCard 59 = .ok (.goto 25, 3) := dk_167 0 25 (dk_at dksX1_toldCard_2 12 rfl rfl)
theorem dX1_toldCard_62 : decode cX1_toldCard 62 = .ok (.iload_n 2, 1) := dk_28 (dk_at dksX1_toldCard_2 15 rfl rfl)
theorem dX1_toldCard_63 : decode cX1_toldCard 63 = .ok (.iconst 4, 1) := dk_7 (dk_at dksX1_toldCard_2 16 rfl rfl)
theorem dX1_toldCard_64 : decode cX1_toldCard 64 = .ok (.if_icmp .ne 15, 3) := dk_160 0 15 (dk_at dksX1_toldCard_2 17 rfl rfl)
theorem dX1_toldCard_67 : decode cX1_toldCard 67 = .ok (.aload_n 0, 1) := dk_42 (dk_at dksX1_toldCard_2 20 rfl rfl)
theorem dX1_toldCard_68 : decode cX1_toldCard 68 = .ok (.getfield 22, 3) := dk_180 0 22 (dk_at dksX1_toldCard_2 21 rfl rfl)
theorem dX1_toldCard_71 : decode cX1_toldCard 71 = .ok (.bipush 24, 2) := dk_16 24 (dk_at dksX1_toldCard_3 0 rfl rfl)
theorem dX1_toldCard_73 : decode cX1_toldCard 73 = .ok (.iload_n 1, 1) := dk_27 (dk_at dksX1_toldCard_3 2 rfl rfl)
theorem dX1_toldCard_74 : decode cX1_toldCard 74 = .ok (.iadd, 1) := dk_96 (dk_at dksX1_toldCard_3 3 rfl rfl)
theorem dX1_toldCard_75 : decode cX1_toldCard 75 = .ok (.iaload, 1) := dk_46 (dk_at dksX1_toldCard_3 4 rfl rfl)
theorem dX1_toldCard_76 : decode cX1_toldCard 76 = .ok (.goto 8, 3) := dk_167 0 8 (dk_at dksX1_toldCard_3 5 rfl rfl)
theorem dX1_toldCard_79 : decode cX1_toldCard 79 = .ok (.aload_n 0, 1) := dk_42 (dk_at dksX1_toldCard_3 8 rfl rfl)
theorem dX1_toldCard_80 : decode cX1_toldCard 80 = .ok (.iload_n 1, 1) := dk_27 (dk_at dksX1_toldCard_3 9 rfl rfl)
theorem dX1_toldCard_81 : decode cX1_toldCard 81 = .ok (.invokevirtual 126, 3) := dk_182 0 126 (dk_at dksX1_toldCard_3 10 rfl rfl)
theorem dX1_toldCard_84 : decode cX1_toldCard 84 = .ok (.ireturn, 1) := dk_172 (dk_at dksX1_toldCard_3 13 rfl rfl)
abbrev cX1_means : ByteArray := prog_10_method_28_code
def yX1_means : MethodName := ⟨RX1, "means", "(I)I"⟩
def dkwX1_means_3 : List UInt8 := [180, 0, 22, 16, 24, 27, 96, 46, 96, 16, 10, 112, 172, 28, 172]
abbrev dktX1_means_3 : List UInt8 := dkwX1_means_3 ++ []
def dkwX1_means_2 : List UInt8 := [28, 8, 162, 0, 7, 3, 167, 0, 4, 4, 172, 3, 172, 28, 4, 96, 16, 10, 112, 172, 28, 42]
abbrev dktX1_means_2 : List UInt8 := dkwX1_means_2 ++ dktX1_means_3
def dkwX1_means_1 : List UInt8 := [170, 0, 0, 0, 0, 69, 0, 0, 0, 1, 0, 0, 0, 5, 0, 0, 0, 34, 0, 0, 0, 69, 0, 0, 0, 45, 0, 0, 0, 54, 0, 0, 0, 47]
abbrev dktX1_means_1 : List UInt8 := dkwX1_means_1 ++ dktX1_means_2
def dkwX1_means_0 : List UInt8 := [42, 180, 0, 22, 16, 10, 27, 96, 46, 61, 42, 180, 0, 22, 6, 27, 96, 46]
abbrev dktX1_means_0 : List UInt8 := dkwX1_means_0 ++ dktX1_means_1
theorem dksX1_means_0 : cX1_means.data.toList.drop 0 = dktX1_means_0 := by decide +kernel
theorem dksX1_means_1 : cX1_means.data.toList.drop 18 = dktX1_means_1 := dk_seg dksX1_means_0 18 rfl rfl
theorem dksX1_means_2 : cX1_means.data.toList.drop 52 = dktX1_means_2 := dk_seg dksX1_means_1 34 rfl rfl
theorem dksX1_means_3 : cX1_means.data.toList.drop 74 = dktX1_means_3 := dk_seg dksX1_means_2 22 rfl rfl
theorem dX1_means_0 : decode cX1_means 0 = .ok (.aload_n 0, 1) := dk_42 (dk_at dksX1_means_0 0 rfl rfl)
theorem dX1_means_1 : decode cX1_means 1 = .ok (.getfield 22, 3) := dk_180 0 22 (dk_at dksX1_means_0 1 rfl rfl)
theorem dX1_means_4 : decode cX1_means 4 = .ok (.bipush 10, 2) := dk_16 10 (dk_at dksX1_means_0 4 rfl rfl)
theorem dX1_means_6 : decode cX1_means 6 = .ok (.iload_n 1, 1) := dk_27 (dk_at dksX1_means_0 6 rfl rfl)
theorem dX1_means_7 : decode cX1_means 7 = .ok (.iadd, 1) := dk_96 (dk_at dksX1_means_0 7 rfl rfl)
theorem dX1_means_8 : decode cX1_means 8 = .ok (.iaload, 1) := dk_46 (dk_at dksX1_means_0 8 rfl rfl)
theorem dX1_means_9 : decode cX1_means 9 = .ok (.istore_n 2, 1) := dk_61 (dk_at dksX1_means_0 9 rfl rfl)
theorem dX1_means_10 : decode cX1_means 10 = .ok (.aload_n 0, 1) := dk_42 (dk_at dksX1_means_0 10 rfl rfl)
theorem dX1_means_11 : decode cX1_means 11 = .ok (.getfield 22, 3) := dk_180 0 22 (dk_at dksX1_means_0 11 rfl rfl)
theorem dX1_means_14 : decode cX1_means 14 = .ok (.iconst 3, 1) := dk_6 (dk_at dksX1_means_0 14 rfl rfl)
theorem dX1_means_15 : decode cX1_means 15 = .ok (.iload_n 1, 1) := dk_27 (dk_at dksX1_means_0 15 rfl rfl)
theorem dX1_means_16 : decode cX1_means 16 = .ok (.iadd, 1) := dk_96 (dk_at dksX1_means_0 16 rfl rfl)
theorem dX1_means_17 : decode cX1_means 17 = .ok (.iaload, 1) := dk_46 (dk_at dksX1_means_0 17 rfl rfl)
theorem dX1_means_18 : decode cX1_means 18 = .ok (.tableswitch 69 1 5 #[34, 69, 45, 54, 47], 34) := by decide +kernel
theorem dX1_means_52 : decode cX1_means 52 = .ok (.iload_n 2, 1) := dk_28 (dk_at dksX1_means_2 0 rfl rfl)
theorem dX1_means_53 : decode cX1_means 53 = .ok (.iconst 5, 1) := dk_8 (dk_at dksX1_means_2 1 rfl rfl)
theorem dX1_means_54 : decode cX1_means 54 = .ok (.if_icmp .ge 7, 3) := dk_162 0 7 (dk_at dksX1_means_2 2 rfl rfl)
theorem dX1_means_57 : decode cX1_means 57 = .ok (.iconst 0, 1) := dk_3 (dk_at dksX1_means_2 5 rfl rfl)
theorem dX1_means_58 : decode cX1_means 58 = .ok (.goto 4, 3) := dk_167 0 4 (dk_at dksX1_means_2 6 rfl rfl)
theorem dX1_means_61 : decode cX1_means 61 = .ok (.iconst 1, 1) := dk_4 (dk_at dksX1_means_2 9 rfl rfl)
theorem dX1_means_62 : decode cX1_means 62 = .ok (.ireturn, 1) := dk_172 (dk_at dksX1_means_2 10 rfl rfl)
theorem dX1_means_63 : decode cX1_means 63 = .ok (.iconst 0, 1) := dk_3 (dk_at dksX1_means_2 11 rfl rfl)
theorem dX1_means_64 : decode cX1_means 64 = .ok (.ireturn, 1) := dk_172 (dk_at dksX1_means_2 12 rfl rfl)
theorem dX1_means_65 : decode cX1_means 65 = .ok (.iload_n 2, 1) := dk_28 (dk_at dksX1_means_2 13 rfl rfl)
theorem dX1_means_66 : decode cX1_means 66 = .ok (.iconst 1, 1) := dk_4 (dk_at dksX1_means_2 14 rfl rfl)
theorem dX1_means_67 : decode cX1_means 67 = .ok (.iadd, 1) := dk_96 (dk_at dksX1_means_2 15 rfl rfl)
theorem dX1_means_68 : decode cX1_means 68 = .ok (.bipush 10, 2) := dk_16 10 (dk_at dksX1_means_2 16 rfl rfl)
theorem dX1_means_70 : decode cX1_means 70 = .ok (.irem, 1) := dk_112 (dk_at dksX1_means_2 18 rfl rfl)
theorem dX1_means_71 : decode cX1_means 71 = .ok (.ireturn, 1) := dk_172 (dk_at dksX1_means_2 19 rfl rfl)
theorem dX1_means_72 : decode cX1_means 72 = .ok (.iload_n 2, 1) := dk_28 (dk_at dksX1_means_2 20 rfl rfl)
theorem dX1_means_73 : decode cX1_means 73 = .ok (.aload_n 0, 1) := dk_42 (dk_at dksX1_means_2 21 rfl rfl)
theorem dX1_means_74 : decode cX1_means 74 = .ok (.getfield 22, 3) := dk_180 0 22 (dk_at dksX1_means_3 0 rfl rfl)
theorem dX1_means_77 : decode cX1_means 77 = .ok (.bipush 24, 2) := dk_16 24 (dk_at dksX1_means_3 3 rfl rfl)
theorem dX1_means_79 : decode cX1_means 79 = .ok (.iload_n 1, 1) := dk_27 (dk_at dksX1_means_3 5 rfl rfl)
theorem dX1_means_80 : decode cX1_means 80 = .ok (.iadd, 1) := dk_96 (dk_at dksX1_means_3 6 rfl rfl)
theorem dX1_means_81 : decode cX1_means 81 = .ok (.iaload, 1) := dk_46 (dk_at dksX1_means_3 7 rfl rfl)
theorem dX1_means_82 : decode cX1_means 82 = .ok (.iadd, 1) := dk_96 (dk_at dksX1_means_3 8 rfl rfl)
theorem dX1_means_83 : decode cX1_means 83 = .ok (.bipush 10, 2) := dk_16 10 (dk_at dksX1_means_3 9 rfl rfl)
theorem dX1_means_85 : decode cX1_means 85 = .ok (.irem, 1) := dk_112 (dk_at dksX1_means_3 11 rfl rfl)
theorem dX1_means_86 : decode cX1_means 86 = .ok (.ireturn, 1) := dk_172 (dk_at dksX1_means_3 12 rfl rfl)
theorem dX1_means_87 : decode cX1_means 87 = .ok (.iload_n 2, 1) := dk_28 (dk_at dksX1_means_3 13 rfl rfl)
theorem dX1_means_88 : decode cX1_means 88 = .ok (.ireturn, 1) := dk_172 (dk_at dksX1_means_3 14 rfl rfl)
abbrev cX1_answers : ByteArray := prog_10_method_31_code
def yX1_answers : MethodName := ⟨RX1, "answers", "(I)I"⟩
def dkwX1_answers_1 : List UInt8 := [27, 160, 0, 7, 29, 167, 0, 4, 28, 61, 132, 3, 1, 167, 255, 224, 28, 172]
abbrev dktX1_answers_1 : List UInt8 := dkwX1_answers_1 ++ []
def dkwX1_answers_0 : List UInt8 := [16, 247, 61, 3, 62, 29, 42, 180, 0, 22, 4, 46, 162, 0, 28, 42, 180, 0, 22, 16, 66, 29, 96, 46]
abbrev dktX1_answers_0 : List UInt8 := dkwX1_answers_0 ++ dktX1_answers_1
theorem dksX1_answers_0 : cX1_answers.data.toList.drop 0 = dktX1_answers_0 := by decide +kernel
theorem dksX1_answers_1 : cX1_answers.data.toList.drop 24 = dktX1_answers_1 := dk_seg dksX1_answers_0 24 rfl rfl
theorem dX1_answers_0 : decode cX1_answers 0 = .ok (.bipush (-9), 2) := dk_16 247 (dk_at dksX1_answers_0 0 rfl rfl)
theorem dX1_answers_2 : decode cX1_answers 2 = .ok (.istore_n 2, 1) := dk_61 (dk_at dksX1_answers_0 2 rfl rfl)
theorem dX1_answers_3 : decode cX1_answers 3 = .ok (.iconst 0, 1) := dk_3 (dk_at dksX1_answers_0 3 rfl rfl)
theorem dX1_answers_4 : decode cX1_answers 4 = .ok (.istore_n 3, 1) := dk_62 (dk_at dksX1_answers_0 4 rfl rfl)
theorem dX1_answers_5 : decode cX1_answers 5 = .ok (.iload_n 3, 1) := dk_29 (dk_at dksX1_answers_0 5 rfl rfl)
theorem dX1_answers_6 : decode cX1_answers 6 = .ok (.aload_n 0, 1) := dk_42 (dk_at dksX1_answers_0 6 rfl rfl)
theorem dX1_answers_7 : decode cX1_answers 7 = .ok (.getfield 22, 3) := dk_180 0 22 (dk_at dksX1_answers_0 7 rfl rfl)
theorem dX1_answers_10 : decode cX1_answers 10 = .ok (.iconst 1, 1) := dk_4 (dk_at dksX1_answers_0 10 rfl rfl)
theorem dX1_answers_11 : decode cX1_answers 11 = .ok (.iaload, 1) := dk_46 (dk_at dksX1_answers_0 11 rfl rfl)
theorem dX1_answers_12 : decode cX1_answers 12 = .ok (.if_icmp .ge 28, 3) := dk_162 0 28 (dk_at dksX1_answers_0 12 rfl rfl)
theorem dX1_answers_15 : decode cX1_answers 15 = .ok (.aload_n 0, 1) := dk_42 (dk_at dksX1_answers_0 15 rfl rfl)
theorem dX1_answers_16 : decode cX1_answers 16 = .ok (.getfield 22, 3) := dk_180 0 22 (dk_at dksX1_answers_0 16 rfl rfl)
theorem dX1_answers_19 : decode cX1_answers 19 = .ok (.bipush 66, 2) := dk_16 66 (dk_at dksX1_answers_0 19 rfl rfl)
theorem dX1_answers_21 : decode cX1_answers 21 = .ok (.iload_n 3, 1) := dk_29 (dk_at dksX1_answers_0 21 rfl rfl)
theorem dX1_answers_22 : decode cX1_answers 22 = .ok (.iadd, 1) := dk_96 (dk_at dksX1_answers_0 22 rfl rfl)
theorem dX1_answers_23 : decode cX1_answers 23 = .ok (.iaload, 1) := dk_46 (dk_at dksX1_answers_0 23 rfl rfl)
theorem dX1_answers_24 : decode cX1_answers 24 = .ok (.iload_n 1, 1) := dk_27 (dk_at dksX1_answers_1 0 rfl rfl)
theorem dX1_answers_25 : decode cX1_answers 25 = .ok (.if_icmp .ne 7, 3) := dk_160 0 7 (dk_at dksX1_answers_1 1 rfl rfl)
theorem dX1_answers_28 : decode cX1_answers 28 = .ok (.iload_n 3, 1) := dk_29 (dk_at dksX1_answers_1 4 rfl rfl)
theorem dX1_answers_29 : decode cX1_answers 29 = .ok (.goto 4, 3) := dk_167 0 4 (dk_at dksX1_answers_1 5 rfl rfl)
theorem dX1_answers_32 : decode cX1_answers 32 = .ok (.iload_n 2, 1) := dk_28 (dk_at dksX1_answers_1 8 rfl rfl)
theorem dX1_answers_33 : decode cX1_answers 33 = .ok (.istore_n 2, 1) := dk_61 (dk_at dksX1_answers_1 9 rfl rfl)
theorem dX1_answers_34 : decode cX1_answers 34 = .ok (.iinc 3 1, 3) := dk_132 3 1 (dk_at dksX1_answers_1 10 rfl rfl)
theorem dX1_answers_37 : decode cX1_answers 37 = .ok (.goto (-32), 3) := dk_167 255 224 (dk_at dksX1_answers_1 13 rfl rfl)
theorem dX1_answers_40 : decode cX1_answers 40 = .ok (.iload_n 2, 1) := dk_28 (dk_at dksX1_answers_1 16 rfl rfl)
theorem dX1_answers_41 : decode cX1_answers 41 = .ok (.ireturn, 1) := dk_172 (dk_at dksX1_answers_1 17 rfl rfl)
abbrev cX1_question : ByteArray := prog_10_method_34_code
def yX1_question : MethodName := ⟨RX1, "question", "(II)I"⟩
def dkwX1_question_1 : List UInt8 := [180, 0, 22, 16, 31, 16, 7, 28, 104, 96, 27, 96, 46, 182, 0, 80, 167, 0, 4, 2, 172]
abbrev dktX1_question_1 : List UInt8 := dkwX1_question_1 ++ []
def dkwX1_question_0 : List UInt8 := [42, 27, 182, 0, 136, 153, 0, 36, 28, 133, 9, 20, 0, 64, 184, 0, 66, 153, 0, 24, 42, 42]
abbrev dktX1_question_0 : List UInt8 := dkwX1_question_0 ++ dktX1_question_1
theorem dksX1_question_0 : cX1_question.data.toList.drop 0 = dktX1_question_0 := by decide +kernel
theorem dksX1_question_1 : cX1_question.data.toList.drop 22 = dktX1_question_1 := dk_seg dksX1_question_0 22 rfl rfl
theorem dX1_question_0 : decode cX1_question 0 = .ok (.aload_n 0, 1) := dk_42 (dk_at dksX1_question_0 0 rfl rfl)
theorem dX1_question_1 : decode cX1_question 1 = .ok (.iload_n 1, 1) := dk_27 (dk_at dksX1_question_0 1 rfl rfl)
theorem dX1_question_2 : decode cX1_question 2 = .ok (.invokevirtual 136, 3) := dk_182 0 136 (dk_at dksX1_question_0 2 rfl rfl)
theorem dX1_question_5 : decode cX1_question 5 = .ok (.ifCond .eq 36, 3) := dk_153 0 36 (dk_at dksX1_question_0 5 rfl rfl)
theorem dX1_question_8 : decode cX1_question 8 = .ok (.iload_n 2, 1) := dk_28 (dk_at dksX1_question_0 8 rfl rfl)
theorem dX1_question_9 : decode cX1_question 9 = .ok (.i2l, 1) := dk_133 (dk_at dksX1_question_0 9 rfl rfl)
theorem dX1_question_10 : decode cX1_question 10 = .ok (.lconst 0, 1) := dk_9 (dk_at dksX1_question_0 10 rfl rfl)
theorem dX1_question_11 : decode cX1_question 11 = .ok (.ldc2_w 64, 3) := dk_20 0 64 (dk_at dksX1_question_0 11 rfl rfl)
theorem dX1_question_14 : decode cX1_question 14 = .ok (.invokestatic 66, 3) := dk_184 0 66 (dk_at dksX1_question_0 14 rfl rfl)
theorem dX1_question_17 : decode cX1_question 17 = .ok (.ifCond .eq 24, 3) := dk_153 0 24 (dk_at dksX1_question_0 17 rfl rfl)
theorem dX1_question_20 : decode cX1_question 20 = .ok (.aload_n 0, 1) := dk_42 (dk_at dksX1_question_0 20 rfl rfl)
theorem dX1_question_21 : decode cX1_question 21 = .ok (.aload_n 0, 1) := dk_42 (dk_at dksX1_question_0 21 rfl rfl)
theorem dX1_question_22 : decode cX1_question 22 = .ok (.getfield 22, 3) := dk_180 0 22 (dk_at dksX1_question_1 0 rfl rfl)
theorem dX1_question_25 : decode cX1_question 25 = .ok (.bipush 31, 2) := dk_16 31 (dk_at dksX1_question_1 3 rfl rfl)
theorem dX1_question_27 : decode cX1_question 27 = .ok (.bipush 7, 2) := dk_16 7 (dk_at dksX1_question_1 5 rfl rfl)
theorem dX1_question_29 : decode cX1_question 29 = .ok (.iload_n 2, 1) := dk_28 (dk_at dksX1_question_1 7 rfl rfl)
theorem dX1_question_30 : decode cX1_question 30 = .ok (.imul, 1) := dk_104 (dk_at dksX1_question_1 8 rfl rfl)
theorem dX1_question_31 : decode cX1_question 31 = .ok (.iadd, 1) := dk_96 (dk_at dksX1_question_1 9 rfl rfl)
theorem dX1_question_32 : decode cX1_question 32 = .ok (.iload_n 1, 1) := dk_27 (dk_at dksX1_question_1 10 rfl rfl)
theorem dX1_question_33 : decode cX1_question 33 = .ok (.iadd, 1) := dk_96 (dk_at dksX1_question_1 11 rfl rfl)
theorem dX1_question_34 : decode cX1_question 34 = .ok (.iaload, 1) := dk_46 (dk_at dksX1_question_1 12 rfl rfl)
theorem dX1_question_35 : decode cX1_question 35 = .ok (.invokevirtual 80, 3) := dk_182 0 80 (dk_at dksX1_question_1 13 rfl rfl)
theorem dX1_question_38 : decode cX1_question 38 = .ok (.goto 4, 3) := dk_167 0 4 (dk_at dksX1_question_1 16 rfl rfl)
theorem dX1_question_41 : decode cX1_question 41 = .ok (.iconst (-1), 1) := dk_2 (dk_at dksX1_question_1 19 rfl rfl)
theorem dX1_question_42 : decode cX1_question 42 = .ok (.ireturn, 1) := dk_172 (dk_at dksX1_question_1 20 rfl rfl)
abbrev cX1_isQuestion : ByteArray := prog_10_method_26_code
def yX1_isQuestion : MethodName := ⟨RX1, "isQuestion", "(I)Z"⟩
def dkwX1_isQuestion_0 : List UInt8 := [27, 133, 9, 42, 180, 0, 22, 4, 46, 4, 100, 133, 184, 0, 66, 172]
abbrev dktX1_isQuestion_0 : List UInt8 := dkwX1_isQuestion_0 ++ []
theorem dksX1_isQuestion_0 : cX1_isQuestion.data.toList.drop 0 = dktX1_isQuestion_0 := by decide +kernel
theorem dX1_isQuestion_0 : decode cX1_isQuestion 0 = .ok (.iload_n 1, 1) := dk_27 (dk_at dksX1_isQuestion_0 0 rfl rfl)
theorem dX1_isQuestion_1 : decode cX1_isQuestion 1 = .ok (.i2l, 1) := dk_133 (dk_at dksX1_isQuestion_0 1 rfl rfl)
theorem dX1_isQuestion_2 : decode cX1_isQuestion 2 = .ok (.lconst 0, 1) := dk_9 (dk_at dksX1_isQuestion_0 2 rfl rfl)
theorem dX1_isQuestion_3 : decode cX1_isQuestion 3 = .ok (.aload_n 0, 1) := dk_42 (dk_at dksX1_isQuestion_0 3 rfl rfl)
theorem dX1_isQuestion_4 : decode cX1_isQuestion 4 = .ok (.getfield 22, 3) := dk_180 0 22 (dk_at dksX1_isQuestion_0 4 rfl rfl)
theorem dX1_isQuestion_7 : decode cX1_isQuestion 7 = .ok (.iconst 1, 1) := dk_4 (dk_at dksX1_isQuestion_0 7 rfl rfl)
theorem dX1_isQuestion_8 : decode cX1_isQuestion 8 = .ok (.iaload, 1) := dk_46 (dk_at dksX1_isQuestion_0 8 rfl rfl)
theorem dX1_isQuestion_9 : decode cX1_isQuestion 9 = .ok (.iconst 1, 1) := dk_4 (dk_at dksX1_isQuestion_0 9 rfl rfl)
theorem dX1_isQuestion_10 : decode cX1_isQuestion 10 = .ok (.isub, 1) := dk_100 (dk_at dksX1_isQuestion_0 10 rfl rfl)
theorem dX1_isQuestion_11 : decode cX1_isQuestion 11 = .ok (.i2l, 1) := dk_133 (dk_at dksX1_isQuestion_0 11 rfl rfl)
theorem dX1_isQuestion_12 : decode cX1_isQuestion 12 = .ok (.invokestatic 66, 3) := dk_184 0 66 (dk_at dksX1_isQuestion_0 12 rfl rfl)
theorem dX1_isQuestion_15 : decode cX1_isQuestion 15 = .ok (.ireturn, 1) := dk_172 (dk_at dksX1_isQuestion_0 15 rfl rfl)
abbrev cX1_mark : ByteArray := prog_10_method_35_code
def yX1_mark : MethodName := ⟨RX1, "mark", "(II)I"⟩
def dkwX1_mark_11 : List UInt8 := [153, 0, 12, 21, 6, 153, 0, 7, 4, 167, 0, 4, 3, 96, 62, 132, 4, 1, 167, 255, 53, 29, 172]
abbrev dktX1_mark_11 : List UInt8 := dkwX1_mark_11 ++ []
def dkwX1_mark_10 : List UInt8 := [16, 10, 21, 4, 96, 46, 42, 27, 182, 0, 120, 160, 0, 7, 4, 167, 0, 4, 3, 54, 6, 29, 21, 5]
abbrev dktX1_mark_10 : List UInt8 := dkwX1_mark_10 ++ dktX1_mark_11
def dkwX1_mark_9 : List UInt8 := [160, 0, 37, 42, 180, 0, 22, 6, 21, 4, 96, 46, 5, 184, 0, 116, 153, 0, 25, 42, 180, 0, 22]
abbrev dktX1_mark_9 : List UInt8 := dkwX1_mark_9 ++ dktX1_mark_10
def dkwX1_mark_8 : List UInt8 := [42, 180, 0, 22, 16, 17, 27, 96, 46, 160, 0, 7, 4, 167, 0, 51, 3, 167, 0, 47, 28, 8]
abbrev dktX1_mark_8 : List UInt8 := dkwX1_mark_8 ++ dktX1_mark_9
def dkwX1_mark_7 : List UInt8 := [167, 0, 88, 28, 5, 160, 0, 39, 21, 4, 27, 159, 0, 29, 42, 180, 0, 22, 16, 17, 21, 4, 96, 46]
abbrev dktX1_mark_7 : List UInt8 := dkwX1_mark_7 ++ dktX1_mark_8
def dkwX1_mark_6 : List UInt8 := [21, 5, 153, 0, 21, 42, 21, 4, 182, 0, 120, 42, 27, 182, 0, 120, 160, 0, 7, 4, 167, 0, 92, 3]
abbrev dktX1_mark_6 : List UInt8 := dkwX1_mark_6 ++ dktX1_mark_7
def dkwX1_mark_5 : List UInt8 := [54, 5, 28, 4, 160, 0, 46, 42, 180, 0, 22, 6, 21, 4, 96, 46, 4, 184, 0, 116, 153, 0, 26]
abbrev dktX1_mark_5 : List UInt8 := dkwX1_mark_5 ++ dktX1_mark_6
def dkwX1_mark_4 : List UInt8 := [42, 21, 4, 27, 182, 0, 139, 153, 0, 7, 4, 167, 0, 13, 3, 167, 0, 9, 42, 21, 4, 182, 0, 129]
abbrev dktX1_mark_4 : List UInt8 := dkwX1_mark_4 ++ dktX1_mark_5
def dkwX1_mark_3 : List UInt8 := [3, 54, 4, 21, 4, 16, 7, 162, 0, 202, 28, 6, 160, 0, 30, 42, 21, 4, 182, 0, 136, 153, 0, 17]
abbrev dktX1_mark_3 : List UInt8 := dkwX1_mark_3 ++ dktX1_mark_4
def dkwX1_mark_2 : List UInt8 := [160, 0, 22, 42, 27, 182, 0, 120, 42, 180, 0, 22, 16, 10, 27, 96, 46, 100, 16, 10, 96, 172, 3, 62]
abbrev dktX1_mark_2 : List UInt8 := dkwX1_mark_2 ++ dktX1_mark_3
def dkwX1_mark_1 : List UInt8 := [180, 0, 22, 6, 27, 96, 46, 28, 184, 0, 116, 154, 0, 9, 42, 6, 182, 0, 76, 172, 28, 7]
abbrev dktX1_mark_1 : List UInt8 := dkwX1_mark_1 ++ dktX1_mark_2
def dkwX1_mark_0 : List UInt8 := [42, 27, 182, 0, 129, 153, 0, 15, 28, 133, 10, 20, 0, 64, 184, 0, 66, 154, 0, 5, 2, 172, 42]
abbrev dktX1_mark_0 : List UInt8 := dkwX1_mark_0 ++ dktX1_mark_1
theorem dksX1_mark_0 : cX1_mark.data.toList.drop 0 = dktX1_mark_0 := by decide +kernel
theorem dksX1_mark_1 : cX1_mark.data.toList.drop 23 = dktX1_mark_1 := dk_seg dksX1_mark_0 23 rfl rfl
theorem dksX1_mark_2 : cX1_mark.data.toList.drop 45 = dktX1_mark_2 := dk_seg dksX1_mark_1 22 rfl rfl
theorem dksX1_mark_3 : cX1_mark.data.toList.drop 69 = dktX1_mark_3 := dk_seg dksX1_mark_2 24 rfl rfl
theorem dksX1_mark_4 : cX1_mark.data.toList.drop 93 = dktX1_mark_4 := dk_seg dksX1_mark_3 24 rfl rfl
theorem dksX1_mark_5 : cX1_mark.data.toList.drop 117 = dktX1_mark_5 := dk_seg dksX1_mark_4 24 rfl rfl
theorem dksX1_mark_6 : cX1_mark.data.toList.drop 140 = dktX1_mark_6 := dk_seg dksX1_mark_5 23 rfl rfl
theorem dksX1_mark_7 : cX1_mark.data.toList.drop 164 = dktX1_mark_7 := dk_seg dksX1_mark_6 24 rfl rfl
theorem dksX1_mark_8 : cX1_mark.data.toList.drop 188 = dktX1_mark_8 := dk_seg dksX1_mark_7 24 rfl rfl
theorem dksX1_mark_9 : cX1_mark.data.toList.drop 210 = dktX1_mark_9 := dk_seg dksX1_mark_8 22 rfl rfl
theorem dksX1_mark_10 : cX1_mark.data.toList.drop 233 = dktX1_mark_10 := dk_seg dksX1_mark_9 23 rfl rfl
theorem dksX1_mark_11 : cX1_mark.data.toList.drop 257 = dktX1_mark_11 := dk_seg dksX1_mark_10 24 rfl rfl
theorem dX1_mark_0 : decode cX1_mark 0 = .ok (.aload_n 0, 1) := dk_42 (dk_at dksX1_mark_0 0 rfl rfl)
theorem dX1_mark_1 : decode cX1_mark 1 = .ok (.iload_n 1, 1) := dk_27 (dk_at dksX1_mark_0 1 rfl rfl)
theorem dX1_mark_2 : decode cX1_mark 2 = .ok (.invokevirtual 129, 3) := dk_182 0 129 (dk_at dksX1_mark_0 2 rfl rfl)
theorem dX1_mark_5 : decode cX1_mark 5 = .ok (.ifCond .eq 15, 3) := dk_153 0 15 (dk_at dksX1_mark_0 5 rfl rfl)
theorem dX1_mark_8 : decode cX1_mark 8 = .ok (.iload_n 2, 1) := dk_28 (dk_at dksX1_mark_0 8 rfl rfl)
theorem dX1_mark_9 : decode cX1_mark 9 = .ok (.i2l, 1) := dk_133 (dk_at dksX1_mark_0 9 rfl rfl)
theorem dX1_mark_10 : decode cX1_mark 10 = .ok (.lconst 1, 1) := dk_10 (dk_at dksX1_mark_0 10 rfl rfl)
theorem dX1_mark_11 : decode cX1_mark 11 = .ok (.ldc2_w 64, 3) := dk_20 0 64 (dk_at dksX1_mark_0 11 rfl rfl)
theorem dX1_mark_14 : decode cX1_mark 14 = .ok (.invokestatic 66, 3) := dk_184 0 66 (dk_at dksX1_mark_0 14 rfl rfl)
theorem dX1_mark_17 : decode cX1_mark 17 = .ok (.ifCond .ne 5, 3) := dk_154 0 5 (dk_at dksX1_mark_0 17 rfl rfl)
theorem dX1_mark_20 : decode cX1_mark 20 = .ok (.iconst (-1), 1) := dk_2 (dk_at dksX1_mark_0 20 rfl rfl)
theorem dX1_mark_21 : decode cX1_mark 21 = .ok (.ireturn, 1) := dk_172 (dk_at dksX1_mark_0 21 rfl rfl)
theorem dX1_mark_22 : decode cX1_mark 22 = .ok (.aload_n 0, 1) := dk_42 (dk_at dksX1_mark_0 22 rfl rfl)
theorem dX1_mark_23 : decode cX1_mark 23 = .ok (.getfield 22, 3) := dk_180 0 22 (dk_at dksX1_mark_1 0 rfl rfl)
theorem dX1_mark_26 : decode cX1_mark 26 = .ok (.iconst 3, 1) := dk_6 (dk_at dksX1_mark_1 3 rfl rfl)
theorem dX1_mark_27 : decode cX1_mark 27 = .ok (.iload_n 1, 1) := dk_27 (dk_at dksX1_mark_1 4 rfl rfl)
theorem dX1_mark_28 : decode cX1_mark 28 = .ok (.iadd, 1) := dk_96 (dk_at dksX1_mark_1 5 rfl rfl)
theorem dX1_mark_29 : decode cX1_mark 29 = .ok (.iaload, 1) := dk_46 (dk_at dksX1_mark_1 6 rfl rfl)
theorem dX1_mark_30 : decode cX1_mark 30 = .ok (.iload_n 2, 1) := dk_28 (dk_at dksX1_mark_1 7 rfl rfl)
theorem dX1_mark_31 : decode cX1_mark 31 = .ok (.invokestatic 116, 3) := dk_184 0 116 (dk_at dksX1_mark_1 8 rfl rfl)
theorem dX1_mark_34 : decode cX1_mark 34 = .ok (.ifCond .ne 9, 3) := dk_154 0 9 (dk_at dksX1_mark_1 11 rfl rfl)
theorem dX1_mark_37 : decode cX1_mark 37 = .ok (.aload_n 0, 1) := dk_42 (dk_at dksX1_mark_1 14 rfl rfl)
theorem dX1_mark_38 : decode cX1_mark 38 = .ok (.iconst 3, 1) := dk_6 (dk_at dksX1_mark_1 15 rfl rfl)
theorem dX1_mark_39 : decode cX1_mark 39 = .ok (.invokevirtual 76, 3) := dk_182 0 76 (dk_at dksX1_mark_1 16 rfl rfl)
theorem dX1_mark_42 : decode cX1_mark 42 = .ok (.ireturn, 1) := dk_172 (dk_at dksX1_mark_1 19 rfl rfl)
theorem dX1_mark_43 : decode cX1_mark 43 = .ok (.iload_n 2, 1) := dk_28 (dk_at dksX1_mark_1 20 rfl rfl)
theorem dX1_mark_44 : decode cX1_mark 44 = .ok (.iconst 4, 1) := dk_7 (dk_at dksX1_mark_1 21 rfl rfl)
theorem dX1_mark_45 : decode cX1_mark 45 = .ok (.if_icmp .ne 22, 3) := dk_160 0 22 (dk_at dksX1_mark_2 0 rfl rfl)
theorem dX1_mark_48 : decode cX1_mark 48 = .ok (.aload_n 0, 1) := dk_42 (dk_at dksX1_mark_2 3 rfl rfl)
theorem dX1_mark_49 : decode cX1_mark 49 = .ok (.iload_n 1, 1) := dk_27 (dk_at dksX1_mark_2 4 rfl rfl)
theorem dX1_mark_50 : decode cX1_mark 50 = .ok (.invokevirtual 120, 3) := dk_182 0 120 (dk_at dksX1_mark_2 5 rfl rfl)
theorem dX1_mark_53 : decode cX1_mark 53 = .ok (.aload_n 0, 1) := dk_42 (dk_at dksX1_mark_2 8 rfl rfl)
theorem dX1_mark_54 : decode cX1_mark 54 = .ok (.getfield 22, 3) := dk_180 0 22 (dk_at dksX1_mark_2 9 rfl rfl)
theorem dX1_mark_57 : decode cX1_mark 57 = .ok (.bipush 10, 2) := dk_16 10 (dk_at dksX1_mark_2 12 rfl rfl)
theorem dX1_mark_59 : decode cX1_mark 59 = .ok (.iload_n 1, 1) := dk_27 (dk_at dksX1_mark_2 14 rfl rfl)
theorem dX1_mark_60 : decode cX1_mark 60 = .ok (.iadd, 1) := dk_96 (dk_at dksX1_mark_2 15 rfl rfl)
theorem dX1_mark_61 : decode cX1_mark 61 = .ok (.iaload, 1) := dk_46 (dk_at dksX1_mark_2 16 rfl rfl)
theorem dX1_mark_62 : decode cX1_mark 62 = .ok (.isub, 1) := dk_100 (dk_at dksX1_mark_2 17 rfl rfl)
theorem dX1_mark_63 : decode cX1_mark 63 = .ok (.bipush 10, 2) := dk_16 10 (dk_at dksX1_mark_2 18 rfl rfl)
theorem dX1_mark_65 : decode cX1_mark 65 = .ok (.iadd, 1) := dk_96 (dk_at dksX1_mark_2 20 rfl rfl)
theorem dX1_mark_66 : decode cX1_mark 66 = .ok (.ireturn, 1) := dk_172 (dk_at dksX1_mark_2 21 rfl rfl)
theorem dX1_mark_67 : decode cX1_mark 67 = .ok (.iconst 0, 1) := dk_3 (dk_at dksX1_mark_2 22 rfl rfl)
theorem dX1_mark_68 : decode cX1_mark 68 = .ok (.istore_n 3, 1) := dk_62 (dk_at dksX1_mark_2 23 rfl rfl)
theorem dX1_mark_69 : decode cX1_mark 69 = .ok (.iconst 0, 1) := dk_3 (dk_at dksX1_mark_3 0 rfl rfl)
theorem dX1_mark_70 : decode cX1_mark 70 = .ok (.istore 4, 2) := dk_54 4 (dk_at dksX1_mark_3 1 rfl rfl)
theorem dX1_mark_72 : decode cX1_mark 72 = .ok (.iload 4, 2) := dk_21 4 (dk_at dksX1_mark_3 3 rfl rfl)
theorem dX1_mark_74 : decode cX1_mark 74 = .ok (.bipush 7, 2) := dk_16 7 (dk_at dksX1_mark_3 5 rfl rfl)
theorem dX1_mark_76 : decode cX1_mark 76 = .ok (.if_icmp .ge 202, 3) := dk_162 0 202 (dk_at dksX1_mark_3 7 rfl rfl)
theorem dX1_mark_79 : decode cX1_mark 79 = .ok (.iload_n 2, 1) := dk_28 (dk_at dksX1_mark_3 10 rfl rfl)
theorem dX1_mark_80 : decode cX1_mark 80 = .ok (.iconst 3, 1) := dk_6 (dk_at dksX1_mark_3 11 rfl rfl)
theorem dX1_mark_81 : decode cX1_mark 81 = .ok (.if_icmp .ne 30, 3) := dk_160 0 30 (dk_at dksX1_mark_3 12 rfl rfl)
theorem dX1_mark_84 : decode cX1_mark 84 = .ok (.aload_n 0, 1) := dk_42 (dk_at dksX1_mark_3 15 rfl rfl)
theorem dX1_mark_85 : decode cX1_mark 85 = .ok (.iload 4, 2) := dk_21 4 (dk_at dksX1_mark_3 16 rfl rfl)
theorem dX1_mark_87 : decode cX1_mark 87 = .ok (.invokevirtual 136, 3) := dk_182 0 136 (dk_at dksX1_mark_3 18 rfl rfl)
theorem dX1_mark_90 : decode cX1_mark 90 = .ok (.ifCond .eq 17, 3) := dk_153 0 17 (dk_at dksX1_mark_3 21 rfl rfl)
theorem dX1_mark_93 : decode cX1_mark 93 = .ok (.aload_n 0, 1) := dk_42 (dk_at dksX1_mark_4 0 rfl rfl)
theorem dX1_mark_94 : decode cX1_mark 94 = .ok (.iload 4, 2) := dk_21 4 (dk_at dksX1_mark_4 1 rfl rfl)
theorem dX1_mark_96 : decode cX1_mark 96 = .ok (.iload_n 1, 1) := dk_27 (dk_at dksX1_mark_4 3 rfl rfl)
theorem dX1_mark_97 : decode cX1_mark 97 = .ok (.invokevirtual 139, 3) := dk_182 0 139 (dk_at dksX1_mark_4 4 rfl rfl)
theorem dX1_mark_100 : decode cX1_mark 100 = .ok (.ifCond .eq 7, 3) := dk_153 0 7 (dk_at dksX1_mark_4 7 rfl rfl)
theorem dX1_mark_103 : decode cX1_mark 103 = .ok (.iconst 1, 1) := dk_4 (dk_at dksX1_mark_4 10 rfl rfl)
theorem dX1_mark_104 : decode cX1_mark 104 = .ok (.goto 13, 3) := dk_167 0 13 (dk_at dksX1_mark_4 11 rfl rfl)
theorem dX1_mark_107 : decode cX1_mark 107 = .ok (.iconst 0, 1) := dk_3 (dk_at dksX1_mark_4 14 rfl rfl)
theorem dX1_mark_108 : decode cX1_mark 108 = .ok (.goto 9, 3) := dk_167 0 9 (dk_at dksX1_mark_4 15 rfl rfl)
theorem dX1_mark_111 : decode cX1_mark 111 = .ok (.aload_n 0, 1) := dk_42 (dk_at dksX1_mark_4 18 rfl rfl)
theorem dX1_mark_112 : decode cX1_mark 112 = .ok (.iload 4, 2) := dk_21 4 (dk_at dksX1_mark_4 19 rfl rfl)
theorem dX1_mark_114 : decode cX1_mark 114 = .ok (.invokevirtual 129, 3) := dk_182 0 129 (dk_at dksX1_mark_4 21 rfl rfl)
theorem dX1_mark_117 : decode cX1_mark 117 = .ok (.istore 5, 2) := dk_54 5 (dk_at dksX1_mark_5 0 rfl rfl)
theorem dX1_mark_119 : decode cX1_mark 119 = .ok (.iload_n 2, 1) := dk_28 (dk_at dksX1_mark_5 2 rfl rfl)
theorem dX1_mark_120 : decode cX1_mark 120 = .ok (.iconst 1, 1) := dk_4 (dk_at dksX1_mark_5 3 rfl rfl)
theorem dX1_mark_121 : decode cX1_mark 121 = .ok (.if_icmp .ne 46, 3) := dk_160 0 46 (dk_at dksX1_mark_5 4 rfl rfl)
theorem dX1_mark_124 : decode cX1_mark 124 = .ok (.aload_n 0, 1) := dk_42 (dk_at dksX1_mark_5 7 rfl rfl)
theorem dX1_mark_125 : decode cX1_mark 125 = .ok (.getfield 22, 3) := dk_180 0 22 (dk_at dksX1_mark_5 8 rfl rfl)
theorem dX1_mark_128 : decode cX1_mark 128 = .ok (.iconst 3, 1) := dk_6 (dk_at dksX1_mark_5 11 rfl rfl)
theorem dX1_mark_129 : decode cX1_mark 129 = .ok (.iload 4, 2) := dk_21 4 (dk_at dksX1_mark_5 12 rfl rfl)
theorem dX1_mark_131 : decode cX1_mark 131 = .ok (.iadd, 1) := dk_96 (dk_at dksX1_mark_5 14 rfl rfl)
theorem dX1_mark_132 : decode cX1_mark 132 = .ok (.iaload, 1) := dk_46 (dk_at dksX1_mark_5 15 rfl rfl)
theorem dX1_mark_133 : decode cX1_mark 133 = .ok (.iconst 1, 1) := dk_4 (dk_at dksX1_mark_5 16 rfl rfl)
theorem dX1_mark_134 : decode cX1_mark 134 = .ok (.invokestatic 116, 3) := dk_184 0 116 (dk_at dksX1_mark_5 17 rfl rfl)
theorem dX1_mark_137 : decode cX1_mark 137 = .ok (.ifCond .eq 26, 3) := dk_153 0 26 (dk_at dksX1_mark_5 20 rfl rfl)
theorem dX1_mark_140 : decode cX1_mark 140 = .ok (.iload 5, 2) := dk_21 5 (dk_at dksX1_mark_6 0 rfl rfl)
theorem dX1_mark_142 : decode cX1_mark 142 = .ok (.ifCond .eq 21, 3) := dk_153 0 21 (dk_at dksX1_mark_6 2 rfl rfl)
theorem dX1_mark_145 : decode cX1_mark 145 = .ok (.aload_n 0, 1) := dk_42 (dk_at dksX1_mark_6 5 rfl rfl)
theorem dX1_mark_146 : decode cX1_mark 146 = .ok (.iload 4, 2) := dk_21 4 (dk_at dksX1_mark_6 6 rfl rfl)
theorem dX1_mark_148 : decode cX1_mark 148 = .ok (.invokevirtual 120, 3) := dk_182 0 120 (dk_at dksX1_mark_6 8 rfl rfl)
theorem dX1_mark_151 : decode cX1_mark 151 = .ok (.aload_n 0, 1) := dk_42 (dk_at dksX1_mark_6 11 rfl rfl)
theorem dX1_mark_152 : decode cX1_mark 152 = .ok (.iload_n 1, 1) := dk_27 (dk_at dksX1_mark_6 12 rfl rfl)
theorem dX1_mark_153 : decode cX1_mark 153 = .ok (.invokevirtual 120, 3) := dk_182 0 120 (dk_at dksX1_mark_6 13 rfl rfl)
theorem dX1_mark_156 : decode cX1_mark 156 = .ok (.if_icmp .ne 7, 3) := dk_160 0 7 (dk_at dksX1_mark_6 16 rfl rfl)
theorem dX1_mark_159 : decode cX1_mark 159 = .ok (.iconst 1, 1) := dk_4 (dk_at dksX1_mark_6 19 rfl rfl)
theorem dX1_mark_160 : decode cX1_mark 160 = .ok (.goto 92, 3) := dk_167 0 92 (dk_at dksX1_mark_6 20 rfl rfl)
theorem dX1_mark_163 : decode cX1_mark 163 = .ok (.iconst 0, 1) := dk_3 (dk_at dksX1_mark_6 23 rfl rfl)
theorem dX1_mark_164 : decode cX1_mark 164 = .ok (.goto 88, 3) := dk_167 0 88 (dk_at dksX1_mark_7 0 rfl rfl)
theorem dX1_mark_167 : decode cX1_mark 167 = .ok (.iload_n 2, 1) := dk_28 (dk_at dksX1_mark_7 3 rfl rfl)
theorem dX1_mark_168 : decode cX1_mark 168 = .ok (.iconst 2, 1) := dk_5 (dk_at dksX1_mark_7 4 rfl rfl)
theorem dX1_mark_169 : decode cX1_mark 169 = .ok (.if_icmp .ne 39, 3) := dk_160 0 39 (dk_at dksX1_mark_7 5 rfl rfl)
theorem dX1_mark_172 : decode cX1_mark 172 = .ok (.iload 4, 2) := dk_21 4 (dk_at dksX1_mark_7 8 rfl rfl)
theorem dX1_mark_174 : decode cX1_mark 174 = .ok (.iload_n 1, 1) := dk_27 (dk_at dksX1_mark_7 10 rfl rfl)
theorem dX1_mark_175 : decode cX1_mark 175 = .ok (.if_icmp .eq 29, 3) := dk_159 0 29 (dk_at dksX1_mark_7 11 rfl rfl)
theorem dX1_mark_178 : decode cX1_mark 178 = .ok (.aload_n 0, 1) := dk_42 (dk_at dksX1_mark_7 14 rfl rfl)
theorem dX1_mark_179 : decode cX1_mark 179 = .ok (.getfield 22, 3) := dk_180 0 22 (dk_at dksX1_mark_7 15 rfl rfl)
theorem dX1_mark_182 : decode cX1_mark 182 = .ok (.bipush 17, 2) := dk_16 17 (dk_at dksX1_mark_7 18 rfl rfl)
theorem dX1_mark_184 : decode cX1_mark 184 = .ok (.iload 4, 2) := dk_21 4 (dk_at dksX1_mark_7 20 rfl rfl)
theorem dX1_mark_186 : decode cX1_mark 186 = .ok (.iadd, 1) := dk_96 (dk_at dksX1_mark_7 22 rfl rfl)
theorem dX1_mark_187 : decode cX1_mark 187 = .ok (.iaload, 1) := dk_46 (dk_at dksX1_mark_7 23 rfl rfl)
theorem dX1_mark_188 : decode cX1_mark 188 = .ok (.aload_n 0, 1) := dk_42 (dk_at dksX1_mark_8 0 rfl rfl)
theorem dX1_mark_189 : decode cX1_mark 189 = .ok (.getfield 22, 3) := dk_180 0 22 (dk_at dksX1_mark_8 1 rfl rfl)
theorem dX1_mark_192 : decode cX1_mark 192 = .ok (.bipush 17, 2) := dk_16 17 (dk_at dksX1_mark_8 4 rfl rfl)
theorem dX1_mark_194 : decode cX1_mark 194 = .ok (.iload_n 1, 1) := dk_27 (dk_at dksX1_mark_8 6 rfl rfl)
theorem dX1_mark_195 : decode cX1_mark 195 = .ok (.iadd, 1) := dk_96 (dk_at dksX1_mark_8 7 rfl rfl)
theorem dX1_mark_196 : decode cX1_mark 196 = .ok (.iaload, 1) := dk_46 (dk_at dksX1_mark_8 8 rfl rfl)
theorem dX1_mark_197 : decode cX1_mark 197 = .ok (.if_icmp .ne 7, 3) := dk_160 0 7 (dk_at dksX1_mark_8 9 rfl rfl)
theorem dX1_mark_200 : decode cX1_mark 200 = .ok (.iconst 1, 1) := dk_4 (dk_at dksX1_mark_8 12 rfl rfl)
theorem dX1_mark_201 : decode cX1_mark 201 = .ok (.goto 51, 3) := dk_167 0 51 (dk_at dksX1_mark_8 13 rfl rfl)
theorem dX1_mark_204 : decode cX1_mark 204 = .ok (.iconst 0, 1) := dk_3 (dk_at dksX1_mark_8 16 rfl rfl)
theorem dX1_mark_205 : decode cX1_mark 205 = .ok (.goto 47, 3) := dk_167 0 47 (dk_at dksX1_mark_8 17 rfl rfl)
theorem dX1_mark_208 : decode cX1_mark 208 = .ok (.iload_n 2, 1) := dk_28 (dk_at dksX1_mark_8 20 rfl rfl)
theorem dX1_mark_209 : decode cX1_mark 209 = .ok (.iconst 5, 1) := dk_8 (dk_at dksX1_mark_8 21 rfl rfl)
theorem dX1_mark_210 : decode cX1_mark 210 = .ok (.if_icmp .ne 37, 3) := dk_160 0 37 (dk_at dksX1_mark_9 0 rfl rfl)
theorem dX1_mark_213 : decode cX1_mark 213 = .ok (.aload_n 0, 1) := dk_42 (dk_at dksX1_mark_9 3 rfl rfl)
theorem dX1_mark_214 : decode cX1_mark 214 = .ok (.getfield 22, 3) := dk_180 0 22 (dk_at dksX1_mark_9 4 rfl rfl)
theorem dX1_mark_217 : decode cX1_mark 217 = .ok (.iconst 3, 1) := dk_6 (dk_at dksX1_mark_9 7 rfl rfl)
theorem dX1_mark_218 : decode cX1_mark 218 = .ok (.iload 4, 2) := dk_21 4 (dk_at dksX1_mark_9 8 rfl rfl)
theorem dX1_mark_220 : decode cX1_mark 220 = .ok (.iadd, 1) := dk_96 (dk_at dksX1_mark_9 10 rfl rfl)
theorem dX1_mark_221 : decode cX1_mark 221 = .ok (.iaload, 1) := dk_46 (dk_at dksX1_mark_9 11 rfl rfl)
theorem dX1_mark_222 : decode cX1_mark 222 = .ok (.iconst 2, 1) := dk_5 (dk_at dksX1_mark_9 12 rfl rfl)
theorem dX1_mark_223 : decode cX1_mark 223 = .ok (.invokestatic 116, 3) := dk_184 0 116 (dk_at dksX1_mark_9 13 rfl rfl)
theorem dX1_mark_226 : decode cX1_mark 226 = .ok (.ifCond .eq 25, 3) := dk_153 0 25 (dk_at dksX1_mark_9 16 rfl rfl)
theorem dX1_mark_229 : decode cX1_mark 229 = .ok (.aload_n 0, 1) := dk_42 (dk_at dksX1_mark_9 19 rfl rfl)
theorem dX1_mark_230 : decode cX1_mark 230 = .ok (.getfield 22, 3) := dk_180 0 22 (dk_at dksX1_mark_9 20 rfl rfl)
theorem dX1_mark_233 : decode cX1_mark 233 = .ok (.bipush 10, 2) := dk_16 10 (dk_at dksX1_mark_10 0 rfl rfl)
theorem dX1_mark_235 : decode cX1_mark 235 = .ok (.iload 4, 2) := dk_21 4 (dk_at dksX1_mark_10 2 rfl rfl)
theorem dX1_mark_237 : decode cX1_mark 237 = .ok (.iadd, 1) := dk_96 (dk_at dksX1_mark_10 4 rfl rfl)
theorem dX1_mark_238 : decode cX1_mark 238 = .ok (.iaload, 1) := dk_46 (dk_at dksX1_mark_10 5 rfl rfl)
theorem dX1_mark_239 : decode cX1_mark 239 = .ok (.aload_n 0, 1) := dk_42 (dk_at dksX1_mark_10 6 rfl rfl)
theorem dX1_mark_240 : decode cX1_mark 240 = .ok (.iload_n 1, 1) := dk_27 (dk_at dksX1_mark_10 7 rfl rfl)
theorem dX1_mark_241 : decode cX1_mark 241 = .ok (.invokevirtual 120, 3) := dk_182 0 120 (dk_at dksX1_mark_10 8 rfl rfl)
theorem dX1_mark_244 : decode cX1_mark 244 = .ok (.if_icmp .ne 7, 3) := dk_160 0 7 (dk_at dksX1_mark_10 11 rfl rfl)
theorem dX1_mark_247 : decode cX1_mark 247 = .ok (.iconst 1, 1) := dk_4 (dk_at dksX1_mark_10 14 rfl rfl)
theorem dX1_mark_248 : decode cX1_mark 248 = .ok (.goto 4, 3) := dk_167 0 4 (dk_at dksX1_mark_10 15 rfl rfl)
theorem dX1_mark_251 : decode cX1_mark 251 = .ok (.iconst 0, 1) := dk_3 (dk_at dksX1_mark_10 18 rfl rfl)
theorem dX1_mark_252 : decode cX1_mark 252 = .ok (.istore 6, 2) := dk_54 6 (dk_at dksX1_mark_10 19 rfl rfl)
theorem dX1_mark_254 : decode cX1_mark 254 = .ok (.iload_n 3, 1) := dk_29 (dk_at dksX1_mark_10 21 rfl rfl)
theorem dX1_mark_255 : decode cX1_mark 255 = .ok (.iload 5, 2) := dk_21 5 (dk_at dksX1_mark_10 22 rfl rfl)
theorem dX1_mark_257 : decode cX1_mark 257 = .ok (.ifCond .eq 12, 3) := dk_153 0 12 (dk_at dksX1_mark_11 0 rfl rfl)
theorem dX1_mark_260 : decode cX1_mark 260 = .ok (.iload 6, 2) := dk_21 6 (dk_at dksX1_mark_11 3 rfl rfl)
theorem dX1_mark_262 : decode cX1_mark 262 = .ok (.ifCond .eq 7, 3) := dk_153 0 7 (dk_at dksX1_mark_11 5 rfl rfl)
theorem dX1_mark_265 : decode cX1_mark 265 = .ok (.iconst 1, 1) := dk_4 (dk_at dksX1_mark_11 8 rfl rfl)
theorem dX1_mark_266 : decode cX1_mark 266 = .ok (.goto 4, 3) := dk_167 0 4 (dk_at dksX1_mark_11 9 rfl rfl)
theorem dX1_mark_269 : decode cX1_mark 269 = .ok (.iconst 0, 1) := dk_3 (dk_at dksX1_mark_11 12 rfl rfl)
theorem dX1_mark_270 : decode cX1_mark 270 = .ok (.iadd, 1) := dk_96 (dk_at dksX1_mark_11 13 rfl rfl)
theorem dX1_mark_271 : decode cX1_mark 271 = .ok (.istore_n 3, 1) := dk_62 (dk_at dksX1_mark_11 14 rfl rfl)
theorem dX1_mark_272 : decode cX1_mark 272 = .ok (.iinc 4 1, 3) := dk_132 4 1 (dk_at dksX1_mark_11 15 rfl rfl)
theorem dX1_mark_275 : decode cX1_mark 275 = .ok (.goto (-203), 3) := dk_167 255 53 (dk_at dksX1_mark_11 18 rfl rfl)
theorem dX1_mark_278 : decode cX1_mark 278 = .ok (.iload_n 3, 1) := dk_29 (dk_at dksX1_mark_11 21 rfl rfl)
theorem dX1_mark_279 : decode cX1_mark 279 = .ok (.ireturn, 1) := dk_172 (dk_at dksX1_mark_11 22 rfl rfl)
abbrev cX1_isOf : ByteArray := prog_10_method_27_code
def yX1_isOf : MethodName := ⟨RX1, "isOf", "(II)Z"⟩
def dkwX1_isOf_1 : List UInt8 := [26, 8, 160, 0, 7, 4, 167, 0, 4, 3, 172]
abbrev dktX1_isOf_1 : List UInt8 := dkwX1_isOf_1 ++ []
def dkwX1_isOf_0 : List UInt8 := [27, 153, 0, 28, 26, 27, 159, 0, 23, 27, 4, 160, 0, 8, 26, 6, 159, 0, 13, 27, 5, 160, 0, 12]
abbrev dktX1_isOf_0 : List UInt8 := dkwX1_isOf_0 ++ dktX1_isOf_1
theorem dksX1_isOf_0 : cX1_isOf.data.toList.drop 0 = dktX1_isOf_0 := by decide +kernel
theorem dksX1_isOf_1 : cX1_isOf.data.toList.drop 24 = dktX1_isOf_1 := dk_seg dksX1_isOf_0 24 rfl rfl
theorem dX1_isOf_0 : decode cX1_isOf 0 = .ok (.iload_n 1, 1) := dk_27 (dk_at dksX1_isOf_0 0 rfl rfl)
theorem dX1_isOf_1 : decode cX1_isOf 1 = .ok (.ifCond .eq 28, 3) := dk_153 0 28 (dk_at dksX1_isOf_0 1 rfl rfl)
theorem dX1_isOf_4 : decode cX1_isOf 4 = .ok (.iload_n 0, 1) := dk_26 (dk_at dksX1_isOf_0 4 rfl rfl)
theorem dX1_isOf_5 : decode cX1_isOf 5 = .ok (.iload_n 1, 1) := dk_27 (dk_at dksX1_isOf_0 5 rfl rfl)
theorem dX1_isOf_6 : decode cX1_isOf 6 = .ok (.if_icmp .eq 23, 3) := dk_159 0 23 (dk_at dksX1_isOf_0 6 rfl rfl)
theorem dX1_isOf_9 : decode cX1_isOf 9 = .ok (.iload_n 1, 1) := dk_27 (dk_at dksX1_isOf_0 9 rfl rfl)
theorem dX1_isOf_10 : decode cX1_isOf 10 = .ok (.iconst 1, 1) := dk_4 (dk_at dksX1_isOf_0 10 rfl rfl)
theorem dX1_isOf_11 : decode cX1_isOf 11 = .ok (.if_icmp .ne 8, 3) := dk_160 0 8 (dk_at dksX1_isOf_0 11 rfl rfl)
theorem dX1_isOf_14 : decode cX1_isOf 14 = .ok (.iload_n 0, 1) := dk_26 (dk_at dksX1_isOf_0 14 rfl rfl)
theorem dX1_isOf_15 : decode cX1_isOf 15 = .ok (.iconst 3, 1) := dk_6 (dk_at dksX1_isOf_0 15 rfl rfl)
theorem dX1_isOf_16 : decode cX1_isOf 16 = .ok (.if_icmp .eq 13, 3) := dk_159 0 13 (dk_at dksX1_isOf_0 16 rfl rfl)
theorem dX1_isOf_19 : decode cX1_isOf 19 = .ok (.iload_n 1, 1) := dk_27 (dk_at dksX1_isOf_0 19 rfl rfl)
theorem dX1_isOf_20 : decode cX1_isOf 20 = .ok (.iconst 2, 1) := dk_5 (dk_at dksX1_isOf_0 20 rfl rfl)
theorem dX1_isOf_21 : decode cX1_isOf 21 = .ok (.if_icmp .ne 12, 3) := dk_160 0 12 (dk_at dksX1_isOf_0 21 rfl rfl)
theorem dX1_isOf_24 : decode cX1_isOf 24 = .ok (.iload_n 0, 1) := dk_26 (dk_at dksX1_isOf_1 0 rfl rfl)
theorem dX1_isOf_25 : decode cX1_isOf 25 = .ok (.iconst 5, 1) := dk_8 (dk_at dksX1_isOf_1 1 rfl rfl)
theorem dX1_isOf_26 : decode cX1_isOf 26 = .ok (.if_icmp .ne 7, 3) := dk_160 0 7 (dk_at dksX1_isOf_1 2 rfl rfl)
theorem dX1_isOf_29 : decode cX1_isOf 29 = .ok (.iconst 1, 1) := dk_4 (dk_at dksX1_isOf_1 5 rfl rfl)
theorem dX1_isOf_30 : decode cX1_isOf 30 = .ok (.goto 4, 3) := dk_167 0 4 (dk_at dksX1_isOf_1 6 rfl rfl)
theorem dX1_isOf_33 : decode cX1_isOf 33 = .ok (.iconst 0, 1) := dk_3 (dk_at dksX1_isOf_1 9 rfl rfl)
theorem dX1_isOf_34 : decode cX1_isOf 34 = .ok (.ireturn, 1) := dk_172 (dk_at dksX1_isOf_1 10 rfl rfl)
abbrev cX1_isFit : ByteArray := prog_10_method_30_code
def yX1_isFit : MethodName := ⟨RX1, "isFit", "(II)Z"⟩
def dkwX1_isFit_1 : List UInt8 := [16, 45, 27, 96, 46, 182, 0, 123, 172]
abbrev dktX1_isFit_1 : List UInt8 := dkwX1_isFit_1 ++ []
def dkwX1_isFit_0 : List UInt8 := [42, 28, 42, 180, 0, 22, 16, 31, 27, 96, 46, 42, 180, 0, 22, 16, 38, 27, 96, 46, 42, 180, 0, 22]
abbrev dktX1_isFit_0 : List UInt8 := dkwX1_isFit_0 ++ dktX1_isFit_1
theorem dksX1_isFit_0 : cX1_isFit.data.toList.drop 0 = dktX1_isFit_0 := by decide +kernel
theorem dksX1_isFit_1 : cX1_isFit.data.toList.drop 24 = dktX1_isFit_1 := dk_seg dksX1_isFit_0 24 rfl rfl
theorem dX1_isFit_0 : decode cX1_isFit 0 = .ok (.aload_n 0, 1) := dk_42 (dk_at dksX1_isFit_0 0 rfl rfl)
theorem dX1_isFit_1 : decode cX1_isFit 1 = .ok (.iload_n 2, 1) := dk_28 (dk_at dksX1_isFit_0 1 rfl rfl)
theorem dX1_isFit_2 : decode cX1_isFit 2 = .ok (.aload_n 0, 1) := dk_42 (dk_at dksX1_isFit_0 2 rfl rfl)
theorem dX1_isFit_3 : decode cX1_isFit 3 = .ok (.getfield 22, 3) := dk_180 0 22 (dk_at dksX1_isFit_0 3 rfl rfl)
theorem dX1_isFit_6 : decode cX1_isFit 6 = .ok (.bipush 31, 2) := dk_16 31 (dk_at dksX1_isFit_0 6 rfl rfl)
theorem dX1_isFit_8 : decode cX1_isFit 8 = .ok (.iload_n 1, 1) := dk_27 (dk_at dksX1_isFit_0 8 rfl rfl)
theorem dX1_isFit_9 : decode cX1_isFit 9 = .ok (.iadd, 1) := dk_96 (dk_at dksX1_isFit_0 9 rfl rfl)
theorem dX1_isFit_10 : decode cX1_isFit 10 = .ok (.iaload, 1) := dk_46 (dk_at dksX1_isFit_0 10 rfl rfl)
theorem dX1_isFit_11 : decode cX1_isFit 11 = .ok (.aload_n 0, 1) := dk_42 (dk_at dksX1_isFit_0 11 rfl rfl)
theorem dX1_isFit_12 : decode cX1_isFit 12 = .ok (.getfield 22, 3) := dk_180 0 22 (dk_at dksX1_isFit_0 12 rfl rfl)
theorem dX1_isFit_15 : decode cX1_isFit 15 = .ok (.bipush 38, 2) := dk_16 38 (dk_at dksX1_isFit_0 15 rfl rfl)
theorem dX1_isFit_17 : decode cX1_isFit 17 = .ok (.iload_n 1, 1) := dk_27 (dk_at dksX1_isFit_0 17 rfl rfl)
theorem dX1_isFit_18 : decode cX1_isFit 18 = .ok (.iadd, 1) := dk_96 (dk_at dksX1_isFit_0 18 rfl rfl)
theorem dX1_isFit_19 : decode cX1_isFit 19 = .ok (.iaload, 1) := dk_46 (dk_at dksX1_isFit_0 19 rfl rfl)
theorem dX1_isFit_20 : decode cX1_isFit 20 = .ok (.aload_n 0, 1) := dk_42 (dk_at dksX1_isFit_0 20 rfl rfl)
theorem dX1_isFit_21 : decode cX1_isFit 21 = .ok (.getfield 22, 3) := dk_180 0 22 (dk_at dksX1_isFit_0 21 rfl rfl)
theorem dX1_isFit_24 : decode cX1_isFit 24 = .ok (.bipush 45, 2) := dk_16 45 (dk_at dksX1_isFit_1 0 rfl rfl)
theorem dX1_isFit_26 : decode cX1_isFit 26 = .ok (.iload_n 1, 1) := dk_27 (dk_at dksX1_isFit_1 2 rfl rfl)
theorem dX1_isFit_27 : decode cX1_isFit 27 = .ok (.iadd, 1) := dk_96 (dk_at dksX1_isFit_1 3 rfl rfl)
theorem dX1_isFit_28 : decode cX1_isFit 28 = .ok (.iaload, 1) := dk_46 (dk_at dksX1_isFit_1 4 rfl rfl)
theorem dX1_isFit_29 : decode cX1_isFit 29 = .ok (.invokevirtual 123, 3) := dk_182 0 123 (dk_at dksX1_isFit_1 5 rfl rfl)
theorem dX1_isFit_32 : decode cX1_isFit 32 = .ok (.ireturn, 1) := dk_172 (dk_at dksX1_isFit_1 8 rfl rfl)
abbrev cX1_suits : ByteArray := prog_10_method_29_code
def yX1_suits : MethodName := ⟨RX1, "suits", "(IIII)Z"⟩
def dkwX1_suits_1 : List UInt8 := [21, 4, 133, 184, 0, 66, 153, 0, 7, 4, 167, 0, 4, 3, 172]
abbrev dktX1_suits_1 : List UInt8 := dkwX1_suits_1 ++ []
def dkwX1_suits_0 : List UInt8 := [42, 180, 0, 22, 6, 27, 96, 46, 28, 184, 0, 116, 153, 0, 24, 42, 27, 182, 0, 120, 133, 29, 133]
abbrev dktX1_suits_0 : List UInt8 := dkwX1_suits_0 ++ dktX1_suits_1
theorem dksX1_suits_0 : cX1_suits.data.toList.drop 0 = dktX1_suits_0 := by decide +kernel
theorem dksX1_suits_1 : cX1_suits.data.toList.drop 23 = dktX1_suits_1 := dk_seg dksX1_suits_0 23 rfl rfl
theorem dX1_suits_0 : decode cX1_suits 0 = .ok (.aload_n 0, 1) := dk_42 (dk_at dksX1_suits_0 0 rfl rfl)
theorem dX1_suits_1 : decode cX1_suits 1 = .ok (.getfield 22, 3) := dk_180 0 22 (dk_at dksX1_suits_0 1 rfl rfl)
theorem dX1_suits_4 : decode cX1_suits 4 = .ok (.iconst 3, 1) := dk_6 (dk_at dksX1_suits_0 4 rfl rfl)
theorem dX1_suits_5 : decode cX1_suits 5 = .ok (.iload_n 1, 1) := dk_27 (dk_at dksX1_suits_0 5 rfl rfl)
theorem dX1_suits_6 : decode cX1_suits 6 = .ok (.iadd, 1) := dk_96 (dk_at dksX1_suits_0 6 rfl rfl)
theorem dX1_suits_7 : decode cX1_suits 7 = .ok (.iaload, 1) := dk_46 (dk_at dksX1_suits_0 7 rfl rfl)
theorem dX1_suits_8 : decode cX1_suits 8 = .ok (.iload_n 2, 1) := dk_28 (dk_at dksX1_suits_0 8 rfl rfl)
theorem dX1_suits_9 : decode cX1_suits 9 = .ok (.invokestatic 116, 3) := dk_184 0 116 (dk_at dksX1_suits_0 9 rfl rfl)
theorem dX1_suits_12 : decode cX1_suits 12 = .ok (.ifCond .eq 24, 3) := dk_153 0 24 (dk_at dksX1_suits_0 12 rfl rfl)
theorem dX1_suits_15 : decode cX1_suits 15 = .ok (.aload_n 0, 1) := dk_42 (dk_at dksX1_suits_0 15 rfl rfl)
theorem dX1_suits_16 : decode cX1_suits 16 = .ok (.iload_n 1, 1) := dk_27 (dk_at dksX1_suits_0 16 rfl rfl)
theorem dX1_suits_17 : decode cX1_suits 17 = .ok (.invokevirtual 120, 3) := dk_182 0 120 (dk_at dksX1_suits_0 17 rfl rfl)
theorem dX1_suits_20 : decode cX1_suits 20 = .ok (.i2l, 1) := dk_133 (dk_at dksX1_suits_0 20 rfl rfl)
theorem dX1_suits_21 : decode cX1_suits 21 = .ok (.iload_n 3, 1) := dk_29 (dk_at dksX1_suits_0 21 rfl rfl)
theorem dX1_suits_22 : decode cX1_suits 22 = .ok (.i2l, 1) := dk_133 (dk_at dksX1_suits_0 22 rfl rfl)
theorem dX1_suits_23 : decode cX1_suits 23 = .ok (.iload 4, 2) := dk_21 4 (dk_at dksX1_suits_1 0 rfl rfl)
theorem dX1_suits_25 : decode cX1_suits 25 = .ok (.i2l, 1) := dk_133 (dk_at dksX1_suits_1 2 rfl rfl)
theorem dX1_suits_26 : decode cX1_suits 26 = .ok (.invokestatic 66, 3) := dk_184 0 66 (dk_at dksX1_suits_1 3 rfl rfl)
theorem dX1_suits_29 : decode cX1_suits 29 = .ok (.ifCond .eq 7, 3) := dk_153 0 7 (dk_at dksX1_suits_1 6 rfl rfl)
theorem dX1_suits_32 : decode cX1_suits 32 = .ok (.iconst 1, 1) := dk_4 (dk_at dksX1_suits_1 9 rfl rfl)
theorem dX1_suits_33 : decode cX1_suits 33 = .ok (.goto 4, 3) := dk_167 0 4 (dk_at dksX1_suits_1 10 rfl rfl)
theorem dX1_suits_36 : decode cX1_suits 36 = .ok (.iconst 0, 1) := dk_3 (dk_at dksX1_suits_1 13 rfl rfl)
theorem dX1_suits_37 : decode cX1_suits 37 = .ok (.ireturn, 1) := dk_172 (dk_at dksX1_suits_1 14 rfl rfl)
abbrev cX1_shelve : ByteArray := prog_10_method_37_code
def yX1_shelve : MethodName := ⟨RX1, "shelve", "(II)I"⟩
def dkwX1_shelve_1 : List UInt8 := [96, 28, 182, 0, 142, 167, 0, 4, 2, 172]
abbrev dktX1_shelve_1 : List UInt8 := dkwX1_shelve_1 ++ []
def dkwX1_shelve_0 : List UInt8 := [42, 27, 182, 0, 129, 153, 0, 27, 28, 133, 9, 20, 0, 70, 184, 0, 66, 153, 0, 15, 42, 16, 17, 27]
abbrev dktX1_shelve_0 : List UInt8 := dkwX1_shelve_0 ++ dktX1_shelve_1
theorem dksX1_shelve_0 : cX1_shelve.data.toList.drop 0 = dktX1_shelve_0 := by decide +kernel
theorem dksX1_shelve_1 : cX1_shelve.data.toList.drop 24 = dktX1_shelve_1 := dk_seg dksX1_shelve_0 24 rfl rfl
theorem dX1_shelve_0 : decode cX1_shelve 0 = .ok (.aload_n 0, 1) := dk_42 (dk_at dksX1_shelve_0 0 rfl rfl)
theorem dX1_shelve_1 : decode cX1_shelve 1 = .ok (.iload_n 1, 1) := dk_27 (dk_at dksX1_shelve_0 1 rfl rfl)
theorem dX1_shelve_2 : decode cX1_shelve 2 = .ok (.invokevirtual 129, 3) := dk_182 0 129 (dk_at dksX1_shelve_0 2 rfl rfl)
theorem dX1_shelve_5 : decode cX1_shelve 5 = .ok (.ifCond .eq 27, 3) := dk_153 0 27 (dk_at dksX1_shelve_0 5 rfl rfl)
theorem dX1_shelve_8 : decode cX1_shelve 8 = .ok (.iload_n 2, 1) := dk_28 (dk_at dksX1_shelve_0 8 rfl rfl)
theorem dX1_shelve_9 : decode cX1_shelve 9 = .ok (.i2l, 1) := dk_133 (dk_at dksX1_shelve_0 9 rfl rfl)
theorem dX1_shelve_10 : decode cX1_shelve 10 = .ok (.lconst 0, 1) := dk_9 (dk_at dksX1_shelve_0 10 rfl rfl)
theorem dX1_shelve_11 : decode cX1_shelve 11 = .ok (.ldc2_w 70, 3) := dk_20 0 70 (dk_at dksX1_shelve_0 11 rfl rfl)
theorem dX1_shelve_14 : decode cX1_shelve 14 = .ok (.invokestatic 66, 3) := dk_184 0 66 (dk_at dksX1_shelve_0 14 rfl rfl)
theorem dX1_shelve_17 : decode cX1_shelve 17 = .ok (.ifCond .eq 15, 3) := dk_153 0 15 (dk_at dksX1_shelve_0 17 rfl rfl)
theorem dX1_shelve_20 : decode cX1_shelve 20 = .ok (.aload_n 0, 1) := dk_42 (dk_at dksX1_shelve_0 20 rfl rfl)
theorem dX1_shelve_21 : decode cX1_shelve 21 = .ok (.bipush 17, 2) := dk_16 17 (dk_at dksX1_shelve_0 21 rfl rfl)
theorem dX1_shelve_23 : decode cX1_shelve 23 = .ok (.iload_n 1, 1) := dk_27 (dk_at dksX1_shelve_0 23 rfl rfl)
theorem dX1_shelve_24 : decode cX1_shelve 24 = .ok (.iadd, 1) := dk_96 (dk_at dksX1_shelve_1 0 rfl rfl)
theorem dX1_shelve_25 : decode cX1_shelve 25 = .ok (.iload_n 2, 1) := dk_28 (dk_at dksX1_shelve_1 1 rfl rfl)
theorem dX1_shelve_26 : decode cX1_shelve 26 = .ok (.invokevirtual 142, 3) := dk_182 0 142 (dk_at dksX1_shelve_1 2 rfl rfl)
theorem dX1_shelve_29 : decode cX1_shelve 29 = .ok (.goto 4, 3) := dk_167 0 4 (dk_at dksX1_shelve_1 5 rfl rfl)
theorem dX1_shelve_32 : decode cX1_shelve 32 = .ok (.iconst (-1), 1) := dk_2 (dk_at dksX1_shelve_1 8 rfl rfl)
theorem dX1_shelve_33 : decode cX1_shelve 33 = .ok (.ireturn, 1) := dk_172 (dk_at dksX1_shelve_1 9 rfl rfl)
abbrev cX1_puts : ByteArray := prog_10_method_36_code
def yX1_puts : MethodName := ⟨RX1, "puts", "(II)I"⟩
def dkwX1_puts_0 : List UInt8 := [42, 180, 0, 22, 27, 46, 62, 42, 180, 0, 22, 27, 28, 79, 29, 172]
abbrev dktX1_puts_0 : List UInt8 := dkwX1_puts_0 ++ []
theorem dksX1_puts_0 : cX1_puts.data.toList.drop 0 = dktX1_puts_0 := by decide +kernel
theorem dX1_puts_0 : decode cX1_puts 0 = .ok (.aload_n 0, 1) := dk_42 (dk_at dksX1_puts_0 0 rfl rfl)
theorem dX1_puts_1 : decode cX1_puts 1 = .ok (.getfield 22, 3) := dk_180 0 22 (dk_at dksX1_puts_0 1 rfl rfl)
theorem dX1_puts_4 : decode cX1_puts 4 = .ok (.iload_n 1, 1) := dk_27 (dk_at dksX1_puts_0 4 rfl rfl)
theorem dX1_puts_5 : decode cX1_puts 5 = .ok (.iaload, 1) := dk_46 (dk_at dksX1_puts_0 5 rfl rfl)
theorem dX1_puts_6 : decode cX1_puts 6 = .ok (.istore_n 3, 1) := dk_62 (dk_at dksX1_puts_0 6 rfl rfl)
theorem dX1_puts_7 : decode cX1_puts 7 = .ok (.aload_n 0, 1) := dk_42 (dk_at dksX1_puts_0 7 rfl rfl)
theorem dX1_puts_8 : decode cX1_puts 8 = .ok (.getfield 22, 3) := dk_180 0 22 (dk_at dksX1_puts_0 8 rfl rfl)
theorem dX1_puts_11 : decode cX1_puts 11 = .ok (.iload_n 1, 1) := dk_27 (dk_at dksX1_puts_0 11 rfl rfl)
theorem dX1_puts_12 : decode cX1_puts 12 = .ok (.iload_n 2, 1) := dk_28 (dk_at dksX1_puts_0 12 rfl rfl)
theorem dX1_puts_13 : decode cX1_puts 13 = .ok (.iastore, 1) := dk_79 (dk_at dksX1_puts_0 13 rfl rfl)
theorem dX1_puts_14 : decode cX1_puts 14 = .ok (.iload_n 3, 1) := dk_29 (dk_at dksX1_puts_0 14 rfl rfl)
theorem dX1_puts_15 : decode cX1_puts 15 = .ok (.ireturn, 1) := dk_172 (dk_at dksX1_puts_0 15 rfl rfl)
abbrev cX1_age : ByteArray := prog_10_method_38_code
def yX1_age : MethodName := ⟨RX1, "age", "(II)I"⟩
def dkwX1_age_1 : List UInt8 := [96, 28, 182, 0, 142, 167, 0, 4, 2, 172]
abbrev dktX1_age_1 : List UInt8 := dkwX1_age_1 ++ []
def dkwX1_age_0 : List UInt8 := [42, 27, 182, 0, 129, 153, 0, 27, 28, 133, 9, 20, 0, 145, 184, 0, 66, 153, 0, 15, 42, 16, 24, 27]
abbrev dktX1_age_0 : List UInt8 := dkwX1_age_0 ++ dktX1_age_1
theorem dksX1_age_0 : cX1_age.data.toList.drop 0 = dktX1_age_0 := by decide +kernel
theorem dksX1_age_1 : cX1_age.data.toList.drop 24 = dktX1_age_1 := dk_seg dksX1_age_0 24 rfl rfl
theorem dX1_age_0 : decode cX1_age 0 = .ok (.aload_n 0, 1) := dk_42 (dk_at dksX1_age_0 0 rfl rfl)
theorem dX1_age_1 : decode cX1_age 1 = .ok (.iload_n 1, 1) := dk_27 (dk_at dksX1_age_0 1 rfl rfl)
theorem dX1_age_2 : decode cX1_age 2 = .ok (.invokevirtual 129, 3) := dk_182 0 129 (dk_at dksX1_age_0 2 rfl rfl)
theorem dX1_age_5 : decode cX1_age 5 = .ok (.ifCond .eq 27, 3) := dk_153 0 27 (dk_at dksX1_age_0 5 rfl rfl)
theorem dX1_age_8 : decode cX1_age 8 = .ok (.iload_n 2, 1) := dk_28 (dk_at dksX1_age_0 8 rfl rfl)
theorem dX1_age_9 : decode cX1_age 9 = .ok (.i2l, 1) := dk_133 (dk_at dksX1_age_0 9 rfl rfl)
theorem dX1_age_10 : decode cX1_age 10 = .ok (.lconst 0, 1) := dk_9 (dk_at dksX1_age_0 10 rfl rfl)
theorem dX1_age_11 : decode cX1_age 11 = .ok (.ldc2_w 145, 3) := dk_20 0 145 (dk_at dksX1_age_0 11 rfl rfl)
theorem dX1_age_14 : decode cX1_age 14 = .ok (.invokestatic 66, 3) := dk_184 0 66 (dk_at dksX1_age_0 14 rfl rfl)
theorem dX1_age_17 : decode cX1_age 17 = .ok (.ifCond .eq 15, 3) := dk_153 0 15 (dk_at dksX1_age_0 17 rfl rfl)
theorem dX1_age_20 : decode cX1_age 20 = .ok (.aload_n 0, 1) := dk_42 (dk_at dksX1_age_0 20 rfl rfl)
theorem dX1_age_21 : decode cX1_age 21 = .ok (.bipush 24, 2) := dk_16 24 (dk_at dksX1_age_0 21 rfl rfl)
theorem dX1_age_23 : decode cX1_age 23 = .ok (.iload_n 1, 1) := dk_27 (dk_at dksX1_age_0 23 rfl rfl)
theorem dX1_age_24 : decode cX1_age 24 = .ok (.iadd, 1) := dk_96 (dk_at dksX1_age_1 0 rfl rfl)
theorem dX1_age_25 : decode cX1_age 25 = .ok (.iload_n 2, 1) := dk_28 (dk_at dksX1_age_1 1 rfl rfl)
theorem dX1_age_26 : decode cX1_age 26 = .ok (.invokevirtual 142, 3) := dk_182 0 142 (dk_at dksX1_age_1 2 rfl rfl)
theorem dX1_age_29 : decode cX1_age 29 = .ok (.goto 4, 3) := dk_167 0 4 (dk_at dksX1_age_1 5 rfl rfl)
theorem dX1_age_32 : decode cX1_age 32 = .ok (.iconst (-1), 1) := dk_2 (dk_at dksX1_age_1 8 rfl rfl)
theorem dX1_age_33 : decode cX1_age 33 = .ok (.ireturn, 1) := dk_172 (dk_at dksX1_age_1 9 rfl rfl)
abbrev cX1_truth : ByteArray := prog_10_method_39_code
def yX1_truth : MethodName := ⟨RX1, "truth", "(II)I"⟩
def dkwX1_truth_1 : List UInt8 := [153, 0, 15, 42, 16, 59, 27, 96, 28, 182, 0, 142, 167, 0, 4, 2, 172]
abbrev dktX1_truth_1 : List UInt8 := dkwX1_truth_1 ++ []
def dkwX1_truth_0 : List UInt8 := [42, 27, 182, 0, 136, 153, 0, 33, 28, 16, 247, 159, 0, 15, 28, 133, 9, 20, 0, 145, 184, 0, 66]
abbrev dktX1_truth_0 : List UInt8 := dkwX1_truth_0 ++ dktX1_truth_1
theorem dksX1_truth_0 : cX1_truth.data.toList.drop 0 = dktX1_truth_0 := by decide +kernel
theorem dksX1_truth_1 : cX1_truth.data.toList.drop 23 = dktX1_truth_1 := dk_seg dksX1_truth_0 23 rfl rfl
theorem dX1_truth_0 : decode cX1_truth 0 = .ok (.aload_n 0, 1) := dk_42 (dk_at dksX1_truth_0 0 rfl rfl)
theorem dX1_truth_1 : decode cX1_truth 1 = .ok (.iload_n 1, 1) := dk_27 (dk_at dksX1_truth_0 1 rfl rfl)
theorem dX1_truth_2 : decode cX1_truth 2 = .ok (.invokevirtual 136, 3) := dk_182 0 136 (dk_at dksX1_truth_0 2 rfl rfl)
theorem dX1_truth_5 : decode cX1_truth 5 = .ok (.ifCond .eq 33, 3) := dk_153 0 33 (dk_at dksX1_truth_0 5 rfl rfl)
theorem dX1_truth_8 : decode cX1_truth 8 = .ok (.iload_n 2, 1) := dk_28 (dk_at dksX1_truth_0 8 rfl rfl)
theorem dX1_truth_9 : decode cX1_truth 9 = .ok (.bipush (-9), 2) := dk_16 247 (dk_at dksX1_truth_0 9 rfl rfl)
theorem dX1_truth_11 : decode cX1_truth 11 = .ok (.if_icmp .eq 15, 3) := dk_159 0 15 (dk_at dksX1_truth_0 11 rfl rfl)
theorem dX1_truth_14 : decode cX1_truth 14 = .ok (.iload_n 2, 1) := dk_28 (dk_at dksX1_truth_0 14 rfl rfl)
theorem dX1_truth_15 : decode cX1_truth 15 = .ok (.i2l, 1) := dk_133 (dk_at dksX1_truth_0 15 rfl rfl)
theorem dX1_truth_16 : decode cX1_truth 16 = .ok (.lconst 0, 1) := dk_9 (dk_at dksX1_truth_0 16 rfl rfl)
theorem dX1_truth_17 : decode cX1_truth 17 = .ok (.ldc2_w 145, 3) := dk_20 0 145 (dk_at dksX1_truth_0 17 rfl rfl)
theorem dX1_truth_20 : decode cX1_truth 20 = .ok (.invokestatic 66, 3) := dk_184 0 66 (dk_at dksX1_truth_0 20 rfl rfl)
theorem dX1_truth_23 : decode cX1_truth 23 = .ok (.ifCond .eq 15, 3) := dk_153 0 15 (dk_at dksX1_truth_1 0 rfl rfl)
theorem dX1_truth_26 : decode cX1_truth 26 = .ok (.aload_n 0, 1) := dk_42 (dk_at dksX1_truth_1 3 rfl rfl)
theorem dX1_truth_27 : decode cX1_truth 27 = .ok (.bipush 59, 2) := dk_16 59 (dk_at dksX1_truth_1 4 rfl rfl)
theorem dX1_truth_29 : decode cX1_truth 29 = .ok (.iload_n 1, 1) := dk_27 (dk_at dksX1_truth_1 6 rfl rfl)
theorem dX1_truth_30 : decode cX1_truth 30 = .ok (.iadd, 1) := dk_96 (dk_at dksX1_truth_1 7 rfl rfl)
theorem dX1_truth_31 : decode cX1_truth 31 = .ok (.iload_n 2, 1) := dk_28 (dk_at dksX1_truth_1 8 rfl rfl)
theorem dX1_truth_32 : decode cX1_truth 32 = .ok (.invokevirtual 142, 3) := dk_182 0 142 (dk_at dksX1_truth_1 9 rfl rfl)
theorem dX1_truth_35 : decode cX1_truth 35 = .ok (.goto 4, 3) := dk_167 0 4 (dk_at dksX1_truth_1 12 rfl rfl)
theorem dX1_truth_38 : decode cX1_truth 38 = .ok (.iconst (-1), 1) := dk_2 (dk_at dksX1_truth_1 15 rfl rfl)
theorem dX1_truth_39 : decode cX1_truth 39 = .ok (.ireturn, 1) := dk_172 (dk_at dksX1_truth_1 16 rfl rfl)
abbrev cX1_fits : ByteArray := prog_10_method_40_code
def yX1_fits : MethodName := ⟨RX1, "fits", "(I)I"⟩
def dkwX1_fits_2 : List UInt8 := [167, 255, 224, 28, 172]
abbrev dktX1_fits_2 : List UInt8 := dkwX1_fits_2 ++ []
def dkwX1_fits_1 : List UInt8 := [28, 42, 27, 29, 182, 0, 139, 153, 0, 9, 4, 29, 120, 167, 0, 4, 3, 128, 61, 132, 3, 1]
abbrev dktX1_fits_1 : List UInt8 := dkwX1_fits_1 ++ dktX1_fits_2
def dkwX1_fits_0 : List UInt8 := [42, 27, 182, 0, 136, 154, 0, 5, 2, 172, 3, 61, 3, 62, 29, 42, 180, 0, 22, 3, 46, 162, 0, 28]
abbrev dktX1_fits_0 : List UInt8 := dkwX1_fits_0 ++ dktX1_fits_1
theorem dksX1_fits_0 : cX1_fits.data.toList.drop 0 = dktX1_fits_0 := by decide +kernel
theorem dksX1_fits_1 : cX1_fits.data.toList.drop 24 = dktX1_fits_1 := dk_seg dksX1_fits_0 24 rfl rfl
theorem dksX1_fits_2 : cX1_fits.data.toList.drop 46 = dktX1_fits_2 := dk_seg dksX1_fits_1 22 rfl rfl
theorem dX1_fits_0 : decode cX1_fits 0 = .ok (.aload_n 0, 1) := dk_42 (dk_at dksX1_fits_0 0 rfl rfl)
theorem dX1_fits_1 : decode cX1_fits 1 = .ok (.iload_n 1, 1) := dk_27 (dk_at dksX1_fits_0 1 rfl rfl)
theorem dX1_fits_2 : decode cX1_fits 2 = .ok (.invokevirtual 136, 3) := dk_182 0 136 (dk_at dksX1_fits_0 2 rfl rfl)
theorem dX1_fits_5 : decode cX1_fits 5 = .ok (.ifCond .ne 5, 3) := dk_154 0 5 (dk_at dksX1_fits_0 5 rfl rfl)
theorem dX1_fits_8 : decode cX1_fits 8 = .ok (.iconst (-1), 1) := dk_2 (dk_at dksX1_fits_0 8 rfl rfl)
theorem dX1_fits_9 : decode cX1_fits 9 = .ok (.ireturn, 1) := dk_172 (dk_at dksX1_fits_0 9 rfl rfl)
theorem dX1_fits_10 : decode cX1_fits 10 = .ok (.iconst 0, 1) := dk_3 (dk_at dksX1_fits_0 10 rfl rfl)
theorem dX1_fits_11 : decode cX1_fits 11 = .ok (.istore_n 2, 1) := dk_61 (dk_at dksX1_fits_0 11 rfl rfl)
theorem dX1_fits_12 : decode cX1_fits 12 = .ok (.iconst 0, 1) := dk_3 (dk_at dksX1_fits_0 12 rfl rfl)
theorem dX1_fits_13 : decode cX1_fits 13 = .ok (.istore_n 3, 1) := dk_62 (dk_at dksX1_fits_0 13 rfl rfl)
theorem dX1_fits_14 : decode cX1_fits 14 = .ok (.iload_n 3, 1) := dk_29 (dk_at dksX1_fits_0 14 rfl rfl)
theorem dX1_fits_15 : decode cX1_fits 15 = .ok (.aload_n 0, 1) := dk_42 (dk_at dksX1_fits_0 15 rfl rfl)
theorem dX1_fits_16 : decode cX1_fits 16 = .ok (.getfield 22, 3) := dk_180 0 22 (dk_at dksX1_fits_0 16 rfl rfl)
theorem dX1_fits_19 : decode cX1_fits 19 = .ok (.iconst 0, 1) := dk_3 (dk_at dksX1_fits_0 19 rfl rfl)
theorem dX1_fits_20 : decode cX1_fits 20 = .ok (.iaload, 1) := dk_46 (dk_at dksX1_fits_0 20 rfl rfl)
theorem dX1_fits_21 : decode cX1_fits 21 = .ok (.if_icmp .ge 28, 3) := dk_162 0 28 (dk_at dksX1_fits_0 21 rfl rfl)
theorem dX1_fits_24 : decode cX1_fits 24 = .ok (.iload_n 2, 1) := dk_28 (dk_at dksX1_fits_1 0 rfl rfl)
theorem dX1_fits_25 : decode cX1_fits 25 = .ok (.aload_n 0, 1) := dk_42 (dk_at dksX1_fits_1 1 rfl rfl)
theorem dX1_fits_26 : decode cX1_fits 26 = .ok (.iload_n 1, 1) := dk_27 (dk_at dksX1_fits_1 2 rfl rfl)
theorem dX1_fits_27 : decode cX1_fits 27 = .ok (.iload_n 3, 1) := dk_29 (dk_at dksX1_fits_1 3 rfl rfl)
theorem dX1_fits_28 : decode cX1_fits 28 = .ok (.invokevirtual 139, 3) := dk_182 0 139 (dk_at dksX1_fits_1 4 rfl rfl)
theorem dX1_fits_31 : decode cX1_fits 31 = .ok (.ifCond .eq 9, 3) := dk_153 0 9 (dk_at dksX1_fits_1 7 rfl rfl)
theorem dX1_fits_34 : decode cX1_fits 34 = .ok (.iconst 1, 1) := dk_4 (dk_at dksX1_fits_1 10 rfl rfl)
theorem dX1_fits_35 : decode cX1_fits 35 = .ok (.iload_n 3, 1) := dk_29 (dk_at dksX1_fits_1 11 rfl rfl)
theorem dX1_fits_36 : decode cX1_fits 36 = .ok (.ishl, 1) := dk_120 (dk_at dksX1_fits_1 12 rfl rfl)
theorem dX1_fits_37 : decode cX1_fits 37 = .ok (.goto 4, 3) := dk_167 0 4 (dk_at dksX1_fits_1 13 rfl rfl)
theorem dX1_fits_40 : decode cX1_fits 40 = .ok (.iconst 0, 1) := dk_3 (dk_at dksX1_fits_1 16 rfl rfl)
theorem dX1_fits_41 : decode cX1_fits 41 = .ok (.ior, 1) := dk_128 (dk_at dksX1_fits_1 17 rfl rfl)
theorem dX1_fits_42 : decode cX1_fits 42 = .ok (.istore_n 2, 1) := dk_61 (dk_at dksX1_fits_1 18 rfl rfl)
theorem dX1_fits_43 : decode cX1_fits 43 = .ok (.iinc 3 1, 3) := dk_132 3 1 (dk_at dksX1_fits_1 19 rfl rfl)
theorem dX1_fits_46 : decode cX1_fits 46 = .ok (.goto (-32), 3) := dk_167 255 224 (dk_at dksX1_fits_2 0 rfl rfl)
theorem dX1_fits_49 : decode cX1_fits 49 = .ok (.iload_n 2, 1) := dk_28 (dk_at dksX1_fits_2 3 rfl rfl)
theorem dX1_fits_50 : decode cX1_fits 50 = .ok (.ireturn, 1) := dk_172 (dk_at dksX1_fits_2 4 rfl rfl)
abbrev cX1_take : ByteArray := prog_10_method_45_code
def yX1_take : MethodName := ⟨RX1, "take", "(II)I"⟩
def dkwX1_take_3 : List UInt8 := [172]
abbrev dktX1_take_3 : List UInt8 := dkwX1_take_3 ++ []
def dkwX1_take_2 : List UInt8 := [180, 0, 22, 5, 46, 16, 40, 160, 0, 6, 16, 254, 172, 42, 27, 28, 182, 0, 153, 42, 27, 182, 0, 157]
abbrev dktX1_take_2 : List UInt8 := dkwX1_take_2 ++ dktX1_take_3
def dkwX1_take_1 : List UInt8 := [153, 0, 19, 42, 27, 182, 0, 147, 153, 0, 11, 42, 28, 182, 0, 150, 154, 0, 6, 16, 252, 172, 42]
abbrev dktX1_take_1 : List UInt8 := dkwX1_take_1 ++ dktX1_take_2
def dkwX1_take_0 : List UInt8 := [42, 27, 182, 0, 136, 153, 0, 11, 42, 28, 182, 0, 129, 154, 0, 5, 2, 172, 42, 27, 28, 182, 0, 139]
abbrev dktX1_take_0 : List UInt8 := dkwX1_take_0 ++ dktX1_take_1
theorem dksX1_take_0 : cX1_take.data.toList.drop 0 = dktX1_take_0 := by decide +kernel
theorem dksX1_take_1 : cX1_take.data.toList.drop 24 = dktX1_take_1 := dk_seg dksX1_take_0 24 rfl rfl
theorem dksX1_take_2 : cX1_take.data.toList.drop 47 = dktX1_take_2 := dk_seg dksX1_take_1 23 rfl rfl
theorem dksX1_take_3 : cX1_take.data.toList.drop 71 = dktX1_take_3 := dk_seg dksX1_take_2 24 rfl rfl
theorem dX1_take_0 : decode cX1_take 0 = .ok (.aload_n 0, 1) := dk_42 (dk_at dksX1_take_0 0 rfl rfl)
theorem dX1_take_1 : decode cX1_take 1 = .ok (.iload_n 1, 1) := dk_27 (dk_at dksX1_take_0 1 rfl rfl)
theorem dX1_take_2 : decode cX1_take 2 = .ok (.invokevirtual 136, 3) := dk_182 0 136 (dk_at dksX1_take_0 2 rfl rfl)
theorem dX1_take_5 : decode cX1_take 5 = .ok (.ifCond .eq 11, 3) := dk_153 0 11 (dk_at dksX1_take_0 5 rfl rfl)
theorem dX1_take_8 : decode cX1_take 8 = .ok (.aload_n 0, 1) := dk_42 (dk_at dksX1_take_0 8 rfl rfl)
theorem dX1_take_9 : decode cX1_take 9 = .ok (.iload_n 2, 1) := dk_28 (dk_at dksX1_take_0 9 rfl rfl)
theorem dX1_take_10 : decode cX1_take 10 = .ok (.invokevirtual 129, 3) := dk_182 0 129 (dk_at dksX1_take_0 10 rfl rfl)
theorem dX1_take_13 : decode cX1_take 13 = .ok (.ifCond .ne 5, 3) := dk_154 0 5 (dk_at dksX1_take_0 13 rfl rfl)
theorem dX1_take_16 : decode cX1_take 16 = .ok (.iconst (-1), 1) := dk_2 (dk_at dksX1_take_0 16 rfl rfl)
theorem dX1_take_17 : decode cX1_take 17 = .ok (.ireturn, 1) := dk_172 (dk_at dksX1_take_0 17 rfl rfl)
theorem dX1_take_18 : decode cX1_take 18 = .ok (.aload_n 0, 1) := dk_42 (dk_at dksX1_take_0 18 rfl rfl)
theorem dX1_take_19 : decode cX1_take 19 = .ok (.iload_n 1, 1) := dk_27 (dk_at dksX1_take_0 19 rfl rfl)
theorem dX1_take_20 : decode cX1_take 20 = .ok (.iload_n 2, 1) := dk_28 (dk_at dksX1_take_0 20 rfl rfl)
theorem dX1_take_21 : decode cX1_take 21 = .ok (.invokevirtual 139, 3) := dk_182 0 139 (dk_at dksX1_take_0 21 rfl rfl)
theorem dX1_take_24 : decode cX1_take 24 = .ok (.ifCond .eq 19, 3) := dk_153 0 19 (dk_at dksX1_take_1 0 rfl rfl)
theorem dX1_take_27 : decode cX1_take 27 = .ok (.aload_n 0, 1) := dk_42 (dk_at dksX1_take_1 3 rfl rfl)
theorem dX1_take_28 : decode cX1_take 28 = .ok (.iload_n 1, 1) := dk_27 (dk_at dksX1_take_1 4 rfl rfl)
theorem dX1_take_29 : decode cX1_take 29 = .ok (.invokevirtual 147, 3) := dk_182 0 147 (dk_at dksX1_take_1 5 rfl rfl)
theorem dX1_take_32 : decode cX1_take 32 = .ok (.ifCond .eq 11, 3) := dk_153 0 11 (dk_at dksX1_take_1 8 rfl rfl)
theorem dX1_take_35 : decode cX1_take 35 = .ok (.aload_n 0, 1) := dk_42 (dk_at dksX1_take_1 11 rfl rfl)
theorem dX1_take_36 : decode cX1_take 36 = .ok (.iload_n 2, 1) := dk_28 (dk_at dksX1_take_1 12 rfl rfl)
theorem dX1_take_37 : decode cX1_take 37 = .ok (.invokevirtual 150, 3) := dk_182 0 150 (dk_at dksX1_take_1 13 rfl rfl)
theorem dX1_take_40 : decode cX1_take 40 = .ok (.ifCond .ne 6, 3) := dk_154 0 6 (dk_at dksX1_take_1 16 rfl rfl)
theorem dX1_take_43 : decode cX1_take 43 = .ok (.bipush (-4), 2) := dk_16 252 (dk_at dksX1_take_1 19 rfl rfl)
theorem dX1_take_45 : decode cX1_take 45 = .ok (.ireturn, 1) := dk_172 (dk_at dksX1_take_1 21 rfl rfl)
theorem dX1_take_46 : decode cX1_take 46 = .ok (.aload_n 0, 1) := dk_42 (dk_at dksX1_take_1 22 rfl rfl)
theorem dX1_take_47 : decode cX1_take 47 = .ok (.getfield 22, 3) := dk_180 0 22 (dk_at dksX1_take_2 0 rfl rfl)
theorem dX1_take_50 : decode cX1_take 50 = .ok (.iconst 2, 1) := dk_5 (dk_at dksX1_take_2 3 rfl rfl)
theorem dX1_take_51 : decode cX1_take 51 = .ok (.iaload, 1) := dk_46 (dk_at dksX1_take_2 4 rfl rfl)
theorem dX1_take_52 : decode cX1_take 52 = .ok (.bipush 40, 2) := dk_16 40 (dk_at dksX1_take_2 5 rfl rfl)
theorem dX1_take_54 : decode cX1_take 54 = .ok (.if_icmp .ne 6, 3) := dk_160 0 6 (dk_at dksX1_take_2 7 rfl rfl)
theorem dX1_take_57 : decode cX1_take 57 = .ok (.bipush (-2), 2) := dk_16 254 (dk_at dksX1_take_2 10 rfl rfl)
theorem dX1_take_59 : decode cX1_take 59 = .ok (.ireturn, 1) := dk_172 (dk_at dksX1_take_2 12 rfl rfl)
theorem dX1_take_60 : decode cX1_take 60 = .ok (.aload_n 0, 1) := dk_42 (dk_at dksX1_take_2 13 rfl rfl)
theorem dX1_take_61 : decode cX1_take 61 = .ok (.iload_n 1, 1) := dk_27 (dk_at dksX1_take_2 14 rfl rfl)
theorem dX1_take_62 : decode cX1_take 62 = .ok (.iload_n 2, 1) := dk_28 (dk_at dksX1_take_2 15 rfl rfl)
theorem dX1_take_63 : decode cX1_take 63 = .ok (.invokevirtual 153, 3) := dk_182 0 153 (dk_at dksX1_take_2 16 rfl rfl)
theorem dX1_take_66 : decode cX1_take 66 = .ok (.aload_n 0, 1) := dk_42 (dk_at dksX1_take_2 19 rfl rfl)
theorem dX1_take_67 : decode cX1_take 67 = .ok (.iload_n 1, 1) := dk_27 (dk_at dksX1_take_2 20 rfl rfl)
theorem dX1_take_68 : decode cX1_take 68 = .ok (.invokevirtual 157, 3) := dk_182 0 157 (dk_at dksX1_take_2 21 rfl rfl)
theorem dX1_take_71 : decode cX1_take 71 = .ok (.ireturn, 1) := dk_172 (dk_at dksX1_take_3 0 rfl rfl)
abbrev cX1_isFree : ByteArray := prog_10_method_42_code
def yX1_isFree : MethodName := ⟨RX1, "isFree", "(I)Z"⟩
def dkwX1_isFree_0 : List UInt8 := [42, 180, 0, 22, 16, 66, 27, 96, 46, 16, 247, 160, 0, 7, 4, 167, 0, 4, 3, 172]
abbrev dktX1_isFree_0 : List UInt8 := dkwX1_isFree_0 ++ []
theorem dksX1_isFree_0 : cX1_isFree.data.toList.drop 0 = dktX1_isFree_0 := by decide +kernel
theorem dX1_isFree_0 : decode cX1_isFree 0 = .ok (.aload_n 0, 1) := dk_42 (dk_at dksX1_isFree_0 0 rfl rfl)
theorem dX1_isFree_1 : decode cX1_isFree 1 = .ok (.getfield 22, 3) := dk_180 0 22 (dk_at dksX1_isFree_0 1 rfl rfl)
theorem dX1_isFree_4 : decode cX1_isFree 4 = .ok (.bipush 66, 2) := dk_16 66 (dk_at dksX1_isFree_0 4 rfl rfl)
theorem dX1_isFree_6 : decode cX1_isFree 6 = .ok (.iload_n 1, 1) := dk_27 (dk_at dksX1_isFree_0 6 rfl rfl)
theorem dX1_isFree_7 : decode cX1_isFree 7 = .ok (.iadd, 1) := dk_96 (dk_at dksX1_isFree_0 7 rfl rfl)
theorem dX1_isFree_8 : decode cX1_isFree 8 = .ok (.iaload, 1) := dk_46 (dk_at dksX1_isFree_0 8 rfl rfl)
theorem dX1_isFree_9 : decode cX1_isFree 9 = .ok (.bipush (-9), 2) := dk_16 247 (dk_at dksX1_isFree_0 9 rfl rfl)
theorem dX1_isFree_11 : decode cX1_isFree 11 = .ok (.if_icmp .ne 7, 3) := dk_160 0 7 (dk_at dksX1_isFree_0 11 rfl rfl)
theorem dX1_isFree_14 : decode cX1_isFree 14 = .ok (.iconst 1, 1) := dk_4 (dk_at dksX1_isFree_0 14 rfl rfl)
theorem dX1_isFree_15 : decode cX1_isFree 15 = .ok (.goto 4, 3) := dk_167 0 4 (dk_at dksX1_isFree_0 15 rfl rfl)
theorem dX1_isFree_18 : decode cX1_isFree 18 = .ok (.iconst 0, 1) := dk_3 (dk_at dksX1_isFree_0 18 rfl rfl)
theorem dX1_isFree_19 : decode cX1_isFree 19 = .ok (.ireturn, 1) := dk_172 (dk_at dksX1_isFree_0 19 rfl rfl)
abbrev cX1_isFreeCard : ByteArray := prog_10_method_41_code
def yX1_isFreeCard : MethodName := ⟨RX1, "isFreeCard", "(I)Z"⟩
def dkwX1_isFreeCard_0 : List UInt8 := [42, 27, 182, 0, 126, 16, 247, 160, 0, 7, 4, 167, 0, 4, 3, 172]
abbrev dktX1_isFreeCard_0 : List UInt8 := dkwX1_isFreeCard_0 ++ []
theorem dksX1_isFreeCard_0 : cX1_isFreeCard.data.toList.drop 0 = dktX1_isFreeCard_0 := by decide +kernel
theorem dX1_isFreeCard_0 : decode cX1_isFreeCard 0 = .ok (.aload_n 0, 1) := dk_42 (dk_at dksX1_isFreeCard_0 0 rfl rfl)
theorem dX1_isFreeCard_1 : decode cX1_isFreeCard 1 = .ok (.iload_n 1, 1) := dk_27 (dk_at dksX1_isFreeCard_0 1 rfl rfl)
theorem dX1_isFreeCard_2 : decode cX1_isFreeCard 2 = .ok (.invokevirtual 126, 3) := dk_182 0 126 (dk_at dksX1_isFreeCard_0 2 rfl rfl)
theorem dX1_isFreeCard_5 : decode cX1_isFreeCard 5 = .ok (.bipush (-9), 2) := dk_16 247 (dk_at dksX1_isFreeCard_0 5 rfl rfl)
theorem dX1_isFreeCard_7 : decode cX1_isFreeCard 7 = .ok (.if_icmp .ne 7, 3) := dk_160 0 7 (dk_at dksX1_isFreeCard_0 7 rfl rfl)
theorem dX1_isFreeCard_10 : decode cX1_isFreeCard 10 = .ok (.iconst 1, 1) := dk_4 (dk_at dksX1_isFreeCard_0 10 rfl rfl)
theorem dX1_isFreeCard_11 : decode cX1_isFreeCard 11 = .ok (.goto 4, 3) := dk_167 0 4 (dk_at dksX1_isFreeCard_0 11 rfl rfl)
theorem dX1_isFreeCard_14 : decode cX1_isFreeCard 14 = .ok (.iconst 0, 1) := dk_3 (dk_at dksX1_isFreeCard_0 14 rfl rfl)
theorem dX1_isFreeCard_15 : decode cX1_isFreeCard 15 = .ok (.ireturn, 1) := dk_172 (dk_at dksX1_isFreeCard_0 15 rfl rfl)
abbrev cX1_takesIt : ByteArray := prog_10_method_43_code
def yX1_takesIt : MethodName := ⟨RX1, "takesIt", "(II)V"⟩
def dkwX1_takesIt_3 : List UInt8 := [27, 96, 28, 79, 42, 180, 0, 22, 5, 92, 46, 4, 96, 79, 177]
abbrev dktX1_takesIt_3 : List UInt8 := dkwX1_takesIt_3 ++ []
def dkwX1_takesIt_2 : List UInt8 := [167, 255, 221, 42, 180, 0, 22, 16, 73, 29, 96, 16, 10, 27, 104, 28, 96, 79, 42, 180, 0, 22, 16, 66]
abbrev dktX1_takesIt_2 : List UInt8 := dkwX1_takesIt_2 ++ dktX1_takesIt_3
def dkwX1_takesIt_1 : List UInt8 := [16, 7, 29, 104, 96, 21, 4, 96, 42, 180, 0, 22, 16, 66, 21, 4, 96, 46, 79, 132, 4, 1]
abbrev dktX1_takesIt_1 : List UInt8 := dkwX1_takesIt_1 ++ dktX1_takesIt_2
def dkwX1_takesIt_0 : List UInt8 := [42, 180, 0, 22, 5, 46, 62, 3, 54, 4, 21, 4, 16, 7, 162, 0, 34, 42, 180, 0, 22, 16, 113]
abbrev dktX1_takesIt_0 : List UInt8 := dkwX1_takesIt_0 ++ dktX1_takesIt_1
theorem dksX1_takesIt_0 : cX1_takesIt.data.toList.drop 0 = dktX1_takesIt_0 := by decide +kernel
theorem dksX1_takesIt_1 : cX1_takesIt.data.toList.drop 23 = dktX1_takesIt_1 := dk_seg dksX1_takesIt_0 23 rfl rfl
theorem dksX1_takesIt_2 : cX1_takesIt.data.toList.drop 45 = dktX1_takesIt_2 := dk_seg dksX1_takesIt_1 22 rfl rfl
theorem dksX1_takesIt_3 : cX1_takesIt.data.toList.drop 69 = dktX1_takesIt_3 := dk_seg dksX1_takesIt_2 24 rfl rfl
theorem dX1_takesIt_0 : decode cX1_takesIt 0 = .ok (.aload_n 0, 1) := dk_42 (dk_at dksX1_takesIt_0 0 rfl rfl)
theorem dX1_takesIt_1 : decode cX1_takesIt 1 = .ok (.getfield 22, 3) := dk_180 0 22 (dk_at dksX1_takesIt_0 1 rfl rfl)
theorem dX1_takesIt_4 : decode cX1_takesIt 4 = .ok (.iconst 2, 1) := dk_5 (dk_at dksX1_takesIt_0 4 rfl rfl)
theorem dX1_takesIt_5 : decode cX1_takesIt 5 = .ok (.iaload, 1) := dk_46 (dk_at dksX1_takesIt_0 5 rfl rfl)
theorem dX1_takesIt_6 : decode cX1_takesIt 6 = .ok (.istore_n 3, 1) := dk_62 (dk_at dksX1_takesIt_0 6 rfl rfl)
theorem dX1_takesIt_7 : decode cX1_takesIt 7 = .ok (.iconst 0, 1) := dk_3 (dk_at dksX1_takesIt_0 7 rfl rfl)
theorem dX1_takesIt_8 : decode cX1_takesIt 8 = .ok (.istore 4, 2) := dk_54 4 (dk_at dksX1_takesIt_0 8 rfl rfl)
theorem dX1_takesIt_10 : decode cX1_takesIt 10 = .ok (.iload 4, 2) := dk_21 4 (dk_at dksX1_takesIt_0 10 rfl rfl)
theorem dX1_takesIt_12 : decode cX1_takesIt 12 = .ok (.bipush 7, 2) := dk_16 7 (dk_at dksX1_takesIt_0 12 rfl rfl)
theorem dX1_takesIt_14 : decode cX1_takesIt 14 = .ok (.if_icmp .ge 34, 3) := dk_162 0 34 (dk_at dksX1_takesIt_0 14 rfl rfl)
theorem dX1_takesIt_17 : decode cX1_takesIt 17 = .ok (.aload_n 0, 1) := dk_42 (dk_at dksX1_takesIt_0 17 rfl rfl)
theorem dX1_takesIt_18 : decode cX1_takesIt 18 = .ok (.getfield 22, 3) := dk_180 0 22 (dk_at dksX1_takesIt_0 18 rfl rfl)
theorem dX1_takesIt_21 : decode cX1_takesIt 21 = .ok (.bipush 113, 2) := dk_16 113 (dk_at dksX1_takesIt_0 21 rfl rfl)
theorem dX1_takesIt_23 : decode cX1_takesIt 23 = .ok (.bipush 7, 2) := dk_16 7 (dk_at dksX1_takesIt_1 0 rfl rfl)
theorem dX1_takesIt_25 : decode cX1_takesIt 25 = .ok (.iload_n 3, 1) := dk_29 (dk_at dksX1_takesIt_1 2 rfl rfl)
theorem dX1_takesIt_26 : decode cX1_takesIt 26 = .ok (.imul, 1) := dk_104 (dk_at dksX1_takesIt_1 3 rfl rfl)
theorem dX1_takesIt_27 : decode cX1_takesIt 27 = .ok (.iadd, 1) := dk_96 (dk_at dksX1_takesIt_1 4 rfl rfl)
theorem dX1_takesIt_28 : decode cX1_takesIt 28 = .ok (.iload 4, 2) := dk_21 4 (dk_at dksX1_takesIt_1 5 rfl rfl)
theorem dX1_takesIt_30 : decode cX1_takesIt 30 = .ok (.iadd, 1) := dk_96 (dk_at dksX1_takesIt_1 7 rfl rfl)
theorem dX1_takesIt_31 : decode cX1_takesIt 31 = .ok (.aload_n 0, 1) := dk_42 (dk_at dksX1_takesIt_1 8 rfl rfl)
theorem dX1_takesIt_32 : decode cX1_takesIt 32 = .ok (.getfield 22, 3) := dk_180 0 22 (dk_at dksX1_takesIt_1 9 rfl rfl)
theorem dX1_takesIt_35 : decode cX1_takesIt 35 = .ok (.bipush 66, 2) := dk_16 66 (dk_at dksX1_takesIt_1 12 rfl rfl)
theorem dX1_takesIt_37 : decode cX1_takesIt 37 = .ok (.iload 4, 2) := dk_21 4 (dk_at dksX1_takesIt_1 14 rfl rfl)
theorem dX1_takesIt_39 : decode cX1_takesIt 39 = .ok (.iadd, 1) := dk_96 (dk_at dksX1_takesIt_1 16 rfl rfl)
theorem dX1_takesIt_40 : decode cX1_takesIt 40 = .ok (.iaload, 1) := dk_46 (dk_at dksX1_takesIt_1 17 rfl rfl)
theorem dX1_takesIt_41 : decode cX1_takesIt 41 = .ok (.iastore, 1) := dk_79 (dk_at dksX1_takesIt_1 18 rfl rfl)
theorem dX1_takesIt_42 : decode cX1_takesIt 42 = .ok (.iinc 4 1, 3) := dk_132 4 1 (dk_at dksX1_takesIt_1 19 rfl rfl)
theorem dX1_takesIt_45 : decode cX1_takesIt 45 = .ok (.goto (-35), 3) := dk_167 255 221 (dk_at dksX1_takesIt_2 0 rfl rfl)
theorem dX1_takesIt_48 : decode cX1_takesIt 48 = .ok (.aload_n 0, 1) := dk_42 (dk_at dksX1_takesIt_2 3 rfl rfl)
theorem dX1_takesIt_49 : decode cX1_takesIt 49 = .ok (.getfield 22, 3) := dk_180 0 22 (dk_at dksX1_takesIt_2 4 rfl rfl)
theorem dX1_takesIt_52 : decode cX1_takesIt 52 = .ok (.bipush 73, 2) := dk_16 73 (dk_at dksX1_takesIt_2 7 rfl rfl)
theorem dX1_takesIt_54 : decode cX1_takesIt 54 = .ok (.iload_n 3, 1) := dk_29 (dk_at dksX1_takesIt_2 9 rfl rfl)
theorem dX1_takesIt_55 : decode cX1_takesIt 55 = .ok (.iadd, 1) := dk_96 (dk_at dksX1_takesIt_2 10 rfl rfl)
theorem dX1_takesIt_56 : decode cX1_takesIt 56 = .ok (.bipush 10, 2) := dk_16 10 (dk_at dksX1_takesIt_2 11 rfl rfl)
theorem dX1_takesIt_58 : decode cX1_takesIt 58 = .ok (.iload_n 1, 1) := dk_27 (dk_at dksX1_takesIt_2 13 rfl rfl)
theorem dX1_takesIt_59 : decode cX1_takesIt 59 = .ok (.imul, 1) := dk_104 (dk_at dksX1_takesIt_2 14 rfl rfl)
theorem dX1_takesIt_60 : decode cX1_takesIt 60 = .ok (.iload_n 2, 1) := dk_28 (dk_at dksX1_takesIt_2 15 rfl rfl)
theorem dX1_takesIt_61 : decode cX1_takesIt 61 = .ok (.iadd, 1) := dk_96 (dk_at dksX1_takesIt_2 16 rfl rfl)
theorem dX1_takesIt_62 : decode cX1_takesIt 62 = .ok (.iastore, 1) := dk_79 (dk_at dksX1_takesIt_2 17 rfl rfl)
theorem dX1_takesIt_63 : decode cX1_takesIt 63 = .ok (.aload_n 0, 1) := dk_42 (dk_at dksX1_takesIt_2 18 rfl rfl)
theorem dX1_takesIt_64 : decode cX1_takesIt 64 = .ok (.getfield 22, 3) := dk_180 0 22 (dk_at dksX1_takesIt_2 19 rfl rfl)
theorem dX1_takesIt_67 : decode cX1_takesIt 67 = .ok (.bipush 66, 2) := dk_16 66 (dk_at dksX1_takesIt_2 22 rfl rfl)
theorem dX1_takesIt_69 : decode cX1_takesIt 69 = .ok (.iload_n 1, 1) := dk_27 (dk_at dksX1_takesIt_3 0 rfl rfl)
theorem dX1_takesIt_70 : decode cX1_takesIt 70 = .ok (.iadd, 1) := dk_96 (dk_at dksX1_takesIt_3 1 rfl rfl)
theorem dX1_takesIt_71 : decode cX1_takesIt 71 = .ok (.iload_n 2, 1) := dk_28 (dk_at dksX1_takesIt_3 2 rfl rfl)
theorem dX1_takesIt_72 : decode cX1_takesIt 72 = .ok (.iastore, 1) := dk_79 (dk_at dksX1_takesIt_3 3 rfl rfl)
theorem dX1_takesIt_73 : decode cX1_takesIt 73 = .ok (.aload_n 0, 1) := dk_42 (dk_at dksX1_takesIt_3 4 rfl rfl)
theorem dX1_takesIt_74 : decode cX1_takesIt 74 = .ok (.getfield 22, 3) := dk_180 0 22 (dk_at dksX1_takesIt_3 5 rfl rfl)
theorem dX1_takesIt_77 : decode cX1_takesIt 77 = .ok (.iconst 2, 1) := dk_5 (dk_at dksX1_takesIt_3 8 rfl rfl)
theorem dX1_takesIt_78 : decode cX1_takesIt 78 = .ok (.dup2, 1) := dk_92 (dk_at dksX1_takesIt_3 9 rfl rfl)
theorem dX1_takesIt_79 : decode cX1_takesIt 79 = .ok (.iaload, 1) := dk_46 (dk_at dksX1_takesIt_3 10 rfl rfl)
theorem dX1_takesIt_80 : decode cX1_takesIt 80 = .ok (.iconst 1, 1) := dk_4 (dk_at dksX1_takesIt_3 11 rfl rfl)
theorem dX1_takesIt_81 : decode cX1_takesIt 81 = .ok (.iadd, 1) := dk_96 (dk_at dksX1_takesIt_3 12 rfl rfl)
theorem dX1_takesIt_82 : decode cX1_takesIt 82 = .ok (.iastore, 1) := dk_79 (dk_at dksX1_takesIt_3 13 rfl rfl)
theorem dX1_takesIt_83 : decode cX1_takesIt 83 = .ok (.return_, 1) := dk_177 (dk_at dksX1_takesIt_3 14 rfl rfl)
abbrev cX1_stands : ByteArray := prog_10_method_44_code
def yX1_stands : MethodName := ⟨RX1, "stands", "(I)I"⟩
def dkwX1_stands_2 : List UInt8 := [3, 172]
abbrev dktX1_stands_2 : List UInt8 := dkwX1_stands_2 ++ []
def dkwX1_stands_1 : List UInt8 := [16, 66, 27, 96, 46, 182, 0, 120, 42, 180, 0, 22, 16, 59, 27, 96, 46, 160, 0, 7, 4, 167, 0, 4]
abbrev dktX1_stands_1 : List UInt8 := dkwX1_stands_1 ++ dktX1_stands_2
def dkwX1_stands_0 : List UInt8 := [42, 180, 0, 22, 16, 59, 27, 96, 46, 16, 247, 160, 0, 7, 5, 167, 0, 33, 42, 42, 180, 0, 22]
abbrev dktX1_stands_0 : List UInt8 := dkwX1_stands_0 ++ dktX1_stands_1
theorem dksX1_stands_0 : cX1_stands.data.toList.drop 0 = dktX1_stands_0 := by decide +kernel
theorem dksX1_stands_1 : cX1_stands.data.toList.drop 23 = dktX1_stands_1 := dk_seg dksX1_stands_0 23 rfl rfl
theorem dksX1_stands_2 : cX1_stands.data.toList.drop 47 = dktX1_stands_2 := dk_seg dksX1_stands_1 24 rfl rfl
theorem dX1_stands_0 : decode cX1_stands 0 = .ok (.aload_n 0, 1) := dk_42 (dk_at dksX1_stands_0 0 rfl rfl)
theorem dX1_stands_1 : decode cX1_stands 1 = .ok (.getfield 22, 3) := dk_180 0 22 (dk_at dksX1_stands_0 1 rfl rfl)
theorem dX1_stands_4 : decode cX1_stands 4 = .ok (.bipush 59, 2) := dk_16 59 (dk_at dksX1_stands_0 4 rfl rfl)
theorem dX1_stands_6 : decode cX1_stands 6 = .ok (.iload_n 1, 1) := dk_27 (dk_at dksX1_stands_0 6 rfl rfl)
theorem dX1_stands_7 : decode cX1_stands 7 = .ok (.iadd, 1) := dk_96 (dk_at dksX1_stands_0 7 rfl rfl)
theorem dX1_stands_8 : decode cX1_stands 8 = .ok (.iaload, 1) := dk_46 (dk_at dksX1_stands_0 8 rfl rfl)
theorem dX1_stands_9 : decode cX1_stands 9 = .ok (.bipush (-9), 2) := dk_16 247 (dk_at dksX1_stands_0 9 rfl rfl)
theorem dX1_stands_11 : decode cX1_stands 11 = .ok (.if_icmp .ne 7, 3) := dk_160 0 7 (dk_at dksX1_stands_0 11 rfl rfl)
theorem dX1_stands_14 : decode cX1_stands 14 = .ok (.iconst 2, 1) := dk_5 (dk_at dksX1_stands_0 14 rfl rfl)
theorem dX1_stands_15 : decode cX1_stands 15 = .ok (.goto 33, 3) := dk_167 0 33 (dk_at dksX1_stands_0 15 rfl rfl)
theorem dX1_stands_18 : decode cX1_stands 18 = .ok (.aload_n 0, 1) := dk_42 (dk_at dksX1_stands_0 18 rfl rfl)
theorem dX1_stands_19 : decode cX1_stands 19 = .ok (.aload_n 0, 1) := dk_42 (dk_at dksX1_stands_0 19 rfl rfl)
theorem dX1_stands_20 : decode cX1_stands 20 = .ok (.getfield 22, 3) := dk_180 0 22 (dk_at dksX1_stands_0 20 rfl rfl)
theorem dX1_stands_23 : decode cX1_stands 23 = .ok (.bipush 66, 2) := dk_16 66 (dk_at dksX1_stands_1 0 rfl rfl)
theorem dX1_stands_25 : decode cX1_stands 25 = .ok (.iload_n 1, 1) := dk_27 (dk_at dksX1_stands_1 2 rfl rfl)
theorem dX1_stands_26 : decode cX1_stands 26 = .ok (.iadd, 1) := dk_96 (dk_at dksX1_stands_1 3 rfl rfl)
theorem dX1_stands_27 : decode cX1_stands 27 = .ok (.iaload, 1) := dk_46 (dk_at dksX1_stands_1 4 rfl rfl)
theorem dX1_stands_28 : decode cX1_stands 28 = .ok (.invokevirtual 120, 3) := dk_182 0 120 (dk_at dksX1_stands_1 5 rfl rfl)
theorem dX1_stands_31 : decode cX1_stands 31 = .ok (.aload_n 0, 1) := dk_42 (dk_at dksX1_stands_1 8 rfl rfl)
theorem dX1_stands_32 : decode cX1_stands 32 = .ok (.getfield 22, 3) := dk_180 0 22 (dk_at dksX1_stands_1 9 rfl rfl)
theorem dX1_stands_35 : decode cX1_stands 35 = .ok (.bipush 59, 2) := dk_16 59 (dk_at dksX1_stands_1 12 rfl rfl)
theorem dX1_stands_37 : decode cX1_stands 37 = .ok (.iload_n 1, 1) := dk_27 (dk_at dksX1_stands_1 14 rfl rfl)
theorem dX1_stands_38 : decode cX1_stands 38 = .ok (.iadd, 1) := dk_96 (dk_at dksX1_stands_1 15 rfl rfl)
theorem dX1_stands_39 : decode cX1_stands 39 = .ok (.iaload, 1) := dk_46 (dk_at dksX1_stands_1 16 rfl rfl)
theorem dX1_stands_40 : decode cX1_stands 40 = .ok (.if_icmp .ne 7, 3) := dk_160 0 7 (dk_at dksX1_stands_1 17 rfl rfl)
theorem dX1_stands_43 : decode cX1_stands 43 = .ok (.iconst 1, 1) := dk_4 (dk_at dksX1_stands_1 20 rfl rfl)
theorem dX1_stands_44 : decode cX1_stands 44 = .ok (.goto 4, 3) := dk_167 0 4 (dk_at dksX1_stands_1 21 rfl rfl)
theorem dX1_stands_47 : decode cX1_stands 47 = .ok (.iconst 0, 1) := dk_3 (dk_at dksX1_stands_2 0 rfl rfl)
theorem dX1_stands_48 : decode cX1_stands 48 = .ok (.ireturn, 1) := dk_172 (dk_at dksX1_stands_2 1 rfl rfl)
abbrev cX1_bring : ByteArray := prog_10_method_46_code
def yX1_bring : MethodName := ⟨RX1, "bring", "(I)I"⟩
def dkwX1_bring_1 : List UInt8 := [16, 66, 27, 96, 16, 247, 182, 0, 142, 172]
abbrev dktX1_bring_1 : List UInt8 := dkwX1_bring_1 ++ []
def dkwX1_bring_0 : List UInt8 := [42, 27, 182, 0, 136, 154, 0, 5, 2, 172, 42, 27, 182, 0, 147, 153, 0, 8, 16, 252, 167, 0, 13, 42]
abbrev dktX1_bring_0 : List UInt8 := dkwX1_bring_0 ++ dktX1_bring_1
theorem dksX1_bring_0 : cX1_bring.data.toList.drop 0 = dktX1_bring_0 := by decide +kernel
theorem dksX1_bring_1 : cX1_bring.data.toList.drop 24 = dktX1_bring_1 := dk_seg dksX1_bring_0 24 rfl rfl
theorem dX1_bring_0 : decode cX1_bring 0 = .ok (.aload_n 0, 1) := dk_42 (dk_at dksX1_bring_0 0 rfl rfl)
theorem dX1_bring_1 : decode cX1_bring 1 = .ok (.iload_n 1, 1) := dk_27 (dk_at dksX1_bring_0 1 rfl rfl)
theorem dX1_bring_2 : decode cX1_bring 2 = .ok (.invokevirtual 136, 3) := dk_182 0 136 (dk_at dksX1_bring_0 2 rfl rfl)
theorem dX1_bring_5 : decode cX1_bring 5 = .ok (.ifCond .ne 5, 3) := dk_154 0 5 (dk_at dksX1_bring_0 5 rfl rfl)
theorem dX1_bring_8 : decode cX1_bring 8 = .ok (.iconst (-1), 1) := dk_2 (dk_at dksX1_bring_0 8 rfl rfl)
theorem dX1_bring_9 : decode cX1_bring 9 = .ok (.ireturn, 1) := dk_172 (dk_at dksX1_bring_0 9 rfl rfl)
theorem dX1_bring_10 : decode cX1_bring 10 = .ok (.aload_n 0, 1) := dk_42 (dk_at dksX1_bring_0 10 rfl rfl)
theorem dX1_bring_11 : decode cX1_bring 11 = .ok (.iload_n 1, 1) := dk_27 (dk_at dksX1_bring_0 11 rfl rfl)
theorem dX1_bring_12 : decode cX1_bring 12 = .ok (.invokevirtual 147, 3) := dk_182 0 147 (dk_at dksX1_bring_0 12 rfl rfl)
theorem dX1_bring_15 : decode cX1_bring 15 = .ok (.ifCond .eq 8, 3) := dk_153 0 8 (dk_at dksX1_bring_0 15 rfl rfl)
theorem dX1_bring_18 : decode cX1_bring 18 = .ok (.bipush (-4), 2) := dk_16 252 (dk_at dksX1_bring_0 18 rfl rfl)
theorem dX1_bring_20 : decode cX1_bring 20 = .ok (.goto 13, 3) := dk_167 0 13 (dk_at dksX1_bring_0 20 rfl rfl)
theorem dX1_bring_23 : decode cX1_bring 23 = .ok (.aload_n 0, 1) := dk_42 (dk_at dksX1_bring_0 23 rfl rfl)
theorem dX1_bring_24 : decode cX1_bring 24 = .ok (.bipush 66, 2) := dk_16 66 (dk_at dksX1_bring_1 0 rfl rfl)
theorem dX1_bring_26 : decode cX1_bring 26 = .ok (.iload_n 1, 1) := dk_27 (dk_at dksX1_bring_1 2 rfl rfl)
theorem dX1_bring_27 : decode cX1_bring 27 = .ok (.iadd, 1) := dk_96 (dk_at dksX1_bring_1 3 rfl rfl)
theorem dX1_bring_28 : decode cX1_bring 28 = .ok (.bipush (-9), 2) := dk_16 247 (dk_at dksX1_bring_1 4 rfl rfl)
theorem dX1_bring_30 : decode cX1_bring 30 = .ok (.invokevirtual 142, 3) := dk_182 0 142 (dk_at dksX1_bring_1 6 rfl rfl)
theorem dX1_bring_33 : decode cX1_bring 33 = .ok (.ireturn, 1) := dk_172 (dk_at dksX1_bring_1 9 rfl rfl)
abbrev cX1_undo : ByteArray := prog_10_method_47_code
def yX1_undo : MethodName := ⟨RX1, "undo", "(I)I"⟩
def dkwX1_undo_3 : List UInt8 := [5, 27, 79, 28, 172]
abbrev dktX1_undo_3 : List UInt8 := dkwX1_undo_3 ++ []
def dkwX1_undo_2 : List UInt8 := [180, 0, 22, 16, 113, 16, 7, 27, 104, 96, 29, 96, 46, 79, 132, 3, 1, 167, 255, 220, 42, 180, 0, 22]
abbrev dktX1_undo_2 : List UInt8 := dkwX1_undo_2 ++ dktX1_undo_3
def dkwX1_undo_1 : List UInt8 := [27, 100, 61, 3, 62, 29, 16, 7, 162, 0, 36, 28, 158, 0, 32, 42, 180, 0, 22, 16, 66, 29, 96, 42]
abbrev dktX1_undo_1 : List UInt8 := dkwX1_undo_1 ++ dktX1_undo_2
def dkwX1_undo_0 : List UInt8 := [27, 133, 9, 42, 180, 0, 22, 5, 46, 133, 184, 0, 66, 154, 0, 5, 2, 172, 42, 180, 0, 22, 5, 46]
abbrev dktX1_undo_0 : List UInt8 := dkwX1_undo_0 ++ dktX1_undo_1
theorem dksX1_undo_0 : cX1_undo.data.toList.drop 0 = dktX1_undo_0 := by decide +kernel
theorem dksX1_undo_1 : cX1_undo.data.toList.drop 24 = dktX1_undo_1 := dk_seg dksX1_undo_0 24 rfl rfl
theorem dksX1_undo_2 : cX1_undo.data.toList.drop 48 = dktX1_undo_2 := dk_seg dksX1_undo_1 24 rfl rfl
theorem dksX1_undo_3 : cX1_undo.data.toList.drop 72 = dktX1_undo_3 := dk_seg dksX1_undo_2 24 rfl rfl
theorem dX1_undo_0 : decode cX1_undo 0 = .ok (.iload_n 1, 1) := dk_27 (dk_at dksX1_undo_0 0 rfl rfl)
theorem dX1_undo_1 : decode cX1_undo 1 = .ok (.i2l, 1) := dk_133 (dk_at dksX1_undo_0 1 rfl rfl)
theorem dX1_undo_2 : decode cX1_undo 2 = .ok (.lconst 0, 1) := dk_9 (dk_at dksX1_undo_0 2 rfl rfl)
theorem dX1_undo_3 : decode cX1_undo 3 = .ok (.aload_n 0, 1) := dk_42 (dk_at dksX1_undo_0 3 rfl rfl)
theorem dX1_undo_4 : decode cX1_undo 4 = .ok (.getfield 22, 3) := dk_180 0 22 (dk_at dksX1_undo_0 4 rfl rfl)
theorem dX1_undo_7 : decode cX1_undo 7 = .ok (.iconst 2, 1) := dk_5 (dk_at dksX1_undo_0 7 rfl rfl)
theorem dX1_undo_8 : decode cX1_undo 8 = .ok (.iaload, 1) := dk_46 (dk_at dksX1_undo_0 8 rfl rfl)
theorem dX1_undo_9 : decode cX1_undo 9 = .ok (.i2l, 1) := dk_133 (dk_at dksX1_undo_0 9 rfl rfl)
theorem dX1_undo_10 : decode cX1_undo 10 = .ok (.invokestatic 66, 3) := dk_184 0 66 (dk_at dksX1_undo_0 10 rfl rfl)
theorem dX1_undo_13 : decode cX1_undo 13 = .ok (.ifCond .ne 5, 3) := dk_154 0 5 (dk_at dksX1_undo_0 13 rfl rfl)
theorem dX1_undo_16 : decode cX1_undo 16 = .ok (.iconst (-1), 1) := dk_2 (dk_at dksX1_undo_0 16 rfl rfl)
theorem dX1_undo_17 : decode cX1_undo 17 = .ok (.ireturn, 1) := dk_172 (dk_at dksX1_undo_0 17 rfl rfl)
theorem dX1_undo_18 : decode cX1_undo 18 = .ok (.aload_n 0, 1) := dk_42 (dk_at dksX1_undo_0 18 rfl rfl)
theorem dX1_undo_19 : decode cX1_undo 19 = .ok (.getfield 22, 3) := dk_180 0 22 (dk_at dksX1_undo_0 19 rfl rfl)
theorem dX1_undo_22 : decode cX1_undo 22 = .ok (.iconst 2, 1) := dk_5 (dk_at dksX1_undo_0 22 rfl rfl)
theorem dX1_undo_23 : decode cX1_undo 23 = .ok (.iaload, 1) := dk_46 (dk_at dksX1_undo_0 23 rfl rfl)
theorem dX1_undo_24 : decode cX1_undo 24 = .ok (.iload_n 1, 1) := dk_27 (dk_at dksX1_undo_1 0 rfl rfl)
theorem dX1_undo_25 : decode cX1_undo 25 = .ok (.isub, 1) := dk_100 (dk_at dksX1_undo_1 1 rfl rfl)
theorem dX1_undo_26 : decode cX1_undo 26 = .ok (.istore_n 2, 1) := dk_61 (dk_at dksX1_undo_1 2 rfl rfl)
theorem dX1_undo_27 : decode cX1_undo 27 = .ok (.iconst 0, 1) := dk_3 (dk_at dksX1_undo_1 3 rfl rfl)
theorem dX1_undo_28 : decode cX1_undo 28 = .ok (.istore_n 3, 1) := dk_62 (dk_at dksX1_undo_1 4 rfl rfl)
theorem dX1_undo_29 : decode cX1_undo 29 = .ok (.iload_n 3, 1) := dk_29 (dk_at dksX1_undo_1 5 rfl rfl)
theorem dX1_undo_30 : decode cX1_undo 30 = .ok (.bipush 7, 2) := dk_16 7 (dk_at dksX1_undo_1 6 rfl rfl)
theorem dX1_undo_32 : decode cX1_undo 32 = .ok (.if_icmp .ge 36, 3) := dk_162 0 36 (dk_at dksX1_undo_1 8 rfl rfl)
theorem dX1_undo_35 : decode cX1_undo 35 = .ok (.iload_n 2, 1) := dk_28 (dk_at dksX1_undo_1 11 rfl rfl)
theorem dX1_undo_36 : decode cX1_undo 36 = .ok (.ifCond .le 32, 3) := dk_158 0 32 (dk_at dksX1_undo_1 12 rfl rfl)
theorem dX1_undo_39 : decode cX1_undo 39 = .ok (.aload_n 0, 1) := dk_42 (dk_at dksX1_undo_1 15 rfl rfl)
theorem dX1_undo_40 : decode cX1_undo 40 = .ok (.getfield 22, 3) := dk_180 0 22 (dk_at dksX1_undo_1 16 rfl rfl)
theorem dX1_undo_43 : decode cX1_undo 43 = .ok (.bipush 66, 2) := dk_16 66 (dk_at dksX1_undo_1 19 rfl rfl)
theorem dX1_undo_45 : decode cX1_undo 45 = .ok (.iload_n 3, 1) := dk_29 (dk_at dksX1_undo_1 21 rfl rfl)
theorem dX1_undo_46 : decode cX1_undo 46 = .ok (.iadd, 1) := dk_96 (dk_at dksX1_undo_1 22 rfl rfl)
theorem dX1_undo_47 : decode cX1_undo 47 = .ok (.aload_n 0, 1) := dk_42 (dk_at dksX1_undo_1 23 rfl rfl)
theorem dX1_undo_48 : decode cX1_undo 48 = .ok (.getfield 22, 3) := dk_180 0 22 (dk_at dksX1_undo_2 0 rfl rfl)
theorem dX1_undo_51 : decode cX1_undo 51 = .ok (.bipush 113, 2) := dk_16 113 (dk_at dksX1_undo_2 3 rfl rfl)
theorem dX1_undo_53 : decode cX1_undo 53 = .ok (.bipush 7, 2) := dk_16 7 (dk_at dksX1_undo_2 5 rfl rfl)
theorem dX1_undo_55 : decode cX1_undo 55 = .ok (.iload_n 1, 1) := dk_27 (dk_at dksX1_undo_2 7 rfl rfl)
theorem dX1_undo_56 : decode cX1_undo 56 = .ok (.imul, 1) := dk_104 (dk_at dksX1_undo_2 8 rfl rfl)
theorem dX1_undo_57 : decode cX1_undo 57 = .ok (.iadd, 1) := dk_96 (dk_at dksX1_undo_2 9 rfl rfl)
theorem dX1_undo_58 : decode cX1_undo 58 = .ok (.iload_n 3, 1) := dk_29 (dk_at dksX1_undo_2 10 rfl rfl)
theorem dX1_undo_59 : decode cX1_undo 59 = .ok (.iadd, 1) := dk_96 (dk_at dksX1_undo_2 11 rfl rfl)
theorem dX1_undo_60 : decode cX1_undo 60 = .ok (.iaload, 1) := dk_46 (dk_at dksX1_undo_2 12 rfl rfl)
theorem dX1_undo_61 : decode cX1_undo 61 = .ok (.iastore, 1) := dk_79 (dk_at dksX1_undo_2 13 rfl rfl)
theorem dX1_undo_62 : decode cX1_undo 62 = .ok (.iinc 3 1, 3) := dk_132 3 1 (dk_at dksX1_undo_2 14 rfl rfl)
theorem dX1_undo_65 : decode cX1_undo 65 = .ok (.goto (-36), 3) := dk_167 255 220 (dk_at dksX1_undo_2 17 rfl rfl)
theorem dX1_undo_68 : decode cX1_undo 68 = .ok (.aload_n 0, 1) := dk_42 (dk_at dksX1_undo_2 20 rfl rfl)
theorem dX1_undo_69 : decode cX1_undo 69 = .ok (.getfield 22, 3) := dk_180 0 22 (dk_at dksX1_undo_2 21 rfl rfl)
theorem dX1_undo_72 : decode cX1_undo 72 = .ok (.iconst 2, 1) := dk_5 (dk_at dksX1_undo_3 0 rfl rfl)
theorem dX1_undo_73 : decode cX1_undo 73 = .ok (.iload_n 1, 1) := dk_27 (dk_at dksX1_undo_3 1 rfl rfl)
theorem dX1_undo_74 : decode cX1_undo 74 = .ok (.iastore, 1) := dk_79 (dk_at dksX1_undo_3 2 rfl rfl)
theorem dX1_undo_75 : decode cX1_undo 75 = .ok (.iload_n 2, 1) := dk_28 (dk_at dksX1_undo_3 3 rfl rfl)
theorem dX1_undo_76 : decode cX1_undo 76 = .ok (.ireturn, 1) := dk_172 (dk_at dksX1_undo_3 4 rfl rfl)
abbrev cX1_right : ByteArray := prog_10_method_49_code
def yX1_right : MethodName := ⟨RX1, "right", "()I"⟩
def dkwX1_right_0 : List UInt8 := [42, 42, 3, 182, 0, 160, 182, 0, 80, 60, 42, 4, 182, 0, 160, 172]
abbrev dktX1_right_0 : List UInt8 := dkwX1_right_0 ++ []
theorem dksX1_right_0 : cX1_right.data.toList.drop 0 = dktX1_right_0 := by decide +kernel
theorem dX1_right_0 : decode cX1_right 0 = .ok (.aload_n 0, 1) := dk_42 (dk_at dksX1_right_0 0 rfl rfl)
theorem dX1_right_1 : decode cX1_right 1 = .ok (.aload_n 0, 1) := dk_42 (dk_at dksX1_right_0 1 rfl rfl)
theorem dX1_right_2 : decode cX1_right 2 = .ok (.iconst 0, 1) := dk_3 (dk_at dksX1_right_0 2 rfl rfl)
theorem dX1_right_3 : decode cX1_right 3 = .ok (.invokevirtual 160, 3) := dk_182 0 160 (dk_at dksX1_right_0 3 rfl rfl)
theorem dX1_right_6 : decode cX1_right 6 = .ok (.invokevirtual 80, 3) := dk_182 0 80 (dk_at dksX1_right_0 6 rfl rfl)
theorem dX1_right_9 : decode cX1_right 9 = .ok (.istore_n 1, 1) := dk_60 (dk_at dksX1_right_0 9 rfl rfl)
theorem dX1_right_10 : decode cX1_right 10 = .ok (.aload_n 0, 1) := dk_42 (dk_at dksX1_right_0 10 rfl rfl)
theorem dX1_right_11 : decode cX1_right 11 = .ok (.iconst 1, 1) := dk_4 (dk_at dksX1_right_0 11 rfl rfl)
theorem dX1_right_12 : decode cX1_right 12 = .ok (.invokevirtual 160, 3) := dk_182 0 160 (dk_at dksX1_right_0 12 rfl rfl)
theorem dX1_right_15 : decode cX1_right 15 = .ok (.ireturn, 1) := dk_172 (dk_at dksX1_right_0 15 rfl rfl)
abbrev cX1_standing : ByteArray := prog_10_method_48_code
def yX1_standing : MethodName := ⟨RX1, "standing", "(I)I"⟩
def dkwX1_standing_1 : List UInt8 := [29, 182, 0, 157, 27, 160, 0, 7, 4, 167, 0, 4, 3, 96, 61, 132, 3, 1, 167, 255, 218, 28, 172]
abbrev dktX1_standing_1 : List UInt8 := dkwX1_standing_1 ++ []
def dkwX1_standing_0 : List UInt8 := [3, 61, 3, 62, 29, 42, 180, 0, 22, 4, 46, 162, 0, 34, 28, 42, 29, 182, 0, 147, 154, 0, 16, 42]
abbrev dktX1_standing_0 : List UInt8 := dkwX1_standing_0 ++ dktX1_standing_1
theorem dksX1_standing_0 : cX1_standing.data.toList.drop 0 = dktX1_standing_0 := by decide +kernel
theorem dksX1_standing_1 : cX1_standing.data.toList.drop 24 = dktX1_standing_1 := dk_seg dksX1_standing_0 24 rfl rfl
theorem dX1_standing_0 : decode cX1_standing 0 = .ok (.iconst 0, 1) := dk_3 (dk_at dksX1_standing_0 0 rfl rfl)
theorem dX1_standing_1 : decode cX1_standing 1 = .ok (.istore_n 2, 1) := dk_61 (dk_at dksX1_standing_0 1 rfl rfl)
theorem dX1_standing_2 : decode cX1_standing 2 = .ok (.iconst 0, 1) := dk_3 (dk_at dksX1_standing_0 2 rfl rfl)
theorem dX1_standing_3 : decode cX1_standing 3 = .ok (.istore_n 3, 1) := dk_62 (dk_at dksX1_standing_0 3 rfl rfl)
theorem dX1_standing_4 : decode cX1_standing 4 = .ok (.iload_n 3, 1) := dk_29 (dk_at dksX1_standing_0 4 rfl rfl)
theorem dX1_standing_5 : decode cX1_standing 5 = .ok (.aload_n 0, 1) := dk_42 (dk_at dksX1_standing_0 5 rfl rfl)
theorem dX1_standing_6 : decode cX1_standing 6 = .ok (.getfield 22, 3) := dk_180 0 22 (dk_at dksX1_standing_0 6 rfl rfl)
theorem dX1_standing_9 : decode cX1_standing 9 = .ok (.iconst 1, 1) := dk_4 (dk_at dksX1_standing_0 9 rfl rfl)
theorem dX1_standing_10 : decode cX1_standing 10 = .ok (.iaload, 1) := dk_46 (dk_at dksX1_standing_0 10 rfl rfl)
theorem dX1_standing_11 : decode cX1_standing 11 = .ok (.if_icmp .ge 34, 3) := dk_162 0 34 (dk_at dksX1_standing_0 11 rfl rfl)
theorem dX1_standing_14 : decode cX1_standing 14 = .ok (.iload_n 2, 1) := dk_28 (dk_at dksX1_standing_0 14 rfl rfl)
theorem dX1_standing_15 : decode cX1_standing 15 = .ok (.aload_n 0, 1) := dk_42 (dk_at dksX1_standing_0 15 rfl rfl)
theorem dX1_standing_16 : decode cX1_standing 16 = .ok (.iload_n 3, 1) := dk_29 (dk_at dksX1_standing_0 16 rfl rfl)
theorem dX1_standing_17 : decode cX1_standing 17 = .ok (.invokevirtual 147, 3) := dk_182 0 147 (dk_at dksX1_standing_0 17 rfl rfl)
theorem dX1_standing_20 : decode cX1_standing 20 = .ok (.ifCond .ne 16, 3) := dk_154 0 16 (dk_at dksX1_standing_0 20 rfl rfl)
theorem dX1_standing_23 : decode cX1_standing 23 = .ok (.aload_n 0, 1) := dk_42 (dk_at dksX1_standing_0 23 rfl rfl)
theorem dX1_standing_24 : decode cX1_standing 24 = .ok (.iload_n 3, 1) := dk_29 (dk_at dksX1_standing_1 0 rfl rfl)
theorem dX1_standing_25 : decode cX1_standing 25 = .ok (.invokevirtual 157, 3) := dk_182 0 157 (dk_at dksX1_standing_1 1 rfl rfl)
theorem dX1_standing_28 : decode cX1_standing 28 = .ok (.iload_n 1, 1) := dk_27 (dk_at dksX1_standing_1 4 rfl rfl)
theorem dX1_standing_29 : decode cX1_standing 29 = .ok (.if_icmp .ne 7, 3) := dk_160 0 7 (dk_at dksX1_standing_1 5 rfl rfl)
theorem dX1_standing_32 : decode cX1_standing 32 = .ok (.iconst 1, 1) := dk_4 (dk_at dksX1_standing_1 8 rfl rfl)
theorem dX1_standing_33 : decode cX1_standing 33 = .ok (.goto 4, 3) := dk_167 0 4 (dk_at dksX1_standing_1 9 rfl rfl)
theorem dX1_standing_36 : decode cX1_standing 36 = .ok (.iconst 0, 1) := dk_3 (dk_at dksX1_standing_1 12 rfl rfl)
theorem dX1_standing_37 : decode cX1_standing 37 = .ok (.iadd, 1) := dk_96 (dk_at dksX1_standing_1 13 rfl rfl)
theorem dX1_standing_38 : decode cX1_standing 38 = .ok (.istore_n 2, 1) := dk_61 (dk_at dksX1_standing_1 14 rfl rfl)
theorem dX1_standing_39 : decode cX1_standing 39 = .ok (.iinc 3 1, 3) := dk_132 3 1 (dk_at dksX1_standing_1 15 rfl rfl)
theorem dX1_standing_42 : decode cX1_standing 42 = .ok (.goto (-38), 3) := dk_167 255 218 (dk_at dksX1_standing_1 18 rfl rfl)
theorem dX1_standing_45 : decode cX1_standing 45 = .ok (.iload_n 2, 1) := dk_28 (dk_at dksX1_standing_1 21 rfl rfl)
theorem dX1_standing_46 : decode cX1_standing 46 = .ok (.ireturn, 1) := dk_172 (dk_at dksX1_standing_1 22 rfl rfl)
abbrev cX1_keep : ByteArray := prog_10_method_50_code
def yX1_keep : MethodName := ⟨RX1, "keep", "(I)I"⟩
def dkwX1_keep_2 : List UInt8 := [27, 4, 84, 42, 180, 0, 22, 5, 46, 172]
abbrev dktX1_keep_2 : List UInt8 := dkwX1_keep_2 ++ []
def dkwX1_keep_1 : List UInt8 := [16, 252, 172, 42, 180, 0, 22, 3, 42, 180, 0, 25, 17, 1, 137, 27, 104, 184, 0, 112, 42, 180, 0, 28]
abbrev dktX1_keep_1 : List UInt8 := dkwX1_keep_1 ++ dktX1_keep_2
def dkwX1_keep_0 : List UInt8 := [27, 133, 9, 20, 0, 163, 184, 0, 66, 154, 0, 5, 2, 172, 42, 180, 0, 22, 3, 46, 154, 0, 6]
abbrev dktX1_keep_0 : List UInt8 := dkwX1_keep_0 ++ dktX1_keep_1
theorem dksX1_keep_0 : cX1_keep.data.toList.drop 0 = dktX1_keep_0 := by decide +kernel
theorem dksX1_keep_1 : cX1_keep.data.toList.drop 23 = dktX1_keep_1 := dk_seg dksX1_keep_0 23 rfl rfl
theorem dksX1_keep_2 : cX1_keep.data.toList.drop 47 = dktX1_keep_2 := dk_seg dksX1_keep_1 24 rfl rfl
theorem dX1_keep_0 : decode cX1_keep 0 = .ok (.iload_n 1, 1) := dk_27 (dk_at dksX1_keep_0 0 rfl rfl)
theorem dX1_keep_1 : decode cX1_keep 1 = .ok (.i2l, 1) := dk_133 (dk_at dksX1_keep_0 1 rfl rfl)
theorem dX1_keep_2 : decode cX1_keep 2 = .ok (.lconst 0, 1) := dk_9 (dk_at dksX1_keep_0 2 rfl rfl)
theorem dX1_keep_3 : decode cX1_keep 3 = .ok (.ldc2_w 163, 3) := dk_20 0 163 (dk_at dksX1_keep_0 3 rfl rfl)
theorem dX1_keep_6 : decode cX1_keep 6 = .ok (.invokestatic 66, 3) := dk_184 0 66 (dk_at dksX1_keep_0 6 rfl rfl)
theorem dX1_keep_9 : decode cX1_keep 9 = .ok (.ifCond .ne 5, 3) := dk_154 0 5 (dk_at dksX1_keep_0 9 rfl rfl)
theorem dX1_keep_12 : decode cX1_keep 12 = .ok (.iconst (-1), 1) := dk_2 (dk_at dksX1_keep_0 12 rfl rfl)
theorem dX1_keep_13 : decode cX1_keep 13 = .ok (.ireturn, 1) := dk_172 (dk_at dksX1_keep_0 13 rfl rfl)
theorem dX1_keep_14 : decode cX1_keep 14 = .ok (.aload_n 0, 1) := dk_42 (dk_at dksX1_keep_0 14 rfl rfl)
theorem dX1_keep_15 : decode cX1_keep 15 = .ok (.getfield 22, 3) := dk_180 0 22 (dk_at dksX1_keep_0 15 rfl rfl)
theorem dX1_keep_18 : decode cX1_keep 18 = .ok (.iconst 0, 1) := dk_3 (dk_at dksX1_keep_0 18 rfl rfl)
theorem dX1_keep_19 : decode cX1_keep 19 = .ok (.iaload, 1) := dk_46 (dk_at dksX1_keep_0 19 rfl rfl)
theorem dX1_keep_20 : decode cX1_keep 20 = .ok (.ifCond .ne 6, 3) := dk_154 0 6 (dk_at dksX1_keep_0 20 rfl rfl)
theorem dX1_keep_23 : decode cX1_keep 23 = .ok (.bipush (-4), 2) := dk_16 252 (dk_at dksX1_keep_1 0 rfl rfl)
theorem dX1_keep_25 : decode cX1_keep 25 = .ok (.ireturn, 1) := dk_172 (dk_at dksX1_keep_1 2 rfl rfl)
theorem dX1_keep_26 : decode cX1_keep 26 = .ok (.aload_n 0, 1) := dk_42 (dk_at dksX1_keep_1 3 rfl rfl)
theorem dX1_keep_27 : decode cX1_keep 27 = .ok (.getfield 22, 3) := dk_180 0 22 (dk_at dksX1_keep_1 4 rfl rfl)
theorem dX1_keep_30 : decode cX1_keep 30 = .ok (.iconst 0, 1) := dk_3 (dk_at dksX1_keep_1 7 rfl rfl)
theorem dX1_keep_31 : decode cX1_keep 31 = .ok (.aload_n 0, 1) := dk_42 (dk_at dksX1_keep_1 8 rfl rfl)
theorem dX1_keep_32 : decode cX1_keep 32 = .ok (.getfield 25, 3) := dk_180 0 25 (dk_at dksX1_keep_1 9 rfl rfl)
theorem dX1_keep_35 : decode cX1_keep 35 = .ok (.sipush 393, 3) := dk_17 1 137 (dk_at dksX1_keep_1 12 rfl rfl)
theorem dX1_keep_38 : decode cX1_keep 38 = .ok (.iload_n 1, 1) := dk_27 (dk_at dksX1_keep_1 15 rfl rfl)
theorem dX1_keep_39 : decode cX1_keep 39 = .ok (.imul, 1) := dk_104 (dk_at dksX1_keep_1 16 rfl rfl)
theorem dX1_keep_40 : decode cX1_keep 40 = .ok (.invokestatic 112, 3) := dk_184 0 112 (dk_at dksX1_keep_1 17 rfl rfl)
theorem dX1_keep_43 : decode cX1_keep 43 = .ok (.aload_n 0, 1) := dk_42 (dk_at dksX1_keep_1 20 rfl rfl)
theorem dX1_keep_44 : decode cX1_keep 44 = .ok (.getfield 28, 3) := dk_180 0 28 (dk_at dksX1_keep_1 21 rfl rfl)
theorem dX1_keep_47 : decode cX1_keep 47 = .ok (.iload_n 1, 1) := dk_27 (dk_at dksX1_keep_2 0 rfl rfl)
theorem dX1_keep_48 : decode cX1_keep 48 = .ok (.iconst 1, 1) := dk_4 (dk_at dksX1_keep_2 1 rfl rfl)
theorem dX1_keep_49 : decode cX1_keep 49 = .ok (.bastore, 1) := dk_84 (dk_at dksX1_keep_2 2 rfl rfl)
theorem dX1_keep_50 : decode cX1_keep 50 = .ok (.aload_n 0, 1) := dk_42 (dk_at dksX1_keep_2 3 rfl rfl)
theorem dX1_keep_51 : decode cX1_keep 51 = .ok (.getfield 22, 3) := dk_180 0 22 (dk_at dksX1_keep_2 4 rfl rfl)
theorem dX1_keep_54 : decode cX1_keep 54 = .ok (.iconst 2, 1) := dk_5 (dk_at dksX1_keep_2 7 rfl rfl)
theorem dX1_keep_55 : decode cX1_keep 55 = .ok (.iaload, 1) := dk_46 (dk_at dksX1_keep_2 8 rfl rfl)
theorem dX1_keep_56 : decode cX1_keep 56 = .ok (.ireturn, 1) := dk_172 (dk_at dksX1_keep_2 9 rfl rfl)
abbrev cX1_on : ByteArray := prog_10_method_51_code
def yX1_on : MethodName := ⟨RX1, "on", "(I)I"⟩
def dkwX1_on_2 : List UInt8 := [180, 0, 22, 5, 46, 172]
abbrev dktX1_on_2 : List UInt8 := dkwX1_on_2 ++ []
def dkwX1_on_1 : List UInt8 := [4, 182, 0, 76, 172, 42, 180, 0, 25, 17, 1, 137, 27, 104, 42, 180, 0, 22, 3, 184, 0, 112, 42]
abbrev dktX1_on_1 : List UInt8 := dkwX1_on_1 ++ dktX1_on_2
def dkwX1_on_0 : List UInt8 := [27, 133, 9, 20, 0, 163, 184, 0, 66, 154, 0, 5, 2, 172, 42, 180, 0, 28, 27, 51, 154, 0, 9, 42]
abbrev dktX1_on_0 : List UInt8 := dkwX1_on_0 ++ dktX1_on_1
theorem dksX1_on_0 : cX1_on.data.toList.drop 0 = dktX1_on_0 := by decide +kernel
theorem dksX1_on_1 : cX1_on.data.toList.drop 24 = dktX1_on_1 := dk_seg dksX1_on_0 24 rfl rfl
theorem dksX1_on_2 : cX1_on.data.toList.drop 47 = dktX1_on_2 := dk_seg dksX1_on_1 23 rfl rfl
theorem dX1_on_0 : decode cX1_on 0 = .ok (.iload_n 1, 1) := dk_27 (dk_at dksX1_on_0 0 rfl rfl)
theorem dX1_on_1 : decode cX1_on 1 = .ok (.i2l, 1) := dk_133 (dk_at dksX1_on_0 1 rfl rfl)
theorem dX1_on_2 : decode cX1_on 2 = .ok (.lconst 0, 1) := dk_9 (dk_at dksX1_on_0 2 rfl rfl)
theorem dX1_on_3 : decode cX1_on 3 = .ok (.ldc2_w 163, 3) := dk_20 0 163 (dk_at dksX1_on_0 3 rfl rfl)
theorem dX1_on_6 : decode cX1_on 6 = .ok (.invokestatic 66, 3) := dk_184 0 66 (dk_at dksX1_on_0 6 rfl rfl)
theorem dX1_on_9 : decode cX1_on 9 = .ok (.ifCond .ne 5, 3) := dk_154 0 5 (dk_at dksX1_on_0 9 rfl rfl)
theorem dX1_on_12 : decode cX1_on 12 = .ok (.iconst (-1), 1) := dk_2 (dk_at dksX1_on_0 12 rfl rfl)
theorem dX1_on_13 : decode cX1_on 13 = .ok (.ireturn, 1) := dk_172 (dk_at dksX1_on_0 13 rfl rfl)
theorem dX1_on_14 : decode cX1_on 14 = .ok (.aload_n 0, 1) := dk_42 (dk_at dksX1_on_0 14 rfl rfl)
theorem dX1_on_15 : decode cX1_on 15 = .ok (.getfield 28, 3) := dk_180 0 28 (dk_at dksX1_on_0 15 rfl rfl)
theorem dX1_on_18 : decode cX1_on 18 = .ok (.iload_n 1, 1) := dk_27 (dk_at dksX1_on_0 18 rfl rfl)
theorem dX1_on_19 : decode cX1_on 19 = .ok (.baload, 1) := dk_51 (dk_at dksX1_on_0 19 rfl rfl)
theorem dX1_on_20 : decode cX1_on 20 = .ok (.ifCond .ne 9, 3) := dk_154 0 9 (dk_at dksX1_on_0 20 rfl rfl)
theorem dX1_on_23 : decode cX1_on 23 = .ok (.aload_n 0, 1) := dk_42 (dk_at dksX1_on_0 23 rfl rfl)
theorem dX1_on_24 : decode cX1_on 24 = .ok (.iconst 1, 1) := dk_4 (dk_at dksX1_on_1 0 rfl rfl)
theorem dX1_on_25 : decode cX1_on 25 = .ok (.invokevirtual 76, 3) := dk_182 0 76 (dk_at dksX1_on_1 1 rfl rfl)
theorem dX1_on_28 : decode cX1_on 28 = .ok (.ireturn, 1) := dk_172 (dk_at dksX1_on_1 4 rfl rfl)
theorem dX1_on_29 : decode cX1_on 29 = .ok (.aload_n 0, 1) := dk_42 (dk_at dksX1_on_1 5 rfl rfl)
theorem dX1_on_30 : decode cX1_on 30 = .ok (.getfield 25, 3) := dk_180 0 25 (dk_at dksX1_on_1 6 rfl rfl)
theorem dX1_on_33 : decode cX1_on 33 = .ok (.sipush 393, 3) := dk_17 1 137 (dk_at dksX1_on_1 9 rfl rfl)
theorem dX1_on_36 : decode cX1_on 36 = .ok (.iload_n 1, 1) := dk_27 (dk_at dksX1_on_1 12 rfl rfl)
theorem dX1_on_37 : decode cX1_on 37 = .ok (.imul, 1) := dk_104 (dk_at dksX1_on_1 13 rfl rfl)
theorem dX1_on_38 : decode cX1_on 38 = .ok (.aload_n 0, 1) := dk_42 (dk_at dksX1_on_1 14 rfl rfl)
theorem dX1_on_39 : decode cX1_on 39 = .ok (.getfield 22, 3) := dk_180 0 22 (dk_at dksX1_on_1 15 rfl rfl)
theorem dX1_on_42 : decode cX1_on 42 = .ok (.iconst 0, 1) := dk_3 (dk_at dksX1_on_1 18 rfl rfl)
theorem dX1_on_43 : decode cX1_on 43 = .ok (.invokestatic 112, 3) := dk_184 0 112 (dk_at dksX1_on_1 19 rfl rfl)
theorem dX1_on_46 : decode cX1_on 46 = .ok (.aload_n 0, 1) := dk_42 (dk_at dksX1_on_1 22 rfl rfl)
theorem dX1_on_47 : decode cX1_on 47 = .ok (.getfield 22, 3) := dk_180 0 22 (dk_at dksX1_on_2 0 rfl rfl)
theorem dX1_on_50 : decode cX1_on 50 = .ok (.iconst 2, 1) := dk_5 (dk_at dksX1_on_2 3 rfl rfl)
theorem dX1_on_51 : decode cX1_on 51 = .ok (.iaload, 1) := dk_46 (dk_at dksX1_on_2 4 rfl rfl)
theorem dX1_on_52 : decode cX1_on 52 = .ok (.ireturn, 1) := dk_172 (dk_at dksX1_on_2 5 rfl rfl)
abbrev cX1_match : ByteArray := prog_10_method_56_code
def yX1_match : MethodName := ⟨RX1, "match", "(I)I"⟩
def dkwX1_match_0 : List UInt8 := [27, 184, 0, 72, 154, 0, 5, 2, 172, 42, 3, 182, 0, 181, 42, 27, 182, 0, 185, 172]
abbrev dktX1_match_0 : List UInt8 := dkwX1_match_0 ++ []
theorem dksX1_match_0 : cX1_match.data.toList.drop 0 = dktX1_match_0 := by decide +kernel
theorem dX1_match_0 : decode cX1_match 0 = .ok (.iload_n 1, 1) := dk_27 (dk_at dksX1_match_0 0 rfl rfl)
theorem dX1_match_1 : decode cX1_match 1 = .ok (.invokestatic 72, 3) := dk_184 0 72 (dk_at dksX1_match_0 1 rfl rfl)
theorem dX1_match_4 : decode cX1_match 4 = .ok (.ifCond .ne 5, 3) := dk_154 0 5 (dk_at dksX1_match_0 4 rfl rfl)
theorem dX1_match_7 : decode cX1_match 7 = .ok (.iconst (-1), 1) := dk_2 (dk_at dksX1_match_0 7 rfl rfl)
theorem dX1_match_8 : decode cX1_match 8 = .ok (.ireturn, 1) := dk_172 (dk_at dksX1_match_0 8 rfl rfl)
theorem dX1_match_9 : decode cX1_match 9 = .ok (.aload_n 0, 1) := dk_42 (dk_at dksX1_match_0 9 rfl rfl)
theorem dX1_match_10 : decode cX1_match 10 = .ok (.iconst 0, 1) := dk_3 (dk_at dksX1_match_0 10 rfl rfl)
theorem dX1_match_11 : decode cX1_match 11 = .ok (.invokevirtual 181, 3) := dk_182 0 181 (dk_at dksX1_match_0 11 rfl rfl)
theorem dX1_match_14 : decode cX1_match 14 = .ok (.aload_n 0, 1) := dk_42 (dk_at dksX1_match_0 14 rfl rfl)
theorem dX1_match_15 : decode cX1_match 15 = .ok (.iload_n 1, 1) := dk_27 (dk_at dksX1_match_0 15 rfl rfl)
theorem dX1_match_16 : decode cX1_match 16 = .ok (.invokevirtual 185, 3) := dk_182 0 185 (dk_at dksX1_match_0 16 rfl rfl)
theorem dX1_match_19 : decode cX1_match 19 = .ok (.ireturn, 1) := dk_172 (dk_at dksX1_match_0 19 rfl rfl)
abbrev cX1_layMatchings : ByteArray := prog_10_method_53_code
def yX1_layMatchings : MethodName := ⟨RX1, "layMatchings", "(Z)V"⟩
def dkwX1_layMatchings_9 : List UInt8 := [132, 4, 1, 21, 4, 28, 162, 0, 11, 42, 180, 0, 42, 21, 4, 2, 79, 167, 255, 60, 177]
abbrev dktX1_layMatchings_9 : List UInt8 := dkwX1_layMatchings_9 ++ []
def dkwX1_layMatchings_8 : List UInt8 := [21, 6, 27, 153, 0, 16, 42, 180, 0, 22, 16, 52, 21, 4, 96, 46, 167, 0, 4, 4, 96, 54, 6]
abbrev dktX1_layMatchings_8 : List UInt8 := dkwX1_layMatchings_8 ++ dktX1_layMatchings_9
def dkwX1_layMatchings_7 : List UInt8 := [164, 0, 9, 132, 4, 255, 167, 255, 118, 21, 8, 29, 162, 0, 35, 21, 5, 4, 21, 8, 120, 128, 54, 5]
abbrev dktX1_layMatchings_7 : List UInt8 := dkwX1_layMatchings_7 ++ dktX1_layMatchings_8
def dkwX1_layMatchings_6 : List UInt8 := [182, 0, 172, 154, 0, 9, 132, 8, 1, 167, 255, 225, 42, 180, 0, 42, 21, 4, 21, 8, 79, 21, 8, 29]
abbrev dktX1_layMatchings_6 : List UInt8 := dkwX1_layMatchings_6 ++ dktX1_layMatchings_7
def dkwX1_layMatchings_5 : List UInt8 := [54, 8, 21, 8, 29, 162, 0, 31, 21, 5, 21, 8, 122, 4, 126, 4, 159, 0, 14, 42, 21, 4, 21, 8]
abbrev dktX1_layMatchings_5 : List UInt8 := dkwX1_layMatchings_5 ++ dktX1_layMatchings_6
def dkwX1_layMatchings_4 : List UInt8 := [153, 0, 16, 42, 180, 0, 22, 16, 52, 21, 4, 96, 46, 167, 0, 4, 4, 100, 54, 6, 21, 7, 4, 96]
abbrev dktX1_layMatchings_4 : List UInt8 := dkwX1_layMatchings_4 ++ dktX1_layMatchings_5
def dkwX1_layMatchings_3 : List UInt8 := [29, 4, 100, 133, 184, 0, 66, 153, 0, 37, 21, 5, 4, 21, 7, 120, 2, 130, 126, 54, 5, 21, 6, 27]
abbrev dktX1_layMatchings_3 : List UInt8 := dkwX1_layMatchings_3 ++ dktX1_layMatchings_4
def dkwX1_layMatchings_2 : List UInt8 := [21, 6, 182, 0, 168, 132, 4, 255, 167, 255, 236, 42, 180, 0, 42, 21, 4, 46, 54, 7, 21, 7, 133, 9]
abbrev dktX1_layMatchings_2 : List UInt8 := dkwX1_layMatchings_2 ++ dktX1_layMatchings_3
def dkwX1_layMatchings_1 : List UInt8 := [54, 5, 3, 54, 6, 42, 180, 0, 42, 3, 2, 79, 21, 4, 155, 0, 197, 21, 4, 28, 160, 0, 15, 42]
abbrev dktX1_layMatchings_1 : List UInt8 := dkwX1_layMatchings_1 ++ dktX1_layMatchings_2
def dkwX1_layMatchings_0 : List UInt8 := [42, 180, 0, 22, 4, 46, 61, 42, 180, 0, 22, 3, 46, 62, 42, 2, 181, 0, 165, 3, 54, 4, 3]
abbrev dktX1_layMatchings_0 : List UInt8 := dkwX1_layMatchings_0 ++ dktX1_layMatchings_1
theorem dksX1_layMatchings_0 : cX1_layMatchings.data.toList.drop 0 = dktX1_layMatchings_0 := by decide +kernel
theorem dksX1_layMatchings_1 : cX1_layMatchings.data.toList.drop 23 = dktX1_layMatchings_1 := dk_seg dksX1_layMatchings_0 23 rfl rfl
theorem dksX1_layMatchings_2 : cX1_layMatchings.data.toList.drop 47 = dktX1_layMatchings_2 := dk_seg dksX1_layMatchings_1 24 rfl rfl
theorem dksX1_layMatchings_3 : cX1_layMatchings.data.toList.drop 71 = dktX1_layMatchings_3 := dk_seg dksX1_layMatchings_2 24 rfl rfl
theorem dksX1_layMatchings_4 : cX1_layMatchings.data.toList.drop 95 = dktX1_layMatchings_4 := dk_seg dksX1_layMatchings_3 24 rfl rfl
theorem dksX1_layMatchings_5 : cX1_layMatchings.data.toList.drop 119 = dktX1_layMatchings_5 := dk_seg dksX1_layMatchings_4 24 rfl rfl
theorem dksX1_layMatchings_6 : cX1_layMatchings.data.toList.drop 143 = dktX1_layMatchings_6 := dk_seg dksX1_layMatchings_5 24 rfl rfl
theorem dksX1_layMatchings_7 : cX1_layMatchings.data.toList.drop 167 = dktX1_layMatchings_7 := dk_seg dksX1_layMatchings_6 24 rfl rfl
theorem dksX1_layMatchings_8 : cX1_layMatchings.data.toList.drop 191 = dktX1_layMatchings_8 := dk_seg dksX1_layMatchings_7 24 rfl rfl
theorem dksX1_layMatchings_9 : cX1_layMatchings.data.toList.drop 214 = dktX1_layMatchings_9 := dk_seg dksX1_layMatchings_8 23 rfl rfl
theorem dX1_layMatchings_0 : decode cX1_layMatchings 0 = .ok (.aload_n 0, 1) := dk_42 (dk_at dksX1_layMatchings_0 0 rfl rfl)
theorem dX1_layMatchings_1 : decode cX1_layMatchings 1 = .ok (.getfield 22, 3) := dk_180 0 22 (dk_at dksX1_layMatchings_0 1 rfl rfl)
theorem dX1_layMatchings_4 : decode cX1_layMatchings 4 = .ok (.iconst 1, 1) := dk_4 (dk_at dksX1_layMatchings_0 4 rfl rfl)
theorem dX1_layMatchings_5 : decode cX1_layMatchings 5 = .ok (.iaload, 1) := dk_46 (dk_at dksX1_layMatchings_0 5 rfl rfl)
theorem dX1_layMatchings_6 : decode cX1_layMatchings 6 = .ok (.istore_n 2, 1) := dk_61 (dk_at dksX1_layMatchings_0 6 rfl rfl)
theorem dX1_layMatchings_7 : decode cX1_layMatchings 7 = .ok (.aload_n 0, 1) := dk_42 (dk_at dksX1_layMatchings_0 7 rfl rfl)
theorem dX1_layMatchings_8 : decode cX1_layMatchings 8 = .ok (.getfield 22, 3) := dk_180 0 22 (dk_at dksX1_layMatchings_0 8 rfl rfl)
theorem dX1_layMatchings_11 : decode cX1_layMatchings 11 = .ok (.iconst 0, 1) := dk_3 (dk_at dksX1_layMatchings_0 11 rfl rfl)
theorem dX1_layMatchings_12 : decode cX1_layMatchings 12 = .ok (.iaload, 1) := dk_46 (dk_at dksX1_layMatchings_0 12 rfl rfl)
theorem dX1_layMatchings_13 : decode cX1_layMatchings 13 = .ok (.istore_n 3, 1) := dk_62 (dk_at dksX1_layMatchings_0 13 rfl rfl)
theorem dX1_layMatchings_14 : decode cX1_layMatchings 14 = .ok (.aload_n 0, 1) := dk_42 (dk_at dksX1_layMatchings_0 14 rfl rfl)
theorem dX1_layMatchings_15 : decode cX1_layMatchings 15 = .ok (.iconst (-1), 1) := dk_2 (dk_at dksX1_layMatchings_0 15 rfl rfl)
theorem dX1_layMatchings_16 : decode cX1_layMatchings 16 = .ok (.putfield 165, 3) := dk_181 0 165 (dk_at dksX1_layMatchings_0 16 rfl rfl)
theorem dX1_layMatchings_19 : decode cX1_layMatchings 19 = .ok (.iconst 0, 1) := dk_3 (dk_at dksX1_layMatchings_0 19 rfl rfl)
theorem dX1_layMatchings_20 : decode cX1_layMatchings 20 = .ok (.istore 4, 2) := dk_54 4 (dk_at dksX1_layMatchings_0 20 rfl rfl)
theorem dX1_layMatchings_22 : decode cX1_layMatchings 22 = .ok (.iconst 0, 1) := dk_3 (dk_at dksX1_layMatchings_0 22 rfl rfl)
theorem dX1_layMatchings_23 : decode cX1_layMatchings 23 = .ok (.istore 5, 2) := dk_54 5 (dk_at dksX1_layMatchings_1 0 rfl rfl)
theorem dX1_layMatchings_25 : decode cX1_layMatchings 25 = .ok (.iconst 0, 1) := dk_3 (dk_at dksX1_layMatchings_1 2 rfl rfl)
theorem dX1_layMatchings_26 : decode cX1_layMatchings 26 = .ok (.istore 6, 2) := dk_54 6 (dk_at dksX1_layMatchings_1 3 rfl rfl)
theorem dX1_layMatchings_28 : decode cX1_layMatchings 28 = .ok (.aload_n 0, 1) := dk_42 (dk_at dksX1_layMatchings_1 5 rfl rfl)
theorem dX1_layMatchings_29 : decode cX1_layMatchings 29 = .ok (.getfield 42, 3) := dk_180 0 42 (dk_at dksX1_layMatchings_1 6 rfl rfl)
theorem dX1_layMatchings_32 : decode cX1_layMatchings 32 = .ok (.iconst 0, 1) := dk_3 (dk_at dksX1_layMatchings_1 9 rfl rfl)
theorem dX1_layMatchings_33 : decode cX1_layMatchings 33 = .ok (.iconst (-1), 1) := dk_2 (dk_at dksX1_layMatchings_1 10 rfl rfl)
theorem dX1_layMatchings_34 : decode cX1_layMatchings 34 = .ok (.iastore, 1) := dk_79 (dk_at dksX1_layMatchings_1 11 rfl rfl)
theorem dX1_layMatchings_35 : decode cX1_layMatchings 35 = .ok (.iload 4, 2) := dk_21 4 (dk_at dksX1_layMatchings_1 12 rfl rfl)
theorem dX1_layMatchings_37 : decode cX1_layMatchings 37 = .ok (.ifCond .lt 197, 3) := dk_155 0 197 (dk_at dksX1_layMatchings_1 14 rfl rfl)
theorem dX1_layMatchings_40 : decode cX1_layMatchings 40 = .ok (.iload 4, 2) := dk_21 4 (dk_at dksX1_layMatchings_1 17 rfl rfl)
theorem dX1_layMatchings_42 : decode cX1_layMatchings 42 = .ok (.iload_n 2, 1) := dk_28 (dk_at dksX1_layMatchings_1 19 rfl rfl)
theorem dX1_layMatchings_43 : decode cX1_layMatchings 43 = .ok (.if_icmp .ne 15, 3) := dk_160 0 15 (dk_at dksX1_layMatchings_1 20 rfl rfl)
theorem dX1_layMatchings_46 : decode cX1_layMatchings 46 = .ok (.aload_n 0, 1) := dk_42 (dk_at dksX1_layMatchings_1 23 rfl rfl)
theorem dX1_layMatchings_47 : decode cX1_layMatchings 47 = .ok (.iload 6, 2) := dk_21 6 (dk_at dksX1_layMatchings_2 0 rfl rfl)
theorem dX1_layMatchings_49 : decode cX1_layMatchings 49 = .ok (.invokevirtual 168, 3) := dk_182 0 168 (dk_at dksX1_layMatchings_2 2 rfl rfl)
theorem dX1_layMatchings_52 : decode cX1_layMatchings 52 = .ok (.iinc 4 (-1), 3) := dk_132 4 255 (dk_at dksX1_layMatchings_2 5 rfl rfl)
theorem dX1_layMatchings_55 : decode cX1_layMatchings 55 = .ok (.goto (-20), 3) := dk_167 255 236 (dk_at dksX1_layMatchings_2 8 rfl rfl)
theorem dX1_layMatchings_58 : decode cX1_layMatchings 58 = .ok (.aload_n 0, 1) := dk_42 (dk_at dksX1_layMatchings_2 11 rfl rfl)
theorem dX1_layMatchings_59 : decode cX1_layMatchings 59 = .ok (.getfield 42, 3) := dk_180 0 42 (dk_at dksX1_layMatchings_2 12 rfl rfl)
theorem dX1_layMatchings_62 : decode cX1_layMatchings 62 = .ok (.iload 4, 2) := dk_21 4 (dk_at dksX1_layMatchings_2 15 rfl rfl)
theorem dX1_layMatchings_64 : decode cX1_layMatchings 64 = .ok (.iaload, 1) := dk_46 (dk_at dksX1_layMatchings_2 17 rfl rfl)
theorem dX1_layMatchings_65 : decode cX1_layMatchings 65 = .ok (.istore 7, 2) := dk_54 7 (dk_at dksX1_layMatchings_2 18 rfl rfl)
theorem dX1_layMatchings_67 : decode cX1_layMatchings 67 = .ok (.iload 7, 2) := dk_21 7 (dk_at dksX1_layMatchings_2 20 rfl rfl)
theorem dX1_layMatchings_69 : decode cX1_layMatchings 69 = .ok (.i2l, 1) := dk_133 (dk_at dksX1_layMatchings_2 22 rfl rfl)
theorem dX1_layMatchings_70 : decode cX1_layMatchings 70 = .ok (.lconst 0, 1) := dk_9 (dk_at dksX1_layMatchings_2 23 rfl rfl)
theorem dX1_layMatchings_71 : decode cX1_layMatchings 71 = .ok (.iload_n 3, 1) := dk_29 (dk_at dksX1_layMatchings_3 0 rfl rfl)
theorem dX1_layMatchings_72 : decode cX1_layMatchings 72 = .ok (.iconst 1, 1) := dk_4 (dk_at dksX1_layMatchings_3 1 rfl rfl)
theorem dX1_layMatchings_73 : decode cX1_layMatchings 73 = .ok (.isub, 1) := dk_100 (dk_at dksX1_layMatchings_3 2 rfl rfl)
theorem dX1_layMatchings_74 : decode cX1_layMatchings 74 = .ok (.i2l, 1) := dk_133 (dk_at dksX1_layMatchings_3 3 rfl rfl)
theorem dX1_layMatchings_75 : decode cX1_layMatchings 75 = .ok (.invokestatic 66, 3) := dk_184 0 66 (dk_at dksX1_layMatchings_3 4 rfl rfl)
theorem dX1_layMatchings_78 : decode cX1_layMatchings 78 = .ok (.ifCond .eq 37, 3) := dk_153 0 37 (dk_at dksX1_layMatchings_3 7 rfl rfl)
theorem dX1_layMatchings_81 : decode cX1_layMatchings 81 = .ok (.iload 5, 2) := dk_21 5 (dk_at dksX1_layMatchings_3 10 rfl rfl)
theorem dX1_layMatchings_83 : decode cX1_layMatchings 83 = .ok (.iconst 1, 1) := dk_4 (dk_at dksX1_layMatchings_3 12 rfl rfl)
theorem dX1_layMatchings_84 : decode cX1_layMatchings 84 = .ok (.iload 7, 2) := dk_21 7 (dk_at dksX1_layMatchings_3 13 rfl rfl)
theorem dX1_layMatchings_86 : decode cX1_layMatchings 86 = .ok (.ishl, 1) := dk_120 (dk_at dksX1_layMatchings_3 15 rfl rfl)
theorem dX1_layMatchings_87 : decode cX1_layMatchings 87 = .ok (.iconst (-1), 1) := dk_2 (dk_at dksX1_layMatchings_3 16 rfl rfl)
theorem dX1_layMatchings_88 : decode cX1_layMatchings 88 = .ok (.ixor, 1) := dk_130 (dk_at dksX1_layMatchings_3 17 rfl rfl)
theorem dX1_layMatchings_89 : decode cX1_layMatchings 89 = .ok (.iand, 1) := dk_126 (dk_at dksX1_layMatchings_3 18 rfl rfl)
theorem dX1_layMatchings_90 : decode cX1_layMatchings 90 = .ok (.istore 5, 2) := dk_54 5 (dk_at dksX1_layMatchings_3 19 rfl rfl)
theorem dX1_layMatchings_92 : decode cX1_layMatchings 92 = .ok (.iload 6, 2) := dk_21 6 (dk_at dksX1_layMatchings_3 21 rfl rfl)
theorem dX1_layMatchings_94 : decode cX1_layMatchings 94 = .ok (.iload_n 1, 1) := dk_27 (dk_at dksX1_layMatchings_3 23 rfl rfl)
theorem dX1_layMatchings_95 : decode cX1_layMatchings 95 = .ok (.ifCond .eq 16, 3) := dk_153 0 16 (dk_at dksX1_layMatchings_4 0 rfl rfl)
theorem dX1_layMatchings_98 : decode cX1_layMatchings 98 = .ok (.aload_n 0, 1) := dk_42 (dk_at dksX1_layMatchings_4 3 rfl rfl)
theorem dX1_layMatchings_99 : decode cX1_layMatchings 99 = .ok (.getfield 22, 3) := dk_180 0 22 (dk_at dksX1_layMatchings_4 4 rfl rfl)
theorem dX1_layMatchings_102 : decode cX1_layMatchings 102 = .ok (.bipush 52, 2) := dk_16 52 (dk_at dksX1_layMatchings_4 7 rfl rfl)
theorem dX1_layMatchings_104 : decode cX1_layMatchings 104 = .ok (.iload 4, 2) := dk_21 4 (dk_at dksX1_layMatchings_4 9 rfl rfl)
theorem dX1_layMatchings_106 : decode cX1_layMatchings 106 = .ok (.iadd, 1) := dk_96 (dk_at dksX1_layMatchings_4 11 rfl rfl)
theorem dX1_layMatchings_107 : decode cX1_layMatchings 107 = .ok (.iaload, 1) := dk_46 (dk_at dksX1_layMatchings_4 12 rfl rfl)
theorem dX1_layMatchings_108 : decode cX1_layMatchings 108 = .ok (.goto 4, 3) := dk_167 0 4 (dk_at dksX1_layMatchings_4 13 rfl rfl)
theorem dX1_layMatchings_111 : decode cX1_layMatchings 111 = .ok (.iconst 1, 1) := dk_4 (dk_at dksX1_layMatchings_4 16 rfl rfl)
theorem dX1_layMatchings_112 : decode cX1_layMatchings 112 = .ok (.isub, 1) := dk_100 (dk_at dksX1_layMatchings_4 17 rfl rfl)
theorem dX1_layMatchings_113 : decode cX1_layMatchings 113 = .ok (.istore 6, 2) := dk_54 6 (dk_at dksX1_layMatchings_4 18 rfl rfl)
theorem dX1_layMatchings_115 : decode cX1_layMatchings 115 = .ok (.iload 7, 2) := dk_21 7 (dk_at dksX1_layMatchings_4 20 rfl rfl)
theorem dX1_layMatchings_117 : decode cX1_layMatchings 117 = .ok (.iconst 1, 1) := dk_4 (dk_at dksX1_layMatchings_4 22 rfl rfl)
theorem dX1_layMatchings_118 : decode cX1_layMatchings 118 = .ok (.iadd, 1) := dk_96 (dk_at dksX1_layMatchings_4 23 rfl rfl)
theorem dX1_layMatchings_119 : decode cX1_layMatchings 119 = .ok (.istore 8, 2) := dk_54 8 (dk_at dksX1_layMatchings_5 0 rfl rfl)
theorem dX1_layMatchings_121 : decode cX1_layMatchings 121 = .ok (.iload 8, 2) := dk_21 8 (dk_at dksX1_layMatchings_5 2 rfl rfl)
theorem dX1_layMatchings_123 : decode cX1_layMatchings 123 = .ok (.iload_n 3, 1) := dk_29 (dk_at dksX1_layMatchings_5 4 rfl rfl)
theorem dX1_layMatchings_124 : decode cX1_layMatchings 124 = .ok (.if_icmp .ge 31, 3) := dk_162 0 31 (dk_at dksX1_layMatchings_5 5 rfl rfl)
theorem dX1_layMatchings_127 : decode cX1_layMatchings 127 = .ok (.iload 5, 2) := dk_21 5 (dk_at dksX1_layMatchings_5 8 rfl rfl)
theorem dX1_layMatchings_129 : decode cX1_layMatchings 129 = .ok (.iload 8, 2) := dk_21 8 (dk_at dksX1_layMatchings_5 10 rfl rfl)
theorem dX1_layMatchings_131 : decode cX1_layMatchings 131 = .ok (.ishr, 1) := dk_122 (dk_at dksX1_layMatchings_5 12 rfl rfl)
theorem dX1_layMatchings_132 : decode cX1_layMatchings 132 = .ok (.iconst 1, 1) := dk_4 (dk_at dksX1_layMatchings_5 13 rfl rfl)
theorem dX1_layMatchings_133 : decode cX1_layMatchings 133 = .ok (.iand, 1) := dk_126 (dk_at dksX1_layMatchings_5 14 rfl rfl)
theorem dX1_layMatchings_134 : decode cX1_layMatchings 134 = .ok (.iconst 1, 1) := dk_4 (dk_at dksX1_layMatchings_5 15 rfl rfl)
theorem dX1_layMatchings_135 : decode cX1_layMatchings 135 = .ok (.if_icmp .eq 14, 3) := dk_159 0 14 (dk_at dksX1_layMatchings_5 16 rfl rfl)
theorem dX1_layMatchings_138 : decode cX1_layMatchings 138 = .ok (.aload_n 0, 1) := dk_42 (dk_at dksX1_layMatchings_5 19 rfl rfl)
theorem dX1_layMatchings_139 : decode cX1_layMatchings 139 = .ok (.iload 4, 2) := dk_21 4 (dk_at dksX1_layMatchings_5 20 rfl rfl)
theorem dX1_layMatchings_141 : decode cX1_layMatchings 141 = .ok (.iload 8, 2) := dk_21 8 (dk_at dksX1_layMatchings_5 22 rfl rfl)
theorem dX1_layMatchings_143 : decode cX1_layMatchings 143 = .ok (.invokevirtual 172, 3) := dk_182 0 172 (dk_at dksX1_layMatchings_6 0 rfl rfl)
theorem dX1_layMatchings_146 : decode cX1_layMatchings 146 = .ok (.ifCond .ne 9, 3) := dk_154 0 9 (dk_at dksX1_layMatchings_6 3 rfl rfl)
theorem dX1_layMatchings_149 : decode cX1_layMatchings 149 = .ok (.iinc 8 1, 3) := dk_132 8 1 (dk_at dksX1_layMatchings_6 6 rfl rfl)
theorem dX1_layMatchings_152 : decode cX1_layMatchings 152 = .ok (.goto (-31), 3) := dk_167 255 225 (dk_at dksX1_layMatchings_6 9 rfl rfl)
theorem dX1_layMatchings_155 : decode cX1_layMatchings 155 = .ok (.aload_n 0, 1) := dk_42 (dk_at dksX1_layMatchings_6 12 rfl rfl)
theorem dX1_layMatchings_156 : decode cX1_layMatchings 156 = .ok (.getfield 42, 3) := dk_180 0 42 (dk_at dksX1_layMatchings_6 13 rfl rfl)
theorem dX1_layMatchings_159 : decode cX1_layMatchings 159 = .ok (.iload 4, 2) := dk_21 4 (dk_at dksX1_layMatchings_6 16 rfl rfl)
theorem dX1_layMatchings_161 : decode cX1_layMatchings 161 = .ok (.iload 8, 2) := dk_21 8 (dk_at dksX1_layMatchings_6 18 rfl rfl)
theorem dX1_layMatchings_163 : decode cX1_layMatchings 163 = .ok (.iastore, 1) := dk_79 (dk_at dksX1_layMatchings_6 20 rfl rfl)
theorem dX1_layMatchings_164 : decode cX1_layMatchings 164 = .ok (.iload 8, 2) := dk_21 8 (dk_at dksX1_layMatchings_6 21 rfl rfl)
theorem dX1_layMatchings_166 : decode cX1_layMatchings 166 = .ok (.iload_n 3, 1) := dk_29 (dk_at dksX1_layMatchings_6 23 rfl rfl)
theorem dX1_layMatchings_167 : decode cX1_layMatchings 167 = .ok (.if_icmp .le 9, 3) := dk_164 0 9 (dk_at dksX1_layMatchings_7 0 rfl rfl)
theorem dX1_layMatchings_170 : decode cX1_layMatchings 170 = .ok (.iinc 4 (-1), 3) := dk_132 4 255 (dk_at dksX1_layMatchings_7 3 rfl rfl)
theorem dX1_layMatchings_173 : decode cX1_layMatchings 173 = .ok (.goto (-138), 3) := dk_167 255 118 (dk_at dksX1_layMatchings_7 6 rfl rfl)
theorem dX1_layMatchings_176 : decode cX1_layMatchings 176 = .ok (.iload 8, 2) := dk_21 8 (dk_at dksX1_layMatchings_7 9 rfl rfl)
theorem dX1_layMatchings_178 : decode cX1_layMatchings 178 = .ok (.iload_n 3, 1) := dk_29 (dk_at dksX1_layMatchings_7 11 rfl rfl)
theorem dX1_layMatchings_179 : decode cX1_layMatchings 179 = .ok (.if_icmp .ge 35, 3) := dk_162 0 35 (dk_at dksX1_layMatchings_7 12 rfl rfl)
theorem dX1_layMatchings_182 : decode cX1_layMatchings 182 = .ok (.iload 5, 2) := dk_21 5 (dk_at dksX1_layMatchings_7 15 rfl rfl)
theorem dX1_layMatchings_184 : decode cX1_layMatchings 184 = .ok (.iconst 1, 1) := dk_4 (dk_at dksX1_layMatchings_7 17 rfl rfl)
theorem dX1_layMatchings_185 : decode cX1_layMatchings 185 = .ok (.iload 8, 2) := dk_21 8 (dk_at dksX1_layMatchings_7 18 rfl rfl)
theorem dX1_layMatchings_187 : decode cX1_layMatchings 187 = .ok (.ishl, 1) := dk_120 (dk_at dksX1_layMatchings_7 20 rfl rfl)
theorem dX1_layMatchings_188 : decode cX1_layMatchings 188 = .ok (.ior, 1) := dk_128 (dk_at dksX1_layMatchings_7 21 rfl rfl)
theorem dX1_layMatchings_189 : decode cX1_layMatchings 189 = .ok (.istore 5, 2) := dk_54 5 (dk_at dksX1_layMatchings_7 22 rfl rfl)
theorem dX1_layMatchings_191 : decode cX1_layMatchings 191 = .ok (.iload 6, 2) := dk_21 6 (dk_at dksX1_layMatchings_8 0 rfl rfl)
theorem dX1_layMatchings_193 : decode cX1_layMatchings 193 = .ok (.iload_n 1, 1) := dk_27 (dk_at dksX1_layMatchings_8 2 rfl rfl)
theorem dX1_layMatchings_194 : decode cX1_layMatchings 194 = .ok (.ifCond .eq 16, 3) := dk_153 0 16 (dk_at dksX1_layMatchings_8 3 rfl rfl)
theorem dX1_layMatchings_197 : decode cX1_layMatchings 197 = .ok (.aload_n 0, 1) := dk_42 (dk_at dksX1_layMatchings_8 6 rfl rfl)
theorem dX1_layMatchings_198 : decode cX1_layMatchings 198 = .ok (.getfield 22, 3) := dk_180 0 22 (dk_at dksX1_layMatchings_8 7 rfl rfl)
theorem dX1_layMatchings_201 : decode cX1_layMatchings 201 = .ok (.bipush 52, 2) := dk_16 52 (dk_at dksX1_layMatchings_8 10 rfl rfl)
theorem dX1_layMatchings_203 : decode cX1_layMatchings 203 = .ok (.iload 4, 2) := dk_21 4 (dk_at dksX1_layMatchings_8 12 rfl rfl)
theorem dX1_layMatchings_205 : decode cX1_layMatchings 205 = .ok (.iadd, 1) := dk_96 (dk_at dksX1_layMatchings_8 14 rfl rfl)
theorem dX1_layMatchings_206 : decode cX1_layMatchings 206 = .ok (.iaload, 1) := dk_46 (dk_at dksX1_layMatchings_8 15 rfl rfl)
theorem dX1_layMatchings_207 : decode cX1_layMatchings 207 = .ok (.goto 4, 3) := dk_167 0 4 (dk_at dksX1_layMatchings_8 16 rfl rfl)
theorem dX1_layMatchings_210 : decode cX1_layMatchings 210 = .ok (.iconst 1, 1) := dk_4 (dk_at dksX1_layMatchings_8 19 rfl rfl)
theorem dX1_layMatchings_211 : decode cX1_layMatchings 211 = .ok (.iadd, 1) := dk_96 (dk_at dksX1_layMatchings_8 20 rfl rfl)
theorem dX1_layMatchings_212 : decode cX1_layMatchings 212 = .ok (.istore 6, 2) := dk_54 6 (dk_at dksX1_layMatchings_8 21 rfl rfl)
theorem dX1_layMatchings_214 : decode cX1_layMatchings 214 = .ok (.iinc 4 1, 3) := dk_132 4 1 (dk_at dksX1_layMatchings_9 0 rfl rfl)
theorem dX1_layMatchings_217 : decode cX1_layMatchings 217 = .ok (.iload 4, 2) := dk_21 4 (dk_at dksX1_layMatchings_9 3 rfl rfl)
theorem dX1_layMatchings_219 : decode cX1_layMatchings 219 = .ok (.iload_n 2, 1) := dk_28 (dk_at dksX1_layMatchings_9 5 rfl rfl)
theorem dX1_layMatchings_220 : decode cX1_layMatchings 220 = .ok (.if_icmp .ge 11, 3) := dk_162 0 11 (dk_at dksX1_layMatchings_9 6 rfl rfl)
theorem dX1_layMatchings_223 : decode cX1_layMatchings 223 = .ok (.aload_n 0, 1) := dk_42 (dk_at dksX1_layMatchings_9 9 rfl rfl)
theorem dX1_layMatchings_224 : decode cX1_layMatchings 224 = .ok (.getfield 42, 3) := dk_180 0 42 (dk_at dksX1_layMatchings_9 10 rfl rfl)
theorem dX1_layMatchings_227 : decode cX1_layMatchings 227 = .ok (.iload 4, 2) := dk_21 4 (dk_at dksX1_layMatchings_9 13 rfl rfl)
theorem dX1_layMatchings_229 : decode cX1_layMatchings 229 = .ok (.iconst (-1), 1) := dk_2 (dk_at dksX1_layMatchings_9 15 rfl rfl)
theorem dX1_layMatchings_230 : decode cX1_layMatchings 230 = .ok (.iastore, 1) := dk_79 (dk_at dksX1_layMatchings_9 16 rfl rfl)
theorem dX1_layMatchings_231 : decode cX1_layMatchings 231 = .ok (.goto (-196), 3) := dk_167 255 60 (dk_at dksX1_layMatchings_9 17 rfl rfl)
theorem dX1_layMatchings_234 : decode cX1_layMatchings 234 = .ok (.return_, 1) := dk_177 (dk_at dksX1_layMatchings_9 20 rfl rfl)
abbrev cX1_counts : ByteArray := prog_10_method_54_code
def yX1_counts : MethodName := ⟨RX1, "counts", "(I)V"⟩
def dkwX1_counts_6 : List UInt8 := [180, 0, 42, 29, 46, 96, 92, 46, 4, 96, 79, 132, 3, 1, 167, 255, 213, 177]
abbrev dktX1_counts_6 : List UInt8 := dkwX1_counts_6 ++ []
def dkwX1_counts_5 : List UInt8 := [46, 162, 0, 39, 42, 180, 0, 42, 29, 46, 28, 162, 0, 23, 42, 180, 0, 48, 16, 7, 29, 104, 42]
abbrev dktX1_counts_5 : List UInt8 := dkwX1_counts_5 ++ dktX1_counts_6
def dkwX1_counts_4 : List UInt8 := [180, 0, 165, 160, 0, 61, 42, 89, 180, 0, 175, 4, 96, 181, 0, 175, 3, 62, 29, 42, 180, 0, 22, 4]
abbrev dktX1_counts_4 : List UInt8 := dkwX1_counts_4 ++ dktX1_counts_5
def dkwX1_counts_3 : List UInt8 := [162, 0, 12, 42, 180, 0, 42, 29, 46, 167, 0, 5, 16, 247, 79, 132, 3, 1, 167, 255, 216, 27, 42]
abbrev dktX1_counts_3 : List UInt8 := dkwX1_counts_3 ++ dktX1_counts_4
def dkwX1_counts_2 : List UInt8 := [3, 62, 29, 42, 180, 0, 22, 4, 46, 162, 0, 36, 42, 180, 0, 45, 29, 42, 180, 0, 42, 29, 46, 28]
abbrev dktX1_counts_2 : List UInt8 := dkwX1_counts_2 ++ dktX1_counts_3
def dkwX1_counts_1 : List UInt8 := [181, 0, 175, 3, 62, 29, 16, 49, 162, 0, 16, 42, 180, 0, 48, 29, 3, 79, 132, 3, 1, 167, 255, 240]
abbrev dktX1_counts_1 : List UInt8 := dkwX1_counts_1 ++ dktX1_counts_2
def dkwX1_counts_0 : List UInt8 := [42, 180, 0, 22, 3, 46, 61, 27, 42, 180, 0, 165, 164, 0, 79, 42, 27, 181, 0, 165, 42, 3]
abbrev dktX1_counts_0 : List UInt8 := dkwX1_counts_0 ++ dktX1_counts_1
theorem dksX1_counts_0 : cX1_counts.data.toList.drop 0 = dktX1_counts_0 := by decide +kernel
theorem dksX1_counts_1 : cX1_counts.data.toList.drop 22 = dktX1_counts_1 := dk_seg dksX1_counts_0 22 rfl rfl
theorem dksX1_counts_2 : cX1_counts.data.toList.drop 46 = dktX1_counts_2 := dk_seg dksX1_counts_1 24 rfl rfl
theorem dksX1_counts_3 : cX1_counts.data.toList.drop 70 = dktX1_counts_3 := dk_seg dksX1_counts_2 24 rfl rfl
theorem dksX1_counts_4 : cX1_counts.data.toList.drop 93 = dktX1_counts_4 := dk_seg dksX1_counts_3 23 rfl rfl
theorem dksX1_counts_5 : cX1_counts.data.toList.drop 117 = dktX1_counts_5 := dk_seg dksX1_counts_4 24 rfl rfl
theorem dksX1_counts_6 : cX1_counts.data.toList.drop 140 = dktX1_counts_6 := dk_seg dksX1_counts_5 23 rfl rfl
theorem dX1_counts_0 : decode cX1_counts 0 = .ok (.aload_n 0, 1) := dk_42 (dk_at dksX1_counts_0 0 rfl rfl)
theorem dX1_counts_1 : decode cX1_counts 1 = .ok (.getfield 22, 3) := dk_180 0 22 (dk_at dksX1_counts_0 1 rfl rfl)
theorem dX1_counts_4 : decode cX1_counts 4 = .ok (.iconst 0, 1) := dk_3 (dk_at dksX1_counts_0 4 rfl rfl)
theorem dX1_counts_5 : decode cX1_counts 5 = .ok (.iaload, 1) := dk_46 (dk_at dksX1_counts_0 5 rfl rfl)
theorem dX1_counts_6 : decode cX1_counts 6 = .ok (.istore_n 2, 1) := dk_61 (dk_at dksX1_counts_0 6 rfl rfl)
theorem dX1_counts_7 : decode cX1_counts 7 = .ok (.iload_n 1, 1) := dk_27 (dk_at dksX1_counts_0 7 rfl rfl)
theorem dX1_counts_8 : decode cX1_counts 8 = .ok (.aload_n 0, 1) := dk_42 (dk_at dksX1_counts_0 8 rfl rfl)
theorem dX1_counts_9 : decode cX1_counts 9 = .ok (.getfield 165, 3) := dk_180 0 165 (dk_at dksX1_counts_0 9 rfl rfl)
theorem dX1_counts_12 : decode cX1_counts 12 = .ok (.if_icmp .le 79, 3) := dk_164 0 79 (dk_at dksX1_counts_0 12 rfl rfl)
theorem dX1_counts_15 : decode cX1_counts 15 = .ok (.aload_n 0, 1) := dk_42 (dk_at dksX1_counts_0 15 rfl rfl)
theorem dX1_counts_16 : decode cX1_counts 16 = .ok (.iload_n 1, 1) := dk_27 (dk_at dksX1_counts_0 16 rfl rfl)
theorem dX1_counts_17 : decode cX1_counts 17 = .ok (.putfield 165, 3) := dk_181 0 165 (dk_at dksX1_counts_0 17 rfl rfl)
theorem dX1_counts_20 : decode cX1_counts 20 = .ok (.aload_n 0, 1) := dk_42 (dk_at dksX1_counts_0 20 rfl rfl)
theorem dX1_counts_21 : decode cX1_counts 21 = .ok (.iconst 0, 1) := dk_3 (dk_at dksX1_counts_0 21 rfl rfl)
theorem dX1_counts_22 : decode cX1_counts 22 = .ok (.putfield 175, 3) := dk_181 0 175 (dk_at dksX1_counts_1 0 rfl rfl)
theorem dX1_counts_25 : decode cX1_counts 25 = .ok (.iconst 0, 1) := dk_3 (dk_at dksX1_counts_1 3 rfl rfl)
theorem dX1_counts_26 : decode cX1_counts 26 = .ok (.istore_n 3, 1) := dk_62 (dk_at dksX1_counts_1 4 rfl rfl)
theorem dX1_counts_27 : decode cX1_counts 27 = .ok (.iload_n 3, 1) := dk_29 (dk_at dksX1_counts_1 5 rfl rfl)
theorem dX1_counts_28 : decode cX1_counts 28 = .ok (.bipush 49, 2) := dk_16 49 (dk_at dksX1_counts_1 6 rfl rfl)
theorem dX1_counts_30 : decode cX1_counts 30 = .ok (.if_icmp .ge 16, 3) := dk_162 0 16 (dk_at dksX1_counts_1 8 rfl rfl)
theorem dX1_counts_33 : decode cX1_counts 33 = .ok (.aload_n 0, 1) := dk_42 (dk_at dksX1_counts_1 11 rfl rfl)
theorem dX1_counts_34 : decode cX1_counts 34 = .ok (.getfield 48, 3) := dk_180 0 48 (dk_at dksX1_counts_1 12 rfl rfl)
theorem dX1_counts_37 : decode cX1_counts 37 = .ok (.iload_n 3, 1) := dk_29 (dk_at dksX1_counts_1 15 rfl rfl)
theorem dX1_counts_38 : decode cX1_counts 38 = .ok (.iconst 0, 1) := dk_3 (dk_at dksX1_counts_1 16 rfl rfl)
theorem dX1_counts_39 : decode cX1_counts 39 = .ok (.iastore, 1) := dk_79 (dk_at dksX1_counts_1 17 rfl rfl)
theorem dX1_counts_40 : decode cX1_counts 40 = .ok (.iinc 3 1, 3) := dk_132 3 1 (dk_at dksX1_counts_1 18 rfl rfl)
theorem dX1_counts_43 : decode cX1_counts 43 = .ok (.goto (-16), 3) := dk_167 255 240 (dk_at dksX1_counts_1 21 rfl rfl)
theorem dX1_counts_46 : decode cX1_counts 46 = .ok (.iconst 0, 1) := dk_3 (dk_at dksX1_counts_2 0 rfl rfl)
theorem dX1_counts_47 : decode cX1_counts 47 = .ok (.istore_n 3, 1) := dk_62 (dk_at dksX1_counts_2 1 rfl rfl)
theorem dX1_counts_48 : decode cX1_counts 48 = .ok (.iload_n 3, 1) := dk_29 (dk_at dksX1_counts_2 2 rfl rfl)
theorem dX1_counts_49 : decode cX1_counts 49 = .ok (.aload_n 0, 1) := dk_42 (dk_at dksX1_counts_2 3 rfl rfl)
theorem dX1_counts_50 : decode cX1_counts 50 = .ok (.getfield 22, 3) := dk_180 0 22 (dk_at dksX1_counts_2 4 rfl rfl)
theorem dX1_counts_53 : decode cX1_counts 53 = .ok (.iconst 1, 1) := dk_4 (dk_at dksX1_counts_2 7 rfl rfl)
theorem dX1_counts_54 : decode cX1_counts 54 = .ok (.iaload, 1) := dk_46 (dk_at dksX1_counts_2 8 rfl rfl)
theorem dX1_counts_55 : decode cX1_counts 55 = .ok (.if_icmp .ge 36, 3) := dk_162 0 36 (dk_at dksX1_counts_2 9 rfl rfl)
theorem dX1_counts_58 : decode cX1_counts 58 = .ok (.aload_n 0, 1) := dk_42 (dk_at dksX1_counts_2 12 rfl rfl)
theorem dX1_counts_59 : decode cX1_counts 59 = .ok (.getfield 45, 3) := dk_180 0 45 (dk_at dksX1_counts_2 13 rfl rfl)
theorem dX1_counts_62 : decode cX1_counts 62 = .ok (.iload_n 3, 1) := dk_29 (dk_at dksX1_counts_2 16 rfl rfl)
theorem dX1_counts_63 : decode cX1_counts 63 = .ok (.aload_n 0, 1) := dk_42 (dk_at dksX1_counts_2 17 rfl rfl)
theorem dX1_counts_64 : decode cX1_counts 64 = .ok (.getfield 42, 3) := dk_180 0 42 (dk_at dksX1_counts_2 18 rfl rfl)
theorem dX1_counts_67 : decode cX1_counts 67 = .ok (.iload_n 3, 1) := dk_29 (dk_at dksX1_counts_2 21 rfl rfl)
theorem dX1_counts_68 : decode cX1_counts 68 = .ok (.iaload, 1) := dk_46 (dk_at dksX1_counts_2 22 rfl rfl)
theorem dX1_counts_69 : decode cX1_counts 69 = .ok (.iload_n 2, 1) := dk_28 (dk_at dksX1_counts_2 23 rfl rfl)
theorem dX1_counts_70 : decode cX1_counts 70 = .ok (.if_icmp .ge 12, 3) := dk_162 0 12 (dk_at dksX1_counts_3 0 rfl rfl)
theorem dX1_counts_73 : decode cX1_counts 73 = .ok (.aload_n 0, 1) := dk_42 (dk_at dksX1_counts_3 3 rfl rfl)
theorem dX1_counts_74 : decode cX1_counts 74 = .ok (.getfield 42, 3) := dk_180 0 42 (dk_at dksX1_counts_3 4 rfl rfl)
theorem dX1_counts_77 : decode cX1_counts 77 = .ok (.iload_n 3, 1) := dk_29 (dk_at dksX1_counts_3 7 rfl rfl)
theorem dX1_counts_78 : decode cX1_counts 78 = .ok (.iaload, 1) := dk_46 (dk_at dksX1_counts_3 8 rfl rfl)
theorem dX1_counts_79 : decode cX1_counts 79 = .ok (.goto 5, 3) := dk_167 0 5 (dk_at dksX1_counts_3 9 rfl rfl)
theorem dX1_counts_82 : decode cX1_counts 82 = .ok (.bipush (-9), 2) := dk_16 247 (dk_at dksX1_counts_3 12 rfl rfl)
theorem dX1_counts_84 : decode cX1_counts 84 = .ok (.iastore, 1) := dk_79 (dk_at dksX1_counts_3 14 rfl rfl)
theorem dX1_counts_85 : decode cX1_counts 85 = .ok (.iinc 3 1, 3) := dk_132 3 1 (dk_at dksX1_counts_3 15 rfl rfl)
theorem dX1_counts_88 : decode cX1_counts 88 = .ok (.goto (-40), 3) := dk_167 255 216 (dk_at dksX1_counts_3 18 rfl rfl)
theorem dX1_counts_91 : decode cX1_counts 91 = .ok (.iload_n 1, 1) := dk_27 (dk_at dksX1_counts_3 21 rfl rfl)
theorem dX1_counts_92 : decode cX1_counts 92 = .ok (.aload_n 0, 1) := dk_42 (dk_at dksX1_counts_3 22 rfl rfl)
theorem dX1_counts_93 : decode cX1_counts 93 = .ok (.getfield 165, 3) := dk_180 0 165 (dk_at dksX1_counts_4 0 rfl rfl)
theorem dX1_counts_96 : decode cX1_counts 96 = .ok (.if_icmp .ne 61, 3) := dk_160 0 61 (dk_at dksX1_counts_4 3 rfl rfl)
theorem dX1_counts_99 : decode cX1_counts 99 = .ok (.aload_n 0, 1) := dk_42 (dk_at dksX1_counts_4 6 rfl rfl)
theorem dX1_counts_100 : decode cX1_counts 100 = .ok (.dup, 1) := dk_89 (dk_at dksX1_counts_4 7 rfl rfl)
theorem dX1_counts_101 : decode cX1_counts 101 = .ok (.getfield 175, 3) := dk_180 0 175 (dk_at dksX1_counts_4 8 rfl rfl)
theorem dX1_counts_104 : decode cX1_counts 104 = .ok (.iconst 1, 1) := dk_4 (dk_at dksX1_counts_4 11 rfl rfl)
theorem dX1_counts_105 : decode cX1_counts 105 = .ok (.iadd, 1) := dk_96 (dk_at dksX1_counts_4 12 rfl rfl)
theorem dX1_counts_106 : decode cX1_counts 106 = .ok (.putfield 175, 3) := dk_181 0 175 (dk_at dksX1_counts_4 13 rfl rfl)
theorem dX1_counts_109 : decode cX1_counts 109 = .ok (.iconst 0, 1) := dk_3 (dk_at dksX1_counts_4 16 rfl rfl)
theorem dX1_counts_110 : decode cX1_counts 110 = .ok (.istore_n 3, 1) := dk_62 (dk_at dksX1_counts_4 17 rfl rfl)
theorem dX1_counts_111 : decode cX1_counts 111 = .ok (.iload_n 3, 1) := dk_29 (dk_at dksX1_counts_4 18 rfl rfl)
theorem dX1_counts_112 : decode cX1_counts 112 = .ok (.aload_n 0, 1) := dk_42 (dk_at dksX1_counts_4 19 rfl rfl)
theorem dX1_counts_113 : decode cX1_counts 113 = .ok (.getfield 22, 3) := dk_180 0 22 (dk_at dksX1_counts_4 20 rfl rfl)
theorem dX1_counts_116 : decode cX1_counts 116 = .ok (.iconst 1, 1) := dk_4 (dk_at dksX1_counts_4 23 rfl rfl)
theorem dX1_counts_117 : decode cX1_counts 117 = .ok (.iaload, 1) := dk_46 (dk_at dksX1_counts_5 0 rfl rfl)
theorem dX1_counts_118 : decode cX1_counts 118 = .ok (.if_icmp .ge 39, 3) := dk_162 0 39 (dk_at dksX1_counts_5 1 rfl rfl)
theorem dX1_counts_121 : decode cX1_counts 121 = .ok (.aload_n 0, 1) := dk_42 (dk_at dksX1_counts_5 4 rfl rfl)
theorem dX1_counts_122 : decode cX1_counts 122 = .ok (.getfield 42, 3) := dk_180 0 42 (dk_at dksX1_counts_5 5 rfl rfl)
theorem dX1_counts_125 : decode cX1_counts 125 = .ok (.iload_n 3, 1) := dk_29 (dk_at dksX1_counts_5 8 rfl rfl)
theorem dX1_counts_126 : decode cX1_counts 126 = .ok (.iaload, 1) := dk_46 (dk_at dksX1_counts_5 9 rfl rfl)
theorem dX1_counts_127 : decode cX1_counts 127 = .ok (.iload_n 2, 1) := dk_28 (dk_at dksX1_counts_5 10 rfl rfl)
theorem dX1_counts_128 : decode cX1_counts 128 = .ok (.if_icmp .ge 23, 3) := dk_162 0 23 (dk_at dksX1_counts_5 11 rfl rfl)
theorem dX1_counts_131 : decode cX1_counts 131 = .ok (.aload_n 0, 1) := dk_42 (dk_at dksX1_counts_5 14 rfl rfl)
theorem dX1_counts_132 : decode cX1_counts 132 = .ok (.getfield 48, 3) := dk_180 0 48 (dk_at dksX1_counts_5 15 rfl rfl)
theorem dX1_counts_135 : decode cX1_counts 135 = .ok (.bipush 7, 2) := dk_16 7 (dk_at dksX1_counts_5 18 rfl rfl)
theorem dX1_counts_137 : decode cX1_counts 137 = .ok (.iload_n 3, 1) := dk_29 (dk_at dksX1_counts_5 20 rfl rfl)
theorem dX1_counts_138 : decode cX1_counts 138 = .ok (.imul, 1) := dk_104 (dk_at dksX1_counts_5 21 rfl rfl)
theorem dX1_counts_139 : decode cX1_counts 139 = .ok (.aload_n 0, 1) := dk_42 (dk_at dksX1_counts_5 22 rfl rfl)
theorem dX1_counts_140 : decode cX1_counts 140 = .ok (.getfield 42, 3) := dk_180 0 42 (dk_at dksX1_counts_6 0 rfl rfl)
theorem dX1_counts_143 : decode cX1_counts 143 = .ok (.iload_n 3, 1) := dk_29 (dk_at dksX1_counts_6 3 rfl rfl)
theorem dX1_counts_144 : decode cX1_counts 144 = .ok (.iaload, 1) := dk_46 (dk_at dksX1_counts_6 4 rfl rfl)
theorem dX1_counts_145 : decode cX1_counts 145 = .ok (.iadd, 1) := dk_96 (dk_at dksX1_counts_6 5 rfl rfl)
theorem dX1_counts_146 : decode cX1_counts 146 = .ok (.dup2, 1) := dk_92 (dk_at dksX1_counts_6 6 rfl rfl)
theorem dX1_counts_147 : decode cX1_counts 147 = .ok (.iaload, 1) := dk_46 (dk_at dksX1_counts_6 7 rfl rfl)
theorem dX1_counts_148 : decode cX1_counts 148 = .ok (.iconst 1, 1) := dk_4 (dk_at dksX1_counts_6 8 rfl rfl)
theorem dX1_counts_149 : decode cX1_counts 149 = .ok (.iadd, 1) := dk_96 (dk_at dksX1_counts_6 9 rfl rfl)
theorem dX1_counts_150 : decode cX1_counts 150 = .ok (.iastore, 1) := dk_79 (dk_at dksX1_counts_6 10 rfl rfl)
theorem dX1_counts_151 : decode cX1_counts 151 = .ok (.iinc 3 1, 3) := dk_132 3 1 (dk_at dksX1_counts_6 11 rfl rfl)
theorem dX1_counts_154 : decode cX1_counts 154 = .ok (.goto (-43), 3) := dk_167 255 213 (dk_at dksX1_counts_6 14 rfl rfl)
theorem dX1_counts_157 : decode cX1_counts 157 = .ok (.return_, 1) := dk_177 (dk_at dksX1_counts_6 17 rfl rfl)
abbrev cX1_mayMatch : ByteArray := prog_10_method_52_code
def yX1_mayMatch : MethodName := ⟨RX1, "mayMatch", "(II)Z"⟩
def dkwX1_mayMatch_2 : List UInt8 := [96, 46, 42, 28, 182, 0, 120, 160, 0, 7, 4, 167, 0, 4, 3, 172]
abbrev dktX1_mayMatch_2 : List UInt8 := dkwX1_mayMatch_2 ++ []
def dkwX1_mayMatch_1 : List UInt8 := [153, 0, 38, 42, 180, 0, 22, 16, 59, 27, 96, 46, 16, 247, 159, 0, 20, 42, 180, 0, 22, 16, 59, 27]
abbrev dktX1_mayMatch_1 : List UInt8 := dkwX1_mayMatch_1 ++ dktX1_mayMatch_2
def dkwX1_mayMatch_0 : List UInt8 := [42, 27, 182, 0, 147, 153, 0, 55, 42, 28, 182, 0, 150, 153, 0, 47, 42, 27, 28, 182, 0, 139]
abbrev dktX1_mayMatch_0 : List UInt8 := dkwX1_mayMatch_0 ++ dktX1_mayMatch_1
theorem dksX1_mayMatch_0 : cX1_mayMatch.data.toList.drop 0 = dktX1_mayMatch_0 := by decide +kernel
theorem dksX1_mayMatch_1 : cX1_mayMatch.data.toList.drop 22 = dktX1_mayMatch_1 := dk_seg dksX1_mayMatch_0 22 rfl rfl
theorem dksX1_mayMatch_2 : cX1_mayMatch.data.toList.drop 46 = dktX1_mayMatch_2 := dk_seg dksX1_mayMatch_1 24 rfl rfl
theorem dX1_mayMatch_0 : decode cX1_mayMatch 0 = .ok (.aload_n 0, 1) := dk_42 (dk_at dksX1_mayMatch_0 0 rfl rfl)
theorem dX1_mayMatch_1 : decode cX1_mayMatch 1 = .ok (.iload_n 1, 1) := dk_27 (dk_at dksX1_mayMatch_0 1 rfl rfl)
theorem dX1_mayMatch_2 : decode cX1_mayMatch 2 = .ok (.invokevirtual 147, 3) := dk_182 0 147 (dk_at dksX1_mayMatch_0 2 rfl rfl)
theorem dX1_mayMatch_5 : decode cX1_mayMatch 5 = .ok (.ifCond .eq 55, 3) := dk_153 0 55 (dk_at dksX1_mayMatch_0 5 rfl rfl)
theorem dX1_mayMatch_8 : decode cX1_mayMatch 8 = .ok (.aload_n 0, 1) := dk_42 (dk_at dksX1_mayMatch_0 8 rfl rfl)
theorem dX1_mayMatch_9 : decode cX1_mayMatch 9 = .ok (.iload_n 2, 1) := dk_28 (dk_at dksX1_mayMatch_0 9 rfl rfl)
theorem dX1_mayMatch_10 : decode cX1_mayMatch 10 = .ok (.invokevirtual 150, 3) := dk_182 0 150 (dk_at dksX1_mayMatch_0 10 rfl rfl)
theorem dX1_mayMatch_13 : decode cX1_mayMatch 13 = .ok (.ifCond .eq 47, 3) := dk_153 0 47 (dk_at dksX1_mayMatch_0 13 rfl rfl)
theorem dX1_mayMatch_16 : decode cX1_mayMatch 16 = .ok (.aload_n 0, 1) := dk_42 (dk_at dksX1_mayMatch_0 16 rfl rfl)
theorem dX1_mayMatch_17 : decode cX1_mayMatch 17 = .ok (.iload_n 1, 1) := dk_27 (dk_at dksX1_mayMatch_0 17 rfl rfl)
theorem dX1_mayMatch_18 : decode cX1_mayMatch 18 = .ok (.iload_n 2, 1) := dk_28 (dk_at dksX1_mayMatch_0 18 rfl rfl)
theorem dX1_mayMatch_19 : decode cX1_mayMatch 19 = .ok (.invokevirtual 139, 3) := dk_182 0 139 (dk_at dksX1_mayMatch_0 19 rfl rfl)
theorem dX1_mayMatch_22 : decode cX1_mayMatch 22 = .ok (.ifCond .eq 38, 3) := dk_153 0 38 (dk_at dksX1_mayMatch_1 0 rfl rfl)
theorem dX1_mayMatch_25 : decode cX1_mayMatch 25 = .ok (.aload_n 0, 1) := dk_42 (dk_at dksX1_mayMatch_1 3 rfl rfl)
theorem dX1_mayMatch_26 : decode cX1_mayMatch 26 = .ok (.getfield 22, 3) := dk_180 0 22 (dk_at dksX1_mayMatch_1 4 rfl rfl)
theorem dX1_mayMatch_29 : decode cX1_mayMatch 29 = .ok (.bipush 59, 2) := dk_16 59 (dk_at dksX1_mayMatch_1 7 rfl rfl)
theorem dX1_mayMatch_31 : decode cX1_mayMatch 31 = .ok (.iload_n 1, 1) := dk_27 (dk_at dksX1_mayMatch_1 9 rfl rfl)
theorem dX1_mayMatch_32 : decode cX1_mayMatch 32 = .ok (.iadd, 1) := dk_96 (dk_at dksX1_mayMatch_1 10 rfl rfl)
theorem dX1_mayMatch_33 : decode cX1_mayMatch 33 = .ok (.iaload, 1) := dk_46 (dk_at dksX1_mayMatch_1 11 rfl rfl)
theorem dX1_mayMatch_34 : decode cX1_mayMatch 34 = .ok (.bipush (-9), 2) := dk_16 247 (dk_at dksX1_mayMatch_1 12 rfl rfl)
theorem dX1_mayMatch_36 : decode cX1_mayMatch 36 = .ok (.if_icmp .eq 20, 3) := dk_159 0 20 (dk_at dksX1_mayMatch_1 14 rfl rfl)
theorem dX1_mayMatch_39 : decode cX1_mayMatch 39 = .ok (.aload_n 0, 1) := dk_42 (dk_at dksX1_mayMatch_1 17 rfl rfl)
theorem dX1_mayMatch_40 : decode cX1_mayMatch 40 = .ok (.getfield 22, 3) := dk_180 0 22 (dk_at dksX1_mayMatch_1 18 rfl rfl)
theorem dX1_mayMatch_43 : decode cX1_mayMatch 43 = .ok (.bipush 59, 2) := dk_16 59 (dk_at dksX1_mayMatch_1 21 rfl rfl)
theorem dX1_mayMatch_45 : decode cX1_mayMatch 45 = .ok (.iload_n 1, 1) := dk_27 (dk_at dksX1_mayMatch_1 23 rfl rfl)
theorem dX1_mayMatch_46 : decode cX1_mayMatch 46 = .ok (.iadd, 1) := dk_96 (dk_at dksX1_mayMatch_2 0 rfl rfl)
theorem dX1_mayMatch_47 : decode cX1_mayMatch 47 = .ok (.iaload, 1) := dk_46 (dk_at dksX1_mayMatch_2 1 rfl rfl)
theorem dX1_mayMatch_48 : decode cX1_mayMatch 48 = .ok (.aload_n 0, 1) := dk_42 (dk_at dksX1_mayMatch_2 2 rfl rfl)
theorem dX1_mayMatch_49 : decode cX1_mayMatch 49 = .ok (.iload_n 2, 1) := dk_28 (dk_at dksX1_mayMatch_2 3 rfl rfl)
theorem dX1_mayMatch_50 : decode cX1_mayMatch 50 = .ok (.invokevirtual 120, 3) := dk_182 0 120 (dk_at dksX1_mayMatch_2 4 rfl rfl)
theorem dX1_mayMatch_53 : decode cX1_mayMatch 53 = .ok (.if_icmp .ne 7, 3) := dk_160 0 7 (dk_at dksX1_mayMatch_2 7 rfl rfl)
theorem dX1_mayMatch_56 : decode cX1_mayMatch 56 = .ok (.iconst 1, 1) := dk_4 (dk_at dksX1_mayMatch_2 10 rfl rfl)
theorem dX1_mayMatch_57 : decode cX1_mayMatch 57 = .ok (.goto 4, 3) := dk_167 0 4 (dk_at dksX1_mayMatch_2 11 rfl rfl)
theorem dX1_mayMatch_60 : decode cX1_mayMatch 60 = .ok (.iconst 0, 1) := dk_3 (dk_at dksX1_mayMatch_2 14 rfl rfl)
theorem dX1_mayMatch_61 : decode cX1_mayMatch 61 = .ok (.ireturn, 1) := dk_172 (dk_at dksX1_mayMatch_2 15 rfl rfl)
abbrev cX1_laid : ByteArray := prog_10_method_55_code
def yX1_laid : MethodName := ⟨RX1, "laid", "(I)I"⟩
def dkwX1_laid_1 : List UInt8 := [16, 40, 27, 104, 29, 96, 42, 180, 0, 45, 29, 46, 79, 132, 3, 1, 167, 255, 231, 42, 180, 0, 165, 172]
abbrev dktX1_laid_1 : List UInt8 := dkwX1_laid_1 ++ []
def dkwX1_laid_0 : List UInt8 := [42, 27, 42, 180, 0, 22, 4, 46, 182, 0, 178, 61, 3, 62, 29, 28, 162, 0, 26, 42, 180, 0, 13]
abbrev dktX1_laid_0 : List UInt8 := dkwX1_laid_0 ++ dktX1_laid_1
theorem dksX1_laid_0 : cX1_laid.data.toList.drop 0 = dktX1_laid_0 := by decide +kernel
theorem dksX1_laid_1 : cX1_laid.data.toList.drop 23 = dktX1_laid_1 := dk_seg dksX1_laid_0 23 rfl rfl
theorem dX1_laid_0 : decode cX1_laid 0 = .ok (.aload_n 0, 1) := dk_42 (dk_at dksX1_laid_0 0 rfl rfl)
theorem dX1_laid_1 : decode cX1_laid 1 = .ok (.iload_n 1, 1) := dk_27 (dk_at dksX1_laid_0 1 rfl rfl)
theorem dX1_laid_2 : decode cX1_laid 2 = .ok (.aload_n 0, 1) := dk_42 (dk_at dksX1_laid_0 2 rfl rfl)
theorem dX1_laid_3 : decode cX1_laid 3 = .ok (.getfield 22, 3) := dk_180 0 22 (dk_at dksX1_laid_0 3 rfl rfl)
theorem dX1_laid_6 : decode cX1_laid 6 = .ok (.iconst 1, 1) := dk_4 (dk_at dksX1_laid_0 6 rfl rfl)
theorem dX1_laid_7 : decode cX1_laid 7 = .ok (.iaload, 1) := dk_46 (dk_at dksX1_laid_0 7 rfl rfl)
theorem dX1_laid_8 : decode cX1_laid 8 = .ok (.invokevirtual 178, 3) := dk_182 0 178 (dk_at dksX1_laid_0 8 rfl rfl)
theorem dX1_laid_11 : decode cX1_laid 11 = .ok (.istore_n 2, 1) := dk_61 (dk_at dksX1_laid_0 11 rfl rfl)
theorem dX1_laid_12 : decode cX1_laid 12 = .ok (.iconst 0, 1) := dk_3 (dk_at dksX1_laid_0 12 rfl rfl)
theorem dX1_laid_13 : decode cX1_laid 13 = .ok (.istore_n 3, 1) := dk_62 (dk_at dksX1_laid_0 13 rfl rfl)
theorem dX1_laid_14 : decode cX1_laid 14 = .ok (.iload_n 3, 1) := dk_29 (dk_at dksX1_laid_0 14 rfl rfl)
theorem dX1_laid_15 : decode cX1_laid 15 = .ok (.iload_n 2, 1) := dk_28 (dk_at dksX1_laid_0 15 rfl rfl)
theorem dX1_laid_16 : decode cX1_laid 16 = .ok (.if_icmp .ge 26, 3) := dk_162 0 26 (dk_at dksX1_laid_0 16 rfl rfl)
theorem dX1_laid_19 : decode cX1_laid 19 = .ok (.aload_n 0, 1) := dk_42 (dk_at dksX1_laid_0 19 rfl rfl)
theorem dX1_laid_20 : decode cX1_laid 20 = .ok (.getfield 13, 3) := dk_180 0 13 (dk_at dksX1_laid_0 20 rfl rfl)
theorem dX1_laid_23 : decode cX1_laid 23 = .ok (.bipush 40, 2) := dk_16 40 (dk_at dksX1_laid_1 0 rfl rfl)
theorem dX1_laid_25 : decode cX1_laid 25 = .ok (.iload_n 1, 1) := dk_27 (dk_at dksX1_laid_1 2 rfl rfl)
theorem dX1_laid_26 : decode cX1_laid 26 = .ok (.imul, 1) := dk_104 (dk_at dksX1_laid_1 3 rfl rfl)
theorem dX1_laid_27 : decode cX1_laid 27 = .ok (.iload_n 3, 1) := dk_29 (dk_at dksX1_laid_1 4 rfl rfl)
theorem dX1_laid_28 : decode cX1_laid 28 = .ok (.iadd, 1) := dk_96 (dk_at dksX1_laid_1 5 rfl rfl)
theorem dX1_laid_29 : decode cX1_laid 29 = .ok (.aload_n 0, 1) := dk_42 (dk_at dksX1_laid_1 6 rfl rfl)
theorem dX1_laid_30 : decode cX1_laid 30 = .ok (.getfield 45, 3) := dk_180 0 45 (dk_at dksX1_laid_1 7 rfl rfl)
theorem dX1_laid_33 : decode cX1_laid 33 = .ok (.iload_n 3, 1) := dk_29 (dk_at dksX1_laid_1 10 rfl rfl)
theorem dX1_laid_34 : decode cX1_laid 34 = .ok (.iaload, 1) := dk_46 (dk_at dksX1_laid_1 11 rfl rfl)
theorem dX1_laid_35 : decode cX1_laid 35 = .ok (.iastore, 1) := dk_79 (dk_at dksX1_laid_1 12 rfl rfl)
theorem dX1_laid_36 : decode cX1_laid 36 = .ok (.iinc 3 1, 3) := dk_132 3 1 (dk_at dksX1_laid_1 13 rfl rfl)
theorem dX1_laid_39 : decode cX1_laid 39 = .ok (.goto (-25), 3) := dk_167 255 231 (dk_at dksX1_laid_1 16 rfl rfl)
theorem dX1_laid_42 : decode cX1_laid 42 = .ok (.aload_n 0, 1) := dk_42 (dk_at dksX1_laid_1 19 rfl rfl)
theorem dX1_laid_43 : decode cX1_laid 43 = .ok (.getfield 165, 3) := dk_180 0 165 (dk_at dksX1_laid_1 20 rfl rfl)
theorem dX1_laid_46 : decode cX1_laid 46 = .ok (.ireturn, 1) := dk_172 (dk_at dksX1_laid_1 23 rfl rfl)
abbrev cX1_wished : ByteArray := prog_10_method_57_code
def yX1_wished : MethodName := ⟨RX1, "wished", "(I)I"⟩
def dkwX1_wished_0 : List UInt8 := [27, 184, 0, 72, 154, 0, 5, 2, 172, 42, 4, 182, 0, 181, 42, 27, 182, 0, 185, 172]
abbrev dktX1_wished_0 : List UInt8 := dkwX1_wished_0 ++ []
theorem dksX1_wished_0 : cX1_wished.data.toList.drop 0 = dktX1_wished_0 := by decide +kernel
theorem dX1_wished_0 : decode cX1_wished 0 = .ok (.iload_n 1, 1) := dk_27 (dk_at dksX1_wished_0 0 rfl rfl)
theorem dX1_wished_1 : decode cX1_wished 1 = .ok (.invokestatic 72, 3) := dk_184 0 72 (dk_at dksX1_wished_0 1 rfl rfl)
theorem dX1_wished_4 : decode cX1_wished 4 = .ok (.ifCond .ne 5, 3) := dk_154 0 5 (dk_at dksX1_wished_0 4 rfl rfl)
theorem dX1_wished_7 : decode cX1_wished 7 = .ok (.iconst (-1), 1) := dk_2 (dk_at dksX1_wished_0 7 rfl rfl)
theorem dX1_wished_8 : decode cX1_wished 8 = .ok (.ireturn, 1) := dk_172 (dk_at dksX1_wished_0 8 rfl rfl)
theorem dX1_wished_9 : decode cX1_wished 9 = .ok (.aload_n 0, 1) := dk_42 (dk_at dksX1_wished_0 9 rfl rfl)
theorem dX1_wished_10 : decode cX1_wished 10 = .ok (.iconst 1, 1) := dk_4 (dk_at dksX1_wished_0 10 rfl rfl)
theorem dX1_wished_11 : decode cX1_wished 11 = .ok (.invokevirtual 181, 3) := dk_182 0 181 (dk_at dksX1_wished_0 11 rfl rfl)
theorem dX1_wished_14 : decode cX1_wished 14 = .ok (.aload_n 0, 1) := dk_42 (dk_at dksX1_wished_0 14 rfl rfl)
theorem dX1_wished_15 : decode cX1_wished 15 = .ok (.iload_n 1, 1) := dk_27 (dk_at dksX1_wished_0 15 rfl rfl)
theorem dX1_wished_16 : decode cX1_wished 16 = .ok (.invokevirtual 185, 3) := dk_182 0 185 (dk_at dksX1_wished_0 16 rfl rfl)
theorem dX1_wished_19 : decode cX1_wished 19 = .ok (.ireturn, 1) := dk_172 (dk_at dksX1_wished_0 19 rfl rfl)
abbrev cX1_fullest : ByteArray := prog_10_method_58_code
def yX1_fullest : MethodName := ⟨RX1, "fullest", "()I"⟩
def dkwX1_fullest_2 : List UInt8 := [61, 42, 180, 0, 175, 172]
abbrev dktX1_fullest_2 : List UInt8 := dkwX1_fullest_2 ++ []
def dkwX1_fullest_1 : List UInt8 := [180, 0, 175, 160, 0, 7, 4, 167, 0, 4, 3, 96, 60, 132, 2, 1, 167, 255, 226, 42, 27, 182, 0, 80]
abbrev dktX1_fullest_1 : List UInt8 := dkwX1_fullest_1 ++ dktX1_fullest_2
def dkwX1_fullest_0 : List UInt8 := [42, 3, 182, 0, 181, 3, 60, 3, 61, 28, 16, 49, 162, 0, 30, 27, 42, 180, 0, 48, 28, 46, 42]
abbrev dktX1_fullest_0 : List UInt8 := dkwX1_fullest_0 ++ dktX1_fullest_1
theorem dksX1_fullest_0 : cX1_fullest.data.toList.drop 0 = dktX1_fullest_0 := by decide +kernel
theorem dksX1_fullest_1 : cX1_fullest.data.toList.drop 23 = dktX1_fullest_1 := dk_seg dksX1_fullest_0 23 rfl rfl
theorem dksX1_fullest_2 : cX1_fullest.data.toList.drop 47 = dktX1_fullest_2 := dk_seg dksX1_fullest_1 24 rfl rfl
theorem dX1_fullest_0 : decode cX1_fullest 0 = .ok (.aload_n 0, 1) := dk_42 (dk_at dksX1_fullest_0 0 rfl rfl)
theorem dX1_fullest_1 : decode cX1_fullest 1 = .ok (.iconst 0, 1) := dk_3 (dk_at dksX1_fullest_0 1 rfl rfl)
theorem dX1_fullest_2 : decode cX1_fullest 2 = .ok (.invokevirtual 181, 3) := dk_182 0 181 (dk_at dksX1_fullest_0 2 rfl rfl)
theorem dX1_fullest_5 : decode cX1_fullest 5 = .ok (.iconst 0, 1) := dk_3 (dk_at dksX1_fullest_0 5 rfl rfl)
theorem dX1_fullest_6 : decode cX1_fullest 6 = .ok (.istore_n 1, 1) := dk_60 (dk_at dksX1_fullest_0 6 rfl rfl)
theorem dX1_fullest_7 : decode cX1_fullest 7 = .ok (.iconst 0, 1) := dk_3 (dk_at dksX1_fullest_0 7 rfl rfl)
theorem dX1_fullest_8 : decode cX1_fullest 8 = .ok (.istore_n 2, 1) := dk_61 (dk_at dksX1_fullest_0 8 rfl rfl)
theorem dX1_fullest_9 : decode cX1_fullest 9 = .ok (.iload_n 2, 1) := dk_28 (dk_at dksX1_fullest_0 9 rfl rfl)
theorem dX1_fullest_10 : decode cX1_fullest 10 = .ok (.bipush 49, 2) := dk_16 49 (dk_at dksX1_fullest_0 10 rfl rfl)
theorem dX1_fullest_12 : decode cX1_fullest 12 = .ok (.if_icmp .ge 30, 3) := dk_162 0 30 (dk_at dksX1_fullest_0 12 rfl rfl)
theorem dX1_fullest_15 : decode cX1_fullest 15 = .ok (.iload_n 1, 1) := dk_27 (dk_at dksX1_fullest_0 15 rfl rfl)
theorem dX1_fullest_16 : decode cX1_fullest 16 = .ok (.aload_n 0, 1) := dk_42 (dk_at dksX1_fullest_0 16 rfl rfl)
theorem dX1_fullest_17 : decode cX1_fullest 17 = .ok (.getfield 48, 3) := dk_180 0 48 (dk_at dksX1_fullest_0 17 rfl rfl)
theorem dX1_fullest_20 : decode cX1_fullest 20 = .ok (.iload_n 2, 1) := dk_28 (dk_at dksX1_fullest_0 20 rfl rfl)
theorem dX1_fullest_21 : decode cX1_fullest 21 = .ok (.iaload, 1) := dk_46 (dk_at dksX1_fullest_0 21 rfl rfl)
theorem dX1_fullest_22 : decode cX1_fullest 22 = .ok (.aload_n 0, 1) := dk_42 (dk_at dksX1_fullest_0 22 rfl rfl)
theorem dX1_fullest_23 : decode cX1_fullest 23 = .ok (.getfield 175, 3) := dk_180 0 175 (dk_at dksX1_fullest_1 0 rfl rfl)
theorem dX1_fullest_26 : decode cX1_fullest 26 = .ok (.if_icmp .ne 7, 3) := dk_160 0 7 (dk_at dksX1_fullest_1 3 rfl rfl)
theorem dX1_fullest_29 : decode cX1_fullest 29 = .ok (.iconst 1, 1) := dk_4 (dk_at dksX1_fullest_1 6 rfl rfl)
theorem dX1_fullest_30 : decode cX1_fullest 30 = .ok (.goto 4, 3) := dk_167 0 4 (dk_at dksX1_fullest_1 7 rfl rfl)
theorem dX1_fullest_33 : decode cX1_fullest 33 = .ok (.iconst 0, 1) := dk_3 (dk_at dksX1_fullest_1 10 rfl rfl)
theorem dX1_fullest_34 : decode cX1_fullest 34 = .ok (.iadd, 1) := dk_96 (dk_at dksX1_fullest_1 11 rfl rfl)
theorem dX1_fullest_35 : decode cX1_fullest 35 = .ok (.istore_n 1, 1) := dk_60 (dk_at dksX1_fullest_1 12 rfl rfl)
theorem dX1_fullest_36 : decode cX1_fullest 36 = .ok (.iinc 2 1, 3) := dk_132 2 1 (dk_at dksX1_fullest_1 13 rfl rfl)
theorem dX1_fullest_39 : decode cX1_fullest 39 = .ok (.goto (-30), 3) := dk_167 255 226 (dk_at dksX1_fullest_1 16 rfl rfl)
theorem dX1_fullest_42 : decode cX1_fullest 42 = .ok (.aload_n 0, 1) := dk_42 (dk_at dksX1_fullest_1 19 rfl rfl)
theorem dX1_fullest_43 : decode cX1_fullest 43 = .ok (.iload_n 1, 1) := dk_27 (dk_at dksX1_fullest_1 20 rfl rfl)
theorem dX1_fullest_44 : decode cX1_fullest 44 = .ok (.invokevirtual 80, 3) := dk_182 0 80 (dk_at dksX1_fullest_1 21 rfl rfl)
theorem dX1_fullest_47 : decode cX1_fullest 47 = .ok (.istore_n 2, 1) := dk_61 (dk_at dksX1_fullest_2 0 rfl rfl)
theorem dX1_fullest_48 : decode cX1_fullest 48 = .ok (.aload_n 0, 1) := dk_42 (dk_at dksX1_fullest_2 1 rfl rfl)
theorem dX1_fullest_49 : decode cX1_fullest 49 = .ok (.getfield 175, 3) := dk_180 0 175 (dk_at dksX1_fullest_2 2 rfl rfl)
theorem dX1_fullest_52 : decode cX1_fullest 52 = .ok (.ireturn, 1) := dk_172 (dk_at dksX1_fullest_2 5 rfl rfl)
abbrev cX1_may : ByteArray := prog_10_method_59_code
def yX1_may : MethodName := ⟨RX1, "may", "(I)I"⟩
def dkwX1_may_2 : List UInt8 := [167, 0, 4, 3, 128, 61, 132, 3, 1, 167, 255, 219, 28, 172]
abbrev dktX1_may_2 : List UInt8 := dkwX1_may_2 ++ []
def dkwX1_may_1 : List UInt8 := [4, 46, 162, 0, 33, 28, 42, 180, 0, 48, 16, 7, 29, 104, 27, 96, 46, 158, 0, 9, 4, 29, 120]
abbrev dktX1_may_1 : List UInt8 := dkwX1_may_1 ++ dktX1_may_2
def dkwX1_may_0 : List UInt8 := [42, 27, 182, 0, 129, 154, 0, 5, 2, 172, 42, 3, 182, 0, 181, 3, 61, 3, 62, 29, 42, 180, 0, 22]
abbrev dktX1_may_0 : List UInt8 := dkwX1_may_0 ++ dktX1_may_1
theorem dksX1_may_0 : cX1_may.data.toList.drop 0 = dktX1_may_0 := by decide +kernel
theorem dksX1_may_1 : cX1_may.data.toList.drop 24 = dktX1_may_1 := dk_seg dksX1_may_0 24 rfl rfl
theorem dksX1_may_2 : cX1_may.data.toList.drop 47 = dktX1_may_2 := dk_seg dksX1_may_1 23 rfl rfl
theorem dX1_may_0 : decode cX1_may 0 = .ok (.aload_n 0, 1) := dk_42 (dk_at dksX1_may_0 0 rfl rfl)
theorem dX1_may_1 : decode cX1_may 1 = .ok (.iload_n 1, 1) := dk_27 (dk_at dksX1_may_0 1 rfl rfl)
theorem dX1_may_2 : decode cX1_may 2 = .ok (.invokevirtual 129, 3) := dk_182 0 129 (dk_at dksX1_may_0 2 rfl rfl)
theorem dX1_may_5 : decode cX1_may 5 = .ok (.ifCond .ne 5, 3) := dk_154 0 5 (dk_at dksX1_may_0 5 rfl rfl)
theorem dX1_may_8 : decode cX1_may 8 = .ok (.iconst (-1), 1) := dk_2 (dk_at dksX1_may_0 8 rfl rfl)
theorem dX1_may_9 : decode cX1_may 9 = .ok (.ireturn, 1) := dk_172 (dk_at dksX1_may_0 9 rfl rfl)
theorem dX1_may_10 : decode cX1_may 10 = .ok (.aload_n 0, 1) := dk_42 (dk_at dksX1_may_0 10 rfl rfl)
theorem dX1_may_11 : decode cX1_may 11 = .ok (.iconst 0, 1) := dk_3 (dk_at dksX1_may_0 11 rfl rfl)
theorem dX1_may_12 : decode cX1_may 12 = .ok (.invokevirtual 181, 3) := dk_182 0 181 (dk_at dksX1_may_0 12 rfl rfl)
theorem dX1_may_15 : decode cX1_may 15 = .ok (.iconst 0, 1) := dk_3 (dk_at dksX1_may_0 15 rfl rfl)
theorem dX1_may_16 : decode cX1_may 16 = .ok (.istore_n 2, 1) := dk_61 (dk_at dksX1_may_0 16 rfl rfl)
theorem dX1_may_17 : decode cX1_may 17 = .ok (.iconst 0, 1) := dk_3 (dk_at dksX1_may_0 17 rfl rfl)
theorem dX1_may_18 : decode cX1_may 18 = .ok (.istore_n 3, 1) := dk_62 (dk_at dksX1_may_0 18 rfl rfl)
theorem dX1_may_19 : decode cX1_may 19 = .ok (.iload_n 3, 1) := dk_29 (dk_at dksX1_may_0 19 rfl rfl)
theorem dX1_may_20 : decode cX1_may 20 = .ok (.aload_n 0, 1) := dk_42 (dk_at dksX1_may_0 20 rfl rfl)
theorem dX1_may_21 : decode cX1_may 21 = .ok (.getfield 22, 3) := dk_180 0 22 (dk_at dksX1_may_0 21 rfl rfl)
theorem dX1_may_24 : decode cX1_may 24 = .ok (.iconst 1, 1) := dk_4 (dk_at dksX1_may_1 0 rfl rfl)
theorem dX1_may_25 : decode cX1_may 25 = .ok (.iaload, 1) := dk_46 (dk_at dksX1_may_1 1 rfl rfl)
theorem dX1_may_26 : decode cX1_may 26 = .ok (.if_icmp .ge 33, 3) := dk_162 0 33 (dk_at dksX1_may_1 2 rfl rfl)
theorem dX1_may_29 : decode cX1_may 29 = .ok (.iload_n 2, 1) := dk_28 (dk_at dksX1_may_1 5 rfl rfl)
theorem dX1_may_30 : decode cX1_may 30 = .ok (.aload_n 0, 1) := dk_42 (dk_at dksX1_may_1 6 rfl rfl)
theorem dX1_may_31 : decode cX1_may 31 = .ok (.getfield 48, 3) := dk_180 0 48 (dk_at dksX1_may_1 7 rfl rfl)
theorem dX1_may_34 : decode cX1_may 34 = .ok (.bipush 7, 2) := dk_16 7 (dk_at dksX1_may_1 10 rfl rfl)
theorem dX1_may_36 : decode cX1_may 36 = .ok (.iload_n 3, 1) := dk_29 (dk_at dksX1_may_1 12 rfl rfl)
theorem dX1_may_37 : decode cX1_may 37 = .ok (.imul, 1) := dk_104 (dk_at dksX1_may_1 13 rfl rfl)
theorem dX1_may_38 : decode cX1_may 38 = .ok (.iload_n 1, 1) := dk_27 (dk_at dksX1_may_1 14 rfl rfl)
theorem dX1_may_39 : decode cX1_may 39 = .ok (.iadd, 1) := dk_96 (dk_at dksX1_may_1 15 rfl rfl)
theorem dX1_may_40 : decode cX1_may 40 = .ok (.iaload, 1) := dk_46 (dk_at dksX1_may_1 16 rfl rfl)
theorem dX1_may_41 : decode cX1_may 41 = .ok (.ifCond .le 9, 3) := dk_158 0 9 (dk_at dksX1_may_1 17 rfl rfl)
theorem dX1_may_44 : decode cX1_may 44 = .ok (.iconst 1, 1) := dk_4 (dk_at dksX1_may_1 20 rfl rfl)
theorem dX1_may_45 : decode cX1_may 45 = .ok (.iload_n 3, 1) := dk_29 (dk_at dksX1_may_1 21 rfl rfl)
theorem dX1_may_46 : decode cX1_may 46 = .ok (.ishl, 1) := dk_120 (dk_at dksX1_may_1 22 rfl rfl)
theorem dX1_may_47 : decode cX1_may 47 = .ok (.goto 4, 3) := dk_167 0 4 (dk_at dksX1_may_2 0 rfl rfl)
theorem dX1_may_50 : decode cX1_may 50 = .ok (.iconst 0, 1) := dk_3 (dk_at dksX1_may_2 3 rfl rfl)
theorem dX1_may_51 : decode cX1_may 51 = .ok (.ior, 1) := dk_128 (dk_at dksX1_may_2 4 rfl rfl)
theorem dX1_may_52 : decode cX1_may 52 = .ok (.istore_n 2, 1) := dk_61 (dk_at dksX1_may_2 5 rfl rfl)
theorem dX1_may_53 : decode cX1_may 53 = .ok (.iinc 3 1, 3) := dk_132 3 1 (dk_at dksX1_may_2 6 rfl rfl)
theorem dX1_may_56 : decode cX1_may 56 = .ok (.goto (-37), 3) := dk_167 255 219 (dk_at dksX1_may_2 9 rfl rfl)
theorem dX1_may_59 : decode cX1_may 59 = .ok (.iload_n 2, 1) := dk_28 (dk_at dksX1_may_2 12 rfl rfl)
theorem dX1_may_60 : decode cX1_may 60 = .ok (.ireturn, 1) := dk_172 (dk_at dksX1_may_2 13 rfl rfl)
abbrev cX1_sure : ByteArray := prog_10_method_60_code
def yX1_sure : MethodName := ⟨RX1, "sure", "(I)I"⟩
def dkwX1_sure_2 : List UInt8 := [160, 0, 7, 29, 167, 0, 4, 28, 61, 132, 3, 1, 167, 255, 219, 28, 172]
abbrev dktX1_sure_2 : List UInt8 := dkwX1_sure_2 ++ []
def dkwX1_sure_1 : List UInt8 := [180, 0, 22, 3, 46, 162, 0, 33, 42, 180, 0, 48, 16, 7, 27, 104, 29, 96, 46, 42, 180, 0, 175]
abbrev dktX1_sure_1 : List UInt8 := dkwX1_sure_1 ++ dktX1_sure_2
def dkwX1_sure_0 : List UInt8 := [42, 27, 182, 0, 136, 154, 0, 5, 2, 172, 42, 3, 182, 0, 181, 16, 247, 61, 3, 62, 29, 42]
abbrev dktX1_sure_0 : List UInt8 := dkwX1_sure_0 ++ dktX1_sure_1
theorem dksX1_sure_0 : cX1_sure.data.toList.drop 0 = dktX1_sure_0 := by decide +kernel
theorem dksX1_sure_1 : cX1_sure.data.toList.drop 22 = dktX1_sure_1 := dk_seg dksX1_sure_0 22 rfl rfl
theorem dksX1_sure_2 : cX1_sure.data.toList.drop 45 = dktX1_sure_2 := dk_seg dksX1_sure_1 23 rfl rfl
theorem dX1_sure_0 : decode cX1_sure 0 = .ok (.aload_n 0, 1) := dk_42 (dk_at dksX1_sure_0 0 rfl rfl)
theorem dX1_sure_1 : decode cX1_sure 1 = .ok (.iload_n 1, 1) := dk_27 (dk_at dksX1_sure_0 1 rfl rfl)
theorem dX1_sure_2 : decode cX1_sure 2 = .ok (.invokevirtual 136, 3) := dk_182 0 136 (dk_at dksX1_sure_0 2 rfl rfl)
theorem dX1_sure_5 : decode cX1_sure 5 = .ok (.ifCond .ne 5, 3) := dk_154 0 5 (dk_at dksX1_sure_0 5 rfl rfl)
theorem dX1_sure_8 : decode cX1_sure 8 = .ok (.iconst (-1), 1) := dk_2 (dk_at dksX1_sure_0 8 rfl rfl)
theorem dX1_sure_9 : decode cX1_sure 9 = .ok (.ireturn, 1) := dk_172 (dk_at dksX1_sure_0 9 rfl rfl)
theorem dX1_sure_10 : decode cX1_sure 10 = .ok (.aload_n 0, 1) := dk_42 (dk_at dksX1_sure_0 10 rfl rfl)
theorem dX1_sure_11 : decode cX1_sure 11 = .ok (.iconst 0, 1) := dk_3 (dk_at dksX1_sure_0 11 rfl rfl)
theorem dX1_sure_12 : decode cX1_sure 12 = .ok (.invokevirtual 181, 3) := dk_182 0 181 (dk_at dksX1_sure_0 12 rfl rfl)
theorem dX1_sure_15 : decode cX1_sure 15 = .ok (.bipush (-9), 2) := dk_16 247 (dk_at dksX1_sure_0 15 rfl rfl)
theorem dX1_sure_17 : decode cX1_sure 17 = .ok (.istore_n 2, 1) := dk_61 (dk_at dksX1_sure_0 17 rfl rfl)
theorem dX1_sure_18 : decode cX1_sure 18 = .ok (.iconst 0, 1) := dk_3 (dk_at dksX1_sure_0 18 rfl rfl)
theorem dX1_sure_19 : decode cX1_sure 19 = .ok (.istore_n 3, 1) := dk_62 (dk_at dksX1_sure_0 19 rfl rfl)
theorem dX1_sure_20 : decode cX1_sure 20 = .ok (.iload_n 3, 1) := dk_29 (dk_at dksX1_sure_0 20 rfl rfl)
theorem dX1_sure_21 : decode cX1_sure 21 = .ok (.aload_n 0, 1) := dk_42 (dk_at dksX1_sure_0 21 rfl rfl)
theorem dX1_sure_22 : decode cX1_sure 22 = .ok (.getfield 22, 3) := dk_180 0 22 (dk_at dksX1_sure_1 0 rfl rfl)
theorem dX1_sure_25 : decode cX1_sure 25 = .ok (.iconst 0, 1) := dk_3 (dk_at dksX1_sure_1 3 rfl rfl)
theorem dX1_sure_26 : decode cX1_sure 26 = .ok (.iaload, 1) := dk_46 (dk_at dksX1_sure_1 4 rfl rfl)
theorem dX1_sure_27 : decode cX1_sure 27 = .ok (.if_icmp .ge 33, 3) := dk_162 0 33 (dk_at dksX1_sure_1 5 rfl rfl)
theorem dX1_sure_30 : decode cX1_sure 30 = .ok (.aload_n 0, 1) := dk_42 (dk_at dksX1_sure_1 8 rfl rfl)
theorem dX1_sure_31 : decode cX1_sure 31 = .ok (.getfield 48, 3) := dk_180 0 48 (dk_at dksX1_sure_1 9 rfl rfl)
theorem dX1_sure_34 : decode cX1_sure 34 = .ok (.bipush 7, 2) := dk_16 7 (dk_at dksX1_sure_1 12 rfl rfl)
theorem dX1_sure_36 : decode cX1_sure 36 = .ok (.iload_n 1, 1) := dk_27 (dk_at dksX1_sure_1 14 rfl rfl)
theorem dX1_sure_37 : decode cX1_sure 37 = .ok (.imul, 1) := dk_104 (dk_at dksX1_sure_1 15 rfl rfl)
theorem dX1_sure_38 : decode cX1_sure 38 = .ok (.iload_n 3, 1) := dk_29 (dk_at dksX1_sure_1 16 rfl rfl)
theorem dX1_sure_39 : decode cX1_sure 39 = .ok (.iadd, 1) := dk_96 (dk_at dksX1_sure_1 17 rfl rfl)
theorem dX1_sure_40 : decode cX1_sure 40 = .ok (.iaload, 1) := dk_46 (dk_at dksX1_sure_1 18 rfl rfl)
theorem dX1_sure_41 : decode cX1_sure 41 = .ok (.aload_n 0, 1) := dk_42 (dk_at dksX1_sure_1 19 rfl rfl)
theorem dX1_sure_42 : decode cX1_sure 42 = .ok (.getfield 175, 3) := dk_180 0 175 (dk_at dksX1_sure_1 20 rfl rfl)
theorem dX1_sure_45 : decode cX1_sure 45 = .ok (.if_icmp .ne 7, 3) := dk_160 0 7 (dk_at dksX1_sure_2 0 rfl rfl)
theorem dX1_sure_48 : decode cX1_sure 48 = .ok (.iload_n 3, 1) := dk_29 (dk_at dksX1_sure_2 3 rfl rfl)
theorem dX1_sure_49 : decode cX1_sure 49 = .ok (.goto 4, 3) := dk_167 0 4 (dk_at dksX1_sure_2 4 rfl rfl)
theorem dX1_sure_52 : decode cX1_sure 52 = .ok (.iload_n 2, 1) := dk_28 (dk_at dksX1_sure_2 7 rfl rfl)
theorem dX1_sure_53 : decode cX1_sure 53 = .ok (.istore_n 2, 1) := dk_61 (dk_at dksX1_sure_2 8 rfl rfl)
theorem dX1_sure_54 : decode cX1_sure 54 = .ok (.iinc 3 1, 3) := dk_132 3 1 (dk_at dksX1_sure_2 9 rfl rfl)
theorem dX1_sure_57 : decode cX1_sure 57 = .ok (.goto (-37), 3) := dk_167 255 219 (dk_at dksX1_sure_2 12 rfl rfl)
theorem dX1_sure_60 : decode cX1_sure 60 = .ok (.iload_n 2, 1) := dk_28 (dk_at dksX1_sure_2 15 rfl rfl)
theorem dX1_sure_61 : decode cX1_sure 61 = .ok (.ireturn, 1) := dk_172 (dk_at dksX1_sure_2 16 rfl rfl)
abbrev cX1_test : ByteArray := prog_10_method_61_code
def yX1_test : MethodName := ⟨RX1, "test", "()I"⟩
def dkwX1_test_5 : List UInt8 := [167, 0, 8, 42, 28, 182, 0, 80, 62, 27, 172]
abbrev dktX1_test_5 : List UInt8 := dkwX1_test_5 ++ []
def dkwX1_test_4 : List UInt8 := [104, 29, 16, 7, 112, 96, 60, 21, 4, 61, 132, 3, 1, 167, 255, 160, 27, 16, 247, 160, 0, 7, 3]
abbrev dktX1_test_4 : List UInt8 := dkwX1_test_4 ++ dktX1_test_5
def dkwX1_test_3 : List UInt8 := [180, 0, 175, 162, 0, 31, 27, 16, 247, 159, 0, 9, 21, 4, 28, 162, 0, 19, 16, 10, 29, 16, 7, 108]
abbrev dktX1_test_3 : List UInt8 := dkwX1_test_3 ++ dktX1_test_4
def dkwX1_test_2 : List UInt8 := [180, 0, 48, 29, 46, 100, 54, 4, 42, 180, 0, 48, 29, 46, 158, 0, 44, 42, 180, 0, 48, 29, 46, 42]
abbrev dktX1_test_2 : List UInt8 := dkwX1_test_2 ++ dktX1_test_3
def dkwX1_test_1 : List UInt8 := [46, 104, 42, 180, 0, 175, 164, 0, 12, 42, 180, 0, 48, 29, 46, 167, 0, 14, 42, 180, 0, 175, 42]
abbrev dktX1_test_1 : List UInt8 := dkwX1_test_1 ++ dktX1_test_2
def dkwX1_test_0 : List UInt8 := [42, 3, 182, 0, 181, 16, 247, 60, 3, 61, 3, 62, 29, 16, 49, 162, 0, 96, 5, 42, 180, 0, 48, 29]
abbrev dktX1_test_0 : List UInt8 := dkwX1_test_0 ++ dktX1_test_1
theorem dksX1_test_0 : cX1_test.data.toList.drop 0 = dktX1_test_0 := by decide +kernel
theorem dksX1_test_1 : cX1_test.data.toList.drop 24 = dktX1_test_1 := dk_seg dksX1_test_0 24 rfl rfl
theorem dksX1_test_2 : cX1_test.data.toList.drop 47 = dktX1_test_2 := dk_seg dksX1_test_1 23 rfl rfl
theorem dksX1_test_3 : cX1_test.data.toList.drop 71 = dktX1_test_3 := dk_seg dksX1_test_2 24 rfl rfl
theorem dksX1_test_4 : cX1_test.data.toList.drop 95 = dktX1_test_4 := dk_seg dksX1_test_3 24 rfl rfl
theorem dksX1_test_5 : cX1_test.data.toList.drop 118 = dktX1_test_5 := dk_seg dksX1_test_4 23 rfl rfl
theorem dX1_test_0 : decode cX1_test 0 = .ok (.aload_n 0, 1) := dk_42 (dk_at dksX1_test_0 0 rfl rfl)
theorem dX1_test_1 : decode cX1_test 1 = .ok (.iconst 0, 1) := dk_3 (dk_at dksX1_test_0 1 rfl rfl)
theorem dX1_test_2 : decode cX1_test 2 = .ok (.invokevirtual 181, 3) := dk_182 0 181 (dk_at dksX1_test_0 2 rfl rfl)
theorem dX1_test_5 : decode cX1_test 5 = .ok (.bipush (-9), 2) := dk_16 247 (dk_at dksX1_test_0 5 rfl rfl)
theorem dX1_test_7 : decode cX1_test 7 = .ok (.istore_n 1, 1) := dk_60 (dk_at dksX1_test_0 7 rfl rfl)
theorem dX1_test_8 : decode cX1_test 8 = .ok (.iconst 0, 1) := dk_3 (dk_at dksX1_test_0 8 rfl rfl)
theorem dX1_test_9 : decode cX1_test 9 = .ok (.istore_n 2, 1) := dk_61 (dk_at dksX1_test_0 9 rfl rfl)
theorem dX1_test_10 : decode cX1_test 10 = .ok (.iconst 0, 1) := dk_3 (dk_at dksX1_test_0 10 rfl rfl)
theorem dX1_test_11 : decode cX1_test 11 = .ok (.istore_n 3, 1) := dk_62 (dk_at dksX1_test_0 11 rfl rfl)
theorem dX1_test_12 : decode cX1_test 12 = .ok (.iload_n 3, 1) := dk_29 (dk_at dksX1_test_0 12 rfl rfl)
theorem dX1_test_13 : decode cX1_test 13 = .ok (.bipush 49, 2) := dk_16 49 (dk_at dksX1_test_0 13 rfl rfl)
theorem dX1_test_15 : decode cX1_test 15 = .ok (.if_icmp .ge 96, 3) := dk_162 0 96 (dk_at dksX1_test_0 15 rfl rfl)
theorem dX1_test_18 : decode cX1_test 18 = .ok (.iconst 2, 1) := dk_5 (dk_at dksX1_test_0 18 rfl rfl)
theorem dX1_test_19 : decode cX1_test 19 = .ok (.aload_n 0, 1) := dk_42 (dk_at dksX1_test_0 19 rfl rfl)
theorem dX1_test_20 : decode cX1_test 20 = .ok (.getfield 48, 3) := dk_180 0 48 (dk_at dksX1_test_0 20 rfl rfl)
theorem dX1_test_23 : decode cX1_test 23 = .ok (.iload_n 3, 1) := dk_29 (dk_at dksX1_test_0 23 rfl rfl)
theorem dX1_test_24 : decode cX1_test 24 = .ok (.iaload, 1) := dk_46 (dk_at dksX1_test_1 0 rfl rfl)
theorem dX1_test_25 : decode cX1_test 25 = .ok (.imul, 1) := dk_104 (dk_at dksX1_test_1 1 rfl rfl)
theorem dX1_test_26 : decode cX1_test 26 = .ok (.aload_n 0, 1) := dk_42 (dk_at dksX1_test_1 2 rfl rfl)
theorem dX1_test_27 : decode cX1_test 27 = .ok (.getfield 175, 3) := dk_180 0 175 (dk_at dksX1_test_1 3 rfl rfl)
theorem dX1_test_30 : decode cX1_test 30 = .ok (.if_icmp .le 12, 3) := dk_164 0 12 (dk_at dksX1_test_1 6 rfl rfl)
theorem dX1_test_33 : decode cX1_test 33 = .ok (.aload_n 0, 1) := dk_42 (dk_at dksX1_test_1 9 rfl rfl)
theorem dX1_test_34 : decode cX1_test 34 = .ok (.getfield 48, 3) := dk_180 0 48 (dk_at dksX1_test_1 10 rfl rfl)
theorem dX1_test_37 : decode cX1_test 37 = .ok (.iload_n 3, 1) := dk_29 (dk_at dksX1_test_1 13 rfl rfl)
theorem dX1_test_38 : decode cX1_test 38 = .ok (.iaload, 1) := dk_46 (dk_at dksX1_test_1 14 rfl rfl)
theorem dX1_test_39 : decode cX1_test 39 = .ok (.goto 14, 3) := dk_167 0 14 (dk_at dksX1_test_1 15 rfl rfl)
theorem dX1_test_42 : decode cX1_test 42 = .ok (.aload_n 0, 1) := dk_42 (dk_at dksX1_test_1 18 rfl rfl)
theorem dX1_test_43 : decode cX1_test 43 = .ok (.getfield 175, 3) := dk_180 0 175 (dk_at dksX1_test_1 19 rfl rfl)
theorem dX1_test_46 : decode cX1_test 46 = .ok (.aload_n 0, 1) := dk_42 (dk_at dksX1_test_1 22 rfl rfl)
theorem dX1_test_47 : decode cX1_test 47 = .ok (.getfield 48, 3) := dk_180 0 48 (dk_at dksX1_test_2 0 rfl rfl)
theorem dX1_test_50 : decode cX1_test 50 = .ok (.iload_n 3, 1) := dk_29 (dk_at dksX1_test_2 3 rfl rfl)
theorem dX1_test_51 : decode cX1_test 51 = .ok (.iaload, 1) := dk_46 (dk_at dksX1_test_2 4 rfl rfl)
theorem dX1_test_52 : decode cX1_test 52 = .ok (.isub, 1) := dk_100 (dk_at dksX1_test_2 5 rfl rfl)
theorem dX1_test_53 : decode cX1_test 53 = .ok (.istore 4, 2) := dk_54 4 (dk_at dksX1_test_2 6 rfl rfl)
theorem dX1_test_55 : decode cX1_test 55 = .ok (.aload_n 0, 1) := dk_42 (dk_at dksX1_test_2 8 rfl rfl)
theorem dX1_test_56 : decode cX1_test 56 = .ok (.getfield 48, 3) := dk_180 0 48 (dk_at dksX1_test_2 9 rfl rfl)
theorem dX1_test_59 : decode cX1_test 59 = .ok (.iload_n 3, 1) := dk_29 (dk_at dksX1_test_2 12 rfl rfl)
theorem dX1_test_60 : decode cX1_test 60 = .ok (.iaload, 1) := dk_46 (dk_at dksX1_test_2 13 rfl rfl)
theorem dX1_test_61 : decode cX1_test 61 = .ok (.ifCond .le 44, 3) := dk_158 0 44 (dk_at dksX1_test_2 14 rfl rfl)
theorem dX1_test_64 : decode cX1_test 64 = .ok (.aload_n 0, 1) := dk_42 (dk_at dksX1_test_2 17 rfl rfl)
theorem dX1_test_65 : decode cX1_test 65 = .ok (.getfield 48, 3) := dk_180 0 48 (dk_at dksX1_test_2 18 rfl rfl)
theorem dX1_test_68 : decode cX1_test 68 = .ok (.iload_n 3, 1) := dk_29 (dk_at dksX1_test_2 21 rfl rfl)
theorem dX1_test_69 : decode cX1_test 69 = .ok (.iaload, 1) := dk_46 (dk_at dksX1_test_2 22 rfl rfl)
theorem dX1_test_70 : decode cX1_test 70 = .ok (.aload_n 0, 1) := dk_42 (dk_at dksX1_test_2 23 rfl rfl)
theorem dX1_test_71 : decode cX1_test 71 = .ok (.getfield 175, 3) := dk_180 0 175 (dk_at dksX1_test_3 0 rfl rfl)
theorem dX1_test_74 : decode cX1_test 74 = .ok (.if_icmp .ge 31, 3) := dk_162 0 31 (dk_at dksX1_test_3 3 rfl rfl)
theorem dX1_test_77 : decode cX1_test 77 = .ok (.iload_n 1, 1) := dk_27 (dk_at dksX1_test_3 6 rfl rfl)
theorem dX1_test_78 : decode cX1_test 78 = .ok (.bipush (-9), 2) := dk_16 247 (dk_at dksX1_test_3 7 rfl rfl)
theorem dX1_test_80 : decode cX1_test 80 = .ok (.if_icmp .eq 9, 3) := dk_159 0 9 (dk_at dksX1_test_3 9 rfl rfl)
theorem dX1_test_83 : decode cX1_test 83 = .ok (.iload 4, 2) := dk_21 4 (dk_at dksX1_test_3 12 rfl rfl)
theorem dX1_test_85 : decode cX1_test 85 = .ok (.iload_n 2, 1) := dk_28 (dk_at dksX1_test_3 14 rfl rfl)
theorem dX1_test_86 : decode cX1_test 86 = .ok (.if_icmp .ge 19, 3) := dk_162 0 19 (dk_at dksX1_test_3 15 rfl rfl)
theorem dX1_test_89 : decode cX1_test 89 = .ok (.bipush 10, 2) := dk_16 10 (dk_at dksX1_test_3 18 rfl rfl)
theorem dX1_test_91 : decode cX1_test 91 = .ok (.iload_n 3, 1) := dk_29 (dk_at dksX1_test_3 20 rfl rfl)
theorem dX1_test_92 : decode cX1_test 92 = .ok (.bipush 7, 2) := dk_16 7 (dk_at dksX1_test_3 21 rfl rfl)
theorem dX1_test_94 : decode cX1_test 94 = .ok (.idiv, 1) := dk_108 (dk_at dksX1_test_3 23 rfl rfl)
theorem dX1_test_95 : decode cX1_test 95 = .ok (.imul, 1) := dk_104 (dk_at dksX1_test_4 0 rfl rfl)
theorem dX1_test_96 : decode cX1_test 96 = .ok (.iload_n 3, 1) := dk_29 (dk_at dksX1_test_4 1 rfl rfl)
theorem dX1_test_97 : decode cX1_test 97 = .ok (.bipush 7, 2) := dk_16 7 (dk_at dksX1_test_4 2 rfl rfl)
theorem dX1_test_99 : decode cX1_test 99 = .ok (.irem, 1) := dk_112 (dk_at dksX1_test_4 4 rfl rfl)
theorem dX1_test_100 : decode cX1_test 100 = .ok (.iadd, 1) := dk_96 (dk_at dksX1_test_4 5 rfl rfl)
theorem dX1_test_101 : decode cX1_test 101 = .ok (.istore_n 1, 1) := dk_60 (dk_at dksX1_test_4 6 rfl rfl)
theorem dX1_test_102 : decode cX1_test 102 = .ok (.iload 4, 2) := dk_21 4 (dk_at dksX1_test_4 7 rfl rfl)
theorem dX1_test_104 : decode cX1_test 104 = .ok (.istore_n 2, 1) := dk_61 (dk_at dksX1_test_4 9 rfl rfl)
theorem dX1_test_105 : decode cX1_test 105 = .ok (.iinc 3 1, 3) := dk_132 3 1 (dk_at dksX1_test_4 10 rfl rfl)
theorem dX1_test_108 : decode cX1_test 108 = .ok (.goto (-96), 3) := dk_167 255 160 (dk_at dksX1_test_4 13 rfl rfl)
theorem dX1_test_111 : decode cX1_test 111 = .ok (.iload_n 1, 1) := dk_27 (dk_at dksX1_test_4 16 rfl rfl)
theorem dX1_test_112 : decode cX1_test 112 = .ok (.bipush (-9), 2) := dk_16 247 (dk_at dksX1_test_4 17 rfl rfl)
theorem dX1_test_114 : decode cX1_test 114 = .ok (.if_icmp .ne 7, 3) := dk_160 0 7 (dk_at dksX1_test_4 19 rfl rfl)
theorem dX1_test_117 : decode cX1_test 117 = .ok (.iconst 0, 1) := dk_3 (dk_at dksX1_test_4 22 rfl rfl)
theorem dX1_test_118 : decode cX1_test 118 = .ok (.goto 8, 3) := dk_167 0 8 (dk_at dksX1_test_5 0 rfl rfl)
theorem dX1_test_121 : decode cX1_test 121 = .ok (.aload_n 0, 1) := dk_42 (dk_at dksX1_test_5 3 rfl rfl)
theorem dX1_test_122 : decode cX1_test 122 = .ok (.iload_n 2, 1) := dk_28 (dk_at dksX1_test_5 4 rfl rfl)
theorem dX1_test_123 : decode cX1_test 123 = .ok (.invokevirtual 80, 3) := dk_182 0 80 (dk_at dksX1_test_5 5 rfl rfl)
theorem dX1_test_126 : decode cX1_test 126 = .ok (.istore_n 3, 1) := dk_62 (dk_at dksX1_test_5 8 rfl rfl)
theorem dX1_test_127 : decode cX1_test 127 = .ok (.iload_n 1, 1) := dk_27 (dk_at dksX1_test_5 9 rfl rfl)
theorem dX1_test_128 : decode cX1_test 128 = .ok (.ireturn, 1) := dk_172 (dk_at dksX1_test_5 10 rfl rfl)
abbrev cX1_odds : ByteArray := prog_10_method_62_code
def yX1_odds : MethodName := ⟨RX1, "odds", "(II)I"⟩
def dkwX1_odds_3 : List UInt8 := [28, 96, 46, 29, 108, 133, 181, 0, 188, 42, 42, 180, 0, 175, 29, 108, 133, 181, 0, 32, 4, 172]
abbrev dktX1_odds_3 : List UInt8 := dkwX1_odds_3 ++ []
def dkwX1_odds_2 : List UInt8 := [21, 4, 112, 54, 5, 21, 4, 62, 21, 5, 54, 4, 167, 255, 238, 42, 42, 180, 0, 48, 16, 7, 27, 104]
abbrev dktX1_odds_2 : List UInt8 := dkwX1_odds_2 ++ dktX1_odds_3
def dkwX1_odds_1 : List UInt8 := [180, 0, 48, 16, 7, 27, 104, 28, 96, 46, 62, 42, 180, 0, 175, 54, 4, 21, 4, 153, 0, 19, 29]
abbrev dktX1_odds_1 : List UInt8 := dkwX1_odds_1 ++ dktX1_odds_2
def dkwX1_odds_0 : List UInt8 := [42, 27, 182, 0, 136, 153, 0, 11, 42, 28, 182, 0, 129, 154, 0, 5, 2, 172, 42, 3, 182, 0, 181, 42]
abbrev dktX1_odds_0 : List UInt8 := dkwX1_odds_0 ++ dktX1_odds_1
theorem dksX1_odds_0 : cX1_odds.data.toList.drop 0 = dktX1_odds_0 := by decide +kernel
theorem dksX1_odds_1 : cX1_odds.data.toList.drop 24 = dktX1_odds_1 := dk_seg dksX1_odds_0 24 rfl rfl
theorem dksX1_odds_2 : cX1_odds.data.toList.drop 47 = dktX1_odds_2 := dk_seg dksX1_odds_1 23 rfl rfl
theorem dksX1_odds_3 : cX1_odds.data.toList.drop 71 = dktX1_odds_3 := dk_seg dksX1_odds_2 24 rfl rfl
theorem dX1_odds_0 : decode cX1_odds 0 = .ok (.aload_n 0, 1) := dk_42 (dk_at dksX1_odds_0 0 rfl rfl)
theorem dX1_odds_1 : decode cX1_odds 1 = .ok (.iload_n 1, 1) := dk_27 (dk_at dksX1_odds_0 1 rfl rfl)
theorem dX1_odds_2 : decode cX1_odds 2 = .ok (.invokevirtual 136, 3) := dk_182 0 136 (dk_at dksX1_odds_0 2 rfl rfl)
theorem dX1_odds_5 : decode cX1_odds 5 = .ok (.ifCond .eq 11, 3) := dk_153 0 11 (dk_at dksX1_odds_0 5 rfl rfl)
theorem dX1_odds_8 : decode cX1_odds 8 = .ok (.aload_n 0, 1) := dk_42 (dk_at dksX1_odds_0 8 rfl rfl)
theorem dX1_odds_9 : decode cX1_odds 9 = .ok (.iload_n 2, 1) := dk_28 (dk_at dksX1_odds_0 9 rfl rfl)
theorem dX1_odds_10 : decode cX1_odds 10 = .ok (.invokevirtual 129, 3) := dk_182 0 129 (dk_at dksX1_odds_0 10 rfl rfl)
theorem dX1_odds_13 : decode cX1_odds 13 = .ok (.ifCond .ne 5, 3) := dk_154 0 5 (dk_at dksX1_odds_0 13 rfl rfl)
theorem dX1_odds_16 : decode cX1_odds 16 = .ok (.iconst (-1), 1) := dk_2 (dk_at dksX1_odds_0 16 rfl rfl)
theorem dX1_odds_17 : decode cX1_odds 17 = .ok (.ireturn, 1) := dk_172 (dk_at dksX1_odds_0 17 rfl rfl)
theorem dX1_odds_18 : decode cX1_odds 18 = .ok (.aload_n 0, 1) := dk_42 (dk_at dksX1_odds_0 18 rfl rfl)
theorem dX1_odds_19 : decode cX1_odds 19 = .ok (.iconst 0, 1) := dk_3 (dk_at dksX1_odds_0 19 rfl rfl)
theorem dX1_odds_20 : decode cX1_odds 20 = .ok (.invokevirtual 181, 3) := dk_182 0 181 (dk_at dksX1_odds_0 20 rfl rfl)
theorem dX1_odds_23 : decode cX1_odds 23 = .ok (.aload_n 0, 1) := dk_42 (dk_at dksX1_odds_0 23 rfl rfl)
theorem dX1_odds_24 : decode cX1_odds 24 = .ok (.getfield 48, 3) := dk_180 0 48 (dk_at dksX1_odds_1 0 rfl rfl)
theorem dX1_odds_27 : decode cX1_odds 27 = .ok (.bipush 7, 2) := dk_16 7 (dk_at dksX1_odds_1 3 rfl rfl)
theorem dX1_odds_29 : decode cX1_odds 29 = .ok (.iload_n 1, 1) := dk_27 (dk_at dksX1_odds_1 5 rfl rfl)
theorem dX1_odds_30 : decode cX1_odds 30 = .ok (.imul, 1) := dk_104 (dk_at dksX1_odds_1 6 rfl rfl)
theorem dX1_odds_31 : decode cX1_odds 31 = .ok (.iload_n 2, 1) := dk_28 (dk_at dksX1_odds_1 7 rfl rfl)
theorem dX1_odds_32 : decode cX1_odds 32 = .ok (.iadd, 1) := dk_96 (dk_at dksX1_odds_1 8 rfl rfl)
theorem dX1_odds_33 : decode cX1_odds 33 = .ok (.iaload, 1) := dk_46 (dk_at dksX1_odds_1 9 rfl rfl)
theorem dX1_odds_34 : decode cX1_odds 34 = .ok (.istore_n 3, 1) := dk_62 (dk_at dksX1_odds_1 10 rfl rfl)
theorem dX1_odds_35 : decode cX1_odds 35 = .ok (.aload_n 0, 1) := dk_42 (dk_at dksX1_odds_1 11 rfl rfl)
theorem dX1_odds_36 : decode cX1_odds 36 = .ok (.getfield 175, 3) := dk_180 0 175 (dk_at dksX1_odds_1 12 rfl rfl)
theorem dX1_odds_39 : decode cX1_odds 39 = .ok (.istore 4, 2) := dk_54 4 (dk_at dksX1_odds_1 15 rfl rfl)
theorem dX1_odds_41 : decode cX1_odds 41 = .ok (.iload 4, 2) := dk_21 4 (dk_at dksX1_odds_1 17 rfl rfl)
theorem dX1_odds_43 : decode cX1_odds 43 = .ok (.ifCond .eq 19, 3) := dk_153 0 19 (dk_at dksX1_odds_1 19 rfl rfl)
theorem dX1_odds_46 : decode cX1_odds 46 = .ok (.iload_n 3, 1) := dk_29 (dk_at dksX1_odds_1 22 rfl rfl)
theorem dX1_odds_47 : decode cX1_odds 47 = .ok (.iload 4, 2) := dk_21 4 (dk_at dksX1_odds_2 0 rfl rfl)
theorem dX1_odds_49 : decode cX1_odds 49 = .ok (.irem, 1) := dk_112 (dk_at dksX1_odds_2 2 rfl rfl)
theorem dX1_odds_50 : decode cX1_odds 50 = .ok (.istore 5, 2) := dk_54 5 (dk_at dksX1_odds_2 3 rfl rfl)
theorem dX1_odds_52 : decode cX1_odds 52 = .ok (.iload 4, 2) := dk_21 4 (dk_at dksX1_odds_2 5 rfl rfl)
theorem dX1_odds_54 : decode cX1_odds 54 = .ok (.istore_n 3, 1) := dk_62 (dk_at dksX1_odds_2 7 rfl rfl)
theorem dX1_odds_55 : decode cX1_odds 55 = .ok (.iload 5, 2) := dk_21 5 (dk_at dksX1_odds_2 8 rfl rfl)
theorem dX1_odds_57 : decode cX1_odds 57 = .ok (.istore 4, 2) := dk_54 4 (dk_at dksX1_odds_2 10 rfl rfl)
theorem dX1_odds_59 : decode cX1_odds 59 = .ok (.goto (-18), 3) := dk_167 255 238 (dk_at dksX1_odds_2 12 rfl rfl)
theorem dX1_odds_62 : decode cX1_odds 62 = .ok (.aload_n 0, 1) := dk_42 (dk_at dksX1_odds_2 15 rfl rfl)
theorem dX1_odds_63 : decode cX1_odds 63 = .ok (.aload_n 0, 1) := dk_42 (dk_at dksX1_odds_2 16 rfl rfl)
theorem dX1_odds_64 : decode cX1_odds 64 = .ok (.getfield 48, 3) := dk_180 0 48 (dk_at dksX1_odds_2 17 rfl rfl)
theorem dX1_odds_67 : decode cX1_odds 67 = .ok (.bipush 7, 2) := dk_16 7 (dk_at dksX1_odds_2 20 rfl rfl)
theorem dX1_odds_69 : decode cX1_odds 69 = .ok (.iload_n 1, 1) := dk_27 (dk_at dksX1_odds_2 22 rfl rfl)
theorem dX1_odds_70 : decode cX1_odds 70 = .ok (.imul, 1) := dk_104 (dk_at dksX1_odds_2 23 rfl rfl)
theorem dX1_odds_71 : decode cX1_odds 71 = .ok (.iload_n 2, 1) := dk_28 (dk_at dksX1_odds_3 0 rfl rfl)
theorem dX1_odds_72 : decode cX1_odds 72 = .ok (.iadd, 1) := dk_96 (dk_at dksX1_odds_3 1 rfl rfl)
theorem dX1_odds_73 : decode cX1_odds 73 = .ok (.iaload, 1) := dk_46 (dk_at dksX1_odds_3 2 rfl rfl)
theorem dX1_odds_74 : decode cX1_odds 74 = .ok (.iload_n 3, 1) := dk_29 (dk_at dksX1_odds_3 3 rfl rfl)
theorem dX1_odds_75 : decode cX1_odds 75 = .ok (.idiv, 1) := dk_108 (dk_at dksX1_odds_3 4 rfl rfl)
theorem dX1_odds_76 : decode cX1_odds 76 = .ok (.i2l, 1) := dk_133 (dk_at dksX1_odds_3 5 rfl rfl)
theorem dX1_odds_77 : decode cX1_odds 77 = .ok (.putfield 188, 3) := dk_181 0 188 (dk_at dksX1_odds_3 6 rfl rfl)
theorem dX1_odds_80 : decode cX1_odds 80 = .ok (.aload_n 0, 1) := dk_42 (dk_at dksX1_odds_3 9 rfl rfl)
theorem dX1_odds_81 : decode cX1_odds 81 = .ok (.aload_n 0, 1) := dk_42 (dk_at dksX1_odds_3 10 rfl rfl)
theorem dX1_odds_82 : decode cX1_odds 82 = .ok (.getfield 175, 3) := dk_180 0 175 (dk_at dksX1_odds_3 11 rfl rfl)
theorem dX1_odds_85 : decode cX1_odds 85 = .ok (.iload_n 3, 1) := dk_29 (dk_at dksX1_odds_3 14 rfl rfl)
theorem dX1_odds_86 : decode cX1_odds 86 = .ok (.idiv, 1) := dk_108 (dk_at dksX1_odds_3 15 rfl rfl)
theorem dX1_odds_87 : decode cX1_odds 87 = .ok (.i2l, 1) := dk_133 (dk_at dksX1_odds_3 16 rfl rfl)
theorem dX1_odds_88 : decode cX1_odds 88 = .ok (.putfield 32, 3) := dk_181 0 32 (dk_at dksX1_odds_3 17 rfl rfl)
theorem dX1_odds_91 : decode cX1_odds 91 = .ok (.iconst 1, 1) := dk_4 (dk_at dksX1_odds_3 20 rfl rfl)
theorem dX1_odds_92 : decode cX1_odds 92 = .ok (.ireturn, 1) := dk_172 (dk_at dksX1_odds_3 21 rfl rfl)
abbrev cX1_worlds : ByteArray := prog_10_method_63_code
def yX1_worlds : MethodName := ⟨RX1, "worlds", "()I"⟩
def dkwX1_worlds_5 : List UInt8 := [133, 184, 0, 66, 153, 0, 7, 4, 167, 0, 4, 3, 104, 60, 132, 2, 1, 167, 255, 126, 27, 172]
abbrev dktX1_worlds_5 : List UInt8 := dkwX1_worlds_5 ++ []
def dkwX1_worlds_4 : List UInt8 := [182, 0, 157, 167, 0, 33, 42, 42, 180, 0, 22, 16, 66, 28, 96, 46, 182, 0, 120, 133, 29, 133, 21, 4]
abbrev dktX1_worlds_4 : List UInt8 := dkwX1_worlds_4 ++ dktX1_worlds_5
def dkwX1_worlds_3 : List UInt8 := [4, 167, 0, 9, 21, 4, 29, 100, 4, 96, 104, 60, 167, 0, 49, 27, 21, 5, 153, 0, 11, 42, 28]
abbrev dktX1_worlds_3 : List UInt8 := dkwX1_worlds_3 ++ dktX1_worlds_4
def dkwX1_worlds_2 : List UInt8 := [159, 0, 7, 4, 167, 0, 4, 3, 54, 5, 42, 28, 182, 0, 147, 153, 0, 24, 27, 21, 5, 153, 0, 7]
abbrev dktX1_worlds_2 : List UInt8 := dkwX1_worlds_2 ++ dktX1_worlds_3
def dkwX1_worlds_1 : List UInt8 := [42, 180, 0, 22, 16, 45, 28, 96, 46, 54, 4, 42, 180, 0, 22, 16, 59, 28, 96, 46, 16, 247]
abbrev dktX1_worlds_1 : List UInt8 := dkwX1_worlds_1 ++ dktX1_worlds_2
def dkwX1_worlds_0 : List UInt8 := [4, 60, 3, 61, 28, 42, 180, 0, 22, 4, 46, 162, 0, 126, 42, 180, 0, 22, 16, 38, 28, 96, 46, 62]
abbrev dktX1_worlds_0 : List UInt8 := dkwX1_worlds_0 ++ dktX1_worlds_1
theorem dksX1_worlds_0 : cX1_worlds.data.toList.drop 0 = dktX1_worlds_0 := by decide +kernel
theorem dksX1_worlds_1 : cX1_worlds.data.toList.drop 24 = dktX1_worlds_1 := dk_seg dksX1_worlds_0 24 rfl rfl
theorem dksX1_worlds_2 : cX1_worlds.data.toList.drop 46 = dktX1_worlds_2 := dk_seg dksX1_worlds_1 22 rfl rfl
theorem dksX1_worlds_3 : cX1_worlds.data.toList.drop 70 = dktX1_worlds_3 := dk_seg dksX1_worlds_2 24 rfl rfl
theorem dksX1_worlds_4 : cX1_worlds.data.toList.drop 93 = dktX1_worlds_4 := dk_seg dksX1_worlds_3 23 rfl rfl
theorem dksX1_worlds_5 : cX1_worlds.data.toList.drop 117 = dktX1_worlds_5 := dk_seg dksX1_worlds_4 24 rfl rfl
theorem dX1_worlds_0 : decode cX1_worlds 0 = .ok (.iconst 1, 1) := dk_4 (dk_at dksX1_worlds_0 0 rfl rfl)
theorem dX1_worlds_1 : decode cX1_worlds 1 = .ok (.istore_n 1, 1) := dk_60 (dk_at dksX1_worlds_0 1 rfl rfl)
theorem dX1_worlds_2 : decode cX1_worlds 2 = .ok (.iconst 0, 1) := dk_3 (dk_at dksX1_worlds_0 2 rfl rfl)
theorem dX1_worlds_3 : decode cX1_worlds 3 = .ok (.istore_n 2, 1) := dk_61 (dk_at dksX1_worlds_0 3 rfl rfl)
theorem dX1_worlds_4 : decode cX1_worlds 4 = .ok (.iload_n 2, 1) := dk_28 (dk_at dksX1_worlds_0 4 rfl rfl)
theorem dX1_worlds_5 : decode cX1_worlds 5 = .ok (.aload_n 0, 1) := dk_42 (dk_at dksX1_worlds_0 5 rfl rfl)
theorem dX1_worlds_6 : decode cX1_worlds 6 = .ok (.getfield 22, 3) := dk_180 0 22 (dk_at dksX1_worlds_0 6 rfl rfl)
theorem dX1_worlds_9 : decode cX1_worlds 9 = .ok (.iconst 1, 1) := dk_4 (dk_at dksX1_worlds_0 9 rfl rfl)
theorem dX1_worlds_10 : decode cX1_worlds 10 = .ok (.iaload, 1) := dk_46 (dk_at dksX1_worlds_0 10 rfl rfl)
theorem dX1_worlds_11 : decode cX1_worlds 11 = .ok (.if_icmp .ge 126, 3) := dk_162 0 126 (dk_at dksX1_worlds_0 11 rfl rfl)
theorem dX1_worlds_14 : decode cX1_worlds 14 = .ok (.aload_n 0, 1) := dk_42 (dk_at dksX1_worlds_0 14 rfl rfl)
theorem dX1_worlds_15 : decode cX1_worlds 15 = .ok (.getfield 22, 3) := dk_180 0 22 (dk_at dksX1_worlds_0 15 rfl rfl)
theorem dX1_worlds_18 : decode cX1_worlds 18 = .ok (.bipush 38, 2) := dk_16 38 (dk_at dksX1_worlds_0 18 rfl rfl)
theorem dX1_worlds_20 : decode cX1_worlds 20 = .ok (.iload_n 2, 1) := dk_28 (dk_at dksX1_worlds_0 20 rfl rfl)
theorem dX1_worlds_21 : decode cX1_worlds 21 = .ok (.iadd, 1) := dk_96 (dk_at dksX1_worlds_0 21 rfl rfl)
theorem dX1_worlds_22 : decode cX1_worlds 22 = .ok (.iaload, 1) := dk_46 (dk_at dksX1_worlds_0 22 rfl rfl)
theorem dX1_worlds_23 : decode cX1_worlds 23 = .ok (.istore_n 3, 1) := dk_62 (dk_at dksX1_worlds_0 23 rfl rfl)
theorem dX1_worlds_24 : decode cX1_worlds 24 = .ok (.aload_n 0, 1) := dk_42 (dk_at dksX1_worlds_1 0 rfl rfl)
theorem dX1_worlds_25 : decode cX1_worlds 25 = .ok (.getfield 22, 3) := dk_180 0 22 (dk_at dksX1_worlds_1 1 rfl rfl)
theorem dX1_worlds_28 : decode cX1_worlds 28 = .ok (.bipush 45, 2) := dk_16 45 (dk_at dksX1_worlds_1 4 rfl rfl)
theorem dX1_worlds_30 : decode cX1_worlds 30 = .ok (.iload_n 2, 1) := dk_28 (dk_at dksX1_worlds_1 6 rfl rfl)
theorem dX1_worlds_31 : decode cX1_worlds 31 = .ok (.iadd, 1) := dk_96 (dk_at dksX1_worlds_1 7 rfl rfl)
theorem dX1_worlds_32 : decode cX1_worlds 32 = .ok (.iaload, 1) := dk_46 (dk_at dksX1_worlds_1 8 rfl rfl)
theorem dX1_worlds_33 : decode cX1_worlds 33 = .ok (.istore 4, 2) := dk_54 4 (dk_at dksX1_worlds_1 9 rfl rfl)
theorem dX1_worlds_35 : decode cX1_worlds 35 = .ok (.aload_n 0, 1) := dk_42 (dk_at dksX1_worlds_1 11 rfl rfl)
theorem dX1_worlds_36 : decode cX1_worlds 36 = .ok (.getfield 22, 3) := dk_180 0 22 (dk_at dksX1_worlds_1 12 rfl rfl)
theorem dX1_worlds_39 : decode cX1_worlds 39 = .ok (.bipush 59, 2) := dk_16 59 (dk_at dksX1_worlds_1 15 rfl rfl)
theorem dX1_worlds_41 : decode cX1_worlds 41 = .ok (.iload_n 2, 1) := dk_28 (dk_at dksX1_worlds_1 17 rfl rfl)
theorem dX1_worlds_42 : decode cX1_worlds 42 = .ok (.iadd, 1) := dk_96 (dk_at dksX1_worlds_1 18 rfl rfl)
theorem dX1_worlds_43 : decode cX1_worlds 43 = .ok (.iaload, 1) := dk_46 (dk_at dksX1_worlds_1 19 rfl rfl)
theorem dX1_worlds_44 : decode cX1_worlds 44 = .ok (.bipush (-9), 2) := dk_16 247 (dk_at dksX1_worlds_1 20 rfl rfl)
theorem dX1_worlds_46 : decode cX1_worlds 46 = .ok (.if_icmp .eq 7, 3) := dk_159 0 7 (dk_at dksX1_worlds_2 0 rfl rfl)
theorem dX1_worlds_49 : decode cX1_worlds 49 = .ok (.iconst 1, 1) := dk_4 (dk_at dksX1_worlds_2 3 rfl rfl)
theorem dX1_worlds_50 : decode cX1_worlds 50 = .ok (.goto 4, 3) := dk_167 0 4 (dk_at dksX1_worlds_2 4 rfl rfl)
theorem dX1_worlds_53 : decode cX1_worlds 53 = .ok (.iconst 0, 1) := dk_3 (dk_at dksX1_worlds_2 7 rfl rfl)
theorem dX1_worlds_54 : decode cX1_worlds 54 = .ok (.istore 5, 2) := dk_54 5 (dk_at dksX1_worlds_2 8 rfl rfl)
theorem dX1_worlds_56 : decode cX1_worlds 56 = .ok (.aload_n 0, 1) := dk_42 (dk_at dksX1_worlds_2 10 rfl rfl)
theorem dX1_worlds_57 : decode cX1_worlds 57 = .ok (.iload_n 2, 1) := dk_28 (dk_at dksX1_worlds_2 11 rfl rfl)
theorem dX1_worlds_58 : decode cX1_worlds 58 = .ok (.invokevirtual 147, 3) := dk_182 0 147 (dk_at dksX1_worlds_2 12 rfl rfl)
theorem dX1_worlds_61 : decode cX1_worlds 61 = .ok (.ifCond .eq 24, 3) := dk_153 0 24 (dk_at dksX1_worlds_2 15 rfl rfl)
theorem dX1_worlds_64 : decode cX1_worlds 64 = .ok (.iload_n 1, 1) := dk_27 (dk_at dksX1_worlds_2 18 rfl rfl)
theorem dX1_worlds_65 : decode cX1_worlds 65 = .ok (.iload 5, 2) := dk_21 5 (dk_at dksX1_worlds_2 19 rfl rfl)
theorem dX1_worlds_67 : decode cX1_worlds 67 = .ok (.ifCond .eq 7, 3) := dk_153 0 7 (dk_at dksX1_worlds_2 21 rfl rfl)
theorem dX1_worlds_70 : decode cX1_worlds 70 = .ok (.iconst 1, 1) := dk_4 (dk_at dksX1_worlds_3 0 rfl rfl)
theorem dX1_worlds_71 : decode cX1_worlds 71 = .ok (.goto 9, 3) := dk_167 0 9 (dk_at dksX1_worlds_3 1 rfl rfl)
theorem dX1_worlds_74 : decode cX1_worlds 74 = .ok (.iload 4, 2) := dk_21 4 (dk_at dksX1_worlds_3 4 rfl rfl)
theorem dX1_worlds_76 : decode cX1_worlds 76 = .ok (.iload_n 3, 1) := dk_29 (dk_at dksX1_worlds_3 6 rfl rfl)
theorem dX1_worlds_77 : decode cX1_worlds 77 = .ok (.isub, 1) := dk_100 (dk_at dksX1_worlds_3 7 rfl rfl)
theorem dX1_worlds_78 : decode cX1_worlds 78 = .ok (.iconst 1, 1) := dk_4 (dk_at dksX1_worlds_3 8 rfl rfl)
theorem dX1_worlds_79 : decode cX1_worlds 79 = .ok (.iadd, 1) := dk_96 (dk_at dksX1_worlds_3 9 rfl rfl)
theorem dX1_worlds_80 : decode cX1_worlds 80 = .ok (.imul, 1) := dk_104 (dk_at dksX1_worlds_3 10 rfl rfl)
theorem dX1_worlds_81 : decode cX1_worlds 81 = .ok (.istore_n 1, 1) := dk_60 (dk_at dksX1_worlds_3 11 rfl rfl)
theorem dX1_worlds_82 : decode cX1_worlds 82 = .ok (.goto 49, 3) := dk_167 0 49 (dk_at dksX1_worlds_3 12 rfl rfl)
theorem dX1_worlds_85 : decode cX1_worlds 85 = .ok (.iload_n 1, 1) := dk_27 (dk_at dksX1_worlds_3 15 rfl rfl)
theorem dX1_worlds_86 : decode cX1_worlds 86 = .ok (.iload 5, 2) := dk_21 5 (dk_at dksX1_worlds_3 16 rfl rfl)
theorem dX1_worlds_88 : decode cX1_worlds 88 = .ok (.ifCond .eq 11, 3) := dk_153 0 11 (dk_at dksX1_worlds_3 18 rfl rfl)
theorem dX1_worlds_91 : decode cX1_worlds 91 = .ok (.aload_n 0, 1) := dk_42 (dk_at dksX1_worlds_3 21 rfl rfl)
theorem dX1_worlds_92 : decode cX1_worlds 92 = .ok (.iload_n 2, 1) := dk_28 (dk_at dksX1_worlds_3 22 rfl rfl)
theorem dX1_worlds_93 : decode cX1_worlds 93 = .ok (.invokevirtual 157, 3) := dk_182 0 157 (dk_at dksX1_worlds_4 0 rfl rfl)
theorem dX1_worlds_96 : decode cX1_worlds 96 = .ok (.goto 33, 3) := dk_167 0 33 (dk_at dksX1_worlds_4 3 rfl rfl)
theorem dX1_worlds_99 : decode cX1_worlds 99 = .ok (.aload_n 0, 1) := dk_42 (dk_at dksX1_worlds_4 6 rfl rfl)
theorem dX1_worlds_100 : decode cX1_worlds 100 = .ok (.aload_n 0, 1) := dk_42 (dk_at dksX1_worlds_4 7 rfl rfl)
theorem dX1_worlds_101 : decode cX1_worlds 101 = .ok (.getfield 22, 3) := dk_180 0 22 (dk_at dksX1_worlds_4 8 rfl rfl)
theorem dX1_worlds_104 : decode cX1_worlds 104 = .ok (.bipush 66, 2) := dk_16 66 (dk_at dksX1_worlds_4 11 rfl rfl)
theorem dX1_worlds_106 : decode cX1_worlds 106 = .ok (.iload_n 2, 1) := dk_28 (dk_at dksX1_worlds_4 13 rfl rfl)
theorem dX1_worlds_107 : decode cX1_worlds 107 = .ok (.iadd, 1) := dk_96 (dk_at dksX1_worlds_4 14 rfl rfl)
theorem dX1_worlds_108 : decode cX1_worlds 108 = .ok (.iaload, 1) := dk_46 (dk_at dksX1_worlds_4 15 rfl rfl)
theorem dX1_worlds_109 : decode cX1_worlds 109 = .ok (.invokevirtual 120, 3) := dk_182 0 120 (dk_at dksX1_worlds_4 16 rfl rfl)
theorem dX1_worlds_112 : decode cX1_worlds 112 = .ok (.i2l, 1) := dk_133 (dk_at dksX1_worlds_4 19 rfl rfl)
theorem dX1_worlds_113 : decode cX1_worlds 113 = .ok (.iload_n 3, 1) := dk_29 (dk_at dksX1_worlds_4 20 rfl rfl)
theorem dX1_worlds_114 : decode cX1_worlds 114 = .ok (.i2l, 1) := dk_133 (dk_at dksX1_worlds_4 21 rfl rfl)
theorem dX1_worlds_115 : decode cX1_worlds 115 = .ok (.iload 4, 2) := dk_21 4 (dk_at dksX1_worlds_4 22 rfl rfl)
theorem dX1_worlds_117 : decode cX1_worlds 117 = .ok (.i2l, 1) := dk_133 (dk_at dksX1_worlds_5 0 rfl rfl)
theorem dX1_worlds_118 : decode cX1_worlds 118 = .ok (.invokestatic 66, 3) := dk_184 0 66 (dk_at dksX1_worlds_5 1 rfl rfl)
theorem dX1_worlds_121 : decode cX1_worlds 121 = .ok (.ifCond .eq 7, 3) := dk_153 0 7 (dk_at dksX1_worlds_5 4 rfl rfl)
theorem dX1_worlds_124 : decode cX1_worlds 124 = .ok (.iconst 1, 1) := dk_4 (dk_at dksX1_worlds_5 7 rfl rfl)
theorem dX1_worlds_125 : decode cX1_worlds 125 = .ok (.goto 4, 3) := dk_167 0 4 (dk_at dksX1_worlds_5 8 rfl rfl)
theorem dX1_worlds_128 : decode cX1_worlds 128 = .ok (.iconst 0, 1) := dk_3 (dk_at dksX1_worlds_5 11 rfl rfl)
theorem dX1_worlds_129 : decode cX1_worlds 129 = .ok (.imul, 1) := dk_104 (dk_at dksX1_worlds_5 12 rfl rfl)
theorem dX1_worlds_130 : decode cX1_worlds 130 = .ok (.istore_n 1, 1) := dk_60 (dk_at dksX1_worlds_5 13 rfl rfl)
theorem dX1_worlds_131 : decode cX1_worlds 131 = .ok (.iinc 2 1, 3) := dk_132 2 1 (dk_at dksX1_worlds_5 14 rfl rfl)
theorem dX1_worlds_134 : decode cX1_worlds 134 = .ok (.goto (-130), 3) := dk_167 255 126 (dk_at dksX1_worlds_5 17 rfl rfl)
theorem dX1_worlds_137 : decode cX1_worlds 137 = .ok (.iload_n 1, 1) := dk_27 (dk_at dksX1_worlds_5 20 rfl rfl)
theorem dX1_worlds_138 : decode cX1_worlds 138 = .ok (.ireturn, 1) := dk_172 (dk_at dksX1_worlds_5 21 rfl rfl)
abbrev cX1_never : ByteArray := prog_10_method_64_code
def yX1_never : MethodName := ⟨RX1, "never", "()I"⟩
def dkwX1_never_4 : List UInt8 := [153, 0, 7, 3, 167, 0, 6, 4, 28, 120, 128, 60, 132, 2, 1, 167, 255, 155, 27, 172]
abbrev dktX1_never_4 : List UInt8 := dkwX1_never_4 ++ []
def dkwX1_never_3 : List UInt8 := [21, 4, 182, 0, 120, 160, 0, 7, 4, 167, 0, 4, 3, 62, 132, 4, 1, 167, 255, 190, 27, 29]
abbrev dktX1_never_3 : List UInt8 := dkwX1_never_3 ++ dktX1_never_4
def dkwX1_never_2 : List UInt8 := [180, 0, 22, 16, 59, 28, 96, 46, 16, 247, 159, 0, 21, 42, 180, 0, 22, 16, 59, 28, 96, 46, 42]
abbrev dktX1_never_2 : List UInt8 := dkwX1_never_2 ++ dktX1_never_3
def dkwX1_never_1 : List UInt8 := [180, 0, 22, 3, 46, 162, 0, 61, 29, 154, 0, 45, 42, 28, 21, 4, 182, 0, 139, 153, 0, 39, 42]
abbrev dktX1_never_1 : List UInt8 := dkwX1_never_1 ++ dktX1_never_2
def dkwX1_never_0 : List UInt8 := [3, 60, 3, 61, 28, 42, 180, 0, 22, 4, 46, 162, 0, 97, 3, 62, 3, 54, 4, 21, 4, 42]
abbrev dktX1_never_0 : List UInt8 := dkwX1_never_0 ++ dktX1_never_1
theorem dksX1_never_0 : cX1_never.data.toList.drop 0 = dktX1_never_0 := by decide +kernel
theorem dksX1_never_1 : cX1_never.data.toList.drop 22 = dktX1_never_1 := dk_seg dksX1_never_0 22 rfl rfl
theorem dksX1_never_2 : cX1_never.data.toList.drop 45 = dktX1_never_2 := dk_seg dksX1_never_1 23 rfl rfl
theorem dksX1_never_3 : cX1_never.data.toList.drop 68 = dktX1_never_3 := dk_seg dksX1_never_2 23 rfl rfl
theorem dksX1_never_4 : cX1_never.data.toList.drop 90 = dktX1_never_4 := dk_seg dksX1_never_3 22 rfl rfl
theorem dX1_never_0 : decode cX1_never 0 = .ok (.iconst 0, 1) := dk_3 (dk_at dksX1_never_0 0 rfl rfl)
theorem dX1_never_1 : decode cX1_never 1 = .ok (.istore_n 1, 1) := dk_60 (dk_at dksX1_never_0 1 rfl rfl)
theorem dX1_never_2 : decode cX1_never 2 = .ok (.iconst 0, 1) := dk_3 (dk_at dksX1_never_0 2 rfl rfl)
theorem dX1_never_3 : decode cX1_never 3 = .ok (.istore_n 2, 1) := dk_61 (dk_at dksX1_never_0 3 rfl rfl)
theorem dX1_never_4 : decode cX1_never 4 = .ok (.iload_n 2, 1) := dk_28 (dk_at dksX1_never_0 4 rfl rfl)
theorem dX1_never_5 : decode cX1_never 5 = .ok (.aload_n 0, 1) := dk_42 (dk_at dksX1_never_0 5 rfl rfl)
theorem dX1_never_6 : decode cX1_never 6 = .ok (.getfield 22, 3) := dk_180 0 22 (dk_at dksX1_never_0 6 rfl rfl)
theorem dX1_never_9 : decode cX1_never 9 = .ok (.iconst 1, 1) := dk_4 (dk_at dksX1_never_0 9 rfl rfl)
theorem dX1_never_10 : decode cX1_never 10 = .ok (.iaload, 1) := dk_46 (dk_at dksX1_never_0 10 rfl rfl)
theorem dX1_never_11 : decode cX1_never 11 = .ok (.if_icmp .ge 97, 3) := dk_162 0 97 (dk_at dksX1_never_0 11 rfl rfl)
theorem dX1_never_14 : decode cX1_never 14 = .ok (.iconst 0, 1) := dk_3 (dk_at dksX1_never_0 14 rfl rfl)
theorem dX1_never_15 : decode cX1_never 15 = .ok (.istore_n 3, 1) := dk_62 (dk_at dksX1_never_0 15 rfl rfl)
theorem dX1_never_16 : decode cX1_never 16 = .ok (.iconst 0, 1) := dk_3 (dk_at dksX1_never_0 16 rfl rfl)
theorem dX1_never_17 : decode cX1_never 17 = .ok (.istore 4, 2) := dk_54 4 (dk_at dksX1_never_0 17 rfl rfl)
theorem dX1_never_19 : decode cX1_never 19 = .ok (.iload 4, 2) := dk_21 4 (dk_at dksX1_never_0 19 rfl rfl)
theorem dX1_never_21 : decode cX1_never 21 = .ok (.aload_n 0, 1) := dk_42 (dk_at dksX1_never_0 21 rfl rfl)
theorem dX1_never_22 : decode cX1_never 22 = .ok (.getfield 22, 3) := dk_180 0 22 (dk_at dksX1_never_1 0 rfl rfl)
theorem dX1_never_25 : decode cX1_never 25 = .ok (.iconst 0, 1) := dk_3 (dk_at dksX1_never_1 3 rfl rfl)
theorem dX1_never_26 : decode cX1_never 26 = .ok (.iaload, 1) := dk_46 (dk_at dksX1_never_1 4 rfl rfl)
theorem dX1_never_27 : decode cX1_never 27 = .ok (.if_icmp .ge 61, 3) := dk_162 0 61 (dk_at dksX1_never_1 5 rfl rfl)
theorem dX1_never_30 : decode cX1_never 30 = .ok (.iload_n 3, 1) := dk_29 (dk_at dksX1_never_1 8 rfl rfl)
theorem dX1_never_31 : decode cX1_never 31 = .ok (.ifCond .ne 45, 3) := dk_154 0 45 (dk_at dksX1_never_1 9 rfl rfl)
theorem dX1_never_34 : decode cX1_never 34 = .ok (.aload_n 0, 1) := dk_42 (dk_at dksX1_never_1 12 rfl rfl)
theorem dX1_never_35 : decode cX1_never 35 = .ok (.iload_n 2, 1) := dk_28 (dk_at dksX1_never_1 13 rfl rfl)
theorem dX1_never_36 : decode cX1_never 36 = .ok (.iload 4, 2) := dk_21 4 (dk_at dksX1_never_1 14 rfl rfl)
theorem dX1_never_38 : decode cX1_never 38 = .ok (.invokevirtual 139, 3) := dk_182 0 139 (dk_at dksX1_never_1 16 rfl rfl)
theorem dX1_never_41 : decode cX1_never 41 = .ok (.ifCond .eq 39, 3) := dk_153 0 39 (dk_at dksX1_never_1 19 rfl rfl)
theorem dX1_never_44 : decode cX1_never 44 = .ok (.aload_n 0, 1) := dk_42 (dk_at dksX1_never_1 22 rfl rfl)
theorem dX1_never_45 : decode cX1_never 45 = .ok (.getfield 22, 3) := dk_180 0 22 (dk_at dksX1_never_2 0 rfl rfl)
theorem dX1_never_48 : decode cX1_never 48 = .ok (.bipush 59, 2) := dk_16 59 (dk_at dksX1_never_2 3 rfl rfl)
theorem dX1_never_50 : decode cX1_never 50 = .ok (.iload_n 2, 1) := dk_28 (dk_at dksX1_never_2 5 rfl rfl)
theorem dX1_never_51 : decode cX1_never 51 = .ok (.iadd, 1) := dk_96 (dk_at dksX1_never_2 6 rfl rfl)
theorem dX1_never_52 : decode cX1_never 52 = .ok (.iaload, 1) := dk_46 (dk_at dksX1_never_2 7 rfl rfl)
theorem dX1_never_53 : decode cX1_never 53 = .ok (.bipush (-9), 2) := dk_16 247 (dk_at dksX1_never_2 8 rfl rfl)
theorem dX1_never_55 : decode cX1_never 55 = .ok (.if_icmp .eq 21, 3) := dk_159 0 21 (dk_at dksX1_never_2 10 rfl rfl)
theorem dX1_never_58 : decode cX1_never 58 = .ok (.aload_n 0, 1) := dk_42 (dk_at dksX1_never_2 13 rfl rfl)
theorem dX1_never_59 : decode cX1_never 59 = .ok (.getfield 22, 3) := dk_180 0 22 (dk_at dksX1_never_2 14 rfl rfl)
theorem dX1_never_62 : decode cX1_never 62 = .ok (.bipush 59, 2) := dk_16 59 (dk_at dksX1_never_2 17 rfl rfl)
theorem dX1_never_64 : decode cX1_never 64 = .ok (.iload_n 2, 1) := dk_28 (dk_at dksX1_never_2 19 rfl rfl)
theorem dX1_never_65 : decode cX1_never 65 = .ok (.iadd, 1) := dk_96 (dk_at dksX1_never_2 20 rfl rfl)
theorem dX1_never_66 : decode cX1_never 66 = .ok (.iaload, 1) := dk_46 (dk_at dksX1_never_2 21 rfl rfl)
theorem dX1_never_67 : decode cX1_never 67 = .ok (.aload_n 0, 1) := dk_42 (dk_at dksX1_never_2 22 rfl rfl)
theorem dX1_never_68 : decode cX1_never 68 = .ok (.iload 4, 2) := dk_21 4 (dk_at dksX1_never_3 0 rfl rfl)
theorem dX1_never_70 : decode cX1_never 70 = .ok (.invokevirtual 120, 3) := dk_182 0 120 (dk_at dksX1_never_3 2 rfl rfl)
theorem dX1_never_73 : decode cX1_never 73 = .ok (.if_icmp .ne 7, 3) := dk_160 0 7 (dk_at dksX1_never_3 5 rfl rfl)
theorem dX1_never_76 : decode cX1_never 76 = .ok (.iconst 1, 1) := dk_4 (dk_at dksX1_never_3 8 rfl rfl)
theorem dX1_never_77 : decode cX1_never 77 = .ok (.goto 4, 3) := dk_167 0 4 (dk_at dksX1_never_3 9 rfl rfl)
theorem dX1_never_80 : decode cX1_never 80 = .ok (.iconst 0, 1) := dk_3 (dk_at dksX1_never_3 12 rfl rfl)
theorem dX1_never_81 : decode cX1_never 81 = .ok (.istore_n 3, 1) := dk_62 (dk_at dksX1_never_3 13 rfl rfl)
theorem dX1_never_82 : decode cX1_never 82 = .ok (.iinc 4 1, 3) := dk_132 4 1 (dk_at dksX1_never_3 14 rfl rfl)
theorem dX1_never_85 : decode cX1_never 85 = .ok (.goto (-66), 3) := dk_167 255 190 (dk_at dksX1_never_3 17 rfl rfl)
theorem dX1_never_88 : decode cX1_never 88 = .ok (.iload_n 1, 1) := dk_27 (dk_at dksX1_never_3 20 rfl rfl)
theorem dX1_never_89 : decode cX1_never 89 = .ok (.iload_n 3, 1) := dk_29 (dk_at dksX1_never_3 21 rfl rfl)
theorem dX1_never_90 : decode cX1_never 90 = .ok (.ifCond .eq 7, 3) := dk_153 0 7 (dk_at dksX1_never_4 0 rfl rfl)
theorem dX1_never_93 : decode cX1_never 93 = .ok (.iconst 0, 1) := dk_3 (dk_at dksX1_never_4 3 rfl rfl)
theorem dX1_never_94 : decode cX1_never 94 = .ok (.goto 6, 3) := dk_167 0 6 (dk_at dksX1_never_4 4 rfl rfl)
theorem dX1_never_97 : decode cX1_never 97 = .ok (.iconst 1, 1) := dk_4 (dk_at dksX1_never_4 7 rfl rfl)
theorem dX1_never_98 : decode cX1_never 98 = .ok (.iload_n 2, 1) := dk_28 (dk_at dksX1_never_4 8 rfl rfl)
theorem dX1_never_99 : decode cX1_never 99 = .ok (.ishl, 1) := dk_120 (dk_at dksX1_never_4 9 rfl rfl)
theorem dX1_never_100 : decode cX1_never 100 = .ok (.ior, 1) := dk_128 (dk_at dksX1_never_4 10 rfl rfl)
theorem dX1_never_101 : decode cX1_never 101 = .ok (.istore_n 1, 1) := dk_60 (dk_at dksX1_never_4 11 rfl rfl)
theorem dX1_never_102 : decode cX1_never 102 = .ok (.iinc 2 1, 3) := dk_132 2 1 (dk_at dksX1_never_4 12 rfl rfl)
theorem dX1_never_105 : decode cX1_never 105 = .ok (.goto (-101), 3) := dk_167 255 155 (dk_at dksX1_never_4 15 rfl rfl)
theorem dX1_never_108 : decode cX1_never 108 = .ok (.iload_n 1, 1) := dk_27 (dk_at dksX1_never_4 18 rfl rfl)
theorem dX1_never_109 : decode cX1_never 109 = .ok (.ireturn, 1) := dk_172 (dk_at dksX1_never_4 19 rfl rfl)
abbrev cX1_parts : ByteArray := prog_10_method_66_code
def yX1_parts : MethodName := ⟨RX1, "parts", "()I"⟩
def dkwX1_parts_6 : List UInt8 := [132, 4, 1, 167, 255, 135, 42, 29, 182, 0, 80, 54, 4, 27, 172]
abbrev dktX1_parts_6 : List UInt8 := dkwX1_parts_6 ++ []
def dkwX1_parts_5 : List UInt8 := [21, 6, 96, 21, 5, 100, 54, 9, 21, 9, 28, 162, 0, 12, 21, 9, 61, 21, 4, 60, 21, 7, 62]
abbrev dktX1_parts_5 : List UInt8 := dkwX1_parts_5 ++ dktX1_parts_6
def dkwX1_parts_4 : List UInt8 := [46, 100, 167, 0, 14, 42, 180, 0, 22, 3, 46, 5, 21, 7, 104, 100, 54, 8, 16, 10, 21, 8, 104]
abbrev dktX1_parts_4 : List UInt8 := dkwX1_parts_4 ++ dktX1_parts_5
def dkwX1_parts_3 : List UInt8 := [54, 7, 5, 21, 7, 104, 42, 180, 0, 22, 3, 46, 164, 0, 17, 5, 21, 7, 104, 42, 180, 0, 22, 3]
abbrev dktX1_parts_3 : List UInt8 := dkwX1_parts_3 ++ dktX1_parts_4
def dkwX1_parts_2 : List UInt8 := [21, 6, 21, 5, 162, 0, 6, 167, 0, 86, 42, 21, 4, 16, 100, 108, 21, 5, 21, 6, 182, 0, 191]
abbrev dktX1_parts_2 : List UInt8 := dkwX1_parts_2 ++ dktX1_parts_3
def dkwX1_parts_1 : List UInt8 := [17, 2, 88, 162, 0, 119, 21, 4, 16, 10, 108, 16, 10, 112, 54, 5, 21, 4, 16, 10, 112, 54, 6]
abbrev dktX1_parts_1 : List UInt8 := dkwX1_parts_1 ++ dktX1_parts_2
def dkwX1_parts_0 : List UInt8 := [42, 180, 0, 22, 3, 46, 154, 0, 6, 16, 252, 172, 3, 60, 16, 99, 61, 3, 62, 3, 54, 4, 21, 4]
abbrev dktX1_parts_0 : List UInt8 := dkwX1_parts_0 ++ dktX1_parts_1
theorem dksX1_parts_0 : cX1_parts.data.toList.drop 0 = dktX1_parts_0 := by decide +kernel
theorem dksX1_parts_1 : cX1_parts.data.toList.drop 24 = dktX1_parts_1 := dk_seg dksX1_parts_0 24 rfl rfl
theorem dksX1_parts_2 : cX1_parts.data.toList.drop 47 = dktX1_parts_2 := dk_seg dksX1_parts_1 23 rfl rfl
theorem dksX1_parts_3 : cX1_parts.data.toList.drop 70 = dktX1_parts_3 := dk_seg dksX1_parts_2 23 rfl rfl
theorem dksX1_parts_4 : cX1_parts.data.toList.drop 94 = dktX1_parts_4 := dk_seg dksX1_parts_3 24 rfl rfl
theorem dksX1_parts_5 : cX1_parts.data.toList.drop 117 = dktX1_parts_5 := dk_seg dksX1_parts_4 23 rfl rfl
theorem dksX1_parts_6 : cX1_parts.data.toList.drop 140 = dktX1_parts_6 := dk_seg dksX1_parts_5 23 rfl rfl
theorem dX1_parts_0 : decode cX1_parts 0 = .ok (.aload_n 0, 1) := dk_42 (dk_at dksX1_parts_0 0 rfl rfl)
theorem dX1_parts_1 : decode cX1_parts 1 = .ok (.getfield 22, 3) := dk_180 0 22 (dk_at dksX1_parts_0 1 rfl rfl)
theorem dX1_parts_4 : decode cX1_parts 4 = .ok (.iconst 0, 1) := dk_3 (dk_at dksX1_parts_0 4 rfl rfl)
theorem dX1_parts_5 : decode cX1_parts 5 = .ok (.iaload, 1) := dk_46 (dk_at dksX1_parts_0 5 rfl rfl)
theorem dX1_parts_6 : decode cX1_parts 6 = .ok (.ifCond .ne 6, 3) := dk_154 0 6 (dk_at dksX1_parts_0 6 rfl rfl)
theorem dX1_parts_9 : decode cX1_parts 9 = .ok (.bipush (-4), 2) := dk_16 252 (dk_at dksX1_parts_0 9 rfl rfl)
theorem dX1_parts_11 : decode cX1_parts 11 = .ok (.ireturn, 1) := dk_172 (dk_at dksX1_parts_0 11 rfl rfl)
theorem dX1_parts_12 : decode cX1_parts 12 = .ok (.iconst 0, 1) := dk_3 (dk_at dksX1_parts_0 12 rfl rfl)
theorem dX1_parts_13 : decode cX1_parts 13 = .ok (.istore_n 1, 1) := dk_60 (dk_at dksX1_parts_0 13 rfl rfl)
theorem dX1_parts_14 : decode cX1_parts 14 = .ok (.bipush 99, 2) := dk_16 99 (dk_at dksX1_parts_0 14 rfl rfl)
theorem dX1_parts_16 : decode cX1_parts 16 = .ok (.istore_n 2, 1) := dk_61 (dk_at dksX1_parts_0 16 rfl rfl)
theorem dX1_parts_17 : decode cX1_parts 17 = .ok (.iconst 0, 1) := dk_3 (dk_at dksX1_parts_0 17 rfl rfl)
theorem dX1_parts_18 : decode cX1_parts 18 = .ok (.istore_n 3, 1) := dk_62 (dk_at dksX1_parts_0 18 rfl rfl)
theorem dX1_parts_19 : decode cX1_parts 19 = .ok (.iconst 0, 1) := dk_3 (dk_at dksX1_parts_0 19 rfl rfl)
theorem dX1_parts_20 : decode cX1_parts 20 = .ok (.istore 4, 2) := dk_54 4 (dk_at dksX1_parts_0 20 rfl rfl)
theorem dX1_parts_22 : decode cX1_parts 22 = .ok (.iload 4, 2) := dk_21 4 (dk_at dksX1_parts_0 22 rfl rfl)
theorem dX1_parts_24 : decode cX1_parts 24 = .ok (.sipush 600, 3) := dk_17 2 88 (dk_at dksX1_parts_1 0 rfl rfl)
theorem dX1_parts_27 : decode cX1_parts 27 = .ok (.if_icmp .ge 119, 3) := dk_162 0 119 (dk_at dksX1_parts_1 3 rfl rfl)
theorem dX1_parts_30 : decode cX1_parts 30 = .ok (.iload 4, 2) := dk_21 4 (dk_at dksX1_parts_1 6 rfl rfl)
theorem dX1_parts_32 : decode cX1_parts 32 = .ok (.bipush 10, 2) := dk_16 10 (dk_at dksX1_parts_1 8 rfl rfl)
theorem dX1_parts_34 : decode cX1_parts 34 = .ok (.idiv, 1) := dk_108 (dk_at dksX1_parts_1 10 rfl rfl)
theorem dX1_parts_35 : decode cX1_parts 35 = .ok (.bipush 10, 2) := dk_16 10 (dk_at dksX1_parts_1 11 rfl rfl)
theorem dX1_parts_37 : decode cX1_parts 37 = .ok (.irem, 1) := dk_112 (dk_at dksX1_parts_1 13 rfl rfl)
theorem dX1_parts_38 : decode cX1_parts 38 = .ok (.istore 5, 2) := dk_54 5 (dk_at dksX1_parts_1 14 rfl rfl)
theorem dX1_parts_40 : decode cX1_parts 40 = .ok (.iload 4, 2) := dk_21 4 (dk_at dksX1_parts_1 16 rfl rfl)
theorem dX1_parts_42 : decode cX1_parts 42 = .ok (.bipush 10, 2) := dk_16 10 (dk_at dksX1_parts_1 18 rfl rfl)
theorem dX1_parts_44 : decode cX1_parts 44 = .ok (.irem, 1) := dk_112 (dk_at dksX1_parts_1 20 rfl rfl)
theorem dX1_parts_45 : decode cX1_parts 45 = .ok (.istore 6, 2) := dk_54 6 (dk_at dksX1_parts_1 21 rfl rfl)
theorem dX1_parts_47 : decode cX1_parts 47 = .ok (.iload 6, 2) := dk_21 6 (dk_at dksX1_parts_2 0 rfl rfl)
theorem dX1_parts_49 : decode cX1_parts 49 = .ok (.iload 5, 2) := dk_21 5 (dk_at dksX1_parts_2 2 rfl rfl)
theorem dX1_parts_51 : decode cX1_parts 51 = .ok (.if_icmp .ge 6, 3) := dk_162 0 6 (dk_at dksX1_parts_2 4 rfl rfl)
theorem dX1_parts_54 : decode cX1_parts 54 = .ok (.goto 86, 3) := dk_167 0 86 (dk_at dksX1_parts_2 7 rfl rfl)
theorem dX1_parts_57 : decode cX1_parts 57 = .ok (.aload_n 0, 1) := dk_42 (dk_at dksX1_parts_2 10 rfl rfl)
theorem dX1_parts_58 : decode cX1_parts 58 = .ok (.iload 4, 2) := dk_21 4 (dk_at dksX1_parts_2 11 rfl rfl)
theorem dX1_parts_60 : decode cX1_parts 60 = .ok (.bipush 100, 2) := dk_16 100 (dk_at dksX1_parts_2 13 rfl rfl)
theorem dX1_parts_62 : decode cX1_parts 62 = .ok (.idiv, 1) := dk_108 (dk_at dksX1_parts_2 15 rfl rfl)
theorem dX1_parts_63 : decode cX1_parts 63 = .ok (.iload 5, 2) := dk_21 5 (dk_at dksX1_parts_2 16 rfl rfl)
theorem dX1_parts_65 : decode cX1_parts 65 = .ok (.iload 6, 2) := dk_21 6 (dk_at dksX1_parts_2 18 rfl rfl)
theorem dX1_parts_67 : decode cX1_parts 67 = .ok (.invokevirtual 191, 3) := dk_182 0 191 (dk_at dksX1_parts_2 20 rfl rfl)
theorem dX1_parts_70 : decode cX1_parts 70 = .ok (.istore 7, 2) := dk_54 7 (dk_at dksX1_parts_3 0 rfl rfl)
theorem dX1_parts_72 : decode cX1_parts 72 = .ok (.iconst 2, 1) := dk_5 (dk_at dksX1_parts_3 2 rfl rfl)
theorem dX1_parts_73 : decode cX1_parts 73 = .ok (.iload 7, 2) := dk_21 7 (dk_at dksX1_parts_3 3 rfl rfl)
theorem dX1_parts_75 : decode cX1_parts 75 = .ok (.imul, 1) := dk_104 (dk_at dksX1_parts_3 5 rfl rfl)
theorem dX1_parts_76 : decode cX1_parts 76 = .ok (.aload_n 0, 1) := dk_42 (dk_at dksX1_parts_3 6 rfl rfl)
theorem dX1_parts_77 : decode cX1_parts 77 = .ok (.getfield 22, 3) := dk_180 0 22 (dk_at dksX1_parts_3 7 rfl rfl)
theorem dX1_parts_80 : decode cX1_parts 80 = .ok (.iconst 0, 1) := dk_3 (dk_at dksX1_parts_3 10 rfl rfl)
theorem dX1_parts_81 : decode cX1_parts 81 = .ok (.iaload, 1) := dk_46 (dk_at dksX1_parts_3 11 rfl rfl)
theorem dX1_parts_82 : decode cX1_parts 82 = .ok (.if_icmp .le 17, 3) := dk_164 0 17 (dk_at dksX1_parts_3 12 rfl rfl)
theorem dX1_parts_85 : decode cX1_parts 85 = .ok (.iconst 2, 1) := dk_5 (dk_at dksX1_parts_3 15 rfl rfl)
theorem dX1_parts_86 : decode cX1_parts 86 = .ok (.iload 7, 2) := dk_21 7 (dk_at dksX1_parts_3 16 rfl rfl)
theorem dX1_parts_88 : decode cX1_parts 88 = .ok (.imul, 1) := dk_104 (dk_at dksX1_parts_3 18 rfl rfl)
theorem dX1_parts_89 : decode cX1_parts 89 = .ok (.aload_n 0, 1) := dk_42 (dk_at dksX1_parts_3 19 rfl rfl)
theorem dX1_parts_90 : decode cX1_parts 90 = .ok (.getfield 22, 3) := dk_180 0 22 (dk_at dksX1_parts_3 20 rfl rfl)
theorem dX1_parts_93 : decode cX1_parts 93 = .ok (.iconst 0, 1) := dk_3 (dk_at dksX1_parts_3 23 rfl rfl)
theorem dX1_parts_94 : decode cX1_parts 94 = .ok (.iaload, 1) := dk_46 (dk_at dksX1_parts_4 0 rfl rfl)
theorem dX1_parts_95 : decode cX1_parts 95 = .ok (.isub, 1) := dk_100 (dk_at dksX1_parts_4 1 rfl rfl)
theorem dX1_parts_96 : decode cX1_parts 96 = .ok (.goto 14, 3) := dk_167 0 14 (dk_at dksX1_parts_4 2 rfl rfl)
theorem dX1_parts_99 : decode cX1_parts 99 = .ok (.aload_n 0, 1) := dk_42 (dk_at dksX1_parts_4 5 rfl rfl)
theorem dX1_parts_100 : decode cX1_parts 100 = .ok (.getfield 22, 3) := dk_180 0 22 (dk_at dksX1_parts_4 6 rfl rfl)
theorem dX1_parts_103 : decode cX1_parts 103 = .ok (.iconst 0, 1) := dk_3 (dk_at dksX1_parts_4 9 rfl rfl)
theorem dX1_parts_104 : decode cX1_parts 104 = .ok (.iaload, 1) := dk_46 (dk_at dksX1_parts_4 10 rfl rfl)
theorem dX1_parts_105 : decode cX1_parts 105 = .ok (.iconst 2, 1) := dk_5 (dk_at dksX1_parts_4 11 rfl rfl)
theorem dX1_parts_106 : decode cX1_parts 106 = .ok (.iload 7, 2) := dk_21 7 (dk_at dksX1_parts_4 12 rfl rfl)
theorem dX1_parts_108 : decode cX1_parts 108 = .ok (.imul, 1) := dk_104 (dk_at dksX1_parts_4 14 rfl rfl)
theorem dX1_parts_109 : decode cX1_parts 109 = .ok (.isub, 1) := dk_100 (dk_at dksX1_parts_4 15 rfl rfl)
theorem dX1_parts_110 : decode cX1_parts 110 = .ok (.istore 8, 2) := dk_54 8 (dk_at dksX1_parts_4 16 rfl rfl)
theorem dX1_parts_112 : decode cX1_parts 112 = .ok (.bipush 10, 2) := dk_16 10 (dk_at dksX1_parts_4 18 rfl rfl)
theorem dX1_parts_114 : decode cX1_parts 114 = .ok (.iload 8, 2) := dk_21 8 (dk_at dksX1_parts_4 20 rfl rfl)
theorem dX1_parts_116 : decode cX1_parts 116 = .ok (.imul, 1) := dk_104 (dk_at dksX1_parts_4 22 rfl rfl)
theorem dX1_parts_117 : decode cX1_parts 117 = .ok (.iload 6, 2) := dk_21 6 (dk_at dksX1_parts_5 0 rfl rfl)
theorem dX1_parts_119 : decode cX1_parts 119 = .ok (.iadd, 1) := dk_96 (dk_at dksX1_parts_5 2 rfl rfl)
theorem dX1_parts_120 : decode cX1_parts 120 = .ok (.iload 5, 2) := dk_21 5 (dk_at dksX1_parts_5 3 rfl rfl)
theorem dX1_parts_122 : decode cX1_parts 122 = .ok (.isub, 1) := dk_100 (dk_at dksX1_parts_5 5 rfl rfl)
theorem dX1_parts_123 : decode cX1_parts 123 = .ok (.istore 9, 2) := dk_54 9 (dk_at dksX1_parts_5 6 rfl rfl)
theorem dX1_parts_125 : decode cX1_parts 125 = .ok (.iload 9, 2) := dk_21 9 (dk_at dksX1_parts_5 8 rfl rfl)
theorem dX1_parts_127 : decode cX1_parts 127 = .ok (.iload_n 2, 1) := dk_28 (dk_at dksX1_parts_5 10 rfl rfl)
theorem dX1_parts_128 : decode cX1_parts 128 = .ok (.if_icmp .ge 12, 3) := dk_162 0 12 (dk_at dksX1_parts_5 11 rfl rfl)
theorem dX1_parts_131 : decode cX1_parts 131 = .ok (.iload 9, 2) := dk_21 9 (dk_at dksX1_parts_5 14 rfl rfl)
theorem dX1_parts_133 : decode cX1_parts 133 = .ok (.istore_n 2, 1) := dk_61 (dk_at dksX1_parts_5 16 rfl rfl)
theorem dX1_parts_134 : decode cX1_parts 134 = .ok (.iload 4, 2) := dk_21 4 (dk_at dksX1_parts_5 17 rfl rfl)
theorem dX1_parts_136 : decode cX1_parts 136 = .ok (.istore_n 1, 1) := dk_60 (dk_at dksX1_parts_5 19 rfl rfl)
theorem dX1_parts_137 : decode cX1_parts 137 = .ok (.iload 7, 2) := dk_21 7 (dk_at dksX1_parts_5 20 rfl rfl)
theorem dX1_parts_139 : decode cX1_parts 139 = .ok (.istore_n 3, 1) := dk_62 (dk_at dksX1_parts_5 22 rfl rfl)
theorem dX1_parts_140 : decode cX1_parts 140 = .ok (.iinc 4 1, 3) := dk_132 4 1 (dk_at dksX1_parts_6 0 rfl rfl)
theorem dX1_parts_143 : decode cX1_parts 143 = .ok (.goto (-121), 3) := dk_167 255 135 (dk_at dksX1_parts_6 3 rfl rfl)
theorem dX1_parts_146 : decode cX1_parts 146 = .ok (.aload_n 0, 1) := dk_42 (dk_at dksX1_parts_6 6 rfl rfl)
theorem dX1_parts_147 : decode cX1_parts 147 = .ok (.iload_n 3, 1) := dk_29 (dk_at dksX1_parts_6 7 rfl rfl)
theorem dX1_parts_148 : decode cX1_parts 148 = .ok (.invokevirtual 80, 3) := dk_182 0 80 (dk_at dksX1_parts_6 8 rfl rfl)
theorem dX1_parts_151 : decode cX1_parts 151 = .ok (.istore 4, 2) := dk_54 4 (dk_at dksX1_parts_6 11 rfl rfl)
theorem dX1_parts_153 : decode cX1_parts 153 = .ok (.iload_n 1, 1) := dk_27 (dk_at dksX1_parts_6 13 rfl rfl)
theorem dX1_parts_154 : decode cX1_parts 154 = .ok (.ireturn, 1) := dk_172 (dk_at dksX1_parts_6 14 rfl rfl)
abbrev cX1_manyFit : ByteArray := prog_10_method_65_code
def yX1_manyFit : MethodName := ⟨RX1, "manyFit", "(III)I"⟩
def dkwX1_manyFit_1 : List UInt8 := [29, 182, 0, 123, 153, 0, 7, 4, 167, 0, 4, 3, 96, 54, 4, 132, 5, 1, 167, 255, 220, 21, 4, 172]
abbrev dktX1_manyFit_1 : List UInt8 := dkwX1_manyFit_1 ++ []
def dkwX1_manyFit_0 : List UInt8 := [3, 54, 4, 3, 54, 5, 21, 5, 42, 180, 0, 22, 3, 46, 162, 0, 31, 21, 4, 42, 21, 5, 27, 28]
abbrev dktX1_manyFit_0 : List UInt8 := dkwX1_manyFit_0 ++ dktX1_manyFit_1
theorem dksX1_manyFit_0 : cX1_manyFit.data.toList.drop 0 = dktX1_manyFit_0 := by decide +kernel
theorem dksX1_manyFit_1 : cX1_manyFit.data.toList.drop 24 = dktX1_manyFit_1 := dk_seg dksX1_manyFit_0 24 rfl rfl
theorem dX1_manyFit_0 : decode cX1_manyFit 0 = .ok (.iconst 0, 1) := dk_3 (dk_at dksX1_manyFit_0 0 rfl rfl)
theorem dX1_manyFit_1 : decode cX1_manyFit 1 = .ok (.istore 4, 2) := dk_54 4 (dk_at dksX1_manyFit_0 1 rfl rfl)
theorem dX1_manyFit_3 : decode cX1_manyFit 3 = .ok (.iconst 0, 1) := dk_3 (dk_at dksX1_manyFit_0 3 rfl rfl)
theorem dX1_manyFit_4 : decode cX1_manyFit 4 = .ok (.istore 5, 2) := dk_54 5 (dk_at dksX1_manyFit_0 4 rfl rfl)
theorem dX1_manyFit_6 : decode cX1_manyFit 6 = .ok (.iload 5, 2) := dk_21 5 (dk_at dksX1_manyFit_0 6 rfl rfl)
theorem dX1_manyFit_8 : decode cX1_manyFit 8 = .ok (.aload_n 0, 1) := dk_42 (dk_at dksX1_manyFit_0 8 rfl rfl)
theorem dX1_manyFit_9 : decode cX1_manyFit 9 = .ok (.getfield 22, 3) := dk_180 0 22 (dk_at dksX1_manyFit_0 9 rfl rfl)
theorem dX1_manyFit_12 : decode cX1_manyFit 12 = .ok (.iconst 0, 1) := dk_3 (dk_at dksX1_manyFit_0 12 rfl rfl)
theorem dX1_manyFit_13 : decode cX1_manyFit 13 = .ok (.iaload, 1) := dk_46 (dk_at dksX1_manyFit_0 13 rfl rfl)
theorem dX1_manyFit_14 : decode cX1_manyFit 14 = .ok (.if_icmp .ge 31, 3) := dk_162 0 31 (dk_at dksX1_manyFit_0 14 rfl rfl)
theorem dX1_manyFit_17 : decode cX1_manyFit 17 = .ok (.iload 4, 2) := dk_21 4 (dk_at dksX1_manyFit_0 17 rfl rfl)
theorem dX1_manyFit_19 : decode cX1_manyFit 19 = .ok (.aload_n 0, 1) := dk_42 (dk_at dksX1_manyFit_0 19 rfl rfl)
theorem dX1_manyFit_20 : decode cX1_manyFit 20 = .ok (.iload 5, 2) := dk_21 5 (dk_at dksX1_manyFit_0 20 rfl rfl)
theorem dX1_manyFit_22 : decode cX1_manyFit 22 = .ok (.iload_n 1, 1) := dk_27 (dk_at dksX1_manyFit_0 22 rfl rfl)
theorem dX1_manyFit_23 : decode cX1_manyFit 23 = .ok (.iload_n 2, 1) := dk_28 (dk_at dksX1_manyFit_0 23 rfl rfl)
theorem dX1_manyFit_24 : decode cX1_manyFit 24 = .ok (.iload_n 3, 1) := dk_29 (dk_at dksX1_manyFit_1 0 rfl rfl)
theorem dX1_manyFit_25 : decode cX1_manyFit 25 = .ok (.invokevirtual 123, 3) := dk_182 0 123 (dk_at dksX1_manyFit_1 1 rfl rfl)
theorem dX1_manyFit_28 : decode cX1_manyFit 28 = .ok (.ifCond .eq 7, 3) := dk_153 0 7 (dk_at dksX1_manyFit_1 4 rfl rfl)
theorem dX1_manyFit_31 : decode cX1_manyFit 31 = .ok (.iconst 1, 1) := dk_4 (dk_at dksX1_manyFit_1 7 rfl rfl)
theorem dX1_manyFit_32 : decode cX1_manyFit 32 = .ok (.goto 4, 3) := dk_167 0 4 (dk_at dksX1_manyFit_1 8 rfl rfl)
theorem dX1_manyFit_35 : decode cX1_manyFit 35 = .ok (.iconst 0, 1) := dk_3 (dk_at dksX1_manyFit_1 11 rfl rfl)
theorem dX1_manyFit_36 : decode cX1_manyFit 36 = .ok (.iadd, 1) := dk_96 (dk_at dksX1_manyFit_1 12 rfl rfl)
theorem dX1_manyFit_37 : decode cX1_manyFit 37 = .ok (.istore 4, 2) := dk_54 4 (dk_at dksX1_manyFit_1 13 rfl rfl)
theorem dX1_manyFit_39 : decode cX1_manyFit 39 = .ok (.iinc 5 1, 3) := dk_132 5 1 (dk_at dksX1_manyFit_1 15 rfl rfl)
theorem dX1_manyFit_42 : decode cX1_manyFit 42 = .ok (.goto (-36), 3) := dk_167 255 220 (dk_at dksX1_manyFit_1 18 rfl rfl)
theorem dX1_manyFit_45 : decode cX1_manyFit 45 = .ok (.iload 4, 2) := dk_21 4 (dk_at dksX1_manyFit_1 21 rfl rfl)
theorem dX1_manyFit_47 : decode cX1_manyFit 47 = .ok (.ireturn, 1) := dk_172 (dk_at dksX1_manyFit_1 23 rfl rfl)
abbrev cX1_finds : ByteArray := prog_10_method_68_code
def yX1_finds : MethodName := ⟨RX1, "finds", "(I)I"⟩
def dkwX1_finds_9 : List UInt8 := [61, 42, 180, 0, 51, 27, 46, 172]
abbrev dktX1_finds_9 : List UInt8 := dkwX1_finds_9 ++ []
def dkwX1_finds_8 : List UInt8 := [42, 180, 0, 51, 27, 46, 16, 99, 161, 0, 6, 16, 247, 172, 42, 42, 180, 0, 54, 27, 46, 182, 0, 80]
abbrev dktX1_finds_8 : List UInt8 := dkwX1_finds_8 ++ dktX1_finds_9
def dkwX1_finds_7 : List UInt8 := [167, 255, 141, 42, 180, 0, 51, 28, 29, 79, 42, 180, 0, 54, 28, 21, 4, 79, 132, 2, 1, 167, 255, 94]
abbrev dktX1_finds_7 : List UInt8 := dkwX1_finds_7 ++ dktX1_finds_8
def dkwX1_finds_6 : List UInt8 := [167, 0, 5, 21, 4, 54, 4, 21, 8, 29, 162, 0, 8, 21, 8, 167, 0, 4, 29, 62, 132, 5, 1]
abbrev dktX1_finds_6 : List UInt8 := dkwX1_finds_6 ++ dktX1_finds_7
def dkwX1_finds_5 : List UInt8 := [46, 167, 0, 10, 42, 180, 0, 51, 21, 7, 46, 96, 54, 8, 21, 8, 29, 162, 0, 8, 21, 5]
abbrev dktX1_finds_5 : List UInt8 := dkwX1_finds_5 ++ dktX1_finds_6
def dkwX1_finds_4 : List UInt8 := [4, 42, 180, 0, 51, 21, 6, 46, 42, 180, 0, 51, 21, 7, 46, 164, 0, 13, 42, 180, 0, 51, 21, 6]
abbrev dktX1_finds_4 : List UInt8 := dkwX1_finds_4 ++ dktX1_finds_5
def dkwX1_finds_3 : List UInt8 := [182, 0, 198, 126, 54, 6, 28, 21, 6, 2, 130, 126, 54, 7, 21, 6, 153, 0, 74, 21, 7, 153, 0, 69]
abbrev dktX1_finds_3 : List UInt8 := dkwX1_finds_3 ++ dktX1_finds_4
def dkwX1_finds_2 : List UInt8 := [54, 5, 21, 5, 42, 180, 0, 22, 4, 46, 162, 0, 110, 28, 184, 0, 195, 154, 0, 103, 28, 42, 21, 5]
abbrev dktX1_finds_2 : List UInt8 := dkwX1_finds_2 ++ dktX1_finds_3
def dkwX1_finds_1 : List UInt8 := [28, 27, 163, 0, 163, 28, 184, 0, 195, 153, 0, 7, 3, 167, 0, 5, 16, 99, 62, 16, 247, 54, 4, 3]
abbrev dktX1_finds_1 : List UInt8 := dkwX1_finds_1 ++ dktX1_finds_2
def dkwX1_finds_0 : List UInt8 := [27, 133, 10, 4, 42, 180, 0, 22, 3, 46, 120, 4, 100, 133, 184, 0, 66, 154, 0, 5, 2, 172, 4, 61]
abbrev dktX1_finds_0 : List UInt8 := dkwX1_finds_0 ++ dktX1_finds_1
theorem dksX1_finds_0 : cX1_finds.data.toList.drop 0 = dktX1_finds_0 := by decide +kernel
theorem dksX1_finds_1 : cX1_finds.data.toList.drop 24 = dktX1_finds_1 := dk_seg dksX1_finds_0 24 rfl rfl
theorem dksX1_finds_2 : cX1_finds.data.toList.drop 48 = dktX1_finds_2 := dk_seg dksX1_finds_1 24 rfl rfl
theorem dksX1_finds_3 : cX1_finds.data.toList.drop 72 = dktX1_finds_3 := dk_seg dksX1_finds_2 24 rfl rfl
theorem dksX1_finds_4 : cX1_finds.data.toList.drop 96 = dktX1_finds_4 := dk_seg dksX1_finds_3 24 rfl rfl
theorem dksX1_finds_5 : cX1_finds.data.toList.drop 120 = dktX1_finds_5 := dk_seg dksX1_finds_4 24 rfl rfl
theorem dksX1_finds_6 : cX1_finds.data.toList.drop 142 = dktX1_finds_6 := dk_seg dksX1_finds_5 22 rfl rfl
theorem dksX1_finds_7 : cX1_finds.data.toList.drop 165 = dktX1_finds_7 := dk_seg dksX1_finds_6 23 rfl rfl
theorem dksX1_finds_8 : cX1_finds.data.toList.drop 189 = dktX1_finds_8 := dk_seg dksX1_finds_7 24 rfl rfl
theorem dksX1_finds_9 : cX1_finds.data.toList.drop 213 = dktX1_finds_9 := dk_seg dksX1_finds_8 24 rfl rfl
theorem dX1_finds_0 : decode cX1_finds 0 = .ok (.iload_n 1, 1) := dk_27 (dk_at dksX1_finds_0 0 rfl rfl)
theorem dX1_finds_1 : decode cX1_finds 1 = .ok (.i2l, 1) := dk_133 (dk_at dksX1_finds_0 1 rfl rfl)
theorem dX1_finds_2 : decode cX1_finds 2 = .ok (.lconst 1, 1) := dk_10 (dk_at dksX1_finds_0 2 rfl rfl)
theorem dX1_finds_3 : decode cX1_finds 3 = .ok (.iconst 1, 1) := dk_4 (dk_at dksX1_finds_0 3 rfl rfl)
theorem dX1_finds_4 : decode cX1_finds 4 = .ok (.aload_n 0, 1) := dk_42 (dk_at dksX1_finds_0 4 rfl rfl)
theorem dX1_finds_5 : decode cX1_finds 5 = .ok (.getfield 22, 3) := dk_180 0 22 (dk_at dksX1_finds_0 5 rfl rfl)
theorem dX1_finds_8 : decode cX1_finds 8 = .ok (.iconst 0, 1) := dk_3 (dk_at dksX1_finds_0 8 rfl rfl)
theorem dX1_finds_9 : decode cX1_finds 9 = .ok (.iaload, 1) := dk_46 (dk_at dksX1_finds_0 9 rfl rfl)
theorem dX1_finds_10 : decode cX1_finds 10 = .ok (.ishl, 1) := dk_120 (dk_at dksX1_finds_0 10 rfl rfl)
theorem dX1_finds_11 : decode cX1_finds 11 = .ok (.iconst 1, 1) := dk_4 (dk_at dksX1_finds_0 11 rfl rfl)
theorem dX1_finds_12 : decode cX1_finds 12 = .ok (.isub, 1) := dk_100 (dk_at dksX1_finds_0 12 rfl rfl)
theorem dX1_finds_13 : decode cX1_finds 13 = .ok (.i2l, 1) := dk_133 (dk_at dksX1_finds_0 13 rfl rfl)
theorem dX1_finds_14 : decode cX1_finds 14 = .ok (.invokestatic 66, 3) := dk_184 0 66 (dk_at dksX1_finds_0 14 rfl rfl)
theorem dX1_finds_17 : decode cX1_finds 17 = .ok (.ifCond .ne 5, 3) := dk_154 0 5 (dk_at dksX1_finds_0 17 rfl rfl)
theorem dX1_finds_20 : decode cX1_finds 20 = .ok (.iconst (-1), 1) := dk_2 (dk_at dksX1_finds_0 20 rfl rfl)
theorem dX1_finds_21 : decode cX1_finds 21 = .ok (.ireturn, 1) := dk_172 (dk_at dksX1_finds_0 21 rfl rfl)
theorem dX1_finds_22 : decode cX1_finds 22 = .ok (.iconst 1, 1) := dk_4 (dk_at dksX1_finds_0 22 rfl rfl)
theorem dX1_finds_23 : decode cX1_finds 23 = .ok (.istore_n 2, 1) := dk_61 (dk_at dksX1_finds_0 23 rfl rfl)
theorem dX1_finds_24 : decode cX1_finds 24 = .ok (.iload_n 2, 1) := dk_28 (dk_at dksX1_finds_1 0 rfl rfl)
theorem dX1_finds_25 : decode cX1_finds 25 = .ok (.iload_n 1, 1) := dk_27 (dk_at dksX1_finds_1 1 rfl rfl)
theorem dX1_finds_26 : decode cX1_finds 26 = .ok (.if_icmp .gt 163, 3) := dk_163 0 163 (dk_at dksX1_finds_1 2 rfl rfl)
theorem dX1_finds_29 : decode cX1_finds 29 = .ok (.iload_n 2, 1) := dk_28 (dk_at dksX1_finds_1 5 rfl rfl)
theorem dX1_finds_30 : decode cX1_finds 30 = .ok (.invokestatic 195, 3) := dk_184 0 195 (dk_at dksX1_finds_1 6 rfl rfl)
theorem dX1_finds_33 : decode cX1_finds 33 = .ok (.ifCond .eq 7, 3) := dk_153 0 7 (dk_at dksX1_finds_1 9 rfl rfl)
theorem dX1_finds_36 : decode cX1_finds 36 = .ok (.iconst 0, 1) := dk_3 (dk_at dksX1_finds_1 12 rfl rfl)
theorem dX1_finds_37 : decode cX1_finds 37 = .ok (.goto 5, 3) := dk_167 0 5 (dk_at dksX1_finds_1 13 rfl rfl)
theorem dX1_finds_40 : decode cX1_finds 40 = .ok (.bipush 99, 2) := dk_16 99 (dk_at dksX1_finds_1 16 rfl rfl)
theorem dX1_finds_42 : decode cX1_finds 42 = .ok (.istore_n 3, 1) := dk_62 (dk_at dksX1_finds_1 18 rfl rfl)
theorem dX1_finds_43 : decode cX1_finds 43 = .ok (.bipush (-9), 2) := dk_16 247 (dk_at dksX1_finds_1 19 rfl rfl)
theorem dX1_finds_45 : decode cX1_finds 45 = .ok (.istore 4, 2) := dk_54 4 (dk_at dksX1_finds_1 21 rfl rfl)
theorem dX1_finds_47 : decode cX1_finds 47 = .ok (.iconst 0, 1) := dk_3 (dk_at dksX1_finds_1 23 rfl rfl)
theorem dX1_finds_48 : decode cX1_finds 48 = .ok (.istore 5, 2) := dk_54 5 (dk_at dksX1_finds_2 0 rfl rfl)
theorem dX1_finds_50 : decode cX1_finds 50 = .ok (.iload 5, 2) := dk_21 5 (dk_at dksX1_finds_2 2 rfl rfl)
theorem dX1_finds_52 : decode cX1_finds 52 = .ok (.aload_n 0, 1) := dk_42 (dk_at dksX1_finds_2 4 rfl rfl)
theorem dX1_finds_53 : decode cX1_finds 53 = .ok (.getfield 22, 3) := dk_180 0 22 (dk_at dksX1_finds_2 5 rfl rfl)
theorem dX1_finds_56 : decode cX1_finds 56 = .ok (.iconst 1, 1) := dk_4 (dk_at dksX1_finds_2 8 rfl rfl)
theorem dX1_finds_57 : decode cX1_finds 57 = .ok (.iaload, 1) := dk_46 (dk_at dksX1_finds_2 9 rfl rfl)
theorem dX1_finds_58 : decode cX1_finds 58 = .ok (.if_icmp .ge 110, 3) := dk_162 0 110 (dk_at dksX1_finds_2 10 rfl rfl)
theorem dX1_finds_61 : decode cX1_finds 61 = .ok (.iload_n 2, 1) := dk_28 (dk_at dksX1_finds_2 13 rfl rfl)
theorem dX1_finds_62 : decode cX1_finds 62 = .ok (.invokestatic 195, 3) := dk_184 0 195 (dk_at dksX1_finds_2 14 rfl rfl)
theorem dX1_finds_65 : decode cX1_finds 65 = .ok (.ifCond .ne 103, 3) := dk_154 0 103 (dk_at dksX1_finds_2 17 rfl rfl)
theorem dX1_finds_68 : decode cX1_finds 68 = .ok (.iload_n 2, 1) := dk_28 (dk_at dksX1_finds_2 20 rfl rfl)
theorem dX1_finds_69 : decode cX1_finds 69 = .ok (.aload_n 0, 1) := dk_42 (dk_at dksX1_finds_2 21 rfl rfl)
theorem dX1_finds_70 : decode cX1_finds 70 = .ok (.iload 5, 2) := dk_21 5 (dk_at dksX1_finds_2 22 rfl rfl)
theorem dX1_finds_72 : decode cX1_finds 72 = .ok (.invokevirtual 198, 3) := dk_182 0 198 (dk_at dksX1_finds_3 0 rfl rfl)
theorem dX1_finds_75 : decode cX1_finds 75 = .ok (.iand, 1) := dk_126 (dk_at dksX1_finds_3 3 rfl rfl)
theorem dX1_finds_76 : decode cX1_finds 76 = .ok (.istore 6, 2) := dk_54 6 (dk_at dksX1_finds_3 4 rfl rfl)
theorem dX1_finds_78 : decode cX1_finds 78 = .ok (.iload_n 2, 1) := dk_28 (dk_at dksX1_finds_3 6 rfl rfl)
theorem dX1_finds_79 : decode cX1_finds 79 = .ok (.iload 6, 2) := dk_21 6 (dk_at dksX1_finds_3 7 rfl rfl)
theorem dX1_finds_81 : decode cX1_finds 81 = .ok (.iconst (-1), 1) := dk_2 (dk_at dksX1_finds_3 9 rfl rfl)
theorem dX1_finds_82 : decode cX1_finds 82 = .ok (.ixor, 1) := dk_130 (dk_at dksX1_finds_3 10 rfl rfl)
theorem dX1_finds_83 : decode cX1_finds 83 = .ok (.iand, 1) := dk_126 (dk_at dksX1_finds_3 11 rfl rfl)
theorem dX1_finds_84 : decode cX1_finds 84 = .ok (.istore 7, 2) := dk_54 7 (dk_at dksX1_finds_3 12 rfl rfl)
theorem dX1_finds_86 : decode cX1_finds 86 = .ok (.iload 6, 2) := dk_21 6 (dk_at dksX1_finds_3 14 rfl rfl)
theorem dX1_finds_88 : decode cX1_finds 88 = .ok (.ifCond .eq 74, 3) := dk_153 0 74 (dk_at dksX1_finds_3 16 rfl rfl)
theorem dX1_finds_91 : decode cX1_finds 91 = .ok (.iload 7, 2) := dk_21 7 (dk_at dksX1_finds_3 19 rfl rfl)
theorem dX1_finds_93 : decode cX1_finds 93 = .ok (.ifCond .eq 69, 3) := dk_153 0 69 (dk_at dksX1_finds_3 21 rfl rfl)
theorem dX1_finds_96 : decode cX1_finds 96 = .ok (.iconst 1, 1) := dk_4 (dk_at dksX1_finds_4 0 rfl rfl)
theorem dX1_finds_97 : decode cX1_finds 97 = .ok (.aload_n 0, 1) := dk_42 (dk_at dksX1_finds_4 1 rfl rfl)
theorem dX1_finds_98 : decode cX1_finds 98 = .ok (.getfield 51, 3) := dk_180 0 51 (dk_at dksX1_finds_4 2 rfl rfl)
theorem dX1_finds_101 : decode cX1_finds 101 = .ok (.iload 6, 2) := dk_21 6 (dk_at dksX1_finds_4 5 rfl rfl)
theorem dX1_finds_103 : decode cX1_finds 103 = .ok (.iaload, 1) := dk_46 (dk_at dksX1_finds_4 7 rfl rfl)
theorem dX1_finds_104 : decode cX1_finds 104 = .ok (.aload_n 0, 1) := dk_42 (dk_at dksX1_finds_4 8 rfl rfl)
theorem dX1_finds_105 : decode cX1_finds 105 = .ok (.getfield 51, 3) := dk_180 0 51 (dk_at dksX1_finds_4 9 rfl rfl)
theorem dX1_finds_108 : decode cX1_finds 108 = .ok (.iload 7, 2) := dk_21 7 (dk_at dksX1_finds_4 12 rfl rfl)
theorem dX1_finds_110 : decode cX1_finds 110 = .ok (.iaload, 1) := dk_46 (dk_at dksX1_finds_4 14 rfl rfl)
theorem dX1_finds_111 : decode cX1_finds 111 = .ok (.if_icmp .le 13, 3) := dk_164 0 13 (dk_at dksX1_finds_4 15 rfl rfl)
theorem dX1_finds_114 : decode cX1_finds 114 = .ok (.aload_n 0, 1) := dk_42 (dk_at dksX1_finds_4 18 rfl rfl)
theorem dX1_finds_115 : decode cX1_finds 115 = .ok (.getfield 51, 3) := dk_180 0 51 (dk_at dksX1_finds_4 19 rfl rfl)
theorem dX1_finds_118 : decode cX1_finds 118 = .ok (.iload 6, 2) := dk_21 6 (dk_at dksX1_finds_4 22 rfl rfl)
theorem dX1_finds_120 : decode cX1_finds 120 = .ok (.iaload, 1) := dk_46 (dk_at dksX1_finds_5 0 rfl rfl)
theorem dX1_finds_121 : decode cX1_finds 121 = .ok (.goto 10, 3) := dk_167 0 10 (dk_at dksX1_finds_5 1 rfl rfl)
theorem dX1_finds_124 : decode cX1_finds 124 = .ok (.aload_n 0, 1) := dk_42 (dk_at dksX1_finds_5 4 rfl rfl)
theorem dX1_finds_125 : decode cX1_finds 125 = .ok (.getfield 51, 3) := dk_180 0 51 (dk_at dksX1_finds_5 5 rfl rfl)
theorem dX1_finds_128 : decode cX1_finds 128 = .ok (.iload 7, 2) := dk_21 7 (dk_at dksX1_finds_5 8 rfl rfl)
theorem dX1_finds_130 : decode cX1_finds 130 = .ok (.iaload, 1) := dk_46 (dk_at dksX1_finds_5 10 rfl rfl)
theorem dX1_finds_131 : decode cX1_finds 131 = .ok (.iadd, 1) := dk_96 (dk_at dksX1_finds_5 11 rfl rfl)
theorem dX1_finds_132 : decode cX1_finds 132 = .ok (.istore 8, 2) := dk_54 8 (dk_at dksX1_finds_5 12 rfl rfl)
theorem dX1_finds_134 : decode cX1_finds 134 = .ok (.iload 8, 2) := dk_21 8 (dk_at dksX1_finds_5 14 rfl rfl)
theorem dX1_finds_136 : decode cX1_finds 136 = .ok (.iload_n 3, 1) := dk_29 (dk_at dksX1_finds_5 16 rfl rfl)
theorem dX1_finds_137 : decode cX1_finds 137 = .ok (.if_icmp .ge 8, 3) := dk_162 0 8 (dk_at dksX1_finds_5 17 rfl rfl)
theorem dX1_finds_140 : decode cX1_finds 140 = .ok (.iload 5, 2) := dk_21 5 (dk_at dksX1_finds_5 20 rfl rfl)
theorem dX1_finds_142 : decode cX1_finds 142 = .ok (.goto 5, 3) := dk_167 0 5 (dk_at dksX1_finds_6 0 rfl rfl)
theorem dX1_finds_145 : decode cX1_finds 145 = .ok (.iload 4, 2) := dk_21 4 (dk_at dksX1_finds_6 3 rfl rfl)
theorem dX1_finds_147 : decode cX1_finds 147 = .ok (.istore 4, 2) := dk_54 4 (dk_at dksX1_finds_6 5 rfl rfl)
theorem dX1_finds_149 : decode cX1_finds 149 = .ok (.iload 8, 2) := dk_21 8 (dk_at dksX1_finds_6 7 rfl rfl)
theorem dX1_finds_151 : decode cX1_finds 151 = .ok (.iload_n 3, 1) := dk_29 (dk_at dksX1_finds_6 9 rfl rfl)
theorem dX1_finds_152 : decode cX1_finds 152 = .ok (.if_icmp .ge 8, 3) := dk_162 0 8 (dk_at dksX1_finds_6 10 rfl rfl)
theorem dX1_finds_155 : decode cX1_finds 155 = .ok (.iload 8, 2) := dk_21 8 (dk_at dksX1_finds_6 13 rfl rfl)
theorem dX1_finds_157 : decode cX1_finds 157 = .ok (.goto 4, 3) := dk_167 0 4 (dk_at dksX1_finds_6 15 rfl rfl)
theorem dX1_finds_160 : decode cX1_finds 160 = .ok (.iload_n 3, 1) := dk_29 (dk_at dksX1_finds_6 18 rfl rfl)
theorem dX1_finds_161 : decode cX1_finds 161 = .ok (.istore_n 3, 1) := dk_62 (dk_at dksX1_finds_6 19 rfl rfl)
theorem dX1_finds_162 : decode cX1_finds 162 = .ok (.iinc 5 1, 3) := dk_132 5 1 (dk_at dksX1_finds_6 20 rfl rfl)
theorem dX1_finds_165 : decode cX1_finds 165 = .ok (.goto (-115), 3) := dk_167 255 141 (dk_at dksX1_finds_7 0 rfl rfl)
theorem dX1_finds_168 : decode cX1_finds 168 = .ok (.aload_n 0, 1) := dk_42 (dk_at dksX1_finds_7 3 rfl rfl)
theorem dX1_finds_169 : decode cX1_finds 169 = .ok (.getfield 51, 3) := dk_180 0 51 (dk_at dksX1_finds_7 4 rfl rfl)
theorem dX1_finds_172 : decode cX1_finds 172 = .ok (.iload_n 2, 1) := dk_28 (dk_at dksX1_finds_7 7 rfl rfl)
theorem dX1_finds_173 : decode cX1_finds 173 = .ok (.iload_n 3, 1) := dk_29 (dk_at dksX1_finds_7 8 rfl rfl)
theorem dX1_finds_174 : decode cX1_finds 174 = .ok (.iastore, 1) := dk_79 (dk_at dksX1_finds_7 9 rfl rfl)
theorem dX1_finds_175 : decode cX1_finds 175 = .ok (.aload_n 0, 1) := dk_42 (dk_at dksX1_finds_7 10 rfl rfl)
theorem dX1_finds_176 : decode cX1_finds 176 = .ok (.getfield 54, 3) := dk_180 0 54 (dk_at dksX1_finds_7 11 rfl rfl)
theorem dX1_finds_179 : decode cX1_finds 179 = .ok (.iload_n 2, 1) := dk_28 (dk_at dksX1_finds_7 14 rfl rfl)
theorem dX1_finds_180 : decode cX1_finds 180 = .ok (.iload 4, 2) := dk_21 4 (dk_at dksX1_finds_7 15 rfl rfl)
theorem dX1_finds_182 : decode cX1_finds 182 = .ok (.iastore, 1) := dk_79 (dk_at dksX1_finds_7 17 rfl rfl)
theorem dX1_finds_183 : decode cX1_finds 183 = .ok (.iinc 2 1, 3) := dk_132 2 1 (dk_at dksX1_finds_7 18 rfl rfl)
theorem dX1_finds_186 : decode cX1_finds 186 = .ok (.goto (-162), 3) := dk_167 255 94 (dk_at dksX1_finds_7 21 rfl rfl)
theorem dX1_finds_189 : decode cX1_finds 189 = .ok (.aload_n 0, 1) := dk_42 (dk_at dksX1_finds_8 0 rfl rfl)
theorem dX1_finds_190 : decode cX1_finds 190 = .ok (.getfield 51, 3) := dk_180 0 51 (dk_at dksX1_finds_8 1 rfl rfl)
theorem dX1_finds_193 : decode cX1_finds 193 = .ok (.iload_n 1, 1) := dk_27 (dk_at dksX1_finds_8 4 rfl rfl)
theorem dX1_finds_194 : decode cX1_finds 194 = .ok (.iaload, 1) := dk_46 (dk_at dksX1_finds_8 5 rfl rfl)
theorem dX1_finds_195 : decode cX1_finds 195 = .ok (.bipush 99, 2) := dk_16 99 (dk_at dksX1_finds_8 6 rfl rfl)
theorem dX1_finds_197 : decode cX1_finds 197 = .ok (.if_icmp .lt 6, 3) := dk_161 0 6 (dk_at dksX1_finds_8 8 rfl rfl)
theorem dX1_finds_200 : decode cX1_finds 200 = .ok (.bipush (-9), 2) := dk_16 247 (dk_at dksX1_finds_8 11 rfl rfl)
theorem dX1_finds_202 : decode cX1_finds 202 = .ok (.ireturn, 1) := dk_172 (dk_at dksX1_finds_8 13 rfl rfl)
theorem dX1_finds_203 : decode cX1_finds 203 = .ok (.aload_n 0, 1) := dk_42 (dk_at dksX1_finds_8 14 rfl rfl)
theorem dX1_finds_204 : decode cX1_finds 204 = .ok (.aload_n 0, 1) := dk_42 (dk_at dksX1_finds_8 15 rfl rfl)
theorem dX1_finds_205 : decode cX1_finds 205 = .ok (.getfield 54, 3) := dk_180 0 54 (dk_at dksX1_finds_8 16 rfl rfl)
theorem dX1_finds_208 : decode cX1_finds 208 = .ok (.iload_n 1, 1) := dk_27 (dk_at dksX1_finds_8 19 rfl rfl)
theorem dX1_finds_209 : decode cX1_finds 209 = .ok (.iaload, 1) := dk_46 (dk_at dksX1_finds_8 20 rfl rfl)
theorem dX1_finds_210 : decode cX1_finds 210 = .ok (.invokevirtual 80, 3) := dk_182 0 80 (dk_at dksX1_finds_8 21 rfl rfl)
theorem dX1_finds_213 : decode cX1_finds 213 = .ok (.istore_n 2, 1) := dk_61 (dk_at dksX1_finds_9 0 rfl rfl)
theorem dX1_finds_214 : decode cX1_finds 214 = .ok (.aload_n 0, 1) := dk_42 (dk_at dksX1_finds_9 1 rfl rfl)
theorem dX1_finds_215 : decode cX1_finds 215 = .ok (.getfield 51, 3) := dk_180 0 51 (dk_at dksX1_finds_9 2 rfl rfl)
theorem dX1_finds_218 : decode cX1_finds 218 = .ok (.iload_n 1, 1) := dk_27 (dk_at dksX1_finds_9 5 rfl rfl)
theorem dX1_finds_219 : decode cX1_finds 219 = .ok (.iaload, 1) := dk_46 (dk_at dksX1_finds_9 6 rfl rfl)
theorem dX1_finds_220 : decode cX1_finds 220 = .ok (.ireturn, 1) := dk_172 (dk_at dksX1_finds_9 7 rfl rfl)
abbrev cX1_isOne : ByteArray := prog_10_method_67_code
def yX1_isOne : MethodName := ⟨RX1, "isOne", "(I)Z"⟩
def dkwX1_isOne_0 : List UInt8 := [26, 26, 4, 100, 126, 154, 0, 7, 4, 167, 0, 4, 3, 172]
abbrev dktX1_isOne_0 : List UInt8 := dkwX1_isOne_0 ++ []
theorem dksX1_isOne_0 : cX1_isOne.data.toList.drop 0 = dktX1_isOne_0 := by decide +kernel
theorem dX1_isOne_0 : decode cX1_isOne 0 = .ok (.iload_n 0, 1) := dk_26 (dk_at dksX1_isOne_0 0 rfl rfl)
theorem dX1_isOne_1 : decode cX1_isOne 1 = .ok (.iload_n 0, 1) := dk_26 (dk_at dksX1_isOne_0 1 rfl rfl)
theorem dX1_isOne_2 : decode cX1_isOne 2 = .ok (.iconst 1, 1) := dk_4 (dk_at dksX1_isOne_0 2 rfl rfl)
theorem dX1_isOne_3 : decode cX1_isOne 3 = .ok (.isub, 1) := dk_100 (dk_at dksX1_isOne_0 3 rfl rfl)
theorem dX1_isOne_4 : decode cX1_isOne 4 = .ok (.iand, 1) := dk_126 (dk_at dksX1_isOne_0 4 rfl rfl)
theorem dX1_isOne_5 : decode cX1_isOne 5 = .ok (.ifCond .ne 7, 3) := dk_154 0 7 (dk_at dksX1_isOne_0 5 rfl rfl)
theorem dX1_isOne_8 : decode cX1_isOne 8 = .ok (.iconst 1, 1) := dk_4 (dk_at dksX1_isOne_0 8 rfl rfl)
theorem dX1_isOne_9 : decode cX1_isOne 9 = .ok (.goto 4, 3) := dk_167 0 4 (dk_at dksX1_isOne_0 9 rfl rfl)
theorem dX1_isOne_12 : decode cX1_isOne 12 = .ok (.iconst 0, 1) := dk_3 (dk_at dksX1_isOne_0 12 rfl rfl)
theorem dX1_isOne_13 : decode cX1_isOne 13 = .ok (.ireturn, 1) := dk_172 (dk_at dksX1_isOne_0 13 rfl rfl)
abbrev cX1_left : ByteArray := prog_10_method_69_code
def yX1_left : MethodName := ⟨RX1, "left", "(I)I"⟩
def dkwX1_left_6 : List UInt8 := [61, 132, 3, 2, 167, 255, 163, 28, 172]
abbrev dktX1_left_6 : List UInt8 := dkwX1_left_6 ++ []
def dkwX1_left_5 : List UInt8 := [21, 5, 4, 160, 0, 12, 42, 21, 4, 182, 0, 198, 167, 0, 11, 42, 21, 4, 182, 0, 198, 2, 130, 126]
abbrev dktX1_left_5 : List UInt8 := dkwX1_left_5 ++ dktX1_left_6
def dkwX1_left_4 : List UInt8 := [182, 0, 136, 153, 0, 14, 21, 5, 133, 9, 10, 184, 0, 66, 154, 0, 9, 42, 6, 182, 0, 76, 172, 28]
abbrev dktX1_left_4 : List UInt8 := dkwX1_left_4 ++ dktX1_left_5
def dkwX1_left_3 : List UInt8 := [104, 29, 96, 46, 54, 4, 42, 180, 0, 13, 16, 40, 27, 104, 29, 96, 4, 96, 46, 54, 5, 42, 21, 4]
abbrev dktX1_left_3 : List UInt8 := dkwX1_left_3 ++ dktX1_left_4
def dkwX1_left_2 : List UInt8 := [46, 120, 4, 100, 61, 3, 62, 29, 42, 180, 0, 7, 27, 46, 162, 0, 89, 42, 180, 0, 13, 16, 40, 27]
abbrev dktX1_left_2 : List UInt8 := dkwX1_left_2 ++ dktX1_left_3
def dkwX1_left_1 : List UInt8 := [42, 180, 0, 7, 27, 46, 5, 112, 4, 160, 0, 9, 42, 8, 182, 0, 76, 172, 4, 42, 180, 0, 22, 3]
abbrev dktX1_left_1 : List UInt8 := dkwX1_left_1 ++ dktX1_left_2
def dkwX1_left_0 : List UInt8 := [27, 184, 0, 72, 154, 0, 5, 2, 172, 42, 180, 0, 7, 27, 46, 156, 0, 9, 42, 4, 182, 0, 76, 172]
abbrev dktX1_left_0 : List UInt8 := dkwX1_left_0 ++ dktX1_left_1
theorem dksX1_left_0 : cX1_left.data.toList.drop 0 = dktX1_left_0 := by decide +kernel
theorem dksX1_left_1 : cX1_left.data.toList.drop 24 = dktX1_left_1 := dk_seg dksX1_left_0 24 rfl rfl
theorem dksX1_left_2 : cX1_left.data.toList.drop 48 = dktX1_left_2 := dk_seg dksX1_left_1 24 rfl rfl
theorem dksX1_left_3 : cX1_left.data.toList.drop 72 = dktX1_left_3 := dk_seg dksX1_left_2 24 rfl rfl
theorem dksX1_left_4 : cX1_left.data.toList.drop 96 = dktX1_left_4 := dk_seg dksX1_left_3 24 rfl rfl
theorem dksX1_left_5 : cX1_left.data.toList.drop 120 = dktX1_left_5 := dk_seg dksX1_left_4 24 rfl rfl
theorem dksX1_left_6 : cX1_left.data.toList.drop 144 = dktX1_left_6 := dk_seg dksX1_left_5 24 rfl rfl
theorem dX1_left_0 : decode cX1_left 0 = .ok (.iload_n 1, 1) := dk_27 (dk_at dksX1_left_0 0 rfl rfl)
theorem dX1_left_1 : decode cX1_left 1 = .ok (.invokestatic 72, 3) := dk_184 0 72 (dk_at dksX1_left_0 1 rfl rfl)
theorem dX1_left_4 : decode cX1_left 4 = .ok (.ifCond .ne 5, 3) := dk_154 0 5 (dk_at dksX1_left_0 4 rfl rfl)
theorem dX1_left_7 : decode cX1_left 7 = .ok (.iconst (-1), 1) := dk_2 (dk_at dksX1_left_0 7 rfl rfl)
theorem dX1_left_8 : decode cX1_left 8 = .ok (.ireturn, 1) := dk_172 (dk_at dksX1_left_0 8 rfl rfl)
theorem dX1_left_9 : decode cX1_left 9 = .ok (.aload_n 0, 1) := dk_42 (dk_at dksX1_left_0 9 rfl rfl)
theorem dX1_left_10 : decode cX1_left 10 = .ok (.getfield 7, 3) := dk_180 0 7 (dk_at dksX1_left_0 10 rfl rfl)
theorem dX1_left_13 : decode cX1_left 13 = .ok (.iload_n 1, 1) := dk_27 (dk_at dksX1_left_0 13 rfl rfl)
theorem dX1_left_14 : decode cX1_left 14 = .ok (.iaload, 1) := dk_46 (dk_at dksX1_left_0 14 rfl rfl)
theorem dX1_left_15 : decode cX1_left 15 = .ok (.ifCond .ge 9, 3) := dk_156 0 9 (dk_at dksX1_left_0 15 rfl rfl)
theorem dX1_left_18 : decode cX1_left 18 = .ok (.aload_n 0, 1) := dk_42 (dk_at dksX1_left_0 18 rfl rfl)
theorem dX1_left_19 : decode cX1_left 19 = .ok (.iconst 1, 1) := dk_4 (dk_at dksX1_left_0 19 rfl rfl)
theorem dX1_left_20 : decode cX1_left 20 = .ok (.invokevirtual 76, 3) := dk_182 0 76 (dk_at dksX1_left_0 20 rfl rfl)
theorem dX1_left_23 : decode cX1_left 23 = .ok (.ireturn, 1) := dk_172 (dk_at dksX1_left_0 23 rfl rfl)
theorem dX1_left_24 : decode cX1_left 24 = .ok (.aload_n 0, 1) := dk_42 (dk_at dksX1_left_1 0 rfl rfl)
theorem dX1_left_25 : decode cX1_left 25 = .ok (.getfield 7, 3) := dk_180 0 7 (dk_at dksX1_left_1 1 rfl rfl)
theorem dX1_left_28 : decode cX1_left 28 = .ok (.iload_n 1, 1) := dk_27 (dk_at dksX1_left_1 4 rfl rfl)
theorem dX1_left_29 : decode cX1_left 29 = .ok (.iaload, 1) := dk_46 (dk_at dksX1_left_1 5 rfl rfl)
theorem dX1_left_30 : decode cX1_left 30 = .ok (.iconst 2, 1) := dk_5 (dk_at dksX1_left_1 6 rfl rfl)
theorem dX1_left_31 : decode cX1_left 31 = .ok (.irem, 1) := dk_112 (dk_at dksX1_left_1 7 rfl rfl)
theorem dX1_left_32 : decode cX1_left 32 = .ok (.iconst 1, 1) := dk_4 (dk_at dksX1_left_1 8 rfl rfl)
theorem dX1_left_33 : decode cX1_left 33 = .ok (.if_icmp .ne 9, 3) := dk_160 0 9 (dk_at dksX1_left_1 9 rfl rfl)
theorem dX1_left_36 : decode cX1_left 36 = .ok (.aload_n 0, 1) := dk_42 (dk_at dksX1_left_1 12 rfl rfl)
theorem dX1_left_37 : decode cX1_left 37 = .ok (.iconst 5, 1) := dk_8 (dk_at dksX1_left_1 13 rfl rfl)
theorem dX1_left_38 : decode cX1_left 38 = .ok (.invokevirtual 76, 3) := dk_182 0 76 (dk_at dksX1_left_1 14 rfl rfl)
theorem dX1_left_41 : decode cX1_left 41 = .ok (.ireturn, 1) := dk_172 (dk_at dksX1_left_1 17 rfl rfl)
theorem dX1_left_42 : decode cX1_left 42 = .ok (.iconst 1, 1) := dk_4 (dk_at dksX1_left_1 18 rfl rfl)
theorem dX1_left_43 : decode cX1_left 43 = .ok (.aload_n 0, 1) := dk_42 (dk_at dksX1_left_1 19 rfl rfl)
theorem dX1_left_44 : decode cX1_left 44 = .ok (.getfield 22, 3) := dk_180 0 22 (dk_at dksX1_left_1 20 rfl rfl)
theorem dX1_left_47 : decode cX1_left 47 = .ok (.iconst 0, 1) := dk_3 (dk_at dksX1_left_1 23 rfl rfl)
theorem dX1_left_48 : decode cX1_left 48 = .ok (.iaload, 1) := dk_46 (dk_at dksX1_left_2 0 rfl rfl)
theorem dX1_left_49 : decode cX1_left 49 = .ok (.ishl, 1) := dk_120 (dk_at dksX1_left_2 1 rfl rfl)
theorem dX1_left_50 : decode cX1_left 50 = .ok (.iconst 1, 1) := dk_4 (dk_at dksX1_left_2 2 rfl rfl)
theorem dX1_left_51 : decode cX1_left 51 = .ok (.isub, 1) := dk_100 (dk_at dksX1_left_2 3 rfl rfl)
theorem dX1_left_52 : decode cX1_left 52 = .ok (.istore_n 2, 1) := dk_61 (dk_at dksX1_left_2 4 rfl rfl)
theorem dX1_left_53 : decode cX1_left 53 = .ok (.iconst 0, 1) := dk_3 (dk_at dksX1_left_2 5 rfl rfl)
theorem dX1_left_54 : decode cX1_left 54 = .ok (.istore_n 3, 1) := dk_62 (dk_at dksX1_left_2 6 rfl rfl)
theorem dX1_left_55 : decode cX1_left 55 = .ok (.iload_n 3, 1) := dk_29 (dk_at dksX1_left_2 7 rfl rfl)
theorem dX1_left_56 : decode cX1_left 56 = .ok (.aload_n 0, 1) := dk_42 (dk_at dksX1_left_2 8 rfl rfl)
theorem dX1_left_57 : decode cX1_left 57 = .ok (.getfield 7, 3) := dk_180 0 7 (dk_at dksX1_left_2 9 rfl rfl)
theorem dX1_left_60 : decode cX1_left 60 = .ok (.iload_n 1, 1) := dk_27 (dk_at dksX1_left_2 12 rfl rfl)
theorem dX1_left_61 : decode cX1_left 61 = .ok (.iaload, 1) := dk_46 (dk_at dksX1_left_2 13 rfl rfl)
theorem dX1_left_62 : decode cX1_left 62 = .ok (.if_icmp .ge 89, 3) := dk_162 0 89 (dk_at dksX1_left_2 14 rfl rfl)
theorem dX1_left_65 : decode cX1_left 65 = .ok (.aload_n 0, 1) := dk_42 (dk_at dksX1_left_2 17 rfl rfl)
theorem dX1_left_66 : decode cX1_left 66 = .ok (.getfield 13, 3) := dk_180 0 13 (dk_at dksX1_left_2 18 rfl rfl)
theorem dX1_left_69 : decode cX1_left 69 = .ok (.bipush 40, 2) := dk_16 40 (dk_at dksX1_left_2 21 rfl rfl)
theorem dX1_left_71 : decode cX1_left 71 = .ok (.iload_n 1, 1) := dk_27 (dk_at dksX1_left_2 23 rfl rfl)
theorem dX1_left_72 : decode cX1_left 72 = .ok (.imul, 1) := dk_104 (dk_at dksX1_left_3 0 rfl rfl)
theorem dX1_left_73 : decode cX1_left 73 = .ok (.iload_n 3, 1) := dk_29 (dk_at dksX1_left_3 1 rfl rfl)
theorem dX1_left_74 : decode cX1_left 74 = .ok (.iadd, 1) := dk_96 (dk_at dksX1_left_3 2 rfl rfl)
theorem dX1_left_75 : decode cX1_left 75 = .ok (.iaload, 1) := dk_46 (dk_at dksX1_left_3 3 rfl rfl)
theorem dX1_left_76 : decode cX1_left 76 = .ok (.istore 4, 2) := dk_54 4 (dk_at dksX1_left_3 4 rfl rfl)
theorem dX1_left_78 : decode cX1_left 78 = .ok (.aload_n 0, 1) := dk_42 (dk_at dksX1_left_3 6 rfl rfl)
theorem dX1_left_79 : decode cX1_left 79 = .ok (.getfield 13, 3) := dk_180 0 13 (dk_at dksX1_left_3 7 rfl rfl)
theorem dX1_left_82 : decode cX1_left 82 = .ok (.bipush 40, 2) := dk_16 40 (dk_at dksX1_left_3 10 rfl rfl)
theorem dX1_left_84 : decode cX1_left 84 = .ok (.iload_n 1, 1) := dk_27 (dk_at dksX1_left_3 12 rfl rfl)
theorem dX1_left_85 : decode cX1_left 85 = .ok (.imul, 1) := dk_104 (dk_at dksX1_left_3 13 rfl rfl)
theorem dX1_left_86 : decode cX1_left 86 = .ok (.iload_n 3, 1) := dk_29 (dk_at dksX1_left_3 14 rfl rfl)
theorem dX1_left_87 : decode cX1_left 87 = .ok (.iadd, 1) := dk_96 (dk_at dksX1_left_3 15 rfl rfl)
theorem dX1_left_88 : decode cX1_left 88 = .ok (.iconst 1, 1) := dk_4 (dk_at dksX1_left_3 16 rfl rfl)
theorem dX1_left_89 : decode cX1_left 89 = .ok (.iadd, 1) := dk_96 (dk_at dksX1_left_3 17 rfl rfl)
theorem dX1_left_90 : decode cX1_left 90 = .ok (.iaload, 1) := dk_46 (dk_at dksX1_left_3 18 rfl rfl)
theorem dX1_left_91 : decode cX1_left 91 = .ok (.istore 5, 2) := dk_54 5 (dk_at dksX1_left_3 19 rfl rfl)
theorem dX1_left_93 : decode cX1_left 93 = .ok (.aload_n 0, 1) := dk_42 (dk_at dksX1_left_3 21 rfl rfl)
theorem dX1_left_94 : decode cX1_left 94 = .ok (.iload 4, 2) := dk_21 4 (dk_at dksX1_left_3 22 rfl rfl)
theorem dX1_left_96 : decode cX1_left 96 = .ok (.invokevirtual 136, 3) := dk_182 0 136 (dk_at dksX1_left_4 0 rfl rfl)
theorem dX1_left_99 : decode cX1_left 99 = .ok (.ifCond .eq 14, 3) := dk_153 0 14 (dk_at dksX1_left_4 3 rfl rfl)
theorem dX1_left_102 : decode cX1_left 102 = .ok (.iload 5, 2) := dk_21 5 (dk_at dksX1_left_4 6 rfl rfl)
theorem dX1_left_104 : decode cX1_left 104 = .ok (.i2l, 1) := dk_133 (dk_at dksX1_left_4 8 rfl rfl)
theorem dX1_left_105 : decode cX1_left 105 = .ok (.lconst 0, 1) := dk_9 (dk_at dksX1_left_4 9 rfl rfl)
theorem dX1_left_106 : decode cX1_left 106 = .ok (.lconst 1, 1) := dk_10 (dk_at dksX1_left_4 10 rfl rfl)
theorem dX1_left_107 : decode cX1_left 107 = .ok (.invokestatic 66, 3) := dk_184 0 66 (dk_at dksX1_left_4 11 rfl rfl)
theorem dX1_left_110 : decode cX1_left 110 = .ok (.ifCond .ne 9, 3) := dk_154 0 9 (dk_at dksX1_left_4 14 rfl rfl)
theorem dX1_left_113 : decode cX1_left 113 = .ok (.aload_n 0, 1) := dk_42 (dk_at dksX1_left_4 17 rfl rfl)
theorem dX1_left_114 : decode cX1_left 114 = .ok (.iconst 3, 1) := dk_6 (dk_at dksX1_left_4 18 rfl rfl)
theorem dX1_left_115 : decode cX1_left 115 = .ok (.invokevirtual 76, 3) := dk_182 0 76 (dk_at dksX1_left_4 19 rfl rfl)
theorem dX1_left_118 : decode cX1_left 118 = .ok (.ireturn, 1) := dk_172 (dk_at dksX1_left_4 22 rfl rfl)
theorem dX1_left_119 : decode cX1_left 119 = .ok (.iload_n 2, 1) := dk_28 (dk_at dksX1_left_4 23 rfl rfl)
theorem dX1_left_120 : decode cX1_left 120 = .ok (.iload 5, 2) := dk_21 5 (dk_at dksX1_left_5 0 rfl rfl)
theorem dX1_left_122 : decode cX1_left 122 = .ok (.iconst 1, 1) := dk_4 (dk_at dksX1_left_5 2 rfl rfl)
theorem dX1_left_123 : decode cX1_left 123 = .ok (.if_icmp .ne 12, 3) := dk_160 0 12 (dk_at dksX1_left_5 3 rfl rfl)
theorem dX1_left_126 : decode cX1_left 126 = .ok (.aload_n 0, 1) := dk_42 (dk_at dksX1_left_5 6 rfl rfl)
theorem dX1_left_127 : decode cX1_left 127 = .ok (.iload 4, 2) := dk_21 4 (dk_at dksX1_left_5 7 rfl rfl)
theorem dX1_left_129 : decode cX1_left 129 = .ok (.invokevirtual 198, 3) := dk_182 0 198 (dk_at dksX1_left_5 9 rfl rfl)
theorem dX1_left_132 : decode cX1_left 132 = .ok (.goto 11, 3) := dk_167 0 11 (dk_at dksX1_left_5 12 rfl rfl)
theorem dX1_left_135 : decode cX1_left 135 = .ok (.aload_n 0, 1) := dk_42 (dk_at dksX1_left_5 15 rfl rfl)
theorem dX1_left_136 : decode cX1_left 136 = .ok (.iload 4, 2) := dk_21 4 (dk_at dksX1_left_5 16 rfl rfl)
theorem dX1_left_138 : decode cX1_left 138 = .ok (.invokevirtual 198, 3) := dk_182 0 198 (dk_at dksX1_left_5 18 rfl rfl)
theorem dX1_left_141 : decode cX1_left 141 = .ok (.iconst (-1), 1) := dk_2 (dk_at dksX1_left_5 21 rfl rfl)
theorem dX1_left_142 : decode cX1_left 142 = .ok (.ixor, 1) := dk_130 (dk_at dksX1_left_5 22 rfl rfl)
theorem dX1_left_143 : decode cX1_left 143 = .ok (.iand, 1) := dk_126 (dk_at dksX1_left_5 23 rfl rfl)
theorem dX1_left_144 : decode cX1_left 144 = .ok (.istore_n 2, 1) := dk_61 (dk_at dksX1_left_6 0 rfl rfl)
theorem dX1_left_145 : decode cX1_left 145 = .ok (.iinc 3 2, 3) := dk_132 3 2 (dk_at dksX1_left_6 1 rfl rfl)
theorem dX1_left_148 : decode cX1_left 148 = .ok (.goto (-93), 3) := dk_167 255 163 (dk_at dksX1_left_6 4 rfl rfl)
theorem dX1_left_151 : decode cX1_left 151 = .ok (.iload_n 2, 1) := dk_28 (dk_at dksX1_left_6 7 rfl rfl)
theorem dX1_left_152 : decode cX1_left 152 = .ok (.ireturn, 1) := dk_172 (dk_at dksX1_left_6 8 rfl rfl)
abbrev cX1_forged : ByteArray := prog_10_method_70_code
def yX1_forged : MethodName := ⟨RX1, "forged", "()I"⟩
def dkwX1_forged_4 : List UInt8 := [160, 0, 7, 3, 167, 0, 8, 42, 28, 182, 0, 80, 62, 27, 172]
abbrev dktX1_forged_4 : List UInt8 := dkwX1_forged_4 ++ []
def dkwX1_forged_3 : List UInt8 := [60, 21, 4, 28, 164, 0, 8, 21, 4, 167, 0, 4, 28, 61, 132, 3, 1, 167, 255, 175, 27, 16, 247]
abbrev dktX1_forged_3 : List UInt8 := dkwX1_forged_3 ++ dktX1_forged_4
def dkwX1_forged_2 : List UInt8 := [167, 0, 4, 3, 96, 54, 4, 132, 5, 1, 167, 255, 222, 21, 4, 28, 164, 0, 7, 29, 167, 0, 4, 27]
abbrev dktX1_forged_2 : List UInt8 := dkwX1_forged_2 ++ dktX1_forged_3
def dkwX1_forged_1 : List UInt8 := [21, 5, 42, 180, 0, 22, 4, 46, 162, 0, 29, 21, 4, 42, 21, 5, 29, 182, 0, 139, 153, 0, 7, 4]
abbrev dktX1_forged_1 : List UInt8 := dkwX1_forged_1 ++ dktX1_forged_2
def dkwX1_forged_0 : List UInt8 := [16, 247, 60, 2, 61, 3, 62, 29, 42, 180, 0, 22, 3, 46, 162, 0, 77, 3, 54, 4, 3, 54, 5]
abbrev dktX1_forged_0 : List UInt8 := dkwX1_forged_0 ++ dktX1_forged_1
theorem dksX1_forged_0 : cX1_forged.data.toList.drop 0 = dktX1_forged_0 := by decide +kernel
theorem dksX1_forged_1 : cX1_forged.data.toList.drop 23 = dktX1_forged_1 := dk_seg dksX1_forged_0 23 rfl rfl
theorem dksX1_forged_2 : cX1_forged.data.toList.drop 47 = dktX1_forged_2 := dk_seg dksX1_forged_1 24 rfl rfl
theorem dksX1_forged_3 : cX1_forged.data.toList.drop 71 = dktX1_forged_3 := dk_seg dksX1_forged_2 24 rfl rfl
theorem dksX1_forged_4 : cX1_forged.data.toList.drop 94 = dktX1_forged_4 := dk_seg dksX1_forged_3 23 rfl rfl
theorem dX1_forged_0 : decode cX1_forged 0 = .ok (.bipush (-9), 2) := dk_16 247 (dk_at dksX1_forged_0 0 rfl rfl)
theorem dX1_forged_2 : decode cX1_forged 2 = .ok (.istore_n 1, 1) := dk_60 (dk_at dksX1_forged_0 2 rfl rfl)
theorem dX1_forged_3 : decode cX1_forged 3 = .ok (.iconst (-1), 1) := dk_2 (dk_at dksX1_forged_0 3 rfl rfl)
theorem dX1_forged_4 : decode cX1_forged 4 = .ok (.istore_n 2, 1) := dk_61 (dk_at dksX1_forged_0 4 rfl rfl)
theorem dX1_forged_5 : decode cX1_forged 5 = .ok (.iconst 0, 1) := dk_3 (dk_at dksX1_forged_0 5 rfl rfl)
theorem dX1_forged_6 : decode cX1_forged 6 = .ok (.istore_n 3, 1) := dk_62 (dk_at dksX1_forged_0 6 rfl rfl)
theorem dX1_forged_7 : decode cX1_forged 7 = .ok (.iload_n 3, 1) := dk_29 (dk_at dksX1_forged_0 7 rfl rfl)
theorem dX1_forged_8 : decode cX1_forged 8 = .ok (.aload_n 0, 1) := dk_42 (dk_at dksX1_forged_0 8 rfl rfl)
theorem dX1_forged_9 : decode cX1_forged 9 = .ok (.getfield 22, 3) := dk_180 0 22 (dk_at dksX1_forged_0 9 rfl rfl)
theorem dX1_forged_12 : decode cX1_forged 12 = .ok (.iconst 0, 1) := dk_3 (dk_at dksX1_forged_0 12 rfl rfl)
theorem dX1_forged_13 : decode cX1_forged 13 = .ok (.iaload, 1) := dk_46 (dk_at dksX1_forged_0 13 rfl rfl)
theorem dX1_forged_14 : decode cX1_forged 14 = .ok (.if_icmp .ge 77, 3) := dk_162 0 77 (dk_at dksX1_forged_0 14 rfl rfl)
theorem dX1_forged_17 : decode cX1_forged 17 = .ok (.iconst 0, 1) := dk_3 (dk_at dksX1_forged_0 17 rfl rfl)
theorem dX1_forged_18 : decode cX1_forged 18 = .ok (.istore 4, 2) := dk_54 4 (dk_at dksX1_forged_0 18 rfl rfl)
theorem dX1_forged_20 : decode cX1_forged 20 = .ok (.iconst 0, 1) := dk_3 (dk_at dksX1_forged_0 20 rfl rfl)
theorem dX1_forged_21 : decode cX1_forged 21 = .ok (.istore 5, 2) := dk_54 5 (dk_at dksX1_forged_0 21 rfl rfl)
theorem dX1_forged_23 : decode cX1_forged 23 = .ok (.iload 5, 2) := dk_21 5 (dk_at dksX1_forged_1 0 rfl rfl)
theorem dX1_forged_25 : decode cX1_forged 25 = .ok (.aload_n 0, 1) := dk_42 (dk_at dksX1_forged_1 2 rfl rfl)
theorem dX1_forged_26 : decode cX1_forged 26 = .ok (.getfield 22, 3) := dk_180 0 22 (dk_at dksX1_forged_1 3 rfl rfl)
theorem dX1_forged_29 : decode cX1_forged 29 = .ok (.iconst 1, 1) := dk_4 (dk_at dksX1_forged_1 6 rfl rfl)
theorem dX1_forged_30 : decode cX1_forged 30 = .ok (.iaload, 1) := dk_46 (dk_at dksX1_forged_1 7 rfl rfl)
theorem dX1_forged_31 : decode cX1_forged 31 = .ok (.if_icmp .ge 29, 3) := dk_162 0 29 (dk_at dksX1_forged_1 8 rfl rfl)
theorem dX1_forged_34 : decode cX1_forged 34 = .ok (.iload 4, 2) := dk_21 4 (dk_at dksX1_forged_1 11 rfl rfl)
theorem dX1_forged_36 : decode cX1_forged 36 = .ok (.aload_n 0, 1) := dk_42 (dk_at dksX1_forged_1 13 rfl rfl)
theorem dX1_forged_37 : decode cX1_forged 37 = .ok (.iload 5, 2) := dk_21 5 (dk_at dksX1_forged_1 14 rfl rfl)
theorem dX1_forged_39 : decode cX1_forged 39 = .ok (.iload_n 3, 1) := dk_29 (dk_at dksX1_forged_1 16 rfl rfl)
theorem dX1_forged_40 : decode cX1_forged 40 = .ok (.invokevirtual 139, 3) := dk_182 0 139 (dk_at dksX1_forged_1 17 rfl rfl)
theorem dX1_forged_43 : decode cX1_forged 43 = .ok (.ifCond .eq 7, 3) := dk_153 0 7 (dk_at dksX1_forged_1 20 rfl rfl)
theorem dX1_forged_46 : decode cX1_forged 46 = .ok (.iconst 1, 1) := dk_4 (dk_at dksX1_forged_1 23 rfl rfl)
theorem dX1_forged_47 : decode cX1_forged 47 = .ok (.goto 4, 3) := dk_167 0 4 (dk_at dksX1_forged_2 0 rfl rfl)
theorem dX1_forged_50 : decode cX1_forged 50 = .ok (.iconst 0, 1) := dk_3 (dk_at dksX1_forged_2 3 rfl rfl)
theorem dX1_forged_51 : decode cX1_forged 51 = .ok (.iadd, 1) := dk_96 (dk_at dksX1_forged_2 4 rfl rfl)
theorem dX1_forged_52 : decode cX1_forged 52 = .ok (.istore 4, 2) := dk_54 4 (dk_at dksX1_forged_2 5 rfl rfl)
theorem dX1_forged_54 : decode cX1_forged 54 = .ok (.iinc 5 1, 3) := dk_132 5 1 (dk_at dksX1_forged_2 7 rfl rfl)
theorem dX1_forged_57 : decode cX1_forged 57 = .ok (.goto (-34), 3) := dk_167 255 222 (dk_at dksX1_forged_2 10 rfl rfl)
theorem dX1_forged_60 : decode cX1_forged 60 = .ok (.iload 4, 2) := dk_21 4 (dk_at dksX1_forged_2 13 rfl rfl)
theorem dX1_forged_62 : decode cX1_forged 62 = .ok (.iload_n 2, 1) := dk_28 (dk_at dksX1_forged_2 15 rfl rfl)
theorem dX1_forged_63 : decode cX1_forged 63 = .ok (.if_icmp .le 7, 3) := dk_164 0 7 (dk_at dksX1_forged_2 16 rfl rfl)
theorem dX1_forged_66 : decode cX1_forged 66 = .ok (.iload_n 3, 1) := dk_29 (dk_at dksX1_forged_2 19 rfl rfl)
theorem dX1_forged_67 : decode cX1_forged 67 = .ok (.goto 4, 3) := dk_167 0 4 (dk_at dksX1_forged_2 20 rfl rfl)
theorem dX1_forged_70 : decode cX1_forged 70 = .ok (.iload_n 1, 1) := dk_27 (dk_at dksX1_forged_2 23 rfl rfl)
theorem dX1_forged_71 : decode cX1_forged 71 = .ok (.istore_n 1, 1) := dk_60 (dk_at dksX1_forged_3 0 rfl rfl)
theorem dX1_forged_72 : decode cX1_forged 72 = .ok (.iload 4, 2) := dk_21 4 (dk_at dksX1_forged_3 1 rfl rfl)
theorem dX1_forged_74 : decode cX1_forged 74 = .ok (.iload_n 2, 1) := dk_28 (dk_at dksX1_forged_3 3 rfl rfl)
theorem dX1_forged_75 : decode cX1_forged 75 = .ok (.if_icmp .le 8, 3) := dk_164 0 8 (dk_at dksX1_forged_3 4 rfl rfl)
theorem dX1_forged_78 : decode cX1_forged 78 = .ok (.iload 4, 2) := dk_21 4 (dk_at dksX1_forged_3 7 rfl rfl)
theorem dX1_forged_80 : decode cX1_forged 80 = .ok (.goto 4, 3) := dk_167 0 4 (dk_at dksX1_forged_3 9 rfl rfl)
theorem dX1_forged_83 : decode cX1_forged 83 = .ok (.iload_n 2, 1) := dk_28 (dk_at dksX1_forged_3 12 rfl rfl)
theorem dX1_forged_84 : decode cX1_forged 84 = .ok (.istore_n 2, 1) := dk_61 (dk_at dksX1_forged_3 13 rfl rfl)
theorem dX1_forged_85 : decode cX1_forged 85 = .ok (.iinc 3 1, 3) := dk_132 3 1 (dk_at dksX1_forged_3 14 rfl rfl)
theorem dX1_forged_88 : decode cX1_forged 88 = .ok (.goto (-81), 3) := dk_167 255 175 (dk_at dksX1_forged_3 17 rfl rfl)
theorem dX1_forged_91 : decode cX1_forged 91 = .ok (.iload_n 1, 1) := dk_27 (dk_at dksX1_forged_3 20 rfl rfl)
theorem dX1_forged_92 : decode cX1_forged 92 = .ok (.bipush (-9), 2) := dk_16 247 (dk_at dksX1_forged_3 21 rfl rfl)
theorem dX1_forged_94 : decode cX1_forged 94 = .ok (.if_icmp .ne 7, 3) := dk_160 0 7 (dk_at dksX1_forged_4 0 rfl rfl)
theorem dX1_forged_97 : decode cX1_forged 97 = .ok (.iconst 0, 1) := dk_3 (dk_at dksX1_forged_4 3 rfl rfl)
theorem dX1_forged_98 : decode cX1_forged 98 = .ok (.goto 8, 3) := dk_167 0 8 (dk_at dksX1_forged_4 4 rfl rfl)
theorem dX1_forged_101 : decode cX1_forged 101 = .ok (.aload_n 0, 1) := dk_42 (dk_at dksX1_forged_4 7 rfl rfl)
theorem dX1_forged_102 : decode cX1_forged 102 = .ok (.iload_n 2, 1) := dk_28 (dk_at dksX1_forged_4 8 rfl rfl)
theorem dX1_forged_103 : decode cX1_forged 103 = .ok (.invokevirtual 80, 3) := dk_182 0 80 (dk_at dksX1_forged_4 9 rfl rfl)
theorem dX1_forged_106 : decode cX1_forged 106 = .ok (.istore_n 3, 1) := dk_62 (dk_at dksX1_forged_4 12 rfl rfl)
theorem dX1_forged_107 : decode cX1_forged 107 = .ok (.iload_n 1, 1) := dk_27 (dk_at dksX1_forged_4 13 rfl rfl)
theorem dX1_forged_108 : decode cX1_forged 108 = .ok (.ireturn, 1) := dk_172 (dk_at dksX1_forged_4 14 rfl rfl)
abbrev cX1_beside : ByteArray := prog_10_method_74_code
def yX1_beside : MethodName := ⟨RX1, "beside", "(I)I"⟩
def dkwX1_beside_7 : List UInt8 := [42, 29, 28, 100, 182, 0, 80, 54, 4, 28, 172]
abbrev dktX1_beside_7 : List UInt8 := dkwX1_beside_7 ++ []
def dkwX1_beside_6 : List UInt8 := [21, 5, 21, 4, 182, 0, 204, 184, 0, 207, 96, 61, 132, 5, 1, 167, 255, 223, 132, 4, 1, 167, 255, 186]
abbrev dktX1_beside_6 : List UInt8 := dkwX1_beside_6 ++ dktX1_beside_7
def dkwX1_beside_5 : List UInt8 := [96, 62, 3, 54, 5, 21, 5, 16, 6, 162, 0, 32, 28, 42, 27, 21, 5, 21, 4, 182, 0, 201, 42]
abbrev dktX1_beside_5 : List UInt8 := dkwX1_beside_5 ++ dktX1_beside_6
def dkwX1_beside_4 : List UInt8 := [16, 10, 162, 0, 69, 29, 42, 27, 2, 21, 4, 182, 0, 201, 42, 2, 21, 4, 182, 0, 204, 184, 0, 207]
abbrev dktX1_beside_4 : List UInt8 := dkwX1_beside_4 ++ dktX1_beside_5
def dkwX1_beside_3 : List UInt8 := [154, 0, 9, 42, 6, 182, 0, 76, 172, 132, 2, 1, 167, 255, 215, 3, 61, 3, 62, 3, 54, 4, 21, 4]
abbrev dktX1_beside_3 : List UInt8 := dkwX1_beside_3 ++ dktX1_beside_4
def dkwX1_beside_2 : List UInt8 := [27, 46, 162, 0, 37, 42, 180, 0, 13, 16, 40, 27, 104, 28, 96, 46, 133, 9, 20, 0, 99, 184, 0, 66]
abbrev dktX1_beside_2 : List UInt8 := dkwX1_beside_2 ++ dktX1_beside_3
def dkwX1_beside_1 : List UInt8 := [42, 180, 0, 7, 27, 46, 16, 7, 164, 0, 9, 42, 8, 182, 0, 76, 172, 3, 61, 28, 42, 180, 0, 7]
abbrev dktX1_beside_1 : List UInt8 := dkwX1_beside_1 ++ dktX1_beside_2
def dkwX1_beside_0 : List UInt8 := [27, 184, 0, 72, 154, 0, 5, 2, 172, 42, 180, 0, 7, 27, 46, 156, 0, 9, 42, 4, 182, 0, 76, 172]
abbrev dktX1_beside_0 : List UInt8 := dkwX1_beside_0 ++ dktX1_beside_1
theorem dksX1_beside_0 : cX1_beside.data.toList.drop 0 = dktX1_beside_0 := by decide +kernel
theorem dksX1_beside_1 : cX1_beside.data.toList.drop 24 = dktX1_beside_1 := dk_seg dksX1_beside_0 24 rfl rfl
theorem dksX1_beside_2 : cX1_beside.data.toList.drop 48 = dktX1_beside_2 := dk_seg dksX1_beside_1 24 rfl rfl
theorem dksX1_beside_3 : cX1_beside.data.toList.drop 72 = dktX1_beside_3 := dk_seg dksX1_beside_2 24 rfl rfl
theorem dksX1_beside_4 : cX1_beside.data.toList.drop 96 = dktX1_beside_4 := dk_seg dksX1_beside_3 24 rfl rfl
theorem dksX1_beside_5 : cX1_beside.data.toList.drop 120 = dktX1_beside_5 := dk_seg dksX1_beside_4 24 rfl rfl
theorem dksX1_beside_6 : cX1_beside.data.toList.drop 143 = dktX1_beside_6 := dk_seg dksX1_beside_5 23 rfl rfl
theorem dksX1_beside_7 : cX1_beside.data.toList.drop 167 = dktX1_beside_7 := dk_seg dksX1_beside_6 24 rfl rfl
theorem dX1_beside_0 : decode cX1_beside 0 = .ok (.iload_n 1, 1) := dk_27 (dk_at dksX1_beside_0 0 rfl rfl)
theorem dX1_beside_1 : decode cX1_beside 1 = .ok (.invokestatic 72, 3) := dk_184 0 72 (dk_at dksX1_beside_0 1 rfl rfl)
theorem dX1_beside_4 : decode cX1_beside 4 = .ok (.ifCond .ne 5, 3) := dk_154 0 5 (dk_at dksX1_beside_0 4 rfl rfl)
theorem dX1_beside_7 : decode cX1_beside 7 = .ok (.iconst (-1), 1) := dk_2 (dk_at dksX1_beside_0 7 rfl rfl)
theorem dX1_beside_8 : decode cX1_beside 8 = .ok (.ireturn, 1) := dk_172 (dk_at dksX1_beside_0 8 rfl rfl)
theorem dX1_beside_9 : decode cX1_beside 9 = .ok (.aload_n 0, 1) := dk_42 (dk_at dksX1_beside_0 9 rfl rfl)
theorem dX1_beside_10 : decode cX1_beside 10 = .ok (.getfield 7, 3) := dk_180 0 7 (dk_at dksX1_beside_0 10 rfl rfl)
theorem dX1_beside_13 : decode cX1_beside 13 = .ok (.iload_n 1, 1) := dk_27 (dk_at dksX1_beside_0 13 rfl rfl)
theorem dX1_beside_14 : decode cX1_beside 14 = .ok (.iaload, 1) := dk_46 (dk_at dksX1_beside_0 14 rfl rfl)
theorem dX1_beside_15 : decode cX1_beside 15 = .ok (.ifCond .ge 9, 3) := dk_156 0 9 (dk_at dksX1_beside_0 15 rfl rfl)
theorem dX1_beside_18 : decode cX1_beside 18 = .ok (.aload_n 0, 1) := dk_42 (dk_at dksX1_beside_0 18 rfl rfl)
theorem dX1_beside_19 : decode cX1_beside 19 = .ok (.iconst 1, 1) := dk_4 (dk_at dksX1_beside_0 19 rfl rfl)
theorem dX1_beside_20 : decode cX1_beside 20 = .ok (.invokevirtual 76, 3) := dk_182 0 76 (dk_at dksX1_beside_0 20 rfl rfl)
theorem dX1_beside_23 : decode cX1_beside 23 = .ok (.ireturn, 1) := dk_172 (dk_at dksX1_beside_0 23 rfl rfl)
theorem dX1_beside_24 : decode cX1_beside 24 = .ok (.aload_n 0, 1) := dk_42 (dk_at dksX1_beside_1 0 rfl rfl)
theorem dX1_beside_25 : decode cX1_beside 25 = .ok (.getfield 7, 3) := dk_180 0 7 (dk_at dksX1_beside_1 1 rfl rfl)
theorem dX1_beside_28 : decode cX1_beside 28 = .ok (.iload_n 1, 1) := dk_27 (dk_at dksX1_beside_1 4 rfl rfl)
theorem dX1_beside_29 : decode cX1_beside 29 = .ok (.iaload, 1) := dk_46 (dk_at dksX1_beside_1 5 rfl rfl)
theorem dX1_beside_30 : decode cX1_beside 30 = .ok (.bipush 7, 2) := dk_16 7 (dk_at dksX1_beside_1 6 rfl rfl)
theorem dX1_beside_32 : decode cX1_beside 32 = .ok (.if_icmp .le 9, 3) := dk_164 0 9 (dk_at dksX1_beside_1 8 rfl rfl)
theorem dX1_beside_35 : decode cX1_beside 35 = .ok (.aload_n 0, 1) := dk_42 (dk_at dksX1_beside_1 11 rfl rfl)
theorem dX1_beside_36 : decode cX1_beside 36 = .ok (.iconst 5, 1) := dk_8 (dk_at dksX1_beside_1 12 rfl rfl)
theorem dX1_beside_37 : decode cX1_beside 37 = .ok (.invokevirtual 76, 3) := dk_182 0 76 (dk_at dksX1_beside_1 13 rfl rfl)
theorem dX1_beside_40 : decode cX1_beside 40 = .ok (.ireturn, 1) := dk_172 (dk_at dksX1_beside_1 16 rfl rfl)
theorem dX1_beside_41 : decode cX1_beside 41 = .ok (.iconst 0, 1) := dk_3 (dk_at dksX1_beside_1 17 rfl rfl)
theorem dX1_beside_42 : decode cX1_beside 42 = .ok (.istore_n 2, 1) := dk_61 (dk_at dksX1_beside_1 18 rfl rfl)
theorem dX1_beside_43 : decode cX1_beside 43 = .ok (.iload_n 2, 1) := dk_28 (dk_at dksX1_beside_1 19 rfl rfl)
theorem dX1_beside_44 : decode cX1_beside 44 = .ok (.aload_n 0, 1) := dk_42 (dk_at dksX1_beside_1 20 rfl rfl)
theorem dX1_beside_45 : decode cX1_beside 45 = .ok (.getfield 7, 3) := dk_180 0 7 (dk_at dksX1_beside_1 21 rfl rfl)
theorem dX1_beside_48 : decode cX1_beside 48 = .ok (.iload_n 1, 1) := dk_27 (dk_at dksX1_beside_2 0 rfl rfl)
theorem dX1_beside_49 : decode cX1_beside 49 = .ok (.iaload, 1) := dk_46 (dk_at dksX1_beside_2 1 rfl rfl)
theorem dX1_beside_50 : decode cX1_beside 50 = .ok (.if_icmp .ge 37, 3) := dk_162 0 37 (dk_at dksX1_beside_2 2 rfl rfl)
theorem dX1_beside_53 : decode cX1_beside 53 = .ok (.aload_n 0, 1) := dk_42 (dk_at dksX1_beside_2 5 rfl rfl)
theorem dX1_beside_54 : decode cX1_beside 54 = .ok (.getfield 13, 3) := dk_180 0 13 (dk_at dksX1_beside_2 6 rfl rfl)
theorem dX1_beside_57 : decode cX1_beside 57 = .ok (.bipush 40, 2) := dk_16 40 (dk_at dksX1_beside_2 9 rfl rfl)
theorem dX1_beside_59 : decode cX1_beside 59 = .ok (.iload_n 1, 1) := dk_27 (dk_at dksX1_beside_2 11 rfl rfl)
theorem dX1_beside_60 : decode cX1_beside 60 = .ok (.imul, 1) := dk_104 (dk_at dksX1_beside_2 12 rfl rfl)
theorem dX1_beside_61 : decode cX1_beside 61 = .ok (.iload_n 2, 1) := dk_28 (dk_at dksX1_beside_2 13 rfl rfl)
theorem dX1_beside_62 : decode cX1_beside 62 = .ok (.iadd, 1) := dk_96 (dk_at dksX1_beside_2 14 rfl rfl)
theorem dX1_beside_63 : decode cX1_beside 63 = .ok (.iaload, 1) := dk_46 (dk_at dksX1_beside_2 15 rfl rfl)
theorem dX1_beside_64 : decode cX1_beside 64 = .ok (.i2l, 1) := dk_133 (dk_at dksX1_beside_2 16 rfl rfl)
theorem dX1_beside_65 : decode cX1_beside 65 = .ok (.lconst 0, 1) := dk_9 (dk_at dksX1_beside_2 17 rfl rfl)
theorem dX1_beside_66 : decode cX1_beside 66 = .ok (.ldc2_w 99, 3) := dk_20 0 99 (dk_at dksX1_beside_2 18 rfl rfl)
theorem dX1_beside_69 : decode cX1_beside 69 = .ok (.invokestatic 66, 3) := dk_184 0 66 (dk_at dksX1_beside_2 21 rfl rfl)
theorem dX1_beside_72 : decode cX1_beside 72 = .ok (.ifCond .ne 9, 3) := dk_154 0 9 (dk_at dksX1_beside_3 0 rfl rfl)
theorem dX1_beside_75 : decode cX1_beside 75 = .ok (.aload_n 0, 1) := dk_42 (dk_at dksX1_beside_3 3 rfl rfl)
theorem dX1_beside_76 : decode cX1_beside 76 = .ok (.iconst 3, 1) := dk_6 (dk_at dksX1_beside_3 4 rfl rfl)
theorem dX1_beside_77 : decode cX1_beside 77 = .ok (.invokevirtual 76, 3) := dk_182 0 76 (dk_at dksX1_beside_3 5 rfl rfl)
theorem dX1_beside_80 : decode cX1_beside 80 = .ok (.ireturn, 1) := dk_172 (dk_at dksX1_beside_3 8 rfl rfl)
theorem dX1_beside_81 : decode cX1_beside 81 = .ok (.iinc 2 1, 3) := dk_132 2 1 (dk_at dksX1_beside_3 9 rfl rfl)
theorem dX1_beside_84 : decode cX1_beside 84 = .ok (.goto (-41), 3) := dk_167 255 215 (dk_at dksX1_beside_3 12 rfl rfl)
theorem dX1_beside_87 : decode cX1_beside 87 = .ok (.iconst 0, 1) := dk_3 (dk_at dksX1_beside_3 15 rfl rfl)
theorem dX1_beside_88 : decode cX1_beside 88 = .ok (.istore_n 2, 1) := dk_61 (dk_at dksX1_beside_3 16 rfl rfl)
theorem dX1_beside_89 : decode cX1_beside 89 = .ok (.iconst 0, 1) := dk_3 (dk_at dksX1_beside_3 17 rfl rfl)
theorem dX1_beside_90 : decode cX1_beside 90 = .ok (.istore_n 3, 1) := dk_62 (dk_at dksX1_beside_3 18 rfl rfl)
theorem dX1_beside_91 : decode cX1_beside 91 = .ok (.iconst 0, 1) := dk_3 (dk_at dksX1_beside_3 19 rfl rfl)
theorem dX1_beside_92 : decode cX1_beside 92 = .ok (.istore 4, 2) := dk_54 4 (dk_at dksX1_beside_3 20 rfl rfl)
theorem dX1_beside_94 : decode cX1_beside 94 = .ok (.iload 4, 2) := dk_21 4 (dk_at dksX1_beside_3 22 rfl rfl)
theorem dX1_beside_96 : decode cX1_beside 96 = .ok (.bipush 10, 2) := dk_16 10 (dk_at dksX1_beside_4 0 rfl rfl)
theorem dX1_beside_98 : decode cX1_beside 98 = .ok (.if_icmp .ge 69, 3) := dk_162 0 69 (dk_at dksX1_beside_4 2 rfl rfl)
theorem dX1_beside_101 : decode cX1_beside 101 = .ok (.iload_n 3, 1) := dk_29 (dk_at dksX1_beside_4 5 rfl rfl)
theorem dX1_beside_102 : decode cX1_beside 102 = .ok (.aload_n 0, 1) := dk_42 (dk_at dksX1_beside_4 6 rfl rfl)
theorem dX1_beside_103 : decode cX1_beside 103 = .ok (.iload_n 1, 1) := dk_27 (dk_at dksX1_beside_4 7 rfl rfl)
theorem dX1_beside_104 : decode cX1_beside 104 = .ok (.iconst (-1), 1) := dk_2 (dk_at dksX1_beside_4 8 rfl rfl)
theorem dX1_beside_105 : decode cX1_beside 105 = .ok (.iload 4, 2) := dk_21 4 (dk_at dksX1_beside_4 9 rfl rfl)
theorem dX1_beside_107 : decode cX1_beside 107 = .ok (.invokevirtual 201, 3) := dk_182 0 201 (dk_at dksX1_beside_4 11 rfl rfl)
theorem dX1_beside_110 : decode cX1_beside 110 = .ok (.aload_n 0, 1) := dk_42 (dk_at dksX1_beside_4 14 rfl rfl)
theorem dX1_beside_111 : decode cX1_beside 111 = .ok (.iconst (-1), 1) := dk_2 (dk_at dksX1_beside_4 15 rfl rfl)
theorem dX1_beside_112 : decode cX1_beside 112 = .ok (.iload 4, 2) := dk_21 4 (dk_at dksX1_beside_4 16 rfl rfl)
theorem dX1_beside_114 : decode cX1_beside 114 = .ok (.invokevirtual 204, 3) := dk_182 0 204 (dk_at dksX1_beside_4 18 rfl rfl)
theorem dX1_beside_117 : decode cX1_beside 117 = .ok (.invokestatic 207, 3) := dk_184 0 207 (dk_at dksX1_beside_4 21 rfl rfl)
theorem dX1_beside_120 : decode cX1_beside 120 = .ok (.iadd, 1) := dk_96 (dk_at dksX1_beside_5 0 rfl rfl)
theorem dX1_beside_121 : decode cX1_beside 121 = .ok (.istore_n 3, 1) := dk_62 (dk_at dksX1_beside_5 1 rfl rfl)
theorem dX1_beside_122 : decode cX1_beside 122 = .ok (.iconst 0, 1) := dk_3 (dk_at dksX1_beside_5 2 rfl rfl)
theorem dX1_beside_123 : decode cX1_beside 123 = .ok (.istore 5, 2) := dk_54 5 (dk_at dksX1_beside_5 3 rfl rfl)
theorem dX1_beside_125 : decode cX1_beside 125 = .ok (.iload 5, 2) := dk_21 5 (dk_at dksX1_beside_5 5 rfl rfl)
theorem dX1_beside_127 : decode cX1_beside 127 = .ok (.bipush 6, 2) := dk_16 6 (dk_at dksX1_beside_5 7 rfl rfl)
theorem dX1_beside_129 : decode cX1_beside 129 = .ok (.if_icmp .ge 32, 3) := dk_162 0 32 (dk_at dksX1_beside_5 9 rfl rfl)
theorem dX1_beside_132 : decode cX1_beside 132 = .ok (.iload_n 2, 1) := dk_28 (dk_at dksX1_beside_5 12 rfl rfl)
theorem dX1_beside_133 : decode cX1_beside 133 = .ok (.aload_n 0, 1) := dk_42 (dk_at dksX1_beside_5 13 rfl rfl)
theorem dX1_beside_134 : decode cX1_beside 134 = .ok (.iload_n 1, 1) := dk_27 (dk_at dksX1_beside_5 14 rfl rfl)
theorem dX1_beside_135 : decode cX1_beside 135 = .ok (.iload 5, 2) := dk_21 5 (dk_at dksX1_beside_5 15 rfl rfl)
theorem dX1_beside_137 : decode cX1_beside 137 = .ok (.iload 4, 2) := dk_21 4 (dk_at dksX1_beside_5 17 rfl rfl)
theorem dX1_beside_139 : decode cX1_beside 139 = .ok (.invokevirtual 201, 3) := dk_182 0 201 (dk_at dksX1_beside_5 19 rfl rfl)
theorem dX1_beside_142 : decode cX1_beside 142 = .ok (.aload_n 0, 1) := dk_42 (dk_at dksX1_beside_5 22 rfl rfl)
theorem dX1_beside_143 : decode cX1_beside 143 = .ok (.iload 5, 2) := dk_21 5 (dk_at dksX1_beside_6 0 rfl rfl)
theorem dX1_beside_145 : decode cX1_beside 145 = .ok (.iload 4, 2) := dk_21 4 (dk_at dksX1_beside_6 2 rfl rfl)
theorem dX1_beside_147 : decode cX1_beside 147 = .ok (.invokevirtual 204, 3) := dk_182 0 204 (dk_at dksX1_beside_6 4 rfl rfl)
theorem dX1_beside_150 : decode cX1_beside 150 = .ok (.invokestatic 207, 3) := dk_184 0 207 (dk_at dksX1_beside_6 7 rfl rfl)
theorem dX1_beside_153 : decode cX1_beside 153 = .ok (.iadd, 1) := dk_96 (dk_at dksX1_beside_6 10 rfl rfl)
theorem dX1_beside_154 : decode cX1_beside 154 = .ok (.istore_n 2, 1) := dk_61 (dk_at dksX1_beside_6 11 rfl rfl)
theorem dX1_beside_155 : decode cX1_beside 155 = .ok (.iinc 5 1, 3) := dk_132 5 1 (dk_at dksX1_beside_6 12 rfl rfl)
theorem dX1_beside_158 : decode cX1_beside 158 = .ok (.goto (-33), 3) := dk_167 255 223 (dk_at dksX1_beside_6 15 rfl rfl)
theorem dX1_beside_161 : decode cX1_beside 161 = .ok (.iinc 4 1, 3) := dk_132 4 1 (dk_at dksX1_beside_6 18 rfl rfl)
theorem dX1_beside_164 : decode cX1_beside 164 = .ok (.goto (-70), 3) := dk_167 255 186 (dk_at dksX1_beside_6 21 rfl rfl)
theorem dX1_beside_167 : decode cX1_beside 167 = .ok (.aload_n 0, 1) := dk_42 (dk_at dksX1_beside_7 0 rfl rfl)
theorem dX1_beside_168 : decode cX1_beside 168 = .ok (.iload_n 3, 1) := dk_29 (dk_at dksX1_beside_7 1 rfl rfl)
theorem dX1_beside_169 : decode cX1_beside 169 = .ok (.iload_n 2, 1) := dk_28 (dk_at dksX1_beside_7 2 rfl rfl)
theorem dX1_beside_170 : decode cX1_beside 170 = .ok (.isub, 1) := dk_100 (dk_at dksX1_beside_7 3 rfl rfl)
theorem dX1_beside_171 : decode cX1_beside 171 = .ok (.invokevirtual 80, 3) := dk_182 0 80 (dk_at dksX1_beside_7 4 rfl rfl)
theorem dX1_beside_174 : decode cX1_beside 174 = .ok (.istore 4, 2) := dk_54 4 (dk_at dksX1_beside_7 7 rfl rfl)
theorem dX1_beside_176 : decode cX1_beside 176 = .ok (.iload_n 2, 1) := dk_28 (dk_at dksX1_beside_7 9 rfl rfl)
theorem dX1_beside_177 : decode cX1_beside 177 = .ok (.ireturn, 1) := dk_172 (dk_at dksX1_beside_7 10 rfl rfl)
abbrev cX1_manyThere : ByteArray := prog_10_method_72_code
def yX1_manyThere : MethodName := ⟨RX1, "manyThere", "(III)I"⟩
def dkwX1_manyThere_2 : List UInt8 := [16, 10, 108, 28, 160, 0, 7, 4, 167, 0, 4, 3, 96, 54, 4, 132, 5, 1, 167, 255, 196, 21, 4, 172]
abbrev dktX1_manyThere_2 : List UInt8 := dkwX1_manyThere_2 ++ []
def dkwX1_manyThere_1 : List UInt8 := [104, 21, 5, 96, 46, 54, 6, 21, 4, 21, 6, 16, 10, 112, 29, 160, 0, 20, 28, 155, 0, 12, 21, 6]
abbrev dktX1_manyThere_1 : List UInt8 := dkwX1_manyThere_1 ++ dktX1_manyThere_2
def dkwX1_manyThere_0 : List UInt8 := [3, 54, 4, 3, 54, 5, 21, 5, 42, 180, 0, 7, 27, 46, 162, 0, 55, 42, 180, 0, 13, 16, 40, 27]
abbrev dktX1_manyThere_0 : List UInt8 := dkwX1_manyThere_0 ++ dktX1_manyThere_1
theorem dksX1_manyThere_0 : cX1_manyThere.data.toList.drop 0 = dktX1_manyThere_0 := by decide +kernel
theorem dksX1_manyThere_1 : cX1_manyThere.data.toList.drop 24 = dktX1_manyThere_1 := dk_seg dksX1_manyThere_0 24 rfl rfl
theorem dksX1_manyThere_2 : cX1_manyThere.data.toList.drop 48 = dktX1_manyThere_2 := dk_seg dksX1_manyThere_1 24 rfl rfl
theorem dX1_manyThere_0 : decode cX1_manyThere 0 = .ok (.iconst 0, 1) := dk_3 (dk_at dksX1_manyThere_0 0 rfl rfl)
theorem dX1_manyThere_1 : decode cX1_manyThere 1 = .ok (.istore 4, 2) := dk_54 4 (dk_at dksX1_manyThere_0 1 rfl rfl)
theorem dX1_manyThere_3 : decode cX1_manyThere 3 = .ok (.iconst 0, 1) := dk_3 (dk_at dksX1_manyThere_0 3 rfl rfl)
theorem dX1_manyThere_4 : decode cX1_manyThere 4 = .ok (.istore 5, 2) := dk_54 5 (dk_at dksX1_manyThere_0 4 rfl rfl)
theorem dX1_manyThere_6 : decode cX1_manyThere 6 = .ok (.iload 5, 2) := dk_21 5 (dk_at dksX1_manyThere_0 6 rfl rfl)
theorem dX1_manyThere_8 : decode cX1_manyThere 8 = .ok (.aload_n 0, 1) := dk_42 (dk_at dksX1_manyThere_0 8 rfl rfl)
theorem dX1_manyThere_9 : decode cX1_manyThere 9 = .ok (.getfield 7, 3) := dk_180 0 7 (dk_at dksX1_manyThere_0 9 rfl rfl)
theorem dX1_manyThere_12 : decode cX1_manyThere 12 = .ok (.iload_n 1, 1) := dk_27 (dk_at dksX1_manyThere_0 12 rfl rfl)
theorem dX1_manyThere_13 : decode cX1_manyThere 13 = .ok (.iaload, 1) := dk_46 (dk_at dksX1_manyThere_0 13 rfl rfl)
theorem dX1_manyThere_14 : decode cX1_manyThere 14 = .ok (.if_icmp .ge 55, 3) := dk_162 0 55 (dk_at dksX1_manyThere_0 14 rfl rfl)
theorem dX1_manyThere_17 : decode cX1_manyThere 17 = .ok (.aload_n 0, 1) := dk_42 (dk_at dksX1_manyThere_0 17 rfl rfl)
theorem dX1_manyThere_18 : decode cX1_manyThere 18 = .ok (.getfield 13, 3) := dk_180 0 13 (dk_at dksX1_manyThere_0 18 rfl rfl)
theorem dX1_manyThere_21 : decode cX1_manyThere 21 = .ok (.bipush 40, 2) := dk_16 40 (dk_at dksX1_manyThere_0 21 rfl rfl)
theorem dX1_manyThere_23 : decode cX1_manyThere 23 = .ok (.iload_n 1, 1) := dk_27 (dk_at dksX1_manyThere_0 23 rfl rfl)
theorem dX1_manyThere_24 : decode cX1_manyThere 24 = .ok (.imul, 1) := dk_104 (dk_at dksX1_manyThere_1 0 rfl rfl)
theorem dX1_manyThere_25 : decode cX1_manyThere 25 = .ok (.iload 5, 2) := dk_21 5 (dk_at dksX1_manyThere_1 1 rfl rfl)
theorem dX1_manyThere_27 : decode cX1_manyThere 27 = .ok (.iadd, 1) := dk_96 (dk_at dksX1_manyThere_1 3 rfl rfl)
theorem dX1_manyThere_28 : decode cX1_manyThere 28 = .ok (.iaload, 1) := dk_46 (dk_at dksX1_manyThere_1 4 rfl rfl)
theorem dX1_manyThere_29 : decode cX1_manyThere 29 = .ok (.istore 6, 2) := dk_54 6 (dk_at dksX1_manyThere_1 5 rfl rfl)
theorem dX1_manyThere_31 : decode cX1_manyThere 31 = .ok (.iload 4, 2) := dk_21 4 (dk_at dksX1_manyThere_1 7 rfl rfl)
theorem dX1_manyThere_33 : decode cX1_manyThere 33 = .ok (.iload 6, 2) := dk_21 6 (dk_at dksX1_manyThere_1 9 rfl rfl)
theorem dX1_manyThere_35 : decode cX1_manyThere 35 = .ok (.bipush 10, 2) := dk_16 10 (dk_at dksX1_manyThere_1 11 rfl rfl)
theorem dX1_manyThere_37 : decode cX1_manyThere 37 = .ok (.irem, 1) := dk_112 (dk_at dksX1_manyThere_1 13 rfl rfl)
theorem dX1_manyThere_38 : decode cX1_manyThere 38 = .ok (.iload_n 3, 1) := dk_29 (dk_at dksX1_manyThere_1 14 rfl rfl)
theorem dX1_manyThere_39 : decode cX1_manyThere 39 = .ok (.if_icmp .ne 20, 3) := dk_160 0 20 (dk_at dksX1_manyThere_1 15 rfl rfl)
theorem dX1_manyThere_42 : decode cX1_manyThere 42 = .ok (.iload_n 2, 1) := dk_28 (dk_at dksX1_manyThere_1 18 rfl rfl)
theorem dX1_manyThere_43 : decode cX1_manyThere 43 = .ok (.ifCond .lt 12, 3) := dk_155 0 12 (dk_at dksX1_manyThere_1 19 rfl rfl)
theorem dX1_manyThere_46 : decode cX1_manyThere 46 = .ok (.iload 6, 2) := dk_21 6 (dk_at dksX1_manyThere_1 22 rfl rfl)
theorem dX1_manyThere_48 : decode cX1_manyThere 48 = .ok (.bipush 10, 2) := dk_16 10 (dk_at dksX1_manyThere_2 0 rfl rfl)
theorem dX1_manyThere_50 : decode cX1_manyThere 50 = .ok (.idiv, 1) := dk_108 (dk_at dksX1_manyThere_2 2 rfl rfl)
theorem dX1_manyThere_51 : decode cX1_manyThere 51 = .ok (.iload_n 2, 1) := dk_28 (dk_at dksX1_manyThere_2 3 rfl rfl)
theorem dX1_manyThere_52 : decode cX1_manyThere 52 = .ok (.if_icmp .ne 7, 3) := dk_160 0 7 (dk_at dksX1_manyThere_2 4 rfl rfl)
theorem dX1_manyThere_55 : decode cX1_manyThere 55 = .ok (.iconst 1, 1) := dk_4 (dk_at dksX1_manyThere_2 7 rfl rfl)
theorem dX1_manyThere_56 : decode cX1_manyThere 56 = .ok (.goto 4, 3) := dk_167 0 4 (dk_at dksX1_manyThere_2 8 rfl rfl)
theorem dX1_manyThere_59 : decode cX1_manyThere 59 = .ok (.iconst 0, 1) := dk_3 (dk_at dksX1_manyThere_2 11 rfl rfl)
theorem dX1_manyThere_60 : decode cX1_manyThere 60 = .ok (.iadd, 1) := dk_96 (dk_at dksX1_manyThere_2 12 rfl rfl)
theorem dX1_manyThere_61 : decode cX1_manyThere 61 = .ok (.istore 4, 2) := dk_54 4 (dk_at dksX1_manyThere_2 13 rfl rfl)
theorem dX1_manyThere_63 : decode cX1_manyThere 63 = .ok (.iinc 5 1, 3) := dk_132 5 1 (dk_at dksX1_manyThere_2 15 rfl rfl)
theorem dX1_manyThere_66 : decode cX1_manyThere 66 = .ok (.goto (-60), 3) := dk_167 255 196 (dk_at dksX1_manyThere_2 18 rfl rfl)
theorem dX1_manyThere_69 : decode cX1_manyThere 69 = .ok (.iload 4, 2) := dk_21 4 (dk_at dksX1_manyThere_2 21 rfl rfl)
theorem dX1_manyThere_71 : decode cX1_manyThere 71 = .ok (.ireturn, 1) := dk_172 (dk_at dksX1_manyThere_2 23 rfl rfl)
abbrev cX1_manyHere : ByteArray := prog_10_method_73_code
def yX1_manyHere : MethodName := ⟨RX1, "manyHere", "(II)I"⟩
def dkwX1_manyHere_2 : List UInt8 := [3, 96, 62, 132, 4, 1, 167, 255, 207, 29, 172]
abbrev dktX1_manyHere_2 : List UInt8 := dkwX1_manyHere_2 ++ []
def dkwX1_manyHere_1 : List UInt8 := [160, 0, 24, 27, 155, 0, 16, 42, 180, 0, 22, 6, 21, 4, 96, 46, 27, 160, 0, 7, 4, 167, 0, 4]
abbrev dktX1_manyHere_1 : List UInt8 := dkwX1_manyHere_1 ++ dktX1_manyHere_2
def dkwX1_manyHere_0 : List UInt8 := [3, 62, 3, 54, 4, 21, 4, 42, 180, 0, 22, 3, 46, 162, 0, 44, 29, 42, 21, 4, 182, 0, 120, 28]
abbrev dktX1_manyHere_0 : List UInt8 := dkwX1_manyHere_0 ++ dktX1_manyHere_1
theorem dksX1_manyHere_0 : cX1_manyHere.data.toList.drop 0 = dktX1_manyHere_0 := by decide +kernel
theorem dksX1_manyHere_1 : cX1_manyHere.data.toList.drop 24 = dktX1_manyHere_1 := dk_seg dksX1_manyHere_0 24 rfl rfl
theorem dksX1_manyHere_2 : cX1_manyHere.data.toList.drop 48 = dktX1_manyHere_2 := dk_seg dksX1_manyHere_1 24 rfl rfl
theorem dX1_manyHere_0 : decode cX1_manyHere 0 = .ok (.iconst 0, 1) := dk_3 (dk_at dksX1_manyHere_0 0 rfl rfl)
theorem dX1_manyHere_1 : decode cX1_manyHere 1 = .ok (.istore_n 3, 1) := dk_62 (dk_at dksX1_manyHere_0 1 rfl rfl)
theorem dX1_manyHere_2 : decode cX1_manyHere 2 = .ok (.iconst 0, 1) := dk_3 (dk_at dksX1_manyHere_0 2 rfl rfl)
theorem dX1_manyHere_3 : decode cX1_manyHere 3 = .ok (.istore 4, 2) := dk_54 4 (dk_at dksX1_manyHere_0 3 rfl rfl)
theorem dX1_manyHere_5 : decode cX1_manyHere 5 = .ok (.iload 4, 2) := dk_21 4 (dk_at dksX1_manyHere_0 5 rfl rfl)
theorem dX1_manyHere_7 : decode cX1_manyHere 7 = .ok (.aload_n 0, 1) := dk_42 (dk_at dksX1_manyHere_0 7 rfl rfl)
theorem dX1_manyHere_8 : decode cX1_manyHere 8 = .ok (.getfield 22, 3) := dk_180 0 22 (dk_at dksX1_manyHere_0 8 rfl rfl)
theorem dX1_manyHere_11 : decode cX1_manyHere 11 = .ok (.iconst 0, 1) := dk_3 (dk_at dksX1_manyHere_0 11 rfl rfl)
theorem dX1_manyHere_12 : decode cX1_manyHere 12 = .ok (.iaload, 1) := dk_46 (dk_at dksX1_manyHere_0 12 rfl rfl)
theorem dX1_manyHere_13 : decode cX1_manyHere 13 = .ok (.if_icmp .ge 44, 3) := dk_162 0 44 (dk_at dksX1_manyHere_0 13 rfl rfl)
theorem dX1_manyHere_16 : decode cX1_manyHere 16 = .ok (.iload_n 3, 1) := dk_29 (dk_at dksX1_manyHere_0 16 rfl rfl)
theorem dX1_manyHere_17 : decode cX1_manyHere 17 = .ok (.aload_n 0, 1) := dk_42 (dk_at dksX1_manyHere_0 17 rfl rfl)
theorem dX1_manyHere_18 : decode cX1_manyHere 18 = .ok (.iload 4, 2) := dk_21 4 (dk_at dksX1_manyHere_0 18 rfl rfl)
theorem dX1_manyHere_20 : decode cX1_manyHere 20 = .ok (.invokevirtual 120, 3) := dk_182 0 120 (dk_at dksX1_manyHere_0 20 rfl rfl)
theorem dX1_manyHere_23 : decode cX1_manyHere 23 = .ok (.iload_n 2, 1) := dk_28 (dk_at dksX1_manyHere_0 23 rfl rfl)
theorem dX1_manyHere_24 : decode cX1_manyHere 24 = .ok (.if_icmp .ne 24, 3) := dk_160 0 24 (dk_at dksX1_manyHere_1 0 rfl rfl)
theorem dX1_manyHere_27 : decode cX1_manyHere 27 = .ok (.iload_n 1, 1) := dk_27 (dk_at dksX1_manyHere_1 3 rfl rfl)
theorem dX1_manyHere_28 : decode cX1_manyHere 28 = .ok (.ifCond .lt 16, 3) := dk_155 0 16 (dk_at dksX1_manyHere_1 4 rfl rfl)
theorem dX1_manyHere_31 : decode cX1_manyHere 31 = .ok (.aload_n 0, 1) := dk_42 (dk_at dksX1_manyHere_1 7 rfl rfl)
theorem dX1_manyHere_32 : decode cX1_manyHere 32 = .ok (.getfield 22, 3) := dk_180 0 22 (dk_at dksX1_manyHere_1 8 rfl rfl)
theorem dX1_manyHere_35 : decode cX1_manyHere 35 = .ok (.iconst 3, 1) := dk_6 (dk_at dksX1_manyHere_1 11 rfl rfl)
theorem dX1_manyHere_36 : decode cX1_manyHere 36 = .ok (.iload 4, 2) := dk_21 4 (dk_at dksX1_manyHere_1 12 rfl rfl)
theorem dX1_manyHere_38 : decode cX1_manyHere 38 = .ok (.iadd, 1) := dk_96 (dk_at dksX1_manyHere_1 14 rfl rfl)
theorem dX1_manyHere_39 : decode cX1_manyHere 39 = .ok (.iaload, 1) := dk_46 (dk_at dksX1_manyHere_1 15 rfl rfl)
theorem dX1_manyHere_40 : decode cX1_manyHere 40 = .ok (.iload_n 1, 1) := dk_27 (dk_at dksX1_manyHere_1 16 rfl rfl)
theorem dX1_manyHere_41 : decode cX1_manyHere 41 = .ok (.if_icmp .ne 7, 3) := dk_160 0 7 (dk_at dksX1_manyHere_1 17 rfl rfl)
theorem dX1_manyHere_44 : decode cX1_manyHere 44 = .ok (.iconst 1, 1) := dk_4 (dk_at dksX1_manyHere_1 20 rfl rfl)
theorem dX1_manyHere_45 : decode cX1_manyHere 45 = .ok (.goto 4, 3) := dk_167 0 4 (dk_at dksX1_manyHere_1 21 rfl rfl)
theorem dX1_manyHere_48 : decode cX1_manyHere 48 = .ok (.iconst 0, 1) := dk_3 (dk_at dksX1_manyHere_2 0 rfl rfl)
theorem dX1_manyHere_49 : decode cX1_manyHere 49 = .ok (.iadd, 1) := dk_96 (dk_at dksX1_manyHere_2 1 rfl rfl)
theorem dX1_manyHere_50 : decode cX1_manyHere 50 = .ok (.istore_n 3, 1) := dk_62 (dk_at dksX1_manyHere_2 2 rfl rfl)
theorem dX1_manyHere_51 : decode cX1_manyHere 51 = .ok (.iinc 4 1, 3) := dk_132 4 1 (dk_at dksX1_manyHere_2 3 rfl rfl)
theorem dX1_manyHere_54 : decode cX1_manyHere 54 = .ok (.goto (-49), 3) := dk_167 255 207 (dk_at dksX1_manyHere_2 6 rfl rfl)
theorem dX1_manyHere_57 : decode cX1_manyHere 57 = .ok (.iload_n 3, 1) := dk_29 (dk_at dksX1_manyHere_2 9 rfl rfl)
theorem dX1_manyHere_58 : decode cX1_manyHere 58 = .ok (.ireturn, 1) := dk_172 (dk_at dksX1_manyHere_2 10 rfl rfl)
abbrev cX1_lesser : ByteArray := prog_10_method_71_code
def yX1_lesser : MethodName := ⟨RX1, "lesser", "(II)I"⟩
def dkwX1_lesser_0 : List UInt8 := [26, 27, 162, 0, 7, 26, 167, 0, 4, 27, 172]
abbrev dktX1_lesser_0 : List UInt8 := dkwX1_lesser_0 ++ []
theorem dksX1_lesser_0 : cX1_lesser.data.toList.drop 0 = dktX1_lesser_0 := by decide +kernel
theorem dX1_lesser_0 : decode cX1_lesser 0 = .ok (.iload_n 0, 1) := dk_26 (dk_at dksX1_lesser_0 0 rfl rfl)
theorem dX1_lesser_1 : decode cX1_lesser 1 = .ok (.iload_n 1, 1) := dk_27 (dk_at dksX1_lesser_0 1 rfl rfl)
theorem dX1_lesser_2 : decode cX1_lesser 2 = .ok (.if_icmp .ge 7, 3) := dk_162 0 7 (dk_at dksX1_lesser_0 2 rfl rfl)
theorem dX1_lesser_5 : decode cX1_lesser 5 = .ok (.iload_n 0, 1) := dk_26 (dk_at dksX1_lesser_0 5 rfl rfl)
theorem dX1_lesser_6 : decode cX1_lesser 6 = .ok (.goto 4, 3) := dk_167 0 4 (dk_at dksX1_lesser_0 6 rfl rfl)
theorem dX1_lesser_9 : decode cX1_lesser 9 = .ok (.iload_n 1, 1) := dk_27 (dk_at dksX1_lesser_0 9 rfl rfl)
theorem dX1_lesser_10 : decode cX1_lesser 10 = .ok (.ireturn, 1) := dk_172 (dk_at dksX1_lesser_0 10 rfl rfl)
abbrev cX1_habit : ByteArray := prog_10_method_76_code
def yX1_habit : MethodName := ⟨RX1, "habit", "()I"⟩
def dkwX1_habit_5 : List UInt8 := [61, 132, 3, 1, 167, 255, 139, 42, 28, 182, 0, 80, 62, 27, 172]
abbrev dktX1_habit_5 : List UInt8 := dkwX1_habit_5 ++ []
def dkwX1_habit_4 : List UInt8 := [60, 28, 42, 180, 0, 22, 16, 17, 29, 96, 46, 21, 4, 160, 0, 7, 3, 167, 0, 6, 4, 29, 120, 128]
abbrev dktX1_habit_4 : List UInt8 := dkwX1_habit_4 ++ dktX1_habit_5
def dkwX1_habit_3 : List UInt8 := [167, 255, 207, 27, 42, 180, 0, 22, 16, 17, 29, 96, 46, 21, 4, 160, 0, 7, 4, 167, 0, 4, 3, 96]
abbrev dktX1_habit_3 : List UInt8 := dkwX1_habit_3 ++ dktX1_habit_4
def dkwX1_habit_2 : List UInt8 := [29, 96, 46, 21, 4, 182, 0, 210, 164, 0, 8, 21, 5, 167, 0, 5, 21, 4, 54, 4, 132, 5, 1]
abbrev dktX1_habit_2 : List UInt8 := dkwX1_habit_2 ++ dktX1_habit_3
def dkwX1_habit_1 : List UInt8 := [7, 162, 0, 49, 42, 42, 180, 0, 22, 6, 29, 96, 46, 21, 5, 182, 0, 210, 42, 42, 180, 0, 22, 6]
abbrev dktX1_habit_1 : List UInt8 := dkwX1_habit_1 ++ dktX1_habit_2
def dkwX1_habit_0 : List UInt8 := [3, 60, 3, 61, 3, 62, 29, 42, 180, 0, 22, 3, 46, 162, 0, 113, 3, 54, 4, 4, 54, 5, 21, 5]
abbrev dktX1_habit_0 : List UInt8 := dkwX1_habit_0 ++ dktX1_habit_1
theorem dksX1_habit_0 : cX1_habit.data.toList.drop 0 = dktX1_habit_0 := by decide +kernel
theorem dksX1_habit_1 : cX1_habit.data.toList.drop 24 = dktX1_habit_1 := dk_seg dksX1_habit_0 24 rfl rfl
theorem dksX1_habit_2 : cX1_habit.data.toList.drop 48 = dktX1_habit_2 := dk_seg dksX1_habit_1 24 rfl rfl
theorem dksX1_habit_3 : cX1_habit.data.toList.drop 71 = dktX1_habit_3 := dk_seg dksX1_habit_2 23 rfl rfl
theorem dksX1_habit_4 : cX1_habit.data.toList.drop 95 = dktX1_habit_4 := dk_seg dksX1_habit_3 24 rfl rfl
theorem dksX1_habit_5 : cX1_habit.data.toList.drop 119 = dktX1_habit_5 := dk_seg dksX1_habit_4 24 rfl rfl
theorem dX1_habit_0 : decode cX1_habit 0 = .ok (.iconst 0, 1) := dk_3 (dk_at dksX1_habit_0 0 rfl rfl)
theorem dX1_habit_1 : decode cX1_habit 1 = .ok (.istore_n 1, 1) := dk_60 (dk_at dksX1_habit_0 1 rfl rfl)
theorem dX1_habit_2 : decode cX1_habit 2 = .ok (.iconst 0, 1) := dk_3 (dk_at dksX1_habit_0 2 rfl rfl)
theorem dX1_habit_3 : decode cX1_habit 3 = .ok (.istore_n 2, 1) := dk_61 (dk_at dksX1_habit_0 3 rfl rfl)
theorem dX1_habit_4 : decode cX1_habit 4 = .ok (.iconst 0, 1) := dk_3 (dk_at dksX1_habit_0 4 rfl rfl)
theorem dX1_habit_5 : decode cX1_habit 5 = .ok (.istore_n 3, 1) := dk_62 (dk_at dksX1_habit_0 5 rfl rfl)
theorem dX1_habit_6 : decode cX1_habit 6 = .ok (.iload_n 3, 1) := dk_29 (dk_at dksX1_habit_0 6 rfl rfl)
theorem dX1_habit_7 : decode cX1_habit 7 = .ok (.aload_n 0, 1) := dk_42 (dk_at dksX1_habit_0 7 rfl rfl)
theorem dX1_habit_8 : decode cX1_habit 8 = .ok (.getfield 22, 3) := dk_180 0 22 (dk_at dksX1_habit_0 8 rfl rfl)
theorem dX1_habit_11 : decode cX1_habit 11 = .ok (.iconst 0, 1) := dk_3 (dk_at dksX1_habit_0 11 rfl rfl)
theorem dX1_habit_12 : decode cX1_habit 12 = .ok (.iaload, 1) := dk_46 (dk_at dksX1_habit_0 12 rfl rfl)
theorem dX1_habit_13 : decode cX1_habit 13 = .ok (.if_icmp .ge 113, 3) := dk_162 0 113 (dk_at dksX1_habit_0 13 rfl rfl)
theorem dX1_habit_16 : decode cX1_habit 16 = .ok (.iconst 0, 1) := dk_3 (dk_at dksX1_habit_0 16 rfl rfl)
theorem dX1_habit_17 : decode cX1_habit 17 = .ok (.istore 4, 2) := dk_54 4 (dk_at dksX1_habit_0 17 rfl rfl)
theorem dX1_habit_19 : decode cX1_habit 19 = .ok (.iconst 1, 1) := dk_4 (dk_at dksX1_habit_0 19 rfl rfl)
theorem dX1_habit_20 : decode cX1_habit 20 = .ok (.istore 5, 2) := dk_54 5 (dk_at dksX1_habit_0 20 rfl rfl)
theorem dX1_habit_22 : decode cX1_habit 22 = .ok (.iload 5, 2) := dk_21 5 (dk_at dksX1_habit_0 22 rfl rfl)
theorem dX1_habit_24 : decode cX1_habit 24 = .ok (.iconst 4, 1) := dk_7 (dk_at dksX1_habit_1 0 rfl rfl)
theorem dX1_habit_25 : decode cX1_habit 25 = .ok (.if_icmp .ge 49, 3) := dk_162 0 49 (dk_at dksX1_habit_1 1 rfl rfl)
theorem dX1_habit_28 : decode cX1_habit 28 = .ok (.aload_n 0, 1) := dk_42 (dk_at dksX1_habit_1 4 rfl rfl)
theorem dX1_habit_29 : decode cX1_habit 29 = .ok (.aload_n 0, 1) := dk_42 (dk_at dksX1_habit_1 5 rfl rfl)
theorem dX1_habit_30 : decode cX1_habit 30 = .ok (.getfield 22, 3) := dk_180 0 22 (dk_at dksX1_habit_1 6 rfl rfl)
theorem dX1_habit_33 : decode cX1_habit 33 = .ok (.iconst 3, 1) := dk_6 (dk_at dksX1_habit_1 9 rfl rfl)
theorem dX1_habit_34 : decode cX1_habit 34 = .ok (.iload_n 3, 1) := dk_29 (dk_at dksX1_habit_1 10 rfl rfl)
theorem dX1_habit_35 : decode cX1_habit 35 = .ok (.iadd, 1) := dk_96 (dk_at dksX1_habit_1 11 rfl rfl)
theorem dX1_habit_36 : decode cX1_habit 36 = .ok (.iaload, 1) := dk_46 (dk_at dksX1_habit_1 12 rfl rfl)
theorem dX1_habit_37 : decode cX1_habit 37 = .ok (.iload 5, 2) := dk_21 5 (dk_at dksX1_habit_1 13 rfl rfl)
theorem dX1_habit_39 : decode cX1_habit 39 = .ok (.invokevirtual 210, 3) := dk_182 0 210 (dk_at dksX1_habit_1 15 rfl rfl)
theorem dX1_habit_42 : decode cX1_habit 42 = .ok (.aload_n 0, 1) := dk_42 (dk_at dksX1_habit_1 18 rfl rfl)
theorem dX1_habit_43 : decode cX1_habit 43 = .ok (.aload_n 0, 1) := dk_42 (dk_at dksX1_habit_1 19 rfl rfl)
theorem dX1_habit_44 : decode cX1_habit 44 = .ok (.getfield 22, 3) := dk_180 0 22 (dk_at dksX1_habit_1 20 rfl rfl)
theorem dX1_habit_47 : decode cX1_habit 47 = .ok (.iconst 3, 1) := dk_6 (dk_at dksX1_habit_1 23 rfl rfl)
theorem dX1_habit_48 : decode cX1_habit 48 = .ok (.iload_n 3, 1) := dk_29 (dk_at dksX1_habit_2 0 rfl rfl)
theorem dX1_habit_49 : decode cX1_habit 49 = .ok (.iadd, 1) := dk_96 (dk_at dksX1_habit_2 1 rfl rfl)
theorem dX1_habit_50 : decode cX1_habit 50 = .ok (.iaload, 1) := dk_46 (dk_at dksX1_habit_2 2 rfl rfl)
theorem dX1_habit_51 : decode cX1_habit 51 = .ok (.iload 4, 2) := dk_21 4 (dk_at dksX1_habit_2 3 rfl rfl)
theorem dX1_habit_53 : decode cX1_habit 53 = .ok (.invokevirtual 210, 3) := dk_182 0 210 (dk_at dksX1_habit_2 5 rfl rfl)
theorem dX1_habit_56 : decode cX1_habit 56 = .ok (.if_icmp .le 8, 3) := dk_164 0 8 (dk_at dksX1_habit_2 8 rfl rfl)
theorem dX1_habit_59 : decode cX1_habit 59 = .ok (.iload 5, 2) := dk_21 5 (dk_at dksX1_habit_2 11 rfl rfl)
theorem dX1_habit_61 : decode cX1_habit 61 = .ok (.goto 5, 3) := dk_167 0 5 (dk_at dksX1_habit_2 13 rfl rfl)
theorem dX1_habit_64 : decode cX1_habit 64 = .ok (.iload 4, 2) := dk_21 4 (dk_at dksX1_habit_2 16 rfl rfl)
theorem dX1_habit_66 : decode cX1_habit 66 = .ok (.istore 4, 2) := dk_54 4 (dk_at dksX1_habit_2 18 rfl rfl)
theorem dX1_habit_68 : decode cX1_habit 68 = .ok (.iinc 5 1, 3) := dk_132 5 1 (dk_at dksX1_habit_2 20 rfl rfl)
theorem dX1_habit_71 : decode cX1_habit 71 = .ok (.goto (-49), 3) := dk_167 255 207 (dk_at dksX1_habit_3 0 rfl rfl)
theorem dX1_habit_74 : decode cX1_habit 74 = .ok (.iload_n 1, 1) := dk_27 (dk_at dksX1_habit_3 3 rfl rfl)
theorem dX1_habit_75 : decode cX1_habit 75 = .ok (.aload_n 0, 1) := dk_42 (dk_at dksX1_habit_3 4 rfl rfl)
theorem dX1_habit_76 : decode cX1_habit 76 = .ok (.getfield 22, 3) := dk_180 0 22 (dk_at dksX1_habit_3 5 rfl rfl)
theorem dX1_habit_79 : decode cX1_habit 79 = .ok (.bipush 17, 2) := dk_16 17 (dk_at dksX1_habit_3 8 rfl rfl)
theorem dX1_habit_81 : decode cX1_habit 81 = .ok (.iload_n 3, 1) := dk_29 (dk_at dksX1_habit_3 10 rfl rfl)
theorem dX1_habit_82 : decode cX1_habit 82 = .ok (.iadd, 1) := dk_96 (dk_at dksX1_habit_3 11 rfl rfl)
theorem dX1_habit_83 : decode cX1_habit 83 = .ok (.iaload, 1) := dk_46 (dk_at dksX1_habit_3 12 rfl rfl)
theorem dX1_habit_84 : decode cX1_habit 84 = .ok (.iload 4, 2) := dk_21 4 (dk_at dksX1_habit_3 13 rfl rfl)
theorem dX1_habit_86 : decode cX1_habit 86 = .ok (.if_icmp .ne 7, 3) := dk_160 0 7 (dk_at dksX1_habit_3 15 rfl rfl)
theorem dX1_habit_89 : decode cX1_habit 89 = .ok (.iconst 1, 1) := dk_4 (dk_at dksX1_habit_3 18 rfl rfl)
theorem dX1_habit_90 : decode cX1_habit 90 = .ok (.goto 4, 3) := dk_167 0 4 (dk_at dksX1_habit_3 19 rfl rfl)
theorem dX1_habit_93 : decode cX1_habit 93 = .ok (.iconst 0, 1) := dk_3 (dk_at dksX1_habit_3 22 rfl rfl)
theorem dX1_habit_94 : decode cX1_habit 94 = .ok (.iadd, 1) := dk_96 (dk_at dksX1_habit_3 23 rfl rfl)
theorem dX1_habit_95 : decode cX1_habit 95 = .ok (.istore_n 1, 1) := dk_60 (dk_at dksX1_habit_4 0 rfl rfl)
theorem dX1_habit_96 : decode cX1_habit 96 = .ok (.iload_n 2, 1) := dk_28 (dk_at dksX1_habit_4 1 rfl rfl)
theorem dX1_habit_97 : decode cX1_habit 97 = .ok (.aload_n 0, 1) := dk_42 (dk_at dksX1_habit_4 2 rfl rfl)
theorem dX1_habit_98 : decode cX1_habit 98 = .ok (.getfield 22, 3) := dk_180 0 22 (dk_at dksX1_habit_4 3 rfl rfl)
theorem dX1_habit_101 : decode cX1_habit 101 = .ok (.bipush 17, 2) := dk_16 17 (dk_at dksX1_habit_4 6 rfl rfl)
theorem dX1_habit_103 : decode cX1_habit 103 = .ok (.iload_n 3, 1) := dk_29 (dk_at dksX1_habit_4 8 rfl rfl)
theorem dX1_habit_104 : decode cX1_habit 104 = .ok (.iadd, 1) := dk_96 (dk_at dksX1_habit_4 9 rfl rfl)
theorem dX1_habit_105 : decode cX1_habit 105 = .ok (.iaload, 1) := dk_46 (dk_at dksX1_habit_4 10 rfl rfl)
theorem dX1_habit_106 : decode cX1_habit 106 = .ok (.iload 4, 2) := dk_21 4 (dk_at dksX1_habit_4 11 rfl rfl)
theorem dX1_habit_108 : decode cX1_habit 108 = .ok (.if_icmp .ne 7, 3) := dk_160 0 7 (dk_at dksX1_habit_4 13 rfl rfl)
theorem dX1_habit_111 : decode cX1_habit 111 = .ok (.iconst 0, 1) := dk_3 (dk_at dksX1_habit_4 16 rfl rfl)
theorem dX1_habit_112 : decode cX1_habit 112 = .ok (.goto 6, 3) := dk_167 0 6 (dk_at dksX1_habit_4 17 rfl rfl)
theorem dX1_habit_115 : decode cX1_habit 115 = .ok (.iconst 1, 1) := dk_4 (dk_at dksX1_habit_4 20 rfl rfl)
theorem dX1_habit_116 : decode cX1_habit 116 = .ok (.iload_n 3, 1) := dk_29 (dk_at dksX1_habit_4 21 rfl rfl)
theorem dX1_habit_117 : decode cX1_habit 117 = .ok (.ishl, 1) := dk_120 (dk_at dksX1_habit_4 22 rfl rfl)
theorem dX1_habit_118 : decode cX1_habit 118 = .ok (.ior, 1) := dk_128 (dk_at dksX1_habit_4 23 rfl rfl)
theorem dX1_habit_119 : decode cX1_habit 119 = .ok (.istore_n 2, 1) := dk_61 (dk_at dksX1_habit_5 0 rfl rfl)
theorem dX1_habit_120 : decode cX1_habit 120 = .ok (.iinc 3 1, 3) := dk_132 3 1 (dk_at dksX1_habit_5 1 rfl rfl)
theorem dX1_habit_123 : decode cX1_habit 123 = .ok (.goto (-117), 3) := dk_167 255 139 (dk_at dksX1_habit_5 4 rfl rfl)
theorem dX1_habit_126 : decode cX1_habit 126 = .ok (.aload_n 0, 1) := dk_42 (dk_at dksX1_habit_5 7 rfl rfl)
theorem dX1_habit_127 : decode cX1_habit 127 = .ok (.iload_n 2, 1) := dk_28 (dk_at dksX1_habit_5 8 rfl rfl)
theorem dX1_habit_128 : decode cX1_habit 128 = .ok (.invokevirtual 80, 3) := dk_182 0 80 (dk_at dksX1_habit_5 9 rfl rfl)
theorem dX1_habit_131 : decode cX1_habit 131 = .ok (.istore_n 3, 1) := dk_62 (dk_at dksX1_habit_5 12 rfl rfl)
theorem dX1_habit_132 : decode cX1_habit 132 = .ok (.iload_n 1, 1) := dk_27 (dk_at dksX1_habit_5 13 rfl rfl)
theorem dX1_habit_133 : decode cX1_habit 133 = .ok (.ireturn, 1) := dk_172 (dk_at dksX1_habit_5 14 rfl rfl)
abbrev cX1_lying : ByteArray := prog_10_method_75_code
def yX1_lying : MethodName := ⟨RX1, "lying", "(II)I"⟩
def dkwX1_lying_2 : List UInt8 := [3, 96, 62, 132, 4, 1, 167, 255, 207, 29, 172]
abbrev dktX1_lying_2 : List UInt8 := dkwX1_lying_2 ++ []
def dkwX1_lying_1 : List UInt8 := [96, 46, 27, 160, 0, 21, 42, 180, 0, 22, 16, 17, 21, 4, 96, 46, 28, 160, 0, 7, 4, 167, 0, 4]
abbrev dktX1_lying_1 : List UInt8 := dkwX1_lying_1 ++ dktX1_lying_2
def dkwX1_lying_0 : List UInt8 := [3, 62, 3, 54, 4, 21, 4, 42, 180, 0, 22, 3, 46, 162, 0, 44, 29, 42, 180, 0, 22, 6, 21, 4]
abbrev dktX1_lying_0 : List UInt8 := dkwX1_lying_0 ++ dktX1_lying_1
theorem dksX1_lying_0 : cX1_lying.data.toList.drop 0 = dktX1_lying_0 := by decide +kernel
theorem dksX1_lying_1 : cX1_lying.data.toList.drop 24 = dktX1_lying_1 := dk_seg dksX1_lying_0 24 rfl rfl
theorem dksX1_lying_2 : cX1_lying.data.toList.drop 48 = dktX1_lying_2 := dk_seg dksX1_lying_1 24 rfl rfl
theorem dX1_lying_0 : decode cX1_lying 0 = .ok (.iconst 0, 1) := dk_3 (dk_at dksX1_lying_0 0 rfl rfl)
theorem dX1_lying_1 : decode cX1_lying 1 = .ok (.istore_n 3, 1) := dk_62 (dk_at dksX1_lying_0 1 rfl rfl)
theorem dX1_lying_2 : decode cX1_lying 2 = .ok (.iconst 0, 1) := dk_3 (dk_at dksX1_lying_0 2 rfl rfl)
theorem dX1_lying_3 : decode cX1_lying 3 = .ok (.istore 4, 2) := dk_54 4 (dk_at dksX1_lying_0 3 rfl rfl)
theorem dX1_lying_5 : decode cX1_lying 5 = .ok (.iload 4, 2) := dk_21 4 (dk_at dksX1_lying_0 5 rfl rfl)
theorem dX1_lying_7 : decode cX1_lying 7 = .ok (.aload_n 0, 1) := dk_42 (dk_at dksX1_lying_0 7 rfl rfl)
theorem dX1_lying_8 : decode cX1_lying 8 = .ok (.getfield 22, 3) := dk_180 0 22 (dk_at dksX1_lying_0 8 rfl rfl)
theorem dX1_lying_11 : decode cX1_lying 11 = .ok (.iconst 0, 1) := dk_3 (dk_at dksX1_lying_0 11 rfl rfl)
theorem dX1_lying_12 : decode cX1_lying 12 = .ok (.iaload, 1) := dk_46 (dk_at dksX1_lying_0 12 rfl rfl)
theorem dX1_lying_13 : decode cX1_lying 13 = .ok (.if_icmp .ge 44, 3) := dk_162 0 44 (dk_at dksX1_lying_0 13 rfl rfl)
theorem dX1_lying_16 : decode cX1_lying 16 = .ok (.iload_n 3, 1) := dk_29 (dk_at dksX1_lying_0 16 rfl rfl)
theorem dX1_lying_17 : decode cX1_lying 17 = .ok (.aload_n 0, 1) := dk_42 (dk_at dksX1_lying_0 17 rfl rfl)
theorem dX1_lying_18 : decode cX1_lying 18 = .ok (.getfield 22, 3) := dk_180 0 22 (dk_at dksX1_lying_0 18 rfl rfl)
theorem dX1_lying_21 : decode cX1_lying 21 = .ok (.iconst 3, 1) := dk_6 (dk_at dksX1_lying_0 21 rfl rfl)
theorem dX1_lying_22 : decode cX1_lying 22 = .ok (.iload 4, 2) := dk_21 4 (dk_at dksX1_lying_0 22 rfl rfl)
theorem dX1_lying_24 : decode cX1_lying 24 = .ok (.iadd, 1) := dk_96 (dk_at dksX1_lying_1 0 rfl rfl)
theorem dX1_lying_25 : decode cX1_lying 25 = .ok (.iaload, 1) := dk_46 (dk_at dksX1_lying_1 1 rfl rfl)
theorem dX1_lying_26 : decode cX1_lying 26 = .ok (.iload_n 1, 1) := dk_27 (dk_at dksX1_lying_1 2 rfl rfl)
theorem dX1_lying_27 : decode cX1_lying 27 = .ok (.if_icmp .ne 21, 3) := dk_160 0 21 (dk_at dksX1_lying_1 3 rfl rfl)
theorem dX1_lying_30 : decode cX1_lying 30 = .ok (.aload_n 0, 1) := dk_42 (dk_at dksX1_lying_1 6 rfl rfl)
theorem dX1_lying_31 : decode cX1_lying 31 = .ok (.getfield 22, 3) := dk_180 0 22 (dk_at dksX1_lying_1 7 rfl rfl)
theorem dX1_lying_34 : decode cX1_lying 34 = .ok (.bipush 17, 2) := dk_16 17 (dk_at dksX1_lying_1 10 rfl rfl)
theorem dX1_lying_36 : decode cX1_lying 36 = .ok (.iload 4, 2) := dk_21 4 (dk_at dksX1_lying_1 12 rfl rfl)
theorem dX1_lying_38 : decode cX1_lying 38 = .ok (.iadd, 1) := dk_96 (dk_at dksX1_lying_1 14 rfl rfl)
theorem dX1_lying_39 : decode cX1_lying 39 = .ok (.iaload, 1) := dk_46 (dk_at dksX1_lying_1 15 rfl rfl)
theorem dX1_lying_40 : decode cX1_lying 40 = .ok (.iload_n 2, 1) := dk_28 (dk_at dksX1_lying_1 16 rfl rfl)
theorem dX1_lying_41 : decode cX1_lying 41 = .ok (.if_icmp .ne 7, 3) := dk_160 0 7 (dk_at dksX1_lying_1 17 rfl rfl)
theorem dX1_lying_44 : decode cX1_lying 44 = .ok (.iconst 1, 1) := dk_4 (dk_at dksX1_lying_1 20 rfl rfl)
theorem dX1_lying_45 : decode cX1_lying 45 = .ok (.goto 4, 3) := dk_167 0 4 (dk_at dksX1_lying_1 21 rfl rfl)
theorem dX1_lying_48 : decode cX1_lying 48 = .ok (.iconst 0, 1) := dk_3 (dk_at dksX1_lying_2 0 rfl rfl)
theorem dX1_lying_49 : decode cX1_lying 49 = .ok (.iadd, 1) := dk_96 (dk_at dksX1_lying_2 1 rfl rfl)
theorem dX1_lying_50 : decode cX1_lying 50 = .ok (.istore_n 3, 1) := dk_62 (dk_at dksX1_lying_2 2 rfl rfl)
theorem dX1_lying_51 : decode cX1_lying 51 = .ok (.iinc 4 1, 3) := dk_132 4 1 (dk_at dksX1_lying_2 3 rfl rfl)
theorem dX1_lying_54 : decode cX1_lying 54 = .ok (.goto (-49), 3) := dk_167 255 207 (dk_at dksX1_lying_2 6 rfl rfl)
theorem dX1_lying_57 : decode cX1_lying 57 = .ok (.iload_n 3, 1) := dk_29 (dk_at dksX1_lying_2 9 rfl rfl)
theorem dX1_lying_58 : decode cX1_lying 58 = .ok (.ireturn, 1) := dk_172 (dk_at dksX1_lying_2 10 rfl rfl)
abbrev cX1_order : ByteArray := prog_10_method_77_code
def yX1_order : MethodName := ⟨RX1, "order", "()I"⟩
def dkwX1_order_6 : List UInt8 := [132, 3, 1, 167, 255, 147, 28, 172]
abbrev dktX1_order_6 : List UInt8 := dkwX1_order_6 ++ []
def dkwX1_order_5 : List UInt8 := [130, 126, 154, 0, 20, 28, 16, 247, 159, 0, 9, 21, 7, 28, 162, 0, 8, 21, 7, 167, 0, 4, 28, 61]
abbrev dktX1_order_5 : List UInt8 := dkwX1_order_5 ++ dktX1_order_6
def dkwX1_order_4 : List UInt8 := [96, 54, 6, 132, 7, 1, 167, 255, 211, 42, 180, 0, 22, 3, 46, 21, 6, 100, 54, 7, 27, 21, 5, 2]
abbrev dktX1_order_4 : List UInt8 := dkwX1_order_4 ++ dktX1_order_5
def dkwX1_order_3 : List UInt8 := [16, 7, 108, 54, 4, 21, 5, 4, 21, 8, 120, 128, 54, 5, 21, 6, 42, 21, 8, 21, 7, 182, 0, 210]
abbrev dktX1_order_3 : List UInt8 := dkwX1_order_3 ++ dktX1_order_4
def dkwX1_order_2 : List UInt8 := [3, 54, 5, 3, 54, 6, 3, 54, 7, 21, 7, 7, 162, 0, 45, 21, 4, 16, 7, 112, 54, 8, 21, 4]
abbrev dktX1_order_2 : List UInt8 := dkwX1_order_2 ++ dktX1_order_3
def dkwX1_order_1 : List UInt8 := [120, 128, 60, 132, 2, 1, 167, 255, 230, 16, 247, 61, 3, 62, 29, 17, 9, 97, 162, 0, 108, 29, 54, 4]
abbrev dktX1_order_1 : List UInt8 := dkwX1_order_1 ++ dktX1_order_2
def dkwX1_order_0 : List UInt8 := [3, 60, 3, 61, 28, 42, 180, 0, 22, 3, 46, 162, 0, 22, 27, 4, 42, 180, 0, 22, 6, 28, 96, 46]
abbrev dktX1_order_0 : List UInt8 := dkwX1_order_0 ++ dktX1_order_1
theorem dksX1_order_0 : cX1_order.data.toList.drop 0 = dktX1_order_0 := by decide +kernel
theorem dksX1_order_1 : cX1_order.data.toList.drop 24 = dktX1_order_1 := dk_seg dksX1_order_0 24 rfl rfl
theorem dksX1_order_2 : cX1_order.data.toList.drop 48 = dktX1_order_2 := dk_seg dksX1_order_1 24 rfl rfl
theorem dksX1_order_3 : cX1_order.data.toList.drop 72 = dktX1_order_3 := dk_seg dksX1_order_2 24 rfl rfl
theorem dksX1_order_4 : cX1_order.data.toList.drop 96 = dktX1_order_4 := dk_seg dksX1_order_3 24 rfl rfl
theorem dksX1_order_5 : cX1_order.data.toList.drop 120 = dktX1_order_5 := dk_seg dksX1_order_4 24 rfl rfl
theorem dksX1_order_6 : cX1_order.data.toList.drop 144 = dktX1_order_6 := dk_seg dksX1_order_5 24 rfl rfl
theorem dX1_order_0 : decode cX1_order 0 = .ok (.iconst 0, 1) := dk_3 (dk_at dksX1_order_0 0 rfl rfl)
theorem dX1_order_1 : decode cX1_order 1 = .ok (.istore_n 1, 1) := dk_60 (dk_at dksX1_order_0 1 rfl rfl)
theorem dX1_order_2 : decode cX1_order 2 = .ok (.iconst 0, 1) := dk_3 (dk_at dksX1_order_0 2 rfl rfl)
theorem dX1_order_3 : decode cX1_order 3 = .ok (.istore_n 2, 1) := dk_61 (dk_at dksX1_order_0 3 rfl rfl)
theorem dX1_order_4 : decode cX1_order 4 = .ok (.iload_n 2, 1) := dk_28 (dk_at dksX1_order_0 4 rfl rfl)
theorem dX1_order_5 : decode cX1_order 5 = .ok (.aload_n 0, 1) := dk_42 (dk_at dksX1_order_0 5 rfl rfl)
theorem dX1_order_6 : decode cX1_order 6 = .ok (.getfield 22, 3) := dk_180 0 22 (dk_at dksX1_order_0 6 rfl rfl)
theorem dX1_order_9 : decode cX1_order 9 = .ok (.iconst 0, 1) := dk_3 (dk_at dksX1_order_0 9 rfl rfl)
theorem dX1_order_10 : decode cX1_order 10 = .ok (.iaload, 1) := dk_46 (dk_at dksX1_order_0 10 rfl rfl)
theorem dX1_order_11 : decode cX1_order 11 = .ok (.if_icmp .ge 22, 3) := dk_162 0 22 (dk_at dksX1_order_0 11 rfl rfl)
theorem dX1_order_14 : decode cX1_order 14 = .ok (.iload_n 1, 1) := dk_27 (dk_at dksX1_order_0 14 rfl rfl)
theorem dX1_order_15 : decode cX1_order 15 = .ok (.iconst 1, 1) := dk_4 (dk_at dksX1_order_0 15 rfl rfl)
theorem dX1_order_16 : decode cX1_order 16 = .ok (.aload_n 0, 1) := dk_42 (dk_at dksX1_order_0 16 rfl rfl)
theorem dX1_order_17 : decode cX1_order 17 = .ok (.getfield 22, 3) := dk_180 0 22 (dk_at dksX1_order_0 17 rfl rfl)
theorem dX1_order_20 : decode cX1_order 20 = .ok (.iconst 3, 1) := dk_6 (dk_at dksX1_order_0 20 rfl rfl)
theorem dX1_order_21 : decode cX1_order 21 = .ok (.iload_n 2, 1) := dk_28 (dk_at dksX1_order_0 21 rfl rfl)
theorem dX1_order_22 : decode cX1_order 22 = .ok (.iadd, 1) := dk_96 (dk_at dksX1_order_0 22 rfl rfl)
theorem dX1_order_23 : decode cX1_order 23 = .ok (.iaload, 1) := dk_46 (dk_at dksX1_order_0 23 rfl rfl)
theorem dX1_order_24 : decode cX1_order 24 = .ok (.ishl, 1) := dk_120 (dk_at dksX1_order_1 0 rfl rfl)
theorem dX1_order_25 : decode cX1_order 25 = .ok (.ior, 1) := dk_128 (dk_at dksX1_order_1 1 rfl rfl)
theorem dX1_order_26 : decode cX1_order 26 = .ok (.istore_n 1, 1) := dk_60 (dk_at dksX1_order_1 2 rfl rfl)
theorem dX1_order_27 : decode cX1_order 27 = .ok (.iinc 2 1, 3) := dk_132 2 1 (dk_at dksX1_order_1 3 rfl rfl)
theorem dX1_order_30 : decode cX1_order 30 = .ok (.goto (-26), 3) := dk_167 255 230 (dk_at dksX1_order_1 6 rfl rfl)
theorem dX1_order_33 : decode cX1_order 33 = .ok (.bipush (-9), 2) := dk_16 247 (dk_at dksX1_order_1 9 rfl rfl)
theorem dX1_order_35 : decode cX1_order 35 = .ok (.istore_n 2, 1) := dk_61 (dk_at dksX1_order_1 11 rfl rfl)
theorem dX1_order_36 : decode cX1_order 36 = .ok (.iconst 0, 1) := dk_3 (dk_at dksX1_order_1 12 rfl rfl)
theorem dX1_order_37 : decode cX1_order 37 = .ok (.istore_n 3, 1) := dk_62 (dk_at dksX1_order_1 13 rfl rfl)
theorem dX1_order_38 : decode cX1_order 38 = .ok (.iload_n 3, 1) := dk_29 (dk_at dksX1_order_1 14 rfl rfl)
theorem dX1_order_39 : decode cX1_order 39 = .ok (.sipush 2401, 3) := dk_17 9 97 (dk_at dksX1_order_1 15 rfl rfl)
theorem dX1_order_42 : decode cX1_order 42 = .ok (.if_icmp .ge 108, 3) := dk_162 0 108 (dk_at dksX1_order_1 18 rfl rfl)
theorem dX1_order_45 : decode cX1_order 45 = .ok (.iload_n 3, 1) := dk_29 (dk_at dksX1_order_1 21 rfl rfl)
theorem dX1_order_46 : decode cX1_order 46 = .ok (.istore 4, 2) := dk_54 4 (dk_at dksX1_order_1 22 rfl rfl)
theorem dX1_order_48 : decode cX1_order 48 = .ok (.iconst 0, 1) := dk_3 (dk_at dksX1_order_2 0 rfl rfl)
theorem dX1_order_49 : decode cX1_order 49 = .ok (.istore 5, 2) := dk_54 5 (dk_at dksX1_order_2 1 rfl rfl)
theorem dX1_order_51 : decode cX1_order 51 = .ok (.iconst 0, 1) := dk_3 (dk_at dksX1_order_2 3 rfl rfl)
theorem dX1_order_52 : decode cX1_order 52 = .ok (.istore 6, 2) := dk_54 6 (dk_at dksX1_order_2 4 rfl rfl)
theorem dX1_order_54 : decode cX1_order 54 = .ok (.iconst 0, 1) := dk_3 (dk_at dksX1_order_2 6 rfl rfl)
theorem dX1_order_55 : decode cX1_order 55 = .ok (.istore 7, 2) := dk_54 7 (dk_at dksX1_order_2 7 rfl rfl)
theorem dX1_order_57 : decode cX1_order 57 = .ok (.iload 7, 2) := dk_21 7 (dk_at dksX1_order_2 9 rfl rfl)
theorem dX1_order_59 : decode cX1_order 59 = .ok (.iconst 4, 1) := dk_7 (dk_at dksX1_order_2 11 rfl rfl)
theorem dX1_order_60 : decode cX1_order 60 = .ok (.if_icmp .ge 45, 3) := dk_162 0 45 (dk_at dksX1_order_2 12 rfl rfl)
theorem dX1_order_63 : decode cX1_order 63 = .ok (.iload 4, 2) := dk_21 4 (dk_at dksX1_order_2 15 rfl rfl)
theorem dX1_order_65 : decode cX1_order 65 = .ok (.bipush 7, 2) := dk_16 7 (dk_at dksX1_order_2 17 rfl rfl)
theorem dX1_order_67 : decode cX1_order 67 = .ok (.irem, 1) := dk_112 (dk_at dksX1_order_2 19 rfl rfl)
theorem dX1_order_68 : decode cX1_order 68 = .ok (.istore 8, 2) := dk_54 8 (dk_at dksX1_order_2 20 rfl rfl)
theorem dX1_order_70 : decode cX1_order 70 = .ok (.iload 4, 2) := dk_21 4 (dk_at dksX1_order_2 22 rfl rfl)
theorem dX1_order_72 : decode cX1_order 72 = .ok (.bipush 7, 2) := dk_16 7 (dk_at dksX1_order_3 0 rfl rfl)
theorem dX1_order_74 : decode cX1_order 74 = .ok (.idiv, 1) := dk_108 (dk_at dksX1_order_3 2 rfl rfl)
theorem dX1_order_75 : decode cX1_order 75 = .ok (.istore 4, 2) := dk_54 4 (dk_at dksX1_order_3 3 rfl rfl)
theorem dX1_order_77 : decode cX1_order 77 = .ok (.iload 5, 2) := dk_21 5 (dk_at dksX1_order_3 5 rfl rfl)
theorem dX1_order_79 : decode cX1_order 79 = .ok (.iconst 1, 1) := dk_4 (dk_at dksX1_order_3 7 rfl rfl)
theorem dX1_order_80 : decode cX1_order 80 = .ok (.iload 8, 2) := dk_21 8 (dk_at dksX1_order_3 8 rfl rfl)
theorem dX1_order_82 : decode cX1_order 82 = .ok (.ishl, 1) := dk_120 (dk_at dksX1_order_3 10 rfl rfl)
theorem dX1_order_83 : decode cX1_order 83 = .ok (.ior, 1) := dk_128 (dk_at dksX1_order_3 11 rfl rfl)
theorem dX1_order_84 : decode cX1_order 84 = .ok (.istore 5, 2) := dk_54 5 (dk_at dksX1_order_3 12 rfl rfl)
theorem dX1_order_86 : decode cX1_order 86 = .ok (.iload 6, 2) := dk_21 6 (dk_at dksX1_order_3 14 rfl rfl)
theorem dX1_order_88 : decode cX1_order 88 = .ok (.aload_n 0, 1) := dk_42 (dk_at dksX1_order_3 16 rfl rfl)
theorem dX1_order_89 : decode cX1_order 89 = .ok (.iload 8, 2) := dk_21 8 (dk_at dksX1_order_3 17 rfl rfl)
theorem dX1_order_91 : decode cX1_order 91 = .ok (.iload 7, 2) := dk_21 7 (dk_at dksX1_order_3 19 rfl rfl)
theorem dX1_order_93 : decode cX1_order 93 = .ok (.invokevirtual 210, 3) := dk_182 0 210 (dk_at dksX1_order_3 21 rfl rfl)
theorem dX1_order_96 : decode cX1_order 96 = .ok (.iadd, 1) := dk_96 (dk_at dksX1_order_4 0 rfl rfl)
theorem dX1_order_97 : decode cX1_order 97 = .ok (.istore 6, 2) := dk_54 6 (dk_at dksX1_order_4 1 rfl rfl)
theorem dX1_order_99 : decode cX1_order 99 = .ok (.iinc 7 1, 3) := dk_132 7 1 (dk_at dksX1_order_4 3 rfl rfl)
theorem dX1_order_102 : decode cX1_order 102 = .ok (.goto (-45), 3) := dk_167 255 211 (dk_at dksX1_order_4 6 rfl rfl)
theorem dX1_order_105 : decode cX1_order 105 = .ok (.aload_n 0, 1) := dk_42 (dk_at dksX1_order_4 9 rfl rfl)
theorem dX1_order_106 : decode cX1_order 106 = .ok (.getfield 22, 3) := dk_180 0 22 (dk_at dksX1_order_4 10 rfl rfl)
theorem dX1_order_109 : decode cX1_order 109 = .ok (.iconst 0, 1) := dk_3 (dk_at dksX1_order_4 13 rfl rfl)
theorem dX1_order_110 : decode cX1_order 110 = .ok (.iaload, 1) := dk_46 (dk_at dksX1_order_4 14 rfl rfl)
theorem dX1_order_111 : decode cX1_order 111 = .ok (.iload 6, 2) := dk_21 6 (dk_at dksX1_order_4 15 rfl rfl)
theorem dX1_order_113 : decode cX1_order 113 = .ok (.isub, 1) := dk_100 (dk_at dksX1_order_4 17 rfl rfl)
theorem dX1_order_114 : decode cX1_order 114 = .ok (.istore 7, 2) := dk_54 7 (dk_at dksX1_order_4 18 rfl rfl)
theorem dX1_order_116 : decode cX1_order 116 = .ok (.iload_n 1, 1) := dk_27 (dk_at dksX1_order_4 20 rfl rfl)
theorem dX1_order_117 : decode cX1_order 117 = .ok (.iload 5, 2) := dk_21 5 (dk_at dksX1_order_4 21 rfl rfl)
theorem dX1_order_119 : decode cX1_order 119 = .ok (.iconst (-1), 1) := dk_2 (dk_at dksX1_order_4 23 rfl rfl)
theorem dX1_order_120 : decode cX1_order 120 = .ok (.ixor, 1) := dk_130 (dk_at dksX1_order_5 0 rfl rfl)
theorem dX1_order_121 : decode cX1_order 121 = .ok (.iand, 1) := dk_126 (dk_at dksX1_order_5 1 rfl rfl)
theorem dX1_order_122 : decode cX1_order 122 = .ok (.ifCond .ne 20, 3) := dk_154 0 20 (dk_at dksX1_order_5 2 rfl rfl)
theorem dX1_order_125 : decode cX1_order 125 = .ok (.iload_n 2, 1) := dk_28 (dk_at dksX1_order_5 5 rfl rfl)
theorem dX1_order_126 : decode cX1_order 126 = .ok (.bipush (-9), 2) := dk_16 247 (dk_at dksX1_order_5 6 rfl rfl)
theorem dX1_order_128 : decode cX1_order 128 = .ok (.if_icmp .eq 9, 3) := dk_159 0 9 (dk_at dksX1_order_5 8 rfl rfl)
theorem dX1_order_131 : decode cX1_order 131 = .ok (.iload 7, 2) := dk_21 7 (dk_at dksX1_order_5 11 rfl rfl)
theorem dX1_order_133 : decode cX1_order 133 = .ok (.iload_n 2, 1) := dk_28 (dk_at dksX1_order_5 13 rfl rfl)
theorem dX1_order_134 : decode cX1_order 134 = .ok (.if_icmp .ge 8, 3) := dk_162 0 8 (dk_at dksX1_order_5 14 rfl rfl)
theorem dX1_order_137 : decode cX1_order 137 = .ok (.iload 7, 2) := dk_21 7 (dk_at dksX1_order_5 17 rfl rfl)
theorem dX1_order_139 : decode cX1_order 139 = .ok (.goto 4, 3) := dk_167 0 4 (dk_at dksX1_order_5 19 rfl rfl)
theorem dX1_order_142 : decode cX1_order 142 = .ok (.iload_n 2, 1) := dk_28 (dk_at dksX1_order_5 22 rfl rfl)
theorem dX1_order_143 : decode cX1_order 143 = .ok (.istore_n 2, 1) := dk_61 (dk_at dksX1_order_5 23 rfl rfl)
theorem dX1_order_144 : decode cX1_order 144 = .ok (.iinc 3 1, 3) := dk_132 3 1 (dk_at dksX1_order_6 0 rfl rfl)
theorem dX1_order_147 : decode cX1_order 147 = .ok (.goto (-109), 3) := dk_167 255 147 (dk_at dksX1_order_6 3 rfl rfl)
theorem dX1_order_150 : decode cX1_order 150 = .ok (.iload_n 2, 1) := dk_28 (dk_at dksX1_order_6 6 rfl rfl)
theorem dX1_order_151 : decode cX1_order 151 = .ok (.ireturn, 1) := dk_172 (dk_at dksX1_order_6 7 rfl rfl)
abbrev cX1_byAge : ByteArray := prog_10_method_78_code
def yX1_byAge : MethodName := ⟨RX1, "byAge", "(I)I"⟩
def dkwX1_byAge_3 : List UInt8 := [132, 3, 1, 132, 5, 1, 167, 255, 216, 132, 4, 255, 167, 255, 202, 28, 172]
abbrev dktX1_byAge_3 : List UInt8 := dkwX1_byAge_3 ++ []
def dkwX1_byAge_2 : List UInt8 := [21, 5, 96, 46, 21, 4, 160, 0, 19, 42, 180, 0, 13, 16, 40, 27, 104, 29, 96, 21, 5, 79]
abbrev dktX1_byAge_2 : List UInt8 := dkwX1_byAge_2 ++ dktX1_byAge_3
def dkwX1_byAge_1 : List UInt8 := [16, 9, 54, 4, 21, 4, 155, 0, 55, 3, 54, 5, 21, 5, 28, 162, 0, 40, 42, 180, 0, 22, 16, 24]
abbrev dktX1_byAge_1 : List UInt8 := dkwX1_byAge_1 ++ dktX1_byAge_2
def dkwX1_byAge_0 : List UInt8 := [27, 184, 0, 72, 154, 0, 5, 2, 172, 42, 27, 42, 180, 0, 22, 3, 46, 182, 0, 178, 61, 3, 62]
abbrev dktX1_byAge_0 : List UInt8 := dkwX1_byAge_0 ++ dktX1_byAge_1
theorem dksX1_byAge_0 : cX1_byAge.data.toList.drop 0 = dktX1_byAge_0 := by decide +kernel
theorem dksX1_byAge_1 : cX1_byAge.data.toList.drop 23 = dktX1_byAge_1 := dk_seg dksX1_byAge_0 23 rfl rfl
theorem dksX1_byAge_2 : cX1_byAge.data.toList.drop 47 = dktX1_byAge_2 := dk_seg dksX1_byAge_1 24 rfl rfl
theorem dksX1_byAge_3 : cX1_byAge.data.toList.drop 69 = dktX1_byAge_3 := dk_seg dksX1_byAge_2 22 rfl rfl
theorem dX1_byAge_0 : decode cX1_byAge 0 = .ok (.iload_n 1, 1) := dk_27 (dk_at dksX1_byAge_0 0 rfl rfl)
theorem dX1_byAge_1 : decode cX1_byAge 1 = .ok (.invokestatic 72, 3) := dk_184 0 72 (dk_at dksX1_byAge_0 1 rfl rfl)
theorem dX1_byAge_4 : decode cX1_byAge 4 = .ok (.ifCond .ne 5, 3) := dk_154 0 5 (dk_at dksX1_byAge_0 4 rfl rfl)
theorem dX1_byAge_7 : decode cX1_byAge 7 = .ok (.iconst (-1), 1) := dk_2 (dk_at dksX1_byAge_0 7 rfl rfl)
theorem dX1_byAge_8 : decode cX1_byAge 8 = .ok (.ireturn, 1) := dk_172 (dk_at dksX1_byAge_0 8 rfl rfl)
theorem dX1_byAge_9 : decode cX1_byAge 9 = .ok (.aload_n 0, 1) := dk_42 (dk_at dksX1_byAge_0 9 rfl rfl)
theorem dX1_byAge_10 : decode cX1_byAge 10 = .ok (.iload_n 1, 1) := dk_27 (dk_at dksX1_byAge_0 10 rfl rfl)
theorem dX1_byAge_11 : decode cX1_byAge 11 = .ok (.aload_n 0, 1) := dk_42 (dk_at dksX1_byAge_0 11 rfl rfl)
theorem dX1_byAge_12 : decode cX1_byAge 12 = .ok (.getfield 22, 3) := dk_180 0 22 (dk_at dksX1_byAge_0 12 rfl rfl)
theorem dX1_byAge_15 : decode cX1_byAge 15 = .ok (.iconst 0, 1) := dk_3 (dk_at dksX1_byAge_0 15 rfl rfl)
theorem dX1_byAge_16 : decode cX1_byAge 16 = .ok (.iaload, 1) := dk_46 (dk_at dksX1_byAge_0 16 rfl rfl)
theorem dX1_byAge_17 : decode cX1_byAge 17 = .ok (.invokevirtual 178, 3) := dk_182 0 178 (dk_at dksX1_byAge_0 17 rfl rfl)
theorem dX1_byAge_20 : decode cX1_byAge 20 = .ok (.istore_n 2, 1) := dk_61 (dk_at dksX1_byAge_0 20 rfl rfl)
theorem dX1_byAge_21 : decode cX1_byAge 21 = .ok (.iconst 0, 1) := dk_3 (dk_at dksX1_byAge_0 21 rfl rfl)
theorem dX1_byAge_22 : decode cX1_byAge 22 = .ok (.istore_n 3, 1) := dk_62 (dk_at dksX1_byAge_0 22 rfl rfl)
theorem dX1_byAge_23 : decode cX1_byAge 23 = .ok (.bipush 9, 2) := dk_16 9 (dk_at dksX1_byAge_1 0 rfl rfl)
theorem dX1_byAge_25 : decode cX1_byAge 25 = .ok (.istore 4, 2) := dk_54 4 (dk_at dksX1_byAge_1 2 rfl rfl)
theorem dX1_byAge_27 : decode cX1_byAge 27 = .ok (.iload 4, 2) := dk_21 4 (dk_at dksX1_byAge_1 4 rfl rfl)
theorem dX1_byAge_29 : decode cX1_byAge 29 = .ok (.ifCond .lt 55, 3) := dk_155 0 55 (dk_at dksX1_byAge_1 6 rfl rfl)
theorem dX1_byAge_32 : decode cX1_byAge 32 = .ok (.iconst 0, 1) := dk_3 (dk_at dksX1_byAge_1 9 rfl rfl)
theorem dX1_byAge_33 : decode cX1_byAge 33 = .ok (.istore 5, 2) := dk_54 5 (dk_at dksX1_byAge_1 10 rfl rfl)
theorem dX1_byAge_35 : decode cX1_byAge 35 = .ok (.iload 5, 2) := dk_21 5 (dk_at dksX1_byAge_1 12 rfl rfl)
theorem dX1_byAge_37 : decode cX1_byAge 37 = .ok (.iload_n 2, 1) := dk_28 (dk_at dksX1_byAge_1 14 rfl rfl)
theorem dX1_byAge_38 : decode cX1_byAge 38 = .ok (.if_icmp .ge 40, 3) := dk_162 0 40 (dk_at dksX1_byAge_1 15 rfl rfl)
theorem dX1_byAge_41 : decode cX1_byAge 41 = .ok (.aload_n 0, 1) := dk_42 (dk_at dksX1_byAge_1 18 rfl rfl)
theorem dX1_byAge_42 : decode cX1_byAge 42 = .ok (.getfield 22, 3) := dk_180 0 22 (dk_at dksX1_byAge_1 19 rfl rfl)
theorem dX1_byAge_45 : decode cX1_byAge 45 = .ok (.bipush 24, 2) := dk_16 24 (dk_at dksX1_byAge_1 22 rfl rfl)
theorem dX1_byAge_47 : decode cX1_byAge 47 = .ok (.iload 5, 2) := dk_21 5 (dk_at dksX1_byAge_2 0 rfl rfl)
theorem dX1_byAge_49 : decode cX1_byAge 49 = .ok (.iadd, 1) := dk_96 (dk_at dksX1_byAge_2 2 rfl rfl)
theorem dX1_byAge_50 : decode cX1_byAge 50 = .ok (.iaload, 1) := dk_46 (dk_at dksX1_byAge_2 3 rfl rfl)
theorem dX1_byAge_51 : decode cX1_byAge 51 = .ok (.iload 4, 2) := dk_21 4 (dk_at dksX1_byAge_2 4 rfl rfl)
theorem dX1_byAge_53 : decode cX1_byAge 53 = .ok (.if_icmp .ne 19, 3) := dk_160 0 19 (dk_at dksX1_byAge_2 6 rfl rfl)
theorem dX1_byAge_56 : decode cX1_byAge 56 = .ok (.aload_n 0, 1) := dk_42 (dk_at dksX1_byAge_2 9 rfl rfl)
theorem dX1_byAge_57 : decode cX1_byAge 57 = .ok (.getfield 13, 3) := dk_180 0 13 (dk_at dksX1_byAge_2 10 rfl rfl)
theorem dX1_byAge_60 : decode cX1_byAge 60 = .ok (.bipush 40, 2) := dk_16 40 (dk_at dksX1_byAge_2 13 rfl rfl)
theorem dX1_byAge_62 : decode cX1_byAge 62 = .ok (.iload_n 1, 1) := dk_27 (dk_at dksX1_byAge_2 15 rfl rfl)
theorem dX1_byAge_63 : decode cX1_byAge 63 = .ok (.imul, 1) := dk_104 (dk_at dksX1_byAge_2 16 rfl rfl)
theorem dX1_byAge_64 : decode cX1_byAge 64 = .ok (.iload_n 3, 1) := dk_29 (dk_at dksX1_byAge_2 17 rfl rfl)
theorem dX1_byAge_65 : decode cX1_byAge 65 = .ok (.iadd, 1) := dk_96 (dk_at dksX1_byAge_2 18 rfl rfl)
theorem dX1_byAge_66 : decode cX1_byAge 66 = .ok (.iload 5, 2) := dk_21 5 (dk_at dksX1_byAge_2 19 rfl rfl)
theorem dX1_byAge_68 : decode cX1_byAge 68 = .ok (.iastore, 1) := dk_79 (dk_at dksX1_byAge_2 21 rfl rfl)
theorem dX1_byAge_69 : decode cX1_byAge 69 = .ok (.iinc 3 1, 3) := dk_132 3 1 (dk_at dksX1_byAge_3 0 rfl rfl)
theorem dX1_byAge_72 : decode cX1_byAge 72 = .ok (.iinc 5 1, 3) := dk_132 5 1 (dk_at dksX1_byAge_3 3 rfl rfl)
theorem dX1_byAge_75 : decode cX1_byAge 75 = .ok (.goto (-40), 3) := dk_167 255 216 (dk_at dksX1_byAge_3 6 rfl rfl)
theorem dX1_byAge_78 : decode cX1_byAge 78 = .ok (.iinc 4 (-1), 3) := dk_132 4 255 (dk_at dksX1_byAge_3 9 rfl rfl)
theorem dX1_byAge_81 : decode cX1_byAge 81 = .ok (.goto (-54), 3) := dk_167 255 202 (dk_at dksX1_byAge_3 12 rfl rfl)
theorem dX1_byAge_84 : decode cX1_byAge 84 = .ok (.iload_n 2, 1) := dk_28 (dk_at dksX1_byAge_3 15 rfl rfl)
theorem dX1_byAge_85 : decode cX1_byAge 85 = .ok (.ireturn, 1) := dk_172 (dk_at dksX1_byAge_3 16 rfl rfl)
abbrev cX1_lots : ByteArray := prog_10_method_79_code
def yX1_lots : MethodName := ⟨RX1, "lots", "(II)I"⟩
def dkwX1_lots_10 : List UInt8 := [21, 10, 182, 0, 153, 132, 5, 1, 132, 6, 1, 167, 255, 71, 21, 5, 172]
abbrev dktX1_lots_10 : List UInt8 := dkwX1_lots_10 ++ []
def dkwX1_lots_9 : List UInt8 := [182, 0, 139, 153, 0, 7, 4, 167, 0, 4, 3, 100, 54, 9, 132, 10, 1, 167, 255, 198, 42, 21, 7]
abbrev dktX1_lots_9 : List UInt8 := dkwX1_lots_9 ++ dktX1_lots_10
def dkwX1_lots_8 : List UInt8 := [21, 10, 182, 0, 139, 154, 0, 39, 21, 9, 42, 21, 10, 182, 0, 150, 153, 0, 18, 42, 21, 7, 21, 10]
abbrev dktX1_lots_8 : List UInt8 := dkwX1_lots_8 ++ dktX1_lots_9
def dkwX1_lots_7 : List UInt8 := [136, 54, 9, 3, 54, 10, 21, 9, 157, 0, 23, 42, 21, 10, 182, 0, 150, 153, 0, 14, 42, 21, 7]
abbrev dktX1_lots_7 : List UInt8 := dkwX1_lots_7 ++ dktX1_lots_8
def dkwX1_lots_6 : List UInt8 := [3, 96, 54, 8, 132, 9, 1, 167, 255, 203, 21, 8, 158, 0, 90, 33, 20, 0, 221, 109, 21, 8, 133, 113]
abbrev dktX1_lots_6 : List UInt8 := dkwX1_lots_6 ++ dktX1_lots_7
def dkwX1_lots_5 : List UInt8 := [42, 21, 9, 182, 0, 150, 153, 0, 18, 42, 21, 7, 21, 9, 182, 0, 139, 153, 0, 7, 4, 167, 0, 4]
abbrev dktX1_lots_5 : List UInt8 := dkwX1_lots_5 ++ dktX1_lots_6
def dkwX1_lots_4 : List UInt8 := [54, 9, 21, 9, 42, 180, 0, 22, 3, 46, 162, 0, 48, 21, 8, 42, 21, 7, 182, 0, 147, 153, 0, 27]
abbrev dktX1_lots_4 : List UInt8 := dkwX1_lots_4 ++ dktX1_lots_5
def dkwX1_lots_3 : List UInt8 := [33, 105, 20, 0, 219, 113, 66, 33, 42, 180, 0, 22, 4, 46, 133, 113, 136, 54, 7, 3, 54, 8, 3]
abbrev dktX1_lots_3 : List UInt8 := dkwX1_lots_3 ++ dktX1_lots_4
def dkwX1_lots_2 : List UInt8 := [164, 0, 6, 16, 254, 172, 28, 133, 66, 3, 54, 5, 3, 54, 6, 21, 6, 27, 162, 0, 185, 20, 0, 217]
abbrev dktX1_lots_2 : List UInt8 := dkwX1_lots_2 ++ dktX1_lots_3
def dkwX1_lots_1 : List UInt8 := [2, 172, 42, 180, 0, 22, 4, 46, 154, 0, 6, 16, 252, 172, 42, 180, 0, 22, 5, 46, 27, 96, 16, 40]
abbrev dktX1_lots_1 : List UInt8 := dkwX1_lots_1 ++ dktX1_lots_2
def dkwX1_lots_0 : List UInt8 := [27, 133, 10, 20, 0, 213, 184, 0, 66, 153, 0, 15, 28, 133, 10, 20, 0, 215, 184, 0, 66, 154, 0, 5]
abbrev dktX1_lots_0 : List UInt8 := dkwX1_lots_0 ++ dktX1_lots_1
theorem dksX1_lots_0 : cX1_lots.data.toList.drop 0 = dktX1_lots_0 := by decide +kernel
theorem dksX1_lots_1 : cX1_lots.data.toList.drop 24 = dktX1_lots_1 := dk_seg dksX1_lots_0 24 rfl rfl
theorem dksX1_lots_2 : cX1_lots.data.toList.drop 48 = dktX1_lots_2 := dk_seg dksX1_lots_1 24 rfl rfl
theorem dksX1_lots_3 : cX1_lots.data.toList.drop 72 = dktX1_lots_3 := dk_seg dksX1_lots_2 24 rfl rfl
theorem dksX1_lots_4 : cX1_lots.data.toList.drop 95 = dktX1_lots_4 := dk_seg dksX1_lots_3 23 rfl rfl
theorem dksX1_lots_5 : cX1_lots.data.toList.drop 119 = dktX1_lots_5 := dk_seg dksX1_lots_4 24 rfl rfl
theorem dksX1_lots_6 : cX1_lots.data.toList.drop 143 = dktX1_lots_6 := dk_seg dksX1_lots_5 24 rfl rfl
theorem dksX1_lots_7 : cX1_lots.data.toList.drop 167 = dktX1_lots_7 := dk_seg dksX1_lots_6 24 rfl rfl
theorem dksX1_lots_8 : cX1_lots.data.toList.drop 190 = dktX1_lots_8 := dk_seg dksX1_lots_7 23 rfl rfl
theorem dksX1_lots_9 : cX1_lots.data.toList.drop 214 = dktX1_lots_9 := dk_seg dksX1_lots_8 24 rfl rfl
theorem dksX1_lots_10 : cX1_lots.data.toList.drop 237 = dktX1_lots_10 := dk_seg dksX1_lots_9 23 rfl rfl
theorem dX1_lots_0 : decode cX1_lots 0 = .ok (.iload_n 1, 1) := dk_27 (dk_at dksX1_lots_0 0 rfl rfl)
theorem dX1_lots_1 : decode cX1_lots 1 = .ok (.i2l, 1) := dk_133 (dk_at dksX1_lots_0 1 rfl rfl)
theorem dX1_lots_2 : decode cX1_lots 2 = .ok (.lconst 1, 1) := dk_10 (dk_at dksX1_lots_0 2 rfl rfl)
theorem dX1_lots_3 : decode cX1_lots 3 = .ok (.ldc2_w 213, 3) := dk_20 0 213 (dk_at dksX1_lots_0 3 rfl rfl)
theorem dX1_lots_6 : decode cX1_lots 6 = .ok (.invokestatic 66, 3) := dk_184 0 66 (dk_at dksX1_lots_0 6 rfl rfl)
theorem dX1_lots_9 : decode cX1_lots 9 = .ok (.ifCond .eq 15, 3) := dk_153 0 15 (dk_at dksX1_lots_0 9 rfl rfl)
theorem dX1_lots_12 : decode cX1_lots 12 = .ok (.iload_n 2, 1) := dk_28 (dk_at dksX1_lots_0 12 rfl rfl)
theorem dX1_lots_13 : decode cX1_lots 13 = .ok (.i2l, 1) := dk_133 (dk_at dksX1_lots_0 13 rfl rfl)
theorem dX1_lots_14 : decode cX1_lots 14 = .ok (.lconst 1, 1) := dk_10 (dk_at dksX1_lots_0 14 rfl rfl)
theorem dX1_lots_15 : decode cX1_lots 15 = .ok (.ldc2_w 215, 3) := dk_20 0 215 (dk_at dksX1_lots_0 15 rfl rfl)
theorem dX1_lots_18 : decode cX1_lots 18 = .ok (.invokestatic 66, 3) := dk_184 0 66 (dk_at dksX1_lots_0 18 rfl rfl)
theorem dX1_lots_21 : decode cX1_lots 21 = .ok (.ifCond .ne 5, 3) := dk_154 0 5 (dk_at dksX1_lots_0 21 rfl rfl)
theorem dX1_lots_24 : decode cX1_lots 24 = .ok (.iconst (-1), 1) := dk_2 (dk_at dksX1_lots_1 0 rfl rfl)
theorem dX1_lots_25 : decode cX1_lots 25 = .ok (.ireturn, 1) := dk_172 (dk_at dksX1_lots_1 1 rfl rfl)
theorem dX1_lots_26 : decode cX1_lots 26 = .ok (.aload_n 0, 1) := dk_42 (dk_at dksX1_lots_1 2 rfl rfl)
theorem dX1_lots_27 : decode cX1_lots 27 = .ok (.getfield 22, 3) := dk_180 0 22 (dk_at dksX1_lots_1 3 rfl rfl)
theorem dX1_lots_30 : decode cX1_lots 30 = .ok (.iconst 1, 1) := dk_4 (dk_at dksX1_lots_1 6 rfl rfl)
theorem dX1_lots_31 : decode cX1_lots 31 = .ok (.iaload, 1) := dk_46 (dk_at dksX1_lots_1 7 rfl rfl)
theorem dX1_lots_32 : decode cX1_lots 32 = .ok (.ifCond .ne 6, 3) := dk_154 0 6 (dk_at dksX1_lots_1 8 rfl rfl)
theorem dX1_lots_35 : decode cX1_lots 35 = .ok (.bipush (-4), 2) := dk_16 252 (dk_at dksX1_lots_1 11 rfl rfl)
theorem dX1_lots_37 : decode cX1_lots 37 = .ok (.ireturn, 1) := dk_172 (dk_at dksX1_lots_1 13 rfl rfl)
theorem dX1_lots_38 : decode cX1_lots 38 = .ok (.aload_n 0, 1) := dk_42 (dk_at dksX1_lots_1 14 rfl rfl)
theorem dX1_lots_39 : decode cX1_lots 39 = .ok (.getfield 22, 3) := dk_180 0 22 (dk_at dksX1_lots_1 15 rfl rfl)
theorem dX1_lots_42 : decode cX1_lots 42 = .ok (.iconst 2, 1) := dk_5 (dk_at dksX1_lots_1 18 rfl rfl)
theorem dX1_lots_43 : decode cX1_lots 43 = .ok (.iaload, 1) := dk_46 (dk_at dksX1_lots_1 19 rfl rfl)
theorem dX1_lots_44 : decode cX1_lots 44 = .ok (.iload_n 1, 1) := dk_27 (dk_at dksX1_lots_1 20 rfl rfl)
theorem dX1_lots_45 : decode cX1_lots 45 = .ok (.iadd, 1) := dk_96 (dk_at dksX1_lots_1 21 rfl rfl)
theorem dX1_lots_46 : decode cX1_lots 46 = .ok (.bipush 40, 2) := dk_16 40 (dk_at dksX1_lots_1 22 rfl rfl)
theorem dX1_lots_48 : decode cX1_lots 48 = .ok (.if_icmp .le 6, 3) := dk_164 0 6 (dk_at dksX1_lots_2 0 rfl rfl)
theorem dX1_lots_51 : decode cX1_lots 51 = .ok (.bipush (-2), 2) := dk_16 254 (dk_at dksX1_lots_2 3 rfl rfl)
theorem dX1_lots_53 : decode cX1_lots 53 = .ok (.ireturn, 1) := dk_172 (dk_at dksX1_lots_2 5 rfl rfl)
theorem dX1_lots_54 : decode cX1_lots 54 = .ok (.iload_n 2, 1) := dk_28 (dk_at dksX1_lots_2 6 rfl rfl)
theorem dX1_lots_55 : decode cX1_lots 55 = .ok (.i2l, 1) := dk_133 (dk_at dksX1_lots_2 7 rfl rfl)
theorem dX1_lots_56 : decode cX1_lots 56 = .ok (.lstore_n 3, 1) := dk_66 (dk_at dksX1_lots_2 8 rfl rfl)
theorem dX1_lots_57 : decode cX1_lots 57 = .ok (.iconst 0, 1) := dk_3 (dk_at dksX1_lots_2 9 rfl rfl)
theorem dX1_lots_58 : decode cX1_lots 58 = .ok (.istore 5, 2) := dk_54 5 (dk_at dksX1_lots_2 10 rfl rfl)
theorem dX1_lots_60 : decode cX1_lots 60 = .ok (.iconst 0, 1) := dk_3 (dk_at dksX1_lots_2 12 rfl rfl)
theorem dX1_lots_61 : decode cX1_lots 61 = .ok (.istore 6, 2) := dk_54 6 (dk_at dksX1_lots_2 13 rfl rfl)
theorem dX1_lots_63 : decode cX1_lots 63 = .ok (.iload 6, 2) := dk_21 6 (dk_at dksX1_lots_2 15 rfl rfl)
theorem dX1_lots_65 : decode cX1_lots 65 = .ok (.iload_n 1, 1) := dk_27 (dk_at dksX1_lots_2 17 rfl rfl)
theorem dX1_lots_66 : decode cX1_lots 66 = .ok (.if_icmp .ge 185, 3) := dk_162 0 185 (dk_at dksX1_lots_2 18 rfl rfl)
theorem dX1_lots_69 : decode cX1_lots 69 = .ok (.ldc2_w 217, 3) := dk_20 0 217 (dk_at dksX1_lots_2 21 rfl rfl)
theorem dX1_lots_72 : decode cX1_lots 72 = .ok (.lload_n 3, 1) := dk_33 (dk_at dksX1_lots_3 0 rfl rfl)
theorem dX1_lots_73 : decode cX1_lots 73 = .ok (.lmul, 1) := dk_105 (dk_at dksX1_lots_3 1 rfl rfl)
theorem dX1_lots_74 : decode cX1_lots 74 = .ok (.ldc2_w 219, 3) := dk_20 0 219 (dk_at dksX1_lots_3 2 rfl rfl)
theorem dX1_lots_77 : decode cX1_lots 77 = .ok (.lrem, 1) := dk_113 (dk_at dksX1_lots_3 5 rfl rfl)
theorem dX1_lots_78 : decode cX1_lots 78 = .ok (.lstore_n 3, 1) := dk_66 (dk_at dksX1_lots_3 6 rfl rfl)
theorem dX1_lots_79 : decode cX1_lots 79 = .ok (.lload_n 3, 1) := dk_33 (dk_at dksX1_lots_3 7 rfl rfl)
theorem dX1_lots_80 : decode cX1_lots 80 = .ok (.aload_n 0, 1) := dk_42 (dk_at dksX1_lots_3 8 rfl rfl)
theorem dX1_lots_81 : decode cX1_lots 81 = .ok (.getfield 22, 3) := dk_180 0 22 (dk_at dksX1_lots_3 9 rfl rfl)
theorem dX1_lots_84 : decode cX1_lots 84 = .ok (.iconst 1, 1) := dk_4 (dk_at dksX1_lots_3 12 rfl rfl)
theorem dX1_lots_85 : decode cX1_lots 85 = .ok (.iaload, 1) := dk_46 (dk_at dksX1_lots_3 13 rfl rfl)
theorem dX1_lots_86 : decode cX1_lots 86 = .ok (.i2l, 1) := dk_133 (dk_at dksX1_lots_3 14 rfl rfl)
theorem dX1_lots_87 : decode cX1_lots 87 = .ok (.lrem, 1) := dk_113 (dk_at dksX1_lots_3 15 rfl rfl)
theorem dX1_lots_88 : decode cX1_lots 88 = .ok (.l2i, 1) := dk_136 (dk_at dksX1_lots_3 16 rfl rfl)
theorem dX1_lots_89 : decode cX1_lots 89 = .ok (.istore 7, 2) := dk_54 7 (dk_at dksX1_lots_3 17 rfl rfl)
theorem dX1_lots_91 : decode cX1_lots 91 = .ok (.iconst 0, 1) := dk_3 (dk_at dksX1_lots_3 19 rfl rfl)
theorem dX1_lots_92 : decode cX1_lots 92 = .ok (.istore 8, 2) := dk_54 8 (dk_at dksX1_lots_3 20 rfl rfl)
theorem dX1_lots_94 : decode cX1_lots 94 = .ok (.iconst 0, 1) := dk_3 (dk_at dksX1_lots_3 22 rfl rfl)
theorem dX1_lots_95 : decode cX1_lots 95 = .ok (.istore 9, 2) := dk_54 9 (dk_at dksX1_lots_4 0 rfl rfl)
theorem dX1_lots_97 : decode cX1_lots 97 = .ok (.iload 9, 2) := dk_21 9 (dk_at dksX1_lots_4 2 rfl rfl)
theorem dX1_lots_99 : decode cX1_lots 99 = .ok (.aload_n 0, 1) := dk_42 (dk_at dksX1_lots_4 4 rfl rfl)
theorem dX1_lots_100 : decode cX1_lots 100 = .ok (.getfield 22, 3) := dk_180 0 22 (dk_at dksX1_lots_4 5 rfl rfl)
theorem dX1_lots_103 : decode cX1_lots 103 = .ok (.iconst 0, 1) := dk_3 (dk_at dksX1_lots_4 8 rfl rfl)
theorem dX1_lots_104 : decode cX1_lots 104 = .ok (.iaload, 1) := dk_46 (dk_at dksX1_lots_4 9 rfl rfl)
theorem dX1_lots_105 : decode cX1_lots 105 = .ok (.if_icmp .ge 48, 3) := dk_162 0 48 (dk_at dksX1_lots_4 10 rfl rfl)
theorem dX1_lots_108 : decode cX1_lots 108 = .ok (.iload 8, 2) := dk_21 8 (dk_at dksX1_lots_4 13 rfl rfl)
theorem dX1_lots_110 : decode cX1_lots 110 = .ok (.aload_n 0, 1) := dk_42 (dk_at dksX1_lots_4 15 rfl rfl)
theorem dX1_lots_111 : decode cX1_lots 111 = .ok (.iload 7, 2) := dk_21 7 (dk_at dksX1_lots_4 16 rfl rfl)
theorem dX1_lots_113 : decode cX1_lots 113 = .ok (.invokevirtual 147, 3) := dk_182 0 147 (dk_at dksX1_lots_4 18 rfl rfl)
theorem dX1_lots_116 : decode cX1_lots 116 = .ok (.ifCond .eq 27, 3) := dk_153 0 27 (dk_at dksX1_lots_4 21 rfl rfl)
theorem dX1_lots_119 : decode cX1_lots 119 = .ok (.aload_n 0, 1) := dk_42 (dk_at dksX1_lots_5 0 rfl rfl)
theorem dX1_lots_120 : decode cX1_lots 120 = .ok (.iload 9, 2) := dk_21 9 (dk_at dksX1_lots_5 1 rfl rfl)
theorem dX1_lots_122 : decode cX1_lots 122 = .ok (.invokevirtual 150, 3) := dk_182 0 150 (dk_at dksX1_lots_5 3 rfl rfl)
theorem dX1_lots_125 : decode cX1_lots 125 = .ok (.ifCond .eq 18, 3) := dk_153 0 18 (dk_at dksX1_lots_5 6 rfl rfl)
theorem dX1_lots_128 : decode cX1_lots 128 = .ok (.aload_n 0, 1) := dk_42 (dk_at dksX1_lots_5 9 rfl rfl)
theorem dX1_lots_129 : decode cX1_lots 129 = .ok (.iload 7, 2) := dk_21 7 (dk_at dksX1_lots_5 10 rfl rfl)
theorem dX1_lots_131 : decode cX1_lots 131 = .ok (.iload 9, 2) := dk_21 9 (dk_at dksX1_lots_5 12 rfl rfl)
theorem dX1_lots_133 : decode cX1_lots 133 = .ok (.invokevirtual 139, 3) := dk_182 0 139 (dk_at dksX1_lots_5 14 rfl rfl)
theorem dX1_lots_136 : decode cX1_lots 136 = .ok (.ifCond .eq 7, 3) := dk_153 0 7 (dk_at dksX1_lots_5 17 rfl rfl)
theorem dX1_lots_139 : decode cX1_lots 139 = .ok (.iconst 1, 1) := dk_4 (dk_at dksX1_lots_5 20 rfl rfl)
theorem dX1_lots_140 : decode cX1_lots 140 = .ok (.goto 4, 3) := dk_167 0 4 (dk_at dksX1_lots_5 21 rfl rfl)
theorem dX1_lots_143 : decode cX1_lots 143 = .ok (.iconst 0, 1) := dk_3 (dk_at dksX1_lots_6 0 rfl rfl)
theorem dX1_lots_144 : decode cX1_lots 144 = .ok (.iadd, 1) := dk_96 (dk_at dksX1_lots_6 1 rfl rfl)
theorem dX1_lots_145 : decode cX1_lots 145 = .ok (.istore 8, 2) := dk_54 8 (dk_at dksX1_lots_6 2 rfl rfl)
theorem dX1_lots_147 : decode cX1_lots 147 = .ok (.iinc 9 1, 3) := dk_132 9 1 (dk_at dksX1_lots_6 4 rfl rfl)
theorem dX1_lots_150 : decode cX1_lots 150 = .ok (.goto (-53), 3) := dk_167 255 203 (dk_at dksX1_lots_6 7 rfl rfl)
theorem dX1_lots_153 : decode cX1_lots 153 = .ok (.iload 8, 2) := dk_21 8 (dk_at dksX1_lots_6 10 rfl rfl)
theorem dX1_lots_155 : decode cX1_lots 155 = .ok (.ifCond .le 90, 3) := dk_158 0 90 (dk_at dksX1_lots_6 12 rfl rfl)
theorem dX1_lots_158 : decode cX1_lots 158 = .ok (.lload_n 3, 1) := dk_33 (dk_at dksX1_lots_6 15 rfl rfl)
theorem dX1_lots_159 : decode cX1_lots 159 = .ok (.ldc2_w 221, 3) := dk_20 0 221 (dk_at dksX1_lots_6 16 rfl rfl)
theorem dX1_lots_162 : decode cX1_lots 162 = .ok (.ldiv, 1) := dk_109 (dk_at dksX1_lots_6 19 rfl rfl)
theorem dX1_lots_163 : decode cX1_lots 163 = .ok (.iload 8, 2) := dk_21 8 (dk_at dksX1_lots_6 20 rfl rfl)
theorem dX1_lots_165 : decode cX1_lots 165 = .ok (.i2l, 1) := dk_133 (dk_at dksX1_lots_6 22 rfl rfl)
theorem dX1_lots_166 : decode cX1_lots 166 = .ok (.lrem, 1) := dk_113 (dk_at dksX1_lots_6 23 rfl rfl)
theorem dX1_lots_167 : decode cX1_lots 167 = .ok (.l2i, 1) := dk_136 (dk_at dksX1_lots_7 0 rfl rfl)
theorem dX1_lots_168 : decode cX1_lots 168 = .ok (.istore 9, 2) := dk_54 9 (dk_at dksX1_lots_7 1 rfl rfl)
theorem dX1_lots_170 : decode cX1_lots 170 = .ok (.iconst 0, 1) := dk_3 (dk_at dksX1_lots_7 3 rfl rfl)
theorem dX1_lots_171 : decode cX1_lots 171 = .ok (.istore 10, 2) := dk_54 10 (dk_at dksX1_lots_7 4 rfl rfl)
theorem dX1_lots_173 : decode cX1_lots 173 = .ok (.iload 9, 2) := dk_21 9 (dk_at dksX1_lots_7 6 rfl rfl)
theorem dX1_lots_175 : decode cX1_lots 175 = .ok (.ifCond .gt 23, 3) := dk_157 0 23 (dk_at dksX1_lots_7 8 rfl rfl)
theorem dX1_lots_178 : decode cX1_lots 178 = .ok (.aload_n 0, 1) := dk_42 (dk_at dksX1_lots_7 11 rfl rfl)
theorem dX1_lots_179 : decode cX1_lots 179 = .ok (.iload 10, 2) := dk_21 10 (dk_at dksX1_lots_7 12 rfl rfl)
theorem dX1_lots_181 : decode cX1_lots 181 = .ok (.invokevirtual 150, 3) := dk_182 0 150 (dk_at dksX1_lots_7 14 rfl rfl)
theorem dX1_lots_184 : decode cX1_lots 184 = .ok (.ifCond .eq 14, 3) := dk_153 0 14 (dk_at dksX1_lots_7 17 rfl rfl)
theorem dX1_lots_187 : decode cX1_lots 187 = .ok (.aload_n 0, 1) := dk_42 (dk_at dksX1_lots_7 20 rfl rfl)
theorem dX1_lots_188 : decode cX1_lots 188 = .ok (.iload 7, 2) := dk_21 7 (dk_at dksX1_lots_7 21 rfl rfl)
theorem dX1_lots_190 : decode cX1_lots 190 = .ok (.iload 10, 2) := dk_21 10 (dk_at dksX1_lots_8 0 rfl rfl)
theorem dX1_lots_192 : decode cX1_lots 192 = .ok (.invokevirtual 139, 3) := dk_182 0 139 (dk_at dksX1_lots_8 2 rfl rfl)
theorem dX1_lots_195 : decode cX1_lots 195 = .ok (.ifCond .ne 39, 3) := dk_154 0 39 (dk_at dksX1_lots_8 5 rfl rfl)
theorem dX1_lots_198 : decode cX1_lots 198 = .ok (.iload 9, 2) := dk_21 9 (dk_at dksX1_lots_8 8 rfl rfl)
theorem dX1_lots_200 : decode cX1_lots 200 = .ok (.aload_n 0, 1) := dk_42 (dk_at dksX1_lots_8 10 rfl rfl)
theorem dX1_lots_201 : decode cX1_lots 201 = .ok (.iload 10, 2) := dk_21 10 (dk_at dksX1_lots_8 11 rfl rfl)
theorem dX1_lots_203 : decode cX1_lots 203 = .ok (.invokevirtual 150, 3) := dk_182 0 150 (dk_at dksX1_lots_8 13 rfl rfl)
theorem dX1_lots_206 : decode cX1_lots 206 = .ok (.ifCond .eq 18, 3) := dk_153 0 18 (dk_at dksX1_lots_8 16 rfl rfl)
theorem dX1_lots_209 : decode cX1_lots 209 = .ok (.aload_n 0, 1) := dk_42 (dk_at dksX1_lots_8 19 rfl rfl)
theorem dX1_lots_210 : decode cX1_lots 210 = .ok (.iload 7, 2) := dk_21 7 (dk_at dksX1_lots_8 20 rfl rfl)
theorem dX1_lots_212 : decode cX1_lots 212 = .ok (.iload 10, 2) := dk_21 10 (dk_at dksX1_lots_8 22 rfl rfl)
theorem dX1_lots_214 : decode cX1_lots 214 = .ok (.invokevirtual 139, 3) := dk_182 0 139 (dk_at dksX1_lots_9 0 rfl rfl)
theorem dX1_lots_217 : decode cX1_lots 217 = .ok (.ifCond .eq 7, 3) := dk_153 0 7 (dk_at dksX1_lots_9 3 rfl rfl)
theorem dX1_lots_220 : decode cX1_lots 220 = .ok (.iconst 1, 1) := dk_4 (dk_at dksX1_lots_9 6 rfl rfl)
theorem dX1_lots_221 : decode cX1_lots 221 = .ok (.goto 4, 3) := dk_167 0 4 (dk_at dksX1_lots_9 7 rfl rfl)
theorem dX1_lots_224 : decode cX1_lots 224 = .ok (.iconst 0, 1) := dk_3 (dk_at dksX1_lots_9 10 rfl rfl)
theorem dX1_lots_225 : decode cX1_lots 225 = .ok (.isub, 1) := dk_100 (dk_at dksX1_lots_9 11 rfl rfl)
theorem dX1_lots_226 : decode cX1_lots 226 = .ok (.istore 9, 2) := dk_54 9 (dk_at dksX1_lots_9 12 rfl rfl)
theorem dX1_lots_228 : decode cX1_lots 228 = .ok (.iinc 10 1, 3) := dk_132 10 1 (dk_at dksX1_lots_9 14 rfl rfl)
theorem dX1_lots_231 : decode cX1_lots 231 = .ok (.goto (-58), 3) := dk_167 255 198 (dk_at dksX1_lots_9 17 rfl rfl)
theorem dX1_lots_234 : decode cX1_lots 234 = .ok (.aload_n 0, 1) := dk_42 (dk_at dksX1_lots_9 20 rfl rfl)
theorem dX1_lots_235 : decode cX1_lots 235 = .ok (.iload 7, 2) := dk_21 7 (dk_at dksX1_lots_9 21 rfl rfl)
theorem dX1_lots_237 : decode cX1_lots 237 = .ok (.iload 10, 2) := dk_21 10 (dk_at dksX1_lots_10 0 rfl rfl)
theorem dX1_lots_239 : decode cX1_lots 239 = .ok (.invokevirtual 153, 3) := dk_182 0 153 (dk_at dksX1_lots_10 2 rfl rfl)
theorem dX1_lots_242 : decode cX1_lots 242 = .ok (.iinc 5 1, 3) := dk_132 5 1 (dk_at dksX1_lots_10 5 rfl rfl)
theorem dX1_lots_245 : decode cX1_lots 245 = .ok (.iinc 6 1, 3) := dk_132 6 1 (dk_at dksX1_lots_10 8 rfl rfl)
theorem dX1_lots_248 : decode cX1_lots 248 = .ok (.goto (-185), 3) := dk_167 255 71 (dk_at dksX1_lots_10 11 rfl rfl)
theorem dX1_lots_251 : decode cX1_lots 251 = .ok (.iload 5, 2) := dk_21 5 (dk_at dksX1_lots_10 14 rfl rfl)
theorem dX1_lots_253 : decode cX1_lots 253 = .ok (.ireturn, 1) := dk_172 (dk_at dksX1_lots_10 16 rfl rfl)
abbrev cX1_asked : ByteArray := prog_10_method_80_code
def yX1_asked : MethodName := ⟨RX1, "asked", "()I"⟩
theorem dX1_asked_0 : decode cX1_asked 0 = .ok (.aload_n 0, 1) := by decide +kernel
theorem dX1_asked_1 : decode cX1_asked 1 = .ok (.getfield 61, 3) := by decide +kernel
theorem dX1_asked_4 : decode cX1_asked 4 = .ok (.ireturn, 1) := by decide +kernel
abbrev cX1_upper : ByteArray := prog_10_method_81_code
def yX1_upper : MethodName := ⟨RX1, "upper", "()J"⟩
theorem dX1_upper_0 : decode cX1_upper 0 = .ok (.aload_n 0, 1) := by decide +kernel
theorem dX1_upper_1 : decode cX1_upper 1 = .ok (.getfield 188, 3) := by decide +kernel
theorem dX1_upper_4 : decode cX1_upper 4 = .ok (.lreturn, 1) := by decide +kernel
abbrev cX1_lower : ByteArray := prog_10_method_82_code
def yX1_lower : MethodName := ⟨RX1, "lower", "()J"⟩
theorem dX1_lower_0 : decode cX1_lower 0 = .ok (.aload_n 0, 1) := by decide +kernel
theorem dX1_lower_1 : decode cX1_lower 1 = .ok (.getfield 32, 3) := by decide +kernel
theorem dX1_lower_4 : decode cX1_lower 4 = .ok (.lreturn, 1) := by decide +kernel
abbrev cX1_count : ByteArray := prog_10_method_84_code
def yX1_count : MethodName := ⟨RX1, "count", "(I)I"⟩
def dkwX1_count_0 : List UInt8 := [27, 133, 9, 20, 0, 223, 184, 0, 66, 153, 0, 11, 42, 27, 182, 0, 225, 167, 0, 4, 2, 172]
abbrev dktX1_count_0 : List UInt8 := dkwX1_count_0 ++ []
theorem dksX1_count_0 : cX1_count.data.toList.drop 0 = dktX1_count_0 := by decide +kernel
theorem dX1_count_0 : decode cX1_count 0 = .ok (.iload_n 1, 1) := dk_27 (dk_at dksX1_count_0 0 rfl rfl)
theorem dX1_count_1 : decode cX1_count 1 = .ok (.i2l, 1) := dk_133 (dk_at dksX1_count_0 1 rfl rfl)
theorem dX1_count_2 : decode cX1_count 2 = .ok (.lconst 0, 1) := dk_9 (dk_at dksX1_count_0 2 rfl rfl)
theorem dX1_count_3 : decode cX1_count 3 = .ok (.ldc2_w 223, 3) := dk_20 0 223 (dk_at dksX1_count_0 3 rfl rfl)
theorem dX1_count_6 : decode cX1_count 6 = .ok (.invokestatic 66, 3) := dk_184 0 66 (dk_at dksX1_count_0 6 rfl rfl)
theorem dX1_count_9 : decode cX1_count 9 = .ok (.ifCond .eq 11, 3) := dk_153 0 11 (dk_at dksX1_count_0 9 rfl rfl)
theorem dX1_count_12 : decode cX1_count 12 = .ok (.aload_n 0, 1) := dk_42 (dk_at dksX1_count_0 12 rfl rfl)
theorem dX1_count_13 : decode cX1_count 13 = .ok (.iload_n 1, 1) := dk_27 (dk_at dksX1_count_0 13 rfl rfl)
theorem dX1_count_14 : decode cX1_count 14 = .ok (.invokevirtual 225, 3) := dk_182 0 225 (dk_at dksX1_count_0 14 rfl rfl)
theorem dX1_count_17 : decode cX1_count 17 = .ok (.goto 4, 3) := dk_167 0 4 (dk_at dksX1_count_0 17 rfl rfl)
theorem dX1_count_20 : decode cX1_count 20 = .ok (.iconst (-1), 1) := dk_2 (dk_at dksX1_count_0 20 rfl rfl)
theorem dX1_count_21 : decode cX1_count 21 = .ok (.ireturn, 1) := dk_172 (dk_at dksX1_count_0 21 rfl rfl)
abbrev cX1_counted : ByteArray := prog_10_method_83_code
def yX1_counted : MethodName := ⟨RX1, "counted", "(I)I"⟩
def dkwX1_counted_9 : List UInt8 := [162, 0, 12, 42, 180, 0, 22, 27, 46, 167, 0, 4, 28, 172]
abbrev dktX1_counted_9 : List UInt8 := dkwX1_counted_9 ++ []
def dkwX1_counted_8 : List UInt8 := [180, 0, 28, 29, 51, 153, 0, 7, 4, 167, 0, 4, 3, 96, 61, 132, 3, 1, 167, 255, 225, 27, 6]
abbrev dktX1_counted_8 : List UInt8 := dkwX1_counted_8 ++ dktX1_counted_9
def dkwX1_counted_7 : List UInt8 := [4, 96, 61, 132, 3, 1, 167, 255, 225, 3, 62, 29, 6, 162, 0, 32, 27, 16, 8, 160, 0, 26, 28, 42]
abbrev dktX1_counted_7 : List UInt8 := dkwX1_counted_7 ++ dktX1_counted_8
def dkwX1_counted_6 : List UInt8 := [7, 162, 0, 32, 27, 16, 7, 160, 0, 26, 28, 42, 180, 0, 16, 29, 46, 156, 0, 7, 3, 167, 0, 4]
abbrev dktX1_counted_6 : List UInt8 := dkwX1_counted_6 ++ dktX1_counted_7
def dkwX1_counted_5 : List UInt8 := [180, 0, 7, 29, 46, 156, 0, 7, 3, 167, 0, 4, 4, 96, 61, 132, 3, 1, 167, 255, 224, 3, 62, 29]
abbrev dktX1_counted_5 : List UInt8 := dkwX1_counted_5 ++ dktX1_counted_6
def dkwX1_counted_4 : List UInt8 := [61, 132, 3, 1, 167, 255, 222, 3, 62, 29, 16, 6, 162, 0, 32, 27, 16, 6, 160, 0, 26, 28, 42]
abbrev dktX1_counted_4 : List UInt8 := dkwX1_counted_4 ++ dktX1_counted_5
def dkwX1_counted_3 : List UInt8 := [46, 162, 0, 30, 27, 7, 160, 0, 25, 28, 42, 29, 182, 0, 147, 153, 0, 7, 4, 167, 0, 4, 3, 96]
abbrev dktX1_counted_3 : List UInt8 := dkwX1_counted_3 ++ dktX1_counted_4
def dkwX1_counted_2 : List UInt8 := [153, 0, 7, 4, 167, 0, 4, 3, 96, 61, 132, 3, 1, 167, 255, 202, 3, 62, 29, 42, 180, 0, 22, 4]
abbrev dktX1_counted_2 : List UInt8 := dkwX1_counted_2 ++ dktX1_counted_3
def dkwX1_counted_1 : List UInt8 := [182, 0, 150, 154, 0, 23, 27, 8, 160, 0, 22, 42, 180, 0, 22, 6, 29, 96, 46, 5, 184, 0, 116]
abbrev dktX1_counted_1 : List UInt8 := dkwX1_counted_1 ++ dktX1_counted_2
def dkwX1_counted_0 : List UInt8 := [3, 61, 3, 62, 29, 42, 180, 0, 22, 3, 46, 162, 0, 50, 28, 27, 6, 160, 0, 11, 42, 29]
abbrev dktX1_counted_0 : List UInt8 := dkwX1_counted_0 ++ dktX1_counted_1
theorem dksX1_counted_0 : cX1_counted.data.toList.drop 0 = dktX1_counted_0 := by decide +kernel
theorem dksX1_counted_1 : cX1_counted.data.toList.drop 22 = dktX1_counted_1 := dk_seg dksX1_counted_0 22 rfl rfl
theorem dksX1_counted_2 : cX1_counted.data.toList.drop 45 = dktX1_counted_2 := dk_seg dksX1_counted_1 23 rfl rfl
theorem dksX1_counted_3 : cX1_counted.data.toList.drop 69 = dktX1_counted_3 := dk_seg dksX1_counted_2 24 rfl rfl
theorem dksX1_counted_4 : cX1_counted.data.toList.drop 93 = dktX1_counted_4 := dk_seg dksX1_counted_3 24 rfl rfl
theorem dksX1_counted_5 : cX1_counted.data.toList.drop 116 = dktX1_counted_5 := dk_seg dksX1_counted_4 23 rfl rfl
theorem dksX1_counted_6 : cX1_counted.data.toList.drop 140 = dktX1_counted_6 := dk_seg dksX1_counted_5 24 rfl rfl
theorem dksX1_counted_7 : cX1_counted.data.toList.drop 164 = dktX1_counted_7 := dk_seg dksX1_counted_6 24 rfl rfl
theorem dksX1_counted_8 : cX1_counted.data.toList.drop 188 = dktX1_counted_8 := dk_seg dksX1_counted_7 24 rfl rfl
theorem dksX1_counted_9 : cX1_counted.data.toList.drop 211 = dktX1_counted_9 := dk_seg dksX1_counted_8 23 rfl rfl
theorem dX1_counted_0 : decode cX1_counted 0 = .ok (.iconst 0, 1) := dk_3 (dk_at dksX1_counted_0 0 rfl rfl)
theorem dX1_counted_1 : decode cX1_counted 1 = .ok (.istore_n 2, 1) := dk_61 (dk_at dksX1_counted_0 1 rfl rfl)
theorem dX1_counted_2 : decode cX1_counted 2 = .ok (.iconst 0, 1) := dk_3 (dk_at dksX1_counted_0 2 rfl rfl)
theorem dX1_counted_3 : decode cX1_counted 3 = .ok (.istore_n 3, 1) := dk_62 (dk_at dksX1_counted_0 3 rfl rfl)
theorem dX1_counted_4 : decode cX1_counted 4 = .ok (.iload_n 3, 1) := dk_29 (dk_at dksX1_counted_0 4 rfl rfl)
theorem dX1_counted_5 : decode cX1_counted 5 = .ok (.aload_n 0, 1) := dk_42 (dk_at dksX1_counted_0 5 rfl rfl)
theorem dX1_counted_6 : decode cX1_counted 6 = .ok (.getfield 22, 3) := dk_180 0 22 (dk_at dksX1_counted_0 6 rfl rfl)
theorem dX1_counted_9 : decode cX1_counted 9 = .ok (.iconst 0, 1) := dk_3 (dk_at dksX1_counted_0 9 rfl rfl)
theorem dX1_counted_10 : decode cX1_counted 10 = .ok (.iaload, 1) := dk_46 (dk_at dksX1_counted_0 10 rfl rfl)
theorem dX1_counted_11 : decode cX1_counted 11 = .ok (.if_icmp .ge 50, 3) := dk_162 0 50 (dk_at dksX1_counted_0 11 rfl rfl)
theorem dX1_counted_14 : decode cX1_counted 14 = .ok (.iload_n 2, 1) := dk_28 (dk_at dksX1_counted_0 14 rfl rfl)
theorem dX1_counted_15 : decode cX1_counted 15 = .ok (.iload_n 1, 1) := dk_27 (dk_at dksX1_counted_0 15 rfl rfl)
theorem dX1_counted_16 : decode cX1_counted 16 = .ok (.iconst 3, 1) := dk_6 (dk_at dksX1_counted_0 16 rfl rfl)
theorem dX1_counted_17 : decode cX1_counted 17 = .ok (.if_icmp .ne 11, 3) := dk_160 0 11 (dk_at dksX1_counted_0 17 rfl rfl)
theorem dX1_counted_20 : decode cX1_counted 20 = .ok (.aload_n 0, 1) := dk_42 (dk_at dksX1_counted_0 20 rfl rfl)
theorem dX1_counted_21 : decode cX1_counted 21 = .ok (.iload_n 3, 1) := dk_29 (dk_at dksX1_counted_0 21 rfl rfl)
theorem dX1_counted_22 : decode cX1_counted 22 = .ok (.invokevirtual 150, 3) := dk_182 0 150 (dk_at dksX1_counted_1 0 rfl rfl)
theorem dX1_counted_25 : decode cX1_counted 25 = .ok (.ifCond .ne 23, 3) := dk_154 0 23 (dk_at dksX1_counted_1 3 rfl rfl)
theorem dX1_counted_28 : decode cX1_counted 28 = .ok (.iload_n 1, 1) := dk_27 (dk_at dksX1_counted_1 6 rfl rfl)
theorem dX1_counted_29 : decode cX1_counted 29 = .ok (.iconst 5, 1) := dk_8 (dk_at dksX1_counted_1 7 rfl rfl)
theorem dX1_counted_30 : decode cX1_counted 30 = .ok (.if_icmp .ne 22, 3) := dk_160 0 22 (dk_at dksX1_counted_1 8 rfl rfl)
theorem dX1_counted_33 : decode cX1_counted 33 = .ok (.aload_n 0, 1) := dk_42 (dk_at dksX1_counted_1 11 rfl rfl)
theorem dX1_counted_34 : decode cX1_counted 34 = .ok (.getfield 22, 3) := dk_180 0 22 (dk_at dksX1_counted_1 12 rfl rfl)
theorem dX1_counted_37 : decode cX1_counted 37 = .ok (.iconst 3, 1) := dk_6 (dk_at dksX1_counted_1 15 rfl rfl)
theorem dX1_counted_38 : decode cX1_counted 38 = .ok (.iload_n 3, 1) := dk_29 (dk_at dksX1_counted_1 16 rfl rfl)
theorem dX1_counted_39 : decode cX1_counted 39 = .ok (.iadd, 1) := dk_96 (dk_at dksX1_counted_1 17 rfl rfl)
theorem dX1_counted_40 : decode cX1_counted 40 = .ok (.iaload, 1) := dk_46 (dk_at dksX1_counted_1 18 rfl rfl)
theorem dX1_counted_41 : decode cX1_counted 41 = .ok (.iconst 2, 1) := dk_5 (dk_at dksX1_counted_1 19 rfl rfl)
theorem dX1_counted_42 : decode cX1_counted 42 = .ok (.invokestatic 116, 3) := dk_184 0 116 (dk_at dksX1_counted_1 20 rfl rfl)
theorem dX1_counted_45 : decode cX1_counted 45 = .ok (.ifCond .eq 7, 3) := dk_153 0 7 (dk_at dksX1_counted_2 0 rfl rfl)
theorem dX1_counted_48 : decode cX1_counted 48 = .ok (.iconst 1, 1) := dk_4 (dk_at dksX1_counted_2 3 rfl rfl)
theorem dX1_counted_49 : decode cX1_counted 49 = .ok (.goto 4, 3) := dk_167 0 4 (dk_at dksX1_counted_2 4 rfl rfl)
theorem dX1_counted_52 : decode cX1_counted 52 = .ok (.iconst 0, 1) := dk_3 (dk_at dksX1_counted_2 7 rfl rfl)
theorem dX1_counted_53 : decode cX1_counted 53 = .ok (.iadd, 1) := dk_96 (dk_at dksX1_counted_2 8 rfl rfl)
theorem dX1_counted_54 : decode cX1_counted 54 = .ok (.istore_n 2, 1) := dk_61 (dk_at dksX1_counted_2 9 rfl rfl)
theorem dX1_counted_55 : decode cX1_counted 55 = .ok (.iinc 3 1, 3) := dk_132 3 1 (dk_at dksX1_counted_2 10 rfl rfl)
theorem dX1_counted_58 : decode cX1_counted 58 = .ok (.goto (-54), 3) := dk_167 255 202 (dk_at dksX1_counted_2 13 rfl rfl)
theorem dX1_counted_61 : decode cX1_counted 61 = .ok (.iconst 0, 1) := dk_3 (dk_at dksX1_counted_2 16 rfl rfl)
theorem dX1_counted_62 : decode cX1_counted 62 = .ok (.istore_n 3, 1) := dk_62 (dk_at dksX1_counted_2 17 rfl rfl)
theorem dX1_counted_63 : decode cX1_counted 63 = .ok (.iload_n 3, 1) := dk_29 (dk_at dksX1_counted_2 18 rfl rfl)
theorem dX1_counted_64 : decode cX1_counted 64 = .ok (.aload_n 0, 1) := dk_42 (dk_at dksX1_counted_2 19 rfl rfl)
theorem dX1_counted_65 : decode cX1_counted 65 = .ok (.getfield 22, 3) := dk_180 0 22 (dk_at dksX1_counted_2 20 rfl rfl)
theorem dX1_counted_68 : decode cX1_counted 68 = .ok (.iconst 1, 1) := dk_4 (dk_at dksX1_counted_2 23 rfl rfl)
theorem dX1_counted_69 : decode cX1_counted 69 = .ok (.iaload, 1) := dk_46 (dk_at dksX1_counted_3 0 rfl rfl)
theorem dX1_counted_70 : decode cX1_counted 70 = .ok (.if_icmp .ge 30, 3) := dk_162 0 30 (dk_at dksX1_counted_3 1 rfl rfl)
theorem dX1_counted_73 : decode cX1_counted 73 = .ok (.iload_n 1, 1) := dk_27 (dk_at dksX1_counted_3 4 rfl rfl)
theorem dX1_counted_74 : decode cX1_counted 74 = .ok (.iconst 4, 1) := dk_7 (dk_at dksX1_counted_3 5 rfl rfl)
theorem dX1_counted_75 : decode cX1_counted 75 = .ok (.if_icmp .ne 25, 3) := dk_160 0 25 (dk_at dksX1_counted_3 6 rfl rfl)
theorem dX1_counted_78 : decode cX1_counted 78 = .ok (.iload_n 2, 1) := dk_28 (dk_at dksX1_counted_3 9 rfl rfl)
theorem dX1_counted_79 : decode cX1_counted 79 = .ok (.aload_n 0, 1) := dk_42 (dk_at dksX1_counted_3 10 rfl rfl)
theorem dX1_counted_80 : decode cX1_counted 80 = .ok (.iload_n 3, 1) := dk_29 (dk_at dksX1_counted_3 11 rfl rfl)
theorem dX1_counted_81 : decode cX1_counted 81 = .ok (.invokevirtual 147, 3) := dk_182 0 147 (dk_at dksX1_counted_3 12 rfl rfl)
theorem dX1_counted_84 : decode cX1_counted 84 = .ok (.ifCond .eq 7, 3) := dk_153 0 7 (dk_at dksX1_counted_3 15 rfl rfl)
theorem dX1_counted_87 : decode cX1_counted 87 = .ok (.iconst 1, 1) := dk_4 (dk_at dksX1_counted_3 18 rfl rfl)
theorem dX1_counted_88 : decode cX1_counted 88 = .ok (.goto 4, 3) := dk_167 0 4 (dk_at dksX1_counted_3 19 rfl rfl)
theorem dX1_counted_91 : decode cX1_counted 91 = .ok (.iconst 0, 1) := dk_3 (dk_at dksX1_counted_3 22 rfl rfl)
theorem dX1_counted_92 : decode cX1_counted 92 = .ok (.iadd, 1) := dk_96 (dk_at dksX1_counted_3 23 rfl rfl)
theorem dX1_counted_93 : decode cX1_counted 93 = .ok (.istore_n 2, 1) := dk_61 (dk_at dksX1_counted_4 0 rfl rfl)
theorem dX1_counted_94 : decode cX1_counted 94 = .ok (.iinc 3 1, 3) := dk_132 3 1 (dk_at dksX1_counted_4 1 rfl rfl)
theorem dX1_counted_97 : decode cX1_counted 97 = .ok (.goto (-34), 3) := dk_167 255 222 (dk_at dksX1_counted_4 4 rfl rfl)
theorem dX1_counted_100 : decode cX1_counted 100 = .ok (.iconst 0, 1) := dk_3 (dk_at dksX1_counted_4 7 rfl rfl)
theorem dX1_counted_101 : decode cX1_counted 101 = .ok (.istore_n 3, 1) := dk_62 (dk_at dksX1_counted_4 8 rfl rfl)
theorem dX1_counted_102 : decode cX1_counted 102 = .ok (.iload_n 3, 1) := dk_29 (dk_at dksX1_counted_4 9 rfl rfl)
theorem dX1_counted_103 : decode cX1_counted 103 = .ok (.bipush 6, 2) := dk_16 6 (dk_at dksX1_counted_4 10 rfl rfl)
theorem dX1_counted_105 : decode cX1_counted 105 = .ok (.if_icmp .ge 32, 3) := dk_162 0 32 (dk_at dksX1_counted_4 12 rfl rfl)
theorem dX1_counted_108 : decode cX1_counted 108 = .ok (.iload_n 1, 1) := dk_27 (dk_at dksX1_counted_4 15 rfl rfl)
theorem dX1_counted_109 : decode cX1_counted 109 = .ok (.bipush 6, 2) := dk_16 6 (dk_at dksX1_counted_4 16 rfl rfl)
theorem dX1_counted_111 : decode cX1_counted 111 = .ok (.if_icmp .ne 26, 3) := dk_160 0 26 (dk_at dksX1_counted_4 18 rfl rfl)
theorem dX1_counted_114 : decode cX1_counted 114 = .ok (.iload_n 2, 1) := dk_28 (dk_at dksX1_counted_4 21 rfl rfl)
theorem dX1_counted_115 : decode cX1_counted 115 = .ok (.aload_n 0, 1) := dk_42 (dk_at dksX1_counted_4 22 rfl rfl)
theorem dX1_counted_116 : decode cX1_counted 116 = .ok (.getfield 7, 3) := dk_180 0 7 (dk_at dksX1_counted_5 0 rfl rfl)
theorem dX1_counted_119 : decode cX1_counted 119 = .ok (.iload_n 3, 1) := dk_29 (dk_at dksX1_counted_5 3 rfl rfl)
theorem dX1_counted_120 : decode cX1_counted 120 = .ok (.iaload, 1) := dk_46 (dk_at dksX1_counted_5 4 rfl rfl)
theorem dX1_counted_121 : decode cX1_counted 121 = .ok (.ifCond .ge 7, 3) := dk_156 0 7 (dk_at dksX1_counted_5 5 rfl rfl)
theorem dX1_counted_124 : decode cX1_counted 124 = .ok (.iconst 0, 1) := dk_3 (dk_at dksX1_counted_5 8 rfl rfl)
theorem dX1_counted_125 : decode cX1_counted 125 = .ok (.goto 4, 3) := dk_167 0 4 (dk_at dksX1_counted_5 9 rfl rfl)
theorem dX1_counted_128 : decode cX1_counted 128 = .ok (.iconst 1, 1) := dk_4 (dk_at dksX1_counted_5 12 rfl rfl)
theorem dX1_counted_129 : decode cX1_counted 129 = .ok (.iadd, 1) := dk_96 (dk_at dksX1_counted_5 13 rfl rfl)
theorem dX1_counted_130 : decode cX1_counted 130 = .ok (.istore_n 2, 1) := dk_61 (dk_at dksX1_counted_5 14 rfl rfl)
theorem dX1_counted_131 : decode cX1_counted 131 = .ok (.iinc 3 1, 3) := dk_132 3 1 (dk_at dksX1_counted_5 15 rfl rfl)
theorem dX1_counted_134 : decode cX1_counted 134 = .ok (.goto (-32), 3) := dk_167 255 224 (dk_at dksX1_counted_5 18 rfl rfl)
theorem dX1_counted_137 : decode cX1_counted 137 = .ok (.iconst 0, 1) := dk_3 (dk_at dksX1_counted_5 21 rfl rfl)
theorem dX1_counted_138 : decode cX1_counted 138 = .ok (.istore_n 3, 1) := dk_62 (dk_at dksX1_counted_5 22 rfl rfl)
theorem dX1_counted_139 : decode cX1_counted 139 = .ok (.iload_n 3, 1) := dk_29 (dk_at dksX1_counted_5 23 rfl rfl)
theorem dX1_counted_140 : decode cX1_counted 140 = .ok (.iconst 4, 1) := dk_7 (dk_at dksX1_counted_6 0 rfl rfl)
theorem dX1_counted_141 : decode cX1_counted 141 = .ok (.if_icmp .ge 32, 3) := dk_162 0 32 (dk_at dksX1_counted_6 1 rfl rfl)
theorem dX1_counted_144 : decode cX1_counted 144 = .ok (.iload_n 1, 1) := dk_27 (dk_at dksX1_counted_6 4 rfl rfl)
theorem dX1_counted_145 : decode cX1_counted 145 = .ok (.bipush 7, 2) := dk_16 7 (dk_at dksX1_counted_6 5 rfl rfl)
theorem dX1_counted_147 : decode cX1_counted 147 = .ok (.if_icmp .ne 26, 3) := dk_160 0 26 (dk_at dksX1_counted_6 7 rfl rfl)
theorem dX1_counted_150 : decode cX1_counted 150 = .ok (.iload_n 2, 1) := dk_28 (dk_at dksX1_counted_6 10 rfl rfl)
theorem dX1_counted_151 : decode cX1_counted 151 = .ok (.aload_n 0, 1) := dk_42 (dk_at dksX1_counted_6 11 rfl rfl)
theorem dX1_counted_152 : decode cX1_counted 152 = .ok (.getfield 16, 3) := dk_180 0 16 (dk_at dksX1_counted_6 12 rfl rfl)
theorem dX1_counted_155 : decode cX1_counted 155 = .ok (.iload_n 3, 1) := dk_29 (dk_at dksX1_counted_6 15 rfl rfl)
theorem dX1_counted_156 : decode cX1_counted 156 = .ok (.iaload, 1) := dk_46 (dk_at dksX1_counted_6 16 rfl rfl)
theorem dX1_counted_157 : decode cX1_counted 157 = .ok (.ifCond .ge 7, 3) := dk_156 0 7 (dk_at dksX1_counted_6 17 rfl rfl)
theorem dX1_counted_160 : decode cX1_counted 160 = .ok (.iconst 0, 1) := dk_3 (dk_at dksX1_counted_6 20 rfl rfl)
theorem dX1_counted_161 : decode cX1_counted 161 = .ok (.goto 4, 3) := dk_167 0 4 (dk_at dksX1_counted_6 21 rfl rfl)
theorem dX1_counted_164 : decode cX1_counted 164 = .ok (.iconst 1, 1) := dk_4 (dk_at dksX1_counted_7 0 rfl rfl)
theorem dX1_counted_165 : decode cX1_counted 165 = .ok (.iadd, 1) := dk_96 (dk_at dksX1_counted_7 1 rfl rfl)
theorem dX1_counted_166 : decode cX1_counted 166 = .ok (.istore_n 2, 1) := dk_61 (dk_at dksX1_counted_7 2 rfl rfl)
theorem dX1_counted_167 : decode cX1_counted 167 = .ok (.iinc 3 1, 3) := dk_132 3 1 (dk_at dksX1_counted_7 3 rfl rfl)
theorem dX1_counted_170 : decode cX1_counted 170 = .ok (.goto (-31), 3) := dk_167 255 225 (dk_at dksX1_counted_7 6 rfl rfl)
theorem dX1_counted_173 : decode cX1_counted 173 = .ok (.iconst 0, 1) := dk_3 (dk_at dksX1_counted_7 9 rfl rfl)
theorem dX1_counted_174 : decode cX1_counted 174 = .ok (.istore_n 3, 1) := dk_62 (dk_at dksX1_counted_7 10 rfl rfl)
theorem dX1_counted_175 : decode cX1_counted 175 = .ok (.iload_n 3, 1) := dk_29 (dk_at dksX1_counted_7 11 rfl rfl)
theorem dX1_counted_176 : decode cX1_counted 176 = .ok (.iconst 3, 1) := dk_6 (dk_at dksX1_counted_7 12 rfl rfl)
theorem dX1_counted_177 : decode cX1_counted 177 = .ok (.if_icmp .ge 32, 3) := dk_162 0 32 (dk_at dksX1_counted_7 13 rfl rfl)
theorem dX1_counted_180 : decode cX1_counted 180 = .ok (.iload_n 1, 1) := dk_27 (dk_at dksX1_counted_7 16 rfl rfl)
theorem dX1_counted_181 : decode cX1_counted 181 = .ok (.bipush 8, 2) := dk_16 8 (dk_at dksX1_counted_7 17 rfl rfl)
theorem dX1_counted_183 : decode cX1_counted 183 = .ok (.if_icmp .ne 26, 3) := dk_160 0 26 (dk_at dksX1_counted_7 19 rfl rfl)
theorem dX1_counted_186 : decode cX1_counted 186 = .ok (.iload_n 2, 1) := dk_28 (dk_at dksX1_counted_7 22 rfl rfl)
theorem dX1_counted_187 : decode cX1_counted 187 = .ok (.aload_n 0, 1) := dk_42 (dk_at dksX1_counted_7 23 rfl rfl)
theorem dX1_counted_188 : decode cX1_counted 188 = .ok (.getfield 28, 3) := dk_180 0 28 (dk_at dksX1_counted_8 0 rfl rfl)
theorem dX1_counted_191 : decode cX1_counted 191 = .ok (.iload_n 3, 1) := dk_29 (dk_at dksX1_counted_8 3 rfl rfl)
theorem dX1_counted_192 : decode cX1_counted 192 = .ok (.baload, 1) := dk_51 (dk_at dksX1_counted_8 4 rfl rfl)
theorem dX1_counted_193 : decode cX1_counted 193 = .ok (.ifCond .eq 7, 3) := dk_153 0 7 (dk_at dksX1_counted_8 5 rfl rfl)
theorem dX1_counted_196 : decode cX1_counted 196 = .ok (.iconst 1, 1) := dk_4 (dk_at dksX1_counted_8 8 rfl rfl)
theorem dX1_counted_197 : decode cX1_counted 197 = .ok (.goto 4, 3) := dk_167 0 4 (dk_at dksX1_counted_8 9 rfl rfl)
theorem dX1_counted_200 : decode cX1_counted 200 = .ok (.iconst 0, 1) := dk_3 (dk_at dksX1_counted_8 12 rfl rfl)
theorem dX1_counted_201 : decode cX1_counted 201 = .ok (.iadd, 1) := dk_96 (dk_at dksX1_counted_8 13 rfl rfl)
theorem dX1_counted_202 : decode cX1_counted 202 = .ok (.istore_n 2, 1) := dk_61 (dk_at dksX1_counted_8 14 rfl rfl)
theorem dX1_counted_203 : decode cX1_counted 203 = .ok (.iinc 3 1, 3) := dk_132 3 1 (dk_at dksX1_counted_8 15 rfl rfl)
theorem dX1_counted_206 : decode cX1_counted 206 = .ok (.goto (-31), 3) := dk_167 255 225 (dk_at dksX1_counted_8 18 rfl rfl)
theorem dX1_counted_209 : decode cX1_counted 209 = .ok (.iload_n 1, 1) := dk_27 (dk_at dksX1_counted_8 21 rfl rfl)
theorem dX1_counted_210 : decode cX1_counted 210 = .ok (.iconst 3, 1) := dk_6 (dk_at dksX1_counted_8 22 rfl rfl)
theorem dX1_counted_211 : decode cX1_counted 211 = .ok (.if_icmp .ge 12, 3) := dk_162 0 12 (dk_at dksX1_counted_9 0 rfl rfl)
theorem dX1_counted_214 : decode cX1_counted 214 = .ok (.aload_n 0, 1) := dk_42 (dk_at dksX1_counted_9 3 rfl rfl)
theorem dX1_counted_215 : decode cX1_counted 215 = .ok (.getfield 22, 3) := dk_180 0 22 (dk_at dksX1_counted_9 4 rfl rfl)
theorem dX1_counted_218 : decode cX1_counted 218 = .ok (.iload_n 1, 1) := dk_27 (dk_at dksX1_counted_9 7 rfl rfl)
theorem dX1_counted_219 : decode cX1_counted 219 = .ok (.iaload, 1) := dk_46 (dk_at dksX1_counted_9 8 rfl rfl)
theorem dX1_counted_220 : decode cX1_counted 220 = .ok (.goto 4, 3) := dk_167 0 4 (dk_at dksX1_counted_9 9 rfl rfl)
theorem dX1_counted_223 : decode cX1_counted 223 = .ok (.iload_n 2, 1) := dk_28 (dk_at dksX1_counted_9 12 rfl rfl)
theorem dX1_counted_224 : decode cX1_counted 224 = .ok (.ireturn, 1) := dk_172 (dk_at dksX1_counted_9 13 rfl rfl)
abbrev cX1_finding : ByteArray := prog_10_method_85_code
def yX1_finding : MethodName := ⟨RX1, "finding", "()I"⟩
theorem dX1_finding_0 : decode cX1_finding 0 = .ok (.aload_n 0, 1) := by decide +kernel
theorem dX1_finding_1 : decode cX1_finding 1 = .ok (.getfield 57, 3) := by decide +kernel
theorem dX1_finding_4 : decode cX1_finding 4 = .ok (.ireturn, 1) := by decide +kernel
abbrev cX1_findings : ByteArray := prog_10_method_86_code
def yX1_findings : MethodName := ⟨RX1, "findings", "(I)I"⟩
def dkwX1_findings_0 : List UInt8 := [27, 133, 10, 20, 0, 64, 184, 0, 66, 153, 0, 12, 42, 180, 0, 36, 27, 46, 167, 0, 4, 2, 172]
abbrev dktX1_findings_0 : List UInt8 := dkwX1_findings_0 ++ []
theorem dksX1_findings_0 : cX1_findings.data.toList.drop 0 = dktX1_findings_0 := by decide +kernel
theorem dX1_findings_0 : decode cX1_findings 0 = .ok (.iload_n 1, 1) := dk_27 (dk_at dksX1_findings_0 0 rfl rfl)
theorem dX1_findings_1 : decode cX1_findings 1 = .ok (.i2l, 1) := dk_133 (dk_at dksX1_findings_0 1 rfl rfl)
theorem dX1_findings_2 : decode cX1_findings 2 = .ok (.lconst 1, 1) := dk_10 (dk_at dksX1_findings_0 2 rfl rfl)
theorem dX1_findings_3 : decode cX1_findings 3 = .ok (.ldc2_w 64, 3) := dk_20 0 64 (dk_at dksX1_findings_0 3 rfl rfl)
theorem dX1_findings_6 : decode cX1_findings 6 = .ok (.invokestatic 66, 3) := dk_184 0 66 (dk_at dksX1_findings_0 6 rfl rfl)
theorem dX1_findings_9 : decode cX1_findings 9 = .ok (.ifCond .eq 12, 3) := dk_153 0 12 (dk_at dksX1_findings_0 9 rfl rfl)
theorem dX1_findings_12 : decode cX1_findings 12 = .ok (.aload_n 0, 1) := dk_42 (dk_at dksX1_findings_0 12 rfl rfl)
theorem dX1_findings_13 : decode cX1_findings 13 = .ok (.getfield 36, 3) := dk_180 0 36 (dk_at dksX1_findings_0 13 rfl rfl)
theorem dX1_findings_16 : decode cX1_findings 16 = .ok (.iload_n 1, 1) := dk_27 (dk_at dksX1_findings_0 16 rfl rfl)
theorem dX1_findings_17 : decode cX1_findings 17 = .ok (.iaload, 1) := dk_46 (dk_at dksX1_findings_0 17 rfl rfl)
theorem dX1_findings_18 : decode cX1_findings 18 = .ok (.goto 4, 3) := dk_167 0 4 (dk_at dksX1_findings_0 18 rfl rfl)
theorem dX1_findings_21 : decode cX1_findings 21 = .ok (.iconst (-1), 1) := dk_2 (dk_at dksX1_findings_0 21 rfl rfl)
theorem dX1_findings_22 : decode cX1_findings 22 = .ok (.ireturn, 1) := dk_172 (dk_at dksX1_findings_0 22 rfl rfl)
abbrev cX1_digest : ByteArray := prog_10_method_87_code
def yX1_digest : MethodName := ⟨RX1, "digest", "()J"⟩
def dkwX1_digest_15 : List UInt8 := [173]
abbrev dktX1_digest_15 : List UInt8 := dkwX1_digest_15 ++ []
def dkwX1_digest_14 : List UInt8 := [16, 80, 29, 104, 21, 4, 96, 46, 133, 97, 64, 132, 4, 1, 167, 255, 222, 132, 3, 1, 167, 255, 194, 31]
abbrev dktX1_digest_14 : List UInt8 := dkwX1_digest_14 ++ dktX1_digest_15
def dkwX1_digest_13 : List UInt8 := [3, 54, 4, 21, 4, 42, 180, 0, 16, 29, 46, 162, 0, 29, 20, 0, 230, 31, 105, 42, 180, 0, 19]
abbrev dktX1_digest_13 : List UInt8 := dkwX1_digest_13 ++ dktX1_digest_14
def dkwX1_digest_12 : List UInt8 := [167, 255, 193, 3, 62, 29, 7, 162, 0, 63, 20, 0, 230, 31, 105, 42, 180, 0, 16, 29, 46, 133, 97, 64]
abbrev dktX1_digest_12 : List UInt8 := dkwX1_digest_12 ++ dktX1_digest_13
def dkwX1_digest_11 : List UInt8 := [180, 0, 13, 16, 40, 29, 104, 21, 4, 96, 46, 133, 97, 64, 132, 4, 1, 167, 255, 222, 132, 3, 1]
abbrev dktX1_digest_11 : List UInt8 := dkwX1_digest_11 ++ dktX1_digest_12
def dkwX1_digest_10 : List UInt8 := [46, 133, 97, 64, 3, 54, 4, 21, 4, 42, 180, 0, 7, 29, 46, 162, 0, 29, 20, 0, 230, 31, 105, 42]
abbrev dktX1_digest_10 : List UInt8 := dkwX1_digest_10 ++ dktX1_digest_11
def dkwX1_digest_9 : List UInt8 := [132, 3, 1, 167, 255, 215, 3, 62, 29, 16, 6, 162, 0, 63, 20, 0, 230, 31, 105, 42, 180, 0, 7, 29]
abbrev dktX1_digest_9 : List UInt8 := dkwX1_digest_9 ++ dktX1_digest_10
def dkwX1_digest_8 : List UInt8 := [51, 153, 0, 18, 42, 180, 0, 25, 17, 1, 137, 29, 104, 5, 96, 46, 167, 0, 4, 2, 133, 97, 64]
abbrev dktX1_digest_8 : List UInt8 := dkwX1_digest_8 ++ dktX1_digest_9
def dkwX1_digest_7 : List UInt8 := [64, 132, 3, 1, 167, 255, 226, 3, 62, 29, 6, 162, 0, 42, 20, 0, 230, 31, 105, 42, 180, 0, 28, 29]
abbrev dktX1_digest_7 : List UInt8 := dkwX1_digest_7 ++ dktX1_digest_8
def dkwX1_digest_6 : List UInt8 := [180, 0, 22, 5, 46, 162, 0, 26, 20, 0, 230, 31, 105, 42, 180, 0, 22, 16, 73, 29, 96, 46, 133, 97]
abbrev dktX1_digest_6 : List UInt8 := dkwX1_digest_6 ++ dktX1_digest_7
def dkwX1_digest_5 : List UInt8 := [29, 96, 46, 133, 97, 64, 132, 4, 1, 167, 255, 223, 132, 3, 1, 167, 255, 204, 3, 62, 29, 42]
abbrev dktX1_digest_5 : List UInt8 := dkwX1_digest_5 ++ dktX1_digest_6
def dkwX1_digest_4 : List UInt8 := [21, 4, 16, 6, 162, 0, 32, 20, 0, 230, 31, 105, 42, 180, 0, 22, 16, 31, 16, 7, 21, 4, 104, 96]
abbrev dktX1_digest_4 : List UInt8 := dkwX1_digest_4 ++ dktX1_digest_5
def dkwX1_digest_3 : List UInt8 := [167, 255, 231, 132, 3, 1, 167, 255, 212, 3, 62, 29, 42, 180, 0, 22, 4, 46, 162, 0, 48, 3, 54, 4]
abbrev dktX1_digest_3 : List UInt8 := dkwX1_digest_3 ++ dktX1_digest_4
def dkwX1_digest_2 : List UInt8 := [16, 6, 162, 0, 24, 20, 0, 230, 31, 105, 42, 29, 21, 4, 182, 0, 132, 133, 97, 64, 132, 4, 1]
abbrev dktX1_digest_2 : List UInt8 := dkwX1_digest_2 ++ dktX1_digest_3
def dkwX1_digest_1 : List UInt8 := [64, 132, 3, 1, 167, 255, 234, 3, 62, 29, 42, 180, 0, 22, 3, 46, 162, 0, 40, 3, 54, 4, 21, 4]
abbrev dktX1_digest_1 : List UInt8 := dkwX1_digest_1 ++ dktX1_digest_2
def dkwX1_digest_0 : List UInt8 := [20, 0, 228, 64, 3, 62, 29, 16, 9, 162, 0, 22, 20, 0, 230, 31, 105, 42, 29, 182, 0, 225, 133, 97]
abbrev dktX1_digest_0 : List UInt8 := dkwX1_digest_0 ++ dktX1_digest_1
theorem dksX1_digest_0 : cX1_digest.data.toList.drop 0 = dktX1_digest_0 := by decide +kernel
theorem dksX1_digest_1 : cX1_digest.data.toList.drop 24 = dktX1_digest_1 := dk_seg dksX1_digest_0 24 rfl rfl
theorem dksX1_digest_2 : cX1_digest.data.toList.drop 48 = dktX1_digest_2 := dk_seg dksX1_digest_1 24 rfl rfl
theorem dksX1_digest_3 : cX1_digest.data.toList.drop 71 = dktX1_digest_3 := dk_seg dksX1_digest_2 23 rfl rfl
theorem dksX1_digest_4 : cX1_digest.data.toList.drop 95 = dktX1_digest_4 := dk_seg dksX1_digest_3 24 rfl rfl
theorem dksX1_digest_5 : cX1_digest.data.toList.drop 119 = dktX1_digest_5 := dk_seg dksX1_digest_4 24 rfl rfl
theorem dksX1_digest_6 : cX1_digest.data.toList.drop 141 = dktX1_digest_6 := dk_seg dksX1_digest_5 22 rfl rfl
theorem dksX1_digest_7 : cX1_digest.data.toList.drop 165 = dktX1_digest_7 := dk_seg dksX1_digest_6 24 rfl rfl
theorem dksX1_digest_8 : cX1_digest.data.toList.drop 189 = dktX1_digest_8 := dk_seg dksX1_digest_7 24 rfl rfl
theorem dksX1_digest_9 : cX1_digest.data.toList.drop 212 = dktX1_digest_9 := dk_seg dksX1_digest_8 23 rfl rfl
theorem dksX1_digest_10 : cX1_digest.data.toList.drop 236 = dktX1_digest_10 := dk_seg dksX1_digest_9 24 rfl rfl
theorem dksX1_digest_11 : cX1_digest.data.toList.drop 260 = dktX1_digest_11 := dk_seg dksX1_digest_10 24 rfl rfl
theorem dksX1_digest_12 : cX1_digest.data.toList.drop 283 = dktX1_digest_12 := dk_seg dksX1_digest_11 23 rfl rfl
theorem dksX1_digest_13 : cX1_digest.data.toList.drop 307 = dktX1_digest_13 := dk_seg dksX1_digest_12 24 rfl rfl
theorem dksX1_digest_14 : cX1_digest.data.toList.drop 330 = dktX1_digest_14 := dk_seg dksX1_digest_13 23 rfl rfl
theorem dksX1_digest_15 : cX1_digest.data.toList.drop 354 = dktX1_digest_15 := dk_seg dksX1_digest_14 24 rfl rfl
theorem dX1_digest_0 : decode cX1_digest 0 = .ok (.ldc2_w 228, 3) := dk_20 0 228 (dk_at dksX1_digest_0 0 rfl rfl)
theorem dX1_digest_3 : decode cX1_digest 3 = .ok (.lstore_n 1, 1) := dk_64 (dk_at dksX1_digest_0 3 rfl rfl)
theorem dX1_digest_4 : decode cX1_digest 4 = .ok (.iconst 0, 1) := dk_3 (dk_at dksX1_digest_0 4 rfl rfl)
theorem dX1_digest_5 : decode cX1_digest 5 = .ok (.istore_n 3, 1) := dk_62 (dk_at dksX1_digest_0 5 rfl rfl)
theorem dX1_digest_6 : decode cX1_digest 6 = .ok (.iload_n 3, 1) := dk_29 (dk_at dksX1_digest_0 6 rfl rfl)
theorem dX1_digest_7 : decode cX1_digest 7 = .ok (.bipush 9, 2) := dk_16 9 (dk_at dksX1_digest_0 7 rfl rfl)
theorem dX1_digest_9 : decode cX1_digest 9 = .ok (.if_icmp .ge 22, 3) := dk_162 0 22 (dk_at dksX1_digest_0 9 rfl rfl)
theorem dX1_digest_12 : decode cX1_digest 12 = .ok (.ldc2_w 230, 3) := dk_20 0 230 (dk_at dksX1_digest_0 12 rfl rfl)
theorem dX1_digest_15 : decode cX1_digest 15 = .ok (.lload_n 1, 1) := dk_31 (dk_at dksX1_digest_0 15 rfl rfl)
theorem dX1_digest_16 : decode cX1_digest 16 = .ok (.lmul, 1) := dk_105 (dk_at dksX1_digest_0 16 rfl rfl)
theorem dX1_digest_17 : decode cX1_digest 17 = .ok (.aload_n 0, 1) := dk_42 (dk_at dksX1_digest_0 17 rfl rfl)
theorem dX1_digest_18 : decode cX1_digest 18 = .ok (.iload_n 3, 1) := dk_29 (dk_at dksX1_digest_0 18 rfl rfl)
theorem dX1_digest_19 : decode cX1_digest 19 = .ok (.invokevirtual 225, 3) := dk_182 0 225 (dk_at dksX1_digest_0 19 rfl rfl)
theorem dX1_digest_22 : decode cX1_digest 22 = .ok (.i2l, 1) := dk_133 (dk_at dksX1_digest_0 22 rfl rfl)
theorem dX1_digest_23 : decode cX1_digest 23 = .ok (.ladd, 1) := dk_97 (dk_at dksX1_digest_0 23 rfl rfl)
theorem dX1_digest_24 : decode cX1_digest 24 = .ok (.lstore_n 1, 1) := dk_64 (dk_at dksX1_digest_1 0 rfl rfl)
theorem dX1_digest_25 : decode cX1_digest 25 = .ok (.iinc 3 1, 3) := dk_132 3 1 (dk_at dksX1_digest_1 1 rfl rfl)
theorem dX1_digest_28 : decode cX1_digest 28 = .ok (.goto (-22), 3) := dk_167 255 234 (dk_at dksX1_digest_1 4 rfl rfl)
theorem dX1_digest_31 : decode cX1_digest 31 = .ok (.iconst 0, 1) := dk_3 (dk_at dksX1_digest_1 7 rfl rfl)
theorem dX1_digest_32 : decode cX1_digest 32 = .ok (.istore_n 3, 1) := dk_62 (dk_at dksX1_digest_1 8 rfl rfl)
theorem dX1_digest_33 : decode cX1_digest 33 = .ok (.iload_n 3, 1) := dk_29 (dk_at dksX1_digest_1 9 rfl rfl)
theorem dX1_digest_34 : decode cX1_digest 34 = .ok (.aload_n 0, 1) := dk_42 (dk_at dksX1_digest_1 10 rfl rfl)
theorem dX1_digest_35 : decode cX1_digest 35 = .ok (.getfield 22, 3) := dk_180 0 22 (dk_at dksX1_digest_1 11 rfl rfl)
theorem dX1_digest_38 : decode cX1_digest 38 = .ok (.iconst 0, 1) := dk_3 (dk_at dksX1_digest_1 14 rfl rfl)
theorem dX1_digest_39 : decode cX1_digest 39 = .ok (.iaload, 1) := dk_46 (dk_at dksX1_digest_1 15 rfl rfl)
theorem dX1_digest_40 : decode cX1_digest 40 = .ok (.if_icmp .ge 40, 3) := dk_162 0 40 (dk_at dksX1_digest_1 16 rfl rfl)
theorem dX1_digest_43 : decode cX1_digest 43 = .ok (.iconst 0, 1) := dk_3 (dk_at dksX1_digest_1 19 rfl rfl)
theorem dX1_digest_44 : decode cX1_digest 44 = .ok (.istore 4, 2) := dk_54 4 (dk_at dksX1_digest_1 20 rfl rfl)
theorem dX1_digest_46 : decode cX1_digest 46 = .ok (.iload 4, 2) := dk_21 4 (dk_at dksX1_digest_1 22 rfl rfl)
theorem dX1_digest_48 : decode cX1_digest 48 = .ok (.bipush 6, 2) := dk_16 6 (dk_at dksX1_digest_2 0 rfl rfl)
theorem dX1_digest_50 : decode cX1_digest 50 = .ok (.if_icmp .ge 24, 3) := dk_162 0 24 (dk_at dksX1_digest_2 2 rfl rfl)
theorem dX1_digest_53 : decode cX1_digest 53 = .ok (.ldc2_w 230, 3) := dk_20 0 230 (dk_at dksX1_digest_2 5 rfl rfl)
theorem dX1_digest_56 : decode cX1_digest 56 = .ok (.lload_n 1, 1) := dk_31 (dk_at dksX1_digest_2 8 rfl rfl)
theorem dX1_digest_57 : decode cX1_digest 57 = .ok (.lmul, 1) := dk_105 (dk_at dksX1_digest_2 9 rfl rfl)
theorem dX1_digest_58 : decode cX1_digest 58 = .ok (.aload_n 0, 1) := dk_42 (dk_at dksX1_digest_2 10 rfl rfl)
theorem dX1_digest_59 : decode cX1_digest 59 = .ok (.iload_n 3, 1) := dk_29 (dk_at dksX1_digest_2 11 rfl rfl)
theorem dX1_digest_60 : decode cX1_digest 60 = .ok (.iload 4, 2) := dk_21 4 (dk_at dksX1_digest_2 12 rfl rfl)
theorem dX1_digest_62 : decode cX1_digest 62 = .ok (.invokevirtual 132, 3) := dk_182 0 132 (dk_at dksX1_digest_2 14 rfl rfl)
theorem dX1_digest_65 : decode cX1_digest 65 = .ok (.i2l, 1) := dk_133 (dk_at dksX1_digest_2 17 rfl rfl)
theorem dX1_digest_66 : decode cX1_digest 66 = .ok (.ladd, 1) := dk_97 (dk_at dksX1_digest_2 18 rfl rfl)
theorem dX1_digest_67 : decode cX1_digest 67 = .ok (.lstore_n 1, 1) := dk_64 (dk_at dksX1_digest_2 19 rfl rfl)
theorem dX1_digest_68 : decode cX1_digest 68 = .ok (.iinc 4 1, 3) := dk_132 4 1 (dk_at dksX1_digest_2 20 rfl rfl)
theorem dX1_digest_71 : decode cX1_digest 71 = .ok (.goto (-25), 3) := dk_167 255 231 (dk_at dksX1_digest_3 0 rfl rfl)
theorem dX1_digest_74 : decode cX1_digest 74 = .ok (.iinc 3 1, 3) := dk_132 3 1 (dk_at dksX1_digest_3 3 rfl rfl)
theorem dX1_digest_77 : decode cX1_digest 77 = .ok (.goto (-44), 3) := dk_167 255 212 (dk_at dksX1_digest_3 6 rfl rfl)
theorem dX1_digest_80 : decode cX1_digest 80 = .ok (.iconst 0, 1) := dk_3 (dk_at dksX1_digest_3 9 rfl rfl)
theorem dX1_digest_81 : decode cX1_digest 81 = .ok (.istore_n 3, 1) := dk_62 (dk_at dksX1_digest_3 10 rfl rfl)
theorem dX1_digest_82 : decode cX1_digest 82 = .ok (.iload_n 3, 1) := dk_29 (dk_at dksX1_digest_3 11 rfl rfl)
theorem dX1_digest_83 : decode cX1_digest 83 = .ok (.aload_n 0, 1) := dk_42 (dk_at dksX1_digest_3 12 rfl rfl)
theorem dX1_digest_84 : decode cX1_digest 84 = .ok (.getfield 22, 3) := dk_180 0 22 (dk_at dksX1_digest_3 13 rfl rfl)
theorem dX1_digest_87 : decode cX1_digest 87 = .ok (.iconst 1, 1) := dk_4 (dk_at dksX1_digest_3 16 rfl rfl)
theorem dX1_digest_88 : decode cX1_digest 88 = .ok (.iaload, 1) := dk_46 (dk_at dksX1_digest_3 17 rfl rfl)
theorem dX1_digest_89 : decode cX1_digest 89 = .ok (.if_icmp .ge 48, 3) := dk_162 0 48 (dk_at dksX1_digest_3 18 rfl rfl)
theorem dX1_digest_92 : decode cX1_digest 92 = .ok (.iconst 0, 1) := dk_3 (dk_at dksX1_digest_3 21 rfl rfl)
theorem dX1_digest_93 : decode cX1_digest 93 = .ok (.istore 4, 2) := dk_54 4 (dk_at dksX1_digest_3 22 rfl rfl)
theorem dX1_digest_95 : decode cX1_digest 95 = .ok (.iload 4, 2) := dk_21 4 (dk_at dksX1_digest_4 0 rfl rfl)
theorem dX1_digest_97 : decode cX1_digest 97 = .ok (.bipush 6, 2) := dk_16 6 (dk_at dksX1_digest_4 2 rfl rfl)
theorem dX1_digest_99 : decode cX1_digest 99 = .ok (.if_icmp .ge 32, 3) := dk_162 0 32 (dk_at dksX1_digest_4 4 rfl rfl)
theorem dX1_digest_102 : decode cX1_digest 102 = .ok (.ldc2_w 230, 3) := dk_20 0 230 (dk_at dksX1_digest_4 7 rfl rfl)
theorem dX1_digest_105 : decode cX1_digest 105 = .ok (.lload_n 1, 1) := dk_31 (dk_at dksX1_digest_4 10 rfl rfl)
theorem dX1_digest_106 : decode cX1_digest 106 = .ok (.lmul, 1) := dk_105 (dk_at dksX1_digest_4 11 rfl rfl)
theorem dX1_digest_107 : decode cX1_digest 107 = .ok (.aload_n 0, 1) := dk_42 (dk_at dksX1_digest_4 12 rfl rfl)
theorem dX1_digest_108 : decode cX1_digest 108 = .ok (.getfield 22, 3) := dk_180 0 22 (dk_at dksX1_digest_4 13 rfl rfl)
theorem dX1_digest_111 : decode cX1_digest 111 = .ok (.bipush 31, 2) := dk_16 31 (dk_at dksX1_digest_4 16 rfl rfl)
theorem dX1_digest_113 : decode cX1_digest 113 = .ok (.bipush 7, 2) := dk_16 7 (dk_at dksX1_digest_4 18 rfl rfl)
theorem dX1_digest_115 : decode cX1_digest 115 = .ok (.iload 4, 2) := dk_21 4 (dk_at dksX1_digest_4 20 rfl rfl)
theorem dX1_digest_117 : decode cX1_digest 117 = .ok (.imul, 1) := dk_104 (dk_at dksX1_digest_4 22 rfl rfl)
theorem dX1_digest_118 : decode cX1_digest 118 = .ok (.iadd, 1) := dk_96 (dk_at dksX1_digest_4 23 rfl rfl)
theorem dX1_digest_119 : decode cX1_digest 119 = .ok (.iload_n 3, 1) := dk_29 (dk_at dksX1_digest_5 0 rfl rfl)
theorem dX1_digest_120 : decode cX1_digest 120 = .ok (.iadd, 1) := dk_96 (dk_at dksX1_digest_5 1 rfl rfl)
theorem dX1_digest_121 : decode cX1_digest 121 = .ok (.iaload, 1) := dk_46 (dk_at dksX1_digest_5 2 rfl rfl)
theorem dX1_digest_122 : decode cX1_digest 122 = .ok (.i2l, 1) := dk_133 (dk_at dksX1_digest_5 3 rfl rfl)
theorem dX1_digest_123 : decode cX1_digest 123 = .ok (.ladd, 1) := dk_97 (dk_at dksX1_digest_5 4 rfl rfl)
theorem dX1_digest_124 : decode cX1_digest 124 = .ok (.lstore_n 1, 1) := dk_64 (dk_at dksX1_digest_5 5 rfl rfl)
theorem dX1_digest_125 : decode cX1_digest 125 = .ok (.iinc 4 1, 3) := dk_132 4 1 (dk_at dksX1_digest_5 6 rfl rfl)
theorem dX1_digest_128 : decode cX1_digest 128 = .ok (.goto (-33), 3) := dk_167 255 223 (dk_at dksX1_digest_5 9 rfl rfl)
theorem dX1_digest_131 : decode cX1_digest 131 = .ok (.iinc 3 1, 3) := dk_132 3 1 (dk_at dksX1_digest_5 12 rfl rfl)
theorem dX1_digest_134 : decode cX1_digest 134 = .ok (.goto (-52), 3) := dk_167 255 204 (dk_at dksX1_digest_5 15 rfl rfl)
theorem dX1_digest_137 : decode cX1_digest 137 = .ok (.iconst 0, 1) := dk_3 (dk_at dksX1_digest_5 18 rfl rfl)
theorem dX1_digest_138 : decode cX1_digest 138 = .ok (.istore_n 3, 1) := dk_62 (dk_at dksX1_digest_5 19 rfl rfl)
theorem dX1_digest_139 : decode cX1_digest 139 = .ok (.iload_n 3, 1) := dk_29 (dk_at dksX1_digest_5 20 rfl rfl)
theorem dX1_digest_140 : decode cX1_digest 140 = .ok (.aload_n 0, 1) := dk_42 (dk_at dksX1_digest_5 21 rfl rfl)
theorem dX1_digest_141 : decode cX1_digest 141 = .ok (.getfield 22, 3) := dk_180 0 22 (dk_at dksX1_digest_6 0 rfl rfl)
theorem dX1_digest_144 : decode cX1_digest 144 = .ok (.iconst 2, 1) := dk_5 (dk_at dksX1_digest_6 3 rfl rfl)
theorem dX1_digest_145 : decode cX1_digest 145 = .ok (.iaload, 1) := dk_46 (dk_at dksX1_digest_6 4 rfl rfl)
theorem dX1_digest_146 : decode cX1_digest 146 = .ok (.if_icmp .ge 26, 3) := dk_162 0 26 (dk_at dksX1_digest_6 5 rfl rfl)
theorem dX1_digest_149 : decode cX1_digest 149 = .ok (.ldc2_w 230, 3) := dk_20 0 230 (dk_at dksX1_digest_6 8 rfl rfl)
theorem dX1_digest_152 : decode cX1_digest 152 = .ok (.lload_n 1, 1) := dk_31 (dk_at dksX1_digest_6 11 rfl rfl)
theorem dX1_digest_153 : decode cX1_digest 153 = .ok (.lmul, 1) := dk_105 (dk_at dksX1_digest_6 12 rfl rfl)
theorem dX1_digest_154 : decode cX1_digest 154 = .ok (.aload_n 0, 1) := dk_42 (dk_at dksX1_digest_6 13 rfl rfl)
theorem dX1_digest_155 : decode cX1_digest 155 = .ok (.getfield 22, 3) := dk_180 0 22 (dk_at dksX1_digest_6 14 rfl rfl)
theorem dX1_digest_158 : decode cX1_digest 158 = .ok (.bipush 73, 2) := dk_16 73 (dk_at dksX1_digest_6 17 rfl rfl)
theorem dX1_digest_160 : decode cX1_digest 160 = .ok (.iload_n 3, 1) := dk_29 (dk_at dksX1_digest_6 19 rfl rfl)
theorem dX1_digest_161 : decode cX1_digest 161 = .ok (.iadd, 1) := dk_96 (dk_at dksX1_digest_6 20 rfl rfl)
theorem dX1_digest_162 : decode cX1_digest 162 = .ok (.iaload, 1) := dk_46 (dk_at dksX1_digest_6 21 rfl rfl)
theorem dX1_digest_163 : decode cX1_digest 163 = .ok (.i2l, 1) := dk_133 (dk_at dksX1_digest_6 22 rfl rfl)
theorem dX1_digest_164 : decode cX1_digest 164 = .ok (.ladd, 1) := dk_97 (dk_at dksX1_digest_6 23 rfl rfl)
theorem dX1_digest_165 : decode cX1_digest 165 = .ok (.lstore_n 1, 1) := dk_64 (dk_at dksX1_digest_7 0 rfl rfl)
theorem dX1_digest_166 : decode cX1_digest 166 = .ok (.iinc 3 1, 3) := dk_132 3 1 (dk_at dksX1_digest_7 1 rfl rfl)
theorem dX1_digest_169 : decode cX1_digest 169 = .ok (.goto (-30), 3) := dk_167 255 226 (dk_at dksX1_digest_7 4 rfl rfl)
theorem dX1_digest_172 : decode cX1_digest 172 = .ok (.iconst 0, 1) := dk_3 (dk_at dksX1_digest_7 7 rfl rfl)
theorem dX1_digest_173 : decode cX1_digest 173 = .ok (.istore_n 3, 1) := dk_62 (dk_at dksX1_digest_7 8 rfl rfl)
theorem dX1_digest_174 : decode cX1_digest 174 = .ok (.iload_n 3, 1) := dk_29 (dk_at dksX1_digest_7 9 rfl rfl)
theorem dX1_digest_175 : decode cX1_digest 175 = .ok (.iconst 3, 1) := dk_6 (dk_at dksX1_digest_7 10 rfl rfl)
theorem dX1_digest_176 : decode cX1_digest 176 = .ok (.if_icmp .ge 42, 3) := dk_162 0 42 (dk_at dksX1_digest_7 11 rfl rfl)
theorem dX1_digest_179 : decode cX1_digest 179 = .ok (.ldc2_w 230, 3) := dk_20 0 230 (dk_at dksX1_digest_7 14 rfl rfl)
theorem dX1_digest_182 : decode cX1_digest 182 = .ok (.lload_n 1, 1) := dk_31 (dk_at dksX1_digest_7 17 rfl rfl)
theorem dX1_digest_183 : decode cX1_digest 183 = .ok (.lmul, 1) := dk_105 (dk_at dksX1_digest_7 18 rfl rfl)
theorem dX1_digest_184 : decode cX1_digest 184 = .ok (.aload_n 0, 1) := dk_42 (dk_at dksX1_digest_7 19 rfl rfl)
theorem dX1_digest_185 : decode cX1_digest 185 = .ok (.getfield 28, 3) := dk_180 0 28 (dk_at dksX1_digest_7 20 rfl rfl)
theorem dX1_digest_188 : decode cX1_digest 188 = .ok (.iload_n 3, 1) := dk_29 (dk_at dksX1_digest_7 23 rfl rfl)
theorem dX1_digest_189 : decode cX1_digest 189 = .ok (.baload, 1) := dk_51 (dk_at dksX1_digest_8 0 rfl rfl)
theorem dX1_digest_190 : decode cX1_digest 190 = .ok (.ifCond .eq 18, 3) := dk_153 0 18 (dk_at dksX1_digest_8 1 rfl rfl)
theorem dX1_digest_193 : decode cX1_digest 193 = .ok (.aload_n 0, 1) := dk_42 (dk_at dksX1_digest_8 4 rfl rfl)
theorem dX1_digest_194 : decode cX1_digest 194 = .ok (.getfield 25, 3) := dk_180 0 25 (dk_at dksX1_digest_8 5 rfl rfl)
theorem dX1_digest_197 : decode cX1_digest 197 = .ok (.sipush 393, 3) := dk_17 1 137 (dk_at dksX1_digest_8 8 rfl rfl)
theorem dX1_digest_200 : decode cX1_digest 200 = .ok (.iload_n 3, 1) := dk_29 (dk_at dksX1_digest_8 11 rfl rfl)
theorem dX1_digest_201 : decode cX1_digest 201 = .ok (.imul, 1) := dk_104 (dk_at dksX1_digest_8 12 rfl rfl)
theorem dX1_digest_202 : decode cX1_digest 202 = .ok (.iconst 2, 1) := dk_5 (dk_at dksX1_digest_8 13 rfl rfl)
theorem dX1_digest_203 : decode cX1_digest 203 = .ok (.iadd, 1) := dk_96 (dk_at dksX1_digest_8 14 rfl rfl)
theorem dX1_digest_204 : decode cX1_digest 204 = .ok (.iaload, 1) := dk_46 (dk_at dksX1_digest_8 15 rfl rfl)
theorem dX1_digest_205 : decode cX1_digest 205 = .ok (.goto 4, 3) := dk_167 0 4 (dk_at dksX1_digest_8 16 rfl rfl)
theorem dX1_digest_208 : decode cX1_digest 208 = .ok (.iconst (-1), 1) := dk_2 (dk_at dksX1_digest_8 19 rfl rfl)
theorem dX1_digest_209 : decode cX1_digest 209 = .ok (.i2l, 1) := dk_133 (dk_at dksX1_digest_8 20 rfl rfl)
theorem dX1_digest_210 : decode cX1_digest 210 = .ok (.ladd, 1) := dk_97 (dk_at dksX1_digest_8 21 rfl rfl)
theorem dX1_digest_211 : decode cX1_digest 211 = .ok (.lstore_n 1, 1) := dk_64 (dk_at dksX1_digest_8 22 rfl rfl)
theorem dX1_digest_212 : decode cX1_digest 212 = .ok (.iinc 3 1, 3) := dk_132 3 1 (dk_at dksX1_digest_9 0 rfl rfl)
theorem dX1_digest_215 : decode cX1_digest 215 = .ok (.goto (-41), 3) := dk_167 255 215 (dk_at dksX1_digest_9 3 rfl rfl)
theorem dX1_digest_218 : decode cX1_digest 218 = .ok (.iconst 0, 1) := dk_3 (dk_at dksX1_digest_9 6 rfl rfl)
theorem dX1_digest_219 : decode cX1_digest 219 = .ok (.istore_n 3, 1) := dk_62 (dk_at dksX1_digest_9 7 rfl rfl)
theorem dX1_digest_220 : decode cX1_digest 220 = .ok (.iload_n 3, 1) := dk_29 (dk_at dksX1_digest_9 8 rfl rfl)
theorem dX1_digest_221 : decode cX1_digest 221 = .ok (.bipush 6, 2) := dk_16 6 (dk_at dksX1_digest_9 9 rfl rfl)
theorem dX1_digest_223 : decode cX1_digest 223 = .ok (.if_icmp .ge 63, 3) := dk_162 0 63 (dk_at dksX1_digest_9 11 rfl rfl)
theorem dX1_digest_226 : decode cX1_digest 226 = .ok (.ldc2_w 230, 3) := dk_20 0 230 (dk_at dksX1_digest_9 14 rfl rfl)
theorem dX1_digest_229 : decode cX1_digest 229 = .ok (.lload_n 1, 1) := dk_31 (dk_at dksX1_digest_9 17 rfl rfl)
theorem dX1_digest_230 : decode cX1_digest 230 = .ok (.lmul, 1) := dk_105 (dk_at dksX1_digest_9 18 rfl rfl)
theorem dX1_digest_231 : decode cX1_digest 231 = .ok (.aload_n 0, 1) := dk_42 (dk_at dksX1_digest_9 19 rfl rfl)
theorem dX1_digest_232 : decode cX1_digest 232 = .ok (.getfield 7, 3) := dk_180 0 7 (dk_at dksX1_digest_9 20 rfl rfl)
theorem dX1_digest_235 : decode cX1_digest 235 = .ok (.iload_n 3, 1) := dk_29 (dk_at dksX1_digest_9 23 rfl rfl)
theorem dX1_digest_236 : decode cX1_digest 236 = .ok (.iaload, 1) := dk_46 (dk_at dksX1_digest_10 0 rfl rfl)
theorem dX1_digest_237 : decode cX1_digest 237 = .ok (.i2l, 1) := dk_133 (dk_at dksX1_digest_10 1 rfl rfl)
theorem dX1_digest_238 : decode cX1_digest 238 = .ok (.ladd, 1) := dk_97 (dk_at dksX1_digest_10 2 rfl rfl)
theorem dX1_digest_239 : decode cX1_digest 239 = .ok (.lstore_n 1, 1) := dk_64 (dk_at dksX1_digest_10 3 rfl rfl)
theorem dX1_digest_240 : decode cX1_digest 240 = .ok (.iconst 0, 1) := dk_3 (dk_at dksX1_digest_10 4 rfl rfl)
theorem dX1_digest_241 : decode cX1_digest 241 = .ok (.istore 4, 2) := dk_54 4 (dk_at dksX1_digest_10 5 rfl rfl)
theorem dX1_digest_243 : decode cX1_digest 243 = .ok (.iload 4, 2) := dk_21 4 (dk_at dksX1_digest_10 7 rfl rfl)
theorem dX1_digest_245 : decode cX1_digest 245 = .ok (.aload_n 0, 1) := dk_42 (dk_at dksX1_digest_10 9 rfl rfl)
theorem dX1_digest_246 : decode cX1_digest 246 = .ok (.getfield 7, 3) := dk_180 0 7 (dk_at dksX1_digest_10 10 rfl rfl)
theorem dX1_digest_249 : decode cX1_digest 249 = .ok (.iload_n 3, 1) := dk_29 (dk_at dksX1_digest_10 13 rfl rfl)
theorem dX1_digest_250 : decode cX1_digest 250 = .ok (.iaload, 1) := dk_46 (dk_at dksX1_digest_10 14 rfl rfl)
theorem dX1_digest_251 : decode cX1_digest 251 = .ok (.if_icmp .ge 29, 3) := dk_162 0 29 (dk_at dksX1_digest_10 15 rfl rfl)
theorem dX1_digest_254 : decode cX1_digest 254 = .ok (.ldc2_w 230, 3) := dk_20 0 230 (dk_at dksX1_digest_10 18 rfl rfl)
theorem dX1_digest_257 : decode cX1_digest 257 = .ok (.lload_n 1, 1) := dk_31 (dk_at dksX1_digest_10 21 rfl rfl)
theorem dX1_digest_258 : decode cX1_digest 258 = .ok (.lmul, 1) := dk_105 (dk_at dksX1_digest_10 22 rfl rfl)
theorem dX1_digest_259 : decode cX1_digest 259 = .ok (.aload_n 0, 1) := dk_42 (dk_at dksX1_digest_10 23 rfl rfl)
theorem dX1_digest_260 : decode cX1_digest 260 = .ok (.getfield 13, 3) := dk_180 0 13 (dk_at dksX1_digest_11 0 rfl rfl)
theorem dX1_digest_263 : decode cX1_digest 263 = .ok (.bipush 40, 2) := dk_16 40 (dk_at dksX1_digest_11 3 rfl rfl)
theorem dX1_digest_265 : decode cX1_digest 265 = .ok (.iload_n 3, 1) := dk_29 (dk_at dksX1_digest_11 5 rfl rfl)
theorem dX1_digest_266 : decode cX1_digest 266 = .ok (.imul, 1) := dk_104 (dk_at dksX1_digest_11 6 rfl rfl)
theorem dX1_digest_267 : decode cX1_digest 267 = .ok (.iload 4, 2) := dk_21 4 (dk_at dksX1_digest_11 7 rfl rfl)
theorem dX1_digest_269 : decode cX1_digest 269 = .ok (.iadd, 1) := dk_96 (dk_at dksX1_digest_11 9 rfl rfl)
theorem dX1_digest_270 : decode cX1_digest 270 = .ok (.iaload, 1) := dk_46 (dk_at dksX1_digest_11 10 rfl rfl)
theorem dX1_digest_271 : decode cX1_digest 271 = .ok (.i2l, 1) := dk_133 (dk_at dksX1_digest_11 11 rfl rfl)
theorem dX1_digest_272 : decode cX1_digest 272 = .ok (.ladd, 1) := dk_97 (dk_at dksX1_digest_11 12 rfl rfl)
theorem dX1_digest_273 : decode cX1_digest 273 = .ok (.lstore_n 1, 1) := dk_64 (dk_at dksX1_digest_11 13 rfl rfl)
theorem dX1_digest_274 : decode cX1_digest 274 = .ok (.iinc 4 1, 3) := dk_132 4 1 (dk_at dksX1_digest_11 14 rfl rfl)
theorem dX1_digest_277 : decode cX1_digest 277 = .ok (.goto (-34), 3) := dk_167 255 222 (dk_at dksX1_digest_11 17 rfl rfl)
theorem dX1_digest_280 : decode cX1_digest 280 = .ok (.iinc 3 1, 3) := dk_132 3 1 (dk_at dksX1_digest_11 20 rfl rfl)
theorem dX1_digest_283 : decode cX1_digest 283 = .ok (.goto (-63), 3) := dk_167 255 193 (dk_at dksX1_digest_12 0 rfl rfl)
theorem dX1_digest_286 : decode cX1_digest 286 = .ok (.iconst 0, 1) := dk_3 (dk_at dksX1_digest_12 3 rfl rfl)
theorem dX1_digest_287 : decode cX1_digest 287 = .ok (.istore_n 3, 1) := dk_62 (dk_at dksX1_digest_12 4 rfl rfl)
theorem dX1_digest_288 : decode cX1_digest 288 = .ok (.iload_n 3, 1) := dk_29 (dk_at dksX1_digest_12 5 rfl rfl)
theorem dX1_digest_289 : decode cX1_digest 289 = .ok (.iconst 4, 1) := dk_7 (dk_at dksX1_digest_12 6 rfl rfl)
theorem dX1_digest_290 : decode cX1_digest 290 = .ok (.if_icmp .ge 63, 3) := dk_162 0 63 (dk_at dksX1_digest_12 7 rfl rfl)
theorem dX1_digest_293 : decode cX1_digest 293 = .ok (.ldc2_w 230, 3) := dk_20 0 230 (dk_at dksX1_digest_12 10 rfl rfl)
theorem dX1_digest_296 : decode cX1_digest 296 = .ok (.lload_n 1, 1) := dk_31 (dk_at dksX1_digest_12 13 rfl rfl)
theorem dX1_digest_297 : decode cX1_digest 297 = .ok (.lmul, 1) := dk_105 (dk_at dksX1_digest_12 14 rfl rfl)
theorem dX1_digest_298 : decode cX1_digest 298 = .ok (.aload_n 0, 1) := dk_42 (dk_at dksX1_digest_12 15 rfl rfl)
theorem dX1_digest_299 : decode cX1_digest 299 = .ok (.getfield 16, 3) := dk_180 0 16 (dk_at dksX1_digest_12 16 rfl rfl)
theorem dX1_digest_302 : decode cX1_digest 302 = .ok (.iload_n 3, 1) := dk_29 (dk_at dksX1_digest_12 19 rfl rfl)
theorem dX1_digest_303 : decode cX1_digest 303 = .ok (.iaload, 1) := dk_46 (dk_at dksX1_digest_12 20 rfl rfl)
theorem dX1_digest_304 : decode cX1_digest 304 = .ok (.i2l, 1) := dk_133 (dk_at dksX1_digest_12 21 rfl rfl)
theorem dX1_digest_305 : decode cX1_digest 305 = .ok (.ladd, 1) := dk_97 (dk_at dksX1_digest_12 22 rfl rfl)
theorem dX1_digest_306 : decode cX1_digest 306 = .ok (.lstore_n 1, 1) := dk_64 (dk_at dksX1_digest_12 23 rfl rfl)
theorem dX1_digest_307 : decode cX1_digest 307 = .ok (.iconst 0, 1) := dk_3 (dk_at dksX1_digest_13 0 rfl rfl)
theorem dX1_digest_308 : decode cX1_digest 308 = .ok (.istore 4, 2) := dk_54 4 (dk_at dksX1_digest_13 1 rfl rfl)
theorem dX1_digest_310 : decode cX1_digest 310 = .ok (.iload 4, 2) := dk_21 4 (dk_at dksX1_digest_13 3 rfl rfl)
theorem dX1_digest_312 : decode cX1_digest 312 = .ok (.aload_n 0, 1) := dk_42 (dk_at dksX1_digest_13 5 rfl rfl)
theorem dX1_digest_313 : decode cX1_digest 313 = .ok (.getfield 16, 3) := dk_180 0 16 (dk_at dksX1_digest_13 6 rfl rfl)
theorem dX1_digest_316 : decode cX1_digest 316 = .ok (.iload_n 3, 1) := dk_29 (dk_at dksX1_digest_13 9 rfl rfl)
theorem dX1_digest_317 : decode cX1_digest 317 = .ok (.iaload, 1) := dk_46 (dk_at dksX1_digest_13 10 rfl rfl)
theorem dX1_digest_318 : decode cX1_digest 318 = .ok (.if_icmp .ge 29, 3) := dk_162 0 29 (dk_at dksX1_digest_13 11 rfl rfl)
theorem dX1_digest_321 : decode cX1_digest 321 = .ok (.ldc2_w 230, 3) := dk_20 0 230 (dk_at dksX1_digest_13 14 rfl rfl)
theorem dX1_digest_324 : decode cX1_digest 324 = .ok (.lload_n 1, 1) := dk_31 (dk_at dksX1_digest_13 17 rfl rfl)
theorem dX1_digest_325 : decode cX1_digest 325 = .ok (.lmul, 1) := dk_105 (dk_at dksX1_digest_13 18 rfl rfl)
theorem dX1_digest_326 : decode cX1_digest 326 = .ok (.aload_n 0, 1) := dk_42 (dk_at dksX1_digest_13 19 rfl rfl)
theorem dX1_digest_327 : decode cX1_digest 327 = .ok (.getfield 19, 3) := dk_180 0 19 (dk_at dksX1_digest_13 20 rfl rfl)
theorem dX1_digest_330 : decode cX1_digest 330 = .ok (.bipush 80, 2) := dk_16 80 (dk_at dksX1_digest_14 0 rfl rfl)
theorem dX1_digest_332 : decode cX1_digest 332 = .ok (.iload_n 3, 1) := dk_29 (dk_at dksX1_digest_14 2 rfl rfl)
theorem dX1_digest_333 : decode cX1_digest 333 = .ok (.imul, 1) := dk_104 (dk_at dksX1_digest_14 3 rfl rfl)
theorem dX1_digest_334 : decode cX1_digest 334 = .ok (.iload 4, 2) := dk_21 4 (dk_at dksX1_digest_14 4 rfl rfl)
theorem dX1_digest_336 : decode cX1_digest 336 = .ok (.iadd, 1) := dk_96 (dk_at dksX1_digest_14 6 rfl rfl)
theorem dX1_digest_337 : decode cX1_digest 337 = .ok (.iaload, 1) := dk_46 (dk_at dksX1_digest_14 7 rfl rfl)
theorem dX1_digest_338 : decode cX1_digest 338 = .ok (.i2l, 1) := dk_133 (dk_at dksX1_digest_14 8 rfl rfl)
theorem dX1_digest_339 : decode cX1_digest 339 = .ok (.ladd, 1) := dk_97 (dk_at dksX1_digest_14 9 rfl rfl)
theorem dX1_digest_340 : decode cX1_digest 340 = .ok (.lstore_n 1, 1) := dk_64 (dk_at dksX1_digest_14 10 rfl rfl)
theorem dX1_digest_341 : decode cX1_digest 341 = .ok (.iinc 4 1, 3) := dk_132 4 1 (dk_at dksX1_digest_14 11 rfl rfl)
theorem dX1_digest_344 : decode cX1_digest 344 = .ok (.goto (-34), 3) := dk_167 255 222 (dk_at dksX1_digest_14 14 rfl rfl)
theorem dX1_digest_347 : decode cX1_digest 347 = .ok (.iinc 3 1, 3) := dk_132 3 1 (dk_at dksX1_digest_14 17 rfl rfl)
theorem dX1_digest_350 : decode cX1_digest 350 = .ok (.goto (-62), 3) := dk_167 255 194 (dk_at dksX1_digest_14 20 rfl rfl)
theorem dX1_digest_353 : decode cX1_digest 353 = .ok (.lload_n 1, 1) := dk_31 (dk_at dksX1_digest_14 23 rfl rfl)
theorem dX1_digest_354 : decode cX1_digest 354 = .ok (.lreturn, 1) := dk_173 (dk_at dksX1_digest_15 0 rfl rfl)
theorem q75 : (Jvm.Cond.initialized "LostQuestionsModel") ∈ lw_all := lw_g (lw_at lw_m1 2 rfl) rfl
theorem q1015 : (Jvm.Cond.instantiable "LostQuestionsModel" (21 : Nat)) ∈ lw_all := lw_g (lw_at lw_m4 222 rfl) rfl
theorem q1017 : (Jvm.Cond.instanceMethod ({ cls := "LostQuestionsModel", name := "<init>", desc := "()V" } : Jvm.MethodName)) ∈ lw_all := lw_g (lw_at lw_m4 224 rfl) rfl
theorem q1018 : (Jvm.Cond.code ({ cls := "LostQuestionsModel", name := "<init>", desc := "()V" } : Jvm.MethodName) prog_10_method_1_code (2 : Nat) (Option.none : Option Jvm.ClassFile.FieldType)) ∈ lw_all := lw_g (lw_at lw_m4 225 rfl) rfl
theorem q1019 : (Jvm.Cond.methodLink "LostQuestionsModel" (1 : Nat) ({ cls := "java/lang/Object", name := "<init>", desc := "()V" } : Jvm.MethodName)) ∈ lw_all := lw_g (lw_at lw_m4 226 rfl) rfl
theorem q1020 : (Jvm.Cond.fieldLink "LostQuestionsModel" (7 : Nat) "LostQuestionsModel" "rowSizes" "[I") ∈ lw_all := lw_g (lw_at lw_m4 227 rfl) rfl
theorem q1021 : (Jvm.Cond.fieldLink "LostQuestionsModel" (13 : Nat) "LostQuestionsModel" "rows" "[I") ∈ lw_all := lw_g (lw_at lw_m4 228 rfl) rfl
theorem q1022 : (Jvm.Cond.fieldLink "LostQuestionsModel" (16 : Nat) "LostQuestionsModel" "textSizes" "[I") ∈ lw_all := lw_g (lw_at lw_m4 229 rfl) rfl
theorem q1023 : (Jvm.Cond.fieldLink "LostQuestionsModel" (19 : Nat) "LostQuestionsModel" "texts" "[I") ∈ lw_all := lw_g (lw_at lw_m4 230 rfl) rfl
theorem q1024 : (Jvm.Cond.fieldLink "LostQuestionsModel" (22 : Nat) "LostQuestionsModel" "now" "[I") ∈ lw_all := lw_g (lw_at lw_m4 231 rfl) rfl
theorem q1025 : (Jvm.Cond.fieldLink "LostQuestionsModel" (25 : Nat) "LostQuestionsModel" "keeps" "[I") ∈ lw_all := lw_g (lw_at lw_m4 232 rfl) rfl
theorem q1026 : (Jvm.Cond.fieldLink "LostQuestionsModel" (28 : Nat) "LostQuestionsModel" "kept" "[Z") ∈ lw_all := lw_g (lw_at lw_m4 233 rfl) rfl
theorem q1027 : (Jvm.Cond.fieldLink "LostQuestionsModel" (61 : Nat) "LostQuestionsModel" "asked" "I") ∈ lw_all := lw_g (lw_at lw_m4 234 rfl) rfl
theorem q1028 : (Jvm.Cond.fieldLink "LostQuestionsModel" (188 : Nat) "LostQuestionsModel" "upper" "J") ∈ lw_all := lw_g (lw_at lw_m4 235 rfl) rfl
theorem q1029 : (Jvm.Cond.fieldLink "LostQuestionsModel" (32 : Nat) "LostQuestionsModel" "lower" "J") ∈ lw_all := lw_g (lw_at lw_m4 236 rfl) rfl
theorem q1030 : (Jvm.Cond.fieldLink "LostQuestionsModel" (57 : Nat) "LostQuestionsModel" "finding" "I") ∈ lw_all := lw_g (lw_at lw_m4 237 rfl) rfl
theorem q1031 : (Jvm.Cond.fieldLink "LostQuestionsModel" (36 : Nat) "LostQuestionsModel" "findings" "[I") ∈ lw_all := lw_g (lw_at lw_m4 238 rfl) rfl
theorem q1032 : (Jvm.Cond.fieldLink "LostQuestionsModel" (39 : Nat) "LostQuestionsModel" "read" "[I") ∈ lw_all := lw_g (lw_at lw_m4 239 rfl) rfl
theorem q1033 : (Jvm.Cond.fieldLink "LostQuestionsModel" (86 : Nat) "LostQuestionsModel" "at" "I") ∈ lw_all := lw_g (lw_at lw_m5 0 rfl) rfl
theorem q1034 : (Jvm.Cond.fieldLink "LostQuestionsModel" (42 : Nat) "LostQuestionsModel" "chosen" "[I") ∈ lw_all := lw_g (lw_at lw_m5 1 rfl) rfl
theorem q1035 : (Jvm.Cond.fieldLink "LostQuestionsModel" (45 : Nat) "LostQuestionsModel" "best" "[I") ∈ lw_all := lw_g (lw_at lw_m5 2 rfl) rfl
theorem q1036 : (Jvm.Cond.fieldLink "LostQuestionsModel" (48 : Nat) "LostQuestionsModel" "within" "[I") ∈ lw_all := lw_g (lw_at lw_m5 3 rfl) rfl
theorem q1037 : (Jvm.Cond.fieldLink "LostQuestionsModel" (175 : Nat) "LostQuestionsModel" "all" "I") ∈ lw_all := lw_g (lw_at lw_m5 4 rfl) rfl
theorem q1038 : (Jvm.Cond.fieldLink "LostQuestionsModel" (165 : Nat) "LostQuestionsModel" "most" "I") ∈ lw_all := lw_g (lw_at lw_m5 5 rfl) rfl
theorem q1039 : (Jvm.Cond.fieldLink "LostQuestionsModel" (51 : Nat) "LostQuestionsModel" "asks" "[I") ∈ lw_all := lw_g (lw_at lw_m5 6 rfl) rfl
theorem q1040 : (Jvm.Cond.fieldLink "LostQuestionsModel" (54 : Nat) "LostQuestionsModel" "firsts" "[I") ∈ lw_all := lw_g (lw_at lw_m5 7 rfl) rfl
theorem q1041 : (Jvm.Cond.laysFinal "LostQuestionsModel" "LostQuestionsModel" "rowSizes" "[I") ∈ lw_all := lw_g (lw_at lw_m5 8 rfl) rfl
theorem q1042 : (Jvm.Cond.soleField "LostQuestionsModel" "rowSizes") ∈ lw_all := lw_g (lw_at lw_m5 9 rfl) rfl
theorem q1043 : (Jvm.Cond.laysFinal "LostQuestionsModel" "LostQuestionsModel" "rows" "[I") ∈ lw_all := lw_g (lw_at lw_m5 10 rfl) rfl
theorem q1044 : (Jvm.Cond.soleField "LostQuestionsModel" "rows") ∈ lw_all := lw_g (lw_at lw_m5 11 rfl) rfl
theorem q1045 : (Jvm.Cond.laysFinal "LostQuestionsModel" "LostQuestionsModel" "textSizes" "[I") ∈ lw_all := lw_g (lw_at lw_m5 12 rfl) rfl
theorem q1046 : (Jvm.Cond.soleField "LostQuestionsModel" "textSizes") ∈ lw_all := lw_g (lw_at lw_m5 13 rfl) rfl
theorem q1047 : (Jvm.Cond.laysFinal "LostQuestionsModel" "LostQuestionsModel" "texts" "[I") ∈ lw_all := lw_g (lw_at lw_m5 14 rfl) rfl
theorem q1048 : (Jvm.Cond.soleField "LostQuestionsModel" "texts") ∈ lw_all := lw_g (lw_at lw_m5 15 rfl) rfl
theorem q1049 : (Jvm.Cond.laysFinal "LostQuestionsModel" "LostQuestionsModel" "now" "[I") ∈ lw_all := lw_g (lw_at lw_m5 16 rfl) rfl
theorem q1050 : (Jvm.Cond.soleField "LostQuestionsModel" "now") ∈ lw_all := lw_g (lw_at lw_m5 17 rfl) rfl
theorem q1051 : (Jvm.Cond.laysFinal "LostQuestionsModel" "LostQuestionsModel" "keeps" "[I") ∈ lw_all := lw_g (lw_at lw_m5 18 rfl) rfl
theorem q1052 : (Jvm.Cond.soleField "LostQuestionsModel" "keeps") ∈ lw_all := lw_g (lw_at lw_m5 19 rfl) rfl
theorem q1053 : (Jvm.Cond.laysFinal "LostQuestionsModel" "LostQuestionsModel" "kept" "[Z") ∈ lw_all := lw_g (lw_at lw_m5 20 rfl) rfl
theorem q1054 : (Jvm.Cond.soleField "LostQuestionsModel" "kept") ∈ lw_all := lw_g (lw_at lw_m5 21 rfl) rfl
theorem q1055 : (Jvm.Cond.lays "LostQuestionsModel" "LostQuestionsModel" "asked" "I") ∈ lw_all := lw_g (lw_at lw_m5 22 rfl) rfl
theorem q1056 : (Jvm.Cond.soleField "LostQuestionsModel" "asked") ∈ lw_all := lw_g (lw_at lw_m5 23 rfl) rfl
theorem q1057 : (Jvm.Cond.lays "LostQuestionsModel" "LostQuestionsModel" "upper" "J") ∈ lw_all := lw_g (lw_at lw_m5 24 rfl) rfl
theorem q1058 : (Jvm.Cond.soleField "LostQuestionsModel" "upper") ∈ lw_all := lw_g (lw_at lw_m5 25 rfl) rfl
theorem q1059 : (Jvm.Cond.lays "LostQuestionsModel" "LostQuestionsModel" "lower" "J") ∈ lw_all := lw_g (lw_at lw_m5 26 rfl) rfl
theorem q1060 : (Jvm.Cond.soleField "LostQuestionsModel" "lower") ∈ lw_all := lw_g (lw_at lw_m5 27 rfl) rfl
theorem q1061 : (Jvm.Cond.lays "LostQuestionsModel" "LostQuestionsModel" "finding" "I") ∈ lw_all := lw_g (lw_at lw_m5 28 rfl) rfl
theorem q1062 : (Jvm.Cond.soleField "LostQuestionsModel" "finding") ∈ lw_all := lw_g (lw_at lw_m5 29 rfl) rfl
theorem q1063 : (Jvm.Cond.laysFinal "LostQuestionsModel" "LostQuestionsModel" "findings" "[I") ∈ lw_all := lw_g (lw_at lw_m5 30 rfl) rfl
theorem q1064 : (Jvm.Cond.soleField "LostQuestionsModel" "findings") ∈ lw_all := lw_g (lw_at lw_m5 31 rfl) rfl
theorem q1065 : (Jvm.Cond.laysFinal "LostQuestionsModel" "LostQuestionsModel" "read" "[I") ∈ lw_all := lw_g (lw_at lw_m5 32 rfl) rfl
theorem q1066 : (Jvm.Cond.soleField "LostQuestionsModel" "read") ∈ lw_all := lw_g (lw_at lw_m5 33 rfl) rfl
theorem q1067 : (Jvm.Cond.lays "LostQuestionsModel" "LostQuestionsModel" "at" "I") ∈ lw_all := lw_g (lw_at lw_m5 34 rfl) rfl
theorem q1068 : (Jvm.Cond.soleField "LostQuestionsModel" "at") ∈ lw_all := lw_g (lw_at lw_m5 35 rfl) rfl
theorem q1069 : (Jvm.Cond.laysFinal "LostQuestionsModel" "LostQuestionsModel" "chosen" "[I") ∈ lw_all := lw_g (lw_at lw_m5 36 rfl) rfl
theorem q1070 : (Jvm.Cond.soleField "LostQuestionsModel" "chosen") ∈ lw_all := lw_g (lw_at lw_m5 37 rfl) rfl
theorem q1071 : (Jvm.Cond.laysFinal "LostQuestionsModel" "LostQuestionsModel" "best" "[I") ∈ lw_all := lw_g (lw_at lw_m5 38 rfl) rfl
theorem q1072 : (Jvm.Cond.soleField "LostQuestionsModel" "best") ∈ lw_all := lw_g (lw_at lw_m5 39 rfl) rfl
theorem q1073 : (Jvm.Cond.laysFinal "LostQuestionsModel" "LostQuestionsModel" "within" "[I") ∈ lw_all := lw_g (lw_at lw_m5 40 rfl) rfl
theorem q1074 : (Jvm.Cond.soleField "LostQuestionsModel" "within") ∈ lw_all := lw_g (lw_at lw_m5 41 rfl) rfl
theorem q1075 : (Jvm.Cond.lays "LostQuestionsModel" "LostQuestionsModel" "all" "I") ∈ lw_all := lw_g (lw_at lw_m5 42 rfl) rfl
theorem q1076 : (Jvm.Cond.soleField "LostQuestionsModel" "all") ∈ lw_all := lw_g (lw_at lw_m5 43 rfl) rfl
theorem q1077 : (Jvm.Cond.lays "LostQuestionsModel" "LostQuestionsModel" "most" "I") ∈ lw_all := lw_g (lw_at lw_m5 44 rfl) rfl
theorem q1078 : (Jvm.Cond.soleField "LostQuestionsModel" "most") ∈ lw_all := lw_g (lw_at lw_m5 45 rfl) rfl
theorem q1079 : (Jvm.Cond.laysFinal "LostQuestionsModel" "LostQuestionsModel" "asks" "[I") ∈ lw_all := lw_g (lw_at lw_m5 46 rfl) rfl
theorem q1080 : (Jvm.Cond.soleField "LostQuestionsModel" "asks") ∈ lw_all := lw_g (lw_at lw_m5 47 rfl) rfl
theorem q1081 : (Jvm.Cond.laysFinal "LostQuestionsModel" "LostQuestionsModel" "firsts" "[I") ∈ lw_all := lw_g (lw_at lw_m5 48 rfl) rfl
theorem q1082 : (Jvm.Cond.soleField "LostQuestionsModel" "firsts") ∈ lw_all := lw_g (lw_at lw_m5 49 rfl) rfl
theorem q1083 : (Jvm.Cond.superclass "LostQuestionsModel" "java/lang/Object") ∈ lw_all := lw_g (lw_at lw_m5 50 rfl) rfl
theorem q1086 : (Jvm.Cond.instanceMethod ({ cls := "LostQuestionsModel", name := "row", desc := "(II)I" } : Jvm.MethodName)) ∈ lw_all := lw_g (lw_at lw_m5 53 rfl) rfl
theorem q1087 : (Jvm.Cond.selects "LostQuestionsModel" ({ cls := "LostQuestionsModel", name := "row", desc := "(II)I" } : Jvm.MethodName) ({ cls := "LostQuestionsModel", name := "row", desc := "(II)I" } : Jvm.MethodName)) ∈ lw_all := lw_g (lw_at lw_m5 54 rfl) rfl
theorem q1088 : (Jvm.Cond.code ({ cls := "LostQuestionsModel", name := "row", desc := "(II)I" } : Jvm.MethodName) prog_10_method_8_code (4 : Nat) (Option.some Jvm.ClassFile.FieldType.int)) ∈ lw_all := lw_g (lw_at lw_m5 55 rfl) rfl
theorem q1089 : (Jvm.Cond.methodLink "LostQuestionsModel" (72 : Nat) ({ cls := "LostQuestionsModel", name := "isRow", desc := "(I)Z" } : Jvm.MethodName)) ∈ lw_all := lw_g (lw_at lw_m5 56 rfl) rfl
theorem q1090 : (Jvm.Cond.static ({ cls := "LostQuestionsModel", name := "isRow", desc := "(I)Z" } : Jvm.MethodName)) ∈ lw_all := lw_g (lw_at lw_m5 57 rfl) rfl
theorem q1091 : (Jvm.Cond.code ({ cls := "LostQuestionsModel", name := "isRow", desc := "(I)Z" } : Jvm.MethodName) prog_10_method_6_code (1 : Nat) (Option.some Jvm.ClassFile.FieldType.boolean)) ∈ lw_all := lw_g (lw_at lw_m5 58 rfl) rfl
theorem q1092 : (Jvm.Cond.constantLong "LostQuestionsModel" (64 : Nat) (5 : Int64)) ∈ lw_all := lw_g (lw_at lw_m5 59 rfl) rfl
theorem q1093 : (Jvm.Cond.methodLink "LostQuestionsModel" (66 : Nat) ({ cls := "LostQuestionsModel", name := "in", desc := "(JJJ)Z" } : Jvm.MethodName)) ∈ lw_all := lw_g (lw_at lw_m5 60 rfl) rfl
theorem q1094 : (Jvm.Cond.static ({ cls := "LostQuestionsModel", name := "in", desc := "(JJJ)Z" } : Jvm.MethodName)) ∈ lw_all := lw_g (lw_at lw_m5 61 rfl) rfl
theorem q1095 : (Jvm.Cond.code ({ cls := "LostQuestionsModel", name := "in", desc := "(JJJ)Z" } : Jvm.MethodName) prog_10_method_3_code (6 : Nat) (Option.some Jvm.ClassFile.FieldType.boolean)) ∈ lw_all := lw_g (lw_at lw_m5 62 rfl) rfl
theorem q1096 : (Jvm.Cond.methodLink "LostQuestionsModel" (76 : Nat) ({ cls := "LostQuestionsModel", name := "found", desc := "(I)I" } : Jvm.MethodName)) ∈ lw_all := lw_g (lw_at lw_m5 63 rfl) rfl
theorem q1097 : (Jvm.Cond.privateMethod ({ cls := "LostQuestionsModel", name := "found", desc := "(I)I" } : Jvm.MethodName)) ∈ lw_tbl := lw_at lw_m5 64 rfl
theorem q1098 : (Jvm.Cond.instanceMethod ({ cls := "LostQuestionsModel", name := "found", desc := "(I)I" } : Jvm.MethodName)) ∈ lw_all := lw_g (lw_at lw_m5 65 rfl) rfl
theorem q1099 : (Jvm.Cond.code ({ cls := "LostQuestionsModel", name := "found", desc := "(I)I" } : Jvm.MethodName) prog_10_method_4_code (2 : Nat) (Option.some Jvm.ClassFile.FieldType.int)) ∈ lw_all := lw_g (lw_at lw_m5 66 rfl) rfl
theorem q1101 : (Jvm.Cond.instanceMethod ({ cls := "LostQuestionsModel", name := "lay", desc := "(III)I" } : Jvm.MethodName)) ∈ lw_all := lw_g (lw_at lw_m5 68 rfl) rfl
theorem q1102 : (Jvm.Cond.selects "LostQuestionsModel" ({ cls := "LostQuestionsModel", name := "lay", desc := "(III)I" } : Jvm.MethodName) ({ cls := "LostQuestionsModel", name := "lay", desc := "(III)I" } : Jvm.MethodName)) ∈ lw_all := lw_g (lw_at lw_m5 69 rfl) rfl
theorem q1103 : (Jvm.Cond.code ({ cls := "LostQuestionsModel", name := "lay", desc := "(III)I" } : Jvm.MethodName) prog_10_method_9_code (5 : Nat) (Option.some Jvm.ClassFile.FieldType.int)) ∈ lw_all := lw_g (lw_at lw_m5 70 rfl) rfl
theorem q1104 : (Jvm.Cond.methodLink "LostQuestionsModel" (80 : Nat) ({ cls := "LostQuestionsModel", name := "tell", desc := "(I)I" } : Jvm.MethodName)) ∈ lw_all := lw_g (lw_at lw_m5 71 rfl) rfl
theorem q1105 : (Jvm.Cond.privateMethod ({ cls := "LostQuestionsModel", name := "tell", desc := "(I)I" } : Jvm.MethodName)) ∈ lw_tbl := lw_at lw_m5 72 rfl
theorem q1106 : (Jvm.Cond.instanceMethod ({ cls := "LostQuestionsModel", name := "tell", desc := "(I)I" } : Jvm.MethodName)) ∈ lw_all := lw_g (lw_at lw_m5 73 rfl) rfl
theorem q1107 : (Jvm.Cond.code ({ cls := "LostQuestionsModel", name := "tell", desc := "(I)I" } : Jvm.MethodName) prog_10_method_5_code (2 : Nat) (Option.some Jvm.ClassFile.FieldType.int)) ∈ lw_all := lw_g (lw_at lw_m5 74 rfl) rfl
theorem q1109 : (Jvm.Cond.instanceMethod ({ cls := "LostQuestionsModel", name := "at", desc := "(II)I" } : Jvm.MethodName)) ∈ lw_all := lw_g (lw_at lw_m5 76 rfl) rfl
theorem q1110 : (Jvm.Cond.selects "LostQuestionsModel" ({ cls := "LostQuestionsModel", name := "at", desc := "(II)I" } : Jvm.MethodName) ({ cls := "LostQuestionsModel", name := "at", desc := "(II)I" } : Jvm.MethodName)) ∈ lw_all := lw_g (lw_at lw_m5 77 rfl) rfl
theorem q1111 : (Jvm.Cond.code ({ cls := "LostQuestionsModel", name := "at", desc := "(II)I" } : Jvm.MethodName) prog_10_method_10_code (3 : Nat) (Option.some Jvm.ClassFile.FieldType.int)) ∈ lw_all := lw_g (lw_at lw_m5 78 rfl) rfl
theorem q1113 : (Jvm.Cond.instanceMethod ({ cls := "LostQuestionsModel", name := "tear", desc := "(I)I" } : Jvm.MethodName)) ∈ lw_all := lw_g (lw_at lw_m5 80 rfl) rfl
theorem q1114 : (Jvm.Cond.selects "LostQuestionsModel" ({ cls := "LostQuestionsModel", name := "tear", desc := "(I)I" } : Jvm.MethodName) ({ cls := "LostQuestionsModel", name := "tear", desc := "(I)I" } : Jvm.MethodName)) ∈ lw_all := lw_g (lw_at lw_m5 81 rfl) rfl
theorem q1115 : (Jvm.Cond.code ({ cls := "LostQuestionsModel", name := "tear", desc := "(I)I" } : Jvm.MethodName) prog_10_method_11_code (2 : Nat) (Option.some Jvm.ClassFile.FieldType.int)) ∈ lw_all := lw_g (lw_at lw_m5 82 rfl) rfl
theorem q1117 : (Jvm.Cond.instanceMethod ({ cls := "LostQuestionsModel", name := "copy", desc := "(IIIII)I" } : Jvm.MethodName)) ∈ lw_all := lw_g (lw_at lw_m5 84 rfl) rfl
theorem q1118 : (Jvm.Cond.selects "LostQuestionsModel" ({ cls := "LostQuestionsModel", name := "copy", desc := "(IIIII)I" } : Jvm.MethodName) ({ cls := "LostQuestionsModel", name := "copy", desc := "(IIIII)I" } : Jvm.MethodName)) ∈ lw_all := lw_g (lw_at lw_m5 85 rfl) rfl
theorem q1119 : (Jvm.Cond.code ({ cls := "LostQuestionsModel", name := "copy", desc := "(IIIII)I" } : Jvm.MethodName) prog_10_method_12_code (8 : Nat) (Option.some Jvm.ClassFile.FieldType.int)) ∈ lw_all := lw_g (lw_at lw_m5 86 rfl) rfl
theorem q1121 : (Jvm.Cond.instanceMethod ({ cls := "LostQuestionsModel", name := "mean", desc := "(I)I" } : Jvm.MethodName)) ∈ lw_all := lw_g (lw_at lw_m5 88 rfl) rfl
theorem q1122 : (Jvm.Cond.selects "LostQuestionsModel" ({ cls := "LostQuestionsModel", name := "mean", desc := "(I)I" } : Jvm.MethodName) ({ cls := "LostQuestionsModel", name := "mean", desc := "(I)I" } : Jvm.MethodName)) ∈ lw_all := lw_g (lw_at lw_m5 89 rfl) rfl
theorem q1123 : (Jvm.Cond.code ({ cls := "LostQuestionsModel", name := "mean", desc := "(I)I" } : Jvm.MethodName) prog_10_method_13_code (5 : Nat) (Option.some Jvm.ClassFile.FieldType.int)) ∈ lw_all := lw_g (lw_at lw_m5 90 rfl) rfl
theorem q1125 : (Jvm.Cond.instanceMethod ({ cls := "LostQuestionsModel", name := "text", desc := "(II)I" } : Jvm.MethodName)) ∈ lw_all := lw_g (lw_at lw_m5 92 rfl) rfl
theorem q1126 : (Jvm.Cond.selects "LostQuestionsModel" ({ cls := "LostQuestionsModel", name := "text", desc := "(II)I" } : Jvm.MethodName) ({ cls := "LostQuestionsModel", name := "text", desc := "(II)I" } : Jvm.MethodName)) ∈ lw_all := lw_g (lw_at lw_m5 93 rfl) rfl
theorem q1127 : (Jvm.Cond.code ({ cls := "LostQuestionsModel", name := "text", desc := "(II)I" } : Jvm.MethodName) prog_10_method_14_code (4 : Nat) (Option.some Jvm.ClassFile.FieldType.int)) ∈ lw_all := lw_g (lw_at lw_m5 94 rfl) rfl
theorem q1128 : (Jvm.Cond.methodLink "LostQuestionsModel" (83 : Nat) ({ cls := "LostQuestionsModel", name := "isText", desc := "(I)Z" } : Jvm.MethodName)) ∈ lw_all := lw_g (lw_at lw_m5 95 rfl) rfl
theorem q1129 : (Jvm.Cond.static ({ cls := "LostQuestionsModel", name := "isText", desc := "(I)Z" } : Jvm.MethodName)) ∈ lw_all := lw_g (lw_at lw_m5 96 rfl) rfl
theorem q1130 : (Jvm.Cond.code ({ cls := "LostQuestionsModel", name := "isText", desc := "(I)Z" } : Jvm.MethodName) prog_10_method_7_code (1 : Nat) (Option.some Jvm.ClassFile.FieldType.boolean)) ∈ lw_all := lw_g (lw_at lw_m5 97 rfl) rfl
theorem q1131 : (Jvm.Cond.constantLong "LostQuestionsModel" (70 : Nat) (3 : Int64)) ∈ lw_all := lw_g (lw_at lw_m5 98 rfl) rfl
theorem q1133 : (Jvm.Cond.instanceMethod ({ cls := "LostQuestionsModel", name := "put", desc := "(III)I" } : Jvm.MethodName)) ∈ lw_all := lw_g (lw_at lw_m5 100 rfl) rfl
theorem q1134 : (Jvm.Cond.selects "LostQuestionsModel" ({ cls := "LostQuestionsModel", name := "put", desc := "(III)I" } : Jvm.MethodName) ({ cls := "LostQuestionsModel", name := "put", desc := "(III)I" } : Jvm.MethodName)) ∈ lw_all := lw_g (lw_at lw_m5 101 rfl) rfl
theorem q1135 : (Jvm.Cond.code ({ cls := "LostQuestionsModel", name := "put", desc := "(III)I" } : Jvm.MethodName) prog_10_method_15_code (5 : Nat) (Option.some Jvm.ClassFile.FieldType.int)) ∈ lw_all := lw_g (lw_at lw_m5 102 rfl) rfl
theorem q1137 : (Jvm.Cond.instanceMethod ({ cls := "LostQuestionsModel", name := "fault", desc := "(I)I" } : Jvm.MethodName)) ∈ lw_all := lw_g (lw_at lw_m5 104 rfl) rfl
theorem q1138 : (Jvm.Cond.selects "LostQuestionsModel" ({ cls := "LostQuestionsModel", name := "fault", desc := "(I)I" } : Jvm.MethodName) ({ cls := "LostQuestionsModel", name := "fault", desc := "(I)I" } : Jvm.MethodName)) ∈ lw_all := lw_g (lw_at lw_m5 105 rfl) rfl
theorem q1139 : (Jvm.Cond.code ({ cls := "LostQuestionsModel", name := "fault", desc := "(I)I" } : Jvm.MethodName) prog_10_method_22_code (2 : Nat) (Option.some Jvm.ClassFile.FieldType.int)) ∈ lw_all := lw_g (lw_at lw_m5 106 rfl) rfl
theorem q1140 : (Jvm.Cond.methodLink "LostQuestionsModel" (109 : Nat) ({ cls := "LostQuestionsModel", name := "reads", desc := "(I)I" } : Jvm.MethodName)) ∈ lw_all := lw_g (lw_at lw_m5 107 rfl) rfl
theorem q1141 : (Jvm.Cond.privateMethod ({ cls := "LostQuestionsModel", name := "reads", desc := "(I)I" } : Jvm.MethodName)) ∈ lw_tbl := lw_at lw_m5 108 rfl
theorem q1142 : (Jvm.Cond.instanceMethod ({ cls := "LostQuestionsModel", name := "reads", desc := "(I)I" } : Jvm.MethodName)) ∈ lw_all := lw_g (lw_at lw_m5 109 rfl) rfl
theorem q1143 : (Jvm.Cond.code ({ cls := "LostQuestionsModel", name := "reads", desc := "(I)I" } : Jvm.MethodName) prog_10_method_21_code (3 : Nat) (Option.some Jvm.ClassFile.FieldType.int)) ∈ lw_all := lw_g (lw_at lw_m5 110 rfl) rfl
theorem q1144 : (Jvm.Cond.constantLong "LostQuestionsModel" (99 : Nat) (59 : Int64)) ∈ lw_all := lw_g (lw_at lw_m5 111 rfl) rfl
theorem q1145 : (Jvm.Cond.constantLong "LostQuestionsModel" (101 : Nat) (72 : Int64)) ∈ lw_all := lw_g (lw_at lw_m5 112 rfl) rfl
theorem q1146 : (Jvm.Cond.methodLink "LostQuestionsModel" (89 : Nat) ({ cls := "LostQuestionsModel", name := "byteAt", desc := "(I)I" } : Jvm.MethodName)) ∈ lw_all := lw_g (lw_at lw_m5 113 rfl) rfl
theorem q1147 : (Jvm.Cond.privateMethod ({ cls := "LostQuestionsModel", name := "byteAt", desc := "(I)I" } : Jvm.MethodName)) ∈ lw_tbl := lw_at lw_m5 114 rfl
theorem q1148 : (Jvm.Cond.instanceMethod ({ cls := "LostQuestionsModel", name := "byteAt", desc := "(I)I" } : Jvm.MethodName)) ∈ lw_all := lw_g (lw_at lw_m5 115 rfl) rfl
theorem q1149 : (Jvm.Cond.code ({ cls := "LostQuestionsModel", name := "byteAt", desc := "(I)I" } : Jvm.MethodName) prog_10_method_17_code (2 : Nat) (Option.some Jvm.ClassFile.FieldType.int)) ∈ lw_all := lw_g (lw_at lw_m5 116 rfl) rfl
theorem q1150 : (Jvm.Cond.methodLink "LostQuestionsModel" (103 : Nat) ({ cls := "LostQuestionsModel", name := "takesQuestion", desc := "(I)Z" } : Jvm.MethodName)) ∈ lw_all := lw_g (lw_at lw_m5 117 rfl) rfl
theorem q1151 : (Jvm.Cond.privateMethod ({ cls := "LostQuestionsModel", name := "takesQuestion", desc := "(I)Z" } : Jvm.MethodName)) ∈ lw_tbl := lw_at lw_m5 118 rfl
theorem q1152 : (Jvm.Cond.instanceMethod ({ cls := "LostQuestionsModel", name := "takesQuestion", desc := "(I)Z" } : Jvm.MethodName)) ∈ lw_all := lw_g (lw_at lw_m5 119 rfl) rfl
theorem q1153 : (Jvm.Cond.code ({ cls := "LostQuestionsModel", name := "takesQuestion", desc := "(I)Z" } : Jvm.MethodName) prog_10_method_20_code (3 : Nat) (Option.some Jvm.ClassFile.FieldType.boolean)) ∈ lw_all := lw_g (lw_at lw_m5 120 rfl) rfl
theorem q1154 : (Jvm.Cond.methodLink "LostQuestionsModel" (95 : Nat) ({ cls := "LostQuestionsModel", name := "takes", desc := "(IIII)Z" } : Jvm.MethodName)) ∈ lw_all := lw_g (lw_at lw_m5 121 rfl) rfl
theorem q1155 : (Jvm.Cond.privateMethod ({ cls := "LostQuestionsModel", name := "takes", desc := "(IIII)Z" } : Jvm.MethodName)) ∈ lw_tbl := lw_at lw_m5 122 rfl
theorem q1156 : (Jvm.Cond.instanceMethod ({ cls := "LostQuestionsModel", name := "takes", desc := "(IIII)Z" } : Jvm.MethodName)) ∈ lw_all := lw_g (lw_at lw_m5 123 rfl) rfl
theorem q1157 : (Jvm.Cond.code ({ cls := "LostQuestionsModel", name := "takes", desc := "(IIII)Z" } : Jvm.MethodName) prog_10_method_18_code (6 : Nat) (Option.some Jvm.ClassFile.FieldType.boolean)) ∈ lw_all := lw_g (lw_at lw_m5 124 rfl) rfl
theorem q1158 : (Jvm.Cond.methodLink "LostQuestionsModel" (106 : Nat) ({ cls := "LostQuestionsModel", name := "takesCard", desc := "(I)Z" } : Jvm.MethodName)) ∈ lw_all := lw_g (lw_at lw_m5 125 rfl) rfl
theorem q1159 : (Jvm.Cond.privateMethod ({ cls := "LostQuestionsModel", name := "takesCard", desc := "(I)Z" } : Jvm.MethodName)) ∈ lw_tbl := lw_at lw_m5 126 rfl
theorem q1160 : (Jvm.Cond.instanceMethod ({ cls := "LostQuestionsModel", name := "takesCard", desc := "(I)Z" } : Jvm.MethodName)) ∈ lw_all := lw_g (lw_at lw_m5 127 rfl) rfl
theorem q1161 : (Jvm.Cond.code ({ cls := "LostQuestionsModel", name := "takesCard", desc := "(I)Z" } : Jvm.MethodName) prog_10_method_19_code (4 : Nat) (Option.some Jvm.ClassFile.FieldType.boolean)) ∈ lw_all := lw_g (lw_at lw_m5 128 rfl) rfl
theorem q1162 : (Jvm.Cond.methodLink "LostQuestionsModel" (92 : Nat) ({ cls := "LostQuestionsModel", name := "kindOf", desc := "(I)I" } : Jvm.MethodName)) ∈ lw_all := lw_g (lw_at lw_m5 129 rfl) rfl
theorem q1163 : (Jvm.Cond.static ({ cls := "LostQuestionsModel", name := "kindOf", desc := "(I)I" } : Jvm.MethodName)) ∈ lw_all := lw_g (lw_at lw_m5 130 rfl) rfl
theorem q1164 : (Jvm.Cond.code ({ cls := "LostQuestionsModel", name := "kindOf", desc := "(I)I" } : Jvm.MethodName) prog_10_method_16_code (1 : Nat) (Option.some Jvm.ClassFile.FieldType.int)) ∈ lw_all := lw_g (lw_at lw_m5 131 rfl) rfl
theorem q1166 : (Jvm.Cond.instanceMethod ({ cls := "LostQuestionsModel", name := "library", desc := "(I)I" } : Jvm.MethodName)) ∈ lw_all := lw_g (lw_at lw_m5 133 rfl) rfl
theorem q1167 : (Jvm.Cond.selects "LostQuestionsModel" ({ cls := "LostQuestionsModel", name := "library", desc := "(I)I" } : Jvm.MethodName) ({ cls := "LostQuestionsModel", name := "library", desc := "(I)I" } : Jvm.MethodName)) ∈ lw_all := lw_g (lw_at lw_m5 134 rfl) rfl
theorem q1168 : (Jvm.Cond.code ({ cls := "LostQuestionsModel", name := "library", desc := "(I)I" } : Jvm.MethodName) prog_10_method_24_code (3 : Nat) (Option.some Jvm.ClassFile.FieldType.int)) ∈ lw_all := lw_g (lw_at lw_m5 135 rfl) rfl
theorem q1169 : (Jvm.Cond.methodLink "LostQuestionsModel" (112 : Nat) ({ cls := "LostQuestionsModel", name := "copies", desc := "([II[II)V" } : Jvm.MethodName)) ∈ lw_all := lw_g (lw_at lw_m5 136 rfl) rfl
theorem q1170 : (Jvm.Cond.static ({ cls := "LostQuestionsModel", name := "copies", desc := "([II[II)V" } : Jvm.MethodName)) ∈ lw_all := lw_g (lw_at lw_m5 137 rfl) rfl
theorem q1171 : (Jvm.Cond.code ({ cls := "LostQuestionsModel", name := "copies", desc := "([II[II)V" } : Jvm.MethodName) prog_10_method_23_code (5 : Nat) (Option.none : Option Jvm.ClassFile.FieldType)) ∈ lw_all := lw_g (lw_at lw_m5 138 rfl) rfl
theorem q1173 : (Jvm.Cond.instanceMethod ({ cls := "LostQuestionsModel", name := "card", desc := "(II)I" } : Jvm.MethodName)) ∈ lw_all := lw_g (lw_at lw_m5 140 rfl) rfl
theorem q1174 : (Jvm.Cond.selects "LostQuestionsModel" ({ cls := "LostQuestionsModel", name := "card", desc := "(II)I" } : Jvm.MethodName) ({ cls := "LostQuestionsModel", name := "card", desc := "(II)I" } : Jvm.MethodName)) ∈ lw_all := lw_g (lw_at lw_m5 141 rfl) rfl
theorem q1175 : (Jvm.Cond.code ({ cls := "LostQuestionsModel", name := "card", desc := "(II)I" } : Jvm.MethodName) prog_10_method_33_code (3 : Nat) (Option.some Jvm.ClassFile.FieldType.int)) ∈ lw_all := lw_g (lw_at lw_m5 142 rfl) rfl
theorem q1176 : (Jvm.Cond.methodLink "LostQuestionsModel" (129 : Nat) ({ cls := "LostQuestionsModel", name := "isCard", desc := "(I)Z" } : Jvm.MethodName)) ∈ lw_all := lw_g (lw_at lw_m5 143 rfl) rfl
theorem q1177 : (Jvm.Cond.privateMethod ({ cls := "LostQuestionsModel", name := "isCard", desc := "(I)Z" } : Jvm.MethodName)) ∈ lw_tbl := lw_at lw_m5 144 rfl
theorem q1178 : (Jvm.Cond.instanceMethod ({ cls := "LostQuestionsModel", name := "isCard", desc := "(I)Z" } : Jvm.MethodName)) ∈ lw_all := lw_g (lw_at lw_m5 145 rfl) rfl
theorem q1179 : (Jvm.Cond.code ({ cls := "LostQuestionsModel", name := "isCard", desc := "(I)Z" } : Jvm.MethodName) prog_10_method_25_code (2 : Nat) (Option.some Jvm.ClassFile.FieldType.boolean)) ∈ lw_all := lw_g (lw_at lw_m5 146 rfl) rfl
theorem q1180 : (Jvm.Cond.methodLink "LostQuestionsModel" (132 : Nat) ({ cls := "LostQuestionsModel", name := "toldCard", desc := "(II)I" } : Jvm.MethodName)) ∈ lw_all := lw_g (lw_at lw_m5 147 rfl) rfl
theorem q1181 : (Jvm.Cond.privateMethod ({ cls := "LostQuestionsModel", name := "toldCard", desc := "(II)I" } : Jvm.MethodName)) ∈ lw_tbl := lw_at lw_m5 148 rfl
theorem q1182 : (Jvm.Cond.instanceMethod ({ cls := "LostQuestionsModel", name := "toldCard", desc := "(II)I" } : Jvm.MethodName)) ∈ lw_all := lw_g (lw_at lw_m5 149 rfl) rfl
theorem q1183 : (Jvm.Cond.code ({ cls := "LostQuestionsModel", name := "toldCard", desc := "(II)I" } : Jvm.MethodName) prog_10_method_32_code (3 : Nat) (Option.some Jvm.ClassFile.FieldType.int)) ∈ lw_all := lw_g (lw_at lw_m5 150 rfl) rfl
theorem q1184 : (Jvm.Cond.methodLink "LostQuestionsModel" (120 : Nat) ({ cls := "LostQuestionsModel", name := "means", desc := "(I)I" } : Jvm.MethodName)) ∈ lw_all := lw_g (lw_at lw_m5 151 rfl) rfl
theorem q1185 : (Jvm.Cond.privateMethod ({ cls := "LostQuestionsModel", name := "means", desc := "(I)I" } : Jvm.MethodName)) ∈ lw_tbl := lw_at lw_m5 152 rfl
theorem q1186 : (Jvm.Cond.instanceMethod ({ cls := "LostQuestionsModel", name := "means", desc := "(I)I" } : Jvm.MethodName)) ∈ lw_all := lw_g (lw_at lw_m5 153 rfl) rfl
theorem q1187 : (Jvm.Cond.code ({ cls := "LostQuestionsModel", name := "means", desc := "(I)I" } : Jvm.MethodName) prog_10_method_28_code (3 : Nat) (Option.some Jvm.ClassFile.FieldType.int)) ∈ lw_all := lw_g (lw_at lw_m5 154 rfl) rfl
theorem q1188 : (Jvm.Cond.methodLink "LostQuestionsModel" (126 : Nat) ({ cls := "LostQuestionsModel", name := "answers", desc := "(I)I" } : Jvm.MethodName)) ∈ lw_all := lw_g (lw_at lw_m5 155 rfl) rfl
theorem q1189 : (Jvm.Cond.privateMethod ({ cls := "LostQuestionsModel", name := "answers", desc := "(I)I" } : Jvm.MethodName)) ∈ lw_tbl := lw_at lw_m5 156 rfl
theorem q1190 : (Jvm.Cond.instanceMethod ({ cls := "LostQuestionsModel", name := "answers", desc := "(I)I" } : Jvm.MethodName)) ∈ lw_all := lw_g (lw_at lw_m5 157 rfl) rfl
theorem q1191 : (Jvm.Cond.code ({ cls := "LostQuestionsModel", name := "answers", desc := "(I)I" } : Jvm.MethodName) prog_10_method_31_code (4 : Nat) (Option.some Jvm.ClassFile.FieldType.int)) ∈ lw_all := lw_g (lw_at lw_m5 158 rfl) rfl
theorem q1193 : (Jvm.Cond.instanceMethod ({ cls := "LostQuestionsModel", name := "question", desc := "(II)I" } : Jvm.MethodName)) ∈ lw_all := lw_g (lw_at lw_m5 160 rfl) rfl
theorem q1194 : (Jvm.Cond.selects "LostQuestionsModel" ({ cls := "LostQuestionsModel", name := "question", desc := "(II)I" } : Jvm.MethodName) ({ cls := "LostQuestionsModel", name := "question", desc := "(II)I" } : Jvm.MethodName)) ∈ lw_all := lw_g (lw_at lw_m5 161 rfl) rfl
theorem q1195 : (Jvm.Cond.code ({ cls := "LostQuestionsModel", name := "question", desc := "(II)I" } : Jvm.MethodName) prog_10_method_34_code (3 : Nat) (Option.some Jvm.ClassFile.FieldType.int)) ∈ lw_all := lw_g (lw_at lw_m5 162 rfl) rfl
theorem q1196 : (Jvm.Cond.methodLink "LostQuestionsModel" (136 : Nat) ({ cls := "LostQuestionsModel", name := "isQuestion", desc := "(I)Z" } : Jvm.MethodName)) ∈ lw_all := lw_g (lw_at lw_m5 163 rfl) rfl
theorem q1197 : (Jvm.Cond.privateMethod ({ cls := "LostQuestionsModel", name := "isQuestion", desc := "(I)Z" } : Jvm.MethodName)) ∈ lw_tbl := lw_at lw_m5 164 rfl
theorem q1198 : (Jvm.Cond.instanceMethod ({ cls := "LostQuestionsModel", name := "isQuestion", desc := "(I)Z" } : Jvm.MethodName)) ∈ lw_all := lw_g (lw_at lw_m5 165 rfl) rfl
theorem q1199 : (Jvm.Cond.code ({ cls := "LostQuestionsModel", name := "isQuestion", desc := "(I)Z" } : Jvm.MethodName) prog_10_method_26_code (2 : Nat) (Option.some Jvm.ClassFile.FieldType.boolean)) ∈ lw_all := lw_g (lw_at lw_m5 166 rfl) rfl
theorem q1201 : (Jvm.Cond.instanceMethod ({ cls := "LostQuestionsModel", name := "mark", desc := "(II)I" } : Jvm.MethodName)) ∈ lw_all := lw_g (lw_at lw_m5 168 rfl) rfl
theorem q1202 : (Jvm.Cond.selects "LostQuestionsModel" ({ cls := "LostQuestionsModel", name := "mark", desc := "(II)I" } : Jvm.MethodName) ({ cls := "LostQuestionsModel", name := "mark", desc := "(II)I" } : Jvm.MethodName)) ∈ lw_all := lw_g (lw_at lw_m5 169 rfl) rfl
theorem q1203 : (Jvm.Cond.code ({ cls := "LostQuestionsModel", name := "mark", desc := "(II)I" } : Jvm.MethodName) prog_10_method_35_code (7 : Nat) (Option.some Jvm.ClassFile.FieldType.int)) ∈ lw_all := lw_g (lw_at lw_m5 170 rfl) rfl
theorem q1204 : (Jvm.Cond.methodLink "LostQuestionsModel" (116 : Nat) ({ cls := "LostQuestionsModel", name := "isOf", desc := "(II)Z" } : Jvm.MethodName)) ∈ lw_all := lw_g (lw_at lw_m5 171 rfl) rfl
theorem q1205 : (Jvm.Cond.static ({ cls := "LostQuestionsModel", name := "isOf", desc := "(II)Z" } : Jvm.MethodName)) ∈ lw_all := lw_g (lw_at lw_m5 172 rfl) rfl
theorem q1206 : (Jvm.Cond.code ({ cls := "LostQuestionsModel", name := "isOf", desc := "(II)Z" } : Jvm.MethodName) prog_10_method_27_code (2 : Nat) (Option.some Jvm.ClassFile.FieldType.boolean)) ∈ lw_all := lw_g (lw_at lw_m5 173 rfl) rfl
theorem q1207 : (Jvm.Cond.methodLink "LostQuestionsModel" (139 : Nat) ({ cls := "LostQuestionsModel", name := "isFit", desc := "(II)Z" } : Jvm.MethodName)) ∈ lw_all := lw_g (lw_at lw_m5 174 rfl) rfl
theorem q1208 : (Jvm.Cond.privateMethod ({ cls := "LostQuestionsModel", name := "isFit", desc := "(II)Z" } : Jvm.MethodName)) ∈ lw_tbl := lw_at lw_m5 175 rfl
theorem q1209 : (Jvm.Cond.instanceMethod ({ cls := "LostQuestionsModel", name := "isFit", desc := "(II)Z" } : Jvm.MethodName)) ∈ lw_all := lw_g (lw_at lw_m5 176 rfl) rfl
theorem q1210 : (Jvm.Cond.code ({ cls := "LostQuestionsModel", name := "isFit", desc := "(II)Z" } : Jvm.MethodName) prog_10_method_30_code (3 : Nat) (Option.some Jvm.ClassFile.FieldType.boolean)) ∈ lw_all := lw_g (lw_at lw_m5 177 rfl) rfl
theorem q1211 : (Jvm.Cond.methodLink "LostQuestionsModel" (123 : Nat) ({ cls := "LostQuestionsModel", name := "suits", desc := "(IIII)Z" } : Jvm.MethodName)) ∈ lw_all := lw_g (lw_at lw_m5 178 rfl) rfl
theorem q1212 : (Jvm.Cond.privateMethod ({ cls := "LostQuestionsModel", name := "suits", desc := "(IIII)Z" } : Jvm.MethodName)) ∈ lw_tbl := lw_at lw_m5 179 rfl
theorem q1213 : (Jvm.Cond.instanceMethod ({ cls := "LostQuestionsModel", name := "suits", desc := "(IIII)Z" } : Jvm.MethodName)) ∈ lw_all := lw_g (lw_at lw_m5 180 rfl) rfl
theorem q1214 : (Jvm.Cond.code ({ cls := "LostQuestionsModel", name := "suits", desc := "(IIII)Z" } : Jvm.MethodName) prog_10_method_29_code (5 : Nat) (Option.some Jvm.ClassFile.FieldType.boolean)) ∈ lw_all := lw_g (lw_at lw_m5 181 rfl) rfl
theorem q1216 : (Jvm.Cond.instanceMethod ({ cls := "LostQuestionsModel", name := "shelve", desc := "(II)I" } : Jvm.MethodName)) ∈ lw_all := lw_g (lw_at lw_m5 183 rfl) rfl
theorem q1217 : (Jvm.Cond.selects "LostQuestionsModel" ({ cls := "LostQuestionsModel", name := "shelve", desc := "(II)I" } : Jvm.MethodName) ({ cls := "LostQuestionsModel", name := "shelve", desc := "(II)I" } : Jvm.MethodName)) ∈ lw_all := lw_g (lw_at lw_m5 184 rfl) rfl
theorem q1218 : (Jvm.Cond.code ({ cls := "LostQuestionsModel", name := "shelve", desc := "(II)I" } : Jvm.MethodName) prog_10_method_37_code (3 : Nat) (Option.some Jvm.ClassFile.FieldType.int)) ∈ lw_all := lw_g (lw_at lw_m5 185 rfl) rfl
theorem q1219 : (Jvm.Cond.methodLink "LostQuestionsModel" (142 : Nat) ({ cls := "LostQuestionsModel", name := "puts", desc := "(II)I" } : Jvm.MethodName)) ∈ lw_all := lw_g (lw_at lw_m5 186 rfl) rfl
theorem q1220 : (Jvm.Cond.privateMethod ({ cls := "LostQuestionsModel", name := "puts", desc := "(II)I" } : Jvm.MethodName)) ∈ lw_tbl := lw_at lw_m5 187 rfl
theorem q1221 : (Jvm.Cond.instanceMethod ({ cls := "LostQuestionsModel", name := "puts", desc := "(II)I" } : Jvm.MethodName)) ∈ lw_all := lw_g (lw_at lw_m5 188 rfl) rfl
theorem q1222 : (Jvm.Cond.code ({ cls := "LostQuestionsModel", name := "puts", desc := "(II)I" } : Jvm.MethodName) prog_10_method_36_code (4 : Nat) (Option.some Jvm.ClassFile.FieldType.int)) ∈ lw_all := lw_g (lw_at lw_m5 189 rfl) rfl
theorem q1224 : (Jvm.Cond.instanceMethod ({ cls := "LostQuestionsModel", name := "age", desc := "(II)I" } : Jvm.MethodName)) ∈ lw_all := lw_g (lw_at lw_m5 191 rfl) rfl
theorem q1225 : (Jvm.Cond.selects "LostQuestionsModel" ({ cls := "LostQuestionsModel", name := "age", desc := "(II)I" } : Jvm.MethodName) ({ cls := "LostQuestionsModel", name := "age", desc := "(II)I" } : Jvm.MethodName)) ∈ lw_all := lw_g (lw_at lw_m5 192 rfl) rfl
theorem q1226 : (Jvm.Cond.code ({ cls := "LostQuestionsModel", name := "age", desc := "(II)I" } : Jvm.MethodName) prog_10_method_38_code (3 : Nat) (Option.some Jvm.ClassFile.FieldType.int)) ∈ lw_all := lw_g (lw_at lw_m5 193 rfl) rfl
theorem q1227 : (Jvm.Cond.constantLong "LostQuestionsModel" (145 : Nat) (9 : Int64)) ∈ lw_all := lw_g (lw_at lw_m5 194 rfl) rfl
theorem q1229 : (Jvm.Cond.instanceMethod ({ cls := "LostQuestionsModel", name := "truth", desc := "(II)I" } : Jvm.MethodName)) ∈ lw_all := lw_g (lw_at lw_m5 196 rfl) rfl
theorem q1230 : (Jvm.Cond.selects "LostQuestionsModel" ({ cls := "LostQuestionsModel", name := "truth", desc := "(II)I" } : Jvm.MethodName) ({ cls := "LostQuestionsModel", name := "truth", desc := "(II)I" } : Jvm.MethodName)) ∈ lw_all := lw_g (lw_at lw_m5 197 rfl) rfl
theorem q1231 : (Jvm.Cond.code ({ cls := "LostQuestionsModel", name := "truth", desc := "(II)I" } : Jvm.MethodName) prog_10_method_39_code (3 : Nat) (Option.some Jvm.ClassFile.FieldType.int)) ∈ lw_all := lw_g (lw_at lw_m5 198 rfl) rfl
theorem q1233 : (Jvm.Cond.instanceMethod ({ cls := "LostQuestionsModel", name := "fits", desc := "(I)I" } : Jvm.MethodName)) ∈ lw_all := lw_g (lw_at lw_m5 200 rfl) rfl
theorem q1234 : (Jvm.Cond.selects "LostQuestionsModel" ({ cls := "LostQuestionsModel", name := "fits", desc := "(I)I" } : Jvm.MethodName) ({ cls := "LostQuestionsModel", name := "fits", desc := "(I)I" } : Jvm.MethodName)) ∈ lw_all := lw_g (lw_at lw_m5 201 rfl) rfl
theorem q1235 : (Jvm.Cond.code ({ cls := "LostQuestionsModel", name := "fits", desc := "(I)I" } : Jvm.MethodName) prog_10_method_40_code (4 : Nat) (Option.some Jvm.ClassFile.FieldType.int)) ∈ lw_all := lw_g (lw_at lw_m5 202 rfl) rfl
theorem q1237 : (Jvm.Cond.instanceMethod ({ cls := "LostQuestionsModel", name := "take", desc := "(II)I" } : Jvm.MethodName)) ∈ lw_all := lw_g (lw_at lw_m5 204 rfl) rfl
theorem q1238 : (Jvm.Cond.selects "LostQuestionsModel" ({ cls := "LostQuestionsModel", name := "take", desc := "(II)I" } : Jvm.MethodName) ({ cls := "LostQuestionsModel", name := "take", desc := "(II)I" } : Jvm.MethodName)) ∈ lw_all := lw_g (lw_at lw_m5 205 rfl) rfl
theorem q1239 : (Jvm.Cond.code ({ cls := "LostQuestionsModel", name := "take", desc := "(II)I" } : Jvm.MethodName) prog_10_method_45_code (3 : Nat) (Option.some Jvm.ClassFile.FieldType.int)) ∈ lw_all := lw_g (lw_at lw_m5 206 rfl) rfl
theorem q1240 : (Jvm.Cond.methodLink "LostQuestionsModel" (147 : Nat) ({ cls := "LostQuestionsModel", name := "isFree", desc := "(I)Z" } : Jvm.MethodName)) ∈ lw_all := lw_g (lw_at lw_m5 207 rfl) rfl
theorem q1241 : (Jvm.Cond.privateMethod ({ cls := "LostQuestionsModel", name := "isFree", desc := "(I)Z" } : Jvm.MethodName)) ∈ lw_tbl := lw_at lw_m5 208 rfl
theorem q1242 : (Jvm.Cond.instanceMethod ({ cls := "LostQuestionsModel", name := "isFree", desc := "(I)Z" } : Jvm.MethodName)) ∈ lw_all := lw_g (lw_at lw_m5 209 rfl) rfl
theorem q1243 : (Jvm.Cond.code ({ cls := "LostQuestionsModel", name := "isFree", desc := "(I)Z" } : Jvm.MethodName) prog_10_method_42_code (2 : Nat) (Option.some Jvm.ClassFile.FieldType.boolean)) ∈ lw_all := lw_g (lw_at lw_m5 210 rfl) rfl
theorem q1244 : (Jvm.Cond.methodLink "LostQuestionsModel" (150 : Nat) ({ cls := "LostQuestionsModel", name := "isFreeCard", desc := "(I)Z" } : Jvm.MethodName)) ∈ lw_all := lw_g (lw_at lw_m5 211 rfl) rfl
theorem q1245 : (Jvm.Cond.privateMethod ({ cls := "LostQuestionsModel", name := "isFreeCard", desc := "(I)Z" } : Jvm.MethodName)) ∈ lw_tbl := lw_at lw_m5 212 rfl
theorem q1246 : (Jvm.Cond.instanceMethod ({ cls := "LostQuestionsModel", name := "isFreeCard", desc := "(I)Z" } : Jvm.MethodName)) ∈ lw_all := lw_g (lw_at lw_m5 213 rfl) rfl
theorem q1247 : (Jvm.Cond.code ({ cls := "LostQuestionsModel", name := "isFreeCard", desc := "(I)Z" } : Jvm.MethodName) prog_10_method_41_code (2 : Nat) (Option.some Jvm.ClassFile.FieldType.boolean)) ∈ lw_all := lw_g (lw_at lw_m5 214 rfl) rfl
theorem q1248 : (Jvm.Cond.methodLink "LostQuestionsModel" (153 : Nat) ({ cls := "LostQuestionsModel", name := "takesIt", desc := "(II)V" } : Jvm.MethodName)) ∈ lw_all := lw_g (lw_at lw_m5 215 rfl) rfl
theorem q1249 : (Jvm.Cond.privateMethod ({ cls := "LostQuestionsModel", name := "takesIt", desc := "(II)V" } : Jvm.MethodName)) ∈ lw_tbl := lw_at lw_m5 216 rfl
theorem q1250 : (Jvm.Cond.instanceMethod ({ cls := "LostQuestionsModel", name := "takesIt", desc := "(II)V" } : Jvm.MethodName)) ∈ lw_all := lw_g (lw_at lw_m5 217 rfl) rfl
theorem q1251 : (Jvm.Cond.code ({ cls := "LostQuestionsModel", name := "takesIt", desc := "(II)V" } : Jvm.MethodName) prog_10_method_43_code (5 : Nat) (Option.none : Option Jvm.ClassFile.FieldType)) ∈ lw_all := lw_g (lw_at lw_m5 218 rfl) rfl
theorem q1252 : (Jvm.Cond.methodLink "LostQuestionsModel" (157 : Nat) ({ cls := "LostQuestionsModel", name := "stands", desc := "(I)I" } : Jvm.MethodName)) ∈ lw_all := lw_g (lw_at lw_m5 219 rfl) rfl
theorem q1253 : (Jvm.Cond.privateMethod ({ cls := "LostQuestionsModel", name := "stands", desc := "(I)I" } : Jvm.MethodName)) ∈ lw_tbl := lw_at lw_m5 220 rfl
theorem q1254 : (Jvm.Cond.instanceMethod ({ cls := "LostQuestionsModel", name := "stands", desc := "(I)I" } : Jvm.MethodName)) ∈ lw_all := lw_g (lw_at lw_m5 221 rfl) rfl
theorem q1255 : (Jvm.Cond.code ({ cls := "LostQuestionsModel", name := "stands", desc := "(I)I" } : Jvm.MethodName) prog_10_method_44_code (2 : Nat) (Option.some Jvm.ClassFile.FieldType.int)) ∈ lw_all := lw_g (lw_at lw_m5 222 rfl) rfl
theorem q1257 : (Jvm.Cond.instanceMethod ({ cls := "LostQuestionsModel", name := "bring", desc := "(I)I" } : Jvm.MethodName)) ∈ lw_all := lw_g (lw_at lw_m5 224 rfl) rfl
theorem q1258 : (Jvm.Cond.selects "LostQuestionsModel" ({ cls := "LostQuestionsModel", name := "bring", desc := "(I)I" } : Jvm.MethodName) ({ cls := "LostQuestionsModel", name := "bring", desc := "(I)I" } : Jvm.MethodName)) ∈ lw_all := lw_g (lw_at lw_m5 225 rfl) rfl
theorem q1259 : (Jvm.Cond.code ({ cls := "LostQuestionsModel", name := "bring", desc := "(I)I" } : Jvm.MethodName) prog_10_method_46_code (2 : Nat) (Option.some Jvm.ClassFile.FieldType.int)) ∈ lw_all := lw_g (lw_at lw_m5 226 rfl) rfl
theorem q1261 : (Jvm.Cond.instanceMethod ({ cls := "LostQuestionsModel", name := "undo", desc := "(I)I" } : Jvm.MethodName)) ∈ lw_all := lw_g (lw_at lw_m5 228 rfl) rfl
theorem q1262 : (Jvm.Cond.selects "LostQuestionsModel" ({ cls := "LostQuestionsModel", name := "undo", desc := "(I)I" } : Jvm.MethodName) ({ cls := "LostQuestionsModel", name := "undo", desc := "(I)I" } : Jvm.MethodName)) ∈ lw_all := lw_g (lw_at lw_m5 229 rfl) rfl
theorem q1263 : (Jvm.Cond.code ({ cls := "LostQuestionsModel", name := "undo", desc := "(I)I" } : Jvm.MethodName) prog_10_method_47_code (4 : Nat) (Option.some Jvm.ClassFile.FieldType.int)) ∈ lw_all := lw_g (lw_at lw_m5 230 rfl) rfl
theorem q1265 : (Jvm.Cond.instanceMethod ({ cls := "LostQuestionsModel", name := "right", desc := "()I" } : Jvm.MethodName)) ∈ lw_all := lw_g (lw_at lw_m5 232 rfl) rfl
theorem q1266 : (Jvm.Cond.selects "LostQuestionsModel" ({ cls := "LostQuestionsModel", name := "right", desc := "()I" } : Jvm.MethodName) ({ cls := "LostQuestionsModel", name := "right", desc := "()I" } : Jvm.MethodName)) ∈ lw_all := lw_g (lw_at lw_m5 233 rfl) rfl
theorem q1267 : (Jvm.Cond.code ({ cls := "LostQuestionsModel", name := "right", desc := "()I" } : Jvm.MethodName) prog_10_method_49_code (2 : Nat) (Option.some Jvm.ClassFile.FieldType.int)) ∈ lw_all := lw_g (lw_at lw_m5 234 rfl) rfl
theorem q1268 : (Jvm.Cond.methodLink "LostQuestionsModel" (160 : Nat) ({ cls := "LostQuestionsModel", name := "standing", desc := "(I)I" } : Jvm.MethodName)) ∈ lw_all := lw_g (lw_at lw_m5 235 rfl) rfl
theorem q1269 : (Jvm.Cond.privateMethod ({ cls := "LostQuestionsModel", name := "standing", desc := "(I)I" } : Jvm.MethodName)) ∈ lw_tbl := lw_at lw_m5 236 rfl
theorem q1270 : (Jvm.Cond.instanceMethod ({ cls := "LostQuestionsModel", name := "standing", desc := "(I)I" } : Jvm.MethodName)) ∈ lw_all := lw_g (lw_at lw_m5 237 rfl) rfl
theorem q1271 : (Jvm.Cond.code ({ cls := "LostQuestionsModel", name := "standing", desc := "(I)I" } : Jvm.MethodName) prog_10_method_48_code (4 : Nat) (Option.some Jvm.ClassFile.FieldType.int)) ∈ lw_all := lw_g (lw_at lw_m5 238 rfl) rfl
theorem q1273 : (Jvm.Cond.instanceMethod ({ cls := "LostQuestionsModel", name := "keep", desc := "(I)I" } : Jvm.MethodName)) ∈ lw_all := lw_g (lw_at lw_m6 0 rfl) rfl
theorem q1274 : (Jvm.Cond.selects "LostQuestionsModel" ({ cls := "LostQuestionsModel", name := "keep", desc := "(I)I" } : Jvm.MethodName) ({ cls := "LostQuestionsModel", name := "keep", desc := "(I)I" } : Jvm.MethodName)) ∈ lw_all := lw_g (lw_at lw_m6 1 rfl) rfl
theorem q1275 : (Jvm.Cond.code ({ cls := "LostQuestionsModel", name := "keep", desc := "(I)I" } : Jvm.MethodName) prog_10_method_50_code (2 : Nat) (Option.some Jvm.ClassFile.FieldType.int)) ∈ lw_all := lw_g (lw_at lw_m6 2 rfl) rfl
theorem q1276 : (Jvm.Cond.constantLong "LostQuestionsModel" (163 : Nat) (2 : Int64)) ∈ lw_all := lw_g (lw_at lw_m6 3 rfl) rfl
theorem q1278 : (Jvm.Cond.instanceMethod ({ cls := "LostQuestionsModel", name := "on", desc := "(I)I" } : Jvm.MethodName)) ∈ lw_all := lw_g (lw_at lw_m6 5 rfl) rfl
theorem q1279 : (Jvm.Cond.selects "LostQuestionsModel" ({ cls := "LostQuestionsModel", name := "on", desc := "(I)I" } : Jvm.MethodName) ({ cls := "LostQuestionsModel", name := "on", desc := "(I)I" } : Jvm.MethodName)) ∈ lw_all := lw_g (lw_at lw_m6 6 rfl) rfl
theorem q1280 : (Jvm.Cond.code ({ cls := "LostQuestionsModel", name := "on", desc := "(I)I" } : Jvm.MethodName) prog_10_method_51_code (2 : Nat) (Option.some Jvm.ClassFile.FieldType.int)) ∈ lw_all := lw_g (lw_at lw_m6 7 rfl) rfl
theorem q1282 : (Jvm.Cond.instanceMethod ({ cls := "LostQuestionsModel", name := "match", desc := "(I)I" } : Jvm.MethodName)) ∈ lw_all := lw_g (lw_at lw_m6 9 rfl) rfl
theorem q1283 : (Jvm.Cond.selects "LostQuestionsModel" ({ cls := "LostQuestionsModel", name := "match", desc := "(I)I" } : Jvm.MethodName) ({ cls := "LostQuestionsModel", name := "match", desc := "(I)I" } : Jvm.MethodName)) ∈ lw_all := lw_g (lw_at lw_m6 10 rfl) rfl
theorem q1284 : (Jvm.Cond.code ({ cls := "LostQuestionsModel", name := "match", desc := "(I)I" } : Jvm.MethodName) prog_10_method_56_code (2 : Nat) (Option.some Jvm.ClassFile.FieldType.int)) ∈ lw_all := lw_g (lw_at lw_m6 11 rfl) rfl
theorem q1285 : (Jvm.Cond.methodLink "LostQuestionsModel" (181 : Nat) ({ cls := "LostQuestionsModel", name := "layMatchings", desc := "(Z)V" } : Jvm.MethodName)) ∈ lw_all := lw_g (lw_at lw_m6 12 rfl) rfl
theorem q1286 : (Jvm.Cond.privateMethod ({ cls := "LostQuestionsModel", name := "layMatchings", desc := "(Z)V" } : Jvm.MethodName)) ∈ lw_tbl := lw_at lw_m6 13 rfl
theorem q1287 : (Jvm.Cond.instanceMethod ({ cls := "LostQuestionsModel", name := "layMatchings", desc := "(Z)V" } : Jvm.MethodName)) ∈ lw_all := lw_g (lw_at lw_m6 14 rfl) rfl
theorem q1288 : (Jvm.Cond.code ({ cls := "LostQuestionsModel", name := "layMatchings", desc := "(Z)V" } : Jvm.MethodName) prog_10_method_53_code (9 : Nat) (Option.none : Option Jvm.ClassFile.FieldType)) ∈ lw_all := lw_g (lw_at lw_m6 15 rfl) rfl
theorem q1289 : (Jvm.Cond.methodLink "LostQuestionsModel" (168 : Nat) ({ cls := "LostQuestionsModel", name := "counts", desc := "(I)V" } : Jvm.MethodName)) ∈ lw_all := lw_g (lw_at lw_m6 16 rfl) rfl
theorem q1290 : (Jvm.Cond.privateMethod ({ cls := "LostQuestionsModel", name := "counts", desc := "(I)V" } : Jvm.MethodName)) ∈ lw_tbl := lw_at lw_m6 17 rfl
theorem q1291 : (Jvm.Cond.instanceMethod ({ cls := "LostQuestionsModel", name := "counts", desc := "(I)V" } : Jvm.MethodName)) ∈ lw_all := lw_g (lw_at lw_m6 18 rfl) rfl
theorem q1292 : (Jvm.Cond.code ({ cls := "LostQuestionsModel", name := "counts", desc := "(I)V" } : Jvm.MethodName) prog_10_method_54_code (4 : Nat) (Option.none : Option Jvm.ClassFile.FieldType)) ∈ lw_all := lw_g (lw_at lw_m6 19 rfl) rfl
theorem q1293 : (Jvm.Cond.methodLink "LostQuestionsModel" (172 : Nat) ({ cls := "LostQuestionsModel", name := "mayMatch", desc := "(II)Z" } : Jvm.MethodName)) ∈ lw_all := lw_g (lw_at lw_m6 20 rfl) rfl
theorem q1294 : (Jvm.Cond.privateMethod ({ cls := "LostQuestionsModel", name := "mayMatch", desc := "(II)Z" } : Jvm.MethodName)) ∈ lw_tbl := lw_at lw_m6 21 rfl
theorem q1295 : (Jvm.Cond.instanceMethod ({ cls := "LostQuestionsModel", name := "mayMatch", desc := "(II)Z" } : Jvm.MethodName)) ∈ lw_all := lw_g (lw_at lw_m6 22 rfl) rfl
theorem q1296 : (Jvm.Cond.code ({ cls := "LostQuestionsModel", name := "mayMatch", desc := "(II)Z" } : Jvm.MethodName) prog_10_method_52_code (3 : Nat) (Option.some Jvm.ClassFile.FieldType.boolean)) ∈ lw_all := lw_g (lw_at lw_m6 23 rfl) rfl
theorem q1297 : (Jvm.Cond.methodLink "LostQuestionsModel" (185 : Nat) ({ cls := "LostQuestionsModel", name := "laid", desc := "(I)I" } : Jvm.MethodName)) ∈ lw_all := lw_g (lw_at lw_m6 24 rfl) rfl
theorem q1298 : (Jvm.Cond.privateMethod ({ cls := "LostQuestionsModel", name := "laid", desc := "(I)I" } : Jvm.MethodName)) ∈ lw_tbl := lw_at lw_m6 25 rfl
theorem q1299 : (Jvm.Cond.instanceMethod ({ cls := "LostQuestionsModel", name := "laid", desc := "(I)I" } : Jvm.MethodName)) ∈ lw_all := lw_g (lw_at lw_m6 26 rfl) rfl
theorem q1300 : (Jvm.Cond.code ({ cls := "LostQuestionsModel", name := "laid", desc := "(I)I" } : Jvm.MethodName) prog_10_method_55_code (4 : Nat) (Option.some Jvm.ClassFile.FieldType.int)) ∈ lw_all := lw_g (lw_at lw_m6 27 rfl) rfl
theorem q1301 : (Jvm.Cond.methodLink "LostQuestionsModel" (178 : Nat) ({ cls := "LostQuestionsModel", name := "row", desc := "(II)I" } : Jvm.MethodName)) ∈ lw_all := lw_g (lw_at lw_m6 28 rfl) rfl
theorem q1303 : (Jvm.Cond.instanceMethod ({ cls := "LostQuestionsModel", name := "wished", desc := "(I)I" } : Jvm.MethodName)) ∈ lw_all := lw_g (lw_at lw_m6 30 rfl) rfl
theorem q1304 : (Jvm.Cond.selects "LostQuestionsModel" ({ cls := "LostQuestionsModel", name := "wished", desc := "(I)I" } : Jvm.MethodName) ({ cls := "LostQuestionsModel", name := "wished", desc := "(I)I" } : Jvm.MethodName)) ∈ lw_all := lw_g (lw_at lw_m6 31 rfl) rfl
theorem q1305 : (Jvm.Cond.code ({ cls := "LostQuestionsModel", name := "wished", desc := "(I)I" } : Jvm.MethodName) prog_10_method_57_code (2 : Nat) (Option.some Jvm.ClassFile.FieldType.int)) ∈ lw_all := lw_g (lw_at lw_m6 32 rfl) rfl
theorem q1307 : (Jvm.Cond.instanceMethod ({ cls := "LostQuestionsModel", name := "fullest", desc := "()I" } : Jvm.MethodName)) ∈ lw_all := lw_g (lw_at lw_m6 34 rfl) rfl
theorem q1308 : (Jvm.Cond.selects "LostQuestionsModel" ({ cls := "LostQuestionsModel", name := "fullest", desc := "()I" } : Jvm.MethodName) ({ cls := "LostQuestionsModel", name := "fullest", desc := "()I" } : Jvm.MethodName)) ∈ lw_all := lw_g (lw_at lw_m6 35 rfl) rfl
theorem q1309 : (Jvm.Cond.code ({ cls := "LostQuestionsModel", name := "fullest", desc := "()I" } : Jvm.MethodName) prog_10_method_58_code (3 : Nat) (Option.some Jvm.ClassFile.FieldType.int)) ∈ lw_all := lw_g (lw_at lw_m6 36 rfl) rfl
theorem q1311 : (Jvm.Cond.instanceMethod ({ cls := "LostQuestionsModel", name := "may", desc := "(I)I" } : Jvm.MethodName)) ∈ lw_all := lw_g (lw_at lw_m6 38 rfl) rfl
theorem q1312 : (Jvm.Cond.selects "LostQuestionsModel" ({ cls := "LostQuestionsModel", name := "may", desc := "(I)I" } : Jvm.MethodName) ({ cls := "LostQuestionsModel", name := "may", desc := "(I)I" } : Jvm.MethodName)) ∈ lw_all := lw_g (lw_at lw_m6 39 rfl) rfl
theorem q1313 : (Jvm.Cond.code ({ cls := "LostQuestionsModel", name := "may", desc := "(I)I" } : Jvm.MethodName) prog_10_method_59_code (4 : Nat) (Option.some Jvm.ClassFile.FieldType.int)) ∈ lw_all := lw_g (lw_at lw_m6 40 rfl) rfl
theorem q1315 : (Jvm.Cond.instanceMethod ({ cls := "LostQuestionsModel", name := "sure", desc := "(I)I" } : Jvm.MethodName)) ∈ lw_all := lw_g (lw_at lw_m6 42 rfl) rfl
theorem q1316 : (Jvm.Cond.selects "LostQuestionsModel" ({ cls := "LostQuestionsModel", name := "sure", desc := "(I)I" } : Jvm.MethodName) ({ cls := "LostQuestionsModel", name := "sure", desc := "(I)I" } : Jvm.MethodName)) ∈ lw_all := lw_g (lw_at lw_m6 43 rfl) rfl
theorem q1317 : (Jvm.Cond.code ({ cls := "LostQuestionsModel", name := "sure", desc := "(I)I" } : Jvm.MethodName) prog_10_method_60_code (4 : Nat) (Option.some Jvm.ClassFile.FieldType.int)) ∈ lw_all := lw_g (lw_at lw_m6 44 rfl) rfl
theorem q1319 : (Jvm.Cond.instanceMethod ({ cls := "LostQuestionsModel", name := "test", desc := "()I" } : Jvm.MethodName)) ∈ lw_all := lw_g (lw_at lw_m6 46 rfl) rfl
theorem q1320 : (Jvm.Cond.selects "LostQuestionsModel" ({ cls := "LostQuestionsModel", name := "test", desc := "()I" } : Jvm.MethodName) ({ cls := "LostQuestionsModel", name := "test", desc := "()I" } : Jvm.MethodName)) ∈ lw_all := lw_g (lw_at lw_m6 47 rfl) rfl
theorem q1321 : (Jvm.Cond.code ({ cls := "LostQuestionsModel", name := "test", desc := "()I" } : Jvm.MethodName) prog_10_method_61_code (5 : Nat) (Option.some Jvm.ClassFile.FieldType.int)) ∈ lw_all := lw_g (lw_at lw_m6 48 rfl) rfl
theorem q1323 : (Jvm.Cond.instanceMethod ({ cls := "LostQuestionsModel", name := "odds", desc := "(II)I" } : Jvm.MethodName)) ∈ lw_all := lw_g (lw_at lw_m6 50 rfl) rfl
theorem q1324 : (Jvm.Cond.selects "LostQuestionsModel" ({ cls := "LostQuestionsModel", name := "odds", desc := "(II)I" } : Jvm.MethodName) ({ cls := "LostQuestionsModel", name := "odds", desc := "(II)I" } : Jvm.MethodName)) ∈ lw_all := lw_g (lw_at lw_m6 51 rfl) rfl
theorem q1325 : (Jvm.Cond.code ({ cls := "LostQuestionsModel", name := "odds", desc := "(II)I" } : Jvm.MethodName) prog_10_method_62_code (6 : Nat) (Option.some Jvm.ClassFile.FieldType.int)) ∈ lw_all := lw_g (lw_at lw_m6 52 rfl) rfl
theorem q1327 : (Jvm.Cond.instanceMethod ({ cls := "LostQuestionsModel", name := "worlds", desc := "()I" } : Jvm.MethodName)) ∈ lw_all := lw_g (lw_at lw_m6 54 rfl) rfl
theorem q1328 : (Jvm.Cond.selects "LostQuestionsModel" ({ cls := "LostQuestionsModel", name := "worlds", desc := "()I" } : Jvm.MethodName) ({ cls := "LostQuestionsModel", name := "worlds", desc := "()I" } : Jvm.MethodName)) ∈ lw_all := lw_g (lw_at lw_m6 55 rfl) rfl
theorem q1329 : (Jvm.Cond.code ({ cls := "LostQuestionsModel", name := "worlds", desc := "()I" } : Jvm.MethodName) prog_10_method_63_code (6 : Nat) (Option.some Jvm.ClassFile.FieldType.int)) ∈ lw_all := lw_g (lw_at lw_m6 56 rfl) rfl
theorem q1331 : (Jvm.Cond.instanceMethod ({ cls := "LostQuestionsModel", name := "never", desc := "()I" } : Jvm.MethodName)) ∈ lw_all := lw_g (lw_at lw_m6 58 rfl) rfl
theorem q1332 : (Jvm.Cond.selects "LostQuestionsModel" ({ cls := "LostQuestionsModel", name := "never", desc := "()I" } : Jvm.MethodName) ({ cls := "LostQuestionsModel", name := "never", desc := "()I" } : Jvm.MethodName)) ∈ lw_all := lw_g (lw_at lw_m6 59 rfl) rfl
theorem q1333 : (Jvm.Cond.code ({ cls := "LostQuestionsModel", name := "never", desc := "()I" } : Jvm.MethodName) prog_10_method_64_code (5 : Nat) (Option.some Jvm.ClassFile.FieldType.int)) ∈ lw_all := lw_g (lw_at lw_m6 60 rfl) rfl
theorem q1335 : (Jvm.Cond.instanceMethod ({ cls := "LostQuestionsModel", name := "parts", desc := "()I" } : Jvm.MethodName)) ∈ lw_all := lw_g (lw_at lw_m6 62 rfl) rfl
theorem q1336 : (Jvm.Cond.selects "LostQuestionsModel" ({ cls := "LostQuestionsModel", name := "parts", desc := "()I" } : Jvm.MethodName) ({ cls := "LostQuestionsModel", name := "parts", desc := "()I" } : Jvm.MethodName)) ∈ lw_all := lw_g (lw_at lw_m6 63 rfl) rfl
theorem q1337 : (Jvm.Cond.code ({ cls := "LostQuestionsModel", name := "parts", desc := "()I" } : Jvm.MethodName) prog_10_method_66_code (10 : Nat) (Option.some Jvm.ClassFile.FieldType.int)) ∈ lw_all := lw_g (lw_at lw_m6 64 rfl) rfl
theorem q1338 : (Jvm.Cond.methodLink "LostQuestionsModel" (191 : Nat) ({ cls := "LostQuestionsModel", name := "manyFit", desc := "(III)I" } : Jvm.MethodName)) ∈ lw_all := lw_g (lw_at lw_m6 65 rfl) rfl
theorem q1339 : (Jvm.Cond.privateMethod ({ cls := "LostQuestionsModel", name := "manyFit", desc := "(III)I" } : Jvm.MethodName)) ∈ lw_tbl := lw_at lw_m6 66 rfl
theorem q1340 : (Jvm.Cond.instanceMethod ({ cls := "LostQuestionsModel", name := "manyFit", desc := "(III)I" } : Jvm.MethodName)) ∈ lw_all := lw_g (lw_at lw_m6 67 rfl) rfl
theorem q1341 : (Jvm.Cond.code ({ cls := "LostQuestionsModel", name := "manyFit", desc := "(III)I" } : Jvm.MethodName) prog_10_method_65_code (6 : Nat) (Option.some Jvm.ClassFile.FieldType.int)) ∈ lw_all := lw_g (lw_at lw_m6 68 rfl) rfl
theorem q1343 : (Jvm.Cond.instanceMethod ({ cls := "LostQuestionsModel", name := "finds", desc := "(I)I" } : Jvm.MethodName)) ∈ lw_all := lw_g (lw_at lw_m6 70 rfl) rfl
theorem q1344 : (Jvm.Cond.selects "LostQuestionsModel" ({ cls := "LostQuestionsModel", name := "finds", desc := "(I)I" } : Jvm.MethodName) ({ cls := "LostQuestionsModel", name := "finds", desc := "(I)I" } : Jvm.MethodName)) ∈ lw_all := lw_g (lw_at lw_m6 71 rfl) rfl
theorem q1345 : (Jvm.Cond.code ({ cls := "LostQuestionsModel", name := "finds", desc := "(I)I" } : Jvm.MethodName) prog_10_method_68_code (9 : Nat) (Option.some Jvm.ClassFile.FieldType.int)) ∈ lw_all := lw_g (lw_at lw_m6 72 rfl) rfl
theorem q1346 : (Jvm.Cond.methodLink "LostQuestionsModel" (195 : Nat) ({ cls := "LostQuestionsModel", name := "isOne", desc := "(I)Z" } : Jvm.MethodName)) ∈ lw_all := lw_g (lw_at lw_m6 73 rfl) rfl
theorem q1347 : (Jvm.Cond.static ({ cls := "LostQuestionsModel", name := "isOne", desc := "(I)Z" } : Jvm.MethodName)) ∈ lw_all := lw_g (lw_at lw_m6 74 rfl) rfl
theorem q1348 : (Jvm.Cond.code ({ cls := "LostQuestionsModel", name := "isOne", desc := "(I)Z" } : Jvm.MethodName) prog_10_method_67_code (1 : Nat) (Option.some Jvm.ClassFile.FieldType.boolean)) ∈ lw_all := lw_g (lw_at lw_m6 75 rfl) rfl
theorem q1349 : (Jvm.Cond.methodLink "LostQuestionsModel" (198 : Nat) ({ cls := "LostQuestionsModel", name := "fits", desc := "(I)I" } : Jvm.MethodName)) ∈ lw_all := lw_g (lw_at lw_m6 76 rfl) rfl
theorem q1351 : (Jvm.Cond.instanceMethod ({ cls := "LostQuestionsModel", name := "left", desc := "(I)I" } : Jvm.MethodName)) ∈ lw_all := lw_g (lw_at lw_m6 78 rfl) rfl
theorem q1352 : (Jvm.Cond.selects "LostQuestionsModel" ({ cls := "LostQuestionsModel", name := "left", desc := "(I)I" } : Jvm.MethodName) ({ cls := "LostQuestionsModel", name := "left", desc := "(I)I" } : Jvm.MethodName)) ∈ lw_all := lw_g (lw_at lw_m6 79 rfl) rfl
theorem q1353 : (Jvm.Cond.code ({ cls := "LostQuestionsModel", name := "left", desc := "(I)I" } : Jvm.MethodName) prog_10_method_69_code (6 : Nat) (Option.some Jvm.ClassFile.FieldType.int)) ∈ lw_all := lw_g (lw_at lw_m6 80 rfl) rfl
theorem q1355 : (Jvm.Cond.instanceMethod ({ cls := "LostQuestionsModel", name := "forged", desc := "()I" } : Jvm.MethodName)) ∈ lw_all := lw_g (lw_at lw_m6 82 rfl) rfl
theorem q1356 : (Jvm.Cond.selects "LostQuestionsModel" ({ cls := "LostQuestionsModel", name := "forged", desc := "()I" } : Jvm.MethodName) ({ cls := "LostQuestionsModel", name := "forged", desc := "()I" } : Jvm.MethodName)) ∈ lw_all := lw_g (lw_at lw_m6 83 rfl) rfl
theorem q1357 : (Jvm.Cond.code ({ cls := "LostQuestionsModel", name := "forged", desc := "()I" } : Jvm.MethodName) prog_10_method_70_code (6 : Nat) (Option.some Jvm.ClassFile.FieldType.int)) ∈ lw_all := lw_g (lw_at lw_m6 84 rfl) rfl
theorem q1359 : (Jvm.Cond.instanceMethod ({ cls := "LostQuestionsModel", name := "beside", desc := "(I)I" } : Jvm.MethodName)) ∈ lw_all := lw_g (lw_at lw_m6 86 rfl) rfl
theorem q1360 : (Jvm.Cond.selects "LostQuestionsModel" ({ cls := "LostQuestionsModel", name := "beside", desc := "(I)I" } : Jvm.MethodName) ({ cls := "LostQuestionsModel", name := "beside", desc := "(I)I" } : Jvm.MethodName)) ∈ lw_all := lw_g (lw_at lw_m6 87 rfl) rfl
theorem q1361 : (Jvm.Cond.code ({ cls := "LostQuestionsModel", name := "beside", desc := "(I)I" } : Jvm.MethodName) prog_10_method_74_code (6 : Nat) (Option.some Jvm.ClassFile.FieldType.int)) ∈ lw_all := lw_g (lw_at lw_m6 88 rfl) rfl
theorem q1362 : (Jvm.Cond.methodLink "LostQuestionsModel" (201 : Nat) ({ cls := "LostQuestionsModel", name := "manyThere", desc := "(III)I" } : Jvm.MethodName)) ∈ lw_all := lw_g (lw_at lw_m6 89 rfl) rfl
theorem q1363 : (Jvm.Cond.privateMethod ({ cls := "LostQuestionsModel", name := "manyThere", desc := "(III)I" } : Jvm.MethodName)) ∈ lw_tbl := lw_at lw_m6 90 rfl
theorem q1364 : (Jvm.Cond.instanceMethod ({ cls := "LostQuestionsModel", name := "manyThere", desc := "(III)I" } : Jvm.MethodName)) ∈ lw_all := lw_g (lw_at lw_m6 91 rfl) rfl
theorem q1365 : (Jvm.Cond.code ({ cls := "LostQuestionsModel", name := "manyThere", desc := "(III)I" } : Jvm.MethodName) prog_10_method_72_code (7 : Nat) (Option.some Jvm.ClassFile.FieldType.int)) ∈ lw_all := lw_g (lw_at lw_m6 92 rfl) rfl
theorem q1366 : (Jvm.Cond.methodLink "LostQuestionsModel" (204 : Nat) ({ cls := "LostQuestionsModel", name := "manyHere", desc := "(II)I" } : Jvm.MethodName)) ∈ lw_all := lw_g (lw_at lw_m6 93 rfl) rfl
theorem q1367 : (Jvm.Cond.privateMethod ({ cls := "LostQuestionsModel", name := "manyHere", desc := "(II)I" } : Jvm.MethodName)) ∈ lw_tbl := lw_at lw_m6 94 rfl
theorem q1368 : (Jvm.Cond.instanceMethod ({ cls := "LostQuestionsModel", name := "manyHere", desc := "(II)I" } : Jvm.MethodName)) ∈ lw_all := lw_g (lw_at lw_m6 95 rfl) rfl
theorem q1369 : (Jvm.Cond.code ({ cls := "LostQuestionsModel", name := "manyHere", desc := "(II)I" } : Jvm.MethodName) prog_10_method_73_code (5 : Nat) (Option.some Jvm.ClassFile.FieldType.int)) ∈ lw_all := lw_g (lw_at lw_m6 96 rfl) rfl
theorem q1370 : (Jvm.Cond.methodLink "LostQuestionsModel" (207 : Nat) ({ cls := "LostQuestionsModel", name := "lesser", desc := "(II)I" } : Jvm.MethodName)) ∈ lw_all := lw_g (lw_at lw_m6 97 rfl) rfl
theorem q1371 : (Jvm.Cond.static ({ cls := "LostQuestionsModel", name := "lesser", desc := "(II)I" } : Jvm.MethodName)) ∈ lw_all := lw_g (lw_at lw_m6 98 rfl) rfl
theorem q1372 : (Jvm.Cond.code ({ cls := "LostQuestionsModel", name := "lesser", desc := "(II)I" } : Jvm.MethodName) prog_10_method_71_code (2 : Nat) (Option.some Jvm.ClassFile.FieldType.int)) ∈ lw_all := lw_g (lw_at lw_m6 99 rfl) rfl
theorem q1374 : (Jvm.Cond.instanceMethod ({ cls := "LostQuestionsModel", name := "habit", desc := "()I" } : Jvm.MethodName)) ∈ lw_all := lw_g (lw_at lw_m6 101 rfl) rfl
theorem q1375 : (Jvm.Cond.selects "LostQuestionsModel" ({ cls := "LostQuestionsModel", name := "habit", desc := "()I" } : Jvm.MethodName) ({ cls := "LostQuestionsModel", name := "habit", desc := "()I" } : Jvm.MethodName)) ∈ lw_all := lw_g (lw_at lw_m6 102 rfl) rfl
theorem q1376 : (Jvm.Cond.code ({ cls := "LostQuestionsModel", name := "habit", desc := "()I" } : Jvm.MethodName) prog_10_method_76_code (6 : Nat) (Option.some Jvm.ClassFile.FieldType.int)) ∈ lw_all := lw_g (lw_at lw_m6 103 rfl) rfl
theorem q1377 : (Jvm.Cond.methodLink "LostQuestionsModel" (210 : Nat) ({ cls := "LostQuestionsModel", name := "lying", desc := "(II)I" } : Jvm.MethodName)) ∈ lw_all := lw_g (lw_at lw_m6 104 rfl) rfl
theorem q1378 : (Jvm.Cond.privateMethod ({ cls := "LostQuestionsModel", name := "lying", desc := "(II)I" } : Jvm.MethodName)) ∈ lw_tbl := lw_at lw_m6 105 rfl
theorem q1379 : (Jvm.Cond.instanceMethod ({ cls := "LostQuestionsModel", name := "lying", desc := "(II)I" } : Jvm.MethodName)) ∈ lw_all := lw_g (lw_at lw_m6 106 rfl) rfl
theorem q1380 : (Jvm.Cond.code ({ cls := "LostQuestionsModel", name := "lying", desc := "(II)I" } : Jvm.MethodName) prog_10_method_75_code (5 : Nat) (Option.some Jvm.ClassFile.FieldType.int)) ∈ lw_all := lw_g (lw_at lw_m6 107 rfl) rfl
theorem q1382 : (Jvm.Cond.instanceMethod ({ cls := "LostQuestionsModel", name := "order", desc := "()I" } : Jvm.MethodName)) ∈ lw_all := lw_g (lw_at lw_m6 109 rfl) rfl
theorem q1383 : (Jvm.Cond.selects "LostQuestionsModel" ({ cls := "LostQuestionsModel", name := "order", desc := "()I" } : Jvm.MethodName) ({ cls := "LostQuestionsModel", name := "order", desc := "()I" } : Jvm.MethodName)) ∈ lw_all := lw_g (lw_at lw_m6 110 rfl) rfl
theorem q1384 : (Jvm.Cond.code ({ cls := "LostQuestionsModel", name := "order", desc := "()I" } : Jvm.MethodName) prog_10_method_77_code (9 : Nat) (Option.some Jvm.ClassFile.FieldType.int)) ∈ lw_all := lw_g (lw_at lw_m6 111 rfl) rfl
theorem q1386 : (Jvm.Cond.instanceMethod ({ cls := "LostQuestionsModel", name := "byAge", desc := "(I)I" } : Jvm.MethodName)) ∈ lw_all := lw_g (lw_at lw_m6 113 rfl) rfl
theorem q1387 : (Jvm.Cond.selects "LostQuestionsModel" ({ cls := "LostQuestionsModel", name := "byAge", desc := "(I)I" } : Jvm.MethodName) ({ cls := "LostQuestionsModel", name := "byAge", desc := "(I)I" } : Jvm.MethodName)) ∈ lw_all := lw_g (lw_at lw_m6 114 rfl) rfl
theorem q1388 : (Jvm.Cond.code ({ cls := "LostQuestionsModel", name := "byAge", desc := "(I)I" } : Jvm.MethodName) prog_10_method_78_code (6 : Nat) (Option.some Jvm.ClassFile.FieldType.int)) ∈ lw_all := lw_g (lw_at lw_m6 115 rfl) rfl
theorem q1390 : (Jvm.Cond.instanceMethod ({ cls := "LostQuestionsModel", name := "lots", desc := "(II)I" } : Jvm.MethodName)) ∈ lw_all := lw_g (lw_at lw_m6 117 rfl) rfl
theorem q1391 : (Jvm.Cond.selects "LostQuestionsModel" ({ cls := "LostQuestionsModel", name := "lots", desc := "(II)I" } : Jvm.MethodName) ({ cls := "LostQuestionsModel", name := "lots", desc := "(II)I" } : Jvm.MethodName)) ∈ lw_all := lw_g (lw_at lw_m6 118 rfl) rfl
theorem q1392 : (Jvm.Cond.code ({ cls := "LostQuestionsModel", name := "lots", desc := "(II)I" } : Jvm.MethodName) prog_10_method_79_code (11 : Nat) (Option.some Jvm.ClassFile.FieldType.int)) ∈ lw_all := lw_g (lw_at lw_m6 119 rfl) rfl
theorem q1393 : (Jvm.Cond.constantLong "LostQuestionsModel" (213 : Nat) (20 : Int64)) ∈ lw_all := lw_g (lw_at lw_m6 120 rfl) rfl
theorem q1394 : (Jvm.Cond.constantLong "LostQuestionsModel" (215 : Nat) (2147483646 : Int64)) ∈ lw_all := lw_g (lw_at lw_m6 121 rfl) rfl
theorem q1395 : (Jvm.Cond.constantLong "LostQuestionsModel" (217 : Nat) (48271 : Int64)) ∈ lw_all := lw_g (lw_at lw_m6 122 rfl) rfl
theorem q1396 : (Jvm.Cond.constantLong "LostQuestionsModel" (219 : Nat) (2147483647 : Int64)) ∈ lw_all := lw_g (lw_at lw_m6 123 rfl) rfl
theorem q1397 : (Jvm.Cond.constantLong "LostQuestionsModel" (221 : Nat) (64 : Int64)) ∈ lw_all := lw_g (lw_at lw_m6 124 rfl) rfl
theorem q1399 : (Jvm.Cond.instanceMethod ({ cls := "LostQuestionsModel", name := "asked", desc := "()I" } : Jvm.MethodName)) ∈ lw_all := lw_g (lw_at lw_m6 126 rfl) rfl
theorem q1400 : (Jvm.Cond.selects "LostQuestionsModel" ({ cls := "LostQuestionsModel", name := "asked", desc := "()I" } : Jvm.MethodName) ({ cls := "LostQuestionsModel", name := "asked", desc := "()I" } : Jvm.MethodName)) ∈ lw_all := lw_g (lw_at lw_m6 127 rfl) rfl
theorem q1401 : (Jvm.Cond.code ({ cls := "LostQuestionsModel", name := "asked", desc := "()I" } : Jvm.MethodName) prog_10_method_80_code (1 : Nat) (Option.some Jvm.ClassFile.FieldType.int)) ∈ lw_all := lw_g (lw_at lw_m6 128 rfl) rfl
theorem q1403 : (Jvm.Cond.instanceMethod ({ cls := "LostQuestionsModel", name := "upper", desc := "()J" } : Jvm.MethodName)) ∈ lw_all := lw_g (lw_at lw_m6 130 rfl) rfl
theorem q1404 : (Jvm.Cond.selects "LostQuestionsModel" ({ cls := "LostQuestionsModel", name := "upper", desc := "()J" } : Jvm.MethodName) ({ cls := "LostQuestionsModel", name := "upper", desc := "()J" } : Jvm.MethodName)) ∈ lw_all := lw_g (lw_at lw_m6 131 rfl) rfl
theorem q1405 : (Jvm.Cond.code ({ cls := "LostQuestionsModel", name := "upper", desc := "()J" } : Jvm.MethodName) prog_10_method_81_code (1 : Nat) (Option.some Jvm.ClassFile.FieldType.long)) ∈ lw_all := lw_g (lw_at lw_m6 132 rfl) rfl
theorem q1407 : (Jvm.Cond.instanceMethod ({ cls := "LostQuestionsModel", name := "lower", desc := "()J" } : Jvm.MethodName)) ∈ lw_all := lw_g (lw_at lw_m6 134 rfl) rfl
theorem q1408 : (Jvm.Cond.selects "LostQuestionsModel" ({ cls := "LostQuestionsModel", name := "lower", desc := "()J" } : Jvm.MethodName) ({ cls := "LostQuestionsModel", name := "lower", desc := "()J" } : Jvm.MethodName)) ∈ lw_all := lw_g (lw_at lw_m6 135 rfl) rfl
theorem q1409 : (Jvm.Cond.code ({ cls := "LostQuestionsModel", name := "lower", desc := "()J" } : Jvm.MethodName) prog_10_method_82_code (1 : Nat) (Option.some Jvm.ClassFile.FieldType.long)) ∈ lw_all := lw_g (lw_at lw_m6 136 rfl) rfl
theorem q1411 : (Jvm.Cond.instanceMethod ({ cls := "LostQuestionsModel", name := "count", desc := "(I)I" } : Jvm.MethodName)) ∈ lw_all := lw_g (lw_at lw_m6 138 rfl) rfl
theorem q1412 : (Jvm.Cond.selects "LostQuestionsModel" ({ cls := "LostQuestionsModel", name := "count", desc := "(I)I" } : Jvm.MethodName) ({ cls := "LostQuestionsModel", name := "count", desc := "(I)I" } : Jvm.MethodName)) ∈ lw_all := lw_g (lw_at lw_m6 139 rfl) rfl
theorem q1413 : (Jvm.Cond.code ({ cls := "LostQuestionsModel", name := "count", desc := "(I)I" } : Jvm.MethodName) prog_10_method_84_code (2 : Nat) (Option.some Jvm.ClassFile.FieldType.int)) ∈ lw_all := lw_g (lw_at lw_m6 140 rfl) rfl
theorem q1414 : (Jvm.Cond.constantLong "LostQuestionsModel" (223 : Nat) (8 : Int64)) ∈ lw_all := lw_g (lw_at lw_m6 141 rfl) rfl
theorem q1415 : (Jvm.Cond.methodLink "LostQuestionsModel" (225 : Nat) ({ cls := "LostQuestionsModel", name := "counted", desc := "(I)I" } : Jvm.MethodName)) ∈ lw_all := lw_g (lw_at lw_m6 142 rfl) rfl
theorem q1416 : (Jvm.Cond.privateMethod ({ cls := "LostQuestionsModel", name := "counted", desc := "(I)I" } : Jvm.MethodName)) ∈ lw_tbl := lw_at lw_m6 143 rfl
theorem q1417 : (Jvm.Cond.instanceMethod ({ cls := "LostQuestionsModel", name := "counted", desc := "(I)I" } : Jvm.MethodName)) ∈ lw_all := lw_g (lw_at lw_m6 144 rfl) rfl
theorem q1418 : (Jvm.Cond.code ({ cls := "LostQuestionsModel", name := "counted", desc := "(I)I" } : Jvm.MethodName) prog_10_method_83_code (4 : Nat) (Option.some Jvm.ClassFile.FieldType.int)) ∈ lw_all := lw_g (lw_at lw_m6 145 rfl) rfl
theorem q1420 : (Jvm.Cond.instanceMethod ({ cls := "LostQuestionsModel", name := "finding", desc := "()I" } : Jvm.MethodName)) ∈ lw_all := lw_g (lw_at lw_m6 147 rfl) rfl
theorem q1421 : (Jvm.Cond.selects "LostQuestionsModel" ({ cls := "LostQuestionsModel", name := "finding", desc := "()I" } : Jvm.MethodName) ({ cls := "LostQuestionsModel", name := "finding", desc := "()I" } : Jvm.MethodName)) ∈ lw_all := lw_g (lw_at lw_m6 148 rfl) rfl
theorem q1422 : (Jvm.Cond.code ({ cls := "LostQuestionsModel", name := "finding", desc := "()I" } : Jvm.MethodName) prog_10_method_85_code (1 : Nat) (Option.some Jvm.ClassFile.FieldType.int)) ∈ lw_all := lw_g (lw_at lw_m6 149 rfl) rfl
theorem q1424 : (Jvm.Cond.instanceMethod ({ cls := "LostQuestionsModel", name := "findings", desc := "(I)I" } : Jvm.MethodName)) ∈ lw_all := lw_g (lw_at lw_m6 151 rfl) rfl
theorem q1425 : (Jvm.Cond.selects "LostQuestionsModel" ({ cls := "LostQuestionsModel", name := "findings", desc := "(I)I" } : Jvm.MethodName) ({ cls := "LostQuestionsModel", name := "findings", desc := "(I)I" } : Jvm.MethodName)) ∈ lw_all := lw_g (lw_at lw_m6 152 rfl) rfl
theorem q1426 : (Jvm.Cond.code ({ cls := "LostQuestionsModel", name := "findings", desc := "(I)I" } : Jvm.MethodName) prog_10_method_86_code (2 : Nat) (Option.some Jvm.ClassFile.FieldType.int)) ∈ lw_all := lw_g (lw_at lw_m6 153 rfl) rfl
theorem q1428 : (Jvm.Cond.instanceMethod ({ cls := "LostQuestionsModel", name := "digest", desc := "()J" } : Jvm.MethodName)) ∈ lw_all := lw_g (lw_at lw_m6 155 rfl) rfl
theorem q1429 : (Jvm.Cond.selects "LostQuestionsModel" ({ cls := "LostQuestionsModel", name := "digest", desc := "()J" } : Jvm.MethodName) ({ cls := "LostQuestionsModel", name := "digest", desc := "()J" } : Jvm.MethodName)) ∈ lw_all := lw_g (lw_at lw_m6 156 rfl) rfl
theorem q1430 : (Jvm.Cond.code ({ cls := "LostQuestionsModel", name := "digest", desc := "()J" } : Jvm.MethodName) prog_10_method_87_code (5 : Nat) (Option.some Jvm.ClassFile.FieldType.long)) ∈ lw_all := lw_g (lw_at lw_m6 157 rfl) rfl
theorem q1431 : (Jvm.Cond.constantLong "LostQuestionsModel" (228 : Nat) (17 : Int64)) ∈ lw_all := lw_g (lw_at lw_m6 158 rfl) rfl
theorem q1432 : (Jvm.Cond.constantLong "LostQuestionsModel" (230 : Nat) (31 : Int64)) ∈ lw_all := lw_g (lw_at lw_m6 159 rfl) rfl
theorem in_X1 : ∀ w ∈ wsX10, w ∈ lw_all := lw_in wsX10 [1041, 1043, 1045, 1047, 1049, 1051, 1053, 1055, 1057, 1059, 1061, 1063, 1065, 1067, 1069, 1071, 1073, 1075, 1077, 1079, 1081] (by decide +kernel) (by decide +kernel)
