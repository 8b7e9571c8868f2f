/-! LostQuestions -/
set_option maxRecDepth 100000
def RX0 : String := "LostQuestions"
def TX0 : u_T := fun k => match k with
  | 0 => ("LostQuestions", "finding", "I", false)
  | 1 => ("LostQuestions", "findings", "[I", true)
  | 2 => ("LostQuestions", "asked", "I", false)
  | 3 => ("LostQuestions", "upper", "J", false)
  | 4 => ("LostQuestions", "lower", "J", false)
  | 5 => ("LostQuestions", "rows", "[[I", true)
  | 6 => ("LostQuestions", "texts", "[[B", true)
  | 7 => ("LostQuestions", "many", "I", false)
  | 8 => ("LostQuestions", "cards", "[LLostQuestions$Card;", true)
  | 9 => ("LostQuestions", "askMany", "I", false)
  | 10 => ("LostQuestions", "asks", "[I", true)
  | 11 => ("LostQuestions", "truths", "[I", true)
  | 12 => ("LostQuestions", "by", "[I", true)
  | 13 => ("LostQuestions", "reading", "[B", false)
  | 14 => ("LostQuestions", "readAt", "I", false)
  | 15 => ("LostQuestions", "readMany", "I", false)
  | 16 => ("LostQuestions", "readCards", "[I", true)
  | 17 => ("LostQuestions", "readAsks", "I", false)
  | 18 => ("LostQuestions", "readAsk", "[I", true)
  | 19 => ("LostQuestions", "takingMany", "I", false)
  | 20 => ("LostQuestions", "takings", "[I", true)
  | 21 => ("LostQuestions", "ahead", "[I", true)
  | 22 => ("LostQuestions", "kept", "[LLostQuestions$Kept;", true)
  | 23 => ("LostQuestions", "pairs", "[I", true)
  | 24 => ("LostQuestions", "bestPairs", "[I", true)
  | 25 => ("LostQuestions", "bestWorth", "I", false)
  | 26 => ("LostQuestions", "fullMany", "I", false)
  | 27 => ("LostQuestions", "fullWith", "[I", true)
  | 28 => ("LostQuestions", "steps", "[I", true)
  | _ => ("LostQuestions", "h0", "J", false)
def tyX0 : Nat → FieldType := fun k => match k with
  | 0 => .int
  | 1 => .array .int
  | 2 => .int
  | 3 => .long
  | 4 => .long
  | 5 => .array (.array .int)
  | 6 => .array (.array .byte)
  | 7 => .int
  | 8 => .array (.object "LostQuestions$Card")
  | 9 => .int
  | 10 => .array .int
  | 11 => .array .int
  | 12 => .array .int
  | 13 => .array .byte
  | 14 => .int
  | 15 => .int
  | 16 => .array .int
  | 17 => .int
  | 18 => .array .int
  | 19 => .int
  | 20 => .array .int
  | 21 => .array .int
  | 22 => .array (.object "LostQuestions$Kept")
  | 23 => .array .int
  | 24 => .array .int
  | 25 => .int
  | 26 => .int
  | 27 => .array .int
  | 28 => .array .int
  | _ => .long
abbrev wsX00 : List Cond := u_ws RX0 TX0 30
set_option maxRecDepth 100000 in
theorem nmX0 : ∀ a, a < 30 → ∀ b, b < 30 → a ≠ b → (TX0 a).2.1 ≠ (TX0 b).2.1 := by decide +kernel
set_option maxRecDepth 100000 in
theorem tyX0_ok : ∀ k, k < 30 → parseFieldDescriptor (TX0 k).2.2.1 = some (tyX0 k) := by decide +kernel
abbrev cX0_init : ByteArray := prog_1_method_6_code
def yX0_init : MethodName := ⟨RX0, "<init>", "()V"⟩
def dkwX0_init_6 : List UInt8 := [181, 0, 80, 42, 3, 181, 0, 83, 177]
abbrev dktX0_init_6 : List UInt8 := dkwX0_init_6 ++ []
def dkwX0_init_5 : List UInt8 := [42, 16, 7, 188, 10, 181, 0, 74, 42, 16, 49, 188, 10, 181, 0, 77, 42, 17, 0, 128, 188, 10]
abbrev dktX0_init_5 : List UInt8 := dkwX0_init_5 ++ dktX0_init_6
def dkwX0_init_4 : List UInt8 := [17, 1, 24, 188, 10, 181, 0, 62, 42, 6, 189, 0, 65, 181, 0, 67, 42, 16, 7, 188, 10, 181, 0, 71]
abbrev dktX0_init_4 : List UInt8 := dkwX0_init_4 ++ dktX0_init_5
def dkwX0_init_3 : List UInt8 := [188, 10, 181, 0, 53, 42, 16, 28, 188, 10, 181, 0, 56, 42, 16, 40, 188, 10, 181, 0, 59, 42]
abbrev dktX0_init_3 : List UInt8 := dkwX0_init_3 ++ dktX0_init_4
def dkwX0_init_2 : List UInt8 := [188, 10, 181, 0, 44, 42, 16, 7, 188, 10, 181, 0, 47, 42, 16, 7, 188, 10, 181, 0, 50, 42, 16, 28]
abbrev dktX0_init_2 : List UInt8 := dkwX0_init_2 ++ dktX0_init_3
def dkwX0_init_1 : List UInt8 := [181, 0, 28, 42, 7, 189, 0, 32, 181, 0, 34, 42, 16, 7, 189, 0, 38, 181, 0, 40, 42, 16, 28]
abbrev dktX0_init_1 : List UInt8 := dkwX0_init_1 ++ dktX0_init_2
def dkwX0_init_0 : List UInt8 := [42, 183, 0, 21, 42, 16, 6, 188, 10, 181, 0, 7, 42, 10, 181, 0, 18, 42, 16, 6, 189, 0, 27]
abbrev dktX0_init_0 : List UInt8 := dkwX0_init_0 ++ dktX0_init_1
theorem dksX0_init_0 : cX0_init.data.toList.drop 0 = dktX0_init_0 := by decide +kernel
theorem dksX0_init_1 : cX0_init.data.toList.drop 23 = dktX0_init_1 := dk_seg dksX0_init_0 23 rfl rfl
theorem dksX0_init_2 : cX0_init.data.toList.drop 46 = dktX0_init_2 := dk_seg dksX0_init_1 23 rfl rfl
theorem dksX0_init_3 : cX0_init.data.toList.drop 70 = dktX0_init_3 := dk_seg dksX0_init_2 24 rfl rfl
theorem dksX0_init_4 : cX0_init.data.toList.drop 92 = dktX0_init_4 := dk_seg dksX0_init_3 22 rfl rfl
theorem dksX0_init_5 : cX0_init.data.toList.drop 116 = dktX0_init_5 := dk_seg dksX0_init_4 24 rfl rfl
theorem dksX0_init_6 : cX0_init.data.toList.drop 138 = dktX0_init_6 := dk_seg dksX0_init_5 22 rfl rfl
theorem dX0_init_0 : decode cX0_init 0 = .ok (.aload_n 0, 1) := dk_42 (dk_at dksX0_init_0 0 rfl rfl)
theorem dX0_init_1 : decode cX0_init 1 = .ok (.invokespecial 21, 3) := dk_183 0 21 (dk_at dksX0_init_0 1 rfl rfl)
theorem dX0_init_4 : decode cX0_init 4 = .ok (.aload_n 0, 1) := dk_42 (dk_at dksX0_init_0 4 rfl rfl)
theorem dX0_init_5 : decode cX0_init 5 = .ok (.bipush 6, 2) := dk_16 6 (dk_at dksX0_init_0 5 rfl rfl)
theorem dX0_init_7 : decode cX0_init 7 = .ok (.newarray .int, 2) := dk_188_10 (dk_at dksX0_init_0 7 rfl rfl)
theorem dX0_init_9 : decode cX0_init 9 = .ok (.putfield 7, 3) := dk_181 0 7 (dk_at dksX0_init_0 9 rfl rfl)
theorem dX0_init_12 : decode cX0_init 12 = .ok (.aload_n 0, 1) := dk_42 (dk_at dksX0_init_0 12 rfl rfl)
theorem dX0_init_13 : decode cX0_init 13 = .ok (.lconst 1, 1) := dk_10 (dk_at dksX0_init_0 13 rfl rfl)
theorem dX0_init_14 : decode cX0_init 14 = .ok (.putfield 18, 3) := dk_181 0 18 (dk_at dksX0_init_0 14 rfl rfl)
theorem dX0_init_17 : decode cX0_init 17 = .ok (.aload_n 0, 1) := dk_42 (dk_at dksX0_init_0 17 rfl rfl)
theorem dX0_init_18 : decode cX0_init 18 = .ok (.bipush 6, 2) := dk_16 6 (dk_at dksX0_init_0 18 rfl rfl)
theorem dX0_init_20 : decode cX0_init 20 = .ok (.anewarray 27, 3) := dk_189 0 27 (dk_at dksX0_init_0 20 rfl rfl)
theorem dX0_init_23 : decode cX0_init 23 = .ok (.putfield 28, 3) := dk_181 0 28 (dk_at dksX0_init_1 0 rfl rfl)
theorem dX0_init_26 : decode cX0_init 26 = .ok (.aload_n 0, 1) := dk_42 (dk_at dksX0_init_1 3 rfl rfl)
theorem dX0_init_27 : decode cX0_init 27 = .ok (.iconst 4, 1) := dk_7 (dk_at dksX0_init_1 4 rfl rfl)
theorem dX0_init_28 : decode cX0_init 28 = .ok (.anewarray 32, 3) := dk_189 0 32 (dk_at dksX0_init_1 5 rfl rfl)
theorem dX0_init_31 : decode cX0_init 31 = .ok (.putfield 34, 3) := dk_181 0 34 (dk_at dksX0_init_1 8 rfl rfl)
theorem dX0_init_34 : decode cX0_init 34 = .ok (.aload_n 0, 1) := dk_42 (dk_at dksX0_init_1 11 rfl rfl)
theorem dX0_init_35 : decode cX0_init 35 = .ok (.bipush 7, 2) := dk_16 7 (dk_at dksX0_init_1 12 rfl rfl)
theorem dX0_init_37 : decode cX0_init 37 = .ok (.anewarray 38, 3) := dk_189 0 38 (dk_at dksX0_init_1 14 rfl rfl)
theorem dX0_init_40 : decode cX0_init 40 = .ok (.putfield 40, 3) := dk_181 0 40 (dk_at dksX0_init_1 17 rfl rfl)
theorem dX0_init_43 : decode cX0_init 43 = .ok (.aload_n 0, 1) := dk_42 (dk_at dksX0_init_1 20 rfl rfl)
theorem dX0_init_44 : decode cX0_init 44 = .ok (.bipush 28, 2) := dk_16 28 (dk_at dksX0_init_1 21 rfl rfl)
theorem dX0_init_46 : decode cX0_init 46 = .ok (.newarray .int, 2) := dk_188_10 (dk_at dksX0_init_2 0 rfl rfl)
theorem dX0_init_48 : decode cX0_init 48 = .ok (.putfield 44, 3) := dk_181 0 44 (dk_at dksX0_init_2 2 rfl rfl)
theorem dX0_init_51 : decode cX0_init 51 = .ok (.aload_n 0, 1) := dk_42 (dk_at dksX0_init_2 5 rfl rfl)
theorem dX0_init_52 : decode cX0_init 52 = .ok (.bipush 7, 2) := dk_16 7 (dk_at dksX0_init_2 6 rfl rfl)
theorem dX0_init_54 : decode cX0_init 54 = .ok (.newarray .int, 2) := dk_188_10 (dk_at dksX0_init_2 8 rfl rfl)
theorem dX0_init_56 : decode cX0_init 56 = .ok (.putfield 47, 3) := dk_181 0 47 (dk_at dksX0_init_2 10 rfl rfl)
theorem dX0_init_59 : decode cX0_init 59 = .ok (.aload_n 0, 1) := dk_42 (dk_at dksX0_init_2 13 rfl rfl)
theorem dX0_init_60 : decode cX0_init 60 = .ok (.bipush 7, 2) := dk_16 7 (dk_at dksX0_init_2 14 rfl rfl)
theorem dX0_init_62 : decode cX0_init 62 = .ok (.newarray .int, 2) := dk_188_10 (dk_at dksX0_init_2 16 rfl rfl)
theorem dX0_init_64 : decode cX0_init 64 = .ok (.putfield 50, 3) := dk_181 0 50 (dk_at dksX0_init_2 18 rfl rfl)
theorem dX0_init_67 : decode cX0_init 67 = .ok (.aload_n 0, 1) := dk_42 (dk_at dksX0_init_2 21 rfl rfl)
theorem dX0_init_68 : decode cX0_init 68 = .ok (.bipush 28, 2) := dk_16 28 (dk_at dksX0_init_2 22 rfl rfl)
theorem dX0_init_70 : decode cX0_init 70 = .ok (.newarray .int, 2) := dk_188_10 (dk_at dksX0_init_3 0 rfl rfl)
theorem dX0_init_72 : decode cX0_init 72 = .ok (.putfield 53, 3) := dk_181 0 53 (dk_at dksX0_init_3 2 rfl rfl)
theorem dX0_init_75 : decode cX0_init 75 = .ok (.aload_n 0, 1) := dk_42 (dk_at dksX0_init_3 5 rfl rfl)
theorem dX0_init_76 : decode cX0_init 76 = .ok (.bipush 28, 2) := dk_16 28 (dk_at dksX0_init_3 6 rfl rfl)
theorem dX0_init_78 : decode cX0_init 78 = .ok (.newarray .int, 2) := dk_188_10 (dk_at dksX0_init_3 8 rfl rfl)
theorem dX0_init_80 : decode cX0_init 80 = .ok (.putfield 56, 3) := dk_181 0 56 (dk_at dksX0_init_3 10 rfl rfl)
theorem dX0_init_83 : decode cX0_init 83 = .ok (.aload_n 0, 1) := dk_42 (dk_at dksX0_init_3 13 rfl rfl)
theorem dX0_init_84 : decode cX0_init 84 = .ok (.bipush 40, 2) := dk_16 40 (dk_at dksX0_init_3 14 rfl rfl)
theorem dX0_init_86 : decode cX0_init 86 = .ok (.newarray .int, 2) := dk_188_10 (dk_at dksX0_init_3 16 rfl rfl)
theorem dX0_init_88 : decode cX0_init 88 = .ok (.putfield 59, 3) := dk_181 0 59 (dk_at dksX0_init_3 18 rfl rfl)
theorem dX0_init_91 : decode cX0_init 91 = .ok (.aload_n 0, 1) := dk_42 (dk_at dksX0_init_3 21 rfl rfl)
theorem dX0_init_92 : decode cX0_init 92 = .ok (.sipush 280, 3) := dk_17 1 24 (dk_at dksX0_init_4 0 rfl rfl)
theorem dX0_init_95 : decode cX0_init 95 = .ok (.newarray .int, 2) := dk_188_10 (dk_at dksX0_init_4 3 rfl rfl)
theorem dX0_init_97 : decode cX0_init 97 = .ok (.putfield 62, 3) := dk_181 0 62 (dk_at dksX0_init_4 5 rfl rfl)
theorem dX0_init_100 : decode cX0_init 100 = .ok (.aload_n 0, 1) := dk_42 (dk_at dksX0_init_4 8 rfl rfl)
theorem dX0_init_101 : decode cX0_init 101 = .ok (.iconst 3, 1) := dk_6 (dk_at dksX0_init_4 9 rfl rfl)
theorem dX0_init_102 : decode cX0_init 102 = .ok (.anewarray 65, 3) := dk_189 0 65 (dk_at dksX0_init_4 10 rfl rfl)
theorem dX0_init_105 : decode cX0_init 105 = .ok (.putfield 67, 3) := dk_181 0 67 (dk_at dksX0_init_4 13 rfl rfl)
theorem dX0_init_108 : decode cX0_init 108 = .ok (.aload_n 0, 1) := dk_42 (dk_at dksX0_init_4 16 rfl rfl)
theorem dX0_init_109 : decode cX0_init 109 = .ok (.bipush 7, 2) := dk_16 7 (dk_at dksX0_init_4 17 rfl rfl)
theorem dX0_init_111 : decode cX0_init 111 = .ok (.newarray .int, 2) := dk_188_10 (dk_at dksX0_init_4 19 rfl rfl)
theorem dX0_init_113 : decode cX0_init 113 = .ok (.putfield 71, 3) := dk_181 0 71 (dk_at dksX0_init_4 21 rfl rfl)
theorem dX0_init_116 : decode cX0_init 116 = .ok (.aload_n 0, 1) := dk_42 (dk_at dksX0_init_5 0 rfl rfl)
theorem dX0_init_117 : decode cX0_init 117 = .ok (.bipush 7, 2) := dk_16 7 (dk_at dksX0_init_5 1 rfl rfl)
theorem dX0_init_119 : decode cX0_init 119 = .ok (.newarray .int, 2) := dk_188_10 (dk_at dksX0_init_5 3 rfl rfl)
theorem dX0_init_121 : decode cX0_init 121 = .ok (.putfield 74, 3) := dk_181 0 74 (dk_at dksX0_init_5 5 rfl rfl)
theorem dX0_init_124 : decode cX0_init 124 = .ok (.aload_n 0, 1) := dk_42 (dk_at dksX0_init_5 8 rfl rfl)
theorem dX0_init_125 : decode cX0_init 125 = .ok (.bipush 49, 2) := dk_16 49 (dk_at dksX0_init_5 9 rfl rfl)
theorem dX0_init_127 : decode cX0_init 127 = .ok (.newarray .int, 2) := dk_188_10 (dk_at dksX0_init_5 11 rfl rfl)
theorem dX0_init_129 : decode cX0_init 129 = .ok (.putfield 77, 3) := dk_181 0 77 (dk_at dksX0_init_5 13 rfl rfl)
theorem dX0_init_132 : decode cX0_init 132 = .ok (.aload_n 0, 1) := dk_42 (dk_at dksX0_init_5 16 rfl rfl)
theorem dX0_init_133 : decode cX0_init 133 = .ok (.sipush 128, 3) := dk_17 0 128 (dk_at dksX0_init_5 17 rfl rfl)
theorem dX0_init_136 : decode cX0_init 136 = .ok (.newarray .int, 2) := dk_188_10 (dk_at dksX0_init_5 20 rfl rfl)
theorem dX0_init_138 : decode cX0_init 138 = .ok (.putfield 80, 3) := dk_181 0 80 (dk_at dksX0_init_6 0 rfl rfl)
theorem dX0_init_141 : decode cX0_init 141 = .ok (.aload_n 0, 1) := dk_42 (dk_at dksX0_init_6 3 rfl rfl)
theorem dX0_init_142 : decode cX0_init 142 = .ok (.iconst 0, 1) := dk_3 (dk_at dksX0_init_6 4 rfl rfl)
theorem dX0_init_143 : decode cX0_init 143 = .ok (.putfield 83, 3) := dk_181 0 83 (dk_at dksX0_init_6 5 rfl rfl)
theorem dX0_init_146 : decode cX0_init 146 = .ok (.return_, 1) := dk_177 (dk_at dksX0_init_6 8 rfl rfl)
abbrev cX0_row : ByteArray := prog_1_method_9_code
def yX0_row : MethodName := ⟨RX0, "row", "(II)I"⟩
def dkwX0_row_1 : List UInt8 := [28, 172, 78, 42, 8, 182, 0, 96, 172]
abbrev dktX0_row_1 : List UInt8 := dkwX0_row_1 ++ []
def dkwX0_row_0 : List UInt8 := [27, 184, 0, 90, 153, 0, 9, 28, 16, 40, 164, 0, 5, 2, 172, 42, 180, 0, 28, 27, 28, 188, 10, 83]
abbrev dktX0_row_0 : List UInt8 := dkwX0_row_0 ++ dktX0_row_1
theorem dksX0_row_0 : cX0_row.data.toList.drop 0 = dktX0_row_0 := by decide +kernel
theorem dksX0_row_1 : cX0_row.data.toList.drop 24 = dktX0_row_1 := dk_seg dksX0_row_0 24 rfl rfl
theorem dX0_row_0 : decode cX0_row 0 = .ok (.iload_n 1, 1) := dk_27 (dk_at dksX0_row_0 0 rfl rfl)
theorem dX0_row_1 : decode cX0_row 1 = .ok (.invokestatic 90, 3) := dk_184 0 90 (dk_at dksX0_row_0 1 rfl rfl)
theorem dX0_row_4 : decode cX0_row 4 = .ok (.ifCond .eq 9, 3) := dk_153 0 9 (dk_at dksX0_row_0 4 rfl rfl)
theorem dX0_row_7 : decode cX0_row 7 = .ok (.iload_n 2, 1) := dk_28 (dk_at dksX0_row_0 7 rfl rfl)
theorem dX0_row_8 : decode cX0_row 8 = .ok (.bipush 40, 2) := dk_16 40 (dk_at dksX0_row_0 8 rfl rfl)
theorem dX0_row_10 : decode cX0_row 10 = .ok (.if_icmp .le 5, 3) := dk_164 0 5 (dk_at dksX0_row_0 10 rfl rfl)
theorem dX0_row_13 : decode cX0_row 13 = .ok (.iconst (-1), 1) := dk_2 (dk_at dksX0_row_0 13 rfl rfl)
theorem dX0_row_14 : decode cX0_row 14 = .ok (.ireturn, 1) := dk_172 (dk_at dksX0_row_0 14 rfl rfl)
theorem dX0_row_15 : decode cX0_row 15 = .ok (.aload_n 0, 1) := dk_42 (dk_at dksX0_row_0 15 rfl rfl)
theorem dX0_row_16 : decode cX0_row 16 = .ok (.getfield 28, 3) := dk_180 0 28 (dk_at dksX0_row_0 16 rfl rfl)
theorem dX0_row_19 : decode cX0_row 19 = .ok (.iload_n 1, 1) := dk_27 (dk_at dksX0_row_0 19 rfl rfl)
theorem dX0_row_20 : decode cX0_row 20 = .ok (.iload_n 2, 1) := dk_28 (dk_at dksX0_row_0 20 rfl rfl)
theorem dX0_row_21 : decode cX0_row 21 = .ok (.newarray .int, 2) := dk_188_10 (dk_at dksX0_row_0 21 rfl rfl)
theorem dX0_row_23 : decode cX0_row 23 = .ok (.aastore, 1) := dk_83 (dk_at dksX0_row_0 23 rfl rfl)
theorem dX0_row_24 : decode cX0_row 24 = .ok (.iload_n 2, 1) := dk_28 (dk_at dksX0_row_1 0 rfl rfl)
theorem dX0_row_25 : decode cX0_row 25 = .ok (.ireturn, 1) := dk_172 (dk_at dksX0_row_1 1 rfl rfl)
theorem dX0_row_26 : decode cX0_row 26 = .ok (.astore_n 3, 1) := dk_78 (dk_at dksX0_row_1 2 rfl rfl)
theorem dX0_row_27 : decode cX0_row 27 = .ok (.aload_n 0, 1) := dk_42 (dk_at dksX0_row_1 3 rfl rfl)
theorem dX0_row_28 : decode cX0_row 28 = .ok (.iconst 5, 1) := dk_8 (dk_at dksX0_row_1 4 rfl rfl)
theorem dX0_row_29 : decode cX0_row 29 = .ok (.invokevirtual 96, 3) := dk_182 0 96 (dk_at dksX0_row_1 5 rfl rfl)
theorem dX0_row_32 : decode cX0_row 32 = .ok (.ireturn, 1) := dk_172 (dk_at dksX0_row_1 8 rfl rfl)
abbrev cX0_isRow : ByteArray := prog_1_method_7_code
def yX0_isRow : MethodName := ⟨RX0, "isRow", "(I)Z"⟩
def dkwX0_isRow_0 : List UInt8 := [26, 3, 8, 184, 0, 86, 172]
abbrev dktX0_isRow_0 : List UInt8 := dkwX0_isRow_0 ++ []
theorem dksX0_isRow_0 : cX0_isRow.data.toList.drop 0 = dktX0_isRow_0 := by decide +kernel
theorem dX0_isRow_0 : decode cX0_isRow 0 = .ok (.iload_n 0, 1) := dk_26 (dk_at dksX0_isRow_0 0 rfl rfl)
theorem dX0_isRow_1 : decode cX0_isRow 1 = .ok (.iconst 0, 1) := dk_3 (dk_at dksX0_isRow_0 1 rfl rfl)
theorem dX0_isRow_2 : decode cX0_isRow 2 = .ok (.iconst 5, 1) := dk_8 (dk_at dksX0_isRow_0 2 rfl rfl)
theorem dX0_isRow_3 : decode cX0_isRow 3 = .ok (.invokestatic 86, 3) := dk_184 0 86 (dk_at dksX0_isRow_0 3 rfl rfl)
theorem dX0_isRow_6 : decode cX0_isRow 6 = .ok (.ireturn, 1) := dk_172 (dk_at dksX0_isRow_0 6 rfl rfl)
abbrev cX0_isIn : ByteArray := prog_1_method_1_code
def yX0_isIn : MethodName := ⟨RX0, "isIn", "(III)Z"⟩
def dkwX0_isIn_0 : List UInt8 := [26, 27, 161, 0, 12, 26, 28, 163, 0, 7, 4, 167, 0, 4, 3, 172]
abbrev dktX0_isIn_0 : List UInt8 := dkwX0_isIn_0 ++ []
theorem dksX0_isIn_0 : cX0_isIn.data.toList.drop 0 = dktX0_isIn_0 := by decide +kernel
theorem dX0_isIn_0 : decode cX0_isIn 0 = .ok (.iload_n 0, 1) := dk_26 (dk_at dksX0_isIn_0 0 rfl rfl)
theorem dX0_isIn_1 : decode cX0_isIn 1 = .ok (.iload_n 1, 1) := dk_27 (dk_at dksX0_isIn_0 1 rfl rfl)
theorem dX0_isIn_2 : decode cX0_isIn 2 = .ok (.if_icmp .lt 12, 3) := dk_161 0 12 (dk_at dksX0_isIn_0 2 rfl rfl)
theorem dX0_isIn_5 : decode cX0_isIn 5 = .ok (.iload_n 0, 1) := dk_26 (dk_at dksX0_isIn_0 5 rfl rfl)
theorem dX0_isIn_6 : decode cX0_isIn 6 = .ok (.iload_n 2, 1) := dk_28 (dk_at dksX0_isIn_0 6 rfl rfl)
theorem dX0_isIn_7 : decode cX0_isIn 7 = .ok (.if_icmp .gt 7, 3) := dk_163 0 7 (dk_at dksX0_isIn_0 7 rfl rfl)
theorem dX0_isIn_10 : decode cX0_isIn 10 = .ok (.iconst 1, 1) := dk_4 (dk_at dksX0_isIn_0 10 rfl rfl)
theorem dX0_isIn_11 : decode cX0_isIn 11 = .ok (.goto 4, 3) := dk_167 0 4 (dk_at dksX0_isIn_0 11 rfl rfl)
theorem dX0_isIn_14 : decode cX0_isIn 14 = .ok (.iconst 0, 1) := dk_3 (dk_at dksX0_isIn_0 14 rfl rfl)
theorem dX0_isIn_15 : decode cX0_isIn 15 = .ok (.ireturn, 1) := dk_172 (dk_at dksX0_isIn_0 15 rfl rfl)
abbrev cX0_found : ByteArray := prog_1_method_3_code
def yX0_found : MethodName := ⟨RX0, "found", "(I)I"⟩
def dkwX0_found_0 : List UInt8 := [42, 27, 181, 0, 1, 42, 180, 0, 7, 27, 92, 46, 4, 96, 79, 16, 253, 172]
abbrev dktX0_found_0 : List UInt8 := dkwX0_found_0 ++ []
theorem dksX0_found_0 : cX0_found.data.toList.drop 0 = dktX0_found_0 := by decide +kernel
theorem dX0_found_0 : decode cX0_found 0 = .ok (.aload_n 0, 1) := dk_42 (dk_at dksX0_found_0 0 rfl rfl)
theorem dX0_found_1 : decode cX0_found 1 = .ok (.iload_n 1, 1) := dk_27 (dk_at dksX0_found_0 1 rfl rfl)
theorem dX0_found_2 : decode cX0_found 2 = .ok (.putfield 1, 3) := dk_181 0 1 (dk_at dksX0_found_0 2 rfl rfl)
theorem dX0_found_5 : decode cX0_found 5 = .ok (.aload_n 0, 1) := dk_42 (dk_at dksX0_found_0 5 rfl rfl)
theorem dX0_found_6 : decode cX0_found 6 = .ok (.getfield 7, 3) := dk_180 0 7 (dk_at dksX0_found_0 6 rfl rfl)
theorem dX0_found_9 : decode cX0_found 9 = .ok (.iload_n 1, 1) := dk_27 (dk_at dksX0_found_0 9 rfl rfl)
theorem dX0_found_10 : decode cX0_found 10 = .ok (.dup2, 1) := dk_92 (dk_at dksX0_found_0 10 rfl rfl)
theorem dX0_found_11 : decode cX0_found 11 = .ok (.iaload, 1) := dk_46 (dk_at dksX0_found_0 11 rfl rfl)
theorem dX0_found_12 : decode cX0_found 12 = .ok (.iconst 1, 1) := dk_4 (dk_at dksX0_found_0 12 rfl rfl)
theorem dX0_found_13 : decode cX0_found 13 = .ok (.iadd, 1) := dk_96 (dk_at dksX0_found_0 13 rfl rfl)
theorem dX0_found_14 : decode cX0_found 14 = .ok (.iastore, 1) := dk_79 (dk_at dksX0_found_0 14 rfl rfl)
theorem dX0_found_15 : decode cX0_found 15 = .ok (.bipush (-3), 2) := dk_16 253 (dk_at dksX0_found_0 15 rfl rfl)
theorem dX0_found_17 : decode cX0_found 17 = .ok (.ireturn, 1) := dk_172 (dk_at dksX0_found_0 17 rfl rfl)
abbrev cX0_lay : ByteArray := prog_1_method_10_code
def yX0_lay : MethodName := ⟨RX0, "lay", "(III)I"⟩
def dkwX0_lay_1 : List UInt8 := [21, 4, 172]
abbrev dktX0_lay_1 : List UInt8 := dkwX0_lay_1 ++ []
def dkwX0_lay_0 : List UInt8 := [42, 27, 28, 182, 0, 100, 54, 4, 21, 4, 4, 160, 0, 12, 42, 180, 0, 28, 27, 50, 28, 29, 79]
abbrev dktX0_lay_0 : List UInt8 := dkwX0_lay_0 ++ dktX0_lay_1
theorem dksX0_lay_0 : cX0_lay.data.toList.drop 0 = dktX0_lay_0 := by decide +kernel
theorem dksX0_lay_1 : cX0_lay.data.toList.drop 23 = dktX0_lay_1 := dk_seg dksX0_lay_0 23 rfl rfl
theorem dX0_lay_0 : decode cX0_lay 0 = .ok (.aload_n 0, 1) := dk_42 (dk_at dksX0_lay_0 0 rfl rfl)
theorem dX0_lay_1 : decode cX0_lay 1 = .ok (.iload_n 1, 1) := dk_27 (dk_at dksX0_lay_0 1 rfl rfl)
theorem dX0_lay_2 : decode cX0_lay 2 = .ok (.iload_n 2, 1) := dk_28 (dk_at dksX0_lay_0 2 rfl rfl)
theorem dX0_lay_3 : decode cX0_lay 3 = .ok (.invokevirtual 100, 3) := dk_182 0 100 (dk_at dksX0_lay_0 3 rfl rfl)
theorem dX0_lay_6 : decode cX0_lay 6 = .ok (.istore 4, 2) := dk_54 4 (dk_at dksX0_lay_0 6 rfl rfl)
theorem dX0_lay_8 : decode cX0_lay 8 = .ok (.iload 4, 2) := dk_21 4 (dk_at dksX0_lay_0 8 rfl rfl)
theorem dX0_lay_10 : decode cX0_lay 10 = .ok (.iconst 1, 1) := dk_4 (dk_at dksX0_lay_0 10 rfl rfl)
theorem dX0_lay_11 : decode cX0_lay 11 = .ok (.if_icmp .ne 12, 3) := dk_160 0 12 (dk_at dksX0_lay_0 11 rfl rfl)
theorem dX0_lay_14 : decode cX0_lay 14 = .ok (.aload_n 0, 1) := dk_42 (dk_at dksX0_lay_0 14 rfl rfl)
theorem dX0_lay_15 : decode cX0_lay 15 = .ok (.getfield 28, 3) := dk_180 0 28 (dk_at dksX0_lay_0 15 rfl rfl)
theorem dX0_lay_18 : decode cX0_lay 18 = .ok (.iload_n 1, 1) := dk_27 (dk_at dksX0_lay_0 18 rfl rfl)
theorem dX0_lay_19 : decode cX0_lay 19 = .ok (.aaload, 1) := dk_50 (dk_at dksX0_lay_0 19 rfl rfl)
theorem dX0_lay_20 : decode cX0_lay 20 = .ok (.iload_n 2, 1) := dk_28 (dk_at dksX0_lay_0 20 rfl rfl)
theorem dX0_lay_21 : decode cX0_lay 21 = .ok (.iload_n 3, 1) := dk_29 (dk_at dksX0_lay_0 21 rfl rfl)
theorem dX0_lay_22 : decode cX0_lay 22 = .ok (.iastore, 1) := dk_79 (dk_at dksX0_lay_0 22 rfl rfl)
theorem dX0_lay_23 : decode cX0_lay 23 = .ok (.iload 4, 2) := dk_21 4 (dk_at dksX0_lay_1 0 rfl rfl)
theorem dX0_lay_25 : decode cX0_lay 25 = .ok (.ireturn, 1) := dk_172 (dk_at dksX0_lay_1 2 rfl rfl)
abbrev cX0_at : ByteArray := prog_1_method_11_code
def yX0_at : MethodName := ⟨RX0, "at", "(II)I"⟩
def dkwX0_at_1 : List UInt8 := [42, 4, 182, 0, 96, 172, 78, 42, 5, 182, 0, 96, 172]
abbrev dktX0_at_1 : List UInt8 := dkwX0_at_1 ++ []
def dkwX0_at_0 : List UInt8 := [27, 184, 0, 90, 154, 0, 5, 2, 172, 42, 42, 180, 0, 28, 27, 50, 28, 46, 4, 182, 0, 104, 172, 78]
abbrev dktX0_at_0 : List UInt8 := dkwX0_at_0 ++ dktX0_at_1
theorem dksX0_at_0 : cX0_at.data.toList.drop 0 = dktX0_at_0 := by decide +kernel
theorem dksX0_at_1 : cX0_at.data.toList.drop 24 = dktX0_at_1 := dk_seg dksX0_at_0 24 rfl rfl
theorem dX0_at_0 : decode cX0_at 0 = .ok (.iload_n 1, 1) := dk_27 (dk_at dksX0_at_0 0 rfl rfl)
theorem dX0_at_1 : decode cX0_at 1 = .ok (.invokestatic 90, 3) := dk_184 0 90 (dk_at dksX0_at_0 1 rfl rfl)
theorem dX0_at_4 : decode cX0_at 4 = .ok (.ifCond .ne 5, 3) := dk_154 0 5 (dk_at dksX0_at_0 4 rfl rfl)
theorem dX0_at_7 : decode cX0_at 7 = .ok (.iconst (-1), 1) := dk_2 (dk_at dksX0_at_0 7 rfl rfl)
theorem dX0_at_8 : decode cX0_at 8 = .ok (.ireturn, 1) := dk_172 (dk_at dksX0_at_0 8 rfl rfl)
theorem dX0_at_9 : decode cX0_at 9 = .ok (.aload_n 0, 1) := dk_42 (dk_at dksX0_at_0 9 rfl rfl)
theorem dX0_at_10 : decode cX0_at 10 = .ok (.aload_n 0, 1) := dk_42 (dk_at dksX0_at_0 10 rfl rfl)
theorem dX0_at_11 : decode cX0_at 11 = .ok (.getfield 28, 3) := dk_180 0 28 (dk_at dksX0_at_0 11 rfl rfl)
theorem dX0_at_14 : decode cX0_at 14 = .ok (.iload_n 1, 1) := dk_27 (dk_at dksX0_at_0 14 rfl rfl)
theorem dX0_at_15 : decode cX0_at 15 = .ok (.aaload, 1) := dk_50 (dk_at dksX0_at_0 15 rfl rfl)
theorem dX0_at_16 : decode cX0_at 16 = .ok (.iload_n 2, 1) := dk_28 (dk_at dksX0_at_0 16 rfl rfl)
theorem dX0_at_17 : decode cX0_at 17 = .ok (.iaload, 1) := dk_46 (dk_at dksX0_at_0 17 rfl rfl)
theorem dX0_at_18 : decode cX0_at 18 = .ok (.iconst 1, 1) := dk_4 (dk_at dksX0_at_0 18 rfl rfl)
theorem dX0_at_19 : decode cX0_at 19 = .ok (.invokevirtual 104, 3) := dk_182 0 104 (dk_at dksX0_at_0 19 rfl rfl)
theorem dX0_at_22 : decode cX0_at 22 = .ok (.ireturn, 1) := dk_172 (dk_at dksX0_at_0 22 rfl rfl)
theorem dX0_at_23 : decode cX0_at 23 = .ok (.astore_n 3, 1) := dk_78 (dk_at dksX0_at_0 23 rfl rfl)
theorem dX0_at_24 : decode cX0_at 24 = .ok (.aload_n 0, 1) := dk_42 (dk_at dksX0_at_1 0 rfl rfl)
theorem dX0_at_25 : decode cX0_at 25 = .ok (.iconst 1, 1) := dk_4 (dk_at dksX0_at_1 1 rfl rfl)
theorem dX0_at_26 : decode cX0_at 26 = .ok (.invokevirtual 96, 3) := dk_182 0 96 (dk_at dksX0_at_1 2 rfl rfl)
theorem dX0_at_29 : decode cX0_at 29 = .ok (.ireturn, 1) := dk_172 (dk_at dksX0_at_1 5 rfl rfl)
theorem dX0_at_30 : decode cX0_at 30 = .ok (.astore_n 3, 1) := dk_78 (dk_at dksX0_at_1 6 rfl rfl)
theorem dX0_at_31 : decode cX0_at 31 = .ok (.aload_n 0, 1) := dk_42 (dk_at dksX0_at_1 7 rfl rfl)
theorem dX0_at_32 : decode cX0_at 32 = .ok (.iconst 2, 1) := dk_5 (dk_at dksX0_at_1 8 rfl rfl)
theorem dX0_at_33 : decode cX0_at 33 = .ok (.invokevirtual 96, 3) := dk_182 0 96 (dk_at dksX0_at_1 9 rfl rfl)
theorem dX0_at_36 : decode cX0_at 36 = .ok (.ireturn, 1) := dk_172 (dk_at dksX0_at_1 12 rfl rfl)
abbrev cX0_ask : ByteArray := prog_1_method_4_code
def yX0_ask : MethodName := ⟨RX0, "ask", "(II)I"⟩
def dkwX0_ask_0 : List UInt8 := [42, 27, 181, 0, 11, 28, 172]
abbrev dktX0_ask_0 : List UInt8 := dkwX0_ask_0 ++ []
theorem dksX0_ask_0 : cX0_ask.data.toList.drop 0 = dktX0_ask_0 := by decide +kernel
theorem dX0_ask_0 : decode cX0_ask 0 = .ok (.aload_n 0, 1) := dk_42 (dk_at dksX0_ask_0 0 rfl rfl)
theorem dX0_ask_1 : decode cX0_ask 1 = .ok (.iload_n 1, 1) := dk_27 (dk_at dksX0_ask_0 1 rfl rfl)
theorem dX0_ask_2 : decode cX0_ask 2 = .ok (.putfield 11, 3) := dk_181 0 11 (dk_at dksX0_ask_0 2 rfl rfl)
theorem dX0_ask_5 : decode cX0_ask 5 = .ok (.iload_n 2, 1) := dk_28 (dk_at dksX0_ask_0 5 rfl rfl)
theorem dX0_ask_6 : decode cX0_ask 6 = .ok (.ireturn, 1) := dk_172 (dk_at dksX0_ask_0 6 rfl rfl)
abbrev cX0_tear : ByteArray := prog_1_method_12_code
def yX0_tear : MethodName := ⟨RX0, "tear", "(I)I"⟩
def dkwX0_tear_1 : List UInt8 := [42, 180, 0, 28, 27, 1, 83, 4, 172]
abbrev dktX0_tear_1 : List UInt8 := dkwX0_tear_1 ++ []
def dkwX0_tear_0 : List UInt8 := [27, 184, 0, 90, 154, 0, 5, 2, 172, 42, 180, 0, 28, 27, 50, 199, 0, 9, 42, 4, 182, 0, 96, 172]
abbrev dktX0_tear_0 : List UInt8 := dkwX0_tear_0 ++ dktX0_tear_1
theorem dksX0_tear_0 : cX0_tear.data.toList.drop 0 = dktX0_tear_0 := by decide +kernel
theorem dksX0_tear_1 : cX0_tear.data.toList.drop 24 = dktX0_tear_1 := dk_seg dksX0_tear_0 24 rfl rfl
theorem dX0_tear_0 : decode cX0_tear 0 = .ok (.iload_n 1, 1) := dk_27 (dk_at dksX0_tear_0 0 rfl rfl)
theorem dX0_tear_1 : decode cX0_tear 1 = .ok (.invokestatic 90, 3) := dk_184 0 90 (dk_at dksX0_tear_0 1 rfl rfl)
theorem dX0_tear_4 : decode cX0_tear 4 = .ok (.ifCond .ne 5, 3) := dk_154 0 5 (dk_at dksX0_tear_0 4 rfl rfl)
theorem dX0_tear_7 : decode cX0_tear 7 = .ok (.iconst (-1), 1) := dk_2 (dk_at dksX0_tear_0 7 rfl rfl)
theorem dX0_tear_8 : decode cX0_tear 8 = .ok (.ireturn, 1) := dk_172 (dk_at dksX0_tear_0 8 rfl rfl)
theorem dX0_tear_9 : decode cX0_tear 9 = .ok (.aload_n 0, 1) := dk_42 (dk_at dksX0_tear_0 9 rfl rfl)
theorem dX0_tear_10 : decode cX0_tear 10 = .ok (.getfield 28, 3) := dk_180 0 28 (dk_at dksX0_tear_0 10 rfl rfl)
theorem dX0_tear_13 : decode cX0_tear 13 = .ok (.iload_n 1, 1) := dk_27 (dk_at dksX0_tear_0 13 rfl rfl)
theorem dX0_tear_14 : decode cX0_tear 14 = .ok (.aaload, 1) := dk_50 (dk_at dksX0_tear_0 14 rfl rfl)
theorem dX0_tear_15 : decode cX0_tear 15 = .ok (.ifnonnull 9, 3) := dk_199 0 9 (dk_at dksX0_tear_0 15 rfl rfl)
theorem dX0_tear_18 : decode cX0_tear 18 = .ok (.aload_n 0, 1) := dk_42 (dk_at dksX0_tear_0 18 rfl rfl)
theorem dX0_tear_19 : decode cX0_tear 19 = .ok (.iconst 1, 1) := dk_4 (dk_at dksX0_tear_0 19 rfl rfl)
theorem dX0_tear_20 : decode cX0_tear 20 = .ok (.invokevirtual 96, 3) := dk_182 0 96 (dk_at dksX0_tear_0 20 rfl rfl)
theorem dX0_tear_23 : decode cX0_tear 23 = .ok (.ireturn, 1) := dk_172 (dk_at dksX0_tear_0 23 rfl rfl)
theorem dX0_tear_24 : decode cX0_tear 24 = .ok (.aload_n 0, 1) := dk_42 (dk_at dksX0_tear_1 0 rfl rfl)
theorem dX0_tear_25 : decode cX0_tear 25 = .ok (.getfield 28, 3) := dk_180 0 28 (dk_at dksX0_tear_1 1 rfl rfl)
theorem dX0_tear_28 : decode cX0_tear 28 = .ok (.iload_n 1, 1) := dk_27 (dk_at dksX0_tear_1 4 rfl rfl)
theorem dX0_tear_29 : decode cX0_tear 29 = .ok (.aconst_null, 1) := dk_1 (dk_at dksX0_tear_1 5 rfl rfl)
theorem dX0_tear_30 : decode cX0_tear 30 = .ok (.aastore, 1) := dk_83 (dk_at dksX0_tear_1 6 rfl rfl)
theorem dX0_tear_31 : decode cX0_tear 31 = .ok (.iconst 1, 1) := dk_4 (dk_at dksX0_tear_1 7 rfl rfl)
theorem dX0_tear_32 : decode cX0_tear 32 = .ok (.ireturn, 1) := dk_172 (dk_at dksX0_tear_1 8 rfl rfl)
abbrev cX0_copy : ByteArray := prog_1_method_13_code
def yX0_copy : MethodName := ⟨RX0, "copy", "(IIIII)I"⟩
def dkwX0_copy_2 : List UInt8 := [4, 172, 58, 6, 42, 4, 182, 0, 96, 172, 58, 6, 42, 5, 182, 0, 96, 172]
abbrev dktX0_copy_2 : List UInt8 := dkwX0_copy_2 ++ []
def dkwX0_copy_1 : List UInt8 := [182, 0, 96, 172, 42, 180, 0, 28, 27, 50, 28, 42, 180, 0, 28, 29, 50, 21, 4, 21, 5, 184, 0, 111]
abbrev dktX0_copy_1 : List UInt8 := dkwX0_copy_1 ++ dktX0_copy_2
def dkwX0_copy_0 : List UInt8 := [27, 184, 0, 90, 153, 0, 10, 29, 184, 0, 90, 154, 0, 5, 2, 172, 21, 5, 156, 0, 9, 42, 8]
abbrev dktX0_copy_0 : List UInt8 := dkwX0_copy_0 ++ dktX0_copy_1
theorem dksX0_copy_0 : cX0_copy.data.toList.drop 0 = dktX0_copy_0 := by decide +kernel
theorem dksX0_copy_1 : cX0_copy.data.toList.drop 23 = dktX0_copy_1 := dk_seg dksX0_copy_0 23 rfl rfl
theorem dksX0_copy_2 : cX0_copy.data.toList.drop 47 = dktX0_copy_2 := dk_seg dksX0_copy_1 24 rfl rfl
theorem dX0_copy_0 : decode cX0_copy 0 = .ok (.iload_n 1, 1) := dk_27 (dk_at dksX0_copy_0 0 rfl rfl)
theorem dX0_copy_1 : decode cX0_copy 1 = .ok (.invokestatic 90, 3) := dk_184 0 90 (dk_at dksX0_copy_0 1 rfl rfl)
theorem dX0_copy_4 : decode cX0_copy 4 = .ok (.ifCond .eq 10, 3) := dk_153 0 10 (dk_at dksX0_copy_0 4 rfl rfl)
theorem dX0_copy_7 : decode cX0_copy 7 = .ok (.iload_n 3, 1) := dk_29 (dk_at dksX0_copy_0 7 rfl rfl)
theorem dX0_copy_8 : decode cX0_copy 8 = .ok (.invokestatic 90, 3) := dk_184 0 90 (dk_at dksX0_copy_0 8 rfl rfl)
theorem dX0_copy_11 : decode cX0_copy 11 = .ok (.ifCond .ne 5, 3) := dk_154 0 5 (dk_at dksX0_copy_0 11 rfl rfl)
theorem dX0_copy_14 : decode cX0_copy 14 = .ok (.iconst (-1), 1) := dk_2 (dk_at dksX0_copy_0 14 rfl rfl)
theorem dX0_copy_15 : decode cX0_copy 15 = .ok (.ireturn, 1) := dk_172 (dk_at dksX0_copy_0 15 rfl rfl)
theorem dX0_copy_16 : decode cX0_copy 16 = .ok (.iload 5, 2) := dk_21 5 (dk_at dksX0_copy_0 16 rfl rfl)
theorem dX0_copy_18 : decode cX0_copy 18 = .ok (.ifCond .ge 9, 3) := dk_156 0 9 (dk_at dksX0_copy_0 18 rfl rfl)
theorem dX0_copy_21 : decode cX0_copy 21 = .ok (.aload_n 0, 1) := dk_42 (dk_at dksX0_copy_0 21 rfl rfl)
theorem dX0_copy_22 : decode cX0_copy 22 = .ok (.iconst 5, 1) := dk_8 (dk_at dksX0_copy_0 22 rfl rfl)
theorem dX0_copy_23 : decode cX0_copy 23 = .ok (.invokevirtual 96, 3) := dk_182 0 96 (dk_at dksX0_copy_1 0 rfl rfl)
theorem dX0_copy_26 : decode cX0_copy 26 = .ok (.ireturn, 1) := dk_172 (dk_at dksX0_copy_1 3 rfl rfl)
theorem dX0_copy_27 : decode cX0_copy 27 = .ok (.aload_n 0, 1) := dk_42 (dk_at dksX0_copy_1 4 rfl rfl)
theorem dX0_copy_28 : decode cX0_copy 28 = .ok (.getfield 28, 3) := dk_180 0 28 (dk_at dksX0_copy_1 5 rfl rfl)
theorem dX0_copy_31 : decode cX0_copy 31 = .ok (.iload_n 1, 1) := dk_27 (dk_at dksX0_copy_1 8 rfl rfl)
theorem dX0_copy_32 : decode cX0_copy 32 = .ok (.aaload, 1) := dk_50 (dk_at dksX0_copy_1 9 rfl rfl)
theorem dX0_copy_33 : decode cX0_copy 33 = .ok (.iload_n 2, 1) := dk_28 (dk_at dksX0_copy_1 10 rfl rfl)
theorem dX0_copy_34 : decode cX0_copy 34 = .ok (.aload_n 0, 1) := dk_42 (dk_at dksX0_copy_1 11 rfl rfl)
theorem dX0_copy_35 : decode cX0_copy 35 = .ok (.getfield 28, 3) := dk_180 0 28 (dk_at dksX0_copy_1 12 rfl rfl)
theorem dX0_copy_38 : decode cX0_copy 38 = .ok (.iload_n 3, 1) := dk_29 (dk_at dksX0_copy_1 15 rfl rfl)
theorem dX0_copy_39 : decode cX0_copy 39 = .ok (.aaload, 1) := dk_50 (dk_at dksX0_copy_1 16 rfl rfl)
theorem dX0_copy_40 : decode cX0_copy 40 = .ok (.iload 4, 2) := dk_21 4 (dk_at dksX0_copy_1 17 rfl rfl)
theorem dX0_copy_42 : decode cX0_copy 42 = .ok (.iload 5, 2) := dk_21 5 (dk_at dksX0_copy_1 19 rfl rfl)
theorem dX0_copy_44 : decode cX0_copy 44 = .ok (.invokestatic 111, 3) := dk_184 0 111 (dk_at dksX0_copy_1 21 rfl rfl)
theorem dX0_copy_47 : decode cX0_copy 47 = .ok (.iconst 1, 1) := dk_4 (dk_at dksX0_copy_2 0 rfl rfl)
theorem dX0_copy_48 : decode cX0_copy 48 = .ok (.ireturn, 1) := dk_172 (dk_at dksX0_copy_2 1 rfl rfl)
theorem dX0_copy_49 : decode cX0_copy 49 = .ok (.astore 6, 2) := dk_58 6 (dk_at dksX0_copy_2 2 rfl rfl)
theorem dX0_copy_51 : decode cX0_copy 51 = .ok (.aload_n 0, 1) := dk_42 (dk_at dksX0_copy_2 4 rfl rfl)
theorem dX0_copy_52 : decode cX0_copy 52 = .ok (.iconst 1, 1) := dk_4 (dk_at dksX0_copy_2 5 rfl rfl)
theorem dX0_copy_53 : decode cX0_copy 53 = .ok (.invokevirtual 96, 3) := dk_182 0 96 (dk_at dksX0_copy_2 6 rfl rfl)
theorem dX0_copy_56 : decode cX0_copy 56 = .ok (.ireturn, 1) := dk_172 (dk_at dksX0_copy_2 9 rfl rfl)
theorem dX0_copy_57 : decode cX0_copy 57 = .ok (.astore 6, 2) := dk_58 6 (dk_at dksX0_copy_2 10 rfl rfl)
theorem dX0_copy_59 : decode cX0_copy 59 = .ok (.aload_n 0, 1) := dk_42 (dk_at dksX0_copy_2 12 rfl rfl)
theorem dX0_copy_60 : decode cX0_copy 60 = .ok (.iconst 2, 1) := dk_5 (dk_at dksX0_copy_2 13 rfl rfl)
theorem dX0_copy_61 : decode cX0_copy 61 = .ok (.invokevirtual 96, 3) := dk_182 0 96 (dk_at dksX0_copy_2 14 rfl rfl)
theorem dX0_copy_64 : decode cX0_copy 64 = .ok (.ireturn, 1) := dk_172 (dk_at dksX0_copy_2 17 rfl rfl)
abbrev cX0_mean : ByteArray := prog_1_method_14_code
def yX0_mean : MethodName := ⟨RX0, "mean", "(I)I"⟩
def dkwX0_mean_3 : List UInt8 := [42, 4, 182, 0, 96, 172, 77, 42, 7, 182, 0, 96, 172]
abbrev dktX0_mean_3 : List UInt8 := dkwX0_mean_3 ++ []
def dkwX0_mean_2 : List UInt8 := [132, 6, 1, 167, 255, 233, 42, 32, 42, 180, 0, 28, 27, 50, 190, 133, 109, 136, 4, 182, 0, 104, 172, 77]
abbrev dktX0_mean_2 : List UInt8 := dkwX0_mean_2 ++ dktX0_mean_3
def dkwX0_mean_1 : List UInt8 := [3, 54, 6, 21, 6, 21, 5, 162, 0, 22, 25, 4, 21, 6, 46, 54, 7, 32, 21, 7, 133, 97, 65]
abbrev dktX0_mean_1 : List UInt8 := dkwX0_mean_1 ++ dktX0_mean_2
def dkwX0_mean_0 : List UInt8 := [27, 184, 0, 90, 154, 0, 5, 2, 172, 9, 65, 42, 180, 0, 28, 27, 50, 58, 4, 25, 4, 190, 54, 5]
abbrev dktX0_mean_0 : List UInt8 := dkwX0_mean_0 ++ dktX0_mean_1
theorem dksX0_mean_0 : cX0_mean.data.toList.drop 0 = dktX0_mean_0 := by decide +kernel
theorem dksX0_mean_1 : cX0_mean.data.toList.drop 24 = dktX0_mean_1 := dk_seg dksX0_mean_0 24 rfl rfl
theorem dksX0_mean_2 : cX0_mean.data.toList.drop 47 = dktX0_mean_2 := dk_seg dksX0_mean_1 23 rfl rfl
theorem dksX0_mean_3 : cX0_mean.data.toList.drop 71 = dktX0_mean_3 := dk_seg dksX0_mean_2 24 rfl rfl
theorem dX0_mean_0 : decode cX0_mean 0 = .ok (.iload_n 1, 1) := dk_27 (dk_at dksX0_mean_0 0 rfl rfl)
theorem dX0_mean_1 : decode cX0_mean 1 = .ok (.invokestatic 90, 3) := dk_184 0 90 (dk_at dksX0_mean_0 1 rfl rfl)
theorem dX0_mean_4 : decode cX0_mean 4 = .ok (.ifCond .ne 5, 3) := dk_154 0 5 (dk_at dksX0_mean_0 4 rfl rfl)
theorem dX0_mean_7 : decode cX0_mean 7 = .ok (.iconst (-1), 1) := dk_2 (dk_at dksX0_mean_0 7 rfl rfl)
theorem dX0_mean_8 : decode cX0_mean 8 = .ok (.ireturn, 1) := dk_172 (dk_at dksX0_mean_0 8 rfl rfl)
theorem dX0_mean_9 : decode cX0_mean 9 = .ok (.lconst 0, 1) := dk_9 (dk_at dksX0_mean_0 9 rfl rfl)
theorem dX0_mean_10 : decode cX0_mean 10 = .ok (.lstore_n 2, 1) := dk_65 (dk_at dksX0_mean_0 10 rfl rfl)
theorem dX0_mean_11 : decode cX0_mean 11 = .ok (.aload_n 0, 1) := dk_42 (dk_at dksX0_mean_0 11 rfl rfl)
theorem dX0_mean_12 : decode cX0_mean 12 = .ok (.getfield 28, 3) := dk_180 0 28 (dk_at dksX0_mean_0 12 rfl rfl)
theorem dX0_mean_15 : decode cX0_mean 15 = .ok (.iload_n 1, 1) := dk_27 (dk_at dksX0_mean_0 15 rfl rfl)
theorem dX0_mean_16 : decode cX0_mean 16 = .ok (.aaload, 1) := dk_50 (dk_at dksX0_mean_0 16 rfl rfl)
theorem dX0_mean_17 : decode cX0_mean 17 = .ok (.astore 4, 2) := dk_58 4 (dk_at dksX0_mean_0 17 rfl rfl)
theorem dX0_mean_19 : decode cX0_mean 19 = .ok (.aload 4, 2) := dk_25 4 (dk_at dksX0_mean_0 19 rfl rfl)
theorem dX0_mean_21 : decode cX0_mean 21 = .ok (.arraylength, 1) := dk_190 (dk_at dksX0_mean_0 21 rfl rfl)
theorem dX0_mean_22 : decode cX0_mean 22 = .ok (.istore 5, 2) := dk_54 5 (dk_at dksX0_mean_0 22 rfl rfl)
theorem dX0_mean_24 : decode cX0_mean 24 = .ok (.iconst 0, 1) := dk_3 (dk_at dksX0_mean_1 0 rfl rfl)
theorem dX0_mean_25 : decode cX0_mean 25 = .ok (.istore 6, 2) := dk_54 6 (dk_at dksX0_mean_1 1 rfl rfl)
theorem dX0_mean_27 : decode cX0_mean 27 = .ok (.iload 6, 2) := dk_21 6 (dk_at dksX0_mean_1 3 rfl rfl)
theorem dX0_mean_29 : decode cX0_mean 29 = .ok (.iload 5, 2) := dk_21 5 (dk_at dksX0_mean_1 5 rfl rfl)
theorem dX0_mean_31 : decode cX0_mean 31 = .ok (.if_icmp .ge 22, 3) := dk_162 0 22 (dk_at dksX0_mean_1 7 rfl rfl)
theorem dX0_mean_34 : decode cX0_mean 34 = .ok (.aload 4, 2) := dk_25 4 (dk_at dksX0_mean_1 10 rfl rfl)
theorem dX0_mean_36 : decode cX0_mean 36 = .ok (.iload 6, 2) := dk_21 6 (dk_at dksX0_mean_1 12 rfl rfl)
theorem dX0_mean_38 : decode cX0_mean 38 = .ok (.iaload, 1) := dk_46 (dk_at dksX0_mean_1 14 rfl rfl)
theorem dX0_mean_39 : decode cX0_mean 39 = .ok (.istore 7, 2) := dk_54 7 (dk_at dksX0_mean_1 15 rfl rfl)
theorem dX0_mean_41 : decode cX0_mean 41 = .ok (.lload_n 2, 1) := dk_32 (dk_at dksX0_mean_1 17 rfl rfl)
theorem dX0_mean_42 : decode cX0_mean 42 = .ok (.iload 7, 2) := dk_21 7 (dk_at dksX0_mean_1 18 rfl rfl)
theorem dX0_mean_44 : decode cX0_mean 44 = .ok (.i2l, 1) := dk_133 (dk_at dksX0_mean_1 20 rfl rfl)
theorem dX0_mean_45 : decode cX0_mean 45 = .ok (.ladd, 1) := dk_97 (dk_at dksX0_mean_1 21 rfl rfl)
theorem dX0_mean_46 : decode cX0_mean 46 = .ok (.lstore_n 2, 1) := dk_65 (dk_at dksX0_mean_1 22 rfl rfl)
theorem dX0_mean_47 : decode cX0_mean 47 = .ok (.iinc 6 1, 3) := dk_132 6 1 (dk_at dksX0_mean_2 0 rfl rfl)
theorem dX0_mean_50 : decode cX0_mean 50 = .ok (.goto (-23), 3) := dk_167 255 233 (dk_at dksX0_mean_2 3 rfl rfl)
theorem dX0_mean_53 : decode cX0_mean 53 = .ok (.aload_n 0, 1) := dk_42 (dk_at dksX0_mean_2 6 rfl rfl)
theorem dX0_mean_54 : decode cX0_mean 54 = .ok (.lload_n 2, 1) := dk_32 (dk_at dksX0_mean_2 7 rfl rfl)
theorem dX0_mean_55 : decode cX0_mean 55 = .ok (.aload_n 0, 1) := dk_42 (dk_at dksX0_mean_2 8 rfl rfl)
theorem dX0_mean_56 : decode cX0_mean 56 = .ok (.getfield 28, 3) := dk_180 0 28 (dk_at dksX0_mean_2 9 rfl rfl)
theorem dX0_mean_59 : decode cX0_mean 59 = .ok (.iload_n 1, 1) := dk_27 (dk_at dksX0_mean_2 12 rfl rfl)
theorem dX0_mean_60 : decode cX0_mean 60 = .ok (.aaload, 1) := dk_50 (dk_at dksX0_mean_2 13 rfl rfl)
theorem dX0_mean_61 : decode cX0_mean 61 = .ok (.arraylength, 1) := dk_190 (dk_at dksX0_mean_2 14 rfl rfl)
theorem dX0_mean_62 : decode cX0_mean 62 = .ok (.i2l, 1) := dk_133 (dk_at dksX0_mean_2 15 rfl rfl)
theorem dX0_mean_63 : decode cX0_mean 63 = .ok (.ldiv, 1) := dk_109 (dk_at dksX0_mean_2 16 rfl rfl)
theorem dX0_mean_64 : decode cX0_mean 64 = .ok (.l2i, 1) := dk_136 (dk_at dksX0_mean_2 17 rfl rfl)
theorem dX0_mean_65 : decode cX0_mean 65 = .ok (.iconst 1, 1) := dk_4 (dk_at dksX0_mean_2 18 rfl rfl)
theorem dX0_mean_66 : decode cX0_mean 66 = .ok (.invokevirtual 104, 3) := dk_182 0 104 (dk_at dksX0_mean_2 19 rfl rfl)
theorem dX0_mean_69 : decode cX0_mean 69 = .ok (.ireturn, 1) := dk_172 (dk_at dksX0_mean_2 22 rfl rfl)
theorem dX0_mean_70 : decode cX0_mean 70 = .ok (.astore_n 2, 1) := dk_77 (dk_at dksX0_mean_2 23 rfl rfl)
theorem dX0_mean_71 : decode cX0_mean 71 = .ok (.aload_n 0, 1) := dk_42 (dk_at dksX0_mean_3 0 rfl rfl)
theorem dX0_mean_72 : decode cX0_mean 72 = .ok (.iconst 1, 1) := dk_4 (dk_at dksX0_mean_3 1 rfl rfl)
theorem dX0_mean_73 : decode cX0_mean 73 = .ok (.invokevirtual 96, 3) := dk_182 0 96 (dk_at dksX0_mean_3 2 rfl rfl)
theorem dX0_mean_76 : decode cX0_mean 76 = .ok (.ireturn, 1) := dk_172 (dk_at dksX0_mean_3 5 rfl rfl)
theorem dX0_mean_77 : decode cX0_mean 77 = .ok (.astore_n 2, 1) := dk_77 (dk_at dksX0_mean_3 6 rfl rfl)
theorem dX0_mean_78 : decode cX0_mean 78 = .ok (.aload_n 0, 1) := dk_42 (dk_at dksX0_mean_3 7 rfl rfl)
theorem dX0_mean_79 : decode cX0_mean 79 = .ok (.iconst 4, 1) := dk_7 (dk_at dksX0_mean_3 8 rfl rfl)
theorem dX0_mean_80 : decode cX0_mean 80 = .ok (.invokevirtual 96, 3) := dk_182 0 96 (dk_at dksX0_mean_3 9 rfl rfl)
theorem dX0_mean_83 : decode cX0_mean 83 = .ok (.ireturn, 1) := dk_172 (dk_at dksX0_mean_3 12 rfl rfl)
abbrev cX0_text : ByteArray := prog_1_method_15_code
def yX0_text : MethodName := ⟨RX0, "text", "(II)I"⟩
def dkwX0_text_2 : List UInt8 := [172, 78, 42, 8, 182, 0, 96, 172]
abbrev dktX0_text_2 : List UInt8 := dkwX0_text_2 ++ []
def dkwX0_text_1 : List UInt8 := [28, 162, 0, 15, 45, 21, 4, 16, 32, 84, 132, 4, 1, 167, 255, 241, 42, 180, 0, 34, 27, 45, 83, 28]
abbrev dktX0_text_1 : List UInt8 := dkwX0_text_1 ++ dktX0_text_2
def dkwX0_text_0 : List UInt8 := [27, 184, 0, 121, 153, 0, 9, 28, 16, 80, 164, 0, 5, 2, 172, 28, 188, 8, 78, 3, 54, 4, 21, 4]
abbrev dktX0_text_0 : List UInt8 := dkwX0_text_0 ++ dktX0_text_1
theorem dksX0_text_0 : cX0_text.data.toList.drop 0 = dktX0_text_0 := by decide +kernel
theorem dksX0_text_1 : cX0_text.data.toList.drop 24 = dktX0_text_1 := dk_seg dksX0_text_0 24 rfl rfl
theorem dksX0_text_2 : cX0_text.data.toList.drop 48 = dktX0_text_2 := dk_seg dksX0_text_1 24 rfl rfl
theorem dX0_text_0 : decode cX0_text 0 = .ok (.iload_n 1, 1) := dk_27 (dk_at dksX0_text_0 0 rfl rfl)
theorem dX0_text_1 : decode cX0_text 1 = .ok (.invokestatic 121, 3) := dk_184 0 121 (dk_at dksX0_text_0 1 rfl rfl)
theorem dX0_text_4 : decode cX0_text 4 = .ok (.ifCond .eq 9, 3) := dk_153 0 9 (dk_at dksX0_text_0 4 rfl rfl)
theorem dX0_text_7 : decode cX0_text 7 = .ok (.iload_n 2, 1) := dk_28 (dk_at dksX0_text_0 7 rfl rfl)
theorem dX0_text_8 : decode cX0_text 8 = .ok (.bipush 80, 2) := dk_16 80 (dk_at dksX0_text_0 8 rfl rfl)
theorem dX0_text_10 : decode cX0_text 10 = .ok (.if_icmp .le 5, 3) := dk_164 0 5 (dk_at dksX0_text_0 10 rfl rfl)
theorem dX0_text_13 : decode cX0_text 13 = .ok (.iconst (-1), 1) := dk_2 (dk_at dksX0_text_0 13 rfl rfl)
theorem dX0_text_14 : decode cX0_text 14 = .ok (.ireturn, 1) := dk_172 (dk_at dksX0_text_0 14 rfl rfl)
theorem dX0_text_15 : decode cX0_text 15 = .ok (.iload_n 2, 1) := dk_28 (dk_at dksX0_text_0 15 rfl rfl)
theorem dX0_text_16 : decode cX0_text 16 = .ok (.newarray .byte, 2) := dk_188_8 (dk_at dksX0_text_0 16 rfl rfl)
theorem dX0_text_18 : decode cX0_text 18 = .ok (.astore_n 3, 1) := dk_78 (dk_at dksX0_text_0 18 rfl rfl)
theorem dX0_text_19 : decode cX0_text 19 = .ok (.iconst 0, 1) := dk_3 (dk_at dksX0_text_0 19 rfl rfl)
theorem dX0_text_20 : decode cX0_text 20 = .ok (.istore 4, 2) := dk_54 4 (dk_at dksX0_text_0 20 rfl rfl)
theorem dX0_text_22 : decode cX0_text 22 = .ok (.iload 4, 2) := dk_21 4 (dk_at dksX0_text_0 22 rfl rfl)
theorem dX0_text_24 : decode cX0_text 24 = .ok (.iload_n 2, 1) := dk_28 (dk_at dksX0_text_1 0 rfl rfl)
theorem dX0_text_25 : decode cX0_text 25 = .ok (.if_icmp .ge 15, 3) := dk_162 0 15 (dk_at dksX0_text_1 1 rfl rfl)
theorem dX0_text_28 : decode cX0_text 28 = .ok (.aload_n 3, 1) := dk_45 (dk_at dksX0_text_1 4 rfl rfl)
theorem dX0_text_29 : decode cX0_text 29 = .ok (.iload 4, 2) := dk_21 4 (dk_at dksX0_text_1 5 rfl rfl)
theorem dX0_text_31 : decode cX0_text 31 = .ok (.bipush 32, 2) := dk_16 32 (dk_at dksX0_text_1 7 rfl rfl)
theorem dX0_text_33 : decode cX0_text 33 = .ok (.bastore, 1) := dk_84 (dk_at dksX0_text_1 9 rfl rfl)
theorem dX0_text_34 : decode cX0_text 34 = .ok (.iinc 4 1, 3) := dk_132 4 1 (dk_at dksX0_text_1 10 rfl rfl)
theorem dX0_text_37 : decode cX0_text 37 = .ok (.goto (-15), 3) := dk_167 255 241 (dk_at dksX0_text_1 13 rfl rfl)
theorem dX0_text_40 : decode cX0_text 40 = .ok (.aload_n 0, 1) := dk_42 (dk_at dksX0_text_1 16 rfl rfl)
theorem dX0_text_41 : decode cX0_text 41 = .ok (.getfield 34, 3) := dk_180 0 34 (dk_at dksX0_text_1 17 rfl rfl)
theorem dX0_text_44 : decode cX0_text 44 = .ok (.iload_n 1, 1) := dk_27 (dk_at dksX0_text_1 20 rfl rfl)
theorem dX0_text_45 : decode cX0_text 45 = .ok (.aload_n 3, 1) := dk_45 (dk_at dksX0_text_1 21 rfl rfl)
theorem dX0_text_46 : decode cX0_text 46 = .ok (.aastore, 1) := dk_83 (dk_at dksX0_text_1 22 rfl rfl)
theorem dX0_text_47 : decode cX0_text 47 = .ok (.iload_n 2, 1) := dk_28 (dk_at dksX0_text_1 23 rfl rfl)
theorem dX0_text_48 : decode cX0_text 48 = .ok (.ireturn, 1) := dk_172 (dk_at dksX0_text_2 0 rfl rfl)
theorem dX0_text_49 : decode cX0_text 49 = .ok (.astore_n 3, 1) := dk_78 (dk_at dksX0_text_2 1 rfl rfl)
theorem dX0_text_50 : decode cX0_text 50 = .ok (.aload_n 0, 1) := dk_42 (dk_at dksX0_text_2 2 rfl rfl)
theorem dX0_text_51 : decode cX0_text 51 = .ok (.iconst 5, 1) := dk_8 (dk_at dksX0_text_2 3 rfl rfl)
theorem dX0_text_52 : decode cX0_text 52 = .ok (.invokevirtual 96, 3) := dk_182 0 96 (dk_at dksX0_text_2 4 rfl rfl)
theorem dX0_text_55 : decode cX0_text 55 = .ok (.ireturn, 1) := dk_172 (dk_at dksX0_text_2 7 rfl rfl)
abbrev cX0_isText : ByteArray := prog_1_method_8_code
def yX0_isText : MethodName := ⟨RX0, "isText", "(I)Z"⟩
def dkwX0_isText_0 : List UInt8 := [26, 3, 6, 184, 0, 86, 172]
abbrev dktX0_isText_0 : List UInt8 := dkwX0_isText_0 ++ []
theorem dksX0_isText_0 : cX0_isText.data.toList.drop 0 = dktX0_isText_0 := by decide +kernel
theorem dX0_isText_0 : decode cX0_isText 0 = .ok (.iload_n 0, 1) := dk_26 (dk_at dksX0_isText_0 0 rfl rfl)
theorem dX0_isText_1 : decode cX0_isText 1 = .ok (.iconst 0, 1) := dk_3 (dk_at dksX0_isText_0 1 rfl rfl)
theorem dX0_isText_2 : decode cX0_isText 2 = .ok (.iconst 3, 1) := dk_6 (dk_at dksX0_isText_0 2 rfl rfl)
theorem dX0_isText_3 : decode cX0_isText 3 = .ok (.invokestatic 86, 3) := dk_184 0 86 (dk_at dksX0_isText_0 3 rfl rfl)
theorem dX0_isText_6 : decode cX0_isText 6 = .ok (.ireturn, 1) := dk_172 (dk_at dksX0_isText_0 6 rfl rfl)
abbrev cX0_put : ByteArray := prog_1_method_16_code
def yX0_put : MethodName := ⟨RX0, "put", "(III)I"⟩
def dkwX0_put_2 : List UInt8 := [182, 0, 96, 172]
abbrev dktX0_put_2 : List UInt8 := dkwX0_put_2 ++ []
def dkwX0_put_1 : List UInt8 := [50, 28, 29, 145, 84, 21, 4, 17, 3, 232, 96, 172, 58, 4, 42, 4, 182, 0, 96, 172, 58, 4, 42, 5]
abbrev dktX0_put_1 : List UInt8 := dkwX0_put_1 ++ dktX0_put_2
def dkwX0_put_0 : List UInt8 := [27, 184, 0, 121, 154, 0, 5, 2, 172, 42, 180, 0, 34, 27, 50, 28, 51, 54, 4, 42, 180, 0, 34, 27]
abbrev dktX0_put_0 : List UInt8 := dkwX0_put_0 ++ dktX0_put_1
theorem dksX0_put_0 : cX0_put.data.toList.drop 0 = dktX0_put_0 := by decide +kernel
theorem dksX0_put_1 : cX0_put.data.toList.drop 24 = dktX0_put_1 := dk_seg dksX0_put_0 24 rfl rfl
theorem dksX0_put_2 : cX0_put.data.toList.drop 48 = dktX0_put_2 := dk_seg dksX0_put_1 24 rfl rfl
theorem dX0_put_0 : decode cX0_put 0 = .ok (.iload_n 1, 1) := dk_27 (dk_at dksX0_put_0 0 rfl rfl)
theorem dX0_put_1 : decode cX0_put 1 = .ok (.invokestatic 121, 3) := dk_184 0 121 (dk_at dksX0_put_0 1 rfl rfl)
theorem dX0_put_4 : decode cX0_put 4 = .ok (.ifCond .ne 5, 3) := dk_154 0 5 (dk_at dksX0_put_0 4 rfl rfl)
theorem dX0_put_7 : decode cX0_put 7 = .ok (.iconst (-1), 1) := dk_2 (dk_at dksX0_put_0 7 rfl rfl)
theorem dX0_put_8 : decode cX0_put 8 = .ok (.ireturn, 1) := dk_172 (dk_at dksX0_put_0 8 rfl rfl)
theorem dX0_put_9 : decode cX0_put 9 = .ok (.aload_n 0, 1) := dk_42 (dk_at dksX0_put_0 9 rfl rfl)
theorem dX0_put_10 : decode cX0_put 10 = .ok (.getfield 34, 3) := dk_180 0 34 (dk_at dksX0_put_0 10 rfl rfl)
theorem dX0_put_13 : decode cX0_put 13 = .ok (.iload_n 1, 1) := dk_27 (dk_at dksX0_put_0 13 rfl rfl)
theorem dX0_put_14 : decode cX0_put 14 = .ok (.aaload, 1) := dk_50 (dk_at dksX0_put_0 14 rfl rfl)
theorem dX0_put_15 : decode cX0_put 15 = .ok (.iload_n 2, 1) := dk_28 (dk_at dksX0_put_0 15 rfl rfl)
theorem dX0_put_16 : decode cX0_put 16 = .ok (.baload, 1) := dk_51 (dk_at dksX0_put_0 16 rfl rfl)
theorem dX0_put_17 : decode cX0_put 17 = .ok (.istore 4, 2) := dk_54 4 (dk_at dksX0_put_0 17 rfl rfl)
theorem dX0_put_19 : decode cX0_put 19 = .ok (.aload_n 0, 1) := dk_42 (dk_at dksX0_put_0 19 rfl rfl)
theorem dX0_put_20 : decode cX0_put 20 = .ok (.getfield 34, 3) := dk_180 0 34 (dk_at dksX0_put_0 20 rfl rfl)
theorem dX0_put_23 : decode cX0_put 23 = .ok (.iload_n 1, 1) := dk_27 (dk_at dksX0_put_0 23 rfl rfl)
theorem dX0_put_24 : decode cX0_put 24 = .ok (.aaload, 1) := dk_50 (dk_at dksX0_put_1 0 rfl rfl)
theorem dX0_put_25 : decode cX0_put 25 = .ok (.iload_n 2, 1) := dk_28 (dk_at dksX0_put_1 1 rfl rfl)
theorem dX0_put_26 : decode cX0_put 26 = .ok (.iload_n 3, 1) := dk_29 (dk_at dksX0_put_1 2 rfl rfl)
theorem dX0_put_27 : decode cX0_put 27 = .ok (.i2b, 1) := dk_145 (dk_at dksX0_put_1 3 rfl rfl)
theorem dX0_put_28 : decode cX0_put 28 = .ok (.bastore, 1) := dk_84 (dk_at dksX0_put_1 4 rfl rfl)
theorem dX0_put_29 : decode cX0_put 29 = .ok (.iload 4, 2) := dk_21 4 (dk_at dksX0_put_1 5 rfl rfl)
theorem dX0_put_31 : decode cX0_put 31 = .ok (.sipush 1000, 3) := dk_17 3 232 (dk_at dksX0_put_1 7 rfl rfl)
theorem dX0_put_34 : decode cX0_put 34 = .ok (.iadd, 1) := dk_96 (dk_at dksX0_put_1 10 rfl rfl)
theorem dX0_put_35 : decode cX0_put 35 = .ok (.ireturn, 1) := dk_172 (dk_at dksX0_put_1 11 rfl rfl)
theorem dX0_put_36 : decode cX0_put 36 = .ok (.astore 4, 2) := dk_58 4 (dk_at dksX0_put_1 12 rfl rfl)
theorem dX0_put_38 : decode cX0_put 38 = .ok (.aload_n 0, 1) := dk_42 (dk_at dksX0_put_1 14 rfl rfl)
theorem dX0_put_39 : decode cX0_put 39 = .ok (.iconst 1, 1) := dk_4 (dk_at dksX0_put_1 15 rfl rfl)
theorem dX0_put_40 : decode cX0_put 40 = .ok (.invokevirtual 96, 3) := dk_182 0 96 (dk_at dksX0_put_1 16 rfl rfl)
theorem dX0_put_43 : decode cX0_put 43 = .ok (.ireturn, 1) := dk_172 (dk_at dksX0_put_1 19 rfl rfl)
theorem dX0_put_44 : decode cX0_put 44 = .ok (.astore 4, 2) := dk_58 4 (dk_at dksX0_put_1 20 rfl rfl)
theorem dX0_put_46 : decode cX0_put 46 = .ok (.aload_n 0, 1) := dk_42 (dk_at dksX0_put_1 22 rfl rfl)
theorem dX0_put_47 : decode cX0_put 47 = .ok (.iconst 2, 1) := dk_5 (dk_at dksX0_put_1 23 rfl rfl)
theorem dX0_put_48 : decode cX0_put 48 = .ok (.invokevirtual 96, 3) := dk_182 0 96 (dk_at dksX0_put_2 0 rfl rfl)
theorem dX0_put_51 : decode cX0_put 51 = .ok (.ireturn, 1) := dk_172 (dk_at dksX0_put_2 3 rfl rfl)
abbrev cX0_fault : ByteArray := prog_1_method_24_code
def yX0_fault : MethodName := ⟨RX0, "fault", "(I)I"⟩
def dkwX0_fault_1 : List UInt8 := [167, 0, 13, 42, 42, 180, 0, 34, 27, 50, 182, 0, 171, 172]
abbrev dktX0_fault_1 : List UInt8 := dkwX0_fault_1 ++ []
def dkwX0_fault_0 : List UInt8 := [27, 184, 0, 121, 154, 0, 5, 2, 172, 42, 180, 0, 34, 27, 50, 199, 0, 11, 42, 4, 182, 0, 96]
abbrev dktX0_fault_0 : List UInt8 := dkwX0_fault_0 ++ dktX0_fault_1
theorem dksX0_fault_0 : cX0_fault.data.toList.drop 0 = dktX0_fault_0 := by decide +kernel
theorem dksX0_fault_1 : cX0_fault.data.toList.drop 23 = dktX0_fault_1 := dk_seg dksX0_fault_0 23 rfl rfl
theorem dX0_fault_0 : decode cX0_fault 0 = .ok (.iload_n 1, 1) := dk_27 (dk_at dksX0_fault_0 0 rfl rfl)
theorem dX0_fault_1 : decode cX0_fault 1 = .ok (.invokestatic 121, 3) := dk_184 0 121 (dk_at dksX0_fault_0 1 rfl rfl)
theorem dX0_fault_4 : decode cX0_fault 4 = .ok (.ifCond .ne 5, 3) := dk_154 0 5 (dk_at dksX0_fault_0 4 rfl rfl)
theorem dX0_fault_7 : decode cX0_fault 7 = .ok (.iconst (-1), 1) := dk_2 (dk_at dksX0_fault_0 7 rfl rfl)
theorem dX0_fault_8 : decode cX0_fault 8 = .ok (.ireturn, 1) := dk_172 (dk_at dksX0_fault_0 8 rfl rfl)
theorem dX0_fault_9 : decode cX0_fault 9 = .ok (.aload_n 0, 1) := dk_42 (dk_at dksX0_fault_0 9 rfl rfl)
theorem dX0_fault_10 : decode cX0_fault 10 = .ok (.getfield 34, 3) := dk_180 0 34 (dk_at dksX0_fault_0 10 rfl rfl)
theorem dX0_fault_13 : decode cX0_fault 13 = .ok (.iload_n 1, 1) := dk_27 (dk_at dksX0_fault_0 13 rfl rfl)
theorem dX0_fault_14 : decode cX0_fault 14 = .ok (.aaload, 1) := dk_50 (dk_at dksX0_fault_0 14 rfl rfl)
theorem dX0_fault_15 : decode cX0_fault 15 = .ok (.ifnonnull 11, 3) := dk_199 0 11 (dk_at dksX0_fault_0 15 rfl rfl)
theorem dX0_fault_18 : decode cX0_fault 18 = .ok (.aload_n 0, 1) := dk_42 (dk_at dksX0_fault_0 18 rfl rfl)
theorem dX0_fault_19 : decode cX0_fault 19 = .ok (.iconst 1, 1) := dk_4 (dk_at dksX0_fault_0 19 rfl rfl)
theorem dX0_fault_20 : decode cX0_fault 20 = .ok (.invokevirtual 96, 3) := dk_182 0 96 (dk_at dksX0_fault_0 20 rfl rfl)
theorem dX0_fault_23 : decode cX0_fault 23 = .ok (.goto 13, 3) := dk_167 0 13 (dk_at dksX0_fault_1 0 rfl rfl)
theorem dX0_fault_26 : decode cX0_fault 26 = .ok (.aload_n 0, 1) := dk_42 (dk_at dksX0_fault_1 3 rfl rfl)
theorem dX0_fault_27 : decode cX0_fault 27 = .ok (.aload_n 0, 1) := dk_42 (dk_at dksX0_fault_1 4 rfl rfl)
theorem dX0_fault_28 : decode cX0_fault 28 = .ok (.getfield 34, 3) := dk_180 0 34 (dk_at dksX0_fault_1 5 rfl rfl)
theorem dX0_fault_31 : decode cX0_fault 31 = .ok (.iload_n 1, 1) := dk_27 (dk_at dksX0_fault_1 8 rfl rfl)
theorem dX0_fault_32 : decode cX0_fault 32 = .ok (.aaload, 1) := dk_50 (dk_at dksX0_fault_1 9 rfl rfl)
theorem dX0_fault_33 : decode cX0_fault 33 = .ok (.invokevirtual 171, 3) := dk_182 0 171 (dk_at dksX0_fault_1 10 rfl rfl)
theorem dX0_fault_36 : decode cX0_fault 36 = .ok (.ireturn, 1) := dk_172 (dk_at dksX0_fault_1 13 rfl rfl)
abbrev cX0_goesOn : ByteArray := prog_1_method_23_code
def yX0_goesOn : MethodName := ⟨RX0, "goesOn", "([B)I"⟩
def dkwX0_goesOn_4 : List UInt8 := [16, 247, 172]
abbrev dktX0_goesOn_4 : List UInt8 := dkwX0_goesOn_4 ++ []
def dkwX0_goesOn_3 : List UInt8 := [182, 0, 168, 154, 255, 202, 42, 180, 0, 142, 172, 42, 180, 0, 155, 154, 0, 8, 43, 190, 167, 0, 5]
abbrev dktX0_goesOn_3 : List UInt8 := dkwX0_goesOn_3 ++ dktX0_goesOn_4
def dkwX0_goesOn_2 : List UInt8 := [167, 255, 228, 42, 182, 0, 148, 16, 113, 160, 0, 13, 42, 182, 0, 164, 154, 255, 212, 167, 0, 10, 42]
abbrev dktX0_goesOn_2 : List UInt8 := dkwX0_goesOn_2 ++ dktX0_goesOn_3
def dkwX0_goesOn_1 : List UInt8 := [43, 190, 162, 0, 56, 42, 182, 0, 148, 16, 32, 160, 0, 16, 42, 89, 180, 0, 142, 4, 96, 181, 0, 142]
abbrev dktX0_goesOn_1 : List UInt8 := dkwX0_goesOn_1 ++ dktX0_goesOn_2
def dkwX0_goesOn_0 : List UInt8 := [42, 43, 181, 0, 145, 42, 3, 181, 0, 142, 42, 3, 181, 0, 155, 42, 3, 181, 0, 158, 42, 180, 0, 142]
abbrev dktX0_goesOn_0 : List UInt8 := dkwX0_goesOn_0 ++ dktX0_goesOn_1
theorem dksX0_goesOn_0 : cX0_goesOn.data.toList.drop 0 = dktX0_goesOn_0 := by decide +kernel
theorem dksX0_goesOn_1 : cX0_goesOn.data.toList.drop 24 = dktX0_goesOn_1 := dk_seg dksX0_goesOn_0 24 rfl rfl
theorem dksX0_goesOn_2 : cX0_goesOn.data.toList.drop 48 = dktX0_goesOn_2 := dk_seg dksX0_goesOn_1 24 rfl rfl
theorem dksX0_goesOn_3 : cX0_goesOn.data.toList.drop 71 = dktX0_goesOn_3 := dk_seg dksX0_goesOn_2 23 rfl rfl
theorem dksX0_goesOn_4 : cX0_goesOn.data.toList.drop 94 = dktX0_goesOn_4 := dk_seg dksX0_goesOn_3 23 rfl rfl
theorem dX0_goesOn_0 : decode cX0_goesOn 0 = .ok (.aload_n 0, 1) := dk_42 (dk_at dksX0_goesOn_0 0 rfl rfl)
theorem dX0_goesOn_1 : decode cX0_goesOn 1 = .ok (.aload_n 1, 1) := dk_43 (dk_at dksX0_goesOn_0 1 rfl rfl)
theorem dX0_goesOn_2 : decode cX0_goesOn 2 = .ok (.putfield 145, 3) := dk_181 0 145 (dk_at dksX0_goesOn_0 2 rfl rfl)
theorem dX0_goesOn_5 : decode cX0_goesOn 5 = .ok (.aload_n 0, 1) := dk_42 (dk_at dksX0_goesOn_0 5 rfl rfl)
theorem dX0_goesOn_6 : decode cX0_goesOn 6 = .ok (.iconst 0, 1) := dk_3 (dk_at dksX0_goesOn_0 6 rfl rfl)
theorem dX0_goesOn_7 : decode cX0_goesOn 7 = .ok (.putfield 142, 3) := dk_181 0 142 (dk_at dksX0_goesOn_0 7 rfl rfl)
theorem dX0_goesOn_10 : decode cX0_goesOn 10 = .ok (.aload_n 0, 1) := dk_42 (dk_at dksX0_goesOn_0 10 rfl rfl)
theorem dX0_goesOn_11 : decode cX0_goesOn 11 = .ok (.iconst 0, 1) := dk_3 (dk_at dksX0_goesOn_0 11 rfl rfl)
theorem dX0_goesOn_12 : decode cX0_goesOn 12 = .ok (.putfield 155, 3) := dk_181 0 155 (dk_at dksX0_goesOn_0 12 rfl rfl)
theorem dX0_goesOn_15 : decode cX0_goesOn 15 = .ok (.aload_n 0, 1) := dk_42 (dk_at dksX0_goesOn_0 15 rfl rfl)
theorem dX0_goesOn_16 : decode cX0_goesOn 16 = .ok (.iconst 0, 1) := dk_3 (dk_at dksX0_goesOn_0 16 rfl rfl)
theorem dX0_goesOn_17 : decode cX0_goesOn 17 = .ok (.putfield 158, 3) := dk_181 0 158 (dk_at dksX0_goesOn_0 17 rfl rfl)
theorem dX0_goesOn_20 : decode cX0_goesOn 20 = .ok (.aload_n 0, 1) := dk_42 (dk_at dksX0_goesOn_0 20 rfl rfl)
theorem dX0_goesOn_21 : decode cX0_goesOn 21 = .ok (.getfield 142, 3) := dk_180 0 142 (dk_at dksX0_goesOn_0 21 rfl rfl)
theorem dX0_goesOn_24 : decode cX0_goesOn 24 = .ok (.aload_n 1, 1) := dk_43 (dk_at dksX0_goesOn_1 0 rfl rfl)
theorem dX0_goesOn_25 : decode cX0_goesOn 25 = .ok (.arraylength, 1) := dk_190 (dk_at dksX0_goesOn_1 1 rfl rfl)
theorem dX0_goesOn_26 : decode cX0_goesOn 26 = .ok (.if_icmp .ge 56, 3) := dk_162 0 56 (dk_at dksX0_goesOn_1 2 rfl rfl)
theorem dX0_goesOn_29 : decode cX0_goesOn 29 = .ok (.aload_n 0, 1) := dk_42 (dk_at dksX0_goesOn_1 5 rfl rfl)
theorem dX0_goesOn_30 : decode cX0_goesOn 30 = .ok (.invokevirtual 148, 3) := dk_182 0 148 (dk_at dksX0_goesOn_1 6 rfl rfl)
theorem dX0_goesOn_33 : decode cX0_goesOn 33 = .ok (.bipush 32, 2) := dk_16 32 (dk_at dksX0_goesOn_1 9 rfl rfl)
theorem dX0_goesOn_35 : decode cX0_goesOn 35 = .ok (.if_icmp .ne 16, 3) := dk_160 0 16 (dk_at dksX0_goesOn_1 11 rfl rfl)
theorem dX0_goesOn_38 : decode cX0_goesOn 38 = .ok (.aload_n 0, 1) := dk_42 (dk_at dksX0_goesOn_1 14 rfl rfl)
theorem dX0_goesOn_39 : decode cX0_goesOn 39 = .ok (.dup, 1) := dk_89 (dk_at dksX0_goesOn_1 15 rfl rfl)
theorem dX0_goesOn_40 : decode cX0_goesOn 40 = .ok (.getfield 142, 3) := dk_180 0 142 (dk_at dksX0_goesOn_1 16 rfl rfl)
theorem dX0_goesOn_43 : decode cX0_goesOn 43 = .ok (.iconst 1, 1) := dk_4 (dk_at dksX0_goesOn_1 19 rfl rfl)
theorem dX0_goesOn_44 : decode cX0_goesOn 44 = .ok (.iadd, 1) := dk_96 (dk_at dksX0_goesOn_1 20 rfl rfl)
theorem dX0_goesOn_45 : decode cX0_goesOn 45 = .ok (.putfield 142, 3) := dk_181 0 142 (dk_at dksX0_goesOn_1 21 rfl rfl)
theorem dX0_goesOn_48 : decode cX0_goesOn 48 = .ok (.goto (-28), 3) := dk_167 255 228 (dk_at dksX0_goesOn_2 0 rfl rfl)
theorem dX0_goesOn_51 : decode cX0_goesOn 51 = .ok (.aload_n 0, 1) := dk_42 (dk_at dksX0_goesOn_2 3 rfl rfl)
theorem dX0_goesOn_52 : decode cX0_goesOn 52 = .ok (.invokevirtual 148, 3) := dk_182 0 148 (dk_at dksX0_goesOn_2 4 rfl rfl)
theorem dX0_goesOn_55 : decode cX0_goesOn 55 = .ok (.bipush 113, 2) := dk_16 113 (dk_at dksX0_goesOn_2 7 rfl rfl)
theorem dX0_goesOn_57 : decode cX0_goesOn 57 = .ok (.if_icmp .ne 13, 3) := dk_160 0 13 (dk_at dksX0_goesOn_2 9 rfl rfl)
theorem dX0_goesOn_60 : decode cX0_goesOn 60 = .ok (.aload_n 0, 1) := dk_42 (dk_at dksX0_goesOn_2 12 rfl rfl)
theorem dX0_goesOn_61 : decode cX0_goesOn 61 = .ok (.invokevirtual 164, 3) := dk_182 0 164 (dk_at dksX0_goesOn_2 13 rfl rfl)
theorem dX0_goesOn_64 : decode cX0_goesOn 64 = .ok (.ifCond .ne (-44), 3) := dk_154 255 212 (dk_at dksX0_goesOn_2 16 rfl rfl)
theorem dX0_goesOn_67 : decode cX0_goesOn 67 = .ok (.goto 10, 3) := dk_167 0 10 (dk_at dksX0_goesOn_2 19 rfl rfl)
theorem dX0_goesOn_70 : decode cX0_goesOn 70 = .ok (.aload_n 0, 1) := dk_42 (dk_at dksX0_goesOn_2 22 rfl rfl)
theorem dX0_goesOn_71 : decode cX0_goesOn 71 = .ok (.invokevirtual 168, 3) := dk_182 0 168 (dk_at dksX0_goesOn_3 0 rfl rfl)
theorem dX0_goesOn_74 : decode cX0_goesOn 74 = .ok (.ifCond .ne (-54), 3) := dk_154 255 202 (dk_at dksX0_goesOn_3 3 rfl rfl)
theorem dX0_goesOn_77 : decode cX0_goesOn 77 = .ok (.aload_n 0, 1) := dk_42 (dk_at dksX0_goesOn_3 6 rfl rfl)
theorem dX0_goesOn_78 : decode cX0_goesOn 78 = .ok (.getfield 142, 3) := dk_180 0 142 (dk_at dksX0_goesOn_3 7 rfl rfl)
theorem dX0_goesOn_81 : decode cX0_goesOn 81 = .ok (.ireturn, 1) := dk_172 (dk_at dksX0_goesOn_3 10 rfl rfl)
theorem dX0_goesOn_82 : decode cX0_goesOn 82 = .ok (.aload_n 0, 1) := dk_42 (dk_at dksX0_goesOn_3 11 rfl rfl)
theorem dX0_goesOn_83 : decode cX0_goesOn 83 = .ok (.getfield 155, 3) := dk_180 0 155 (dk_at dksX0_goesOn_3 12 rfl rfl)
theorem dX0_goesOn_86 : decode cX0_goesOn 86 = .ok (.ifCond .ne 8, 3) := dk_154 0 8 (dk_at dksX0_goesOn_3 15 rfl rfl)
theorem dX0_goesOn_89 : decode cX0_goesOn 89 = .ok (.aload_n 1, 1) := dk_43 (dk_at dksX0_goesOn_3 18 rfl rfl)
theorem dX0_goesOn_90 : decode cX0_goesOn 90 = .ok (.arraylength, 1) := dk_190 (dk_at dksX0_goesOn_3 19 rfl rfl)
theorem dX0_goesOn_91 : decode cX0_goesOn 91 = .ok (.goto 5, 3) := dk_167 0 5 (dk_at dksX0_goesOn_3 20 rfl rfl)
theorem dX0_goesOn_94 : decode cX0_goesOn 94 = .ok (.bipush (-9), 2) := dk_16 247 (dk_at dksX0_goesOn_4 0 rfl rfl)
theorem dX0_goesOn_96 : decode cX0_goesOn 96 = .ok (.ireturn, 1) := dk_172 (dk_at dksX0_goesOn_4 2 rfl rfl)
abbrev cX0_sign : ByteArray := prog_1_method_18_code
def yX0_sign : MethodName := ⟨RX0, "sign", "()I"⟩
def dkwX0_sign_1 : List UInt8 := [16, 247, 172]
abbrev dktX0_sign_1 : List UInt8 := dkwX0_sign_1 ++ []
def dkwX0_sign_0 : List UInt8 := [42, 180, 0, 142, 42, 180, 0, 145, 190, 162, 0, 15, 42, 180, 0, 145, 42, 180, 0, 142, 51, 167, 0, 5]
abbrev dktX0_sign_0 : List UInt8 := dkwX0_sign_0 ++ dktX0_sign_1
theorem dksX0_sign_0 : cX0_sign.data.toList.drop 0 = dktX0_sign_0 := by decide +kernel
theorem dksX0_sign_1 : cX0_sign.data.toList.drop 24 = dktX0_sign_1 := dk_seg dksX0_sign_0 24 rfl rfl
theorem dX0_sign_0 : decode cX0_sign 0 = .ok (.aload_n 0, 1) := dk_42 (dk_at dksX0_sign_0 0 rfl rfl)
theorem dX0_sign_1 : decode cX0_sign 1 = .ok (.getfield 142, 3) := dk_180 0 142 (dk_at dksX0_sign_0 1 rfl rfl)
theorem dX0_sign_4 : decode cX0_sign 4 = .ok (.aload_n 0, 1) := dk_42 (dk_at dksX0_sign_0 4 rfl rfl)
theorem dX0_sign_5 : decode cX0_sign 5 = .ok (.getfield 145, 3) := dk_180 0 145 (dk_at dksX0_sign_0 5 rfl rfl)
theorem dX0_sign_8 : decode cX0_sign 8 = .ok (.arraylength, 1) := dk_190 (dk_at dksX0_sign_0 8 rfl rfl)
theorem dX0_sign_9 : decode cX0_sign 9 = .ok (.if_icmp .ge 15, 3) := dk_162 0 15 (dk_at dksX0_sign_0 9 rfl rfl)
theorem dX0_sign_12 : decode cX0_sign 12 = .ok (.aload_n 0, 1) := dk_42 (dk_at dksX0_sign_0 12 rfl rfl)
theorem dX0_sign_13 : decode cX0_sign 13 = .ok (.getfield 145, 3) := dk_180 0 145 (dk_at dksX0_sign_0 13 rfl rfl)
theorem dX0_sign_16 : decode cX0_sign 16 = .ok (.aload_n 0, 1) := dk_42 (dk_at dksX0_sign_0 16 rfl rfl)
theorem dX0_sign_17 : decode cX0_sign 17 = .ok (.getfield 142, 3) := dk_180 0 142 (dk_at dksX0_sign_0 17 rfl rfl)
theorem dX0_sign_20 : decode cX0_sign 20 = .ok (.baload, 1) := dk_51 (dk_at dksX0_sign_0 20 rfl rfl)
theorem dX0_sign_21 : decode cX0_sign 21 = .ok (.goto 5, 3) := dk_167 0 5 (dk_at dksX0_sign_0 21 rfl rfl)
theorem dX0_sign_24 : decode cX0_sign 24 = .ok (.bipush (-9), 2) := dk_16 247 (dk_at dksX0_sign_1 0 rfl rfl)
theorem dX0_sign_26 : decode cX0_sign 26 = .ok (.ireturn, 1) := dk_172 (dk_at dksX0_sign_1 2 rfl rfl)
abbrev cX0_readsQuestion : ByteArray := prog_1_method_22_code
def yX0_readsQuestion : MethodName := ⟨RX0, "readsQuestion", "()Z"⟩
def dkwX0_readsQuestion_5 : List UInt8 := [181, 0, 158, 4, 172]
abbrev dktX0_readsQuestion_5 : List UInt8 := dkwX0_readsQuestion_5 ++ []
def dkwX0_readsQuestion_4 : List UInt8 := [180, 0, 56, 27, 28, 96, 21, 4, 79, 132, 2, 1, 167, 255, 185, 42, 89, 180, 0, 158, 4, 96]
abbrev dktX0_readsQuestion_4 : List UInt8 := dkwX0_readsQuestion_4 ++ dktX0_readsQuestion_5
def dkwX0_readsQuestion_3 : List UInt8 := [154, 0, 7, 8, 167, 0, 5, 16, 9, 182, 0, 161, 54, 4, 21, 4, 16, 247, 160, 0, 5, 3, 172, 42]
abbrev dktX0_readsQuestion_3 : List UInt8 := dkwX0_readsQuestion_3 ++ dktX0_readsQuestion_4
def dkwX0_readsQuestion_2 : List UInt8 := [180, 0, 56, 27, 4, 96, 46, 167, 0, 13, 28, 6, 160, 0, 7, 4, 167, 0, 4, 3, 62, 42, 29, 28]
abbrev dktX0_readsQuestion_2 : List UInt8 := dkwX0_readsQuestion_2 ++ dktX0_readsQuestion_3
def dkwX0_readsQuestion_1 : List UInt8 := [60, 42, 89, 180, 0, 142, 4, 96, 181, 0, 142, 3, 61, 28, 7, 162, 0, 72, 28, 5, 160, 0, 14, 42]
abbrev dktX0_readsQuestion_1 : List UInt8 := dkwX0_readsQuestion_1 ++ dktX0_readsQuestion_2
def dkwX0_readsQuestion_0 : List UInt8 := [42, 180, 0, 155, 153, 0, 12, 42, 180, 0, 158, 16, 7, 160, 0, 5, 3, 172, 7, 42, 180, 0, 158, 104]
abbrev dktX0_readsQuestion_0 : List UInt8 := dkwX0_readsQuestion_0 ++ dktX0_readsQuestion_1
theorem dksX0_readsQuestion_0 : cX0_readsQuestion.data.toList.drop 0 = dktX0_readsQuestion_0 := by decide +kernel
theorem dksX0_readsQuestion_1 : cX0_readsQuestion.data.toList.drop 24 = dktX0_readsQuestion_1 := dk_seg dksX0_readsQuestion_0 24 rfl rfl
theorem dksX0_readsQuestion_2 : cX0_readsQuestion.data.toList.drop 48 = dktX0_readsQuestion_2 := dk_seg dksX0_readsQuestion_1 24 rfl rfl
theorem dksX0_readsQuestion_3 : cX0_readsQuestion.data.toList.drop 72 = dktX0_readsQuestion_3 := dk_seg dksX0_readsQuestion_2 24 rfl rfl
theorem dksX0_readsQuestion_4 : cX0_readsQuestion.data.toList.drop 96 = dktX0_readsQuestion_4 := dk_seg dksX0_readsQuestion_3 24 rfl rfl
theorem dksX0_readsQuestion_5 : cX0_readsQuestion.data.toList.drop 118 = dktX0_readsQuestion_5 := dk_seg dksX0_readsQuestion_4 22 rfl rfl
theorem dX0_readsQuestion_0 : decode cX0_readsQuestion 0 = .ok (.aload_n 0, 1) := dk_42 (dk_at dksX0_readsQuestion_0 0 rfl rfl)
theorem dX0_readsQuestion_1 : decode cX0_readsQuestion 1 = .ok (.getfield 155, 3) := dk_180 0 155 (dk_at dksX0_readsQuestion_0 1 rfl rfl)
theorem dX0_readsQuestion_4 : decode cX0_readsQuestion 4 = .ok (.ifCond .eq 12, 3) := dk_153 0 12 (dk_at dksX0_readsQuestion_0 4 rfl rfl)
theorem dX0_readsQuestion_7 : decode cX0_readsQuestion 7 = .ok (.aload_n 0, 1) := dk_42 (dk_at dksX0_readsQuestion_0 7 rfl rfl)
theorem dX0_readsQuestion_8 : decode cX0_readsQuestion 8 = .ok (.getfield 158, 3) := dk_180 0 158 (dk_at dksX0_readsQuestion_0 8 rfl rfl)
theorem dX0_readsQuestion_11 : decode cX0_readsQuestion 11 = .ok (.bipush 7, 2) := dk_16 7 (dk_at dksX0_readsQuestion_0 11 rfl rfl)
theorem dX0_readsQuestion_13 : decode cX0_readsQuestion 13 = .ok (.if_icmp .ne 5, 3) := dk_160 0 5 (dk_at dksX0_readsQuestion_0 13 rfl rfl)
theorem dX0_readsQuestion_16 : decode cX0_readsQuestion 16 = .ok (.iconst 0, 1) := dk_3 (dk_at dksX0_readsQuestion_0 16 rfl rfl)
theorem dX0_readsQuestion_17 : decode cX0_readsQuestion 17 = .ok (.ireturn, 1) := dk_172 (dk_at dksX0_readsQuestion_0 17 rfl rfl)
theorem dX0_readsQuestion_18 : decode cX0_readsQuestion 18 = .ok (.iconst 4, 1) := dk_7 (dk_at dksX0_readsQuestion_0 18 rfl rfl)
theorem dX0_readsQuestion_19 : decode cX0_readsQuestion 19 = .ok (.aload_n 0, 1) := dk_42 (dk_at dksX0_readsQuestion_0 19 rfl rfl)
theorem dX0_readsQuestion_20 : decode cX0_readsQuestion 20 = .ok (.getfield 158, 3) := dk_180 0 158 (dk_at dksX0_readsQuestion_0 20 rfl rfl)
theorem dX0_readsQuestion_23 : decode cX0_readsQuestion 23 = .ok (.imul, 1) := dk_104 (dk_at dksX0_readsQuestion_0 23 rfl rfl)
theorem dX0_readsQuestion_24 : decode cX0_readsQuestion 24 = .ok (.istore_n 1, 1) := dk_60 (dk_at dksX0_readsQuestion_1 0 rfl rfl)
theorem dX0_readsQuestion_25 : decode cX0_readsQuestion 25 = .ok (.aload_n 0, 1) := dk_42 (dk_at dksX0_readsQuestion_1 1 rfl rfl)
theorem dX0_readsQuestion_26 : decode cX0_readsQuestion 26 = .ok (.dup, 1) := dk_89 (dk_at dksX0_readsQuestion_1 2 rfl rfl)
theorem dX0_readsQuestion_27 : decode cX0_readsQuestion 27 = .ok (.getfield 142, 3) := dk_180 0 142 (dk_at dksX0_readsQuestion_1 3 rfl rfl)
theorem dX0_readsQuestion_30 : decode cX0_readsQuestion 30 = .ok (.iconst 1, 1) := dk_4 (dk_at dksX0_readsQuestion_1 6 rfl rfl)
theorem dX0_readsQuestion_31 : decode cX0_readsQuestion 31 = .ok (.iadd, 1) := dk_96 (dk_at dksX0_readsQuestion_1 7 rfl rfl)
theorem dX0_readsQuestion_32 : decode cX0_readsQuestion 32 = .ok (.putfield 142, 3) := dk_181 0 142 (dk_at dksX0_readsQuestion_1 8 rfl rfl)
theorem dX0_readsQuestion_35 : decode cX0_readsQuestion 35 = .ok (.iconst 0, 1) := dk_3 (dk_at dksX0_readsQuestion_1 11 rfl rfl)
theorem dX0_readsQuestion_36 : decode cX0_readsQuestion 36 = .ok (.istore_n 2, 1) := dk_61 (dk_at dksX0_readsQuestion_1 12 rfl rfl)
theorem dX0_readsQuestion_37 : decode cX0_readsQuestion 37 = .ok (.iload_n 2, 1) := dk_28 (dk_at dksX0_readsQuestion_1 13 rfl rfl)
theorem dX0_readsQuestion_38 : decode cX0_readsQuestion 38 = .ok (.iconst 4, 1) := dk_7 (dk_at dksX0_readsQuestion_1 14 rfl rfl)
theorem dX0_readsQuestion_39 : decode cX0_readsQuestion 39 = .ok (.if_icmp .ge 72, 3) := dk_162 0 72 (dk_at dksX0_readsQuestion_1 15 rfl rfl)
theorem dX0_readsQuestion_42 : decode cX0_readsQuestion 42 = .ok (.iload_n 2, 1) := dk_28 (dk_at dksX0_readsQuestion_1 18 rfl rfl)
theorem dX0_readsQuestion_43 : decode cX0_readsQuestion 43 = .ok (.iconst 2, 1) := dk_5 (dk_at dksX0_readsQuestion_1 19 rfl rfl)
theorem dX0_readsQuestion_44 : decode cX0_readsQuestion 44 = .ok (.if_icmp .ne 14, 3) := dk_160 0 14 (dk_at dksX0_readsQuestion_1 20 rfl rfl)
theorem dX0_readsQuestion_47 : decode cX0_readsQuestion 47 = .ok (.aload_n 0, 1) := dk_42 (dk_at dksX0_readsQuestion_1 23 rfl rfl)
theorem dX0_readsQuestion_48 : decode cX0_readsQuestion 48 = .ok (.getfield 56, 3) := dk_180 0 56 (dk_at dksX0_readsQuestion_2 0 rfl rfl)
theorem dX0_readsQuestion_51 : decode cX0_readsQuestion 51 = .ok (.iload_n 1, 1) := dk_27 (dk_at dksX0_readsQuestion_2 3 rfl rfl)
theorem dX0_readsQuestion_52 : decode cX0_readsQuestion 52 = .ok (.iconst 1, 1) := dk_4 (dk_at dksX0_readsQuestion_2 4 rfl rfl)
theorem dX0_readsQuestion_53 : decode cX0_readsQuestion 53 = .ok (.iadd, 1) := dk_96 (dk_at dksX0_readsQuestion_2 5 rfl rfl)
theorem dX0_readsQuestion_54 : decode cX0_readsQuestion 54 = .ok (.iaload, 1) := dk_46 (dk_at dksX0_readsQuestion_2 6 rfl rfl)
theorem dX0_readsQuestion_55 : decode cX0_readsQuestion 55 = .ok (.goto 13, 3) := dk_167 0 13 (dk_at dksX0_readsQuestion_2 7 rfl rfl)
theorem dX0_readsQuestion_58 : decode cX0_readsQuestion 58 = .ok (.iload_n 2, 1) := dk_28 (dk_at dksX0_readsQuestion_2 10 rfl rfl)
theorem dX0_readsQuestion_59 : decode cX0_readsQuestion 59 = .ok (.iconst 3, 1) := dk_6 (dk_at dksX0_readsQuestion_2 11 rfl rfl)
theorem dX0_readsQuestion_60 : decode cX0_readsQuestion 60 = .ok (.if_icmp .ne 7, 3) := dk_160 0 7 (dk_at dksX0_readsQuestion_2 12 rfl rfl)
theorem dX0_readsQuestion_63 : decode cX0_readsQuestion 63 = .ok (.iconst 1, 1) := dk_4 (dk_at dksX0_readsQuestion_2 15 rfl rfl)
theorem dX0_readsQuestion_64 : decode cX0_readsQuestion 64 = .ok (.goto 4, 3) := dk_167 0 4 (dk_at dksX0_readsQuestion_2 16 rfl rfl)
theorem dX0_readsQuestion_67 : decode cX0_readsQuestion 67 = .ok (.iconst 0, 1) := dk_3 (dk_at dksX0_readsQuestion_2 19 rfl rfl)
theorem dX0_readsQuestion_68 : decode cX0_readsQuestion 68 = .ok (.istore_n 3, 1) := dk_62 (dk_at dksX0_readsQuestion_2 20 rfl rfl)
theorem dX0_readsQuestion_69 : decode cX0_readsQuestion 69 = .ok (.aload_n 0, 1) := dk_42 (dk_at dksX0_readsQuestion_2 21 rfl rfl)
theorem dX0_readsQuestion_70 : decode cX0_readsQuestion 70 = .ok (.iload_n 3, 1) := dk_29 (dk_at dksX0_readsQuestion_2 22 rfl rfl)
theorem dX0_readsQuestion_71 : decode cX0_readsQuestion 71 = .ok (.iload_n 2, 1) := dk_28 (dk_at dksX0_readsQuestion_2 23 rfl rfl)
theorem dX0_readsQuestion_72 : decode cX0_readsQuestion 72 = .ok (.ifCond .ne 7, 3) := dk_154 0 7 (dk_at dksX0_readsQuestion_3 0 rfl rfl)
theorem dX0_readsQuestion_75 : decode cX0_readsQuestion 75 = .ok (.iconst 5, 1) := dk_8 (dk_at dksX0_readsQuestion_3 3 rfl rfl)
theorem dX0_readsQuestion_76 : decode cX0_readsQuestion 76 = .ok (.goto 5, 3) := dk_167 0 5 (dk_at dksX0_readsQuestion_3 4 rfl rfl)
theorem dX0_readsQuestion_79 : decode cX0_readsQuestion 79 = .ok (.bipush 9, 2) := dk_16 9 (dk_at dksX0_readsQuestion_3 7 rfl rfl)
theorem dX0_readsQuestion_81 : decode cX0_readsQuestion 81 = .ok (.invokevirtual 161, 3) := dk_182 0 161 (dk_at dksX0_readsQuestion_3 9 rfl rfl)
theorem dX0_readsQuestion_84 : decode cX0_readsQuestion 84 = .ok (.istore 4, 2) := dk_54 4 (dk_at dksX0_readsQuestion_3 12 rfl rfl)
theorem dX0_readsQuestion_86 : decode cX0_readsQuestion 86 = .ok (.iload 4, 2) := dk_21 4 (dk_at dksX0_readsQuestion_3 14 rfl rfl)
theorem dX0_readsQuestion_88 : decode cX0_readsQuestion 88 = .ok (.bipush (-9), 2) := dk_16 247 (dk_at dksX0_readsQuestion_3 16 rfl rfl)
theorem dX0_readsQuestion_90 : decode cX0_readsQuestion 90 = .ok (.if_icmp .ne 5, 3) := dk_160 0 5 (dk_at dksX0_readsQuestion_3 18 rfl rfl)
theorem dX0_readsQuestion_93 : decode cX0_readsQuestion 93 = .ok (.iconst 0, 1) := dk_3 (dk_at dksX0_readsQuestion_3 21 rfl rfl)
theorem dX0_readsQuestion_94 : decode cX0_readsQuestion 94 = .ok (.ireturn, 1) := dk_172 (dk_at dksX0_readsQuestion_3 22 rfl rfl)
theorem dX0_readsQuestion_95 : decode cX0_readsQuestion 95 = .ok (.aload_n 0, 1) := dk_42 (dk_at dksX0_readsQuestion_3 23 rfl rfl)
theorem dX0_readsQuestion_96 : decode cX0_readsQuestion 96 = .ok (.getfield 56, 3) := dk_180 0 56 (dk_at dksX0_readsQuestion_4 0 rfl rfl)
theorem dX0_readsQuestion_99 : decode cX0_readsQuestion 99 = .ok (.iload_n 1, 1) := dk_27 (dk_at dksX0_readsQuestion_4 3 rfl rfl)
theorem dX0_readsQuestion_100 : decode cX0_readsQuestion 100 = .ok (.iload_n 2, 1) := dk_28 (dk_at dksX0_readsQuestion_4 4 rfl rfl)
theorem dX0_readsQuestion_101 : decode cX0_readsQuestion 101 = .ok (.iadd, 1) := dk_96 (dk_at dksX0_readsQuestion_4 5 rfl rfl)
theorem dX0_readsQuestion_102 : decode cX0_readsQuestion 102 = .ok (.iload 4, 2) := dk_21 4 (dk_at dksX0_readsQuestion_4 6 rfl rfl)
theorem dX0_readsQuestion_104 : decode cX0_readsQuestion 104 = .ok (.iastore, 1) := dk_79 (dk_at dksX0_readsQuestion_4 8 rfl rfl)
theorem dX0_readsQuestion_105 : decode cX0_readsQuestion 105 = .ok (.iinc 2 1, 3) := dk_132 2 1 (dk_at dksX0_readsQuestion_4 9 rfl rfl)
theorem dX0_readsQuestion_108 : decode cX0_readsQuestion 108 = .ok (.goto (-71), 3) := dk_167 255 185 (dk_at dksX0_readsQuestion_4 12 rfl rfl)
theorem dX0_readsQuestion_111 : decode cX0_readsQuestion 111 = .ok (.aload_n 0, 1) := dk_42 (dk_at dksX0_readsQuestion_4 15 rfl rfl)
theorem dX0_readsQuestion_112 : decode cX0_readsQuestion 112 = .ok (.dup, 1) := dk_89 (dk_at dksX0_readsQuestion_4 16 rfl rfl)
theorem dX0_readsQuestion_113 : decode cX0_readsQuestion 113 = .ok (.getfield 158, 3) := dk_180 0 158 (dk_at dksX0_readsQuestion_4 17 rfl rfl)
theorem dX0_readsQuestion_116 : decode cX0_readsQuestion 116 = .ok (.iconst 1, 1) := dk_4 (dk_at dksX0_readsQuestion_4 20 rfl rfl)
theorem dX0_readsQuestion_117 : decode cX0_readsQuestion 117 = .ok (.iadd, 1) := dk_96 (dk_at dksX0_readsQuestion_4 21 rfl rfl)
theorem dX0_readsQuestion_118 : decode cX0_readsQuestion 118 = .ok (.putfield 158, 3) := dk_181 0 158 (dk_at dksX0_readsQuestion_5 0 rfl rfl)
theorem dX0_readsQuestion_121 : decode cX0_readsQuestion 121 = .ok (.iconst 1, 1) := dk_4 (dk_at dksX0_readsQuestion_5 3 rfl rfl)
theorem dX0_readsQuestion_122 : decode cX0_readsQuestion 122 = .ok (.ireturn, 1) := dk_172 (dk_at dksX0_readsQuestion_5 4 rfl rfl)
abbrev cX0_readsFigure : ByteArray := prog_1_method_19_code
def yX0_readsFigure : MethodName := ⟨RX0, "readsFigure", "(II)I"⟩
def dkwX0_readsFigure_1 : List UInt8 := [180, 0, 142, 4, 96, 181, 0, 142, 29, 172]
abbrev dktX0_readsFigure_1 : List UInt8 := dkwX0_readsFigure_1 ++ []
def dkwX0_readsFigure_0 : List UInt8 := [42, 182, 0, 148, 16, 48, 100, 62, 29, 27, 28, 184, 0, 86, 154, 0, 6, 16, 247, 172, 42, 89]
abbrev dktX0_readsFigure_0 : List UInt8 := dkwX0_readsFigure_0 ++ dktX0_readsFigure_1
theorem dksX0_readsFigure_0 : cX0_readsFigure.data.toList.drop 0 = dktX0_readsFigure_0 := by decide +kernel
theorem dksX0_readsFigure_1 : cX0_readsFigure.data.toList.drop 22 = dktX0_readsFigure_1 := dk_seg dksX0_readsFigure_0 22 rfl rfl
theorem dX0_readsFigure_0 : decode cX0_readsFigure 0 = .ok (.aload_n 0, 1) := dk_42 (dk_at dksX0_readsFigure_0 0 rfl rfl)
theorem dX0_readsFigure_1 : decode cX0_readsFigure 1 = .ok (.invokevirtual 148, 3) := dk_182 0 148 (dk_at dksX0_readsFigure_0 1 rfl rfl)
theorem dX0_readsFigure_4 : decode cX0_readsFigure 4 = .ok (.bipush 48, 2) := dk_16 48 (dk_at dksX0_readsFigure_0 4 rfl rfl)
theorem dX0_readsFigure_6 : decode cX0_readsFigure 6 = .ok (.isub, 1) := dk_100 (dk_at dksX0_readsFigure_0 6 rfl rfl)
theorem dX0_readsFigure_7 : decode cX0_readsFigure 7 = .ok (.istore_n 3, 1) := dk_62 (dk_at dksX0_readsFigure_0 7 rfl rfl)
theorem dX0_readsFigure_8 : decode cX0_readsFigure 8 = .ok (.iload_n 3, 1) := dk_29 (dk_at dksX0_readsFigure_0 8 rfl rfl)
theorem dX0_readsFigure_9 : decode cX0_readsFigure 9 = .ok (.iload_n 1, 1) := dk_27 (dk_at dksX0_readsFigure_0 9 rfl rfl)
theorem dX0_readsFigure_10 : decode cX0_readsFigure 10 = .ok (.iload_n 2, 1) := dk_28 (dk_at dksX0_readsFigure_0 10 rfl rfl)
theorem dX0_readsFigure_11 : decode cX0_readsFigure 11 = .ok (.invokestatic 86, 3) := dk_184 0 86 (dk_at dksX0_readsFigure_0 11 rfl rfl)
theorem dX0_readsFigure_14 : decode cX0_readsFigure 14 = .ok (.ifCond .ne 6, 3) := dk_154 0 6 (dk_at dksX0_readsFigure_0 14 rfl rfl)
theorem dX0_readsFigure_17 : decode cX0_readsFigure 17 = .ok (.bipush (-9), 2) := dk_16 247 (dk_at dksX0_readsFigure_0 17 rfl rfl)
theorem dX0_readsFigure_19 : decode cX0_readsFigure 19 = .ok (.ireturn, 1) := dk_172 (dk_at dksX0_readsFigure_0 19 rfl rfl)
theorem dX0_readsFigure_20 : decode cX0_readsFigure 20 = .ok (.aload_n 0, 1) := dk_42 (dk_at dksX0_readsFigure_0 20 rfl rfl)
theorem dX0_readsFigure_21 : decode cX0_readsFigure 21 = .ok (.dup, 1) := dk_89 (dk_at dksX0_readsFigure_0 21 rfl rfl)
theorem dX0_readsFigure_22 : decode cX0_readsFigure 22 = .ok (.getfield 142, 3) := dk_180 0 142 (dk_at dksX0_readsFigure_1 0 rfl rfl)
theorem dX0_readsFigure_25 : decode cX0_readsFigure 25 = .ok (.iconst 1, 1) := dk_4 (dk_at dksX0_readsFigure_1 3 rfl rfl)
theorem dX0_readsFigure_26 : decode cX0_readsFigure 26 = .ok (.iadd, 1) := dk_96 (dk_at dksX0_readsFigure_1 4 rfl rfl)
theorem dX0_readsFigure_27 : decode cX0_readsFigure 27 = .ok (.putfield 142, 3) := dk_181 0 142 (dk_at dksX0_readsFigure_1 5 rfl rfl)
theorem dX0_readsFigure_30 : decode cX0_readsFigure 30 = .ok (.iload_n 3, 1) := dk_29 (dk_at dksX0_readsFigure_1 8 rfl rfl)
theorem dX0_readsFigure_31 : decode cX0_readsFigure 31 = .ok (.ireturn, 1) := dk_172 (dk_at dksX0_readsFigure_1 9 rfl rfl)
abbrev cX0_readsCard : ByteArray := prog_1_method_21_code
def yX0_readsCard : MethodName := ⟨RX0, "readsCard", "()Z"⟩
def dkwX0_readsCard_4 : List UInt8 := [29, 79, 132, 2, 1, 167, 255, 214, 42, 89, 180, 0, 155, 4, 96, 181, 0, 155, 4, 172]
abbrev dktX0_readsCard_4 : List UInt8 := dkwX0_readsCard_4 ++ []
def dkwX0_readsCard_3 : List UInt8 := [167, 0, 5, 16, 9, 182, 0, 161, 62, 29, 16, 247, 160, 0, 5, 3, 172, 42, 180, 0, 53, 27, 28, 96]
abbrev dktX0_readsCard_3 : List UInt8 := dkwX0_readsCard_3 ++ dktX0_readsCard_4
def dkwX0_readsCard_2 : List UInt8 := [180, 0, 142, 4, 96, 181, 0, 142, 4, 61, 28, 7, 162, 0, 43, 42, 3, 28, 5, 160, 0, 7, 6]
abbrev dktX0_readsCard_2 : List UInt8 := dkwX0_readsCard_2 ++ dktX0_readsCard_3
def dkwX0_readsCard_1 : List UInt8 := [158, 0, 5, 3, 172, 7, 42, 180, 0, 155, 104, 60, 42, 180, 0, 53, 27, 42, 182, 0, 148, 79, 42, 89]
abbrev dktX0_readsCard_1 : List UInt8 := dkwX0_readsCard_1 ++ dktX0_readsCard_2
def dkwX0_readsCard_0 : List UInt8 := [42, 182, 0, 148, 184, 0, 152, 153, 0, 19, 42, 180, 0, 155, 16, 7, 159, 0, 10, 42, 180, 0, 158]
abbrev dktX0_readsCard_0 : List UInt8 := dkwX0_readsCard_0 ++ dktX0_readsCard_1
theorem dksX0_readsCard_0 : cX0_readsCard.data.toList.drop 0 = dktX0_readsCard_0 := by decide +kernel
theorem dksX0_readsCard_1 : cX0_readsCard.data.toList.drop 23 = dktX0_readsCard_1 := dk_seg dksX0_readsCard_0 23 rfl rfl
theorem dksX0_readsCard_2 : cX0_readsCard.data.toList.drop 47 = dktX0_readsCard_2 := dk_seg dksX0_readsCard_1 24 rfl rfl
theorem dksX0_readsCard_3 : cX0_readsCard.data.toList.drop 70 = dktX0_readsCard_3 := dk_seg dksX0_readsCard_2 23 rfl rfl
theorem dksX0_readsCard_4 : cX0_readsCard.data.toList.drop 94 = dktX0_readsCard_4 := dk_seg dksX0_readsCard_3 24 rfl rfl
theorem dX0_readsCard_0 : decode cX0_readsCard 0 = .ok (.aload_n 0, 1) := dk_42 (dk_at dksX0_readsCard_0 0 rfl rfl)
theorem dX0_readsCard_1 : decode cX0_readsCard 1 = .ok (.invokevirtual 148, 3) := dk_182 0 148 (dk_at dksX0_readsCard_0 1 rfl rfl)
theorem dX0_readsCard_4 : decode cX0_readsCard 4 = .ok (.invokestatic 152, 3) := dk_184 0 152 (dk_at dksX0_readsCard_0 4 rfl rfl)
theorem dX0_readsCard_7 : decode cX0_readsCard 7 = .ok (.ifCond .eq 19, 3) := dk_153 0 19 (dk_at dksX0_readsCard_0 7 rfl rfl)
theorem dX0_readsCard_10 : decode cX0_readsCard 10 = .ok (.aload_n 0, 1) := dk_42 (dk_at dksX0_readsCard_0 10 rfl rfl)
theorem dX0_readsCard_11 : decode cX0_readsCard 11 = .ok (.getfield 155, 3) := dk_180 0 155 (dk_at dksX0_readsCard_0 11 rfl rfl)
theorem dX0_readsCard_14 : decode cX0_readsCard 14 = .ok (.bipush 7, 2) := dk_16 7 (dk_at dksX0_readsCard_0 14 rfl rfl)
theorem dX0_readsCard_16 : decode cX0_readsCard 16 = .ok (.if_icmp .eq 10, 3) := dk_159 0 10 (dk_at dksX0_readsCard_0 16 rfl rfl)
theorem dX0_readsCard_19 : decode cX0_readsCard 19 = .ok (.aload_n 0, 1) := dk_42 (dk_at dksX0_readsCard_0 19 rfl rfl)
theorem dX0_readsCard_20 : decode cX0_readsCard 20 = .ok (.getfield 158, 3) := dk_180 0 158 (dk_at dksX0_readsCard_0 20 rfl rfl)
theorem dX0_readsCard_23 : decode cX0_readsCard 23 = .ok (.ifCond .le 5, 3) := dk_158 0 5 (dk_at dksX0_readsCard_1 0 rfl rfl)
theorem dX0_readsCard_26 : decode cX0_readsCard 26 = .ok (.iconst 0, 1) := dk_3 (dk_at dksX0_readsCard_1 3 rfl rfl)
theorem dX0_readsCard_27 : decode cX0_readsCard 27 = .ok (.ireturn, 1) := dk_172 (dk_at dksX0_readsCard_1 4 rfl rfl)
theorem dX0_readsCard_28 : decode cX0_readsCard 28 = .ok (.iconst 4, 1) := dk_7 (dk_at dksX0_readsCard_1 5 rfl rfl)
theorem dX0_readsCard_29 : decode cX0_readsCard 29 = .ok (.aload_n 0, 1) := dk_42 (dk_at dksX0_readsCard_1 6 rfl rfl)
theorem dX0_readsCard_30 : decode cX0_readsCard 30 = .ok (.getfield 155, 3) := dk_180 0 155 (dk_at dksX0_readsCard_1 7 rfl rfl)
theorem dX0_readsCard_33 : decode cX0_readsCard 33 = .ok (.imul, 1) := dk_104 (dk_at dksX0_readsCard_1 10 rfl rfl)
theorem dX0_readsCard_34 : decode cX0_readsCard 34 = .ok (.istore_n 1, 1) := dk_60 (dk_at dksX0_readsCard_1 11 rfl rfl)
theorem dX0_readsCard_35 : decode cX0_readsCard 35 = .ok (.aload_n 0, 1) := dk_42 (dk_at dksX0_readsCard_1 12 rfl rfl)
theorem dX0_readsCard_36 : decode cX0_readsCard 36 = .ok (.getfield 53, 3) := dk_180 0 53 (dk_at dksX0_readsCard_1 13 rfl rfl)
theorem dX0_readsCard_39 : decode cX0_readsCard 39 = .ok (.iload_n 1, 1) := dk_27 (dk_at dksX0_readsCard_1 16 rfl rfl)
theorem dX0_readsCard_40 : decode cX0_readsCard 40 = .ok (.aload_n 0, 1) := dk_42 (dk_at dksX0_readsCard_1 17 rfl rfl)
theorem dX0_readsCard_41 : decode cX0_readsCard 41 = .ok (.invokevirtual 148, 3) := dk_182 0 148 (dk_at dksX0_readsCard_1 18 rfl rfl)
theorem dX0_readsCard_44 : decode cX0_readsCard 44 = .ok (.iastore, 1) := dk_79 (dk_at dksX0_readsCard_1 21 rfl rfl)
theorem dX0_readsCard_45 : decode cX0_readsCard 45 = .ok (.aload_n 0, 1) := dk_42 (dk_at dksX0_readsCard_1 22 rfl rfl)
theorem dX0_readsCard_46 : decode cX0_readsCard 46 = .ok (.dup, 1) := dk_89 (dk_at dksX0_readsCard_1 23 rfl rfl)
theorem dX0_readsCard_47 : decode cX0_readsCard 47 = .ok (.getfield 142, 3) := dk_180 0 142 (dk_at dksX0_readsCard_2 0 rfl rfl)
theorem dX0_readsCard_50 : decode cX0_readsCard 50 = .ok (.iconst 1, 1) := dk_4 (dk_at dksX0_readsCard_2 3 rfl rfl)
theorem dX0_readsCard_51 : decode cX0_readsCard 51 = .ok (.iadd, 1) := dk_96 (dk_at dksX0_readsCard_2 4 rfl rfl)
theorem dX0_readsCard_52 : decode cX0_readsCard 52 = .ok (.putfield 142, 3) := dk_181 0 142 (dk_at dksX0_readsCard_2 5 rfl rfl)
theorem dX0_readsCard_55 : decode cX0_readsCard 55 = .ok (.iconst 1, 1) := dk_4 (dk_at dksX0_readsCard_2 8 rfl rfl)
theorem dX0_readsCard_56 : decode cX0_readsCard 56 = .ok (.istore_n 2, 1) := dk_61 (dk_at dksX0_readsCard_2 9 rfl rfl)
theorem dX0_readsCard_57 : decode cX0_readsCard 57 = .ok (.iload_n 2, 1) := dk_28 (dk_at dksX0_readsCard_2 10 rfl rfl)
theorem dX0_readsCard_58 : decode cX0_readsCard 58 = .ok (.iconst 4, 1) := dk_7 (dk_at dksX0_readsCard_2 11 rfl rfl)
theorem dX0_readsCard_59 : decode cX0_readsCard 59 = .ok (.if_icmp .ge 43, 3) := dk_162 0 43 (dk_at dksX0_readsCard_2 12 rfl rfl)
theorem dX0_readsCard_62 : decode cX0_readsCard 62 = .ok (.aload_n 0, 1) := dk_42 (dk_at dksX0_readsCard_2 15 rfl rfl)
theorem dX0_readsCard_63 : decode cX0_readsCard 63 = .ok (.iconst 0, 1) := dk_3 (dk_at dksX0_readsCard_2 16 rfl rfl)
theorem dX0_readsCard_64 : decode cX0_readsCard 64 = .ok (.iload_n 2, 1) := dk_28 (dk_at dksX0_readsCard_2 17 rfl rfl)
theorem dX0_readsCard_65 : decode cX0_readsCard 65 = .ok (.iconst 2, 1) := dk_5 (dk_at dksX0_readsCard_2 18 rfl rfl)
theorem dX0_readsCard_66 : decode cX0_readsCard 66 = .ok (.if_icmp .ne 7, 3) := dk_160 0 7 (dk_at dksX0_readsCard_2 19 rfl rfl)
theorem dX0_readsCard_69 : decode cX0_readsCard 69 = .ok (.iconst 3, 1) := dk_6 (dk_at dksX0_readsCard_2 22 rfl rfl)
theorem dX0_readsCard_70 : decode cX0_readsCard 70 = .ok (.goto 5, 3) := dk_167 0 5 (dk_at dksX0_readsCard_3 0 rfl rfl)
theorem dX0_readsCard_73 : decode cX0_readsCard 73 = .ok (.bipush 9, 2) := dk_16 9 (dk_at dksX0_readsCard_3 3 rfl rfl)
theorem dX0_readsCard_75 : decode cX0_readsCard 75 = .ok (.invokevirtual 161, 3) := dk_182 0 161 (dk_at dksX0_readsCard_3 5 rfl rfl)
theorem dX0_readsCard_78 : decode cX0_readsCard 78 = .ok (.istore_n 3, 1) := dk_62 (dk_at dksX0_readsCard_3 8 rfl rfl)
theorem dX0_readsCard_79 : decode cX0_readsCard 79 = .ok (.iload_n 3, 1) := dk_29 (dk_at dksX0_readsCard_3 9 rfl rfl)
theorem dX0_readsCard_80 : decode cX0_readsCard 80 = .ok (.bipush (-9), 2) := dk_16 247 (dk_at dksX0_readsCard_3 10 rfl rfl)
theorem dX0_readsCard_82 : decode cX0_readsCard 82 = .ok (.if_icmp .ne 5, 3) := dk_160 0 5 (dk_at dksX0_readsCard_3 12 rfl rfl)
theorem dX0_readsCard_85 : decode cX0_readsCard 85 = .ok (.iconst 0, 1) := dk_3 (dk_at dksX0_readsCard_3 15 rfl rfl)
theorem dX0_readsCard_86 : decode cX0_readsCard 86 = .ok (.ireturn, 1) := dk_172 (dk_at dksX0_readsCard_3 16 rfl rfl)
theorem dX0_readsCard_87 : decode cX0_readsCard 87 = .ok (.aload_n 0, 1) := dk_42 (dk_at dksX0_readsCard_3 17 rfl rfl)
theorem dX0_readsCard_88 : decode cX0_readsCard 88 = .ok (.getfield 53, 3) := dk_180 0 53 (dk_at dksX0_readsCard_3 18 rfl rfl)
theorem dX0_readsCard_91 : decode cX0_readsCard 91 = .ok (.iload_n 1, 1) := dk_27 (dk_at dksX0_readsCard_3 21 rfl rfl)
theorem dX0_readsCard_92 : decode cX0_readsCard 92 = .ok (.iload_n 2, 1) := dk_28 (dk_at dksX0_readsCard_3 22 rfl rfl)
theorem dX0_readsCard_93 : decode cX0_readsCard 93 = .ok (.iadd, 1) := dk_96 (dk_at dksX0_readsCard_3 23 rfl rfl)
theorem dX0_readsCard_94 : decode cX0_readsCard 94 = .ok (.iload_n 3, 1) := dk_29 (dk_at dksX0_readsCard_4 0 rfl rfl)
theorem dX0_readsCard_95 : decode cX0_readsCard 95 = .ok (.iastore, 1) := dk_79 (dk_at dksX0_readsCard_4 1 rfl rfl)
theorem dX0_readsCard_96 : decode cX0_readsCard 96 = .ok (.iinc 2 1, 3) := dk_132 2 1 (dk_at dksX0_readsCard_4 2 rfl rfl)
theorem dX0_readsCard_99 : decode cX0_readsCard 99 = .ok (.goto (-42), 3) := dk_167 255 214 (dk_at dksX0_readsCard_4 5 rfl rfl)
theorem dX0_readsCard_102 : decode cX0_readsCard 102 = .ok (.aload_n 0, 1) := dk_42 (dk_at dksX0_readsCard_4 8 rfl rfl)
theorem dX0_readsCard_103 : decode cX0_readsCard 103 = .ok (.dup, 1) := dk_89 (dk_at dksX0_readsCard_4 9 rfl rfl)
theorem dX0_readsCard_104 : decode cX0_readsCard 104 = .ok (.getfield 155, 3) := dk_180 0 155 (dk_at dksX0_readsCard_4 10 rfl rfl)
theorem dX0_readsCard_107 : decode cX0_readsCard 107 = .ok (.iconst 1, 1) := dk_4 (dk_at dksX0_readsCard_4 13 rfl rfl)
theorem dX0_readsCard_108 : decode cX0_readsCard 108 = .ok (.iadd, 1) := dk_96 (dk_at dksX0_readsCard_4 14 rfl rfl)
theorem dX0_readsCard_109 : decode cX0_readsCard 109 = .ok (.putfield 155, 3) := dk_181 0 155 (dk_at dksX0_readsCard_4 15 rfl rfl)
theorem dX0_readsCard_112 : decode cX0_readsCard 112 = .ok (.iconst 1, 1) := dk_4 (dk_at dksX0_readsCard_4 18 rfl rfl)
theorem dX0_readsCard_113 : decode cX0_readsCard 113 = .ok (.ireturn, 1) := dk_172 (dk_at dksX0_readsCard_4 19 rfl rfl)
abbrev cX0_isCardSign : ByteArray := prog_1_method_20_code
def yX0_isCardSign : MethodName := ⟨RX0, "isCardSign", "(I)Z"⟩
def dkwX0_isCardSign_1 : List UInt8 := [26, 16, 116, 159, 0, 9, 26, 16, 98, 160, 0, 7, 4, 167, 0, 4, 3, 172]
abbrev dktX0_isCardSign_1 : List UInt8 := dkwX0_isCardSign_1 ++ []
def dkwX0_isCardSign_0 : List UInt8 := [26, 16, 110, 159, 0, 33, 26, 16, 121, 159, 0, 27, 26, 16, 112, 159, 0, 21, 26, 16, 118, 159, 0, 15]
abbrev dktX0_isCardSign_0 : List UInt8 := dkwX0_isCardSign_0 ++ dktX0_isCardSign_1
theorem dksX0_isCardSign_0 : cX0_isCardSign.data.toList.drop 0 = dktX0_isCardSign_0 := by decide +kernel
theorem dksX0_isCardSign_1 : cX0_isCardSign.data.toList.drop 24 = dktX0_isCardSign_1 := dk_seg dksX0_isCardSign_0 24 rfl rfl
theorem dX0_isCardSign_0 : decode cX0_isCardSign 0 = .ok (.iload_n 0, 1) := dk_26 (dk_at dksX0_isCardSign_0 0 rfl rfl)
theorem dX0_isCardSign_1 : decode cX0_isCardSign 1 = .ok (.bipush 110, 2) := dk_16 110 (dk_at dksX0_isCardSign_0 1 rfl rfl)
theorem dX0_isCardSign_3 : decode cX0_isCardSign 3 = .ok (.if_icmp .eq 33, 3) := dk_159 0 33 (dk_at dksX0_isCardSign_0 3 rfl rfl)
theorem dX0_isCardSign_6 : decode cX0_isCardSign 6 = .ok (.iload_n 0, 1) := dk_26 (dk_at dksX0_isCardSign_0 6 rfl rfl)
theorem dX0_isCardSign_7 : decode cX0_isCardSign 7 = .ok (.bipush 121, 2) := dk_16 121 (dk_at dksX0_isCardSign_0 7 rfl rfl)
theorem dX0_isCardSign_9 : decode cX0_isCardSign 9 = .ok (.if_icmp .eq 27, 3) := dk_159 0 27 (dk_at dksX0_isCardSign_0 9 rfl rfl)
theorem dX0_isCardSign_12 : decode cX0_isCardSign 12 = .ok (.iload_n 0, 1) := dk_26 (dk_at dksX0_isCardSign_0 12 rfl rfl)
theorem dX0_isCardSign_13 : decode cX0_isCardSign 13 = .ok (.bipush 112, 2) := dk_16 112 (dk_at dksX0_isCardSign_0 13 rfl rfl)
theorem dX0_isCardSign_15 : decode cX0_isCardSign 15 = .ok (.if_icmp .eq 21, 3) := dk_159 0 21 (dk_at dksX0_isCardSign_0 15 rfl rfl)
theorem dX0_isCardSign_18 : decode cX0_isCardSign 18 = .ok (.iload_n 0, 1) := dk_26 (dk_at dksX0_isCardSign_0 18 rfl rfl)
theorem dX0_isCardSign_19 : decode cX0_isCardSign 19 = .ok (.bipush 118, 2) := dk_16 118 (dk_at dksX0_isCardSign_0 19 rfl rfl)
theorem dX0_isCardSign_21 : decode cX0_isCardSign 21 = .ok (.if_icmp .eq 15, 3) := dk_159 0 15 (dk_at dksX0_isCardSign_0 21 rfl rfl)
theorem dX0_isCardSign_24 : decode cX0_isCardSign 24 = .ok (.iload_n 0, 1) := dk_26 (dk_at dksX0_isCardSign_1 0 rfl rfl)
theorem dX0_isCardSign_25 : decode cX0_isCardSign 25 = .ok (.bipush 116, 2) := dk_16 116 (dk_at dksX0_isCardSign_1 1 rfl rfl)
theorem dX0_isCardSign_27 : decode cX0_isCardSign 27 = .ok (.if_icmp .eq 9, 3) := dk_159 0 9 (dk_at dksX0_isCardSign_1 3 rfl rfl)
theorem dX0_isCardSign_30 : decode cX0_isCardSign 30 = .ok (.iload_n 0, 1) := dk_26 (dk_at dksX0_isCardSign_1 6 rfl rfl)
theorem dX0_isCardSign_31 : decode cX0_isCardSign 31 = .ok (.bipush 98, 2) := dk_16 98 (dk_at dksX0_isCardSign_1 7 rfl rfl)
theorem dX0_isCardSign_33 : decode cX0_isCardSign 33 = .ok (.if_icmp .ne 7, 3) := dk_160 0 7 (dk_at dksX0_isCardSign_1 9 rfl rfl)
theorem dX0_isCardSign_36 : decode cX0_isCardSign 36 = .ok (.iconst 1, 1) := dk_4 (dk_at dksX0_isCardSign_1 12 rfl rfl)
theorem dX0_isCardSign_37 : decode cX0_isCardSign 37 = .ok (.goto 4, 3) := dk_167 0 4 (dk_at dksX0_isCardSign_1 13 rfl rfl)
theorem dX0_isCardSign_40 : decode cX0_isCardSign 40 = .ok (.iconst 0, 1) := dk_3 (dk_at dksX0_isCardSign_1 16 rfl rfl)
theorem dX0_isCardSign_41 : decode cX0_isCardSign 41 = .ok (.ireturn, 1) := dk_172 (dk_at dksX0_isCardSign_1 17 rfl rfl)
abbrev cX0_library : ByteArray := prog_1_method_25_code
def yX0_library : MethodName := ⟨RX0, "library", "(I)I"⟩
def dkwX0_library_8 : List UInt8 := [132, 2, 1, 167, 255, 241, 42, 180, 0, 175, 172]
abbrev dktX0_library_8 : List UInt8 := dkwX0_library_8 ++ []
def dkwX0_library_7 : List UInt8 := [167, 255, 231, 42, 3, 181, 0, 83, 3, 61, 28, 6, 162, 0, 16, 42, 180, 0, 67, 28, 1, 83]
abbrev dktX0_library_7 : List UInt8 := dkwX0_library_7 ++ dktX0_library_8
def dkwX0_library_6 : List UInt8 := [162, 0, 25, 42, 180, 0, 47, 28, 16, 247, 79, 42, 180, 0, 50, 28, 16, 247, 79, 132, 2, 1]
abbrev dktX0_library_6 : List UInt8 := dkwX0_library_6 ++ dktX0_library_7
def dkwX0_library_5 : List UInt8 := [181, 0, 182, 42, 180, 0, 56, 3, 42, 180, 0, 44, 3, 16, 28, 184, 0, 111, 3, 61, 28, 16, 7]
abbrev dktX0_library_5 : List UInt8 := dkwX0_library_5 ++ dktX0_library_6
def dkwX0_library_4 : List UInt8 := [180, 0, 53, 7, 28, 104, 6, 96, 46, 184, 0, 178, 83, 132, 2, 1, 167, 255, 197, 42, 42, 180, 0, 158]
abbrev dktX0_library_4 : List UInt8 := dkwX0_library_4 ++ dktX0_library_5
def dkwX0_library_3 : List UInt8 := [104, 46, 28, 42, 180, 0, 53, 7, 28, 104, 4, 96, 46, 42, 180, 0, 53, 7, 28, 104, 5, 96, 46, 42]
abbrev dktX0_library_3 : List UInt8 := dkwX0_library_3 ++ dktX0_library_4
def dkwX0_library_2 : List UInt8 := [181, 0, 175, 3, 61, 28, 42, 180, 0, 175, 162, 0, 57, 42, 180, 0, 40, 28, 42, 180, 0, 53, 7, 28]
abbrev dktX0_library_2 : List UInt8 := dkwX0_library_2 ++ dktX0_library_3
def dkwX0_library_1 : List UInt8 := [42, 42, 180, 0, 34, 27, 50, 182, 0, 171, 16, 247, 159, 0, 6, 16, 252, 172, 42, 42, 180, 0, 155]
abbrev dktX0_library_1 : List UInt8 := dkwX0_library_1 ++ dktX0_library_2
def dkwX0_library_0 : List UInt8 := [27, 184, 0, 121, 154, 0, 5, 2, 172, 42, 180, 0, 34, 27, 50, 199, 0, 9, 42, 4, 182, 0, 96, 172]
abbrev dktX0_library_0 : List UInt8 := dkwX0_library_0 ++ dktX0_library_1
theorem dksX0_library_0 : cX0_library.data.toList.drop 0 = dktX0_library_0 := by decide +kernel
theorem dksX0_library_1 : cX0_library.data.toList.drop 24 = dktX0_library_1 := dk_seg dksX0_library_0 24 rfl rfl
theorem dksX0_library_2 : cX0_library.data.toList.drop 47 = dktX0_library_2 := dk_seg dksX0_library_1 23 rfl rfl
theorem dksX0_library_3 : cX0_library.data.toList.drop 71 = dktX0_library_3 := dk_seg dksX0_library_2 24 rfl rfl
theorem dksX0_library_4 : cX0_library.data.toList.drop 95 = dktX0_library_4 := dk_seg dksX0_library_3 24 rfl rfl
theorem dksX0_library_5 : cX0_library.data.toList.drop 119 = dktX0_library_5 := dk_seg dksX0_library_4 24 rfl rfl
theorem dksX0_library_6 : cX0_library.data.toList.drop 142 = dktX0_library_6 := dk_seg dksX0_library_5 23 rfl rfl
theorem dksX0_library_7 : cX0_library.data.toList.drop 164 = dktX0_library_7 := dk_seg dksX0_library_6 22 rfl rfl
theorem dksX0_library_8 : cX0_library.data.toList.drop 186 = dktX0_library_8 := dk_seg dksX0_library_7 22 rfl rfl
theorem dX0_library_0 : decode cX0_library 0 = .ok (.iload_n 1, 1) := dk_27 (dk_at dksX0_library_0 0 rfl rfl)
theorem dX0_library_1 : decode cX0_library 1 = .ok (.invokestatic 121, 3) := dk_184 0 121 (dk_at dksX0_library_0 1 rfl rfl)
theorem dX0_library_4 : decode cX0_library 4 = .ok (.ifCond .ne 5, 3) := dk_154 0 5 (dk_at dksX0_library_0 4 rfl rfl)
theorem dX0_library_7 : decode cX0_library 7 = .ok (.iconst (-1), 1) := dk_2 (dk_at dksX0_library_0 7 rfl rfl)
theorem dX0_library_8 : decode cX0_library 8 = .ok (.ireturn, 1) := dk_172 (dk_at dksX0_library_0 8 rfl rfl)
theorem dX0_library_9 : decode cX0_library 9 = .ok (.aload_n 0, 1) := dk_42 (dk_at dksX0_library_0 9 rfl rfl)
theorem dX0_library_10 : decode cX0_library 10 = .ok (.getfield 34, 3) := dk_180 0 34 (dk_at dksX0_library_0 10 rfl rfl)
theorem dX0_library_13 : decode cX0_library 13 = .ok (.iload_n 1, 1) := dk_27 (dk_at dksX0_library_0 13 rfl rfl)
theorem dX0_library_14 : decode cX0_library 14 = .ok (.aaload, 1) := dk_50 (dk_at dksX0_library_0 14 rfl rfl)
theorem dX0_library_15 : decode cX0_library 15 = .ok (.ifnonnull 9, 3) := dk_199 0 9 (dk_at dksX0_library_0 15 rfl rfl)
theorem dX0_library_18 : decode cX0_library 18 = .ok (.aload_n 0, 1) := dk_42 (dk_at dksX0_library_0 18 rfl rfl)
theorem dX0_library_19 : decode cX0_library 19 = .ok (.iconst 1, 1) := dk_4 (dk_at dksX0_library_0 19 rfl rfl)
theorem dX0_library_20 : decode cX0_library 20 = .ok (.invokevirtual 96, 3) := dk_182 0 96 (dk_at dksX0_library_0 20 rfl rfl)
theorem dX0_library_23 : decode cX0_library 23 = .ok (.ireturn, 1) := dk_172 (dk_at dksX0_library_0 23 rfl rfl)
theorem dX0_library_24 : decode cX0_library 24 = .ok (.aload_n 0, 1) := dk_42 (dk_at dksX0_library_1 0 rfl rfl)
theorem dX0_library_25 : decode cX0_library 25 = .ok (.aload_n 0, 1) := dk_42 (dk_at dksX0_library_1 1 rfl rfl)
theorem dX0_library_26 : decode cX0_library 26 = .ok (.getfield 34, 3) := dk_180 0 34 (dk_at dksX0_library_1 2 rfl rfl)
theorem dX0_library_29 : decode cX0_library 29 = .ok (.iload_n 1, 1) := dk_27 (dk_at dksX0_library_1 5 rfl rfl)
theorem dX0_library_30 : decode cX0_library 30 = .ok (.aaload, 1) := dk_50 (dk_at dksX0_library_1 6 rfl rfl)
theorem dX0_library_31 : decode cX0_library 31 = .ok (.invokevirtual 171, 3) := dk_182 0 171 (dk_at dksX0_library_1 7 rfl rfl)
theorem dX0_library_34 : decode cX0_library 34 = .ok (.bipush (-9), 2) := dk_16 247 (dk_at dksX0_library_1 10 rfl rfl)
theorem dX0_library_36 : decode cX0_library 36 = .ok (.if_icmp .eq 6, 3) := dk_159 0 6 (dk_at dksX0_library_1 12 rfl rfl)
theorem dX0_library_39 : decode cX0_library 39 = .ok (.bipush (-4), 2) := dk_16 252 (dk_at dksX0_library_1 15 rfl rfl)
theorem dX0_library_41 : decode cX0_library 41 = .ok (.ireturn, 1) := dk_172 (dk_at dksX0_library_1 17 rfl rfl)
theorem dX0_library_42 : decode cX0_library 42 = .ok (.aload_n 0, 1) := dk_42 (dk_at dksX0_library_1 18 rfl rfl)
theorem dX0_library_43 : decode cX0_library 43 = .ok (.aload_n 0, 1) := dk_42 (dk_at dksX0_library_1 19 rfl rfl)
theorem dX0_library_44 : decode cX0_library 44 = .ok (.getfield 155, 3) := dk_180 0 155 (dk_at dksX0_library_1 20 rfl rfl)
theorem dX0_library_47 : decode cX0_library 47 = .ok (.putfield 175, 3) := dk_181 0 175 (dk_at dksX0_library_2 0 rfl rfl)
theorem dX0_library_50 : decode cX0_library 50 = .ok (.iconst 0, 1) := dk_3 (dk_at dksX0_library_2 3 rfl rfl)
theorem dX0_library_51 : decode cX0_library 51 = .ok (.istore_n 2, 1) := dk_61 (dk_at dksX0_library_2 4 rfl rfl)
theorem dX0_library_52 : decode cX0_library 52 = .ok (.iload_n 2, 1) := dk_28 (dk_at dksX0_library_2 5 rfl rfl)
theorem dX0_library_53 : decode cX0_library 53 = .ok (.aload_n 0, 1) := dk_42 (dk_at dksX0_library_2 6 rfl rfl)
theorem dX0_library_54 : decode cX0_library 54 = .ok (.getfield 175, 3) := dk_180 0 175 (dk_at dksX0_library_2 7 rfl rfl)
theorem dX0_library_57 : decode cX0_library 57 = .ok (.if_icmp .ge 57, 3) := dk_162 0 57 (dk_at dksX0_library_2 10 rfl rfl)
theorem dX0_library_60 : decode cX0_library 60 = .ok (.aload_n 0, 1) := dk_42 (dk_at dksX0_library_2 13 rfl rfl)
theorem dX0_library_61 : decode cX0_library 61 = .ok (.getfield 40, 3) := dk_180 0 40 (dk_at dksX0_library_2 14 rfl rfl)
theorem dX0_library_64 : decode cX0_library 64 = .ok (.iload_n 2, 1) := dk_28 (dk_at dksX0_library_2 17 rfl rfl)
theorem dX0_library_65 : decode cX0_library 65 = .ok (.aload_n 0, 1) := dk_42 (dk_at dksX0_library_2 18 rfl rfl)
theorem dX0_library_66 : decode cX0_library 66 = .ok (.getfield 53, 3) := dk_180 0 53 (dk_at dksX0_library_2 19 rfl rfl)
theorem dX0_library_69 : decode cX0_library 69 = .ok (.iconst 4, 1) := dk_7 (dk_at dksX0_library_2 22 rfl rfl)
theorem dX0_library_70 : decode cX0_library 70 = .ok (.iload_n 2, 1) := dk_28 (dk_at dksX0_library_2 23 rfl rfl)
theorem dX0_library_71 : decode cX0_library 71 = .ok (.imul, 1) := dk_104 (dk_at dksX0_library_3 0 rfl rfl)
theorem dX0_library_72 : decode cX0_library 72 = .ok (.iaload, 1) := dk_46 (dk_at dksX0_library_3 1 rfl rfl)
theorem dX0_library_73 : decode cX0_library 73 = .ok (.iload_n 2, 1) := dk_28 (dk_at dksX0_library_3 2 rfl rfl)
theorem dX0_library_74 : decode cX0_library 74 = .ok (.aload_n 0, 1) := dk_42 (dk_at dksX0_library_3 3 rfl rfl)
theorem dX0_library_75 : decode cX0_library 75 = .ok (.getfield 53, 3) := dk_180 0 53 (dk_at dksX0_library_3 4 rfl rfl)
theorem dX0_library_78 : decode cX0_library 78 = .ok (.iconst 4, 1) := dk_7 (dk_at dksX0_library_3 7 rfl rfl)
theorem dX0_library_79 : decode cX0_library 79 = .ok (.iload_n 2, 1) := dk_28 (dk_at dksX0_library_3 8 rfl rfl)
theorem dX0_library_80 : decode cX0_library 80 = .ok (.imul, 1) := dk_104 (dk_at dksX0_library_3 9 rfl rfl)
theorem dX0_library_81 : decode cX0_library 81 = .ok (.iconst 1, 1) := dk_4 (dk_at dksX0_library_3 10 rfl rfl)
theorem dX0_library_82 : decode cX0_library 82 = .ok (.iadd, 1) := dk_96 (dk_at dksX0_library_3 11 rfl rfl)
theorem dX0_library_83 : decode cX0_library 83 = .ok (.iaload, 1) := dk_46 (dk_at dksX0_library_3 12 rfl rfl)
theorem dX0_library_84 : decode cX0_library 84 = .ok (.aload_n 0, 1) := dk_42 (dk_at dksX0_library_3 13 rfl rfl)
theorem dX0_library_85 : decode cX0_library 85 = .ok (.getfield 53, 3) := dk_180 0 53 (dk_at dksX0_library_3 14 rfl rfl)
theorem dX0_library_88 : decode cX0_library 88 = .ok (.iconst 4, 1) := dk_7 (dk_at dksX0_library_3 17 rfl rfl)
theorem dX0_library_89 : decode cX0_library 89 = .ok (.iload_n 2, 1) := dk_28 (dk_at dksX0_library_3 18 rfl rfl)
theorem dX0_library_90 : decode cX0_library 90 = .ok (.imul, 1) := dk_104 (dk_at dksX0_library_3 19 rfl rfl)
theorem dX0_library_91 : decode cX0_library 91 = .ok (.iconst 2, 1) := dk_5 (dk_at dksX0_library_3 20 rfl rfl)
theorem dX0_library_92 : decode cX0_library 92 = .ok (.iadd, 1) := dk_96 (dk_at dksX0_library_3 21 rfl rfl)
theorem dX0_library_93 : decode cX0_library 93 = .ok (.iaload, 1) := dk_46 (dk_at dksX0_library_3 22 rfl rfl)
theorem dX0_library_94 : decode cX0_library 94 = .ok (.aload_n 0, 1) := dk_42 (dk_at dksX0_library_3 23 rfl rfl)
theorem dX0_library_95 : decode cX0_library 95 = .ok (.getfield 53, 3) := dk_180 0 53 (dk_at dksX0_library_4 0 rfl rfl)
theorem dX0_library_98 : decode cX0_library 98 = .ok (.iconst 4, 1) := dk_7 (dk_at dksX0_library_4 3 rfl rfl)
theorem dX0_library_99 : decode cX0_library 99 = .ok (.iload_n 2, 1) := dk_28 (dk_at dksX0_library_4 4 rfl rfl)
theorem dX0_library_100 : decode cX0_library 100 = .ok (.imul, 1) := dk_104 (dk_at dksX0_library_4 5 rfl rfl)
theorem dX0_library_101 : decode cX0_library 101 = .ok (.iconst 3, 1) := dk_6 (dk_at dksX0_library_4 6 rfl rfl)
theorem dX0_library_102 : decode cX0_library 102 = .ok (.iadd, 1) := dk_96 (dk_at dksX0_library_4 7 rfl rfl)
theorem dX0_library_103 : decode cX0_library 103 = .ok (.iaload, 1) := dk_46 (dk_at dksX0_library_4 8 rfl rfl)
theorem dX0_library_104 : decode cX0_library 104 = .ok (.invokestatic 178, 3) := dk_184 0 178 (dk_at dksX0_library_4 9 rfl rfl)
theorem dX0_library_107 : decode cX0_library 107 = .ok (.aastore, 1) := dk_83 (dk_at dksX0_library_4 12 rfl rfl)
theorem dX0_library_108 : decode cX0_library 108 = .ok (.iinc 2 1, 3) := dk_132 2 1 (dk_at dksX0_library_4 13 rfl rfl)
theorem dX0_library_111 : decode cX0_library 111 = .ok (.goto (-59), 3) := dk_167 255 197 (dk_at dksX0_library_4 16 rfl rfl)
theorem dX0_library_114 : decode cX0_library 114 = .ok (.aload_n 0, 1) := dk_42 (dk_at dksX0_library_4 19 rfl rfl)
theorem dX0_library_115 : decode cX0_library 115 = .ok (.aload_n 0, 1) := dk_42 (dk_at dksX0_library_4 20 rfl rfl)
theorem dX0_library_116 : decode cX0_library 116 = .ok (.getfield 158, 3) := dk_180 0 158 (dk_at dksX0_library_4 21 rfl rfl)
theorem dX0_library_119 : decode cX0_library 119 = .ok (.putfield 182, 3) := dk_181 0 182 (dk_at dksX0_library_5 0 rfl rfl)
theorem dX0_library_122 : decode cX0_library 122 = .ok (.aload_n 0, 1) := dk_42 (dk_at dksX0_library_5 3 rfl rfl)
theorem dX0_library_123 : decode cX0_library 123 = .ok (.getfield 56, 3) := dk_180 0 56 (dk_at dksX0_library_5 4 rfl rfl)
theorem dX0_library_126 : decode cX0_library 126 = .ok (.iconst 0, 1) := dk_3 (dk_at dksX0_library_5 7 rfl rfl)
theorem dX0_library_127 : decode cX0_library 127 = .ok (.aload_n 0, 1) := dk_42 (dk_at dksX0_library_5 8 rfl rfl)
theorem dX0_library_128 : decode cX0_library 128 = .ok (.getfield 44, 3) := dk_180 0 44 (dk_at dksX0_library_5 9 rfl rfl)
theorem dX0_library_131 : decode cX0_library 131 = .ok (.iconst 0, 1) := dk_3 (dk_at dksX0_library_5 12 rfl rfl)
theorem dX0_library_132 : decode cX0_library 132 = .ok (.bipush 28, 2) := dk_16 28 (dk_at dksX0_library_5 13 rfl rfl)
theorem dX0_library_134 : decode cX0_library 134 = .ok (.invokestatic 111, 3) := dk_184 0 111 (dk_at dksX0_library_5 15 rfl rfl)
theorem dX0_library_137 : decode cX0_library 137 = .ok (.iconst 0, 1) := dk_3 (dk_at dksX0_library_5 18 rfl rfl)
theorem dX0_library_138 : decode cX0_library 138 = .ok (.istore_n 2, 1) := dk_61 (dk_at dksX0_library_5 19 rfl rfl)
theorem dX0_library_139 : decode cX0_library 139 = .ok (.iload_n 2, 1) := dk_28 (dk_at dksX0_library_5 20 rfl rfl)
theorem dX0_library_140 : decode cX0_library 140 = .ok (.bipush 7, 2) := dk_16 7 (dk_at dksX0_library_5 21 rfl rfl)
theorem dX0_library_142 : decode cX0_library 142 = .ok (.if_icmp .ge 25, 3) := dk_162 0 25 (dk_at dksX0_library_6 0 rfl rfl)
theorem dX0_library_145 : decode cX0_library 145 = .ok (.aload_n 0, 1) := dk_42 (dk_at dksX0_library_6 3 rfl rfl)
theorem dX0_library_146 : decode cX0_library 146 = .ok (.getfield 47, 3) := dk_180 0 47 (dk_at dksX0_library_6 4 rfl rfl)
theorem dX0_library_149 : decode cX0_library 149 = .ok (.iload_n 2, 1) := dk_28 (dk_at dksX0_library_6 7 rfl rfl)
theorem dX0_library_150 : decode cX0_library 150 = .ok (.bipush (-9), 2) := dk_16 247 (dk_at dksX0_library_6 8 rfl rfl)
theorem dX0_library_152 : decode cX0_library 152 = .ok (.iastore, 1) := dk_79 (dk_at dksX0_library_6 10 rfl rfl)
theorem dX0_library_153 : decode cX0_library 153 = .ok (.aload_n 0, 1) := dk_42 (dk_at dksX0_library_6 11 rfl rfl)
theorem dX0_library_154 : decode cX0_library 154 = .ok (.getfield 50, 3) := dk_180 0 50 (dk_at dksX0_library_6 12 rfl rfl)
theorem dX0_library_157 : decode cX0_library 157 = .ok (.iload_n 2, 1) := dk_28 (dk_at dksX0_library_6 15 rfl rfl)
theorem dX0_library_158 : decode cX0_library 158 = .ok (.bipush (-9), 2) := dk_16 247 (dk_at dksX0_library_6 16 rfl rfl)
theorem dX0_library_160 : decode cX0_library 160 = .ok (.iastore, 1) := dk_79 (dk_at dksX0_library_6 18 rfl rfl)
theorem dX0_library_161 : decode cX0_library 161 = .ok (.iinc 2 1, 3) := dk_132 2 1 (dk_at dksX0_library_6 19 rfl rfl)
theorem dX0_library_164 : decode cX0_library 164 = .ok (.goto (-25), 3) := dk_167 255 231 (dk_at dksX0_library_7 0 rfl rfl)
theorem dX0_library_167 : decode cX0_library 167 = .ok (.aload_n 0, 1) := dk_42 (dk_at dksX0_library_7 3 rfl rfl)
theorem dX0_library_168 : decode cX0_library 168 = .ok (.iconst 0, 1) := dk_3 (dk_at dksX0_library_7 4 rfl rfl)
theorem dX0_library_169 : decode cX0_library 169 = .ok (.putfield 83, 3) := dk_181 0 83 (dk_at dksX0_library_7 5 rfl rfl)
theorem dX0_library_172 : decode cX0_library 172 = .ok (.iconst 0, 1) := dk_3 (dk_at dksX0_library_7 8 rfl rfl)
theorem dX0_library_173 : decode cX0_library 173 = .ok (.istore_n 2, 1) := dk_61 (dk_at dksX0_library_7 9 rfl rfl)
theorem dX0_library_174 : decode cX0_library 174 = .ok (.iload_n 2, 1) := dk_28 (dk_at dksX0_library_7 10 rfl rfl)
theorem dX0_library_175 : decode cX0_library 175 = .ok (.iconst 3, 1) := dk_6 (dk_at dksX0_library_7 11 rfl rfl)
theorem dX0_library_176 : decode cX0_library 176 = .ok (.if_icmp .ge 16, 3) := dk_162 0 16 (dk_at dksX0_library_7 12 rfl rfl)
theorem dX0_library_179 : decode cX0_library 179 = .ok (.aload_n 0, 1) := dk_42 (dk_at dksX0_library_7 15 rfl rfl)
theorem dX0_library_180 : decode cX0_library 180 = .ok (.getfield 67, 3) := dk_180 0 67 (dk_at dksX0_library_7 16 rfl rfl)
theorem dX0_library_183 : decode cX0_library 183 = .ok (.iload_n 2, 1) := dk_28 (dk_at dksX0_library_7 19 rfl rfl)
theorem dX0_library_184 : decode cX0_library 184 = .ok (.aconst_null, 1) := dk_1 (dk_at dksX0_library_7 20 rfl rfl)
theorem dX0_library_185 : decode cX0_library 185 = .ok (.aastore, 1) := dk_83 (dk_at dksX0_library_7 21 rfl rfl)
theorem dX0_library_186 : decode cX0_library 186 = .ok (.iinc 2 1, 3) := dk_132 2 1 (dk_at dksX0_library_8 0 rfl rfl)
theorem dX0_library_189 : decode cX0_library 189 = .ok (.goto (-15), 3) := dk_167 255 241 (dk_at dksX0_library_8 3 rfl rfl)
theorem dX0_library_192 : decode cX0_library 192 = .ok (.aload_n 0, 1) := dk_42 (dk_at dksX0_library_8 6 rfl rfl)
theorem dX0_library_193 : decode cX0_library 193 = .ok (.getfield 175, 3) := dk_180 0 175 (dk_at dksX0_library_8 7 rfl rfl)
theorem dX0_library_196 : decode cX0_library 196 = .ok (.ireturn, 1) := dk_172 (dk_at dksX0_library_8 10 rfl rfl)
abbrev cX0_newCard : ByteArray := prog_1_method_17_code
def yX0_newCard : MethodName := ⟨RX0, "newCard", "(IIIII)LLostQuestions$Card;"⟩
def dkwX0_newCard_5 : List UInt8 := [28, 29, 21, 4, 183, 0, 141, 176]
abbrev dktX0_newCard_5 : List UInt8 := dkwX0_newCard_5 ++ []
def dkwX0_newCard_4 : List UInt8 := [21, 4, 183, 0, 137, 176, 187, 0, 138, 89, 27, 28, 29, 21, 4, 183, 0, 140, 176, 187, 0, 38, 89, 27]
abbrev dktX0_newCard_4 : List UInt8 := dkwX0_newCard_4 ++ dktX0_newCard_5
def dkwX0_newCard_3 : List UInt8 := [183, 0, 131, 176, 187, 0, 132, 89, 27, 28, 29, 21, 4, 183, 0, 134, 176, 187, 0, 135, 89, 27, 28, 29]
abbrev dktX0_newCard_3 : List UInt8 := dkwX0_newCard_3 ++ dktX0_newCard_4
def dkwX0_newCard_2 : List UInt8 := [187, 0, 124, 89, 27, 28, 29, 21, 4, 183, 0, 126, 176, 187, 0, 129, 89, 27, 28, 29, 21, 4]
abbrev dktX0_newCard_2 : List UInt8 := dkwX0_newCard_2 ++ dktX0_newCard_3
def dkwX0_newCard_1 : List UInt8 := [171, 0, 0, 0, 0, 0, 116, 0, 0, 0, 5, 0, 0, 0, 98, 0, 0, 0, 103, 0, 0, 0, 112, 0, 0, 0, 64, 0, 0, 0, 116, 0, 0, 0, 90, 0, 0, 0, 118, 0, 0, 0, 77, 0, 0, 0, 121, 0, 0, 0, 51]
abbrev dktX0_newCard_1 : List UInt8 := dkwX0_newCard_1 ++ dktX0_newCard_2
def dkwX0_newCard_0 : List UInt8 := [26]
abbrev dktX0_newCard_0 : List UInt8 := dkwX0_newCard_0 ++ dktX0_newCard_1
theorem dksX0_newCard_0 : cX0_newCard.data.toList.drop 0 = dktX0_newCard_0 := by decide +kernel
theorem dksX0_newCard_1 : cX0_newCard.data.toList.drop 1 = dktX0_newCard_1 := dk_seg dksX0_newCard_0 1 rfl rfl
theorem dksX0_newCard_2 : cX0_newCard.data.toList.drop 52 = dktX0_newCard_2 := dk_seg dksX0_newCard_1 51 rfl rfl
theorem dksX0_newCard_3 : cX0_newCard.data.toList.drop 74 = dktX0_newCard_3 := dk_seg dksX0_newCard_2 22 rfl rfl
theorem dksX0_newCard_4 : cX0_newCard.data.toList.drop 98 = dktX0_newCard_4 := dk_seg dksX0_newCard_3 24 rfl rfl
theorem dksX0_newCard_5 : cX0_newCard.data.toList.drop 122 = dktX0_newCard_5 := dk_seg dksX0_newCard_4 24 rfl rfl
theorem dX0_newCard_0 : decode cX0_newCard 0 = .ok (.iload_n 0, 1) := dk_26 (dk_at dksX0_newCard_0 0 rfl rfl)
theorem dX0_newCard_1 : decode cX0_newCard 1 = .ok (.lookupswitch 116 #[(98, 103), (112, 64), (116, 90), (118, 77), (121, 51)], 51) := by decide +kernel
theorem dX0_newCard_52 : decode cX0_newCard 52 = .ok (.new 124, 3) := dk_187 0 124 (dk_at dksX0_newCard_2 0 rfl rfl)
theorem dX0_newCard_55 : decode cX0_newCard 55 = .ok (.dup, 1) := dk_89 (dk_at dksX0_newCard_2 3 rfl rfl)
theorem dX0_newCard_56 : decode cX0_newCard 56 = .ok (.iload_n 1, 1) := dk_27 (dk_at dksX0_newCard_2 4 rfl rfl)
theorem dX0_newCard_57 : decode cX0_newCard 57 = .ok (.iload_n 2, 1) := dk_28 (dk_at dksX0_newCard_2 5 rfl rfl)
theorem dX0_newCard_58 : decode cX0_newCard 58 = .ok (.iload_n 3, 1) := dk_29 (dk_at dksX0_newCard_2 6 rfl rfl)
theorem dX0_newCard_59 : decode cX0_newCard 59 = .ok (.iload 4, 2) := dk_21 4 (dk_at dksX0_newCard_2 7 rfl rfl)
theorem dX0_newCard_61 : decode cX0_newCard 61 = .ok (.invokespecial 126, 3) := dk_183 0 126 (dk_at dksX0_newCard_2 9 rfl rfl)
theorem dX0_newCard_64 : decode cX0_newCard 64 = .ok (.areturn, 1) := dk_176 (dk_at dksX0_newCard_2 12 rfl rfl)
theorem dX0_newCard_65 : decode cX0_newCard 65 = .ok (.new 129, 3) := dk_187 0 129 (dk_at dksX0_newCard_2 13 rfl rfl)
theorem dX0_newCard_68 : decode cX0_newCard 68 = .ok (.dup, 1) := dk_89 (dk_at dksX0_newCard_2 16 rfl rfl)
theorem dX0_newCard_69 : decode cX0_newCard 69 = .ok (.iload_n 1, 1) := dk_27 (dk_at dksX0_newCard_2 17 rfl rfl)
theorem dX0_newCard_70 : decode cX0_newCard 70 = .ok (.iload_n 2, 1) := dk_28 (dk_at dksX0_newCard_2 18 rfl rfl)
theorem dX0_newCard_71 : decode cX0_newCard 71 = .ok (.iload_n 3, 1) := dk_29 (dk_at dksX0_newCard_2 19 rfl rfl)
theorem dX0_newCard_72 : decode cX0_newCard 72 = .ok (.iload 4, 2) := dk_21 4 (dk_at dksX0_newCard_2 20 rfl rfl)
theorem dX0_newCard_74 : decode cX0_newCard 74 = .ok (.invokespecial 131, 3) := dk_183 0 131 (dk_at dksX0_newCard_3 0 rfl rfl)
theorem dX0_newCard_77 : decode cX0_newCard 77 = .ok (.areturn, 1) := dk_176 (dk_at dksX0_newCard_3 3 rfl rfl)
theorem dX0_newCard_78 : decode cX0_newCard 78 = .ok (.new 132, 3) := dk_187 0 132 (dk_at dksX0_newCard_3 4 rfl rfl)
theorem dX0_newCard_81 : decode cX0_newCard 81 = .ok (.dup, 1) := dk_89 (dk_at dksX0_newCard_3 7 rfl rfl)
theorem dX0_newCard_82 : decode cX0_newCard 82 = .ok (.iload_n 1, 1) := dk_27 (dk_at dksX0_newCard_3 8 rfl rfl)
theorem dX0_newCard_83 : decode cX0_newCard 83 = .ok (.iload_n 2, 1) := dk_28 (dk_at dksX0_newCard_3 9 rfl rfl)
theorem dX0_newCard_84 : decode cX0_newCard 84 = .ok (.iload_n 3, 1) := dk_29 (dk_at dksX0_newCard_3 10 rfl rfl)
theorem dX0_newCard_85 : decode cX0_newCard 85 = .ok (.iload 4, 2) := dk_21 4 (dk_at dksX0_newCard_3 11 rfl rfl)
theorem dX0_newCard_87 : decode cX0_newCard 87 = .ok (.invokespecial 134, 3) := dk_183 0 134 (dk_at dksX0_newCard_3 13 rfl rfl)
theorem dX0_newCard_90 : decode cX0_newCard 90 = .ok (.areturn, 1) := dk_176 (dk_at dksX0_newCard_3 16 rfl rfl)
theorem dX0_newCard_91 : decode cX0_newCard 91 = .ok (.new 135, 3) := dk_187 0 135 (dk_at dksX0_newCard_3 17 rfl rfl)
theorem dX0_newCard_94 : decode cX0_newCard 94 = .ok (.dup, 1) := dk_89 (dk_at dksX0_newCard_3 20 rfl rfl)
theorem dX0_newCard_95 : decode cX0_newCard 95 = .ok (.iload_n 1, 1) := dk_27 (dk_at dksX0_newCard_3 21 rfl rfl)
theorem dX0_newCard_96 : decode cX0_newCard 96 = .ok (.iload_n 2, 1) := dk_28 (dk_at dksX0_newCard_3 22 rfl rfl)
theorem dX0_newCard_97 : decode cX0_newCard 97 = .ok (.iload_n 3, 1) := dk_29 (dk_at dksX0_newCard_3 23 rfl rfl)
theorem dX0_newCard_98 : decode cX0_newCard 98 = .ok (.iload 4, 2) := dk_21 4 (dk_at dksX0_newCard_4 0 rfl rfl)
theorem dX0_newCard_100 : decode cX0_newCard 100 = .ok (.invokespecial 137, 3) := dk_183 0 137 (dk_at dksX0_newCard_4 2 rfl rfl)
theorem dX0_newCard_103 : decode cX0_newCard 103 = .ok (.areturn, 1) := dk_176 (dk_at dksX0_newCard_4 5 rfl rfl)
theorem dX0_newCard_104 : decode cX0_newCard 104 = .ok (.new 138, 3) := dk_187 0 138 (dk_at dksX0_newCard_4 6 rfl rfl)
theorem dX0_newCard_107 : decode cX0_newCard 107 = .ok (.dup, 1) := dk_89 (dk_at dksX0_newCard_4 9 rfl rfl)
theorem dX0_newCard_108 : decode cX0_newCard 108 = .ok (.iload_n 1, 1) := dk_27 (dk_at dksX0_newCard_4 10 rfl rfl)
theorem dX0_newCard_109 : decode cX0_newCard 109 = .ok (.iload_n 2, 1) := dk_28 (dk_at dksX0_newCard_4 11 rfl rfl)
theorem dX0_newCard_110 : decode cX0_newCard 110 = .ok (.iload_n 3, 1) := dk_29 (dk_at dksX0_newCard_4 12 rfl rfl)
theorem dX0_newCard_111 : decode cX0_newCard 111 = .ok (.iload 4, 2) := dk_21 4 (dk_at dksX0_newCard_4 13 rfl rfl)
theorem dX0_newCard_113 : decode cX0_newCard 113 = .ok (.invokespecial 140, 3) := dk_183 0 140 (dk_at dksX0_newCard_4 15 rfl rfl)
theorem dX0_newCard_116 : decode cX0_newCard 116 = .ok (.areturn, 1) := dk_176 (dk_at dksX0_newCard_4 18 rfl rfl)
theorem dX0_newCard_117 : decode cX0_newCard 117 = .ok (.new 38, 3) := dk_187 0 38 (dk_at dksX0_newCard_4 19 rfl rfl)
theorem dX0_newCard_120 : decode cX0_newCard 120 = .ok (.dup, 1) := dk_89 (dk_at dksX0_newCard_4 22 rfl rfl)
theorem dX0_newCard_121 : decode cX0_newCard 121 = .ok (.iload_n 1, 1) := dk_27 (dk_at dksX0_newCard_4 23 rfl rfl)
theorem dX0_newCard_122 : decode cX0_newCard 122 = .ok (.iload_n 2, 1) := dk_28 (dk_at dksX0_newCard_5 0 rfl rfl)
theorem dX0_newCard_123 : decode cX0_newCard 123 = .ok (.iload_n 3, 1) := dk_29 (dk_at dksX0_newCard_5 1 rfl rfl)
theorem dX0_newCard_124 : decode cX0_newCard 124 = .ok (.iload 4, 2) := dk_21 4 (dk_at dksX0_newCard_5 2 rfl rfl)
theorem dX0_newCard_126 : decode cX0_newCard 126 = .ok (.invokespecial 141, 3) := dk_183 0 141 (dk_at dksX0_newCard_5 4 rfl rfl)
theorem dX0_newCard_129 : decode cX0_newCard 129 = .ok (.areturn, 1) := dk_176 (dk_at dksX0_newCard_5 7 rfl rfl)
abbrev cX0_card : ByteArray := prog_1_method_38_code
def yX0_card : MethodName := ⟨RX0, "card", "(II)I"⟩
def dkwX0_card_1 : List UInt8 := [4, 182, 0, 104, 167, 0, 4, 2, 172]
abbrev dktX0_card_1 : List UInt8 := dkwX0_card_1 ++ []
def dkwX0_card_0 : List UInt8 := [42, 27, 182, 0, 217, 153, 0, 26, 28, 3, 8, 184, 0, 86, 153, 0, 17, 42, 42, 27, 28, 182, 0, 220]
abbrev dktX0_card_0 : List UInt8 := dkwX0_card_0 ++ dktX0_card_1
theorem dksX0_card_0 : cX0_card.data.toList.drop 0 = dktX0_card_0 := by decide +kernel
theorem dksX0_card_1 : cX0_card.data.toList.drop 24 = dktX0_card_1 := dk_seg dksX0_card_0 24 rfl rfl
theorem dX0_card_0 : decode cX0_card 0 = .ok (.aload_n 0, 1) := dk_42 (dk_at dksX0_card_0 0 rfl rfl)
theorem dX0_card_1 : decode cX0_card 1 = .ok (.iload_n 1, 1) := dk_27 (dk_at dksX0_card_0 1 rfl rfl)
theorem dX0_card_2 : decode cX0_card 2 = .ok (.invokevirtual 217, 3) := dk_182 0 217 (dk_at dksX0_card_0 2 rfl rfl)
theorem dX0_card_5 : decode cX0_card 5 = .ok (.ifCond .eq 26, 3) := dk_153 0 26 (dk_at dksX0_card_0 5 rfl rfl)
theorem dX0_card_8 : decode cX0_card 8 = .ok (.iload_n 2, 1) := dk_28 (dk_at dksX0_card_0 8 rfl rfl)
theorem dX0_card_9 : decode cX0_card 9 = .ok (.iconst 0, 1) := dk_3 (dk_at dksX0_card_0 9 rfl rfl)
theorem dX0_card_10 : decode cX0_card 10 = .ok (.iconst 5, 1) := dk_8 (dk_at dksX0_card_0 10 rfl rfl)
theorem dX0_card_11 : decode cX0_card 11 = .ok (.invokestatic 86, 3) := dk_184 0 86 (dk_at dksX0_card_0 11 rfl rfl)
theorem dX0_card_14 : decode cX0_card 14 = .ok (.ifCond .eq 17, 3) := dk_153 0 17 (dk_at dksX0_card_0 14 rfl rfl)
theorem dX0_card_17 : decode cX0_card 17 = .ok (.aload_n 0, 1) := dk_42 (dk_at dksX0_card_0 17 rfl rfl)
theorem dX0_card_18 : decode cX0_card 18 = .ok (.aload_n 0, 1) := dk_42 (dk_at dksX0_card_0 18 rfl rfl)
theorem dX0_card_19 : decode cX0_card 19 = .ok (.iload_n 1, 1) := dk_27 (dk_at dksX0_card_0 19 rfl rfl)
theorem dX0_card_20 : decode cX0_card 20 = .ok (.iload_n 2, 1) := dk_28 (dk_at dksX0_card_0 20 rfl rfl)
theorem dX0_card_21 : decode cX0_card 21 = .ok (.invokevirtual 220, 3) := dk_182 0 220 (dk_at dksX0_card_0 21 rfl rfl)
theorem dX0_card_24 : decode cX0_card 24 = .ok (.iconst 1, 1) := dk_4 (dk_at dksX0_card_1 0 rfl rfl)
theorem dX0_card_25 : decode cX0_card 25 = .ok (.invokevirtual 104, 3) := dk_182 0 104 (dk_at dksX0_card_1 1 rfl rfl)
theorem dX0_card_28 : decode cX0_card 28 = .ok (.goto 4, 3) := dk_167 0 4 (dk_at dksX0_card_1 4 rfl rfl)
theorem dX0_card_31 : decode cX0_card 31 = .ok (.iconst (-1), 1) := dk_2 (dk_at dksX0_card_1 7 rfl rfl)
theorem dX0_card_32 : decode cX0_card 32 = .ok (.ireturn, 1) := dk_172 (dk_at dksX0_card_1 8 rfl rfl)
abbrev cX0_isCard : ByteArray := prog_1_method_26_code
def yX0_isCard : MethodName := ⟨RX0, "isCard", "(I)Z"⟩
def dkwX0_isCard_0 : List UInt8 := [27, 3, 42, 180, 0, 175, 4, 100, 184, 0, 86, 172]
abbrev dktX0_isCard_0 : List UInt8 := dkwX0_isCard_0 ++ []
theorem dksX0_isCard_0 : cX0_isCard.data.toList.drop 0 = dktX0_isCard_0 := by decide +kernel
theorem dX0_isCard_0 : decode cX0_isCard 0 = .ok (.iload_n 1, 1) := dk_27 (dk_at dksX0_isCard_0 0 rfl rfl)
theorem dX0_isCard_1 : decode cX0_isCard 1 = .ok (.iconst 0, 1) := dk_3 (dk_at dksX0_isCard_0 1 rfl rfl)
theorem dX0_isCard_2 : decode cX0_isCard 2 = .ok (.aload_n 0, 1) := dk_42 (dk_at dksX0_isCard_0 2 rfl rfl)
theorem dX0_isCard_3 : decode cX0_isCard 3 = .ok (.getfield 175, 3) := dk_180 0 175 (dk_at dksX0_isCard_0 3 rfl rfl)
theorem dX0_isCard_6 : decode cX0_isCard 6 = .ok (.iconst 1, 1) := dk_4 (dk_at dksX0_isCard_0 6 rfl rfl)
theorem dX0_isCard_7 : decode cX0_isCard 7 = .ok (.isub, 1) := dk_100 (dk_at dksX0_isCard_0 7 rfl rfl)
theorem dX0_isCard_8 : decode cX0_isCard 8 = .ok (.invokestatic 86, 3) := dk_184 0 86 (dk_at dksX0_isCard_0 8 rfl rfl)
theorem dX0_isCard_11 : decode cX0_isCard 11 = .ok (.ireturn, 1) := dk_172 (dk_at dksX0_isCard_0 11 rfl rfl)
abbrev cX0_cardTells : ByteArray := prog_1_method_37_code
def yX0_cardTells : MethodName := ⟨RX0, "cardTells", "(II)I"⟩
def dkwX0_cardTells_3 : List UInt8 := [172, 42, 27, 182, 0, 214, 172]
abbrev dktX0_cardTells_3 : List UInt8 := dkwX0_cardTells_3 ++ []
def dkwX0_cardTells_2 : List UInt8 := [45, 182, 0, 208, 172, 45, 182, 0, 202, 172, 45, 182, 0, 188, 172, 45, 180, 0, 205, 172, 45, 180, 0, 211]
abbrev dktX0_cardTells_2 : List UInt8 := dkwX0_cardTells_2 ++ dktX0_cardTells_3
def dkwX0_cardTells_1 : List UInt8 := [170, 0, 0, 0, 0, 0, 0, 61, 0, 0, 0, 0, 0, 0, 0, 4, 0, 0, 0, 36, 0, 0, 0, 41, 0, 0, 0, 46, 0, 0, 0, 51, 0, 0, 0, 56]
abbrev dktX0_cardTells_1 : List UInt8 := dkwX0_cardTells_1 ++ dktX0_cardTells_2
def dkwX0_cardTells_0 : List UInt8 := [42, 180, 0, 40, 27, 50, 78, 28]
abbrev dktX0_cardTells_0 : List UInt8 := dkwX0_cardTells_0 ++ dktX0_cardTells_1
theorem dksX0_cardTells_0 : cX0_cardTells.data.toList.drop 0 = dktX0_cardTells_0 := by decide +kernel
theorem dksX0_cardTells_1 : cX0_cardTells.data.toList.drop 8 = dktX0_cardTells_1 := dk_seg dksX0_cardTells_0 8 rfl rfl
theorem dksX0_cardTells_2 : cX0_cardTells.data.toList.drop 44 = dktX0_cardTells_2 := dk_seg dksX0_cardTells_1 36 rfl rfl
theorem dksX0_cardTells_3 : cX0_cardTells.data.toList.drop 68 = dktX0_cardTells_3 := dk_seg dksX0_cardTells_2 24 rfl rfl
theorem dX0_cardTells_0 : decode cX0_cardTells 0 = .ok (.aload_n 0, 1) := dk_42 (dk_at dksX0_cardTells_0 0 rfl rfl)
theorem dX0_cardTells_1 : decode cX0_cardTells 1 = .ok (.getfield 40, 3) := dk_180 0 40 (dk_at dksX0_cardTells_0 1 rfl rfl)
theorem dX0_cardTells_4 : decode cX0_cardTells 4 = .ok (.iload_n 1, 1) := dk_27 (dk_at dksX0_cardTells_0 4 rfl rfl)
theorem dX0_cardTells_5 : decode cX0_cardTells 5 = .ok (.aaload, 1) := dk_50 (dk_at dksX0_cardTells_0 5 rfl rfl)
theorem dX0_cardTells_6 : decode cX0_cardTells 6 = .ok (.astore_n 3, 1) := dk_78 (dk_at dksX0_cardTells_0 6 rfl rfl)
theorem dX0_cardTells_7 : decode cX0_cardTells 7 = .ok (.iload_n 2, 1) := dk_28 (dk_at dksX0_cardTells_0 7 rfl rfl)
theorem dX0_cardTells_8 : decode cX0_cardTells 8 = .ok (.tableswitch 61 0 4 #[36, 41, 46, 51, 56], 36) := by decide +kernel
theorem dX0_cardTells_44 : decode cX0_cardTells 44 = .ok (.aload_n 3, 1) := dk_45 (dk_at dksX0_cardTells_2 0 rfl rfl)
theorem dX0_cardTells_45 : decode cX0_cardTells 45 = .ok (.invokevirtual 208, 3) := dk_182 0 208 (dk_at dksX0_cardTells_2 1 rfl rfl)
theorem dX0_cardTells_48 : decode cX0_cardTells 48 = .ok (.ireturn, 1) := dk_172 (dk_at dksX0_cardTells_2 4 rfl rfl)
theorem dX0_cardTells_49 : decode cX0_cardTells 49 = .ok (.aload_n 3, 1) := dk_45 (dk_at dksX0_cardTells_2 5 rfl rfl)
theorem dX0_cardTells_50 : decode cX0_cardTells 50 = .ok (.invokevirtual 202, 3) := dk_182 0 202 (dk_at dksX0_cardTells_2 6 rfl rfl)
theorem dX0_cardTells_53 : decode cX0_cardTells 53 = .ok (.ireturn, 1) := dk_172 (dk_at dksX0_cardTells_2 9 rfl rfl)
theorem dX0_cardTells_54 : decode cX0_cardTells 54 = .ok (.aload_n 3, 1) := dk_45 (dk_at dksX0_cardTells_2 10 rfl rfl)
theorem dX0_cardTells_55 : decode cX0_cardTells 55 = .ok (.invokevirtual 188, 3) := dk_182 0 188 (dk_at dksX0_cardTells_2 11 rfl rfl)
theorem dX0_cardTells_58 : decode cX0_cardTells 58 = .ok (.ireturn, 1) := dk_172 (dk_at dksX0_cardTells_2 14 rfl rfl)
theorem dX0_cardTells_59 : decode cX0_cardTells 59 = .ok (.aload_n 3, 1) := dk_45 (dk_at dksX0_cardTells_2 15 rfl rfl)
theorem dX0_cardTells_60 : decode cX0_cardTells 60 = .ok (.getfield 205, 3) := dk_180 0 205 (dk_at dksX0_cardTells_2 16 rfl rfl)
theorem dX0_cardTells_63 : decode cX0_cardTells 63 = .ok (.ireturn, 1) := dk_172 (dk_at dksX0_cardTells_2 19 rfl rfl)
theorem dX0_cardTells_64 : decode cX0_cardTells 64 = .ok (.aload_n 3, 1) := dk_45 (dk_at dksX0_cardTells_2 20 rfl rfl)
theorem dX0_cardTells_65 : decode cX0_cardTells 65 = .ok (.getfield 211, 3) := dk_180 0 211 (dk_at dksX0_cardTells_2 21 rfl rfl)
theorem dX0_cardTells_68 : decode cX0_cardTells 68 = .ok (.ireturn, 1) := dk_172 (dk_at dksX0_cardTells_3 0 rfl rfl)
theorem dX0_cardTells_69 : decode cX0_cardTells 69 = .ok (.aload_n 0, 1) := dk_42 (dk_at dksX0_cardTells_3 1 rfl rfl)
theorem dX0_cardTells_70 : decode cX0_cardTells 70 = .ok (.iload_n 1, 1) := dk_27 (dk_at dksX0_cardTells_3 2 rfl rfl)
theorem dX0_cardTells_71 : decode cX0_cardTells 71 = .ok (.invokevirtual 214, 3) := dk_182 0 214 (dk_at dksX0_cardTells_3 3 rfl rfl)
theorem dX0_cardTells_74 : decode cX0_cardTells 74 = .ok (.ireturn, 1) := dk_172 (dk_at dksX0_cardTells_3 6 rfl rfl)
abbrev cX0_answers : ByteArray := prog_1_method_36_code
def yX0_answers : MethodName := ⟨RX0, "answers", "(I)I"⟩
def dkwX0_answers_1 : List UInt8 := [132, 2, 1, 167, 255, 233, 16, 247, 172]
abbrev dktX0_answers_1 : List UInt8 := dkwX0_answers_1 ++ []
def dkwX0_answers_0 : List UInt8 := [3, 61, 28, 42, 180, 0, 182, 162, 0, 21, 42, 180, 0, 50, 28, 46, 27, 160, 0, 5, 28, 172]
abbrev dktX0_answers_0 : List UInt8 := dkwX0_answers_0 ++ dktX0_answers_1
theorem dksX0_answers_0 : cX0_answers.data.toList.drop 0 = dktX0_answers_0 := by decide +kernel
theorem dksX0_answers_1 : cX0_answers.data.toList.drop 22 = dktX0_answers_1 := dk_seg dksX0_answers_0 22 rfl rfl
theorem dX0_answers_0 : decode cX0_answers 0 = .ok (.iconst 0, 1) := dk_3 (dk_at dksX0_answers_0 0 rfl rfl)
theorem dX0_answers_1 : decode cX0_answers 1 = .ok (.istore_n 2, 1) := dk_61 (dk_at dksX0_answers_0 1 rfl rfl)
theorem dX0_answers_2 : decode cX0_answers 2 = .ok (.iload_n 2, 1) := dk_28 (dk_at dksX0_answers_0 2 rfl rfl)
theorem dX0_answers_3 : decode cX0_answers 3 = .ok (.aload_n 0, 1) := dk_42 (dk_at dksX0_answers_0 3 rfl rfl)
theorem dX0_answers_4 : decode cX0_answers 4 = .ok (.getfield 182, 3) := dk_180 0 182 (dk_at dksX0_answers_0 4 rfl rfl)
theorem dX0_answers_7 : decode cX0_answers 7 = .ok (.if_icmp .ge 21, 3) := dk_162 0 21 (dk_at dksX0_answers_0 7 rfl rfl)
theorem dX0_answers_10 : decode cX0_answers 10 = .ok (.aload_n 0, 1) := dk_42 (dk_at dksX0_answers_0 10 rfl rfl)
theorem dX0_answers_11 : decode cX0_answers 11 = .ok (.getfield 50, 3) := dk_180 0 50 (dk_at dksX0_answers_0 11 rfl rfl)
theorem dX0_answers_14 : decode cX0_answers 14 = .ok (.iload_n 2, 1) := dk_28 (dk_at dksX0_answers_0 14 rfl rfl)
theorem dX0_answers_15 : decode cX0_answers 15 = .ok (.iaload, 1) := dk_46 (dk_at dksX0_answers_0 15 rfl rfl)
theorem dX0_answers_16 : decode cX0_answers 16 = .ok (.iload_n 1, 1) := dk_27 (dk_at dksX0_answers_0 16 rfl rfl)
theorem dX0_answers_17 : decode cX0_answers 17 = .ok (.if_icmp .ne 5, 3) := dk_160 0 5 (dk_at dksX0_answers_0 17 rfl rfl)
theorem dX0_answers_20 : decode cX0_answers 20 = .ok (.iload_n 2, 1) := dk_28 (dk_at dksX0_answers_0 20 rfl rfl)
theorem dX0_answers_21 : decode cX0_answers 21 = .ok (.ireturn, 1) := dk_172 (dk_at dksX0_answers_0 21 rfl rfl)
theorem dX0_answers_22 : decode cX0_answers 22 = .ok (.iinc 2 1, 3) := dk_132 2 1 (dk_at dksX0_answers_1 0 rfl rfl)
theorem dX0_answers_25 : decode cX0_answers 25 = .ok (.goto (-23), 3) := dk_167 255 233 (dk_at dksX0_answers_1 3 rfl rfl)
theorem dX0_answers_28 : decode cX0_answers 28 = .ok (.bipush (-9), 2) := dk_16 247 (dk_at dksX0_answers_1 6 rfl rfl)
theorem dX0_answers_30 : decode cX0_answers 30 = .ok (.ireturn, 1) := dk_172 (dk_at dksX0_answers_1 8 rfl rfl)
abbrev cX0_question : ByteArray := prog_1_method_40_code
def yX0_question : MethodName := ⟨RX0, "question", "(II)I"⟩
def dkwX0_question_1 : List UInt8 := [4, 182, 0, 104, 167, 0, 4, 2, 172]
abbrev dktX0_question_1 : List UInt8 := dkwX0_question_1 ++ []
def dkwX0_question_0 : List UInt8 := [42, 27, 182, 0, 223, 153, 0, 26, 28, 3, 8, 184, 0, 86, 153, 0, 17, 42, 42, 27, 28, 182, 0, 226]
abbrev dktX0_question_0 : List UInt8 := dkwX0_question_0 ++ dktX0_question_1
theorem dksX0_question_0 : cX0_question.data.toList.drop 0 = dktX0_question_0 := by decide +kernel
theorem dksX0_question_1 : cX0_question.data.toList.drop 24 = dktX0_question_1 := dk_seg dksX0_question_0 24 rfl rfl
theorem dX0_question_0 : decode cX0_question 0 = .ok (.aload_n 0, 1) := dk_42 (dk_at dksX0_question_0 0 rfl rfl)
theorem dX0_question_1 : decode cX0_question 1 = .ok (.iload_n 1, 1) := dk_27 (dk_at dksX0_question_0 1 rfl rfl)
theorem dX0_question_2 : decode cX0_question 2 = .ok (.invokevirtual 223, 3) := dk_182 0 223 (dk_at dksX0_question_0 2 rfl rfl)
theorem dX0_question_5 : decode cX0_question 5 = .ok (.ifCond .eq 26, 3) := dk_153 0 26 (dk_at dksX0_question_0 5 rfl rfl)
theorem dX0_question_8 : decode cX0_question 8 = .ok (.iload_n 2, 1) := dk_28 (dk_at dksX0_question_0 8 rfl rfl)
theorem dX0_question_9 : decode cX0_question 9 = .ok (.iconst 0, 1) := dk_3 (dk_at dksX0_question_0 9 rfl rfl)
theorem dX0_question_10 : decode cX0_question 10 = .ok (.iconst 5, 1) := dk_8 (dk_at dksX0_question_0 10 rfl rfl)
theorem dX0_question_11 : decode cX0_question 11 = .ok (.invokestatic 86, 3) := dk_184 0 86 (dk_at dksX0_question_0 11 rfl rfl)
theorem dX0_question_14 : decode cX0_question 14 = .ok (.ifCond .eq 17, 3) := dk_153 0 17 (dk_at dksX0_question_0 14 rfl rfl)
theorem dX0_question_17 : decode cX0_question 17 = .ok (.aload_n 0, 1) := dk_42 (dk_at dksX0_question_0 17 rfl rfl)
theorem dX0_question_18 : decode cX0_question 18 = .ok (.aload_n 0, 1) := dk_42 (dk_at dksX0_question_0 18 rfl rfl)
theorem dX0_question_19 : decode cX0_question 19 = .ok (.iload_n 1, 1) := dk_27 (dk_at dksX0_question_0 19 rfl rfl)
theorem dX0_question_20 : decode cX0_question 20 = .ok (.iload_n 2, 1) := dk_28 (dk_at dksX0_question_0 20 rfl rfl)
theorem dX0_question_21 : decode cX0_question 21 = .ok (.invokevirtual 226, 3) := dk_182 0 226 (dk_at dksX0_question_0 21 rfl rfl)
theorem dX0_question_24 : decode cX0_question 24 = .ok (.iconst 1, 1) := dk_4 (dk_at dksX0_question_1 0 rfl rfl)
theorem dX0_question_25 : decode cX0_question 25 = .ok (.invokevirtual 104, 3) := dk_182 0 104 (dk_at dksX0_question_1 1 rfl rfl)
theorem dX0_question_28 : decode cX0_question 28 = .ok (.goto 4, 3) := dk_167 0 4 (dk_at dksX0_question_1 4 rfl rfl)
theorem dX0_question_31 : decode cX0_question 31 = .ok (.iconst (-1), 1) := dk_2 (dk_at dksX0_question_1 7 rfl rfl)
theorem dX0_question_32 : decode cX0_question 32 = .ok (.ireturn, 1) := dk_172 (dk_at dksX0_question_1 8 rfl rfl)
abbrev cX0_isQuestion : ByteArray := prog_1_method_27_code
def yX0_isQuestion : MethodName := ⟨RX0, "isQuestion", "(I)Z"⟩
def dkwX0_isQuestion_0 : List UInt8 := [27, 3, 42, 180, 0, 182, 4, 100, 184, 0, 86, 172]
abbrev dktX0_isQuestion_0 : List UInt8 := dkwX0_isQuestion_0 ++ []
theorem dksX0_isQuestion_0 : cX0_isQuestion.data.toList.drop 0 = dktX0_isQuestion_0 := by decide +kernel
theorem dX0_isQuestion_0 : decode cX0_isQuestion 0 = .ok (.iload_n 1, 1) := dk_27 (dk_at dksX0_isQuestion_0 0 rfl rfl)
theorem dX0_isQuestion_1 : decode cX0_isQuestion 1 = .ok (.iconst 0, 1) := dk_3 (dk_at dksX0_isQuestion_0 1 rfl rfl)
theorem dX0_isQuestion_2 : decode cX0_isQuestion 2 = .ok (.aload_n 0, 1) := dk_42 (dk_at dksX0_isQuestion_0 2 rfl rfl)
theorem dX0_isQuestion_3 : decode cX0_isQuestion 3 = .ok (.getfield 182, 3) := dk_180 0 182 (dk_at dksX0_isQuestion_0 3 rfl rfl)
theorem dX0_isQuestion_6 : decode cX0_isQuestion 6 = .ok (.iconst 1, 1) := dk_4 (dk_at dksX0_isQuestion_0 6 rfl rfl)
theorem dX0_isQuestion_7 : decode cX0_isQuestion 7 = .ok (.isub, 1) := dk_100 (dk_at dksX0_isQuestion_0 7 rfl rfl)
theorem dX0_isQuestion_8 : decode cX0_isQuestion 8 = .ok (.invokestatic 86, 3) := dk_184 0 86 (dk_at dksX0_isQuestion_0 8 rfl rfl)
theorem dX0_isQuestion_11 : decode cX0_isQuestion 11 = .ok (.ireturn, 1) := dk_172 (dk_at dksX0_isQuestion_0 11 rfl rfl)
abbrev cX0_questionTells : ByteArray := prog_1_method_39_code
def yX0_questionTells : MethodName := ⟨RX0, "questionTells", "(II)I"⟩
def dkwX0_questionTells_1 : List UInt8 := [46, 167, 0, 9, 42, 180, 0, 50, 27, 46, 172]
abbrev dktX0_questionTells_1 : List UInt8 := dkwX0_questionTells_1 ++ []
def dkwX0_questionTells_0 : List UInt8 := [28, 7, 162, 0, 12, 42, 27, 28, 182, 0, 191, 167, 0, 23, 28, 7, 160, 0, 12, 42, 180, 0, 47, 27]
abbrev dktX0_questionTells_0 : List UInt8 := dkwX0_questionTells_0 ++ dktX0_questionTells_1
theorem dksX0_questionTells_0 : cX0_questionTells.data.toList.drop 0 = dktX0_questionTells_0 := by decide +kernel
theorem dksX0_questionTells_1 : cX0_questionTells.data.toList.drop 24 = dktX0_questionTells_1 := dk_seg dksX0_questionTells_0 24 rfl rfl
theorem dX0_questionTells_0 : decode cX0_questionTells 0 = .ok (.iload_n 2, 1) := dk_28 (dk_at dksX0_questionTells_0 0 rfl rfl)
theorem dX0_questionTells_1 : decode cX0_questionTells 1 = .ok (.iconst 4, 1) := dk_7 (dk_at dksX0_questionTells_0 1 rfl rfl)
theorem dX0_questionTells_2 : decode cX0_questionTells 2 = .ok (.if_icmp .ge 12, 3) := dk_162 0 12 (dk_at dksX0_questionTells_0 2 rfl rfl)
theorem dX0_questionTells_5 : decode cX0_questionTells 5 = .ok (.aload_n 0, 1) := dk_42 (dk_at dksX0_questionTells_0 5 rfl rfl)
theorem dX0_questionTells_6 : decode cX0_questionTells 6 = .ok (.iload_n 1, 1) := dk_27 (dk_at dksX0_questionTells_0 6 rfl rfl)
theorem dX0_questionTells_7 : decode cX0_questionTells 7 = .ok (.iload_n 2, 1) := dk_28 (dk_at dksX0_questionTells_0 7 rfl rfl)
theorem dX0_questionTells_8 : decode cX0_questionTells 8 = .ok (.invokevirtual 191, 3) := dk_182 0 191 (dk_at dksX0_questionTells_0 8 rfl rfl)
theorem dX0_questionTells_11 : decode cX0_questionTells 11 = .ok (.goto 23, 3) := dk_167 0 23 (dk_at dksX0_questionTells_0 11 rfl rfl)
theorem dX0_questionTells_14 : decode cX0_questionTells 14 = .ok (.iload_n 2, 1) := dk_28 (dk_at dksX0_questionTells_0 14 rfl rfl)
theorem dX0_questionTells_15 : decode cX0_questionTells 15 = .ok (.iconst 4, 1) := dk_7 (dk_at dksX0_questionTells_0 15 rfl rfl)
theorem dX0_questionTells_16 : decode cX0_questionTells 16 = .ok (.if_icmp .ne 12, 3) := dk_160 0 12 (dk_at dksX0_questionTells_0 16 rfl rfl)
theorem dX0_questionTells_19 : decode cX0_questionTells 19 = .ok (.aload_n 0, 1) := dk_42 (dk_at dksX0_questionTells_0 19 rfl rfl)
theorem dX0_questionTells_20 : decode cX0_questionTells 20 = .ok (.getfield 47, 3) := dk_180 0 47 (dk_at dksX0_questionTells_0 20 rfl rfl)
theorem dX0_questionTells_23 : decode cX0_questionTells 23 = .ok (.iload_n 1, 1) := dk_27 (dk_at dksX0_questionTells_0 23 rfl rfl)
theorem dX0_questionTells_24 : decode cX0_questionTells 24 = .ok (.iaload, 1) := dk_46 (dk_at dksX0_questionTells_1 0 rfl rfl)
theorem dX0_questionTells_25 : decode cX0_questionTells 25 = .ok (.goto 9, 3) := dk_167 0 9 (dk_at dksX0_questionTells_1 1 rfl rfl)
theorem dX0_questionTells_28 : decode cX0_questionTells 28 = .ok (.aload_n 0, 1) := dk_42 (dk_at dksX0_questionTells_1 4 rfl rfl)
theorem dX0_questionTells_29 : decode cX0_questionTells 29 = .ok (.getfield 50, 3) := dk_180 0 50 (dk_at dksX0_questionTells_1 5 rfl rfl)
theorem dX0_questionTells_32 : decode cX0_questionTells 32 = .ok (.iload_n 1, 1) := dk_27 (dk_at dksX0_questionTells_1 8 rfl rfl)
theorem dX0_questionTells_33 : decode cX0_questionTells 33 = .ok (.iaload, 1) := dk_46 (dk_at dksX0_questionTells_1 9 rfl rfl)
theorem dX0_questionTells_34 : decode cX0_questionTells 34 = .ok (.ireturn, 1) := dk_172 (dk_at dksX0_questionTells_1 10 rfl rfl)
abbrev cX0_askOf : ByteArray := prog_1_method_28_code
def yX0_askOf : MethodName := ⟨RX0, "askOf", "(II)I"⟩
def dkwX0_askOf_0 : List UInt8 := [42, 180, 0, 44, 7, 27, 104, 28, 96, 46, 172]
abbrev dktX0_askOf_0 : List UInt8 := dkwX0_askOf_0 ++ []
theorem dksX0_askOf_0 : cX0_askOf.data.toList.drop 0 = dktX0_askOf_0 := by decide +kernel
theorem dX0_askOf_0 : decode cX0_askOf 0 = .ok (.aload_n 0, 1) := dk_42 (dk_at dksX0_askOf_0 0 rfl rfl)
theorem dX0_askOf_1 : decode cX0_askOf 1 = .ok (.getfield 44, 3) := dk_180 0 44 (dk_at dksX0_askOf_0 1 rfl rfl)
theorem dX0_askOf_4 : decode cX0_askOf 4 = .ok (.iconst 4, 1) := dk_7 (dk_at dksX0_askOf_0 4 rfl rfl)
theorem dX0_askOf_5 : decode cX0_askOf 5 = .ok (.iload_n 1, 1) := dk_27 (dk_at dksX0_askOf_0 5 rfl rfl)
theorem dX0_askOf_6 : decode cX0_askOf 6 = .ok (.imul, 1) := dk_104 (dk_at dksX0_askOf_0 6 rfl rfl)
theorem dX0_askOf_7 : decode cX0_askOf 7 = .ok (.iload_n 2, 1) := dk_28 (dk_at dksX0_askOf_0 7 rfl rfl)
theorem dX0_askOf_8 : decode cX0_askOf 8 = .ok (.iadd, 1) := dk_96 (dk_at dksX0_askOf_0 8 rfl rfl)
theorem dX0_askOf_9 : decode cX0_askOf 9 = .ok (.iaload, 1) := dk_46 (dk_at dksX0_askOf_0 9 rfl rfl)
theorem dX0_askOf_10 : decode cX0_askOf 10 = .ok (.ireturn, 1) := dk_172 (dk_at dksX0_askOf_0 10 rfl rfl)
abbrev cX0_mark : ByteArray := prog_1_method_41_code
def yX0_mark : MethodName := ⟨RX0, "mark", "(II)I"⟩
def dkwX0_mark_5 : List UInt8 := [6, 182, 0, 96, 172]
abbrev dktX0_mark_5 : List UInt8 := dkwX0_mark_5 ++ []
def dkwX0_mark_4 : List UInt8 := [182, 0, 236, 172, 45, 192, 0, 135, 182, 0, 238, 172, 45, 192, 0, 138, 42, 182, 0, 241, 172, 58, 4, 42]
abbrev dktX0_mark_4 : List UInt8 := dkwX0_mark_4 ++ dktX0_mark_5
def dkwX0_mark_3 : List UInt8 := [45, 192, 0, 124, 42, 182, 0, 229, 172, 45, 192, 0, 129, 42, 182, 0, 233, 172, 45, 192, 0, 132, 42]
abbrev dktX0_mark_3 : List UInt8 := dkwX0_mark_3 ++ dktX0_mark_4
def dkwX0_mark_2 : List UInt8 := [170, 0, 0, 0, 64, 0, 0, 0, 1, 0, 0, 0, 4, 0, 0, 0, 29, 0, 0, 0, 38, 0, 0, 0, 47, 0, 0, 0, 56]
abbrev dktX0_mark_2 : List UInt8 := dkwX0_mark_2 ++ dktX0_mark_3
def dkwX0_mark_1 : List UInt8 := [50, 78, 28]
abbrev dktX0_mark_1 : List UInt8 := dkwX0_mark_1 ++ dktX0_mark_2
def dkwX0_mark_0 : List UInt8 := [42, 27, 182, 0, 217, 153, 0, 12, 28, 4, 8, 184, 0, 86, 154, 0, 5, 2, 172, 42, 180, 0, 40, 27]
abbrev dktX0_mark_0 : List UInt8 := dkwX0_mark_0 ++ dktX0_mark_1
theorem dksX0_mark_0 : cX0_mark.data.toList.drop 0 = dktX0_mark_0 := by decide +kernel
theorem dksX0_mark_1 : cX0_mark.data.toList.drop 24 = dktX0_mark_1 := dk_seg dksX0_mark_0 24 rfl rfl
theorem dksX0_mark_2 : cX0_mark.data.toList.drop 27 = dktX0_mark_2 := dk_seg dksX0_mark_1 3 rfl rfl
theorem dksX0_mark_3 : cX0_mark.data.toList.drop 56 = dktX0_mark_3 := dk_seg dksX0_mark_2 29 rfl rfl
theorem dksX0_mark_4 : cX0_mark.data.toList.drop 79 = dktX0_mark_4 := dk_seg dksX0_mark_3 23 rfl rfl
theorem dksX0_mark_5 : cX0_mark.data.toList.drop 103 = dktX0_mark_5 := dk_seg dksX0_mark_4 24 rfl rfl
theorem dX0_mark_0 : decode cX0_mark 0 = .ok (.aload_n 0, 1) := dk_42 (dk_at dksX0_mark_0 0 rfl rfl)
theorem dX0_mark_1 : decode cX0_mark 1 = .ok (.iload_n 1, 1) := dk_27 (dk_at dksX0_mark_0 1 rfl rfl)
theorem dX0_mark_2 : decode cX0_mark 2 = .ok (.invokevirtual 217, 3) := dk_182 0 217 (dk_at dksX0_mark_0 2 rfl rfl)
theorem dX0_mark_5 : decode cX0_mark 5 = .ok (.ifCond .eq 12, 3) := dk_153 0 12 (dk_at dksX0_mark_0 5 rfl rfl)
theorem dX0_mark_8 : decode cX0_mark 8 = .ok (.iload_n 2, 1) := dk_28 (dk_at dksX0_mark_0 8 rfl rfl)
theorem dX0_mark_9 : decode cX0_mark 9 = .ok (.iconst 1, 1) := dk_4 (dk_at dksX0_mark_0 9 rfl rfl)
theorem dX0_mark_10 : decode cX0_mark 10 = .ok (.iconst 5, 1) := dk_8 (dk_at dksX0_mark_0 10 rfl rfl)
theorem dX0_mark_11 : decode cX0_mark 11 = .ok (.invokestatic 86, 3) := dk_184 0 86 (dk_at dksX0_mark_0 11 rfl rfl)
theorem dX0_mark_14 : decode cX0_mark 14 = .ok (.ifCond .ne 5, 3) := dk_154 0 5 (dk_at dksX0_mark_0 14 rfl rfl)
theorem dX0_mark_17 : decode cX0_mark 17 = .ok (.iconst (-1), 1) := dk_2 (dk_at dksX0_mark_0 17 rfl rfl)
theorem dX0_mark_18 : decode cX0_mark 18 = .ok (.ireturn, 1) := dk_172 (dk_at dksX0_mark_0 18 rfl rfl)
theorem dX0_mark_19 : decode cX0_mark 19 = .ok (.aload_n 0, 1) := dk_42 (dk_at dksX0_mark_0 19 rfl rfl)
theorem dX0_mark_20 : decode cX0_mark 20 = .ok (.getfield 40, 3) := dk_180 0 40 (dk_at dksX0_mark_0 20 rfl rfl)
theorem dX0_mark_23 : decode cX0_mark 23 = .ok (.iload_n 1, 1) := dk_27 (dk_at dksX0_mark_0 23 rfl rfl)
theorem dX0_mark_24 : decode cX0_mark 24 = .ok (.aaload, 1) := dk_50 (dk_at dksX0_mark_1 0 rfl rfl)
theorem dX0_mark_25 : decode cX0_mark 25 = .ok (.astore_n 3, 1) := dk_78 (dk_at dksX0_mark_1 1 rfl rfl)
theorem dX0_mark_26 : decode cX0_mark 26 = .ok (.iload_n 2, 1) := dk_28 (dk_at dksX0_mark_1 2 rfl rfl)
theorem dX0_mark_27 : decode cX0_mark 27 = .ok (.tableswitch 64 1 4 #[29, 38, 47, 56], 29) := by decide +kernel
theorem dX0_mark_56 : decode cX0_mark 56 = .ok (.aload_n 3, 1) := dk_45 (dk_at dksX0_mark_3 0 rfl rfl)
theorem dX0_mark_57 : decode cX0_mark 57 = .ok (.checkcast 124, 3) := dk_192 0 124 (dk_at dksX0_mark_3 1 rfl rfl)
theorem dX0_mark_60 : decode cX0_mark 60 = .ok (.aload_n 0, 1) := dk_42 (dk_at dksX0_mark_3 4 rfl rfl)
theorem dX0_mark_61 : decode cX0_mark 61 = .ok (.invokevirtual 229, 3) := dk_182 0 229 (dk_at dksX0_mark_3 5 rfl rfl)
theorem dX0_mark_64 : decode cX0_mark 64 = .ok (.ireturn, 1) := dk_172 (dk_at dksX0_mark_3 8 rfl rfl)
theorem dX0_mark_65 : decode cX0_mark 65 = .ok (.aload_n 3, 1) := dk_45 (dk_at dksX0_mark_3 9 rfl rfl)
theorem dX0_mark_66 : decode cX0_mark 66 = .ok (.checkcast 129, 3) := dk_192 0 129 (dk_at dksX0_mark_3 10 rfl rfl)
theorem dX0_mark_69 : decode cX0_mark 69 = .ok (.aload_n 0, 1) := dk_42 (dk_at dksX0_mark_3 13 rfl rfl)
theorem dX0_mark_70 : decode cX0_mark 70 = .ok (.invokevirtual 233, 3) := dk_182 0 233 (dk_at dksX0_mark_3 14 rfl rfl)
theorem dX0_mark_73 : decode cX0_mark 73 = .ok (.ireturn, 1) := dk_172 (dk_at dksX0_mark_3 17 rfl rfl)
theorem dX0_mark_74 : decode cX0_mark 74 = .ok (.aload_n 3, 1) := dk_45 (dk_at dksX0_mark_3 18 rfl rfl)
theorem dX0_mark_75 : decode cX0_mark 75 = .ok (.checkcast 132, 3) := dk_192 0 132 (dk_at dksX0_mark_3 19 rfl rfl)
theorem dX0_mark_78 : decode cX0_mark 78 = .ok (.aload_n 0, 1) := dk_42 (dk_at dksX0_mark_3 22 rfl rfl)
theorem dX0_mark_79 : decode cX0_mark 79 = .ok (.invokevirtual 236, 3) := dk_182 0 236 (dk_at dksX0_mark_4 0 rfl rfl)
theorem dX0_mark_82 : decode cX0_mark 82 = .ok (.ireturn, 1) := dk_172 (dk_at dksX0_mark_4 3 rfl rfl)
theorem dX0_mark_83 : decode cX0_mark 83 = .ok (.aload_n 3, 1) := dk_45 (dk_at dksX0_mark_4 4 rfl rfl)
theorem dX0_mark_84 : decode cX0_mark 84 = .ok (.checkcast 135, 3) := dk_192 0 135 (dk_at dksX0_mark_4 5 rfl rfl)
theorem dX0_mark_87 : decode cX0_mark 87 = .ok (.invokevirtual 238, 3) := dk_182 0 238 (dk_at dksX0_mark_4 8 rfl rfl)
theorem dX0_mark_90 : decode cX0_mark 90 = .ok (.ireturn, 1) := dk_172 (dk_at dksX0_mark_4 11 rfl rfl)
theorem dX0_mark_91 : decode cX0_mark 91 = .ok (.aload_n 3, 1) := dk_45 (dk_at dksX0_mark_4 12 rfl rfl)
theorem dX0_mark_92 : decode cX0_mark 92 = .ok (.checkcast 138, 3) := dk_192 0 138 (dk_at dksX0_mark_4 13 rfl rfl)
theorem dX0_mark_95 : decode cX0_mark 95 = .ok (.aload_n 0, 1) := dk_42 (dk_at dksX0_mark_4 16 rfl rfl)
theorem dX0_mark_96 : decode cX0_mark 96 = .ok (.invokevirtual 241, 3) := dk_182 0 241 (dk_at dksX0_mark_4 17 rfl rfl)
theorem dX0_mark_99 : decode cX0_mark 99 = .ok (.ireturn, 1) := dk_172 (dk_at dksX0_mark_4 20 rfl rfl)
theorem dX0_mark_100 : decode cX0_mark 100 = .ok (.astore 4, 2) := dk_58 4 (dk_at dksX0_mark_4 21 rfl rfl)
theorem dX0_mark_102 : decode cX0_mark 102 = .ok (.aload_n 0, 1) := dk_42 (dk_at dksX0_mark_4 23 rfl rfl)
theorem dX0_mark_103 : decode cX0_mark 103 = .ok (.iconst 3, 1) := dk_6 (dk_at dksX0_mark_5 0 rfl rfl)
theorem dX0_mark_104 : decode cX0_mark 104 = .ok (.invokevirtual 96, 3) := dk_182 0 96 (dk_at dksX0_mark_5 1 rfl rfl)
theorem dX0_mark_107 : decode cX0_mark 107 = .ok (.ireturn, 1) := dk_172 (dk_at dksX0_mark_5 4 rfl rfl)
abbrev cX0_meaning : ByteArray := prog_1_method_33_code
def yX0_meaning : MethodName := ⟨RX0, "meaning", "(II)I"⟩
def dkwX0_meaning_2 : List UInt8 := [3, 96, 62, 132, 4, 1, 167, 255, 208, 29, 172]
abbrev dktX0_meaning_2 : List UInt8 := dkwX0_meaning_2 ++ []
def dkwX0_meaning_1 : List UInt8 := [182, 0, 185, 153, 0, 21, 42, 180, 0, 40, 21, 4, 50, 182, 0, 188, 28, 160, 0, 7, 4, 167, 0, 4]
abbrev dktX0_meaning_1 : List UInt8 := dkwX0_meaning_1 ++ dktX0_meaning_2
def dkwX0_meaning_0 : List UInt8 := [3, 62, 3, 54, 4, 21, 4, 42, 180, 0, 175, 162, 0, 45, 29, 42, 180, 0, 40, 21, 4, 50, 27]
abbrev dktX0_meaning_0 : List UInt8 := dkwX0_meaning_0 ++ dktX0_meaning_1
theorem dksX0_meaning_0 : cX0_meaning.data.toList.drop 0 = dktX0_meaning_0 := by decide +kernel
theorem dksX0_meaning_1 : cX0_meaning.data.toList.drop 23 = dktX0_meaning_1 := dk_seg dksX0_meaning_0 23 rfl rfl
theorem dksX0_meaning_2 : cX0_meaning.data.toList.drop 47 = dktX0_meaning_2 := dk_seg dksX0_meaning_1 24 rfl rfl
theorem dX0_meaning_0 : decode cX0_meaning 0 = .ok (.iconst 0, 1) := dk_3 (dk_at dksX0_meaning_0 0 rfl rfl)
theorem dX0_meaning_1 : decode cX0_meaning 1 = .ok (.istore_n 3, 1) := dk_62 (dk_at dksX0_meaning_0 1 rfl rfl)
theorem dX0_meaning_2 : decode cX0_meaning 2 = .ok (.iconst 0, 1) := dk_3 (dk_at dksX0_meaning_0 2 rfl rfl)
theorem dX0_meaning_3 : decode cX0_meaning 3 = .ok (.istore 4, 2) := dk_54 4 (dk_at dksX0_meaning_0 3 rfl rfl)
theorem dX0_meaning_5 : decode cX0_meaning 5 = .ok (.iload 4, 2) := dk_21 4 (dk_at dksX0_meaning_0 5 rfl rfl)
theorem dX0_meaning_7 : decode cX0_meaning 7 = .ok (.aload_n 0, 1) := dk_42 (dk_at dksX0_meaning_0 7 rfl rfl)
theorem dX0_meaning_8 : decode cX0_meaning 8 = .ok (.getfield 175, 3) := dk_180 0 175 (dk_at dksX0_meaning_0 8 rfl rfl)
theorem dX0_meaning_11 : decode cX0_meaning 11 = .ok (.if_icmp .ge 45, 3) := dk_162 0 45 (dk_at dksX0_meaning_0 11 rfl rfl)
theorem dX0_meaning_14 : decode cX0_meaning 14 = .ok (.iload_n 3, 1) := dk_29 (dk_at dksX0_meaning_0 14 rfl rfl)
theorem dX0_meaning_15 : decode cX0_meaning 15 = .ok (.aload_n 0, 1) := dk_42 (dk_at dksX0_meaning_0 15 rfl rfl)
theorem dX0_meaning_16 : decode cX0_meaning 16 = .ok (.getfield 40, 3) := dk_180 0 40 (dk_at dksX0_meaning_0 16 rfl rfl)
theorem dX0_meaning_19 : decode cX0_meaning 19 = .ok (.iload 4, 2) := dk_21 4 (dk_at dksX0_meaning_0 19 rfl rfl)
theorem dX0_meaning_21 : decode cX0_meaning 21 = .ok (.aaload, 1) := dk_50 (dk_at dksX0_meaning_0 21 rfl rfl)
theorem dX0_meaning_22 : decode cX0_meaning 22 = .ok (.iload_n 1, 1) := dk_27 (dk_at dksX0_meaning_0 22 rfl rfl)
theorem dX0_meaning_23 : decode cX0_meaning 23 = .ok (.invokevirtual 185, 3) := dk_182 0 185 (dk_at dksX0_meaning_1 0 rfl rfl)
theorem dX0_meaning_26 : decode cX0_meaning 26 = .ok (.ifCond .eq 21, 3) := dk_153 0 21 (dk_at dksX0_meaning_1 3 rfl rfl)
theorem dX0_meaning_29 : decode cX0_meaning 29 = .ok (.aload_n 0, 1) := dk_42 (dk_at dksX0_meaning_1 6 rfl rfl)
theorem dX0_meaning_30 : decode cX0_meaning 30 = .ok (.getfield 40, 3) := dk_180 0 40 (dk_at dksX0_meaning_1 7 rfl rfl)
theorem dX0_meaning_33 : decode cX0_meaning 33 = .ok (.iload 4, 2) := dk_21 4 (dk_at dksX0_meaning_1 10 rfl rfl)
theorem dX0_meaning_35 : decode cX0_meaning 35 = .ok (.aaload, 1) := dk_50 (dk_at dksX0_meaning_1 12 rfl rfl)
theorem dX0_meaning_36 : decode cX0_meaning 36 = .ok (.invokevirtual 188, 3) := dk_182 0 188 (dk_at dksX0_meaning_1 13 rfl rfl)
theorem dX0_meaning_39 : decode cX0_meaning 39 = .ok (.iload_n 2, 1) := dk_28 (dk_at dksX0_meaning_1 16 rfl rfl)
theorem dX0_meaning_40 : decode cX0_meaning 40 = .ok (.if_icmp .ne 7, 3) := dk_160 0 7 (dk_at dksX0_meaning_1 17 rfl rfl)
theorem dX0_meaning_43 : decode cX0_meaning 43 = .ok (.iconst 1, 1) := dk_4 (dk_at dksX0_meaning_1 20 rfl rfl)
theorem dX0_meaning_44 : decode cX0_meaning 44 = .ok (.goto 4, 3) := dk_167 0 4 (dk_at dksX0_meaning_1 21 rfl rfl)
theorem dX0_meaning_47 : decode cX0_meaning 47 = .ok (.iconst 0, 1) := dk_3 (dk_at dksX0_meaning_2 0 rfl rfl)
theorem dX0_meaning_48 : decode cX0_meaning 48 = .ok (.iadd, 1) := dk_96 (dk_at dksX0_meaning_2 1 rfl rfl)
theorem dX0_meaning_49 : decode cX0_meaning 49 = .ok (.istore_n 3, 1) := dk_62 (dk_at dksX0_meaning_2 2 rfl rfl)
theorem dX0_meaning_50 : decode cX0_meaning 50 = .ok (.iinc 4 1, 3) := dk_132 4 1 (dk_at dksX0_meaning_2 3 rfl rfl)
theorem dX0_meaning_53 : decode cX0_meaning 53 = .ok (.goto (-48), 3) := dk_167 255 208 (dk_at dksX0_meaning_2 6 rfl rfl)
theorem dX0_meaning_56 : decode cX0_meaning 56 = .ok (.iload_n 3, 1) := dk_29 (dk_at dksX0_meaning_2 9 rfl rfl)
theorem dX0_meaning_57 : decode cX0_meaning 57 = .ok (.ireturn, 1) := dk_172 (dk_at dksX0_meaning_2 10 rfl rfl)
abbrev cX0_onShelf : ByteArray := prog_1_method_35_code
def yX0_onShelf : MethodName := ⟨RX0, "onShelf", "(I)I"⟩
def dkwX0_onShelf_1 : List UInt8 := [160, 0, 7, 4, 167, 0, 4, 3, 96, 61, 132, 3, 1, 167, 255, 224, 28, 172]
abbrev dktX0_onShelf_1 : List UInt8 := dkwX0_onShelf_1 ++ []
def dkwX0_onShelf_0 : List UInt8 := [3, 61, 3, 62, 29, 42, 180, 0, 175, 162, 0, 30, 28, 42, 180, 0, 40, 29, 50, 180, 0, 205, 27]
abbrev dktX0_onShelf_0 : List UInt8 := dkwX0_onShelf_0 ++ dktX0_onShelf_1
theorem dksX0_onShelf_0 : cX0_onShelf.data.toList.drop 0 = dktX0_onShelf_0 := by decide +kernel
theorem dksX0_onShelf_1 : cX0_onShelf.data.toList.drop 23 = dktX0_onShelf_1 := dk_seg dksX0_onShelf_0 23 rfl rfl
theorem dX0_onShelf_0 : decode cX0_onShelf 0 = .ok (.iconst 0, 1) := dk_3 (dk_at dksX0_onShelf_0 0 rfl rfl)
theorem dX0_onShelf_1 : decode cX0_onShelf 1 = .ok (.istore_n 2, 1) := dk_61 (dk_at dksX0_onShelf_0 1 rfl rfl)
theorem dX0_onShelf_2 : decode cX0_onShelf 2 = .ok (.iconst 0, 1) := dk_3 (dk_at dksX0_onShelf_0 2 rfl rfl)
theorem dX0_onShelf_3 : decode cX0_onShelf 3 = .ok (.istore_n 3, 1) := dk_62 (dk_at dksX0_onShelf_0 3 rfl rfl)
theorem dX0_onShelf_4 : decode cX0_onShelf 4 = .ok (.iload_n 3, 1) := dk_29 (dk_at dksX0_onShelf_0 4 rfl rfl)
theorem dX0_onShelf_5 : decode cX0_onShelf 5 = .ok (.aload_n 0, 1) := dk_42 (dk_at dksX0_onShelf_0 5 rfl rfl)
theorem dX0_onShelf_6 : decode cX0_onShelf 6 = .ok (.getfield 175, 3) := dk_180 0 175 (dk_at dksX0_onShelf_0 6 rfl rfl)
theorem dX0_onShelf_9 : decode cX0_onShelf 9 = .ok (.if_icmp .ge 30, 3) := dk_162 0 30 (dk_at dksX0_onShelf_0 9 rfl rfl)
theorem dX0_onShelf_12 : decode cX0_onShelf 12 = .ok (.iload_n 2, 1) := dk_28 (dk_at dksX0_onShelf_0 12 rfl rfl)
theorem dX0_onShelf_13 : decode cX0_onShelf 13 = .ok (.aload_n 0, 1) := dk_42 (dk_at dksX0_onShelf_0 13 rfl rfl)
theorem dX0_onShelf_14 : decode cX0_onShelf 14 = .ok (.getfield 40, 3) := dk_180 0 40 (dk_at dksX0_onShelf_0 14 rfl rfl)
theorem dX0_onShelf_17 : decode cX0_onShelf 17 = .ok (.iload_n 3, 1) := dk_29 (dk_at dksX0_onShelf_0 17 rfl rfl)
theorem dX0_onShelf_18 : decode cX0_onShelf 18 = .ok (.aaload, 1) := dk_50 (dk_at dksX0_onShelf_0 18 rfl rfl)
theorem dX0_onShelf_19 : decode cX0_onShelf 19 = .ok (.getfield 205, 3) := dk_180 0 205 (dk_at dksX0_onShelf_0 19 rfl rfl)
theorem dX0_onShelf_22 : decode cX0_onShelf 22 = .ok (.iload_n 1, 1) := dk_27 (dk_at dksX0_onShelf_0 22 rfl rfl)
theorem dX0_onShelf_23 : decode cX0_onShelf 23 = .ok (.if_icmp .ne 7, 3) := dk_160 0 7 (dk_at dksX0_onShelf_1 0 rfl rfl)
theorem dX0_onShelf_26 : decode cX0_onShelf 26 = .ok (.iconst 1, 1) := dk_4 (dk_at dksX0_onShelf_1 3 rfl rfl)
theorem dX0_onShelf_27 : decode cX0_onShelf 27 = .ok (.goto 4, 3) := dk_167 0 4 (dk_at dksX0_onShelf_1 4 rfl rfl)
theorem dX0_onShelf_30 : decode cX0_onShelf 30 = .ok (.iconst 0, 1) := dk_3 (dk_at dksX0_onShelf_1 7 rfl rfl)
theorem dX0_onShelf_31 : decode cX0_onShelf 31 = .ok (.iadd, 1) := dk_96 (dk_at dksX0_onShelf_1 8 rfl rfl)
theorem dX0_onShelf_32 : decode cX0_onShelf 32 = .ok (.istore_n 2, 1) := dk_61 (dk_at dksX0_onShelf_1 9 rfl rfl)
theorem dX0_onShelf_33 : decode cX0_onShelf 33 = .ok (.iinc 3 1, 3) := dk_132 3 1 (dk_at dksX0_onShelf_1 10 rfl rfl)
theorem dX0_onShelf_36 : decode cX0_onShelf 36 = .ok (.goto (-32), 3) := dk_167 255 224 (dk_at dksX0_onShelf_1 13 rfl rfl)
theorem dX0_onShelf_39 : decode cX0_onShelf 39 = .ok (.iload_n 2, 1) := dk_28 (dk_at dksX0_onShelf_1 16 rfl rfl)
theorem dX0_onShelf_40 : decode cX0_onShelf 40 = .ok (.ireturn, 1) := dk_172 (dk_at dksX0_onShelf_1 17 rfl rfl)
abbrev cX0_fitted : ByteArray := prog_1_method_32_code
def yX0_fitted : MethodName := ⟨RX0, "fitted", "(I)I"⟩
def dkwX0_fitted_1 : List UInt8 := [167, 0, 4, 3, 96, 61, 132, 3, 1, 167, 255, 228, 28, 172]
abbrev dktX0_fitted_1 : List UInt8 := dkwX0_fitted_1 ++ []
def dkwX0_fitted_0 : List UInt8 := [3, 61, 3, 62, 29, 42, 180, 0, 182, 162, 0, 26, 28, 42, 27, 29, 182, 0, 198, 153, 0, 7, 4]
abbrev dktX0_fitted_0 : List UInt8 := dkwX0_fitted_0 ++ dktX0_fitted_1
theorem dksX0_fitted_0 : cX0_fitted.data.toList.drop 0 = dktX0_fitted_0 := by decide +kernel
theorem dksX0_fitted_1 : cX0_fitted.data.toList.drop 23 = dktX0_fitted_1 := dk_seg dksX0_fitted_0 23 rfl rfl
theorem dX0_fitted_0 : decode cX0_fitted 0 = .ok (.iconst 0, 1) := dk_3 (dk_at dksX0_fitted_0 0 rfl rfl)
theorem dX0_fitted_1 : decode cX0_fitted 1 = .ok (.istore_n 2, 1) := dk_61 (dk_at dksX0_fitted_0 1 rfl rfl)
theorem dX0_fitted_2 : decode cX0_fitted 2 = .ok (.iconst 0, 1) := dk_3 (dk_at dksX0_fitted_0 2 rfl rfl)
theorem dX0_fitted_3 : decode cX0_fitted 3 = .ok (.istore_n 3, 1) := dk_62 (dk_at dksX0_fitted_0 3 rfl rfl)
theorem dX0_fitted_4 : decode cX0_fitted 4 = .ok (.iload_n 3, 1) := dk_29 (dk_at dksX0_fitted_0 4 rfl rfl)
theorem dX0_fitted_5 : decode cX0_fitted 5 = .ok (.aload_n 0, 1) := dk_42 (dk_at dksX0_fitted_0 5 rfl rfl)
theorem dX0_fitted_6 : decode cX0_fitted 6 = .ok (.getfield 182, 3) := dk_180 0 182 (dk_at dksX0_fitted_0 6 rfl rfl)
theorem dX0_fitted_9 : decode cX0_fitted 9 = .ok (.if_icmp .ge 26, 3) := dk_162 0 26 (dk_at dksX0_fitted_0 9 rfl rfl)
theorem dX0_fitted_12 : decode cX0_fitted 12 = .ok (.iload_n 2, 1) := dk_28 (dk_at dksX0_fitted_0 12 rfl rfl)
theorem dX0_fitted_13 : decode cX0_fitted 13 = .ok (.aload_n 0, 1) := dk_42 (dk_at dksX0_fitted_0 13 rfl rfl)
theorem dX0_fitted_14 : decode cX0_fitted 14 = .ok (.iload_n 1, 1) := dk_27 (dk_at dksX0_fitted_0 14 rfl rfl)
theorem dX0_fitted_15 : decode cX0_fitted 15 = .ok (.iload_n 3, 1) := dk_29 (dk_at dksX0_fitted_0 15 rfl rfl)
theorem dX0_fitted_16 : decode cX0_fitted 16 = .ok (.invokevirtual 198, 3) := dk_182 0 198 (dk_at dksX0_fitted_0 16 rfl rfl)
theorem dX0_fitted_19 : decode cX0_fitted 19 = .ok (.ifCond .eq 7, 3) := dk_153 0 7 (dk_at dksX0_fitted_0 19 rfl rfl)
theorem dX0_fitted_22 : decode cX0_fitted 22 = .ok (.iconst 1, 1) := dk_4 (dk_at dksX0_fitted_0 22 rfl rfl)
theorem dX0_fitted_23 : decode cX0_fitted 23 = .ok (.goto 4, 3) := dk_167 0 4 (dk_at dksX0_fitted_1 0 rfl rfl)
theorem dX0_fitted_26 : decode cX0_fitted 26 = .ok (.iconst 0, 1) := dk_3 (dk_at dksX0_fitted_1 3 rfl rfl)
theorem dX0_fitted_27 : decode cX0_fitted 27 = .ok (.iadd, 1) := dk_96 (dk_at dksX0_fitted_1 4 rfl rfl)
theorem dX0_fitted_28 : decode cX0_fitted 28 = .ok (.istore_n 2, 1) := dk_61 (dk_at dksX0_fitted_1 5 rfl rfl)
theorem dX0_fitted_29 : decode cX0_fitted 29 = .ok (.iinc 3 1, 3) := dk_132 3 1 (dk_at dksX0_fitted_1 6 rfl rfl)
theorem dX0_fitted_32 : decode cX0_fitted 32 = .ok (.goto (-28), 3) := dk_167 255 228 (dk_at dksX0_fitted_1 9 rfl rfl)
theorem dX0_fitted_35 : decode cX0_fitted 35 = .ok (.iload_n 2, 1) := dk_28 (dk_at dksX0_fitted_1 12 rfl rfl)
theorem dX0_fitted_36 : decode cX0_fitted 36 = .ok (.ireturn, 1) := dk_172 (dk_at dksX0_fitted_1 13 rfl rfl)
abbrev cX0_doesFit : ByteArray := prog_1_method_30_code
def yX0_doesFit : MethodName := ⟨RX0, "doesFit", "(II)Z"⟩
def dkwX0_doesFit_1 : List UInt8 := [184, 0, 194, 172]
abbrev dktX0_doesFit_1 : List UInt8 := dkwX0_doesFit_1 ++ []
def dkwX0_doesFit_0 : List UInt8 := [42, 180, 0, 40, 27, 50, 42, 28, 3, 182, 0, 191, 42, 28, 4, 182, 0, 191, 42, 28, 5, 182, 0, 191]
abbrev dktX0_doesFit_0 : List UInt8 := dkwX0_doesFit_0 ++ dktX0_doesFit_1
theorem dksX0_doesFit_0 : cX0_doesFit.data.toList.drop 0 = dktX0_doesFit_0 := by decide +kernel
theorem dksX0_doesFit_1 : cX0_doesFit.data.toList.drop 24 = dktX0_doesFit_1 := dk_seg dksX0_doesFit_0 24 rfl rfl
theorem dX0_doesFit_0 : decode cX0_doesFit 0 = .ok (.aload_n 0, 1) := dk_42 (dk_at dksX0_doesFit_0 0 rfl rfl)
theorem dX0_doesFit_1 : decode cX0_doesFit 1 = .ok (.getfield 40, 3) := dk_180 0 40 (dk_at dksX0_doesFit_0 1 rfl rfl)
theorem dX0_doesFit_4 : decode cX0_doesFit 4 = .ok (.iload_n 1, 1) := dk_27 (dk_at dksX0_doesFit_0 4 rfl rfl)
theorem dX0_doesFit_5 : decode cX0_doesFit 5 = .ok (.aaload, 1) := dk_50 (dk_at dksX0_doesFit_0 5 rfl rfl)
theorem dX0_doesFit_6 : decode cX0_doesFit 6 = .ok (.aload_n 0, 1) := dk_42 (dk_at dksX0_doesFit_0 6 rfl rfl)
theorem dX0_doesFit_7 : decode cX0_doesFit 7 = .ok (.iload_n 2, 1) := dk_28 (dk_at dksX0_doesFit_0 7 rfl rfl)
theorem dX0_doesFit_8 : decode cX0_doesFit 8 = .ok (.iconst 0, 1) := dk_3 (dk_at dksX0_doesFit_0 8 rfl rfl)
theorem dX0_doesFit_9 : decode cX0_doesFit 9 = .ok (.invokevirtual 191, 3) := dk_182 0 191 (dk_at dksX0_doesFit_0 9 rfl rfl)
theorem dX0_doesFit_12 : decode cX0_doesFit 12 = .ok (.aload_n 0, 1) := dk_42 (dk_at dksX0_doesFit_0 12 rfl rfl)
theorem dX0_doesFit_13 : decode cX0_doesFit 13 = .ok (.iload_n 2, 1) := dk_28 (dk_at dksX0_doesFit_0 13 rfl rfl)
theorem dX0_doesFit_14 : decode cX0_doesFit 14 = .ok (.iconst 1, 1) := dk_4 (dk_at dksX0_doesFit_0 14 rfl rfl)
theorem dX0_doesFit_15 : decode cX0_doesFit 15 = .ok (.invokevirtual 191, 3) := dk_182 0 191 (dk_at dksX0_doesFit_0 15 rfl rfl)
theorem dX0_doesFit_18 : decode cX0_doesFit 18 = .ok (.aload_n 0, 1) := dk_42 (dk_at dksX0_doesFit_0 18 rfl rfl)
theorem dX0_doesFit_19 : decode cX0_doesFit 19 = .ok (.iload_n 2, 1) := dk_28 (dk_at dksX0_doesFit_0 19 rfl rfl)
theorem dX0_doesFit_20 : decode cX0_doesFit 20 = .ok (.iconst 2, 1) := dk_5 (dk_at dksX0_doesFit_0 20 rfl rfl)
theorem dX0_doesFit_21 : decode cX0_doesFit 21 = .ok (.invokevirtual 191, 3) := dk_182 0 191 (dk_at dksX0_doesFit_0 21 rfl rfl)
theorem dX0_doesFit_24 : decode cX0_doesFit 24 = .ok (.invokestatic 194, 3) := dk_184 0 194 (dk_at dksX0_doesFit_1 0 rfl rfl)
theorem dX0_doesFit_27 : decode cX0_doesFit 27 = .ok (.ireturn, 1) := dk_172 (dk_at dksX0_doesFit_1 3 rfl rfl)
abbrev cX0_isFor : ByteArray := prog_1_method_29_code
def yX0_isFor : MethodName := ⟨RX0, "isFor", "(LLostQuestions$Card;III)Z"⟩
def dkwX0_isFor_1 : List UInt8 := [3, 172]
abbrev dktX0_isFor_1 : List UInt8 := dkwX0_isFor_1 ++ []
def dkwX0_isFor_0 : List UInt8 := [42, 27, 182, 0, 185, 153, 0, 19, 42, 182, 0, 188, 28, 29, 184, 0, 86, 153, 0, 7, 4, 167, 0, 4]
abbrev dktX0_isFor_0 : List UInt8 := dkwX0_isFor_0 ++ dktX0_isFor_1
theorem dksX0_isFor_0 : cX0_isFor.data.toList.drop 0 = dktX0_isFor_0 := by decide +kernel
theorem dksX0_isFor_1 : cX0_isFor.data.toList.drop 24 = dktX0_isFor_1 := dk_seg dksX0_isFor_0 24 rfl rfl
theorem dX0_isFor_0 : decode cX0_isFor 0 = .ok (.aload_n 0, 1) := dk_42 (dk_at dksX0_isFor_0 0 rfl rfl)
theorem dX0_isFor_1 : decode cX0_isFor 1 = .ok (.iload_n 1, 1) := dk_27 (dk_at dksX0_isFor_0 1 rfl rfl)
theorem dX0_isFor_2 : decode cX0_isFor 2 = .ok (.invokevirtual 185, 3) := dk_182 0 185 (dk_at dksX0_isFor_0 2 rfl rfl)
theorem dX0_isFor_5 : decode cX0_isFor 5 = .ok (.ifCond .eq 19, 3) := dk_153 0 19 (dk_at dksX0_isFor_0 5 rfl rfl)
theorem dX0_isFor_8 : decode cX0_isFor 8 = .ok (.aload_n 0, 1) := dk_42 (dk_at dksX0_isFor_0 8 rfl rfl)
theorem dX0_isFor_9 : decode cX0_isFor 9 = .ok (.invokevirtual 188, 3) := dk_182 0 188 (dk_at dksX0_isFor_0 9 rfl rfl)
theorem dX0_isFor_12 : decode cX0_isFor 12 = .ok (.iload_n 2, 1) := dk_28 (dk_at dksX0_isFor_0 12 rfl rfl)
theorem dX0_isFor_13 : decode cX0_isFor 13 = .ok (.iload_n 3, 1) := dk_29 (dk_at dksX0_isFor_0 13 rfl rfl)
theorem dX0_isFor_14 : decode cX0_isFor 14 = .ok (.invokestatic 86, 3) := dk_184 0 86 (dk_at dksX0_isFor_0 14 rfl rfl)
theorem dX0_isFor_17 : decode cX0_isFor 17 = .ok (.ifCond .eq 7, 3) := dk_153 0 7 (dk_at dksX0_isFor_0 17 rfl rfl)
theorem dX0_isFor_20 : decode cX0_isFor 20 = .ok (.iconst 1, 1) := dk_4 (dk_at dksX0_isFor_0 20 rfl rfl)
theorem dX0_isFor_21 : decode cX0_isFor 21 = .ok (.goto 4, 3) := dk_167 0 4 (dk_at dksX0_isFor_0 21 rfl rfl)
theorem dX0_isFor_24 : decode cX0_isFor 24 = .ok (.iconst 0, 1) := dk_3 (dk_at dksX0_isFor_1 0 rfl rfl)
theorem dX0_isFor_25 : decode cX0_isFor 25 = .ok (.ireturn, 1) := dk_172 (dk_at dksX0_isFor_1 1 rfl rfl)
abbrev cX0_saying : ByteArray := prog_1_method_34_code
def yX0_saying : MethodName := ⟨RX0, "saying", "(II)I"⟩
def dkwX0_saying_2 : List UInt8 := [3, 96, 62, 132, 4, 1, 167, 255, 208, 29, 172]
abbrev dktX0_saying_2 : List UInt8 := dkwX0_saying_2 ++ []
def dkwX0_saying_1 : List UInt8 := [182, 0, 185, 153, 0, 21, 42, 180, 0, 40, 21, 4, 50, 182, 0, 202, 28, 160, 0, 7, 4, 167, 0, 4]
abbrev dktX0_saying_1 : List UInt8 := dkwX0_saying_1 ++ dktX0_saying_2
def dkwX0_saying_0 : List UInt8 := [3, 62, 3, 54, 4, 21, 4, 42, 180, 0, 175, 162, 0, 45, 29, 42, 180, 0, 40, 21, 4, 50, 27]
abbrev dktX0_saying_0 : List UInt8 := dkwX0_saying_0 ++ dktX0_saying_1
theorem dksX0_saying_0 : cX0_saying.data.toList.drop 0 = dktX0_saying_0 := by decide +kernel
theorem dksX0_saying_1 : cX0_saying.data.toList.drop 23 = dktX0_saying_1 := dk_seg dksX0_saying_0 23 rfl rfl
theorem dksX0_saying_2 : cX0_saying.data.toList.drop 47 = dktX0_saying_2 := dk_seg dksX0_saying_1 24 rfl rfl
theorem dX0_saying_0 : decode cX0_saying 0 = .ok (.iconst 0, 1) := dk_3 (dk_at dksX0_saying_0 0 rfl rfl)
theorem dX0_saying_1 : decode cX0_saying 1 = .ok (.istore_n 3, 1) := dk_62 (dk_at dksX0_saying_0 1 rfl rfl)
theorem dX0_saying_2 : decode cX0_saying 2 = .ok (.iconst 0, 1) := dk_3 (dk_at dksX0_saying_0 2 rfl rfl)
theorem dX0_saying_3 : decode cX0_saying 3 = .ok (.istore 4, 2) := dk_54 4 (dk_at dksX0_saying_0 3 rfl rfl)
theorem dX0_saying_5 : decode cX0_saying 5 = .ok (.iload 4, 2) := dk_21 4 (dk_at dksX0_saying_0 5 rfl rfl)
theorem dX0_saying_7 : decode cX0_saying 7 = .ok (.aload_n 0, 1) := dk_42 (dk_at dksX0_saying_0 7 rfl rfl)
theorem dX0_saying_8 : decode cX0_saying 8 = .ok (.getfield 175, 3) := dk_180 0 175 (dk_at dksX0_saying_0 8 rfl rfl)
theorem dX0_saying_11 : decode cX0_saying 11 = .ok (.if_icmp .ge 45, 3) := dk_162 0 45 (dk_at dksX0_saying_0 11 rfl rfl)
theorem dX0_saying_14 : decode cX0_saying 14 = .ok (.iload_n 3, 1) := dk_29 (dk_at dksX0_saying_0 14 rfl rfl)
theorem dX0_saying_15 : decode cX0_saying 15 = .ok (.aload_n 0, 1) := dk_42 (dk_at dksX0_saying_0 15 rfl rfl)
theorem dX0_saying_16 : decode cX0_saying 16 = .ok (.getfield 40, 3) := dk_180 0 40 (dk_at dksX0_saying_0 16 rfl rfl)
theorem dX0_saying_19 : decode cX0_saying 19 = .ok (.iload 4, 2) := dk_21 4 (dk_at dksX0_saying_0 19 rfl rfl)
theorem dX0_saying_21 : decode cX0_saying 21 = .ok (.aaload, 1) := dk_50 (dk_at dksX0_saying_0 21 rfl rfl)
theorem dX0_saying_22 : decode cX0_saying 22 = .ok (.iload_n 1, 1) := dk_27 (dk_at dksX0_saying_0 22 rfl rfl)
theorem dX0_saying_23 : decode cX0_saying 23 = .ok (.invokevirtual 185, 3) := dk_182 0 185 (dk_at dksX0_saying_1 0 rfl rfl)
theorem dX0_saying_26 : decode cX0_saying 26 = .ok (.ifCond .eq 21, 3) := dk_153 0 21 (dk_at dksX0_saying_1 3 rfl rfl)
theorem dX0_saying_29 : decode cX0_saying 29 = .ok (.aload_n 0, 1) := dk_42 (dk_at dksX0_saying_1 6 rfl rfl)
theorem dX0_saying_30 : decode cX0_saying 30 = .ok (.getfield 40, 3) := dk_180 0 40 (dk_at dksX0_saying_1 7 rfl rfl)
theorem dX0_saying_33 : decode cX0_saying 33 = .ok (.iload 4, 2) := dk_21 4 (dk_at dksX0_saying_1 10 rfl rfl)
theorem dX0_saying_35 : decode cX0_saying 35 = .ok (.aaload, 1) := dk_50 (dk_at dksX0_saying_1 12 rfl rfl)
theorem dX0_saying_36 : decode cX0_saying 36 = .ok (.invokevirtual 202, 3) := dk_182 0 202 (dk_at dksX0_saying_1 13 rfl rfl)
theorem dX0_saying_39 : decode cX0_saying 39 = .ok (.iload_n 2, 1) := dk_28 (dk_at dksX0_saying_1 16 rfl rfl)
theorem dX0_saying_40 : decode cX0_saying 40 = .ok (.if_icmp .ne 7, 3) := dk_160 0 7 (dk_at dksX0_saying_1 17 rfl rfl)
theorem dX0_saying_43 : decode cX0_saying 43 = .ok (.iconst 1, 1) := dk_4 (dk_at dksX0_saying_1 20 rfl rfl)
theorem dX0_saying_44 : decode cX0_saying 44 = .ok (.goto 4, 3) := dk_167 0 4 (dk_at dksX0_saying_1 21 rfl rfl)
theorem dX0_saying_47 : decode cX0_saying 47 = .ok (.iconst 0, 1) := dk_3 (dk_at dksX0_saying_2 0 rfl rfl)
theorem dX0_saying_48 : decode cX0_saying 48 = .ok (.iadd, 1) := dk_96 (dk_at dksX0_saying_2 1 rfl rfl)
theorem dX0_saying_49 : decode cX0_saying 49 = .ok (.istore_n 3, 1) := dk_62 (dk_at dksX0_saying_2 2 rfl rfl)
theorem dX0_saying_50 : decode cX0_saying 50 = .ok (.iinc 4 1, 3) := dk_132 4 1 (dk_at dksX0_saying_2 3 rfl rfl)
theorem dX0_saying_53 : decode cX0_saying 53 = .ok (.goto (-48), 3) := dk_167 255 208 (dk_at dksX0_saying_2 6 rfl rfl)
theorem dX0_saying_56 : decode cX0_saying 56 = .ok (.iload_n 3, 1) := dk_29 (dk_at dksX0_saying_2 9 rfl rfl)
theorem dX0_saying_57 : decode cX0_saying 57 = .ok (.ireturn, 1) := dk_172 (dk_at dksX0_saying_2 10 rfl rfl)
abbrev cX0_shelve : ByteArray := prog_1_method_42_code
def yX0_shelve : MethodName := ⟨RX0, "shelve", "(II)I"⟩
def dkwX0_shelve_1 : List UInt8 := [50, 180, 0, 205, 62, 42, 180, 0, 40, 27, 50, 28, 181, 0, 205, 29, 172]
abbrev dktX0_shelve_1 : List UInt8 := dkwX0_shelve_1 ++ []
def dkwX0_shelve_0 : List UInt8 := [42, 27, 182, 0, 217, 153, 0, 12, 28, 3, 6, 184, 0, 86, 154, 0, 5, 2, 172, 42, 180, 0, 40, 27]
abbrev dktX0_shelve_0 : List UInt8 := dkwX0_shelve_0 ++ dktX0_shelve_1
theorem dksX0_shelve_0 : cX0_shelve.data.toList.drop 0 = dktX0_shelve_0 := by decide +kernel
theorem dksX0_shelve_1 : cX0_shelve.data.toList.drop 24 = dktX0_shelve_1 := dk_seg dksX0_shelve_0 24 rfl rfl
theorem dX0_shelve_0 : decode cX0_shelve 0 = .ok (.aload_n 0, 1) := dk_42 (dk_at dksX0_shelve_0 0 rfl rfl)
theorem dX0_shelve_1 : decode cX0_shelve 1 = .ok (.iload_n 1, 1) := dk_27 (dk_at dksX0_shelve_0 1 rfl rfl)
theorem dX0_shelve_2 : decode cX0_shelve 2 = .ok (.invokevirtual 217, 3) := dk_182 0 217 (dk_at dksX0_shelve_0 2 rfl rfl)
theorem dX0_shelve_5 : decode cX0_shelve 5 = .ok (.ifCond .eq 12, 3) := dk_153 0 12 (dk_at dksX0_shelve_0 5 rfl rfl)
theorem dX0_shelve_8 : decode cX0_shelve 8 = .ok (.iload_n 2, 1) := dk_28 (dk_at dksX0_shelve_0 8 rfl rfl)
theorem dX0_shelve_9 : decode cX0_shelve 9 = .ok (.iconst 0, 1) := dk_3 (dk_at dksX0_shelve_0 9 rfl rfl)
theorem dX0_shelve_10 : decode cX0_shelve 10 = .ok (.iconst 3, 1) := dk_6 (dk_at dksX0_shelve_0 10 rfl rfl)
theorem dX0_shelve_11 : decode cX0_shelve 11 = .ok (.invokestatic 86, 3) := dk_184 0 86 (dk_at dksX0_shelve_0 11 rfl rfl)
theorem dX0_shelve_14 : decode cX0_shelve 14 = .ok (.ifCond .ne 5, 3) := dk_154 0 5 (dk_at dksX0_shelve_0 14 rfl rfl)
theorem dX0_shelve_17 : decode cX0_shelve 17 = .ok (.iconst (-1), 1) := dk_2 (dk_at dksX0_shelve_0 17 rfl rfl)
theorem dX0_shelve_18 : decode cX0_shelve 18 = .ok (.ireturn, 1) := dk_172 (dk_at dksX0_shelve_0 18 rfl rfl)
theorem dX0_shelve_19 : decode cX0_shelve 19 = .ok (.aload_n 0, 1) := dk_42 (dk_at dksX0_shelve_0 19 rfl rfl)
theorem dX0_shelve_20 : decode cX0_shelve 20 = .ok (.getfield 40, 3) := dk_180 0 40 (dk_at dksX0_shelve_0 20 rfl rfl)
theorem dX0_shelve_23 : decode cX0_shelve 23 = .ok (.iload_n 1, 1) := dk_27 (dk_at dksX0_shelve_0 23 rfl rfl)
theorem dX0_shelve_24 : decode cX0_shelve 24 = .ok (.aaload, 1) := dk_50 (dk_at dksX0_shelve_1 0 rfl rfl)
theorem dX0_shelve_25 : decode cX0_shelve 25 = .ok (.getfield 205, 3) := dk_180 0 205 (dk_at dksX0_shelve_1 1 rfl rfl)
theorem dX0_shelve_28 : decode cX0_shelve 28 = .ok (.istore_n 3, 1) := dk_62 (dk_at dksX0_shelve_1 4 rfl rfl)
theorem dX0_shelve_29 : decode cX0_shelve 29 = .ok (.aload_n 0, 1) := dk_42 (dk_at dksX0_shelve_1 5 rfl rfl)
theorem dX0_shelve_30 : decode cX0_shelve 30 = .ok (.getfield 40, 3) := dk_180 0 40 (dk_at dksX0_shelve_1 6 rfl rfl)
theorem dX0_shelve_33 : decode cX0_shelve 33 = .ok (.iload_n 1, 1) := dk_27 (dk_at dksX0_shelve_1 9 rfl rfl)
theorem dX0_shelve_34 : decode cX0_shelve 34 = .ok (.aaload, 1) := dk_50 (dk_at dksX0_shelve_1 10 rfl rfl)
theorem dX0_shelve_35 : decode cX0_shelve 35 = .ok (.iload_n 2, 1) := dk_28 (dk_at dksX0_shelve_1 11 rfl rfl)
theorem dX0_shelve_36 : decode cX0_shelve 36 = .ok (.putfield 205, 3) := dk_181 0 205 (dk_at dksX0_shelve_1 12 rfl rfl)
theorem dX0_shelve_39 : decode cX0_shelve 39 = .ok (.iload_n 3, 1) := dk_29 (dk_at dksX0_shelve_1 15 rfl rfl)
theorem dX0_shelve_40 : decode cX0_shelve 40 = .ok (.ireturn, 1) := dk_172 (dk_at dksX0_shelve_1 16 rfl rfl)
abbrev cX0_age : ByteArray := prog_1_method_43_code
def yX0_age : MethodName := ⟨RX0, "age", "(II)I"⟩
def dkwX0_age_1 : List UInt8 := [27, 50, 180, 0, 211, 62, 42, 180, 0, 40, 27, 50, 28, 181, 0, 211, 29, 172]
abbrev dktX0_age_1 : List UInt8 := dkwX0_age_1 ++ []
def dkwX0_age_0 : List UInt8 := [42, 27, 182, 0, 217, 153, 0, 13, 28, 3, 16, 9, 184, 0, 86, 154, 0, 5, 2, 172, 42, 180, 0, 40]
abbrev dktX0_age_0 : List UInt8 := dkwX0_age_0 ++ dktX0_age_1
theorem dksX0_age_0 : cX0_age.data.toList.drop 0 = dktX0_age_0 := by decide +kernel
theorem dksX0_age_1 : cX0_age.data.toList.drop 24 = dktX0_age_1 := dk_seg dksX0_age_0 24 rfl rfl
theorem dX0_age_0 : decode cX0_age 0 = .ok (.aload_n 0, 1) := dk_42 (dk_at dksX0_age_0 0 rfl rfl)
theorem dX0_age_1 : decode cX0_age 1 = .ok (.iload_n 1, 1) := dk_27 (dk_at dksX0_age_0 1 rfl rfl)
theorem dX0_age_2 : decode cX0_age 2 = .ok (.invokevirtual 217, 3) := dk_182 0 217 (dk_at dksX0_age_0 2 rfl rfl)
theorem dX0_age_5 : decode cX0_age 5 = .ok (.ifCond .eq 13, 3) := dk_153 0 13 (dk_at dksX0_age_0 5 rfl rfl)
theorem dX0_age_8 : decode cX0_age 8 = .ok (.iload_n 2, 1) := dk_28 (dk_at dksX0_age_0 8 rfl rfl)
theorem dX0_age_9 : decode cX0_age 9 = .ok (.iconst 0, 1) := dk_3 (dk_at dksX0_age_0 9 rfl rfl)
theorem dX0_age_10 : decode cX0_age 10 = .ok (.bipush 9, 2) := dk_16 9 (dk_at dksX0_age_0 10 rfl rfl)
theorem dX0_age_12 : decode cX0_age 12 = .ok (.invokestatic 86, 3) := dk_184 0 86 (dk_at dksX0_age_0 12 rfl rfl)
theorem dX0_age_15 : decode cX0_age 15 = .ok (.ifCond .ne 5, 3) := dk_154 0 5 (dk_at dksX0_age_0 15 rfl rfl)
theorem dX0_age_18 : decode cX0_age 18 = .ok (.iconst (-1), 1) := dk_2 (dk_at dksX0_age_0 18 rfl rfl)
theorem dX0_age_19 : decode cX0_age 19 = .ok (.ireturn, 1) := dk_172 (dk_at dksX0_age_0 19 rfl rfl)
theorem dX0_age_20 : decode cX0_age 20 = .ok (.aload_n 0, 1) := dk_42 (dk_at dksX0_age_0 20 rfl rfl)
theorem dX0_age_21 : decode cX0_age 21 = .ok (.getfield 40, 3) := dk_180 0 40 (dk_at dksX0_age_0 21 rfl rfl)
theorem dX0_age_24 : decode cX0_age 24 = .ok (.iload_n 1, 1) := dk_27 (dk_at dksX0_age_1 0 rfl rfl)
theorem dX0_age_25 : decode cX0_age 25 = .ok (.aaload, 1) := dk_50 (dk_at dksX0_age_1 1 rfl rfl)
theorem dX0_age_26 : decode cX0_age 26 = .ok (.getfield 211, 3) := dk_180 0 211 (dk_at dksX0_age_1 2 rfl rfl)
theorem dX0_age_29 : decode cX0_age 29 = .ok (.istore_n 3, 1) := dk_62 (dk_at dksX0_age_1 5 rfl rfl)
theorem dX0_age_30 : decode cX0_age 30 = .ok (.aload_n 0, 1) := dk_42 (dk_at dksX0_age_1 6 rfl rfl)
theorem dX0_age_31 : decode cX0_age 31 = .ok (.getfield 40, 3) := dk_180 0 40 (dk_at dksX0_age_1 7 rfl rfl)
theorem dX0_age_34 : decode cX0_age 34 = .ok (.iload_n 1, 1) := dk_27 (dk_at dksX0_age_1 10 rfl rfl)
theorem dX0_age_35 : decode cX0_age 35 = .ok (.aaload, 1) := dk_50 (dk_at dksX0_age_1 11 rfl rfl)
theorem dX0_age_36 : decode cX0_age 36 = .ok (.iload_n 2, 1) := dk_28 (dk_at dksX0_age_1 12 rfl rfl)
theorem dX0_age_37 : decode cX0_age 37 = .ok (.putfield 211, 3) := dk_181 0 211 (dk_at dksX0_age_1 13 rfl rfl)
theorem dX0_age_40 : decode cX0_age 40 = .ok (.iload_n 3, 1) := dk_29 (dk_at dksX0_age_1 16 rfl rfl)
theorem dX0_age_41 : decode cX0_age 41 = .ok (.ireturn, 1) := dk_172 (dk_at dksX0_age_1 17 rfl rfl)
abbrev cX0_truth : ByteArray := prog_1_method_44_code
def yX0_truth : MethodName := ⟨RX0, "truth", "(II)I"⟩
def dkwX0_truth_1 : List UInt8 := [2, 172, 42, 180, 0, 47, 27, 46, 62, 42, 180, 0, 47, 27, 28, 79, 29, 172]
abbrev dktX0_truth_1 : List UInt8 := dkwX0_truth_1 ++ []
def dkwX0_truth_0 : List UInt8 := [42, 27, 182, 0, 223, 153, 0, 19, 28, 16, 247, 159, 0, 15, 28, 3, 16, 9, 184, 0, 86, 154, 0, 5]
abbrev dktX0_truth_0 : List UInt8 := dkwX0_truth_0 ++ dktX0_truth_1
theorem dksX0_truth_0 : cX0_truth.data.toList.drop 0 = dktX0_truth_0 := by decide +kernel
theorem dksX0_truth_1 : cX0_truth.data.toList.drop 24 = dktX0_truth_1 := dk_seg dksX0_truth_0 24 rfl rfl
theorem dX0_truth_0 : decode cX0_truth 0 = .ok (.aload_n 0, 1) := dk_42 (dk_at dksX0_truth_0 0 rfl rfl)
theorem dX0_truth_1 : decode cX0_truth 1 = .ok (.iload_n 1, 1) := dk_27 (dk_at dksX0_truth_0 1 rfl rfl)
theorem dX0_truth_2 : decode cX0_truth 2 = .ok (.invokevirtual 223, 3) := dk_182 0 223 (dk_at dksX0_truth_0 2 rfl rfl)
theorem dX0_truth_5 : decode cX0_truth 5 = .ok (.ifCond .eq 19, 3) := dk_153 0 19 (dk_at dksX0_truth_0 5 rfl rfl)
theorem dX0_truth_8 : decode cX0_truth 8 = .ok (.iload_n 2, 1) := dk_28 (dk_at dksX0_truth_0 8 rfl rfl)
theorem dX0_truth_9 : decode cX0_truth 9 = .ok (.bipush (-9), 2) := dk_16 247 (dk_at dksX0_truth_0 9 rfl rfl)
theorem dX0_truth_11 : decode cX0_truth 11 = .ok (.if_icmp .eq 15, 3) := dk_159 0 15 (dk_at dksX0_truth_0 11 rfl rfl)
theorem dX0_truth_14 : decode cX0_truth 14 = .ok (.iload_n 2, 1) := dk_28 (dk_at dksX0_truth_0 14 rfl rfl)
theorem dX0_truth_15 : decode cX0_truth 15 = .ok (.iconst 0, 1) := dk_3 (dk_at dksX0_truth_0 15 rfl rfl)
theorem dX0_truth_16 : decode cX0_truth 16 = .ok (.bipush 9, 2) := dk_16 9 (dk_at dksX0_truth_0 16 rfl rfl)
theorem dX0_truth_18 : decode cX0_truth 18 = .ok (.invokestatic 86, 3) := dk_184 0 86 (dk_at dksX0_truth_0 18 rfl rfl)
theorem dX0_truth_21 : decode cX0_truth 21 = .ok (.ifCond .ne 5, 3) := dk_154 0 5 (dk_at dksX0_truth_0 21 rfl rfl)
theorem dX0_truth_24 : decode cX0_truth 24 = .ok (.iconst (-1), 1) := dk_2 (dk_at dksX0_truth_1 0 rfl rfl)
theorem dX0_truth_25 : decode cX0_truth 25 = .ok (.ireturn, 1) := dk_172 (dk_at dksX0_truth_1 1 rfl rfl)
theorem dX0_truth_26 : decode cX0_truth 26 = .ok (.aload_n 0, 1) := dk_42 (dk_at dksX0_truth_1 2 rfl rfl)
theorem dX0_truth_27 : decode cX0_truth 27 = .ok (.getfield 47, 3) := dk_180 0 47 (dk_at dksX0_truth_1 3 rfl rfl)
theorem dX0_truth_30 : decode cX0_truth 30 = .ok (.iload_n 1, 1) := dk_27 (dk_at dksX0_truth_1 6 rfl rfl)
theorem dX0_truth_31 : decode cX0_truth 31 = .ok (.iaload, 1) := dk_46 (dk_at dksX0_truth_1 7 rfl rfl)
theorem dX0_truth_32 : decode cX0_truth 32 = .ok (.istore_n 3, 1) := dk_62 (dk_at dksX0_truth_1 8 rfl rfl)
theorem dX0_truth_33 : decode cX0_truth 33 = .ok (.aload_n 0, 1) := dk_42 (dk_at dksX0_truth_1 9 rfl rfl)
theorem dX0_truth_34 : decode cX0_truth 34 = .ok (.getfield 47, 3) := dk_180 0 47 (dk_at dksX0_truth_1 10 rfl rfl)
theorem dX0_truth_37 : decode cX0_truth 37 = .ok (.iload_n 1, 1) := dk_27 (dk_at dksX0_truth_1 13 rfl rfl)
theorem dX0_truth_38 : decode cX0_truth 38 = .ok (.iload_n 2, 1) := dk_28 (dk_at dksX0_truth_1 14 rfl rfl)
theorem dX0_truth_39 : decode cX0_truth 39 = .ok (.iastore, 1) := dk_79 (dk_at dksX0_truth_1 15 rfl rfl)
theorem dX0_truth_40 : decode cX0_truth 40 = .ok (.iload_n 3, 1) := dk_29 (dk_at dksX0_truth_1 16 rfl rfl)
theorem dX0_truth_41 : decode cX0_truth 41 = .ok (.ireturn, 1) := dk_172 (dk_at dksX0_truth_1 17 rfl rfl)
abbrev cX0_fits : ByteArray := prog_1_method_45_code
def yX0_fits : MethodName := ⟨RX0, "fits", "(I)I"⟩
def dkwX0_fits_0 : List UInt8 := [42, 27, 182, 0, 223, 153, 0, 11, 42, 27, 182, 0, 246, 167, 0, 4, 2, 172]
abbrev dktX0_fits_0 : List UInt8 := dkwX0_fits_0 ++ []
theorem dksX0_fits_0 : cX0_fits.data.toList.drop 0 = dktX0_fits_0 := by decide +kernel
theorem dX0_fits_0 : decode cX0_fits 0 = .ok (.aload_n 0, 1) := dk_42 (dk_at dksX0_fits_0 0 rfl rfl)
theorem dX0_fits_1 : decode cX0_fits 1 = .ok (.iload_n 1, 1) := dk_27 (dk_at dksX0_fits_0 1 rfl rfl)
theorem dX0_fits_2 : decode cX0_fits 2 = .ok (.invokevirtual 223, 3) := dk_182 0 223 (dk_at dksX0_fits_0 2 rfl rfl)
theorem dX0_fits_5 : decode cX0_fits 5 = .ok (.ifCond .eq 11, 3) := dk_153 0 11 (dk_at dksX0_fits_0 5 rfl rfl)
theorem dX0_fits_8 : decode cX0_fits 8 = .ok (.aload_n 0, 1) := dk_42 (dk_at dksX0_fits_0 8 rfl rfl)
theorem dX0_fits_9 : decode cX0_fits 9 = .ok (.iload_n 1, 1) := dk_27 (dk_at dksX0_fits_0 9 rfl rfl)
theorem dX0_fits_10 : decode cX0_fits 10 = .ok (.invokevirtual 246, 3) := dk_182 0 246 (dk_at dksX0_fits_0 10 rfl rfl)
theorem dX0_fits_13 : decode cX0_fits 13 = .ok (.goto 4, 3) := dk_167 0 4 (dk_at dksX0_fits_0 13 rfl rfl)
theorem dX0_fits_16 : decode cX0_fits 16 = .ok (.iconst (-1), 1) := dk_2 (dk_at dksX0_fits_0 16 rfl rfl)
theorem dX0_fits_17 : decode cX0_fits 17 = .ok (.ireturn, 1) := dk_172 (dk_at dksX0_fits_0 17 rfl rfl)
abbrev cX0_fitSet : ByteArray := prog_1_method_31_code
def yX0_fitSet : MethodName := ⟨RX0, "fitSet", "(I)I"⟩
def dkwX0_fitSet_1 : List UInt8 := [120, 167, 0, 4, 3, 128, 61, 132, 3, 1, 167, 255, 226, 28, 172]
abbrev dktX0_fitSet_1 : List UInt8 := dkwX0_fitSet_1 ++ []
def dkwX0_fitSet_0 : List UInt8 := [3, 61, 3, 62, 29, 42, 180, 0, 175, 162, 0, 28, 28, 42, 29, 27, 182, 0, 198, 153, 0, 9, 4, 29]
abbrev dktX0_fitSet_0 : List UInt8 := dkwX0_fitSet_0 ++ dktX0_fitSet_1
theorem dksX0_fitSet_0 : cX0_fitSet.data.toList.drop 0 = dktX0_fitSet_0 := by decide +kernel
theorem dksX0_fitSet_1 : cX0_fitSet.data.toList.drop 24 = dktX0_fitSet_1 := dk_seg dksX0_fitSet_0 24 rfl rfl
theorem dX0_fitSet_0 : decode cX0_fitSet 0 = .ok (.iconst 0, 1) := dk_3 (dk_at dksX0_fitSet_0 0 rfl rfl)
theorem dX0_fitSet_1 : decode cX0_fitSet 1 = .ok (.istore_n 2, 1) := dk_61 (dk_at dksX0_fitSet_0 1 rfl rfl)
theorem dX0_fitSet_2 : decode cX0_fitSet 2 = .ok (.iconst 0, 1) := dk_3 (dk_at dksX0_fitSet_0 2 rfl rfl)
theorem dX0_fitSet_3 : decode cX0_fitSet 3 = .ok (.istore_n 3, 1) := dk_62 (dk_at dksX0_fitSet_0 3 rfl rfl)
theorem dX0_fitSet_4 : decode cX0_fitSet 4 = .ok (.iload_n 3, 1) := dk_29 (dk_at dksX0_fitSet_0 4 rfl rfl)
theorem dX0_fitSet_5 : decode cX0_fitSet 5 = .ok (.aload_n 0, 1) := dk_42 (dk_at dksX0_fitSet_0 5 rfl rfl)
theorem dX0_fitSet_6 : decode cX0_fitSet 6 = .ok (.getfield 175, 3) := dk_180 0 175 (dk_at dksX0_fitSet_0 6 rfl rfl)
theorem dX0_fitSet_9 : decode cX0_fitSet 9 = .ok (.if_icmp .ge 28, 3) := dk_162 0 28 (dk_at dksX0_fitSet_0 9 rfl rfl)
theorem dX0_fitSet_12 : decode cX0_fitSet 12 = .ok (.iload_n 2, 1) := dk_28 (dk_at dksX0_fitSet_0 12 rfl rfl)
theorem dX0_fitSet_13 : decode cX0_fitSet 13 = .ok (.aload_n 0, 1) := dk_42 (dk_at dksX0_fitSet_0 13 rfl rfl)
theorem dX0_fitSet_14 : decode cX0_fitSet 14 = .ok (.iload_n 3, 1) := dk_29 (dk_at dksX0_fitSet_0 14 rfl rfl)
theorem dX0_fitSet_15 : decode cX0_fitSet 15 = .ok (.iload_n 1, 1) := dk_27 (dk_at dksX0_fitSet_0 15 rfl rfl)
theorem dX0_fitSet_16 : decode cX0_fitSet 16 = .ok (.invokevirtual 198, 3) := dk_182 0 198 (dk_at dksX0_fitSet_0 16 rfl rfl)
theorem dX0_fitSet_19 : decode cX0_fitSet 19 = .ok (.ifCond .eq 9, 3) := dk_153 0 9 (dk_at dksX0_fitSet_0 19 rfl rfl)
theorem dX0_fitSet_22 : decode cX0_fitSet 22 = .ok (.iconst 1, 1) := dk_4 (dk_at dksX0_fitSet_0 22 rfl rfl)
theorem dX0_fitSet_23 : decode cX0_fitSet 23 = .ok (.iload_n 3, 1) := dk_29 (dk_at dksX0_fitSet_0 23 rfl rfl)
theorem dX0_fitSet_24 : decode cX0_fitSet 24 = .ok (.ishl, 1) := dk_120 (dk_at dksX0_fitSet_1 0 rfl rfl)
theorem dX0_fitSet_25 : decode cX0_fitSet 25 = .ok (.goto 4, 3) := dk_167 0 4 (dk_at dksX0_fitSet_1 1 rfl rfl)
theorem dX0_fitSet_28 : decode cX0_fitSet 28 = .ok (.iconst 0, 1) := dk_3 (dk_at dksX0_fitSet_1 4 rfl rfl)
theorem dX0_fitSet_29 : decode cX0_fitSet 29 = .ok (.ior, 1) := dk_128 (dk_at dksX0_fitSet_1 5 rfl rfl)
theorem dX0_fitSet_30 : decode cX0_fitSet 30 = .ok (.istore_n 2, 1) := dk_61 (dk_at dksX0_fitSet_1 6 rfl rfl)
theorem dX0_fitSet_31 : decode cX0_fitSet 31 = .ok (.iinc 3 1, 3) := dk_132 3 1 (dk_at dksX0_fitSet_1 7 rfl rfl)
theorem dX0_fitSet_34 : decode cX0_fitSet 34 = .ok (.goto (-30), 3) := dk_167 255 226 (dk_at dksX0_fitSet_1 10 rfl rfl)
theorem dX0_fitSet_37 : decode cX0_fitSet 37 = .ok (.iload_n 2, 1) := dk_28 (dk_at dksX0_fitSet_1 13 rfl rfl)
theorem dX0_fitSet_38 : decode cX0_fitSet 38 = .ok (.ireturn, 1) := dk_172 (dk_at dksX0_fitSet_1 14 rfl rfl)
abbrev cX0_take : ByteArray := prog_1_method_49_code
def yX0_take : MethodName := ⟨RX0, "take", "(II)I"⟩
def dkwX0_take_2 : List UInt8 := [182, 0, 255, 172]
abbrev dktX0_take_2 : List UInt8 := dkwX0_take_2 ++ []
def dkwX0_take_1 : List UInt8 := [154, 0, 6, 16, 252, 172, 42, 180, 0, 83, 16, 40, 160, 0, 8, 16, 254, 167, 0, 9, 42, 27, 28]
abbrev dktX0_take_1 : List UInt8 := dkwX0_take_1 ++ dktX0_take_2
def dkwX0_take_0 : List UInt8 := [42, 27, 182, 0, 223, 153, 0, 11, 42, 28, 182, 0, 217, 154, 0, 5, 2, 172, 42, 27, 28, 182, 0, 252]
abbrev dktX0_take_0 : List UInt8 := dkwX0_take_0 ++ dktX0_take_1
theorem dksX0_take_0 : cX0_take.data.toList.drop 0 = dktX0_take_0 := by decide +kernel
theorem dksX0_take_1 : cX0_take.data.toList.drop 24 = dktX0_take_1 := dk_seg dksX0_take_0 24 rfl rfl
theorem dksX0_take_2 : cX0_take.data.toList.drop 47 = dktX0_take_2 := dk_seg dksX0_take_1 23 rfl rfl
theorem dX0_take_0 : decode cX0_take 0 = .ok (.aload_n 0, 1) := dk_42 (dk_at dksX0_take_0 0 rfl rfl)
theorem dX0_take_1 : decode cX0_take 1 = .ok (.iload_n 1, 1) := dk_27 (dk_at dksX0_take_0 1 rfl rfl)
theorem dX0_take_2 : decode cX0_take 2 = .ok (.invokevirtual 223, 3) := dk_182 0 223 (dk_at dksX0_take_0 2 rfl rfl)
theorem dX0_take_5 : decode cX0_take 5 = .ok (.ifCond .eq 11, 3) := dk_153 0 11 (dk_at dksX0_take_0 5 rfl rfl)
theorem dX0_take_8 : decode cX0_take 8 = .ok (.aload_n 0, 1) := dk_42 (dk_at dksX0_take_0 8 rfl rfl)
theorem dX0_take_9 : decode cX0_take 9 = .ok (.iload_n 2, 1) := dk_28 (dk_at dksX0_take_0 9 rfl rfl)
theorem dX0_take_10 : decode cX0_take 10 = .ok (.invokevirtual 217, 3) := dk_182 0 217 (dk_at dksX0_take_0 10 rfl rfl)
theorem dX0_take_13 : decode cX0_take 13 = .ok (.ifCond .ne 5, 3) := dk_154 0 5 (dk_at dksX0_take_0 13 rfl rfl)
theorem dX0_take_16 : decode cX0_take 16 = .ok (.iconst (-1), 1) := dk_2 (dk_at dksX0_take_0 16 rfl rfl)
theorem dX0_take_17 : decode cX0_take 17 = .ok (.ireturn, 1) := dk_172 (dk_at dksX0_take_0 17 rfl rfl)
theorem dX0_take_18 : decode cX0_take 18 = .ok (.aload_n 0, 1) := dk_42 (dk_at dksX0_take_0 18 rfl rfl)
theorem dX0_take_19 : decode cX0_take 19 = .ok (.iload_n 1, 1) := dk_27 (dk_at dksX0_take_0 19 rfl rfl)
theorem dX0_take_20 : decode cX0_take 20 = .ok (.iload_n 2, 1) := dk_28 (dk_at dksX0_take_0 20 rfl rfl)
theorem dX0_take_21 : decode cX0_take 21 = .ok (.invokevirtual 252, 3) := dk_182 0 252 (dk_at dksX0_take_0 21 rfl rfl)
theorem dX0_take_24 : decode cX0_take 24 = .ok (.ifCond .ne 6, 3) := dk_154 0 6 (dk_at dksX0_take_1 0 rfl rfl)
theorem dX0_take_27 : decode cX0_take 27 = .ok (.bipush (-4), 2) := dk_16 252 (dk_at dksX0_take_1 3 rfl rfl)
theorem dX0_take_29 : decode cX0_take 29 = .ok (.ireturn, 1) := dk_172 (dk_at dksX0_take_1 5 rfl rfl)
theorem dX0_take_30 : decode cX0_take 30 = .ok (.aload_n 0, 1) := dk_42 (dk_at dksX0_take_1 6 rfl rfl)
theorem dX0_take_31 : decode cX0_take 31 = .ok (.getfield 83, 3) := dk_180 0 83 (dk_at dksX0_take_1 7 rfl rfl)
theorem dX0_take_34 : decode cX0_take 34 = .ok (.bipush 40, 2) := dk_16 40 (dk_at dksX0_take_1 10 rfl rfl)
theorem dX0_take_36 : decode cX0_take 36 = .ok (.if_icmp .ne 8, 3) := dk_160 0 8 (dk_at dksX0_take_1 12 rfl rfl)
theorem dX0_take_39 : decode cX0_take 39 = .ok (.bipush (-2), 2) := dk_16 254 (dk_at dksX0_take_1 15 rfl rfl)
theorem dX0_take_41 : decode cX0_take 41 = .ok (.goto 9, 3) := dk_167 0 9 (dk_at dksX0_take_1 17 rfl rfl)
theorem dX0_take_44 : decode cX0_take 44 = .ok (.aload_n 0, 1) := dk_42 (dk_at dksX0_take_1 20 rfl rfl)
theorem dX0_take_45 : decode cX0_take 45 = .ok (.iload_n 1, 1) := dk_27 (dk_at dksX0_take_1 21 rfl rfl)
theorem dX0_take_46 : decode cX0_take 46 = .ok (.iload_n 2, 1) := dk_28 (dk_at dksX0_take_1 22 rfl rfl)
theorem dX0_take_47 : decode cX0_take 47 = .ok (.invokevirtual 255, 3) := dk_182 0 255 (dk_at dksX0_take_2 0 rfl rfl)
theorem dX0_take_50 : decode cX0_take 50 = .ok (.ireturn, 1) := dk_172 (dk_at dksX0_take_2 3 rfl rfl)
abbrev cX0_mayTake : ByteArray := prog_1_method_47_code
def yX0_mayTake : MethodName := ⟨RX0, "mayTake", "(II)Z"⟩
def dkwX0_mayTake_1 : List UInt8 := [182, 0, 214, 16, 247, 160, 0, 7, 4, 167, 0, 4, 3, 172]
abbrev dktX0_mayTake_1 : List UInt8 := dkwX0_mayTake_1 ++ []
def dkwX0_mayTake_0 : List UInt8 := [42, 28, 27, 182, 0, 198, 153, 0, 28, 42, 180, 0, 50, 27, 46, 16, 247, 160, 0, 17, 42, 28]
abbrev dktX0_mayTake_0 : List UInt8 := dkwX0_mayTake_0 ++ dktX0_mayTake_1
theorem dksX0_mayTake_0 : cX0_mayTake.data.toList.drop 0 = dktX0_mayTake_0 := by decide +kernel
theorem dksX0_mayTake_1 : cX0_mayTake.data.toList.drop 22 = dktX0_mayTake_1 := dk_seg dksX0_mayTake_0 22 rfl rfl
theorem dX0_mayTake_0 : decode cX0_mayTake 0 = .ok (.aload_n 0, 1) := dk_42 (dk_at dksX0_mayTake_0 0 rfl rfl)
theorem dX0_mayTake_1 : decode cX0_mayTake 1 = .ok (.iload_n 2, 1) := dk_28 (dk_at dksX0_mayTake_0 1 rfl rfl)
theorem dX0_mayTake_2 : decode cX0_mayTake 2 = .ok (.iload_n 1, 1) := dk_27 (dk_at dksX0_mayTake_0 2 rfl rfl)
theorem dX0_mayTake_3 : decode cX0_mayTake 3 = .ok (.invokevirtual 198, 3) := dk_182 0 198 (dk_at dksX0_mayTake_0 3 rfl rfl)
theorem dX0_mayTake_6 : decode cX0_mayTake 6 = .ok (.ifCond .eq 28, 3) := dk_153 0 28 (dk_at dksX0_mayTake_0 6 rfl rfl)
theorem dX0_mayTake_9 : decode cX0_mayTake 9 = .ok (.aload_n 0, 1) := dk_42 (dk_at dksX0_mayTake_0 9 rfl rfl)
theorem dX0_mayTake_10 : decode cX0_mayTake 10 = .ok (.getfield 50, 3) := dk_180 0 50 (dk_at dksX0_mayTake_0 10 rfl rfl)
theorem dX0_mayTake_13 : decode cX0_mayTake 13 = .ok (.iload_n 1, 1) := dk_27 (dk_at dksX0_mayTake_0 13 rfl rfl)
theorem dX0_mayTake_14 : decode cX0_mayTake 14 = .ok (.iaload, 1) := dk_46 (dk_at dksX0_mayTake_0 14 rfl rfl)
theorem dX0_mayTake_15 : decode cX0_mayTake 15 = .ok (.bipush (-9), 2) := dk_16 247 (dk_at dksX0_mayTake_0 15 rfl rfl)
theorem dX0_mayTake_17 : decode cX0_mayTake 17 = .ok (.if_icmp .ne 17, 3) := dk_160 0 17 (dk_at dksX0_mayTake_0 17 rfl rfl)
theorem dX0_mayTake_20 : decode cX0_mayTake 20 = .ok (.aload_n 0, 1) := dk_42 (dk_at dksX0_mayTake_0 20 rfl rfl)
theorem dX0_mayTake_21 : decode cX0_mayTake 21 = .ok (.iload_n 2, 1) := dk_28 (dk_at dksX0_mayTake_0 21 rfl rfl)
theorem dX0_mayTake_22 : decode cX0_mayTake 22 = .ok (.invokevirtual 214, 3) := dk_182 0 214 (dk_at dksX0_mayTake_1 0 rfl rfl)
theorem dX0_mayTake_25 : decode cX0_mayTake 25 = .ok (.bipush (-9), 2) := dk_16 247 (dk_at dksX0_mayTake_1 3 rfl rfl)
theorem dX0_mayTake_27 : decode cX0_mayTake 27 = .ok (.if_icmp .ne 7, 3) := dk_160 0 7 (dk_at dksX0_mayTake_1 5 rfl rfl)
theorem dX0_mayTake_30 : decode cX0_mayTake 30 = .ok (.iconst 1, 1) := dk_4 (dk_at dksX0_mayTake_1 8 rfl rfl)
theorem dX0_mayTake_31 : decode cX0_mayTake 31 = .ok (.goto 4, 3) := dk_167 0 4 (dk_at dksX0_mayTake_1 9 rfl rfl)
theorem dX0_mayTake_34 : decode cX0_mayTake 34 = .ok (.iconst 0, 1) := dk_3 (dk_at dksX0_mayTake_1 12 rfl rfl)
theorem dX0_mayTake_35 : decode cX0_mayTake 35 = .ok (.ireturn, 1) := dk_172 (dk_at dksX0_mayTake_1 13 rfl rfl)
abbrev cX0_takeTruly : ByteArray := prog_1_method_48_code
def yX0_takeTruly : MethodName := ⟨RX0, "takeTruly", "(II)I"⟩
def dkwX0_takeTruly_2 : List UInt8 := [42, 180, 0, 50, 27, 28, 79, 42, 27, 182, 0, 249, 172]
abbrev dktX0_takeTruly_2 : List UInt8 := dkwX0_takeTruly_2 ++ []
def dkwX0_takeTruly_1 : List UInt8 := [180, 0, 59, 42, 180, 0, 83, 16, 10, 27, 104, 28, 96, 79, 42, 89, 180, 0, 83, 4, 96, 181, 0, 83]
abbrev dktX0_takeTruly_1 : List UInt8 := dkwX0_takeTruly_1 ++ dktX0_takeTruly_2
def dkwX0_takeTruly_0 : List UInt8 := [42, 180, 0, 50, 3, 42, 180, 0, 62, 16, 7, 42, 180, 0, 83, 104, 16, 7, 184, 0, 111, 42]
abbrev dktX0_takeTruly_0 : List UInt8 := dkwX0_takeTruly_0 ++ dktX0_takeTruly_1
theorem dksX0_takeTruly_0 : cX0_takeTruly.data.toList.drop 0 = dktX0_takeTruly_0 := by decide +kernel
theorem dksX0_takeTruly_1 : cX0_takeTruly.data.toList.drop 22 = dktX0_takeTruly_1 := dk_seg dksX0_takeTruly_0 22 rfl rfl
theorem dksX0_takeTruly_2 : cX0_takeTruly.data.toList.drop 46 = dktX0_takeTruly_2 := dk_seg dksX0_takeTruly_1 24 rfl rfl
theorem dX0_takeTruly_0 : decode cX0_takeTruly 0 = .ok (.aload_n 0, 1) := dk_42 (dk_at dksX0_takeTruly_0 0 rfl rfl)
theorem dX0_takeTruly_1 : decode cX0_takeTruly 1 = .ok (.getfield 50, 3) := dk_180 0 50 (dk_at dksX0_takeTruly_0 1 rfl rfl)
theorem dX0_takeTruly_4 : decode cX0_takeTruly 4 = .ok (.iconst 0, 1) := dk_3 (dk_at dksX0_takeTruly_0 4 rfl rfl)
theorem dX0_takeTruly_5 : decode cX0_takeTruly 5 = .ok (.aload_n 0, 1) := dk_42 (dk_at dksX0_takeTruly_0 5 rfl rfl)
theorem dX0_takeTruly_6 : decode cX0_takeTruly 6 = .ok (.getfield 62, 3) := dk_180 0 62 (dk_at dksX0_takeTruly_0 6 rfl rfl)
theorem dX0_takeTruly_9 : decode cX0_takeTruly 9 = .ok (.bipush 7, 2) := dk_16 7 (dk_at dksX0_takeTruly_0 9 rfl rfl)
theorem dX0_takeTruly_11 : decode cX0_takeTruly 11 = .ok (.aload_n 0, 1) := dk_42 (dk_at dksX0_takeTruly_0 11 rfl rfl)
theorem dX0_takeTruly_12 : decode cX0_takeTruly 12 = .ok (.getfield 83, 3) := dk_180 0 83 (dk_at dksX0_takeTruly_0 12 rfl rfl)
theorem dX0_takeTruly_15 : decode cX0_takeTruly 15 = .ok (.imul, 1) := dk_104 (dk_at dksX0_takeTruly_0 15 rfl rfl)
theorem dX0_takeTruly_16 : decode cX0_takeTruly 16 = .ok (.bipush 7, 2) := dk_16 7 (dk_at dksX0_takeTruly_0 16 rfl rfl)
theorem dX0_takeTruly_18 : decode cX0_takeTruly 18 = .ok (.invokestatic 111, 3) := dk_184 0 111 (dk_at dksX0_takeTruly_0 18 rfl rfl)
theorem dX0_takeTruly_21 : decode cX0_takeTruly 21 = .ok (.aload_n 0, 1) := dk_42 (dk_at dksX0_takeTruly_0 21 rfl rfl)
theorem dX0_takeTruly_22 : decode cX0_takeTruly 22 = .ok (.getfield 59, 3) := dk_180 0 59 (dk_at dksX0_takeTruly_1 0 rfl rfl)
theorem dX0_takeTruly_25 : decode cX0_takeTruly 25 = .ok (.aload_n 0, 1) := dk_42 (dk_at dksX0_takeTruly_1 3 rfl rfl)
theorem dX0_takeTruly_26 : decode cX0_takeTruly 26 = .ok (.getfield 83, 3) := dk_180 0 83 (dk_at dksX0_takeTruly_1 4 rfl rfl)
theorem dX0_takeTruly_29 : decode cX0_takeTruly 29 = .ok (.bipush 10, 2) := dk_16 10 (dk_at dksX0_takeTruly_1 7 rfl rfl)
theorem dX0_takeTruly_31 : decode cX0_takeTruly 31 = .ok (.iload_n 1, 1) := dk_27 (dk_at dksX0_takeTruly_1 9 rfl rfl)
theorem dX0_takeTruly_32 : decode cX0_takeTruly 32 = .ok (.imul, 1) := dk_104 (dk_at dksX0_takeTruly_1 10 rfl rfl)
theorem dX0_takeTruly_33 : decode cX0_takeTruly 33 = .ok (.iload_n 2, 1) := dk_28 (dk_at dksX0_takeTruly_1 11 rfl rfl)
theorem dX0_takeTruly_34 : decode cX0_takeTruly 34 = .ok (.iadd, 1) := dk_96 (dk_at dksX0_takeTruly_1 12 rfl rfl)
theorem dX0_takeTruly_35 : decode cX0_takeTruly 35 = .ok (.iastore, 1) := dk_79 (dk_at dksX0_takeTruly_1 13 rfl rfl)
theorem dX0_takeTruly_36 : decode cX0_takeTruly 36 = .ok (.aload_n 0, 1) := dk_42 (dk_at dksX0_takeTruly_1 14 rfl rfl)
theorem dX0_takeTruly_37 : decode cX0_takeTruly 37 = .ok (.dup, 1) := dk_89 (dk_at dksX0_takeTruly_1 15 rfl rfl)
theorem dX0_takeTruly_38 : decode cX0_takeTruly 38 = .ok (.getfield 83, 3) := dk_180 0 83 (dk_at dksX0_takeTruly_1 16 rfl rfl)
theorem dX0_takeTruly_41 : decode cX0_takeTruly 41 = .ok (.iconst 1, 1) := dk_4 (dk_at dksX0_takeTruly_1 19 rfl rfl)
theorem dX0_takeTruly_42 : decode cX0_takeTruly 42 = .ok (.iadd, 1) := dk_96 (dk_at dksX0_takeTruly_1 20 rfl rfl)
theorem dX0_takeTruly_43 : decode cX0_takeTruly 43 = .ok (.putfield 83, 3) := dk_181 0 83 (dk_at dksX0_takeTruly_1 21 rfl rfl)
theorem dX0_takeTruly_46 : decode cX0_takeTruly 46 = .ok (.aload_n 0, 1) := dk_42 (dk_at dksX0_takeTruly_2 0 rfl rfl)
theorem dX0_takeTruly_47 : decode cX0_takeTruly 47 = .ok (.getfield 50, 3) := dk_180 0 50 (dk_at dksX0_takeTruly_2 1 rfl rfl)
theorem dX0_takeTruly_50 : decode cX0_takeTruly 50 = .ok (.iload_n 1, 1) := dk_27 (dk_at dksX0_takeTruly_2 4 rfl rfl)
theorem dX0_takeTruly_51 : decode cX0_takeTruly 51 = .ok (.iload_n 2, 1) := dk_28 (dk_at dksX0_takeTruly_2 5 rfl rfl)
theorem dX0_takeTruly_52 : decode cX0_takeTruly 52 = .ok (.iastore, 1) := dk_79 (dk_at dksX0_takeTruly_2 6 rfl rfl)
theorem dX0_takeTruly_53 : decode cX0_takeTruly 53 = .ok (.aload_n 0, 1) := dk_42 (dk_at dksX0_takeTruly_2 7 rfl rfl)
theorem dX0_takeTruly_54 : decode cX0_takeTruly 54 = .ok (.iload_n 1, 1) := dk_27 (dk_at dksX0_takeTruly_2 8 rfl rfl)
theorem dX0_takeTruly_55 : decode cX0_takeTruly 55 = .ok (.invokevirtual 249, 3) := dk_182 0 249 (dk_at dksX0_takeTruly_2 9 rfl rfl)
theorem dX0_takeTruly_58 : decode cX0_takeTruly 58 = .ok (.ireturn, 1) := dk_172 (dk_at dksX0_takeTruly_2 12 rfl rfl)
abbrev cX0_isRight : ByteArray := prog_1_method_46_code
def yX0_isRight : MethodName := ⟨RX0, "isRight", "(I)I"⟩
def dkwX0_isRight_1 : List UInt8 := [46, 50, 182, 0, 188, 42, 180, 0, 47, 27, 46, 160, 0, 7, 4, 167, 0, 4, 3, 172]
abbrev dktX0_isRight_1 : List UInt8 := dkwX0_isRight_1 ++ []
def dkwX0_isRight_0 : List UInt8 := [42, 180, 0, 47, 27, 46, 16, 247, 160, 0, 7, 5, 167, 0, 31, 42, 180, 0, 40, 42, 180, 0, 50, 27]
abbrev dktX0_isRight_0 : List UInt8 := dkwX0_isRight_0 ++ dktX0_isRight_1
theorem dksX0_isRight_0 : cX0_isRight.data.toList.drop 0 = dktX0_isRight_0 := by decide +kernel
theorem dksX0_isRight_1 : cX0_isRight.data.toList.drop 24 = dktX0_isRight_1 := dk_seg dksX0_isRight_0 24 rfl rfl
theorem dX0_isRight_0 : decode cX0_isRight 0 = .ok (.aload_n 0, 1) := dk_42 (dk_at dksX0_isRight_0 0 rfl rfl)
theorem dX0_isRight_1 : decode cX0_isRight 1 = .ok (.getfield 47, 3) := dk_180 0 47 (dk_at dksX0_isRight_0 1 rfl rfl)
theorem dX0_isRight_4 : decode cX0_isRight 4 = .ok (.iload_n 1, 1) := dk_27 (dk_at dksX0_isRight_0 4 rfl rfl)
theorem dX0_isRight_5 : decode cX0_isRight 5 = .ok (.iaload, 1) := dk_46 (dk_at dksX0_isRight_0 5 rfl rfl)
theorem dX0_isRight_6 : decode cX0_isRight 6 = .ok (.bipush (-9), 2) := dk_16 247 (dk_at dksX0_isRight_0 6 rfl rfl)
theorem dX0_isRight_8 : decode cX0_isRight 8 = .ok (.if_icmp .ne 7, 3) := dk_160 0 7 (dk_at dksX0_isRight_0 8 rfl rfl)
theorem dX0_isRight_11 : decode cX0_isRight 11 = .ok (.iconst 2, 1) := dk_5 (dk_at dksX0_isRight_0 11 rfl rfl)
theorem dX0_isRight_12 : decode cX0_isRight 12 = .ok (.goto 31, 3) := dk_167 0 31 (dk_at dksX0_isRight_0 12 rfl rfl)
theorem dX0_isRight_15 : decode cX0_isRight 15 = .ok (.aload_n 0, 1) := dk_42 (dk_at dksX0_isRight_0 15 rfl rfl)
theorem dX0_isRight_16 : decode cX0_isRight 16 = .ok (.getfield 40, 3) := dk_180 0 40 (dk_at dksX0_isRight_0 16 rfl rfl)
theorem dX0_isRight_19 : decode cX0_isRight 19 = .ok (.aload_n 0, 1) := dk_42 (dk_at dksX0_isRight_0 19 rfl rfl)
theorem dX0_isRight_20 : decode cX0_isRight 20 = .ok (.getfield 50, 3) := dk_180 0 50 (dk_at dksX0_isRight_0 20 rfl rfl)
theorem dX0_isRight_23 : decode cX0_isRight 23 = .ok (.iload_n 1, 1) := dk_27 (dk_at dksX0_isRight_0 23 rfl rfl)
theorem dX0_isRight_24 : decode cX0_isRight 24 = .ok (.iaload, 1) := dk_46 (dk_at dksX0_isRight_1 0 rfl rfl)
theorem dX0_isRight_25 : decode cX0_isRight 25 = .ok (.aaload, 1) := dk_50 (dk_at dksX0_isRight_1 1 rfl rfl)
theorem dX0_isRight_26 : decode cX0_isRight 26 = .ok (.invokevirtual 188, 3) := dk_182 0 188 (dk_at dksX0_isRight_1 2 rfl rfl)
theorem dX0_isRight_29 : decode cX0_isRight 29 = .ok (.aload_n 0, 1) := dk_42 (dk_at dksX0_isRight_1 5 rfl rfl)
theorem dX0_isRight_30 : decode cX0_isRight 30 = .ok (.getfield 47, 3) := dk_180 0 47 (dk_at dksX0_isRight_1 6 rfl rfl)
theorem dX0_isRight_33 : decode cX0_isRight 33 = .ok (.iload_n 1, 1) := dk_27 (dk_at dksX0_isRight_1 9 rfl rfl)
theorem dX0_isRight_34 : decode cX0_isRight 34 = .ok (.iaload, 1) := dk_46 (dk_at dksX0_isRight_1 10 rfl rfl)
theorem dX0_isRight_35 : decode cX0_isRight 35 = .ok (.if_icmp .ne 7, 3) := dk_160 0 7 (dk_at dksX0_isRight_1 11 rfl rfl)
theorem dX0_isRight_38 : decode cX0_isRight 38 = .ok (.iconst 1, 1) := dk_4 (dk_at dksX0_isRight_1 14 rfl rfl)
theorem dX0_isRight_39 : decode cX0_isRight 39 = .ok (.goto 4, 3) := dk_167 0 4 (dk_at dksX0_isRight_1 15 rfl rfl)
theorem dX0_isRight_42 : decode cX0_isRight 42 = .ok (.iconst 0, 1) := dk_3 (dk_at dksX0_isRight_1 18 rfl rfl)
theorem dX0_isRight_43 : decode cX0_isRight 43 = .ok (.ireturn, 1) := dk_172 (dk_at dksX0_isRight_1 19 rfl rfl)
abbrev cX0_bring : ByteArray := prog_1_method_50_code
def yX0_bring : MethodName := ⟨RX0, "bring", "(I)I"⟩
def dkwX0_bring_1 : List UInt8 := [42, 180, 0, 50, 27, 46, 61, 42, 180, 0, 50, 27, 16, 247, 79, 28, 172]
abbrev dktX0_bring_1 : List UInt8 := dkwX0_bring_1 ++ []
def dkwX0_bring_0 : List UInt8 := [42, 27, 182, 0, 223, 154, 0, 5, 2, 172, 42, 180, 0, 50, 27, 46, 16, 247, 160, 0, 6, 16, 252, 172]
abbrev dktX0_bring_0 : List UInt8 := dkwX0_bring_0 ++ dktX0_bring_1
theorem dksX0_bring_0 : cX0_bring.data.toList.drop 0 = dktX0_bring_0 := by decide +kernel
theorem dksX0_bring_1 : cX0_bring.data.toList.drop 24 = dktX0_bring_1 := dk_seg dksX0_bring_0 24 rfl rfl
theorem dX0_bring_0 : decode cX0_bring 0 = .ok (.aload_n 0, 1) := dk_42 (dk_at dksX0_bring_0 0 rfl rfl)
theorem dX0_bring_1 : decode cX0_bring 1 = .ok (.iload_n 1, 1) := dk_27 (dk_at dksX0_bring_0 1 rfl rfl)
theorem dX0_bring_2 : decode cX0_bring 2 = .ok (.invokevirtual 223, 3) := dk_182 0 223 (dk_at dksX0_bring_0 2 rfl rfl)
theorem dX0_bring_5 : decode cX0_bring 5 = .ok (.ifCond .ne 5, 3) := dk_154 0 5 (dk_at dksX0_bring_0 5 rfl rfl)
theorem dX0_bring_8 : decode cX0_bring 8 = .ok (.iconst (-1), 1) := dk_2 (dk_at dksX0_bring_0 8 rfl rfl)
theorem dX0_bring_9 : decode cX0_bring 9 = .ok (.ireturn, 1) := dk_172 (dk_at dksX0_bring_0 9 rfl rfl)
theorem dX0_bring_10 : decode cX0_bring 10 = .ok (.aload_n 0, 1) := dk_42 (dk_at dksX0_bring_0 10 rfl rfl)
theorem dX0_bring_11 : decode cX0_bring 11 = .ok (.getfield 50, 3) := dk_180 0 50 (dk_at dksX0_bring_0 11 rfl rfl)
theorem dX0_bring_14 : decode cX0_bring 14 = .ok (.iload_n 1, 1) := dk_27 (dk_at dksX0_bring_0 14 rfl rfl)
theorem dX0_bring_15 : decode cX0_bring 15 = .ok (.iaload, 1) := dk_46 (dk_at dksX0_bring_0 15 rfl rfl)
theorem dX0_bring_16 : decode cX0_bring 16 = .ok (.bipush (-9), 2) := dk_16 247 (dk_at dksX0_bring_0 16 rfl rfl)
theorem dX0_bring_18 : decode cX0_bring 18 = .ok (.if_icmp .ne 6, 3) := dk_160 0 6 (dk_at dksX0_bring_0 18 rfl rfl)
theorem dX0_bring_21 : decode cX0_bring 21 = .ok (.bipush (-4), 2) := dk_16 252 (dk_at dksX0_bring_0 21 rfl rfl)
theorem dX0_bring_23 : decode cX0_bring 23 = .ok (.ireturn, 1) := dk_172 (dk_at dksX0_bring_0 23 rfl rfl)
theorem dX0_bring_24 : decode cX0_bring 24 = .ok (.aload_n 0, 1) := dk_42 (dk_at dksX0_bring_1 0 rfl rfl)
theorem dX0_bring_25 : decode cX0_bring 25 = .ok (.getfield 50, 3) := dk_180 0 50 (dk_at dksX0_bring_1 1 rfl rfl)
theorem dX0_bring_28 : decode cX0_bring 28 = .ok (.iload_n 1, 1) := dk_27 (dk_at dksX0_bring_1 4 rfl rfl)
theorem dX0_bring_29 : decode cX0_bring 29 = .ok (.iaload, 1) := dk_46 (dk_at dksX0_bring_1 5 rfl rfl)
theorem dX0_bring_30 : decode cX0_bring 30 = .ok (.istore_n 2, 1) := dk_61 (dk_at dksX0_bring_1 6 rfl rfl)
theorem dX0_bring_31 : decode cX0_bring 31 = .ok (.aload_n 0, 1) := dk_42 (dk_at dksX0_bring_1 7 rfl rfl)
theorem dX0_bring_32 : decode cX0_bring 32 = .ok (.getfield 50, 3) := dk_180 0 50 (dk_at dksX0_bring_1 8 rfl rfl)
theorem dX0_bring_35 : decode cX0_bring 35 = .ok (.iload_n 1, 1) := dk_27 (dk_at dksX0_bring_1 11 rfl rfl)
theorem dX0_bring_36 : decode cX0_bring 36 = .ok (.bipush (-9), 2) := dk_16 247 (dk_at dksX0_bring_1 12 rfl rfl)
theorem dX0_bring_38 : decode cX0_bring 38 = .ok (.iastore, 1) := dk_79 (dk_at dksX0_bring_1 14 rfl rfl)
theorem dX0_bring_39 : decode cX0_bring 39 = .ok (.iload_n 2, 1) := dk_28 (dk_at dksX0_bring_1 15 rfl rfl)
theorem dX0_bring_40 : decode cX0_bring 40 = .ok (.ireturn, 1) := dk_172 (dk_at dksX0_bring_1 16 rfl rfl)
abbrev cX0_undo : ByteArray := prog_1_method_51_code
def yX0_undo : MethodName := ⟨RX0, "undo", "(I)I"⟩
def dkwX0_undo_2 : List UInt8 := [181, 0, 83, 28, 172]
abbrev dktX0_undo_2 : List UInt8 := dkwX0_undo_2 ++ []
def dkwX0_undo_1 : List UInt8 := [158, 0, 26, 42, 180, 0, 62, 16, 7, 27, 104, 42, 180, 0, 50, 3, 16, 7, 184, 0, 111, 42, 27]
abbrev dktX0_undo_1 : List UInt8 := dkwX0_undo_1 ++ dktX0_undo_2
def dkwX0_undo_0 : List UInt8 := [27, 3, 42, 180, 0, 83, 184, 0, 86, 154, 0, 5, 2, 172, 42, 180, 0, 83, 27, 100, 61, 28]
abbrev dktX0_undo_0 : List UInt8 := dkwX0_undo_0 ++ dktX0_undo_1
theorem dksX0_undo_0 : cX0_undo.data.toList.drop 0 = dktX0_undo_0 := by decide +kernel
theorem dksX0_undo_1 : cX0_undo.data.toList.drop 22 = dktX0_undo_1 := dk_seg dksX0_undo_0 22 rfl rfl
theorem dksX0_undo_2 : cX0_undo.data.toList.drop 45 = dktX0_undo_2 := dk_seg dksX0_undo_1 23 rfl rfl
theorem dX0_undo_0 : decode cX0_undo 0 = .ok (.iload_n 1, 1) := dk_27 (dk_at dksX0_undo_0 0 rfl rfl)
theorem dX0_undo_1 : decode cX0_undo 1 = .ok (.iconst 0, 1) := dk_3 (dk_at dksX0_undo_0 1 rfl rfl)
theorem dX0_undo_2 : decode cX0_undo 2 = .ok (.aload_n 0, 1) := dk_42 (dk_at dksX0_undo_0 2 rfl rfl)
theorem dX0_undo_3 : decode cX0_undo 3 = .ok (.getfield 83, 3) := dk_180 0 83 (dk_at dksX0_undo_0 3 rfl rfl)
theorem dX0_undo_6 : decode cX0_undo 6 = .ok (.invokestatic 86, 3) := dk_184 0 86 (dk_at dksX0_undo_0 6 rfl rfl)
theorem dX0_undo_9 : decode cX0_undo 9 = .ok (.ifCond .ne 5, 3) := dk_154 0 5 (dk_at dksX0_undo_0 9 rfl rfl)
theorem dX0_undo_12 : decode cX0_undo 12 = .ok (.iconst (-1), 1) := dk_2 (dk_at dksX0_undo_0 12 rfl rfl)
theorem dX0_undo_13 : decode cX0_undo 13 = .ok (.ireturn, 1) := dk_172 (dk_at dksX0_undo_0 13 rfl rfl)
theorem dX0_undo_14 : decode cX0_undo 14 = .ok (.aload_n 0, 1) := dk_42 (dk_at dksX0_undo_0 14 rfl rfl)
theorem dX0_undo_15 : decode cX0_undo 15 = .ok (.getfield 83, 3) := dk_180 0 83 (dk_at dksX0_undo_0 15 rfl rfl)
theorem dX0_undo_18 : decode cX0_undo 18 = .ok (.iload_n 1, 1) := dk_27 (dk_at dksX0_undo_0 18 rfl rfl)
theorem dX0_undo_19 : decode cX0_undo 19 = .ok (.isub, 1) := dk_100 (dk_at dksX0_undo_0 19 rfl rfl)
theorem dX0_undo_20 : decode cX0_undo 20 = .ok (.istore_n 2, 1) := dk_61 (dk_at dksX0_undo_0 20 rfl rfl)
theorem dX0_undo_21 : decode cX0_undo 21 = .ok (.iload_n 2, 1) := dk_28 (dk_at dksX0_undo_0 21 rfl rfl)
theorem dX0_undo_22 : decode cX0_undo 22 = .ok (.ifCond .le 26, 3) := dk_158 0 26 (dk_at dksX0_undo_1 0 rfl rfl)
theorem dX0_undo_25 : decode cX0_undo 25 = .ok (.aload_n 0, 1) := dk_42 (dk_at dksX0_undo_1 3 rfl rfl)
theorem dX0_undo_26 : decode cX0_undo 26 = .ok (.getfield 62, 3) := dk_180 0 62 (dk_at dksX0_undo_1 4 rfl rfl)
theorem dX0_undo_29 : decode cX0_undo 29 = .ok (.bipush 7, 2) := dk_16 7 (dk_at dksX0_undo_1 7 rfl rfl)
theorem dX0_undo_31 : decode cX0_undo 31 = .ok (.iload_n 1, 1) := dk_27 (dk_at dksX0_undo_1 9 rfl rfl)
theorem dX0_undo_32 : decode cX0_undo 32 = .ok (.imul, 1) := dk_104 (dk_at dksX0_undo_1 10 rfl rfl)
theorem dX0_undo_33 : decode cX0_undo 33 = .ok (.aload_n 0, 1) := dk_42 (dk_at dksX0_undo_1 11 rfl rfl)
theorem dX0_undo_34 : decode cX0_undo 34 = .ok (.getfield 50, 3) := dk_180 0 50 (dk_at dksX0_undo_1 12 rfl rfl)
theorem dX0_undo_37 : decode cX0_undo 37 = .ok (.iconst 0, 1) := dk_3 (dk_at dksX0_undo_1 15 rfl rfl)
theorem dX0_undo_38 : decode cX0_undo 38 = .ok (.bipush 7, 2) := dk_16 7 (dk_at dksX0_undo_1 16 rfl rfl)
theorem dX0_undo_40 : decode cX0_undo 40 = .ok (.invokestatic 111, 3) := dk_184 0 111 (dk_at dksX0_undo_1 18 rfl rfl)
theorem dX0_undo_43 : decode cX0_undo 43 = .ok (.aload_n 0, 1) := dk_42 (dk_at dksX0_undo_1 21 rfl rfl)
theorem dX0_undo_44 : decode cX0_undo 44 = .ok (.iload_n 1, 1) := dk_27 (dk_at dksX0_undo_1 22 rfl rfl)
theorem dX0_undo_45 : decode cX0_undo 45 = .ok (.putfield 83, 3) := dk_181 0 83 (dk_at dksX0_undo_2 0 rfl rfl)
theorem dX0_undo_48 : decode cX0_undo 48 = .ok (.iload_n 2, 1) := dk_28 (dk_at dksX0_undo_2 3 rfl rfl)
theorem dX0_undo_49 : decode cX0_undo 49 = .ok (.ireturn, 1) := dk_172 (dk_at dksX0_undo_2 4 rfl rfl)
abbrev cX0_right : ByteArray := prog_1_method_53_code
def yX0_right : MethodName := ⟨RX0, "right", "()I"⟩
def dkwX0_right_0 : List UInt8 := [42, 42, 3, 182, 1, 2, 42, 4, 182, 1, 2, 182, 0, 104, 172]
abbrev dktX0_right_0 : List UInt8 := dkwX0_right_0 ++ []
theorem dksX0_right_0 : cX0_right.data.toList.drop 0 = dktX0_right_0 := by decide +kernel
theorem dX0_right_0 : decode cX0_right 0 = .ok (.aload_n 0, 1) := dk_42 (dk_at dksX0_right_0 0 rfl rfl)
theorem dX0_right_1 : decode cX0_right 1 = .ok (.aload_n 0, 1) := dk_42 (dk_at dksX0_right_0 1 rfl rfl)
theorem dX0_right_2 : decode cX0_right 2 = .ok (.iconst 0, 1) := dk_3 (dk_at dksX0_right_0 2 rfl rfl)
theorem dX0_right_3 : decode cX0_right 3 = .ok (.invokevirtual 258, 3) := dk_182 1 2 (dk_at dksX0_right_0 3 rfl rfl)
theorem dX0_right_6 : decode cX0_right 6 = .ok (.aload_n 0, 1) := dk_42 (dk_at dksX0_right_0 6 rfl rfl)
theorem dX0_right_7 : decode cX0_right 7 = .ok (.iconst 1, 1) := dk_4 (dk_at dksX0_right_0 7 rfl rfl)
theorem dX0_right_8 : decode cX0_right 8 = .ok (.invokevirtual 258, 3) := dk_182 1 2 (dk_at dksX0_right_0 8 rfl rfl)
theorem dX0_right_11 : decode cX0_right 11 = .ok (.invokevirtual 104, 3) := dk_182 0 104 (dk_at dksX0_right_0 11 rfl rfl)
theorem dX0_right_14 : decode cX0_right 14 = .ok (.ireturn, 1) := dk_172 (dk_at dksX0_right_0 14 rfl rfl)
abbrev cX0_rightMany : ByteArray := prog_1_method_52_code
def yX0_rightMany : MethodName := ⟨RX0, "rightMany", "(I)I"⟩
def dkwX0_rightMany_1 : List UInt8 := [42, 29, 182, 0, 249, 27, 160, 0, 7, 4, 167, 0, 4, 3, 96, 61, 132, 3, 1, 167, 255, 217, 28, 172]
abbrev dktX0_rightMany_1 : List UInt8 := dkwX0_rightMany_1 ++ []
def dkwX0_rightMany_0 : List UInt8 := [3, 61, 3, 62, 29, 42, 180, 0, 182, 162, 0, 37, 28, 42, 180, 0, 50, 29, 46, 16, 247, 159, 0, 16]
abbrev dktX0_rightMany_0 : List UInt8 := dkwX0_rightMany_0 ++ dktX0_rightMany_1
theorem dksX0_rightMany_0 : cX0_rightMany.data.toList.drop 0 = dktX0_rightMany_0 := by decide +kernel
theorem dksX0_rightMany_1 : cX0_rightMany.data.toList.drop 24 = dktX0_rightMany_1 := dk_seg dksX0_rightMany_0 24 rfl rfl
theorem dX0_rightMany_0 : decode cX0_rightMany 0 = .ok (.iconst 0, 1) := dk_3 (dk_at dksX0_rightMany_0 0 rfl rfl)
theorem dX0_rightMany_1 : decode cX0_rightMany 1 = .ok (.istore_n 2, 1) := dk_61 (dk_at dksX0_rightMany_0 1 rfl rfl)
theorem dX0_rightMany_2 : decode cX0_rightMany 2 = .ok (.iconst 0, 1) := dk_3 (dk_at dksX0_rightMany_0 2 rfl rfl)
theorem dX0_rightMany_3 : decode cX0_rightMany 3 = .ok (.istore_n 3, 1) := dk_62 (dk_at dksX0_rightMany_0 3 rfl rfl)
theorem dX0_rightMany_4 : decode cX0_rightMany 4 = .ok (.iload_n 3, 1) := dk_29 (dk_at dksX0_rightMany_0 4 rfl rfl)
theorem dX0_rightMany_5 : decode cX0_rightMany 5 = .ok (.aload_n 0, 1) := dk_42 (dk_at dksX0_rightMany_0 5 rfl rfl)
theorem dX0_rightMany_6 : decode cX0_rightMany 6 = .ok (.getfield 182, 3) := dk_180 0 182 (dk_at dksX0_rightMany_0 6 rfl rfl)
theorem dX0_rightMany_9 : decode cX0_rightMany 9 = .ok (.if_icmp .ge 37, 3) := dk_162 0 37 (dk_at dksX0_rightMany_0 9 rfl rfl)
theorem dX0_rightMany_12 : decode cX0_rightMany 12 = .ok (.iload_n 2, 1) := dk_28 (dk_at dksX0_rightMany_0 12 rfl rfl)
theorem dX0_rightMany_13 : decode cX0_rightMany 13 = .ok (.aload_n 0, 1) := dk_42 (dk_at dksX0_rightMany_0 13 rfl rfl)
theorem dX0_rightMany_14 : decode cX0_rightMany 14 = .ok (.getfield 50, 3) := dk_180 0 50 (dk_at dksX0_rightMany_0 14 rfl rfl)
theorem dX0_rightMany_17 : decode cX0_rightMany 17 = .ok (.iload_n 3, 1) := dk_29 (dk_at dksX0_rightMany_0 17 rfl rfl)
theorem dX0_rightMany_18 : decode cX0_rightMany 18 = .ok (.iaload, 1) := dk_46 (dk_at dksX0_rightMany_0 18 rfl rfl)
theorem dX0_rightMany_19 : decode cX0_rightMany 19 = .ok (.bipush (-9), 2) := dk_16 247 (dk_at dksX0_rightMany_0 19 rfl rfl)
theorem dX0_rightMany_21 : decode cX0_rightMany 21 = .ok (.if_icmp .eq 16, 3) := dk_159 0 16 (dk_at dksX0_rightMany_0 21 rfl rfl)
theorem dX0_rightMany_24 : decode cX0_rightMany 24 = .ok (.aload_n 0, 1) := dk_42 (dk_at dksX0_rightMany_1 0 rfl rfl)
theorem dX0_rightMany_25 : decode cX0_rightMany 25 = .ok (.iload_n 3, 1) := dk_29 (dk_at dksX0_rightMany_1 1 rfl rfl)
theorem dX0_rightMany_26 : decode cX0_rightMany 26 = .ok (.invokevirtual 249, 3) := dk_182 0 249 (dk_at dksX0_rightMany_1 2 rfl rfl)
theorem dX0_rightMany_29 : decode cX0_rightMany 29 = .ok (.iload_n 1, 1) := dk_27 (dk_at dksX0_rightMany_1 5 rfl rfl)
theorem dX0_rightMany_30 : decode cX0_rightMany 30 = .ok (.if_icmp .ne 7, 3) := dk_160 0 7 (dk_at dksX0_rightMany_1 6 rfl rfl)
theorem dX0_rightMany_33 : decode cX0_rightMany 33 = .ok (.iconst 1, 1) := dk_4 (dk_at dksX0_rightMany_1 9 rfl rfl)
theorem dX0_rightMany_34 : decode cX0_rightMany 34 = .ok (.goto 4, 3) := dk_167 0 4 (dk_at dksX0_rightMany_1 10 rfl rfl)
theorem dX0_rightMany_37 : decode cX0_rightMany 37 = .ok (.iconst 0, 1) := dk_3 (dk_at dksX0_rightMany_1 13 rfl rfl)
theorem dX0_rightMany_38 : decode cX0_rightMany 38 = .ok (.iadd, 1) := dk_96 (dk_at dksX0_rightMany_1 14 rfl rfl)
theorem dX0_rightMany_39 : decode cX0_rightMany 39 = .ok (.istore_n 2, 1) := dk_61 (dk_at dksX0_rightMany_1 15 rfl rfl)
theorem dX0_rightMany_40 : decode cX0_rightMany 40 = .ok (.iinc 3 1, 3) := dk_132 3 1 (dk_at dksX0_rightMany_1 16 rfl rfl)
theorem dX0_rightMany_43 : decode cX0_rightMany 43 = .ok (.goto (-39), 3) := dk_167 255 217 (dk_at dksX0_rightMany_1 19 rfl rfl)
theorem dX0_rightMany_46 : decode cX0_rightMany 46 = .ok (.iload_n 2, 1) := dk_28 (dk_at dksX0_rightMany_1 22 rfl rfl)
theorem dX0_rightMany_47 : decode cX0_rightMany 47 = .ok (.ireturn, 1) := dk_172 (dk_at dksX0_rightMany_1 23 rfl rfl)
abbrev cX0_keep : ByteArray := prog_1_method_55_code
def yX0_keep : MethodName := ⟨RX0, "keep", "(I)I"⟩
def dkwX0_keep_7 : List UInt8 := [172]
abbrev dktX0_keep_7 : List UInt8 := dkwX0_keep_7 ++ []
def dkwX0_keep_6 : List UInt8 := [180, 1, 17, 29, 42, 180, 0, 40, 29, 50, 180, 0, 211, 79, 132, 3, 1, 167, 255, 215, 42, 180, 0, 83]
abbrev dktX0_keep_6 : List UInt8 := dkwX0_keep_6 ++ dktX0_keep_7
def dkwX0_keep_5 : List UInt8 := [42, 180, 0, 175, 162, 0, 39, 44, 180, 1, 14, 29, 42, 180, 0, 40, 29, 50, 180, 0, 205, 79, 44]
abbrev dktX0_keep_5 : List UInt8 := dkwX0_keep_5 ++ dktX0_keep_6
def dkwX0_keep_4 : List UInt8 := [3, 16, 7, 184, 0, 111, 42, 180, 0, 47, 3, 44, 180, 1, 13, 3, 16, 7, 184, 0, 111, 3, 62, 29]
abbrev dktX0_keep_4 : List UInt8 := dkwX0_keep_4 ++ dktX0_keep_5
def dkwX0_keep_3 : List UInt8 := [180, 0, 62, 3, 44, 180, 1, 11, 3, 17, 1, 24, 184, 0, 111, 42, 180, 0, 50, 3, 44, 180, 1, 12]
abbrev dktX0_keep_3 : List UInt8 := dkwX0_keep_3 ++ dktX0_keep_4
def dkwX0_keep_2 : List UInt8 := [44, 42, 180, 0, 83, 181, 1, 9, 42, 180, 0, 59, 3, 44, 180, 1, 10, 3, 16, 40, 184, 0, 111, 42]
abbrev dktX0_keep_2 : List UInt8 := dkwX0_keep_2 ++ dktX0_keep_3
def dkwX0_keep_1 : List UInt8 := [50, 199, 0, 16, 42, 180, 0, 67, 27, 187, 0, 65, 89, 183, 1, 8, 83, 42, 180, 0, 67, 27, 50, 77]
abbrev dktX0_keep_1 : List UInt8 := dkwX0_keep_1 ++ dktX0_keep_2
def dkwX0_keep_0 : List UInt8 := [27, 184, 1, 5, 154, 0, 5, 2, 172, 42, 180, 0, 175, 154, 0, 6, 16, 252, 172, 42, 180, 0, 67, 27]
abbrev dktX0_keep_0 : List UInt8 := dkwX0_keep_0 ++ dktX0_keep_1
theorem dksX0_keep_0 : cX0_keep.data.toList.drop 0 = dktX0_keep_0 := by decide +kernel
theorem dksX0_keep_1 : cX0_keep.data.toList.drop 24 = dktX0_keep_1 := dk_seg dksX0_keep_0 24 rfl rfl
theorem dksX0_keep_2 : cX0_keep.data.toList.drop 48 = dktX0_keep_2 := dk_seg dksX0_keep_1 24 rfl rfl
theorem dksX0_keep_3 : cX0_keep.data.toList.drop 72 = dktX0_keep_3 := dk_seg dksX0_keep_2 24 rfl rfl
theorem dksX0_keep_4 : cX0_keep.data.toList.drop 96 = dktX0_keep_4 := dk_seg dksX0_keep_3 24 rfl rfl
theorem dksX0_keep_5 : cX0_keep.data.toList.drop 120 = dktX0_keep_5 := dk_seg dksX0_keep_4 24 rfl rfl
theorem dksX0_keep_6 : cX0_keep.data.toList.drop 143 = dktX0_keep_6 := dk_seg dksX0_keep_5 23 rfl rfl
theorem dksX0_keep_7 : cX0_keep.data.toList.drop 167 = dktX0_keep_7 := dk_seg dksX0_keep_6 24 rfl rfl
theorem dX0_keep_0 : decode cX0_keep 0 = .ok (.iload_n 1, 1) := dk_27 (dk_at dksX0_keep_0 0 rfl rfl)
theorem dX0_keep_1 : decode cX0_keep 1 = .ok (.invokestatic 261, 3) := dk_184 1 5 (dk_at dksX0_keep_0 1 rfl rfl)
theorem dX0_keep_4 : decode cX0_keep 4 = .ok (.ifCond .ne 5, 3) := dk_154 0 5 (dk_at dksX0_keep_0 4 rfl rfl)
theorem dX0_keep_7 : decode cX0_keep 7 = .ok (.iconst (-1), 1) := dk_2 (dk_at dksX0_keep_0 7 rfl rfl)
theorem dX0_keep_8 : decode cX0_keep 8 = .ok (.ireturn, 1) := dk_172 (dk_at dksX0_keep_0 8 rfl rfl)
theorem dX0_keep_9 : decode cX0_keep 9 = .ok (.aload_n 0, 1) := dk_42 (dk_at dksX0_keep_0 9 rfl rfl)
theorem dX0_keep_10 : decode cX0_keep 10 = .ok (.getfield 175, 3) := dk_180 0 175 (dk_at dksX0_keep_0 10 rfl rfl)
theorem dX0_keep_13 : decode cX0_keep 13 = .ok (.ifCond .ne 6, 3) := dk_154 0 6 (dk_at dksX0_keep_0 13 rfl rfl)
theorem dX0_keep_16 : decode cX0_keep 16 = .ok (.bipush (-4), 2) := dk_16 252 (dk_at dksX0_keep_0 16 rfl rfl)
theorem dX0_keep_18 : decode cX0_keep 18 = .ok (.ireturn, 1) := dk_172 (dk_at dksX0_keep_0 18 rfl rfl)
theorem dX0_keep_19 : decode cX0_keep 19 = .ok (.aload_n 0, 1) := dk_42 (dk_at dksX0_keep_0 19 rfl rfl)
theorem dX0_keep_20 : decode cX0_keep 20 = .ok (.getfield 67, 3) := dk_180 0 67 (dk_at dksX0_keep_0 20 rfl rfl)
theorem dX0_keep_23 : decode cX0_keep 23 = .ok (.iload_n 1, 1) := dk_27 (dk_at dksX0_keep_0 23 rfl rfl)
theorem dX0_keep_24 : decode cX0_keep 24 = .ok (.aaload, 1) := dk_50 (dk_at dksX0_keep_1 0 rfl rfl)
theorem dX0_keep_25 : decode cX0_keep 25 = .ok (.ifnonnull 16, 3) := dk_199 0 16 (dk_at dksX0_keep_1 1 rfl rfl)
theorem dX0_keep_28 : decode cX0_keep 28 = .ok (.aload_n 0, 1) := dk_42 (dk_at dksX0_keep_1 4 rfl rfl)
theorem dX0_keep_29 : decode cX0_keep 29 = .ok (.getfield 67, 3) := dk_180 0 67 (dk_at dksX0_keep_1 5 rfl rfl)
theorem dX0_keep_32 : decode cX0_keep 32 = .ok (.iload_n 1, 1) := dk_27 (dk_at dksX0_keep_1 8 rfl rfl)
theorem dX0_keep_33 : decode cX0_keep 33 = .ok (.new 65, 3) := dk_187 0 65 (dk_at dksX0_keep_1 9 rfl rfl)
theorem dX0_keep_36 : decode cX0_keep 36 = .ok (.dup, 1) := dk_89 (dk_at dksX0_keep_1 12 rfl rfl)
theorem dX0_keep_37 : decode cX0_keep 37 = .ok (.invokespecial 264, 3) := dk_183 1 8 (dk_at dksX0_keep_1 13 rfl rfl)
theorem dX0_keep_40 : decode cX0_keep 40 = .ok (.aastore, 1) := dk_83 (dk_at dksX0_keep_1 16 rfl rfl)
theorem dX0_keep_41 : decode cX0_keep 41 = .ok (.aload_n 0, 1) := dk_42 (dk_at dksX0_keep_1 17 rfl rfl)
theorem dX0_keep_42 : decode cX0_keep 42 = .ok (.getfield 67, 3) := dk_180 0 67 (dk_at dksX0_keep_1 18 rfl rfl)
theorem dX0_keep_45 : decode cX0_keep 45 = .ok (.iload_n 1, 1) := dk_27 (dk_at dksX0_keep_1 21 rfl rfl)
theorem dX0_keep_46 : decode cX0_keep 46 = .ok (.aaload, 1) := dk_50 (dk_at dksX0_keep_1 22 rfl rfl)
theorem dX0_keep_47 : decode cX0_keep 47 = .ok (.astore_n 2, 1) := dk_77 (dk_at dksX0_keep_1 23 rfl rfl)
theorem dX0_keep_48 : decode cX0_keep 48 = .ok (.aload_n 2, 1) := dk_44 (dk_at dksX0_keep_2 0 rfl rfl)
theorem dX0_keep_49 : decode cX0_keep 49 = .ok (.aload_n 0, 1) := dk_42 (dk_at dksX0_keep_2 1 rfl rfl)
theorem dX0_keep_50 : decode cX0_keep 50 = .ok (.getfield 83, 3) := dk_180 0 83 (dk_at dksX0_keep_2 2 rfl rfl)
theorem dX0_keep_53 : decode cX0_keep 53 = .ok (.putfield 265, 3) := dk_181 1 9 (dk_at dksX0_keep_2 5 rfl rfl)
theorem dX0_keep_56 : decode cX0_keep 56 = .ok (.aload_n 0, 1) := dk_42 (dk_at dksX0_keep_2 8 rfl rfl)
theorem dX0_keep_57 : decode cX0_keep 57 = .ok (.getfield 59, 3) := dk_180 0 59 (dk_at dksX0_keep_2 9 rfl rfl)
theorem dX0_keep_60 : decode cX0_keep 60 = .ok (.iconst 0, 1) := dk_3 (dk_at dksX0_keep_2 12 rfl rfl)
theorem dX0_keep_61 : decode cX0_keep 61 = .ok (.aload_n 2, 1) := dk_44 (dk_at dksX0_keep_2 13 rfl rfl)
theorem dX0_keep_62 : decode cX0_keep 62 = .ok (.getfield 266, 3) := dk_180 1 10 (dk_at dksX0_keep_2 14 rfl rfl)
theorem dX0_keep_65 : decode cX0_keep 65 = .ok (.iconst 0, 1) := dk_3 (dk_at dksX0_keep_2 17 rfl rfl)
theorem dX0_keep_66 : decode cX0_keep 66 = .ok (.bipush 40, 2) := dk_16 40 (dk_at dksX0_keep_2 18 rfl rfl)
theorem dX0_keep_68 : decode cX0_keep 68 = .ok (.invokestatic 111, 3) := dk_184 0 111 (dk_at dksX0_keep_2 20 rfl rfl)
theorem dX0_keep_71 : decode cX0_keep 71 = .ok (.aload_n 0, 1) := dk_42 (dk_at dksX0_keep_2 23 rfl rfl)
theorem dX0_keep_72 : decode cX0_keep 72 = .ok (.getfield 62, 3) := dk_180 0 62 (dk_at dksX0_keep_3 0 rfl rfl)
theorem dX0_keep_75 : decode cX0_keep 75 = .ok (.iconst 0, 1) := dk_3 (dk_at dksX0_keep_3 3 rfl rfl)
theorem dX0_keep_76 : decode cX0_keep 76 = .ok (.aload_n 2, 1) := dk_44 (dk_at dksX0_keep_3 4 rfl rfl)
theorem dX0_keep_77 : decode cX0_keep 77 = .ok (.getfield 267, 3) := dk_180 1 11 (dk_at dksX0_keep_3 5 rfl rfl)
theorem dX0_keep_80 : decode cX0_keep 80 = .ok (.iconst 0, 1) := dk_3 (dk_at dksX0_keep_3 8 rfl rfl)
theorem dX0_keep_81 : decode cX0_keep 81 = .ok (.sipush 280, 3) := dk_17 1 24 (dk_at dksX0_keep_3 9 rfl rfl)
theorem dX0_keep_84 : decode cX0_keep 84 = .ok (.invokestatic 111, 3) := dk_184 0 111 (dk_at dksX0_keep_3 12 rfl rfl)
theorem dX0_keep_87 : decode cX0_keep 87 = .ok (.aload_n 0, 1) := dk_42 (dk_at dksX0_keep_3 15 rfl rfl)
theorem dX0_keep_88 : decode cX0_keep 88 = .ok (.getfield 50, 3) := dk_180 0 50 (dk_at dksX0_keep_3 16 rfl rfl)
theorem dX0_keep_91 : decode cX0_keep 91 = .ok (.iconst 0, 1) := dk_3 (dk_at dksX0_keep_3 19 rfl rfl)
theorem dX0_keep_92 : decode cX0_keep 92 = .ok (.aload_n 2, 1) := dk_44 (dk_at dksX0_keep_3 20 rfl rfl)
theorem dX0_keep_93 : decode cX0_keep 93 = .ok (.getfield 268, 3) := dk_180 1 12 (dk_at dksX0_keep_3 21 rfl rfl)
theorem dX0_keep_96 : decode cX0_keep 96 = .ok (.iconst 0, 1) := dk_3 (dk_at dksX0_keep_4 0 rfl rfl)
theorem dX0_keep_97 : decode cX0_keep 97 = .ok (.bipush 7, 2) := dk_16 7 (dk_at dksX0_keep_4 1 rfl rfl)
theorem dX0_keep_99 : decode cX0_keep 99 = .ok (.invokestatic 111, 3) := dk_184 0 111 (dk_at dksX0_keep_4 3 rfl rfl)
theorem dX0_keep_102 : decode cX0_keep 102 = .ok (.aload_n 0, 1) := dk_42 (dk_at dksX0_keep_4 6 rfl rfl)
theorem dX0_keep_103 : decode cX0_keep 103 = .ok (.getfield 47, 3) := dk_180 0 47 (dk_at dksX0_keep_4 7 rfl rfl)
theorem dX0_keep_106 : decode cX0_keep 106 = .ok (.iconst 0, 1) := dk_3 (dk_at dksX0_keep_4 10 rfl rfl)
theorem dX0_keep_107 : decode cX0_keep 107 = .ok (.aload_n 2, 1) := dk_44 (dk_at dksX0_keep_4 11 rfl rfl)
theorem dX0_keep_108 : decode cX0_keep 108 = .ok (.getfield 269, 3) := dk_180 1 13 (dk_at dksX0_keep_4 12 rfl rfl)
theorem dX0_keep_111 : decode cX0_keep 111 = .ok (.iconst 0, 1) := dk_3 (dk_at dksX0_keep_4 15 rfl rfl)
theorem dX0_keep_112 : decode cX0_keep 112 = .ok (.bipush 7, 2) := dk_16 7 (dk_at dksX0_keep_4 16 rfl rfl)
theorem dX0_keep_114 : decode cX0_keep 114 = .ok (.invokestatic 111, 3) := dk_184 0 111 (dk_at dksX0_keep_4 18 rfl rfl)
theorem dX0_keep_117 : decode cX0_keep 117 = .ok (.iconst 0, 1) := dk_3 (dk_at dksX0_keep_4 21 rfl rfl)
theorem dX0_keep_118 : decode cX0_keep 118 = .ok (.istore_n 3, 1) := dk_62 (dk_at dksX0_keep_4 22 rfl rfl)
theorem dX0_keep_119 : decode cX0_keep 119 = .ok (.iload_n 3, 1) := dk_29 (dk_at dksX0_keep_4 23 rfl rfl)
theorem dX0_keep_120 : decode cX0_keep 120 = .ok (.aload_n 0, 1) := dk_42 (dk_at dksX0_keep_5 0 rfl rfl)
theorem dX0_keep_121 : decode cX0_keep 121 = .ok (.getfield 175, 3) := dk_180 0 175 (dk_at dksX0_keep_5 1 rfl rfl)
theorem dX0_keep_124 : decode cX0_keep 124 = .ok (.if_icmp .ge 39, 3) := dk_162 0 39 (dk_at dksX0_keep_5 4 rfl rfl)
theorem dX0_keep_127 : decode cX0_keep 127 = .ok (.aload_n 2, 1) := dk_44 (dk_at dksX0_keep_5 7 rfl rfl)
theorem dX0_keep_128 : decode cX0_keep 128 = .ok (.getfield 270, 3) := dk_180 1 14 (dk_at dksX0_keep_5 8 rfl rfl)
theorem dX0_keep_131 : decode cX0_keep 131 = .ok (.iload_n 3, 1) := dk_29 (dk_at dksX0_keep_5 11 rfl rfl)
theorem dX0_keep_132 : decode cX0_keep 132 = .ok (.aload_n 0, 1) := dk_42 (dk_at dksX0_keep_5 12 rfl rfl)
theorem dX0_keep_133 : decode cX0_keep 133 = .ok (.getfield 40, 3) := dk_180 0 40 (dk_at dksX0_keep_5 13 rfl rfl)
theorem dX0_keep_136 : decode cX0_keep 136 = .ok (.iload_n 3, 1) := dk_29 (dk_at dksX0_keep_5 16 rfl rfl)
theorem dX0_keep_137 : decode cX0_keep 137 = .ok (.aaload, 1) := dk_50 (dk_at dksX0_keep_5 17 rfl rfl)
theorem dX0_keep_138 : decode cX0_keep 138 = .ok (.getfield 205, 3) := dk_180 0 205 (dk_at dksX0_keep_5 18 rfl rfl)
theorem dX0_keep_141 : decode cX0_keep 141 = .ok (.iastore, 1) := dk_79 (dk_at dksX0_keep_5 21 rfl rfl)
theorem dX0_keep_142 : decode cX0_keep 142 = .ok (.aload_n 2, 1) := dk_44 (dk_at dksX0_keep_5 22 rfl rfl)
theorem dX0_keep_143 : decode cX0_keep 143 = .ok (.getfield 273, 3) := dk_180 1 17 (dk_at dksX0_keep_6 0 rfl rfl)
theorem dX0_keep_146 : decode cX0_keep 146 = .ok (.iload_n 3, 1) := dk_29 (dk_at dksX0_keep_6 3 rfl rfl)
theorem dX0_keep_147 : decode cX0_keep 147 = .ok (.aload_n 0, 1) := dk_42 (dk_at dksX0_keep_6 4 rfl rfl)
theorem dX0_keep_148 : decode cX0_keep 148 = .ok (.getfield 40, 3) := dk_180 0 40 (dk_at dksX0_keep_6 5 rfl rfl)
theorem dX0_keep_151 : decode cX0_keep 151 = .ok (.iload_n 3, 1) := dk_29 (dk_at dksX0_keep_6 8 rfl rfl)
theorem dX0_keep_152 : decode cX0_keep 152 = .ok (.aaload, 1) := dk_50 (dk_at dksX0_keep_6 9 rfl rfl)
theorem dX0_keep_153 : decode cX0_keep 153 = .ok (.getfield 211, 3) := dk_180 0 211 (dk_at dksX0_keep_6 10 rfl rfl)
theorem dX0_keep_156 : decode cX0_keep 156 = .ok (.iastore, 1) := dk_79 (dk_at dksX0_keep_6 13 rfl rfl)
theorem dX0_keep_157 : decode cX0_keep 157 = .ok (.iinc 3 1, 3) := dk_132 3 1 (dk_at dksX0_keep_6 14 rfl rfl)
theorem dX0_keep_160 : decode cX0_keep 160 = .ok (.goto (-41), 3) := dk_167 255 215 (dk_at dksX0_keep_6 17 rfl rfl)
theorem dX0_keep_163 : decode cX0_keep 163 = .ok (.aload_n 0, 1) := dk_42 (dk_at dksX0_keep_6 20 rfl rfl)
theorem dX0_keep_164 : decode cX0_keep 164 = .ok (.getfield 83, 3) := dk_180 0 83 (dk_at dksX0_keep_6 21 rfl rfl)
theorem dX0_keep_167 : decode cX0_keep 167 = .ok (.ireturn, 1) := dk_172 (dk_at dksX0_keep_7 0 rfl rfl)
abbrev cX0_isKept : ByteArray := prog_1_method_54_code
def yX0_isKept : MethodName := ⟨RX0, "isKept", "(I)Z"⟩
def dkwX0_isKept_0 : List UInt8 := [26, 3, 5, 184, 0, 86, 172]
abbrev dktX0_isKept_0 : List UInt8 := dkwX0_isKept_0 ++ []
theorem dksX0_isKept_0 : cX0_isKept.data.toList.drop 0 = dktX0_isKept_0 := by decide +kernel
theorem dX0_isKept_0 : decode cX0_isKept 0 = .ok (.iload_n 0, 1) := dk_26 (dk_at dksX0_isKept_0 0 rfl rfl)
theorem dX0_isKept_1 : decode cX0_isKept 1 = .ok (.iconst 0, 1) := dk_3 (dk_at dksX0_isKept_0 1 rfl rfl)
theorem dX0_isKept_2 : decode cX0_isKept 2 = .ok (.iconst 2, 1) := dk_5 (dk_at dksX0_isKept_0 2 rfl rfl)
theorem dX0_isKept_3 : decode cX0_isKept 3 = .ok (.invokestatic 86, 3) := dk_184 0 86 (dk_at dksX0_isKept_0 3 rfl rfl)
theorem dX0_isKept_6 : decode cX0_isKept 6 = .ok (.ireturn, 1) := dk_172 (dk_at dksX0_isKept_0 6 rfl rfl)
abbrev cX0_on : ByteArray := prog_1_method_56_code
def yX0_on : MethodName := ⟨RX0, "on", "(I)I"⟩
def dkwX0_on_6 : List UInt8 := [132, 3, 1, 167, 255, 215, 42, 180, 0, 83, 172]
abbrev dktX0_on_6 : List UInt8 := dkwX0_on_6 ++ []
def dkwX0_on_5 : List UInt8 := [180, 1, 14, 29, 46, 181, 0, 205, 42, 180, 0, 40, 29, 50, 44, 180, 1, 17, 29, 46, 181, 0, 211]
abbrev dktX0_on_5 : List UInt8 := dkwX0_on_5 ++ dktX0_on_6
def dkwX0_on_4 : List UInt8 := [16, 7, 184, 0, 111, 3, 62, 29, 42, 180, 0, 175, 162, 0, 39, 42, 180, 0, 40, 29, 50, 44]
abbrev dktX0_on_4 : List UInt8 := dkwX0_on_4 ++ dktX0_on_5
def dkwX0_on_3 : List UInt8 := [180, 1, 12, 3, 42, 180, 0, 50, 3, 16, 7, 184, 0, 111, 44, 180, 1, 13, 3, 42, 180, 0, 47, 3]
abbrev dktX0_on_3 : List UInt8 := dkwX0_on_3 ++ dktX0_on_4
def dkwX0_on_2 : List UInt8 := [3, 16, 40, 184, 0, 111, 44, 180, 1, 11, 3, 42, 180, 0, 62, 3, 17, 1, 24, 184, 0, 111, 44]
abbrev dktX0_on_2 : List UInt8 := dkwX0_on_2 ++ dktX0_on_3
def dkwX0_on_1 : List UInt8 := [42, 180, 0, 67, 27, 50, 77, 42, 44, 180, 1, 9, 181, 0, 83, 44, 180, 1, 10, 3, 42, 180, 0, 59]
abbrev dktX0_on_1 : List UInt8 := dkwX0_on_1 ++ dktX0_on_2
def dkwX0_on_0 : List UInt8 := [27, 184, 1, 5, 154, 0, 5, 2, 172, 42, 180, 0, 67, 27, 50, 199, 0, 9, 42, 4, 182, 0, 96, 172]
abbrev dktX0_on_0 : List UInt8 := dkwX0_on_0 ++ dktX0_on_1
theorem dksX0_on_0 : cX0_on.data.toList.drop 0 = dktX0_on_0 := by decide +kernel
theorem dksX0_on_1 : cX0_on.data.toList.drop 24 = dktX0_on_1 := dk_seg dksX0_on_0 24 rfl rfl
theorem dksX0_on_2 : cX0_on.data.toList.drop 48 = dktX0_on_2 := dk_seg dksX0_on_1 24 rfl rfl
theorem dksX0_on_3 : cX0_on.data.toList.drop 71 = dktX0_on_3 := dk_seg dksX0_on_2 23 rfl rfl
theorem dksX0_on_4 : cX0_on.data.toList.drop 95 = dktX0_on_4 := dk_seg dksX0_on_3 24 rfl rfl
theorem dksX0_on_5 : cX0_on.data.toList.drop 117 = dktX0_on_5 := dk_seg dksX0_on_4 22 rfl rfl
theorem dksX0_on_6 : cX0_on.data.toList.drop 140 = dktX0_on_6 := dk_seg dksX0_on_5 23 rfl rfl
theorem dX0_on_0 : decode cX0_on 0 = .ok (.iload_n 1, 1) := dk_27 (dk_at dksX0_on_0 0 rfl rfl)
theorem dX0_on_1 : decode cX0_on 1 = .ok (.invokestatic 261, 3) := dk_184 1 5 (dk_at dksX0_on_0 1 rfl rfl)
theorem dX0_on_4 : decode cX0_on 4 = .ok (.ifCond .ne 5, 3) := dk_154 0 5 (dk_at dksX0_on_0 4 rfl rfl)
theorem dX0_on_7 : decode cX0_on 7 = .ok (.iconst (-1), 1) := dk_2 (dk_at dksX0_on_0 7 rfl rfl)
theorem dX0_on_8 : decode cX0_on 8 = .ok (.ireturn, 1) := dk_172 (dk_at dksX0_on_0 8 rfl rfl)
theorem dX0_on_9 : decode cX0_on 9 = .ok (.aload_n 0, 1) := dk_42 (dk_at dksX0_on_0 9 rfl rfl)
theorem dX0_on_10 : decode cX0_on 10 = .ok (.getfield 67, 3) := dk_180 0 67 (dk_at dksX0_on_0 10 rfl rfl)
theorem dX0_on_13 : decode cX0_on 13 = .ok (.iload_n 1, 1) := dk_27 (dk_at dksX0_on_0 13 rfl rfl)
theorem dX0_on_14 : decode cX0_on 14 = .ok (.aaload, 1) := dk_50 (dk_at dksX0_on_0 14 rfl rfl)
theorem dX0_on_15 : decode cX0_on 15 = .ok (.ifnonnull 9, 3) := dk_199 0 9 (dk_at dksX0_on_0 15 rfl rfl)
theorem dX0_on_18 : decode cX0_on 18 = .ok (.aload_n 0, 1) := dk_42 (dk_at dksX0_on_0 18 rfl rfl)
theorem dX0_on_19 : decode cX0_on 19 = .ok (.iconst 1, 1) := dk_4 (dk_at dksX0_on_0 19 rfl rfl)
theorem dX0_on_20 : decode cX0_on 20 = .ok (.invokevirtual 96, 3) := dk_182 0 96 (dk_at dksX0_on_0 20 rfl rfl)
theorem dX0_on_23 : decode cX0_on 23 = .ok (.ireturn, 1) := dk_172 (dk_at dksX0_on_0 23 rfl rfl)
theorem dX0_on_24 : decode cX0_on 24 = .ok (.aload_n 0, 1) := dk_42 (dk_at dksX0_on_1 0 rfl rfl)
theorem dX0_on_25 : decode cX0_on 25 = .ok (.getfield 67, 3) := dk_180 0 67 (dk_at dksX0_on_1 1 rfl rfl)
theorem dX0_on_28 : decode cX0_on 28 = .ok (.iload_n 1, 1) := dk_27 (dk_at dksX0_on_1 4 rfl rfl)
theorem dX0_on_29 : decode cX0_on 29 = .ok (.aaload, 1) := dk_50 (dk_at dksX0_on_1 5 rfl rfl)
theorem dX0_on_30 : decode cX0_on 30 = .ok (.astore_n 2, 1) := dk_77 (dk_at dksX0_on_1 6 rfl rfl)
theorem dX0_on_31 : decode cX0_on 31 = .ok (.aload_n 0, 1) := dk_42 (dk_at dksX0_on_1 7 rfl rfl)
theorem dX0_on_32 : decode cX0_on 32 = .ok (.aload_n 2, 1) := dk_44 (dk_at dksX0_on_1 8 rfl rfl)
theorem dX0_on_33 : decode cX0_on 33 = .ok (.getfield 265, 3) := dk_180 1 9 (dk_at dksX0_on_1 9 rfl rfl)
theorem dX0_on_36 : decode cX0_on 36 = .ok (.putfield 83, 3) := dk_181 0 83 (dk_at dksX0_on_1 12 rfl rfl)
theorem dX0_on_39 : decode cX0_on 39 = .ok (.aload_n 2, 1) := dk_44 (dk_at dksX0_on_1 15 rfl rfl)
theorem dX0_on_40 : decode cX0_on 40 = .ok (.getfield 266, 3) := dk_180 1 10 (dk_at dksX0_on_1 16 rfl rfl)
theorem dX0_on_43 : decode cX0_on 43 = .ok (.iconst 0, 1) := dk_3 (dk_at dksX0_on_1 19 rfl rfl)
theorem dX0_on_44 : decode cX0_on 44 = .ok (.aload_n 0, 1) := dk_42 (dk_at dksX0_on_1 20 rfl rfl)
theorem dX0_on_45 : decode cX0_on 45 = .ok (.getfield 59, 3) := dk_180 0 59 (dk_at dksX0_on_1 21 rfl rfl)
theorem dX0_on_48 : decode cX0_on 48 = .ok (.iconst 0, 1) := dk_3 (dk_at dksX0_on_2 0 rfl rfl)
theorem dX0_on_49 : decode cX0_on 49 = .ok (.bipush 40, 2) := dk_16 40 (dk_at dksX0_on_2 1 rfl rfl)
theorem dX0_on_51 : decode cX0_on 51 = .ok (.invokestatic 111, 3) := dk_184 0 111 (dk_at dksX0_on_2 3 rfl rfl)
theorem dX0_on_54 : decode cX0_on 54 = .ok (.aload_n 2, 1) := dk_44 (dk_at dksX0_on_2 6 rfl rfl)
theorem dX0_on_55 : decode cX0_on 55 = .ok (.getfield 267, 3) := dk_180 1 11 (dk_at dksX0_on_2 7 rfl rfl)
theorem dX0_on_58 : decode cX0_on 58 = .ok (.iconst 0, 1) := dk_3 (dk_at dksX0_on_2 10 rfl rfl)
theorem dX0_on_59 : decode cX0_on 59 = .ok (.aload_n 0, 1) := dk_42 (dk_at dksX0_on_2 11 rfl rfl)
theorem dX0_on_60 : decode cX0_on 60 = .ok (.getfield 62, 3) := dk_180 0 62 (dk_at dksX0_on_2 12 rfl rfl)
theorem dX0_on_63 : decode cX0_on 63 = .ok (.iconst 0, 1) := dk_3 (dk_at dksX0_on_2 15 rfl rfl)
theorem dX0_on_64 : decode cX0_on 64 = .ok (.sipush 280, 3) := dk_17 1 24 (dk_at dksX0_on_2 16 rfl rfl)
theorem dX0_on_67 : decode cX0_on 67 = .ok (.invokestatic 111, 3) := dk_184 0 111 (dk_at dksX0_on_2 19 rfl rfl)
theorem dX0_on_70 : decode cX0_on 70 = .ok (.aload_n 2, 1) := dk_44 (dk_at dksX0_on_2 22 rfl rfl)
theorem dX0_on_71 : decode cX0_on 71 = .ok (.getfield 268, 3) := dk_180 1 12 (dk_at dksX0_on_3 0 rfl rfl)
theorem dX0_on_74 : decode cX0_on 74 = .ok (.iconst 0, 1) := dk_3 (dk_at dksX0_on_3 3 rfl rfl)
theorem dX0_on_75 : decode cX0_on 75 = .ok (.aload_n 0, 1) := dk_42 (dk_at dksX0_on_3 4 rfl rfl)
theorem dX0_on_76 : decode cX0_on 76 = .ok (.getfield 50, 3) := dk_180 0 50 (dk_at dksX0_on_3 5 rfl rfl)
theorem dX0_on_79 : decode cX0_on 79 = .ok (.iconst 0, 1) := dk_3 (dk_at dksX0_on_3 8 rfl rfl)
theorem dX0_on_80 : decode cX0_on 80 = .ok (.bipush 7, 2) := dk_16 7 (dk_at dksX0_on_3 9 rfl rfl)
theorem dX0_on_82 : decode cX0_on 82 = .ok (.invokestatic 111, 3) := dk_184 0 111 (dk_at dksX0_on_3 11 rfl rfl)
theorem dX0_on_85 : decode cX0_on 85 = .ok (.aload_n 2, 1) := dk_44 (dk_at dksX0_on_3 14 rfl rfl)
theorem dX0_on_86 : decode cX0_on 86 = .ok (.getfield 269, 3) := dk_180 1 13 (dk_at dksX0_on_3 15 rfl rfl)
theorem dX0_on_89 : decode cX0_on 89 = .ok (.iconst 0, 1) := dk_3 (dk_at dksX0_on_3 18 rfl rfl)
theorem dX0_on_90 : decode cX0_on 90 = .ok (.aload_n 0, 1) := dk_42 (dk_at dksX0_on_3 19 rfl rfl)
theorem dX0_on_91 : decode cX0_on 91 = .ok (.getfield 47, 3) := dk_180 0 47 (dk_at dksX0_on_3 20 rfl rfl)
theorem dX0_on_94 : decode cX0_on 94 = .ok (.iconst 0, 1) := dk_3 (dk_at dksX0_on_3 23 rfl rfl)
theorem dX0_on_95 : decode cX0_on 95 = .ok (.bipush 7, 2) := dk_16 7 (dk_at dksX0_on_4 0 rfl rfl)
theorem dX0_on_97 : decode cX0_on 97 = .ok (.invokestatic 111, 3) := dk_184 0 111 (dk_at dksX0_on_4 2 rfl rfl)
theorem dX0_on_100 : decode cX0_on 100 = .ok (.iconst 0, 1) := dk_3 (dk_at dksX0_on_4 5 rfl rfl)
theorem dX0_on_101 : decode cX0_on 101 = .ok (.istore_n 3, 1) := dk_62 (dk_at dksX0_on_4 6 rfl rfl)
theorem dX0_on_102 : decode cX0_on 102 = .ok (.iload_n 3, 1) := dk_29 (dk_at dksX0_on_4 7 rfl rfl)
theorem dX0_on_103 : decode cX0_on 103 = .ok (.aload_n 0, 1) := dk_42 (dk_at dksX0_on_4 8 rfl rfl)
theorem dX0_on_104 : decode cX0_on 104 = .ok (.getfield 175, 3) := dk_180 0 175 (dk_at dksX0_on_4 9 rfl rfl)
theorem dX0_on_107 : decode cX0_on 107 = .ok (.if_icmp .ge 39, 3) := dk_162 0 39 (dk_at dksX0_on_4 12 rfl rfl)
theorem dX0_on_110 : decode cX0_on 110 = .ok (.aload_n 0, 1) := dk_42 (dk_at dksX0_on_4 15 rfl rfl)
theorem dX0_on_111 : decode cX0_on 111 = .ok (.getfield 40, 3) := dk_180 0 40 (dk_at dksX0_on_4 16 rfl rfl)
theorem dX0_on_114 : decode cX0_on 114 = .ok (.iload_n 3, 1) := dk_29 (dk_at dksX0_on_4 19 rfl rfl)
theorem dX0_on_115 : decode cX0_on 115 = .ok (.aaload, 1) := dk_50 (dk_at dksX0_on_4 20 rfl rfl)
theorem dX0_on_116 : decode cX0_on 116 = .ok (.aload_n 2, 1) := dk_44 (dk_at dksX0_on_4 21 rfl rfl)
theorem dX0_on_117 : decode cX0_on 117 = .ok (.getfield 270, 3) := dk_180 1 14 (dk_at dksX0_on_5 0 rfl rfl)
theorem dX0_on_120 : decode cX0_on 120 = .ok (.iload_n 3, 1) := dk_29 (dk_at dksX0_on_5 3 rfl rfl)
theorem dX0_on_121 : decode cX0_on 121 = .ok (.iaload, 1) := dk_46 (dk_at dksX0_on_5 4 rfl rfl)
theorem dX0_on_122 : decode cX0_on 122 = .ok (.putfield 205, 3) := dk_181 0 205 (dk_at dksX0_on_5 5 rfl rfl)
theorem dX0_on_125 : decode cX0_on 125 = .ok (.aload_n 0, 1) := dk_42 (dk_at dksX0_on_5 8 rfl rfl)
theorem dX0_on_126 : decode cX0_on 126 = .ok (.getfield 40, 3) := dk_180 0 40 (dk_at dksX0_on_5 9 rfl rfl)
theorem dX0_on_129 : decode cX0_on 129 = .ok (.iload_n 3, 1) := dk_29 (dk_at dksX0_on_5 12 rfl rfl)
theorem dX0_on_130 : decode cX0_on 130 = .ok (.aaload, 1) := dk_50 (dk_at dksX0_on_5 13 rfl rfl)
theorem dX0_on_131 : decode cX0_on 131 = .ok (.aload_n 2, 1) := dk_44 (dk_at dksX0_on_5 14 rfl rfl)
theorem dX0_on_132 : decode cX0_on 132 = .ok (.getfield 273, 3) := dk_180 1 17 (dk_at dksX0_on_5 15 rfl rfl)
theorem dX0_on_135 : decode cX0_on 135 = .ok (.iload_n 3, 1) := dk_29 (dk_at dksX0_on_5 18 rfl rfl)
theorem dX0_on_136 : decode cX0_on 136 = .ok (.iaload, 1) := dk_46 (dk_at dksX0_on_5 19 rfl rfl)
theorem dX0_on_137 : decode cX0_on 137 = .ok (.putfield 211, 3) := dk_181 0 211 (dk_at dksX0_on_5 20 rfl rfl)
theorem dX0_on_140 : decode cX0_on 140 = .ok (.iinc 3 1, 3) := dk_132 3 1 (dk_at dksX0_on_6 0 rfl rfl)
theorem dX0_on_143 : decode cX0_on 143 = .ok (.goto (-41), 3) := dk_167 255 215 (dk_at dksX0_on_6 3 rfl rfl)
theorem dX0_on_146 : decode cX0_on 146 = .ok (.aload_n 0, 1) := dk_42 (dk_at dksX0_on_6 6 rfl rfl)
theorem dX0_on_147 : decode cX0_on 147 = .ok (.getfield 83, 3) := dk_180 0 83 (dk_at dksX0_on_6 7 rfl rfl)
theorem dX0_on_150 : decode cX0_on 150 = .ok (.ireturn, 1) := dk_172 (dk_at dksX0_on_6 10 rfl rfl)
abbrev cX0_match : ByteArray := prog_1_method_61_code
def yX0_match : MethodName := ⟨RX0, "match", "(I)I"⟩
def dkwX0_match_0 : List UInt8 := [42, 27, 3, 182, 1, 36, 172]
abbrev dktX0_match_0 : List UInt8 := dkwX0_match_0 ++ []
theorem dksX0_match_0 : cX0_match.data.toList.drop 0 = dktX0_match_0 := by decide +kernel
theorem dX0_match_0 : decode cX0_match 0 = .ok (.aload_n 0, 1) := dk_42 (dk_at dksX0_match_0 0 rfl rfl)
theorem dX0_match_1 : decode cX0_match 1 = .ok (.iload_n 1, 1) := dk_27 (dk_at dksX0_match_0 1 rfl rfl)
theorem dX0_match_2 : decode cX0_match 2 = .ok (.iconst 0, 1) := dk_3 (dk_at dksX0_match_0 2 rfl rfl)
theorem dX0_match_3 : decode cX0_match 3 = .ok (.invokevirtual 292, 3) := dk_182 1 36 (dk_at dksX0_match_0 3 rfl rfl)
theorem dX0_match_6 : decode cX0_match 6 = .ok (.ireturn, 1) := dk_172 (dk_at dksX0_match_0 6 rfl rfl)
abbrev cX0_matchTo : ByteArray := prog_1_method_60_code
def yX0_matchTo : MethodName := ⟨RX0, "matchTo", "(IZ)I"⟩
def dkwX0_matchTo_2 : List UInt8 := [27, 50, 3, 42, 180, 0, 182, 184, 0, 111, 42, 180, 1, 20, 172]
abbrev dktX0_matchTo_2 : List UInt8 := dkwX0_matchTo_2 ++ []
def dkwX0_matchTo_1 : List UInt8 := [182, 1, 29, 42, 180, 0, 28, 27, 42, 180, 0, 182, 188, 10, 83, 42, 180, 0, 74, 3, 42, 180, 0, 28]
abbrev dktX0_matchTo_1 : List UInt8 := dkwX0_matchTo_1 ++ dktX0_matchTo_2
def dkwX0_matchTo_0 : List UInt8 := [27, 184, 0, 90, 154, 0, 5, 2, 172, 42, 2, 181, 1, 20, 42, 3, 42, 182, 1, 33, 3, 28]
abbrev dktX0_matchTo_0 : List UInt8 := dkwX0_matchTo_0 ++ dktX0_matchTo_1
theorem dksX0_matchTo_0 : cX0_matchTo.data.toList.drop 0 = dktX0_matchTo_0 := by decide +kernel
theorem dksX0_matchTo_1 : cX0_matchTo.data.toList.drop 22 = dktX0_matchTo_1 := dk_seg dksX0_matchTo_0 22 rfl rfl
theorem dksX0_matchTo_2 : cX0_matchTo.data.toList.drop 46 = dktX0_matchTo_2 := dk_seg dksX0_matchTo_1 24 rfl rfl
theorem dX0_matchTo_0 : decode cX0_matchTo 0 = .ok (.iload_n 1, 1) := dk_27 (dk_at dksX0_matchTo_0 0 rfl rfl)
theorem dX0_matchTo_1 : decode cX0_matchTo 1 = .ok (.invokestatic 90, 3) := dk_184 0 90 (dk_at dksX0_matchTo_0 1 rfl rfl)
theorem dX0_matchTo_4 : decode cX0_matchTo 4 = .ok (.ifCond .ne 5, 3) := dk_154 0 5 (dk_at dksX0_matchTo_0 4 rfl rfl)
theorem dX0_matchTo_7 : decode cX0_matchTo 7 = .ok (.iconst (-1), 1) := dk_2 (dk_at dksX0_matchTo_0 7 rfl rfl)
theorem dX0_matchTo_8 : decode cX0_matchTo 8 = .ok (.ireturn, 1) := dk_172 (dk_at dksX0_matchTo_0 8 rfl rfl)
theorem dX0_matchTo_9 : decode cX0_matchTo 9 = .ok (.aload_n 0, 1) := dk_42 (dk_at dksX0_matchTo_0 9 rfl rfl)
theorem dX0_matchTo_10 : decode cX0_matchTo 10 = .ok (.iconst (-1), 1) := dk_2 (dk_at dksX0_matchTo_0 10 rfl rfl)
theorem dX0_matchTo_11 : decode cX0_matchTo 11 = .ok (.putfield 276, 3) := dk_181 1 20 (dk_at dksX0_matchTo_0 11 rfl rfl)
theorem dX0_matchTo_14 : decode cX0_matchTo 14 = .ok (.aload_n 0, 1) := dk_42 (dk_at dksX0_matchTo_0 14 rfl rfl)
theorem dX0_matchTo_15 : decode cX0_matchTo 15 = .ok (.iconst 0, 1) := dk_3 (dk_at dksX0_matchTo_0 15 rfl rfl)
theorem dX0_matchTo_16 : decode cX0_matchTo 16 = .ok (.aload_n 0, 1) := dk_42 (dk_at dksX0_matchTo_0 16 rfl rfl)
theorem dX0_matchTo_17 : decode cX0_matchTo 17 = .ok (.invokevirtual 289, 3) := dk_182 1 33 (dk_at dksX0_matchTo_0 17 rfl rfl)
theorem dX0_matchTo_20 : decode cX0_matchTo 20 = .ok (.iconst 0, 1) := dk_3 (dk_at dksX0_matchTo_0 20 rfl rfl)
theorem dX0_matchTo_21 : decode cX0_matchTo 21 = .ok (.iload_n 2, 1) := dk_28 (dk_at dksX0_matchTo_0 21 rfl rfl)
theorem dX0_matchTo_22 : decode cX0_matchTo 22 = .ok (.invokevirtual 285, 3) := dk_182 1 29 (dk_at dksX0_matchTo_1 0 rfl rfl)
theorem dX0_matchTo_25 : decode cX0_matchTo 25 = .ok (.aload_n 0, 1) := dk_42 (dk_at dksX0_matchTo_1 3 rfl rfl)
theorem dX0_matchTo_26 : decode cX0_matchTo 26 = .ok (.getfield 28, 3) := dk_180 0 28 (dk_at dksX0_matchTo_1 4 rfl rfl)
theorem dX0_matchTo_29 : decode cX0_matchTo 29 = .ok (.iload_n 1, 1) := dk_27 (dk_at dksX0_matchTo_1 7 rfl rfl)
theorem dX0_matchTo_30 : decode cX0_matchTo 30 = .ok (.aload_n 0, 1) := dk_42 (dk_at dksX0_matchTo_1 8 rfl rfl)
theorem dX0_matchTo_31 : decode cX0_matchTo 31 = .ok (.getfield 182, 3) := dk_180 0 182 (dk_at dksX0_matchTo_1 9 rfl rfl)
theorem dX0_matchTo_34 : decode cX0_matchTo 34 = .ok (.newarray .int, 2) := dk_188_10 (dk_at dksX0_matchTo_1 12 rfl rfl)
theorem dX0_matchTo_36 : decode cX0_matchTo 36 = .ok (.aastore, 1) := dk_83 (dk_at dksX0_matchTo_1 14 rfl rfl)
theorem dX0_matchTo_37 : decode cX0_matchTo 37 = .ok (.aload_n 0, 1) := dk_42 (dk_at dksX0_matchTo_1 15 rfl rfl)
theorem dX0_matchTo_38 : decode cX0_matchTo 38 = .ok (.getfield 74, 3) := dk_180 0 74 (dk_at dksX0_matchTo_1 16 rfl rfl)
theorem dX0_matchTo_41 : decode cX0_matchTo 41 = .ok (.iconst 0, 1) := dk_3 (dk_at dksX0_matchTo_1 19 rfl rfl)
theorem dX0_matchTo_42 : decode cX0_matchTo 42 = .ok (.aload_n 0, 1) := dk_42 (dk_at dksX0_matchTo_1 20 rfl rfl)
theorem dX0_matchTo_43 : decode cX0_matchTo 43 = .ok (.getfield 28, 3) := dk_180 0 28 (dk_at dksX0_matchTo_1 21 rfl rfl)
theorem dX0_matchTo_46 : decode cX0_matchTo 46 = .ok (.iload_n 1, 1) := dk_27 (dk_at dksX0_matchTo_2 0 rfl rfl)
theorem dX0_matchTo_47 : decode cX0_matchTo 47 = .ok (.aaload, 1) := dk_50 (dk_at dksX0_matchTo_2 1 rfl rfl)
theorem dX0_matchTo_48 : decode cX0_matchTo 48 = .ok (.iconst 0, 1) := dk_3 (dk_at dksX0_matchTo_2 2 rfl rfl)
theorem dX0_matchTo_49 : decode cX0_matchTo 49 = .ok (.aload_n 0, 1) := dk_42 (dk_at dksX0_matchTo_2 3 rfl rfl)
theorem dX0_matchTo_50 : decode cX0_matchTo 50 = .ok (.getfield 182, 3) := dk_180 0 182 (dk_at dksX0_matchTo_2 4 rfl rfl)
theorem dX0_matchTo_53 : decode cX0_matchTo 53 = .ok (.invokestatic 111, 3) := dk_184 0 111 (dk_at dksX0_matchTo_2 7 rfl rfl)
theorem dX0_matchTo_56 : decode cX0_matchTo 56 = .ok (.aload_n 0, 1) := dk_42 (dk_at dksX0_matchTo_2 10 rfl rfl)
theorem dX0_matchTo_57 : decode cX0_matchTo 57 = .ok (.getfield 276, 3) := dk_180 1 20 (dk_at dksX0_matchTo_2 11 rfl rfl)
theorem dX0_matchTo_60 : decode cX0_matchTo 60 = .ok (.ireturn, 1) := dk_172 (dk_at dksX0_matchTo_2 14 rfl rfl)
abbrev cX0_freeCards : ByteArray := prog_1_method_57_code
def yX0_freeCards : MethodName := ⟨RX0, "freeCards", "()I"⟩
def dkwX0_freeCards_2 : List UInt8 := [132, 2, 1, 167, 255, 217, 27, 172]
abbrev dktX0_freeCards_2 : List UInt8 := dkwX0_freeCards_2 ++ []
def dkwX0_freeCards_1 : List UInt8 := [28, 46, 16, 247, 160, 0, 7, 2, 167, 0, 13, 4, 42, 180, 0, 50, 28, 46, 120, 2, 130, 126, 60]
abbrev dktX0_freeCards_1 : List UInt8 := dkwX0_freeCards_1 ++ dktX0_freeCards_2
def dkwX0_freeCards_0 : List UInt8 := [4, 42, 180, 0, 175, 120, 4, 100, 60, 3, 61, 28, 42, 180, 0, 182, 162, 0, 37, 27, 42, 180, 0, 50]
abbrev dktX0_freeCards_0 : List UInt8 := dkwX0_freeCards_0 ++ dktX0_freeCards_1
theorem dksX0_freeCards_0 : cX0_freeCards.data.toList.drop 0 = dktX0_freeCards_0 := by decide +kernel
theorem dksX0_freeCards_1 : cX0_freeCards.data.toList.drop 24 = dktX0_freeCards_1 := dk_seg dksX0_freeCards_0 24 rfl rfl
theorem dksX0_freeCards_2 : cX0_freeCards.data.toList.drop 47 = dktX0_freeCards_2 := dk_seg dksX0_freeCards_1 23 rfl rfl
theorem dX0_freeCards_0 : decode cX0_freeCards 0 = .ok (.iconst 1, 1) := dk_4 (dk_at dksX0_freeCards_0 0 rfl rfl)
theorem dX0_freeCards_1 : decode cX0_freeCards 1 = .ok (.aload_n 0, 1) := dk_42 (dk_at dksX0_freeCards_0 1 rfl rfl)
theorem dX0_freeCards_2 : decode cX0_freeCards 2 = .ok (.getfield 175, 3) := dk_180 0 175 (dk_at dksX0_freeCards_0 2 rfl rfl)
theorem dX0_freeCards_5 : decode cX0_freeCards 5 = .ok (.ishl, 1) := dk_120 (dk_at dksX0_freeCards_0 5 rfl rfl)
theorem dX0_freeCards_6 : decode cX0_freeCards 6 = .ok (.iconst 1, 1) := dk_4 (dk_at dksX0_freeCards_0 6 rfl rfl)
theorem dX0_freeCards_7 : decode cX0_freeCards 7 = .ok (.isub, 1) := dk_100 (dk_at dksX0_freeCards_0 7 rfl rfl)
theorem dX0_freeCards_8 : decode cX0_freeCards 8 = .ok (.istore_n 1, 1) := dk_60 (dk_at dksX0_freeCards_0 8 rfl rfl)
theorem dX0_freeCards_9 : decode cX0_freeCards 9 = .ok (.iconst 0, 1) := dk_3 (dk_at dksX0_freeCards_0 9 rfl rfl)
theorem dX0_freeCards_10 : decode cX0_freeCards 10 = .ok (.istore_n 2, 1) := dk_61 (dk_at dksX0_freeCards_0 10 rfl rfl)
theorem dX0_freeCards_11 : decode cX0_freeCards 11 = .ok (.iload_n 2, 1) := dk_28 (dk_at dksX0_freeCards_0 11 rfl rfl)
theorem dX0_freeCards_12 : decode cX0_freeCards 12 = .ok (.aload_n 0, 1) := dk_42 (dk_at dksX0_freeCards_0 12 rfl rfl)
theorem dX0_freeCards_13 : decode cX0_freeCards 13 = .ok (.getfield 182, 3) := dk_180 0 182 (dk_at dksX0_freeCards_0 13 rfl rfl)
theorem dX0_freeCards_16 : decode cX0_freeCards 16 = .ok (.if_icmp .ge 37, 3) := dk_162 0 37 (dk_at dksX0_freeCards_0 16 rfl rfl)
theorem dX0_freeCards_19 : decode cX0_freeCards 19 = .ok (.iload_n 1, 1) := dk_27 (dk_at dksX0_freeCards_0 19 rfl rfl)
theorem dX0_freeCards_20 : decode cX0_freeCards 20 = .ok (.aload_n 0, 1) := dk_42 (dk_at dksX0_freeCards_0 20 rfl rfl)
theorem dX0_freeCards_21 : decode cX0_freeCards 21 = .ok (.getfield 50, 3) := dk_180 0 50 (dk_at dksX0_freeCards_0 21 rfl rfl)
theorem dX0_freeCards_24 : decode cX0_freeCards 24 = .ok (.iload_n 2, 1) := dk_28 (dk_at dksX0_freeCards_1 0 rfl rfl)
theorem dX0_freeCards_25 : decode cX0_freeCards 25 = .ok (.iaload, 1) := dk_46 (dk_at dksX0_freeCards_1 1 rfl rfl)
theorem dX0_freeCards_26 : decode cX0_freeCards 26 = .ok (.bipush (-9), 2) := dk_16 247 (dk_at dksX0_freeCards_1 2 rfl rfl)
theorem dX0_freeCards_28 : decode cX0_freeCards 28 = .ok (.if_icmp .ne 7, 3) := dk_160 0 7 (dk_at dksX0_freeCards_1 4 rfl rfl)
theorem dX0_freeCards_31 : decode cX0_freeCards 31 = .ok (.iconst (-1), 1) := dk_2 (dk_at dksX0_freeCards_1 7 rfl rfl)
theorem dX0_freeCards_32 : decode cX0_freeCards 32 = .ok (.goto 13, 3) := dk_167 0 13 (dk_at dksX0_freeCards_1 8 rfl rfl)
theorem dX0_freeCards_35 : decode cX0_freeCards 35 = .ok (.iconst 1, 1) := dk_4 (dk_at dksX0_freeCards_1 11 rfl rfl)
theorem dX0_freeCards_36 : decode cX0_freeCards 36 = .ok (.aload_n 0, 1) := dk_42 (dk_at dksX0_freeCards_1 12 rfl rfl)
theorem dX0_freeCards_37 : decode cX0_freeCards 37 = .ok (.getfield 50, 3) := dk_180 0 50 (dk_at dksX0_freeCards_1 13 rfl rfl)
theorem dX0_freeCards_40 : decode cX0_freeCards 40 = .ok (.iload_n 2, 1) := dk_28 (dk_at dksX0_freeCards_1 16 rfl rfl)
theorem dX0_freeCards_41 : decode cX0_freeCards 41 = .ok (.iaload, 1) := dk_46 (dk_at dksX0_freeCards_1 17 rfl rfl)
theorem dX0_freeCards_42 : decode cX0_freeCards 42 = .ok (.ishl, 1) := dk_120 (dk_at dksX0_freeCards_1 18 rfl rfl)
theorem dX0_freeCards_43 : decode cX0_freeCards 43 = .ok (.iconst (-1), 1) := dk_2 (dk_at dksX0_freeCards_1 19 rfl rfl)
theorem dX0_freeCards_44 : decode cX0_freeCards 44 = .ok (.ixor, 1) := dk_130 (dk_at dksX0_freeCards_1 20 rfl rfl)
theorem dX0_freeCards_45 : decode cX0_freeCards 45 = .ok (.iand, 1) := dk_126 (dk_at dksX0_freeCards_1 21 rfl rfl)
theorem dX0_freeCards_46 : decode cX0_freeCards 46 = .ok (.istore_n 1, 1) := dk_60 (dk_at dksX0_freeCards_1 22 rfl rfl)
theorem dX0_freeCards_47 : decode cX0_freeCards 47 = .ok (.iinc 2 1, 3) := dk_132 2 1 (dk_at dksX0_freeCards_2 0 rfl rfl)
theorem dX0_freeCards_50 : decode cX0_freeCards 50 = .ok (.goto (-39), 3) := dk_167 255 217 (dk_at dksX0_freeCards_2 3 rfl rfl)
theorem dX0_freeCards_53 : decode cX0_freeCards 53 = .ok (.iload_n 1, 1) := dk_27 (dk_at dksX0_freeCards_2 6 rfl rfl)
theorem dX0_freeCards_54 : decode cX0_freeCards 54 = .ok (.ireturn, 1) := dk_172 (dk_at dksX0_freeCards_2 7 rfl rfl)
abbrev cX0_bestOn : ByteArray := prog_1_method_59_code
def yX0_bestOn : MethodName := ⟨RX0, "bestOn", "(IIIZ)V"⟩
def dkwX0_bestOn_5 : List UInt8 := [167, 255, 192, 42, 180, 0, 71, 27, 16, 247, 79, 42, 27, 4, 96, 28, 29, 21, 4, 182, 1, 29, 177]
abbrev dktX0_bestOn_5 : List UInt8 := dkwX0_bestOn_5 ++ []
def dkwX0_bestOn_4 : List UInt8 := [153, 0, 12, 42, 27, 6, 182, 0, 191, 167, 0, 4, 4, 96, 21, 4, 182, 1, 29, 132, 6, 1]
abbrev dktX0_bestOn_4 : List UInt8 := dkwX0_bestOn_4 ++ dktX0_bestOn_5
def dkwX0_bestOn_3 : List UInt8 := [180, 0, 71, 27, 21, 6, 79, 42, 27, 4, 96, 28, 4, 21, 6, 120, 2, 130, 126, 29, 21, 4]
abbrev dktX0_bestOn_3 : List UInt8 := dkwX0_bestOn_3 ++ dktX0_bestOn_4
def dkwX0_bestOn_2 : List UInt8 := [54, 6, 21, 6, 42, 180, 0, 175, 162, 0, 61, 21, 5, 21, 6, 184, 1, 26, 153, 0, 45, 42]
abbrev dktX0_bestOn_2 : List UInt8 := dkwX0_bestOn_2 ++ dktX0_bestOn_3
def dkwX0_bestOn_1 : List UInt8 := [180, 0, 71, 3, 42, 180, 0, 74, 3, 16, 7, 184, 0, 111, 177, 42, 27, 28, 182, 1, 23, 54, 5, 3]
abbrev dktX0_bestOn_1 : List UInt8 := dkwX0_bestOn_1 ++ dktX0_bestOn_2
def dkwX0_bestOn_0 : List UInt8 := [27, 42, 180, 0, 182, 160, 0, 32, 29, 42, 180, 1, 20, 164, 0, 23, 42, 29, 181, 1, 20, 42]
abbrev dktX0_bestOn_0 : List UInt8 := dkwX0_bestOn_0 ++ dktX0_bestOn_1
theorem dksX0_bestOn_0 : cX0_bestOn.data.toList.drop 0 = dktX0_bestOn_0 := by decide +kernel
theorem dksX0_bestOn_1 : cX0_bestOn.data.toList.drop 22 = dktX0_bestOn_1 := dk_seg dksX0_bestOn_0 22 rfl rfl
theorem dksX0_bestOn_2 : cX0_bestOn.data.toList.drop 46 = dktX0_bestOn_2 := dk_seg dksX0_bestOn_1 24 rfl rfl
theorem dksX0_bestOn_3 : cX0_bestOn.data.toList.drop 68 = dktX0_bestOn_3 := dk_seg dksX0_bestOn_2 22 rfl rfl
theorem dksX0_bestOn_4 : cX0_bestOn.data.toList.drop 90 = dktX0_bestOn_4 := dk_seg dksX0_bestOn_3 22 rfl rfl
theorem dksX0_bestOn_5 : cX0_bestOn.data.toList.drop 112 = dktX0_bestOn_5 := dk_seg dksX0_bestOn_4 22 rfl rfl
theorem dX0_bestOn_0 : decode cX0_bestOn 0 = .ok (.iload_n 1, 1) := dk_27 (dk_at dksX0_bestOn_0 0 rfl rfl)
theorem dX0_bestOn_1 : decode cX0_bestOn 1 = .ok (.aload_n 0, 1) := dk_42 (dk_at dksX0_bestOn_0 1 rfl rfl)
theorem dX0_bestOn_2 : decode cX0_bestOn 2 = .ok (.getfield 182, 3) := dk_180 0 182 (dk_at dksX0_bestOn_0 2 rfl rfl)
theorem dX0_bestOn_5 : decode cX0_bestOn 5 = .ok (.if_icmp .ne 32, 3) := dk_160 0 32 (dk_at dksX0_bestOn_0 5 rfl rfl)
theorem dX0_bestOn_8 : decode cX0_bestOn 8 = .ok (.iload_n 3, 1) := dk_29 (dk_at dksX0_bestOn_0 8 rfl rfl)
theorem dX0_bestOn_9 : decode cX0_bestOn 9 = .ok (.aload_n 0, 1) := dk_42 (dk_at dksX0_bestOn_0 9 rfl rfl)
theorem dX0_bestOn_10 : decode cX0_bestOn 10 = .ok (.getfield 276, 3) := dk_180 1 20 (dk_at dksX0_bestOn_0 10 rfl rfl)
theorem dX0_bestOn_13 : decode cX0_bestOn 13 = .ok (.if_icmp .le 23, 3) := dk_164 0 23 (dk_at dksX0_bestOn_0 13 rfl rfl)
theorem dX0_bestOn_16 : decode cX0_bestOn 16 = .ok (.aload_n 0, 1) := dk_42 (dk_at dksX0_bestOn_0 16 rfl rfl)
theorem dX0_bestOn_17 : decode cX0_bestOn 17 = .ok (.iload_n 3, 1) := dk_29 (dk_at dksX0_bestOn_0 17 rfl rfl)
theorem dX0_bestOn_18 : decode cX0_bestOn 18 = .ok (.putfield 276, 3) := dk_181 1 20 (dk_at dksX0_bestOn_0 18 rfl rfl)
theorem dX0_bestOn_21 : decode cX0_bestOn 21 = .ok (.aload_n 0, 1) := dk_42 (dk_at dksX0_bestOn_0 21 rfl rfl)
theorem dX0_bestOn_22 : decode cX0_bestOn 22 = .ok (.getfield 71, 3) := dk_180 0 71 (dk_at dksX0_bestOn_1 0 rfl rfl)
theorem dX0_bestOn_25 : decode cX0_bestOn 25 = .ok (.iconst 0, 1) := dk_3 (dk_at dksX0_bestOn_1 3 rfl rfl)
theorem dX0_bestOn_26 : decode cX0_bestOn 26 = .ok (.aload_n 0, 1) := dk_42 (dk_at dksX0_bestOn_1 4 rfl rfl)
theorem dX0_bestOn_27 : decode cX0_bestOn 27 = .ok (.getfield 74, 3) := dk_180 0 74 (dk_at dksX0_bestOn_1 5 rfl rfl)
theorem dX0_bestOn_30 : decode cX0_bestOn 30 = .ok (.iconst 0, 1) := dk_3 (dk_at dksX0_bestOn_1 8 rfl rfl)
theorem dX0_bestOn_31 : decode cX0_bestOn 31 = .ok (.bipush 7, 2) := dk_16 7 (dk_at dksX0_bestOn_1 9 rfl rfl)
theorem dX0_bestOn_33 : decode cX0_bestOn 33 = .ok (.invokestatic 111, 3) := dk_184 0 111 (dk_at dksX0_bestOn_1 11 rfl rfl)
theorem dX0_bestOn_36 : decode cX0_bestOn 36 = .ok (.return_, 1) := dk_177 (dk_at dksX0_bestOn_1 14 rfl rfl)
theorem dX0_bestOn_37 : decode cX0_bestOn 37 = .ok (.aload_n 0, 1) := dk_42 (dk_at dksX0_bestOn_1 15 rfl rfl)
theorem dX0_bestOn_38 : decode cX0_bestOn 38 = .ok (.iload_n 1, 1) := dk_27 (dk_at dksX0_bestOn_1 16 rfl rfl)
theorem dX0_bestOn_39 : decode cX0_bestOn 39 = .ok (.iload_n 2, 1) := dk_28 (dk_at dksX0_bestOn_1 17 rfl rfl)
theorem dX0_bestOn_40 : decode cX0_bestOn 40 = .ok (.invokevirtual 279, 3) := dk_182 1 23 (dk_at dksX0_bestOn_1 18 rfl rfl)
theorem dX0_bestOn_43 : decode cX0_bestOn 43 = .ok (.istore 5, 2) := dk_54 5 (dk_at dksX0_bestOn_1 21 rfl rfl)
theorem dX0_bestOn_45 : decode cX0_bestOn 45 = .ok (.iconst 0, 1) := dk_3 (dk_at dksX0_bestOn_1 23 rfl rfl)
theorem dX0_bestOn_46 : decode cX0_bestOn 46 = .ok (.istore 6, 2) := dk_54 6 (dk_at dksX0_bestOn_2 0 rfl rfl)
theorem dX0_bestOn_48 : decode cX0_bestOn 48 = .ok (.iload 6, 2) := dk_21 6 (dk_at dksX0_bestOn_2 2 rfl rfl)
theorem dX0_bestOn_50 : decode cX0_bestOn 50 = .ok (.aload_n 0, 1) := dk_42 (dk_at dksX0_bestOn_2 4 rfl rfl)
theorem dX0_bestOn_51 : decode cX0_bestOn 51 = .ok (.getfield 175, 3) := dk_180 0 175 (dk_at dksX0_bestOn_2 5 rfl rfl)
theorem dX0_bestOn_54 : decode cX0_bestOn 54 = .ok (.if_icmp .ge 61, 3) := dk_162 0 61 (dk_at dksX0_bestOn_2 8 rfl rfl)
theorem dX0_bestOn_57 : decode cX0_bestOn 57 = .ok (.iload 5, 2) := dk_21 5 (dk_at dksX0_bestOn_2 11 rfl rfl)
theorem dX0_bestOn_59 : decode cX0_bestOn 59 = .ok (.iload 6, 2) := dk_21 6 (dk_at dksX0_bestOn_2 13 rfl rfl)
theorem dX0_bestOn_61 : decode cX0_bestOn 61 = .ok (.invokestatic 282, 3) := dk_184 1 26 (dk_at dksX0_bestOn_2 15 rfl rfl)
theorem dX0_bestOn_64 : decode cX0_bestOn 64 = .ok (.ifCond .eq 45, 3) := dk_153 0 45 (dk_at dksX0_bestOn_2 18 rfl rfl)
theorem dX0_bestOn_67 : decode cX0_bestOn 67 = .ok (.aload_n 0, 1) := dk_42 (dk_at dksX0_bestOn_2 21 rfl rfl)
theorem dX0_bestOn_68 : decode cX0_bestOn 68 = .ok (.getfield 71, 3) := dk_180 0 71 (dk_at dksX0_bestOn_3 0 rfl rfl)
theorem dX0_bestOn_71 : decode cX0_bestOn 71 = .ok (.iload_n 1, 1) := dk_27 (dk_at dksX0_bestOn_3 3 rfl rfl)
theorem dX0_bestOn_72 : decode cX0_bestOn 72 = .ok (.iload 6, 2) := dk_21 6 (dk_at dksX0_bestOn_3 4 rfl rfl)
theorem dX0_bestOn_74 : decode cX0_bestOn 74 = .ok (.iastore, 1) := dk_79 (dk_at dksX0_bestOn_3 6 rfl rfl)
theorem dX0_bestOn_75 : decode cX0_bestOn 75 = .ok (.aload_n 0, 1) := dk_42 (dk_at dksX0_bestOn_3 7 rfl rfl)
theorem dX0_bestOn_76 : decode cX0_bestOn 76 = .ok (.iload_n 1, 1) := dk_27 (dk_at dksX0_bestOn_3 8 rfl rfl)
theorem dX0_bestOn_77 : decode cX0_bestOn 77 = .ok (.iconst 1, 1) := dk_4 (dk_at dksX0_bestOn_3 9 rfl rfl)
theorem dX0_bestOn_78 : decode cX0_bestOn 78 = .ok (.iadd, 1) := dk_96 (dk_at dksX0_bestOn_3 10 rfl rfl)
theorem dX0_bestOn_79 : decode cX0_bestOn 79 = .ok (.iload_n 2, 1) := dk_28 (dk_at dksX0_bestOn_3 11 rfl rfl)
theorem dX0_bestOn_80 : decode cX0_bestOn 80 = .ok (.iconst 1, 1) := dk_4 (dk_at dksX0_bestOn_3 12 rfl rfl)
theorem dX0_bestOn_81 : decode cX0_bestOn 81 = .ok (.iload 6, 2) := dk_21 6 (dk_at dksX0_bestOn_3 13 rfl rfl)
theorem dX0_bestOn_83 : decode cX0_bestOn 83 = .ok (.ishl, 1) := dk_120 (dk_at dksX0_bestOn_3 15 rfl rfl)
theorem dX0_bestOn_84 : decode cX0_bestOn 84 = .ok (.iconst (-1), 1) := dk_2 (dk_at dksX0_bestOn_3 16 rfl rfl)
theorem dX0_bestOn_85 : decode cX0_bestOn 85 = .ok (.ixor, 1) := dk_130 (dk_at dksX0_bestOn_3 17 rfl rfl)
theorem dX0_bestOn_86 : decode cX0_bestOn 86 = .ok (.iand, 1) := dk_126 (dk_at dksX0_bestOn_3 18 rfl rfl)
theorem dX0_bestOn_87 : decode cX0_bestOn 87 = .ok (.iload_n 3, 1) := dk_29 (dk_at dksX0_bestOn_3 19 rfl rfl)
theorem dX0_bestOn_88 : decode cX0_bestOn 88 = .ok (.iload 4, 2) := dk_21 4 (dk_at dksX0_bestOn_3 20 rfl rfl)
theorem dX0_bestOn_90 : decode cX0_bestOn 90 = .ok (.ifCond .eq 12, 3) := dk_153 0 12 (dk_at dksX0_bestOn_4 0 rfl rfl)
theorem dX0_bestOn_93 : decode cX0_bestOn 93 = .ok (.aload_n 0, 1) := dk_42 (dk_at dksX0_bestOn_4 3 rfl rfl)
theorem dX0_bestOn_94 : decode cX0_bestOn 94 = .ok (.iload_n 1, 1) := dk_27 (dk_at dksX0_bestOn_4 4 rfl rfl)
theorem dX0_bestOn_95 : decode cX0_bestOn 95 = .ok (.iconst 3, 1) := dk_6 (dk_at dksX0_bestOn_4 5 rfl rfl)
theorem dX0_bestOn_96 : decode cX0_bestOn 96 = .ok (.invokevirtual 191, 3) := dk_182 0 191 (dk_at dksX0_bestOn_4 6 rfl rfl)
theorem dX0_bestOn_99 : decode cX0_bestOn 99 = .ok (.goto 4, 3) := dk_167 0 4 (dk_at dksX0_bestOn_4 9 rfl rfl)
theorem dX0_bestOn_102 : decode cX0_bestOn 102 = .ok (.iconst 1, 1) := dk_4 (dk_at dksX0_bestOn_4 12 rfl rfl)
theorem dX0_bestOn_103 : decode cX0_bestOn 103 = .ok (.iadd, 1) := dk_96 (dk_at dksX0_bestOn_4 13 rfl rfl)
theorem dX0_bestOn_104 : decode cX0_bestOn 104 = .ok (.iload 4, 2) := dk_21 4 (dk_at dksX0_bestOn_4 14 rfl rfl)
theorem dX0_bestOn_106 : decode cX0_bestOn 106 = .ok (.invokevirtual 285, 3) := dk_182 1 29 (dk_at dksX0_bestOn_4 16 rfl rfl)
theorem dX0_bestOn_109 : decode cX0_bestOn 109 = .ok (.iinc 6 1, 3) := dk_132 6 1 (dk_at dksX0_bestOn_4 19 rfl rfl)
theorem dX0_bestOn_112 : decode cX0_bestOn 112 = .ok (.goto (-64), 3) := dk_167 255 192 (dk_at dksX0_bestOn_5 0 rfl rfl)
theorem dX0_bestOn_115 : decode cX0_bestOn 115 = .ok (.aload_n 0, 1) := dk_42 (dk_at dksX0_bestOn_5 3 rfl rfl)
theorem dX0_bestOn_116 : decode cX0_bestOn 116 = .ok (.getfield 71, 3) := dk_180 0 71 (dk_at dksX0_bestOn_5 4 rfl rfl)
theorem dX0_bestOn_119 : decode cX0_bestOn 119 = .ok (.iload_n 1, 1) := dk_27 (dk_at dksX0_bestOn_5 7 rfl rfl)
theorem dX0_bestOn_120 : decode cX0_bestOn 120 = .ok (.bipush (-9), 2) := dk_16 247 (dk_at dksX0_bestOn_5 8 rfl rfl)
theorem dX0_bestOn_122 : decode cX0_bestOn 122 = .ok (.iastore, 1) := dk_79 (dk_at dksX0_bestOn_5 10 rfl rfl)
theorem dX0_bestOn_123 : decode cX0_bestOn 123 = .ok (.aload_n 0, 1) := dk_42 (dk_at dksX0_bestOn_5 11 rfl rfl)
theorem dX0_bestOn_124 : decode cX0_bestOn 124 = .ok (.iload_n 1, 1) := dk_27 (dk_at dksX0_bestOn_5 12 rfl rfl)
theorem dX0_bestOn_125 : decode cX0_bestOn 125 = .ok (.iconst 1, 1) := dk_4 (dk_at dksX0_bestOn_5 13 rfl rfl)
theorem dX0_bestOn_126 : decode cX0_bestOn 126 = .ok (.iadd, 1) := dk_96 (dk_at dksX0_bestOn_5 14 rfl rfl)
theorem dX0_bestOn_127 : decode cX0_bestOn 127 = .ok (.iload_n 2, 1) := dk_28 (dk_at dksX0_bestOn_5 15 rfl rfl)
theorem dX0_bestOn_128 : decode cX0_bestOn 128 = .ok (.iload_n 3, 1) := dk_29 (dk_at dksX0_bestOn_5 16 rfl rfl)
theorem dX0_bestOn_129 : decode cX0_bestOn 129 = .ok (.iload 4, 2) := dk_21 4 (dk_at dksX0_bestOn_5 17 rfl rfl)
theorem dX0_bestOn_131 : decode cX0_bestOn 131 = .ok (.invokevirtual 285, 3) := dk_182 1 29 (dk_at dksX0_bestOn_5 19 rfl rfl)
theorem dX0_bestOn_134 : decode cX0_bestOn 134 = .ok (.return_, 1) := dk_177 (dk_at dksX0_bestOn_5 22 rfl rfl)
abbrev cX0_mayAnswer : ByteArray := prog_1_method_58_code
def yX0_mayAnswer : MethodName := ⟨RX0, "mayAnswer", "(II)I"⟩
def dkwX0_mayAnswer_3 : List UInt8 := [21, 4, 120, 2, 130, 126, 62, 132, 4, 1, 167, 255, 201, 29, 172]
abbrev dktX0_mayAnswer_3 : List UInt8 := dkwX0_mayAnswer_3 ++ []
def dkwX0_mayAnswer_2 : List UInt8 := [180, 0, 40, 21, 4, 50, 182, 0, 188, 42, 180, 0, 47, 27, 46, 160, 0, 7, 2, 167, 0, 9, 4]
abbrev dktX0_mayAnswer_2 : List UInt8 := dkwX0_mayAnswer_2 ++ dktX0_mayAnswer_3
def dkwX0_mayAnswer_1 : List UInt8 := [54, 4, 21, 4, 42, 180, 0, 175, 162, 0, 52, 42, 180, 0, 47, 27, 46, 16, 247, 159, 0, 41, 29, 42]
abbrev dktX0_mayAnswer_1 : List UInt8 := dkwX0_mayAnswer_1 ++ dktX0_mayAnswer_2
def dkwX0_mayAnswer_0 : List UInt8 := [42, 180, 0, 50, 27, 46, 16, 247, 160, 0, 13, 42, 27, 182, 0, 246, 28, 126, 167, 0, 4, 3, 62, 3]
abbrev dktX0_mayAnswer_0 : List UInt8 := dkwX0_mayAnswer_0 ++ dktX0_mayAnswer_1
theorem dksX0_mayAnswer_0 : cX0_mayAnswer.data.toList.drop 0 = dktX0_mayAnswer_0 := by decide +kernel
theorem dksX0_mayAnswer_1 : cX0_mayAnswer.data.toList.drop 24 = dktX0_mayAnswer_1 := dk_seg dksX0_mayAnswer_0 24 rfl rfl
theorem dksX0_mayAnswer_2 : cX0_mayAnswer.data.toList.drop 48 = dktX0_mayAnswer_2 := dk_seg dksX0_mayAnswer_1 24 rfl rfl
theorem dksX0_mayAnswer_3 : cX0_mayAnswer.data.toList.drop 71 = dktX0_mayAnswer_3 := dk_seg dksX0_mayAnswer_2 23 rfl rfl
theorem dX0_mayAnswer_0 : decode cX0_mayAnswer 0 = .ok (.aload_n 0, 1) := dk_42 (dk_at dksX0_mayAnswer_0 0 rfl rfl)
theorem dX0_mayAnswer_1 : decode cX0_mayAnswer 1 = .ok (.getfield 50, 3) := dk_180 0 50 (dk_at dksX0_mayAnswer_0 1 rfl rfl)
theorem dX0_mayAnswer_4 : decode cX0_mayAnswer 4 = .ok (.iload_n 1, 1) := dk_27 (dk_at dksX0_mayAnswer_0 4 rfl rfl)
theorem dX0_mayAnswer_5 : decode cX0_mayAnswer 5 = .ok (.iaload, 1) := dk_46 (dk_at dksX0_mayAnswer_0 5 rfl rfl)
theorem dX0_mayAnswer_6 : decode cX0_mayAnswer 6 = .ok (.bipush (-9), 2) := dk_16 247 (dk_at dksX0_mayAnswer_0 6 rfl rfl)
theorem dX0_mayAnswer_8 : decode cX0_mayAnswer 8 = .ok (.if_icmp .ne 13, 3) := dk_160 0 13 (dk_at dksX0_mayAnswer_0 8 rfl rfl)
theorem dX0_mayAnswer_11 : decode cX0_mayAnswer 11 = .ok (.aload_n 0, 1) := dk_42 (dk_at dksX0_mayAnswer_0 11 rfl rfl)
theorem dX0_mayAnswer_12 : decode cX0_mayAnswer 12 = .ok (.iload_n 1, 1) := dk_27 (dk_at dksX0_mayAnswer_0 12 rfl rfl)
theorem dX0_mayAnswer_13 : decode cX0_mayAnswer 13 = .ok (.invokevirtual 246, 3) := dk_182 0 246 (dk_at dksX0_mayAnswer_0 13 rfl rfl)
theorem dX0_mayAnswer_16 : decode cX0_mayAnswer 16 = .ok (.iload_n 2, 1) := dk_28 (dk_at dksX0_mayAnswer_0 16 rfl rfl)
theorem dX0_mayAnswer_17 : decode cX0_mayAnswer 17 = .ok (.iand, 1) := dk_126 (dk_at dksX0_mayAnswer_0 17 rfl rfl)
theorem dX0_mayAnswer_18 : decode cX0_mayAnswer 18 = .ok (.goto 4, 3) := dk_167 0 4 (dk_at dksX0_mayAnswer_0 18 rfl rfl)
theorem dX0_mayAnswer_21 : decode cX0_mayAnswer 21 = .ok (.iconst 0, 1) := dk_3 (dk_at dksX0_mayAnswer_0 21 rfl rfl)
theorem dX0_mayAnswer_22 : decode cX0_mayAnswer 22 = .ok (.istore_n 3, 1) := dk_62 (dk_at dksX0_mayAnswer_0 22 rfl rfl)
theorem dX0_mayAnswer_23 : decode cX0_mayAnswer 23 = .ok (.iconst 0, 1) := dk_3 (dk_at dksX0_mayAnswer_0 23 rfl rfl)
theorem dX0_mayAnswer_24 : decode cX0_mayAnswer 24 = .ok (.istore 4, 2) := dk_54 4 (dk_at dksX0_mayAnswer_1 0 rfl rfl)
theorem dX0_mayAnswer_26 : decode cX0_mayAnswer 26 = .ok (.iload 4, 2) := dk_21 4 (dk_at dksX0_mayAnswer_1 2 rfl rfl)
theorem dX0_mayAnswer_28 : decode cX0_mayAnswer 28 = .ok (.aload_n 0, 1) := dk_42 (dk_at dksX0_mayAnswer_1 4 rfl rfl)
theorem dX0_mayAnswer_29 : decode cX0_mayAnswer 29 = .ok (.getfield 175, 3) := dk_180 0 175 (dk_at dksX0_mayAnswer_1 5 rfl rfl)
theorem dX0_mayAnswer_32 : decode cX0_mayAnswer 32 = .ok (.if_icmp .ge 52, 3) := dk_162 0 52 (dk_at dksX0_mayAnswer_1 8 rfl rfl)
theorem dX0_mayAnswer_35 : decode cX0_mayAnswer 35 = .ok (.aload_n 0, 1) := dk_42 (dk_at dksX0_mayAnswer_1 11 rfl rfl)
theorem dX0_mayAnswer_36 : decode cX0_mayAnswer 36 = .ok (.getfield 47, 3) := dk_180 0 47 (dk_at dksX0_mayAnswer_1 12 rfl rfl)
theorem dX0_mayAnswer_39 : decode cX0_mayAnswer 39 = .ok (.iload_n 1, 1) := dk_27 (dk_at dksX0_mayAnswer_1 15 rfl rfl)
theorem dX0_mayAnswer_40 : decode cX0_mayAnswer 40 = .ok (.iaload, 1) := dk_46 (dk_at dksX0_mayAnswer_1 16 rfl rfl)
theorem dX0_mayAnswer_41 : decode cX0_mayAnswer 41 = .ok (.bipush (-9), 2) := dk_16 247 (dk_at dksX0_mayAnswer_1 17 rfl rfl)
theorem dX0_mayAnswer_43 : decode cX0_mayAnswer 43 = .ok (.if_icmp .eq 41, 3) := dk_159 0 41 (dk_at dksX0_mayAnswer_1 19 rfl rfl)
theorem dX0_mayAnswer_46 : decode cX0_mayAnswer 46 = .ok (.iload_n 3, 1) := dk_29 (dk_at dksX0_mayAnswer_1 22 rfl rfl)
theorem dX0_mayAnswer_47 : decode cX0_mayAnswer 47 = .ok (.aload_n 0, 1) := dk_42 (dk_at dksX0_mayAnswer_1 23 rfl rfl)
theorem dX0_mayAnswer_48 : decode cX0_mayAnswer 48 = .ok (.getfield 40, 3) := dk_180 0 40 (dk_at dksX0_mayAnswer_2 0 rfl rfl)
theorem dX0_mayAnswer_51 : decode cX0_mayAnswer 51 = .ok (.iload 4, 2) := dk_21 4 (dk_at dksX0_mayAnswer_2 3 rfl rfl)
theorem dX0_mayAnswer_53 : decode cX0_mayAnswer 53 = .ok (.aaload, 1) := dk_50 (dk_at dksX0_mayAnswer_2 5 rfl rfl)
theorem dX0_mayAnswer_54 : decode cX0_mayAnswer 54 = .ok (.invokevirtual 188, 3) := dk_182 0 188 (dk_at dksX0_mayAnswer_2 6 rfl rfl)
theorem dX0_mayAnswer_57 : decode cX0_mayAnswer 57 = .ok (.aload_n 0, 1) := dk_42 (dk_at dksX0_mayAnswer_2 9 rfl rfl)
theorem dX0_mayAnswer_58 : decode cX0_mayAnswer 58 = .ok (.getfield 47, 3) := dk_180 0 47 (dk_at dksX0_mayAnswer_2 10 rfl rfl)
theorem dX0_mayAnswer_61 : decode cX0_mayAnswer 61 = .ok (.iload_n 1, 1) := dk_27 (dk_at dksX0_mayAnswer_2 13 rfl rfl)
theorem dX0_mayAnswer_62 : decode cX0_mayAnswer 62 = .ok (.iaload, 1) := dk_46 (dk_at dksX0_mayAnswer_2 14 rfl rfl)
theorem dX0_mayAnswer_63 : decode cX0_mayAnswer 63 = .ok (.if_icmp .ne 7, 3) := dk_160 0 7 (dk_at dksX0_mayAnswer_2 15 rfl rfl)
theorem dX0_mayAnswer_66 : decode cX0_mayAnswer 66 = .ok (.iconst (-1), 1) := dk_2 (dk_at dksX0_mayAnswer_2 18 rfl rfl)
theorem dX0_mayAnswer_67 : decode cX0_mayAnswer 67 = .ok (.goto 9, 3) := dk_167 0 9 (dk_at dksX0_mayAnswer_2 19 rfl rfl)
theorem dX0_mayAnswer_70 : decode cX0_mayAnswer 70 = .ok (.iconst 1, 1) := dk_4 (dk_at dksX0_mayAnswer_2 22 rfl rfl)
theorem dX0_mayAnswer_71 : decode cX0_mayAnswer 71 = .ok (.iload 4, 2) := dk_21 4 (dk_at dksX0_mayAnswer_3 0 rfl rfl)
theorem dX0_mayAnswer_73 : decode cX0_mayAnswer 73 = .ok (.ishl, 1) := dk_120 (dk_at dksX0_mayAnswer_3 2 rfl rfl)
theorem dX0_mayAnswer_74 : decode cX0_mayAnswer 74 = .ok (.iconst (-1), 1) := dk_2 (dk_at dksX0_mayAnswer_3 3 rfl rfl)
theorem dX0_mayAnswer_75 : decode cX0_mayAnswer 75 = .ok (.ixor, 1) := dk_130 (dk_at dksX0_mayAnswer_3 4 rfl rfl)
theorem dX0_mayAnswer_76 : decode cX0_mayAnswer 76 = .ok (.iand, 1) := dk_126 (dk_at dksX0_mayAnswer_3 5 rfl rfl)
theorem dX0_mayAnswer_77 : decode cX0_mayAnswer 77 = .ok (.istore_n 3, 1) := dk_62 (dk_at dksX0_mayAnswer_3 6 rfl rfl)
theorem dX0_mayAnswer_78 : decode cX0_mayAnswer 78 = .ok (.iinc 4 1, 3) := dk_132 4 1 (dk_at dksX0_mayAnswer_3 7 rfl rfl)
theorem dX0_mayAnswer_81 : decode cX0_mayAnswer 81 = .ok (.goto (-55), 3) := dk_167 255 201 (dk_at dksX0_mayAnswer_3 10 rfl rfl)
theorem dX0_mayAnswer_84 : decode cX0_mayAnswer 84 = .ok (.iload_n 3, 1) := dk_29 (dk_at dksX0_mayAnswer_3 13 rfl rfl)
theorem dX0_mayAnswer_85 : decode cX0_mayAnswer 85 = .ok (.ireturn, 1) := dk_172 (dk_at dksX0_mayAnswer_3 14 rfl rfl)
abbrev cX0_has : ByteArray := prog_1_method_2_code
def yX0_has : MethodName := ⟨RX0, "has", "(II)Z"⟩
def dkwX0_has_0 : List UInt8 := [26, 27, 122, 4, 126, 4, 160, 0, 7, 4, 167, 0, 4, 3, 172]
abbrev dktX0_has_0 : List UInt8 := dkwX0_has_0 ++ []
theorem dksX0_has_0 : cX0_has.data.toList.drop 0 = dktX0_has_0 := by decide +kernel
theorem dX0_has_0 : decode cX0_has 0 = .ok (.iload_n 0, 1) := dk_26 (dk_at dksX0_has_0 0 rfl rfl)
theorem dX0_has_1 : decode cX0_has 1 = .ok (.iload_n 1, 1) := dk_27 (dk_at dksX0_has_0 1 rfl rfl)
theorem dX0_has_2 : decode cX0_has 2 = .ok (.ishr, 1) := dk_122 (dk_at dksX0_has_0 2 rfl rfl)
theorem dX0_has_3 : decode cX0_has 3 = .ok (.iconst 1, 1) := dk_4 (dk_at dksX0_has_0 3 rfl rfl)
theorem dX0_has_4 : decode cX0_has 4 = .ok (.iand, 1) := dk_126 (dk_at dksX0_has_0 4 rfl rfl)
theorem dX0_has_5 : decode cX0_has 5 = .ok (.iconst 1, 1) := dk_4 (dk_at dksX0_has_0 5 rfl rfl)
theorem dX0_has_6 : decode cX0_has 6 = .ok (.if_icmp .ne 7, 3) := dk_160 0 7 (dk_at dksX0_has_0 6 rfl rfl)
theorem dX0_has_9 : decode cX0_has 9 = .ok (.iconst 1, 1) := dk_4 (dk_at dksX0_has_0 9 rfl rfl)
theorem dX0_has_10 : decode cX0_has 10 = .ok (.goto 4, 3) := dk_167 0 4 (dk_at dksX0_has_0 10 rfl rfl)
theorem dX0_has_13 : decode cX0_has 13 = .ok (.iconst 0, 1) := dk_3 (dk_at dksX0_has_0 13 rfl rfl)
theorem dX0_has_14 : decode cX0_has 14 = .ok (.ireturn, 1) := dk_172 (dk_at dksX0_has_0 14 rfl rfl)
abbrev cX0_wished : ByteArray := prog_1_method_62_code
def yX0_wished : MethodName := ⟨RX0, "wished", "(I)I"⟩
def dkwX0_wished_0 : List UInt8 := [42, 27, 4, 182, 1, 36, 172]
abbrev dktX0_wished_0 : List UInt8 := dkwX0_wished_0 ++ []
theorem dksX0_wished_0 : cX0_wished.data.toList.drop 0 = dktX0_wished_0 := by decide +kernel
theorem dX0_wished_0 : decode cX0_wished 0 = .ok (.aload_n 0, 1) := dk_42 (dk_at dksX0_wished_0 0 rfl rfl)
theorem dX0_wished_1 : decode cX0_wished 1 = .ok (.iload_n 1, 1) := dk_27 (dk_at dksX0_wished_0 1 rfl rfl)
theorem dX0_wished_2 : decode cX0_wished 2 = .ok (.iconst 1, 1) := dk_4 (dk_at dksX0_wished_0 2 rfl rfl)
theorem dX0_wished_3 : decode cX0_wished 3 = .ok (.invokevirtual 292, 3) := dk_182 1 36 (dk_at dksX0_wished_0 3 rfl rfl)
theorem dX0_wished_6 : decode cX0_wished 6 = .ok (.ireturn, 1) := dk_172 (dk_at dksX0_wished_0 6 rfl rfl)
abbrev cX0_fullest : ByteArray := prog_1_method_65_code
def yX0_fullest : MethodName := ⟨RX0, "fullest", "()I"⟩
def dkwX0_fullest_2 : List UInt8 := [180, 1, 40, 182, 0, 104, 172]
abbrev dktX0_fullest_2 : List UInt8 := dkwX0_fullest_2 ++ []
def dkwX0_fullest_1 : List UInt8 := [180, 1, 40, 160, 0, 7, 4, 167, 0, 4, 3, 96, 60, 132, 2, 1, 167, 255, 226, 42, 27, 42]
abbrev dktX0_fullest_1 : List UInt8 := dkwX0_fullest_1 ++ dktX0_fullest_2
def dkwX0_fullest_0 : List UInt8 := [42, 182, 1, 47, 3, 60, 3, 61, 28, 16, 49, 162, 0, 30, 27, 42, 180, 0, 77, 28, 46, 42]
abbrev dktX0_fullest_0 : List UInt8 := dkwX0_fullest_0 ++ dktX0_fullest_1
theorem dksX0_fullest_0 : cX0_fullest.data.toList.drop 0 = dktX0_fullest_0 := by decide +kernel
theorem dksX0_fullest_1 : cX0_fullest.data.toList.drop 22 = dktX0_fullest_1 := dk_seg dksX0_fullest_0 22 rfl rfl
theorem dksX0_fullest_2 : cX0_fullest.data.toList.drop 44 = dktX0_fullest_2 := dk_seg dksX0_fullest_1 22 rfl rfl
theorem dX0_fullest_0 : decode cX0_fullest 0 = .ok (.aload_n 0, 1) := dk_42 (dk_at dksX0_fullest_0 0 rfl rfl)
theorem dX0_fullest_1 : decode cX0_fullest 1 = .ok (.invokevirtual 303, 3) := dk_182 1 47 (dk_at dksX0_fullest_0 1 rfl rfl)
theorem dX0_fullest_4 : decode cX0_fullest 4 = .ok (.iconst 0, 1) := dk_3 (dk_at dksX0_fullest_0 4 rfl rfl)
theorem dX0_fullest_5 : decode cX0_fullest 5 = .ok (.istore_n 1, 1) := dk_60 (dk_at dksX0_fullest_0 5 rfl rfl)
theorem dX0_fullest_6 : decode cX0_fullest 6 = .ok (.iconst 0, 1) := dk_3 (dk_at dksX0_fullest_0 6 rfl rfl)
theorem dX0_fullest_7 : decode cX0_fullest 7 = .ok (.istore_n 2, 1) := dk_61 (dk_at dksX0_fullest_0 7 rfl rfl)
theorem dX0_fullest_8 : decode cX0_fullest 8 = .ok (.iload_n 2, 1) := dk_28 (dk_at dksX0_fullest_0 8 rfl rfl)
theorem dX0_fullest_9 : decode cX0_fullest 9 = .ok (.bipush 49, 2) := dk_16 49 (dk_at dksX0_fullest_0 9 rfl rfl)
theorem dX0_fullest_11 : decode cX0_fullest 11 = .ok (.if_icmp .ge 30, 3) := dk_162 0 30 (dk_at dksX0_fullest_0 11 rfl rfl)
theorem dX0_fullest_14 : decode cX0_fullest 14 = .ok (.iload_n 1, 1) := dk_27 (dk_at dksX0_fullest_0 14 rfl rfl)
theorem dX0_fullest_15 : decode cX0_fullest 15 = .ok (.aload_n 0, 1) := dk_42 (dk_at dksX0_fullest_0 15 rfl rfl)
theorem dX0_fullest_16 : decode cX0_fullest 16 = .ok (.getfield 77, 3) := dk_180 0 77 (dk_at dksX0_fullest_0 16 rfl rfl)
theorem dX0_fullest_19 : decode cX0_fullest 19 = .ok (.iload_n 2, 1) := dk_28 (dk_at dksX0_fullest_0 19 rfl rfl)
theorem dX0_fullest_20 : decode cX0_fullest 20 = .ok (.iaload, 1) := dk_46 (dk_at dksX0_fullest_0 20 rfl rfl)
theorem dX0_fullest_21 : decode cX0_fullest 21 = .ok (.aload_n 0, 1) := dk_42 (dk_at dksX0_fullest_0 21 rfl rfl)
theorem dX0_fullest_22 : decode cX0_fullest 22 = .ok (.getfield 296, 3) := dk_180 1 40 (dk_at dksX0_fullest_1 0 rfl rfl)
theorem dX0_fullest_25 : decode cX0_fullest 25 = .ok (.if_icmp .ne 7, 3) := dk_160 0 7 (dk_at dksX0_fullest_1 3 rfl rfl)
theorem dX0_fullest_28 : decode cX0_fullest 28 = .ok (.iconst 1, 1) := dk_4 (dk_at dksX0_fullest_1 6 rfl rfl)
theorem dX0_fullest_29 : decode cX0_fullest 29 = .ok (.goto 4, 3) := dk_167 0 4 (dk_at dksX0_fullest_1 7 rfl rfl)
theorem dX0_fullest_32 : decode cX0_fullest 32 = .ok (.iconst 0, 1) := dk_3 (dk_at dksX0_fullest_1 10 rfl rfl)
theorem dX0_fullest_33 : decode cX0_fullest 33 = .ok (.iadd, 1) := dk_96 (dk_at dksX0_fullest_1 11 rfl rfl)
theorem dX0_fullest_34 : decode cX0_fullest 34 = .ok (.istore_n 1, 1) := dk_60 (dk_at dksX0_fullest_1 12 rfl rfl)
theorem dX0_fullest_35 : decode cX0_fullest 35 = .ok (.iinc 2 1, 3) := dk_132 2 1 (dk_at dksX0_fullest_1 13 rfl rfl)
theorem dX0_fullest_38 : decode cX0_fullest 38 = .ok (.goto (-30), 3) := dk_167 255 226 (dk_at dksX0_fullest_1 16 rfl rfl)
theorem dX0_fullest_41 : decode cX0_fullest 41 = .ok (.aload_n 0, 1) := dk_42 (dk_at dksX0_fullest_1 19 rfl rfl)
theorem dX0_fullest_42 : decode cX0_fullest 42 = .ok (.iload_n 1, 1) := dk_27 (dk_at dksX0_fullest_1 20 rfl rfl)
theorem dX0_fullest_43 : decode cX0_fullest 43 = .ok (.aload_n 0, 1) := dk_42 (dk_at dksX0_fullest_1 21 rfl rfl)
theorem dX0_fullest_44 : decode cX0_fullest 44 = .ok (.getfield 296, 3) := dk_180 1 40 (dk_at dksX0_fullest_2 0 rfl rfl)
theorem dX0_fullest_47 : decode cX0_fullest 47 = .ok (.invokevirtual 104, 3) := dk_182 0 104 (dk_at dksX0_fullest_2 3 rfl rfl)
theorem dX0_fullest_50 : decode cX0_fullest 50 = .ok (.ireturn, 1) := dk_172 (dk_at dksX0_fullest_2 6 rfl rfl)
abbrev cX0_setFullest : ByteArray := prog_1_method_64_code
def yX0_setFullest : MethodName := ⟨RX0, "setFullest", "()V"⟩
def dkwX0_setFullest_2 : List UInt8 := [42, 180, 1, 20, 182, 1, 43, 177]
abbrev dktX0_setFullest_2 : List UInt8 := dkwX0_setFullest_2 ++ []
def dkwX0_setFullest_1 : List UInt8 := [16, 49, 162, 0, 16, 42, 180, 0, 77, 27, 3, 79, 132, 1, 1, 167, 255, 240, 42, 3, 42, 182, 1, 33]
abbrev dktX0_setFullest_1 : List UInt8 := dkwX0_setFullest_1 ++ dktX0_setFullest_2
def dkwX0_setFullest_0 : List UInt8 := [42, 2, 181, 1, 20, 42, 3, 42, 182, 1, 33, 3, 3, 182, 1, 29, 42, 3, 181, 1, 40, 3, 60, 27]
abbrev dktX0_setFullest_0 : List UInt8 := dkwX0_setFullest_0 ++ dktX0_setFullest_1
theorem dksX0_setFullest_0 : cX0_setFullest.data.toList.drop 0 = dktX0_setFullest_0 := by decide +kernel
theorem dksX0_setFullest_1 : cX0_setFullest.data.toList.drop 24 = dktX0_setFullest_1 := dk_seg dksX0_setFullest_0 24 rfl rfl
theorem dksX0_setFullest_2 : cX0_setFullest.data.toList.drop 48 = dktX0_setFullest_2 := dk_seg dksX0_setFullest_1 24 rfl rfl
theorem dX0_setFullest_0 : decode cX0_setFullest 0 = .ok (.aload_n 0, 1) := dk_42 (dk_at dksX0_setFullest_0 0 rfl rfl)
theorem dX0_setFullest_1 : decode cX0_setFullest 1 = .ok (.iconst (-1), 1) := dk_2 (dk_at dksX0_setFullest_0 1 rfl rfl)
theorem dX0_setFullest_2 : decode cX0_setFullest 2 = .ok (.putfield 276, 3) := dk_181 1 20 (dk_at dksX0_setFullest_0 2 rfl rfl)
theorem dX0_setFullest_5 : decode cX0_setFullest 5 = .ok (.aload_n 0, 1) := dk_42 (dk_at dksX0_setFullest_0 5 rfl rfl)
theorem dX0_setFullest_6 : decode cX0_setFullest 6 = .ok (.iconst 0, 1) := dk_3 (dk_at dksX0_setFullest_0 6 rfl rfl)
theorem dX0_setFullest_7 : decode cX0_setFullest 7 = .ok (.aload_n 0, 1) := dk_42 (dk_at dksX0_setFullest_0 7 rfl rfl)
theorem dX0_setFullest_8 : decode cX0_setFullest 8 = .ok (.invokevirtual 289, 3) := dk_182 1 33 (dk_at dksX0_setFullest_0 8 rfl rfl)
theorem dX0_setFullest_11 : decode cX0_setFullest 11 = .ok (.iconst 0, 1) := dk_3 (dk_at dksX0_setFullest_0 11 rfl rfl)
theorem dX0_setFullest_12 : decode cX0_setFullest 12 = .ok (.iconst 0, 1) := dk_3 (dk_at dksX0_setFullest_0 12 rfl rfl)
theorem dX0_setFullest_13 : decode cX0_setFullest 13 = .ok (.invokevirtual 285, 3) := dk_182 1 29 (dk_at dksX0_setFullest_0 13 rfl rfl)
theorem dX0_setFullest_16 : decode cX0_setFullest 16 = .ok (.aload_n 0, 1) := dk_42 (dk_at dksX0_setFullest_0 16 rfl rfl)
theorem dX0_setFullest_17 : decode cX0_setFullest 17 = .ok (.iconst 0, 1) := dk_3 (dk_at dksX0_setFullest_0 17 rfl rfl)
theorem dX0_setFullest_18 : decode cX0_setFullest 18 = .ok (.putfield 296, 3) := dk_181 1 40 (dk_at dksX0_setFullest_0 18 rfl rfl)
theorem dX0_setFullest_21 : decode cX0_setFullest 21 = .ok (.iconst 0, 1) := dk_3 (dk_at dksX0_setFullest_0 21 rfl rfl)
theorem dX0_setFullest_22 : decode cX0_setFullest 22 = .ok (.istore_n 1, 1) := dk_60 (dk_at dksX0_setFullest_0 22 rfl rfl)
theorem dX0_setFullest_23 : decode cX0_setFullest 23 = .ok (.iload_n 1, 1) := dk_27 (dk_at dksX0_setFullest_0 23 rfl rfl)
theorem dX0_setFullest_24 : decode cX0_setFullest 24 = .ok (.bipush 49, 2) := dk_16 49 (dk_at dksX0_setFullest_1 0 rfl rfl)
theorem dX0_setFullest_26 : decode cX0_setFullest 26 = .ok (.if_icmp .ge 16, 3) := dk_162 0 16 (dk_at dksX0_setFullest_1 2 rfl rfl)
theorem dX0_setFullest_29 : decode cX0_setFullest 29 = .ok (.aload_n 0, 1) := dk_42 (dk_at dksX0_setFullest_1 5 rfl rfl)
theorem dX0_setFullest_30 : decode cX0_setFullest 30 = .ok (.getfield 77, 3) := dk_180 0 77 (dk_at dksX0_setFullest_1 6 rfl rfl)
theorem dX0_setFullest_33 : decode cX0_setFullest 33 = .ok (.iload_n 1, 1) := dk_27 (dk_at dksX0_setFullest_1 9 rfl rfl)
theorem dX0_setFullest_34 : decode cX0_setFullest 34 = .ok (.iconst 0, 1) := dk_3 (dk_at dksX0_setFullest_1 10 rfl rfl)
theorem dX0_setFullest_35 : decode cX0_setFullest 35 = .ok (.iastore, 1) := dk_79 (dk_at dksX0_setFullest_1 11 rfl rfl)
theorem dX0_setFullest_36 : decode cX0_setFullest 36 = .ok (.iinc 1 1, 3) := dk_132 1 1 (dk_at dksX0_setFullest_1 12 rfl rfl)
theorem dX0_setFullest_39 : decode cX0_setFullest 39 = .ok (.goto (-16), 3) := dk_167 255 240 (dk_at dksX0_setFullest_1 15 rfl rfl)
theorem dX0_setFullest_42 : decode cX0_setFullest 42 = .ok (.aload_n 0, 1) := dk_42 (dk_at dksX0_setFullest_1 18 rfl rfl)
theorem dX0_setFullest_43 : decode cX0_setFullest 43 = .ok (.iconst 0, 1) := dk_3 (dk_at dksX0_setFullest_1 19 rfl rfl)
theorem dX0_setFullest_44 : decode cX0_setFullest 44 = .ok (.aload_n 0, 1) := dk_42 (dk_at dksX0_setFullest_1 20 rfl rfl)
theorem dX0_setFullest_45 : decode cX0_setFullest 45 = .ok (.invokevirtual 289, 3) := dk_182 1 33 (dk_at dksX0_setFullest_1 21 rfl rfl)
theorem dX0_setFullest_48 : decode cX0_setFullest 48 = .ok (.aload_n 0, 1) := dk_42 (dk_at dksX0_setFullest_2 0 rfl rfl)
theorem dX0_setFullest_49 : decode cX0_setFullest 49 = .ok (.getfield 276, 3) := dk_180 1 20 (dk_at dksX0_setFullest_2 1 rfl rfl)
theorem dX0_setFullest_52 : decode cX0_setFullest 52 = .ok (.invokevirtual 299, 3) := dk_182 1 43 (dk_at dksX0_setFullest_2 4 rfl rfl)
theorem dX0_setFullest_55 : decode cX0_setFullest 55 = .ok (.return_, 1) := dk_177 (dk_at dksX0_setFullest_2 7 rfl rfl)
abbrev cX0_fullOn : ByteArray := prog_1_method_63_code
def yX0_fullOn : MethodName := ⟨RX0, "fullOn", "(III)V"⟩
def dkwX0_fullOn_7 : List UInt8 := [4, 96, 28, 29, 182, 1, 43, 177]
abbrev dktX0_fullOn_7 : List UInt8 := dkwX0_fullOn_7 ++ []
def dkwX0_fullOn_6 : List UInt8 := [130, 126, 29, 4, 100, 182, 1, 43, 132, 5, 1, 167, 255, 208, 42, 180, 0, 71, 27, 16, 247, 79, 42, 27]
abbrev dktX0_fullOn_6 : List UInt8 := dkwX0_fullOn_6 ++ dktX0_fullOn_7
def dkwX0_fullOn_5 : List UInt8 := [184, 1, 26, 153, 0, 29, 42, 180, 0, 71, 27, 21, 5, 79, 42, 27, 4, 96, 28, 4, 21, 5, 120, 2]
abbrev dktX0_fullOn_5 : List UInt8 := dkwX0_fullOn_5 ++ dktX0_fullOn_6
def dkwX0_fullOn_4 : List UInt8 := [27, 28, 182, 1, 23, 54, 4, 3, 54, 5, 21, 5, 42, 180, 0, 175, 162, 0, 45, 21, 4, 21, 5]
abbrev dktX0_fullOn_4 : List UInt8 := dkwX0_fullOn_4 ++ dktX0_fullOn_5
def dkwX0_fullOn_3 : List UInt8 := [167, 255, 210, 177, 29, 42, 180, 0, 182, 27, 100, 164, 0, 4, 177, 29, 154, 0, 7, 3, 167, 0, 9, 42]
abbrev dktX0_fullOn_3 : List UInt8 := dkwX0_fullOn_3 ++ dktX0_fullOn_4
def dkwX0_fullOn_2 : List UInt8 := [180, 0, 77, 16, 7, 21, 4, 104, 42, 180, 0, 71, 21, 4, 46, 96, 92, 46, 4, 96, 79, 132, 4, 1]
abbrev dktX0_fullOn_2 : List UInt8 := dkwX0_fullOn_2 ++ dktX0_fullOn_3
def dkwX0_fullOn_1 : List UInt8 := [54, 4, 21, 4, 42, 180, 0, 182, 162, 0, 43, 42, 180, 0, 71, 21, 4, 46, 16, 247, 159, 0, 25, 42]
abbrev dktX0_fullOn_1 : List UInt8 := dkwX0_fullOn_1 ++ dktX0_fullOn_2
def dkwX0_fullOn_0 : List UInt8 := [27, 42, 180, 0, 182, 160, 0, 70, 29, 154, 0, 65, 42, 89, 180, 1, 40, 4, 96, 181, 1, 40, 3]
abbrev dktX0_fullOn_0 : List UInt8 := dkwX0_fullOn_0 ++ dktX0_fullOn_1
theorem dksX0_fullOn_0 : cX0_fullOn.data.toList.drop 0 = dktX0_fullOn_0 := by decide +kernel
theorem dksX0_fullOn_1 : cX0_fullOn.data.toList.drop 23 = dktX0_fullOn_1 := dk_seg dksX0_fullOn_0 23 rfl rfl
theorem dksX0_fullOn_2 : cX0_fullOn.data.toList.drop 47 = dktX0_fullOn_2 := dk_seg dksX0_fullOn_1 24 rfl rfl
theorem dksX0_fullOn_3 : cX0_fullOn.data.toList.drop 71 = dktX0_fullOn_3 := dk_seg dksX0_fullOn_2 24 rfl rfl
theorem dksX0_fullOn_4 : cX0_fullOn.data.toList.drop 95 = dktX0_fullOn_4 := dk_seg dksX0_fullOn_3 24 rfl rfl
theorem dksX0_fullOn_5 : cX0_fullOn.data.toList.drop 118 = dktX0_fullOn_5 := dk_seg dksX0_fullOn_4 23 rfl rfl
theorem dksX0_fullOn_6 : cX0_fullOn.data.toList.drop 142 = dktX0_fullOn_6 := dk_seg dksX0_fullOn_5 24 rfl rfl
theorem dksX0_fullOn_7 : cX0_fullOn.data.toList.drop 166 = dktX0_fullOn_7 := dk_seg dksX0_fullOn_6 24 rfl rfl
theorem dX0_fullOn_0 : decode cX0_fullOn 0 = .ok (.iload_n 1, 1) := dk_27 (dk_at dksX0_fullOn_0 0 rfl rfl)
theorem dX0_fullOn_1 : decode cX0_fullOn 1 = .ok (.aload_n 0, 1) := dk_42 (dk_at dksX0_fullOn_0 1 rfl rfl)
theorem dX0_fullOn_2 : decode cX0_fullOn 2 = .ok (.getfield 182, 3) := dk_180 0 182 (dk_at dksX0_fullOn_0 2 rfl rfl)
theorem dX0_fullOn_5 : decode cX0_fullOn 5 = .ok (.if_icmp .ne 70, 3) := dk_160 0 70 (dk_at dksX0_fullOn_0 5 rfl rfl)
theorem dX0_fullOn_8 : decode cX0_fullOn 8 = .ok (.iload_n 3, 1) := dk_29 (dk_at dksX0_fullOn_0 8 rfl rfl)
theorem dX0_fullOn_9 : decode cX0_fullOn 9 = .ok (.ifCond .ne 65, 3) := dk_154 0 65 (dk_at dksX0_fullOn_0 9 rfl rfl)
theorem dX0_fullOn_12 : decode cX0_fullOn 12 = .ok (.aload_n 0, 1) := dk_42 (dk_at dksX0_fullOn_0 12 rfl rfl)
theorem dX0_fullOn_13 : decode cX0_fullOn 13 = .ok (.dup, 1) := dk_89 (dk_at dksX0_fullOn_0 13 rfl rfl)
theorem dX0_fullOn_14 : decode cX0_fullOn 14 = .ok (.getfield 296, 3) := dk_180 1 40 (dk_at dksX0_fullOn_0 14 rfl rfl)
theorem dX0_fullOn_17 : decode cX0_fullOn 17 = .ok (.iconst 1, 1) := dk_4 (dk_at dksX0_fullOn_0 17 rfl rfl)
theorem dX0_fullOn_18 : decode cX0_fullOn 18 = .ok (.iadd, 1) := dk_96 (dk_at dksX0_fullOn_0 18 rfl rfl)
theorem dX0_fullOn_19 : decode cX0_fullOn 19 = .ok (.putfield 296, 3) := dk_181 1 40 (dk_at dksX0_fullOn_0 19 rfl rfl)
theorem dX0_fullOn_22 : decode cX0_fullOn 22 = .ok (.iconst 0, 1) := dk_3 (dk_at dksX0_fullOn_0 22 rfl rfl)
theorem dX0_fullOn_23 : decode cX0_fullOn 23 = .ok (.istore 4, 2) := dk_54 4 (dk_at dksX0_fullOn_1 0 rfl rfl)
theorem dX0_fullOn_25 : decode cX0_fullOn 25 = .ok (.iload 4, 2) := dk_21 4 (dk_at dksX0_fullOn_1 2 rfl rfl)
theorem dX0_fullOn_27 : decode cX0_fullOn 27 = .ok (.aload_n 0, 1) := dk_42 (dk_at dksX0_fullOn_1 4 rfl rfl)
theorem dX0_fullOn_28 : decode cX0_fullOn 28 = .ok (.getfield 182, 3) := dk_180 0 182 (dk_at dksX0_fullOn_1 5 rfl rfl)
theorem dX0_fullOn_31 : decode cX0_fullOn 31 = .ok (.if_icmp .ge 43, 3) := dk_162 0 43 (dk_at dksX0_fullOn_1 8 rfl rfl)
theorem dX0_fullOn_34 : decode cX0_fullOn 34 = .ok (.aload_n 0, 1) := dk_42 (dk_at dksX0_fullOn_1 11 rfl rfl)
theorem dX0_fullOn_35 : decode cX0_fullOn 35 = .ok (.getfield 71, 3) := dk_180 0 71 (dk_at dksX0_fullOn_1 12 rfl rfl)
theorem dX0_fullOn_38 : decode cX0_fullOn 38 = .ok (.iload 4, 2) := dk_21 4 (dk_at dksX0_fullOn_1 15 rfl rfl)
theorem dX0_fullOn_40 : decode cX0_fullOn 40 = .ok (.iaload, 1) := dk_46 (dk_at dksX0_fullOn_1 17 rfl rfl)
theorem dX0_fullOn_41 : decode cX0_fullOn 41 = .ok (.bipush (-9), 2) := dk_16 247 (dk_at dksX0_fullOn_1 18 rfl rfl)
theorem dX0_fullOn_43 : decode cX0_fullOn 43 = .ok (.if_icmp .eq 25, 3) := dk_159 0 25 (dk_at dksX0_fullOn_1 20 rfl rfl)
theorem dX0_fullOn_46 : decode cX0_fullOn 46 = .ok (.aload_n 0, 1) := dk_42 (dk_at dksX0_fullOn_1 23 rfl rfl)
theorem dX0_fullOn_47 : decode cX0_fullOn 47 = .ok (.getfield 77, 3) := dk_180 0 77 (dk_at dksX0_fullOn_2 0 rfl rfl)
theorem dX0_fullOn_50 : decode cX0_fullOn 50 = .ok (.bipush 7, 2) := dk_16 7 (dk_at dksX0_fullOn_2 3 rfl rfl)
theorem dX0_fullOn_52 : decode cX0_fullOn 52 = .ok (.iload 4, 2) := dk_21 4 (dk_at dksX0_fullOn_2 5 rfl rfl)
theorem dX0_fullOn_54 : decode cX0_fullOn 54 = .ok (.imul, 1) := dk_104 (dk_at dksX0_fullOn_2 7 rfl rfl)
theorem dX0_fullOn_55 : decode cX0_fullOn 55 = .ok (.aload_n 0, 1) := dk_42 (dk_at dksX0_fullOn_2 8 rfl rfl)
theorem dX0_fullOn_56 : decode cX0_fullOn 56 = .ok (.getfield 71, 3) := dk_180 0 71 (dk_at dksX0_fullOn_2 9 rfl rfl)
theorem dX0_fullOn_59 : decode cX0_fullOn 59 = .ok (.iload 4, 2) := dk_21 4 (dk_at dksX0_fullOn_2 12 rfl rfl)
theorem dX0_fullOn_61 : decode cX0_fullOn 61 = .ok (.iaload, 1) := dk_46 (dk_at dksX0_fullOn_2 14 rfl rfl)
theorem dX0_fullOn_62 : decode cX0_fullOn 62 = .ok (.iadd, 1) := dk_96 (dk_at dksX0_fullOn_2 15 rfl rfl)
theorem dX0_fullOn_63 : decode cX0_fullOn 63 = .ok (.dup2, 1) := dk_92 (dk_at dksX0_fullOn_2 16 rfl rfl)
theorem dX0_fullOn_64 : decode cX0_fullOn 64 = .ok (.iaload, 1) := dk_46 (dk_at dksX0_fullOn_2 17 rfl rfl)
theorem dX0_fullOn_65 : decode cX0_fullOn 65 = .ok (.iconst 1, 1) := dk_4 (dk_at dksX0_fullOn_2 18 rfl rfl)
theorem dX0_fullOn_66 : decode cX0_fullOn 66 = .ok (.iadd, 1) := dk_96 (dk_at dksX0_fullOn_2 19 rfl rfl)
theorem dX0_fullOn_67 : decode cX0_fullOn 67 = .ok (.iastore, 1) := dk_79 (dk_at dksX0_fullOn_2 20 rfl rfl)
theorem dX0_fullOn_68 : decode cX0_fullOn 68 = .ok (.iinc 4 1, 3) := dk_132 4 1 (dk_at dksX0_fullOn_2 21 rfl rfl)
theorem dX0_fullOn_71 : decode cX0_fullOn 71 = .ok (.goto (-46), 3) := dk_167 255 210 (dk_at dksX0_fullOn_3 0 rfl rfl)
theorem dX0_fullOn_74 : decode cX0_fullOn 74 = .ok (.return_, 1) := dk_177 (dk_at dksX0_fullOn_3 3 rfl rfl)
theorem dX0_fullOn_75 : decode cX0_fullOn 75 = .ok (.iload_n 3, 1) := dk_29 (dk_at dksX0_fullOn_3 4 rfl rfl)
theorem dX0_fullOn_76 : decode cX0_fullOn 76 = .ok (.aload_n 0, 1) := dk_42 (dk_at dksX0_fullOn_3 5 rfl rfl)
theorem dX0_fullOn_77 : decode cX0_fullOn 77 = .ok (.getfield 182, 3) := dk_180 0 182 (dk_at dksX0_fullOn_3 6 rfl rfl)
theorem dX0_fullOn_80 : decode cX0_fullOn 80 = .ok (.iload_n 1, 1) := dk_27 (dk_at dksX0_fullOn_3 9 rfl rfl)
theorem dX0_fullOn_81 : decode cX0_fullOn 81 = .ok (.isub, 1) := dk_100 (dk_at dksX0_fullOn_3 10 rfl rfl)
theorem dX0_fullOn_82 : decode cX0_fullOn 82 = .ok (.if_icmp .le 4, 3) := dk_164 0 4 (dk_at dksX0_fullOn_3 11 rfl rfl)
theorem dX0_fullOn_85 : decode cX0_fullOn 85 = .ok (.return_, 1) := dk_177 (dk_at dksX0_fullOn_3 14 rfl rfl)
theorem dX0_fullOn_86 : decode cX0_fullOn 86 = .ok (.iload_n 3, 1) := dk_29 (dk_at dksX0_fullOn_3 15 rfl rfl)
theorem dX0_fullOn_87 : decode cX0_fullOn 87 = .ok (.ifCond .ne 7, 3) := dk_154 0 7 (dk_at dksX0_fullOn_3 16 rfl rfl)
theorem dX0_fullOn_90 : decode cX0_fullOn 90 = .ok (.iconst 0, 1) := dk_3 (dk_at dksX0_fullOn_3 19 rfl rfl)
theorem dX0_fullOn_91 : decode cX0_fullOn 91 = .ok (.goto 9, 3) := dk_167 0 9 (dk_at dksX0_fullOn_3 20 rfl rfl)
theorem dX0_fullOn_94 : decode cX0_fullOn 94 = .ok (.aload_n 0, 1) := dk_42 (dk_at dksX0_fullOn_3 23 rfl rfl)
theorem dX0_fullOn_95 : decode cX0_fullOn 95 = .ok (.iload_n 1, 1) := dk_27 (dk_at dksX0_fullOn_4 0 rfl rfl)
theorem dX0_fullOn_96 : decode cX0_fullOn 96 = .ok (.iload_n 2, 1) := dk_28 (dk_at dksX0_fullOn_4 1 rfl rfl)
theorem dX0_fullOn_97 : decode cX0_fullOn 97 = .ok (.invokevirtual 279, 3) := dk_182 1 23 (dk_at dksX0_fullOn_4 2 rfl rfl)
theorem dX0_fullOn_100 : decode cX0_fullOn 100 = .ok (.istore 4, 2) := dk_54 4 (dk_at dksX0_fullOn_4 5 rfl rfl)
theorem dX0_fullOn_102 : decode cX0_fullOn 102 = .ok (.iconst 0, 1) := dk_3 (dk_at dksX0_fullOn_4 7 rfl rfl)
theorem dX0_fullOn_103 : decode cX0_fullOn 103 = .ok (.istore 5, 2) := dk_54 5 (dk_at dksX0_fullOn_4 8 rfl rfl)
theorem dX0_fullOn_105 : decode cX0_fullOn 105 = .ok (.iload 5, 2) := dk_21 5 (dk_at dksX0_fullOn_4 10 rfl rfl)
theorem dX0_fullOn_107 : decode cX0_fullOn 107 = .ok (.aload_n 0, 1) := dk_42 (dk_at dksX0_fullOn_4 12 rfl rfl)
theorem dX0_fullOn_108 : decode cX0_fullOn 108 = .ok (.getfield 175, 3) := dk_180 0 175 (dk_at dksX0_fullOn_4 13 rfl rfl)
theorem dX0_fullOn_111 : decode cX0_fullOn 111 = .ok (.if_icmp .ge 45, 3) := dk_162 0 45 (dk_at dksX0_fullOn_4 16 rfl rfl)
theorem dX0_fullOn_114 : decode cX0_fullOn 114 = .ok (.iload 4, 2) := dk_21 4 (dk_at dksX0_fullOn_4 19 rfl rfl)
theorem dX0_fullOn_116 : decode cX0_fullOn 116 = .ok (.iload 5, 2) := dk_21 5 (dk_at dksX0_fullOn_4 21 rfl rfl)
theorem dX0_fullOn_118 : decode cX0_fullOn 118 = .ok (.invokestatic 282, 3) := dk_184 1 26 (dk_at dksX0_fullOn_5 0 rfl rfl)
theorem dX0_fullOn_121 : decode cX0_fullOn 121 = .ok (.ifCond .eq 29, 3) := dk_153 0 29 (dk_at dksX0_fullOn_5 3 rfl rfl)
theorem dX0_fullOn_124 : decode cX0_fullOn 124 = .ok (.aload_n 0, 1) := dk_42 (dk_at dksX0_fullOn_5 6 rfl rfl)
theorem dX0_fullOn_125 : decode cX0_fullOn 125 = .ok (.getfield 71, 3) := dk_180 0 71 (dk_at dksX0_fullOn_5 7 rfl rfl)
theorem dX0_fullOn_128 : decode cX0_fullOn 128 = .ok (.iload_n 1, 1) := dk_27 (dk_at dksX0_fullOn_5 10 rfl rfl)
theorem dX0_fullOn_129 : decode cX0_fullOn 129 = .ok (.iload 5, 2) := dk_21 5 (dk_at dksX0_fullOn_5 11 rfl rfl)
theorem dX0_fullOn_131 : decode cX0_fullOn 131 = .ok (.iastore, 1) := dk_79 (dk_at dksX0_fullOn_5 13 rfl rfl)
theorem dX0_fullOn_132 : decode cX0_fullOn 132 = .ok (.aload_n 0, 1) := dk_42 (dk_at dksX0_fullOn_5 14 rfl rfl)
theorem dX0_fullOn_133 : decode cX0_fullOn 133 = .ok (.iload_n 1, 1) := dk_27 (dk_at dksX0_fullOn_5 15 rfl rfl)
theorem dX0_fullOn_134 : decode cX0_fullOn 134 = .ok (.iconst 1, 1) := dk_4 (dk_at dksX0_fullOn_5 16 rfl rfl)
theorem dX0_fullOn_135 : decode cX0_fullOn 135 = .ok (.iadd, 1) := dk_96 (dk_at dksX0_fullOn_5 17 rfl rfl)
theorem dX0_fullOn_136 : decode cX0_fullOn 136 = .ok (.iload_n 2, 1) := dk_28 (dk_at dksX0_fullOn_5 18 rfl rfl)
theorem dX0_fullOn_137 : decode cX0_fullOn 137 = .ok (.iconst 1, 1) := dk_4 (dk_at dksX0_fullOn_5 19 rfl rfl)
theorem dX0_fullOn_138 : decode cX0_fullOn 138 = .ok (.iload 5, 2) := dk_21 5 (dk_at dksX0_fullOn_5 20 rfl rfl)
theorem dX0_fullOn_140 : decode cX0_fullOn 140 = .ok (.ishl, 1) := dk_120 (dk_at dksX0_fullOn_5 22 rfl rfl)
theorem dX0_fullOn_141 : decode cX0_fullOn 141 = .ok (.iconst (-1), 1) := dk_2 (dk_at dksX0_fullOn_5 23 rfl rfl)
theorem dX0_fullOn_142 : decode cX0_fullOn 142 = .ok (.ixor, 1) := dk_130 (dk_at dksX0_fullOn_6 0 rfl rfl)
theorem dX0_fullOn_143 : decode cX0_fullOn 143 = .ok (.iand, 1) := dk_126 (dk_at dksX0_fullOn_6 1 rfl rfl)
theorem dX0_fullOn_144 : decode cX0_fullOn 144 = .ok (.iload_n 3, 1) := dk_29 (dk_at dksX0_fullOn_6 2 rfl rfl)
theorem dX0_fullOn_145 : decode cX0_fullOn 145 = .ok (.iconst 1, 1) := dk_4 (dk_at dksX0_fullOn_6 3 rfl rfl)
theorem dX0_fullOn_146 : decode cX0_fullOn 146 = .ok (.isub, 1) := dk_100 (dk_at dksX0_fullOn_6 4 rfl rfl)
theorem dX0_fullOn_147 : decode cX0_fullOn 147 = .ok (.invokevirtual 299, 3) := dk_182 1 43 (dk_at dksX0_fullOn_6 5 rfl rfl)
theorem dX0_fullOn_150 : decode cX0_fullOn 150 = .ok (.iinc 5 1, 3) := dk_132 5 1 (dk_at dksX0_fullOn_6 8 rfl rfl)
theorem dX0_fullOn_153 : decode cX0_fullOn 153 = .ok (.goto (-48), 3) := dk_167 255 208 (dk_at dksX0_fullOn_6 11 rfl rfl)
theorem dX0_fullOn_156 : decode cX0_fullOn 156 = .ok (.aload_n 0, 1) := dk_42 (dk_at dksX0_fullOn_6 14 rfl rfl)
theorem dX0_fullOn_157 : decode cX0_fullOn 157 = .ok (.getfield 71, 3) := dk_180 0 71 (dk_at dksX0_fullOn_6 15 rfl rfl)
theorem dX0_fullOn_160 : decode cX0_fullOn 160 = .ok (.iload_n 1, 1) := dk_27 (dk_at dksX0_fullOn_6 18 rfl rfl)
theorem dX0_fullOn_161 : decode cX0_fullOn 161 = .ok (.bipush (-9), 2) := dk_16 247 (dk_at dksX0_fullOn_6 19 rfl rfl)
theorem dX0_fullOn_163 : decode cX0_fullOn 163 = .ok (.iastore, 1) := dk_79 (dk_at dksX0_fullOn_6 21 rfl rfl)
theorem dX0_fullOn_164 : decode cX0_fullOn 164 = .ok (.aload_n 0, 1) := dk_42 (dk_at dksX0_fullOn_6 22 rfl rfl)
theorem dX0_fullOn_165 : decode cX0_fullOn 165 = .ok (.iload_n 1, 1) := dk_27 (dk_at dksX0_fullOn_6 23 rfl rfl)
theorem dX0_fullOn_166 : decode cX0_fullOn 166 = .ok (.iconst 1, 1) := dk_4 (dk_at dksX0_fullOn_7 0 rfl rfl)
theorem dX0_fullOn_167 : decode cX0_fullOn 167 = .ok (.iadd, 1) := dk_96 (dk_at dksX0_fullOn_7 1 rfl rfl)
theorem dX0_fullOn_168 : decode cX0_fullOn 168 = .ok (.iload_n 2, 1) := dk_28 (dk_at dksX0_fullOn_7 2 rfl rfl)
theorem dX0_fullOn_169 : decode cX0_fullOn 169 = .ok (.iload_n 3, 1) := dk_29 (dk_at dksX0_fullOn_7 3 rfl rfl)
theorem dX0_fullOn_170 : decode cX0_fullOn 170 = .ok (.invokevirtual 299, 3) := dk_182 1 43 (dk_at dksX0_fullOn_7 4 rfl rfl)
theorem dX0_fullOn_173 : decode cX0_fullOn 173 = .ok (.return_, 1) := dk_177 (dk_at dksX0_fullOn_7 7 rfl rfl)
abbrev cX0_may : ByteArray := prog_1_method_66_code
def yX0_may : MethodName := ⟨RX0, "may", "(I)I"⟩
def dkwX0_may_2 : List UInt8 := [3, 128, 61, 132, 3, 1, 167, 255, 221, 28, 172]
abbrev dktX0_may_2 : List UInt8 := dkwX0_may_2 ++ []
def dkwX0_may_1 : List UInt8 := [162, 0, 33, 28, 42, 180, 0, 77, 16, 7, 29, 104, 27, 96, 46, 158, 0, 9, 4, 29, 120, 167, 0, 4]
abbrev dktX0_may_1 : List UInt8 := dkwX0_may_1 ++ dktX0_may_2
def dkwX0_may_0 : List UInt8 := [42, 27, 182, 0, 217, 154, 0, 5, 2, 172, 42, 182, 1, 47, 3, 61, 3, 62, 29, 42, 180, 0, 182]
abbrev dktX0_may_0 : List UInt8 := dkwX0_may_0 ++ dktX0_may_1
theorem dksX0_may_0 : cX0_may.data.toList.drop 0 = dktX0_may_0 := by decide +kernel
theorem dksX0_may_1 : cX0_may.data.toList.drop 23 = dktX0_may_1 := dk_seg dksX0_may_0 23 rfl rfl
theorem dksX0_may_2 : cX0_may.data.toList.drop 47 = dktX0_may_2 := dk_seg dksX0_may_1 24 rfl rfl
theorem dX0_may_0 : decode cX0_may 0 = .ok (.aload_n 0, 1) := dk_42 (dk_at dksX0_may_0 0 rfl rfl)
theorem dX0_may_1 : decode cX0_may 1 = .ok (.iload_n 1, 1) := dk_27 (dk_at dksX0_may_0 1 rfl rfl)
theorem dX0_may_2 : decode cX0_may 2 = .ok (.invokevirtual 217, 3) := dk_182 0 217 (dk_at dksX0_may_0 2 rfl rfl)
theorem dX0_may_5 : decode cX0_may 5 = .ok (.ifCond .ne 5, 3) := dk_154 0 5 (dk_at dksX0_may_0 5 rfl rfl)
theorem dX0_may_8 : decode cX0_may 8 = .ok (.iconst (-1), 1) := dk_2 (dk_at dksX0_may_0 8 rfl rfl)
theorem dX0_may_9 : decode cX0_may 9 = .ok (.ireturn, 1) := dk_172 (dk_at dksX0_may_0 9 rfl rfl)
theorem dX0_may_10 : decode cX0_may 10 = .ok (.aload_n 0, 1) := dk_42 (dk_at dksX0_may_0 10 rfl rfl)
theorem dX0_may_11 : decode cX0_may 11 = .ok (.invokevirtual 303, 3) := dk_182 1 47 (dk_at dksX0_may_0 11 rfl rfl)
theorem dX0_may_14 : decode cX0_may 14 = .ok (.iconst 0, 1) := dk_3 (dk_at dksX0_may_0 14 rfl rfl)
theorem dX0_may_15 : decode cX0_may 15 = .ok (.istore_n 2, 1) := dk_61 (dk_at dksX0_may_0 15 rfl rfl)
theorem dX0_may_16 : decode cX0_may 16 = .ok (.iconst 0, 1) := dk_3 (dk_at dksX0_may_0 16 rfl rfl)
theorem dX0_may_17 : decode cX0_may 17 = .ok (.istore_n 3, 1) := dk_62 (dk_at dksX0_may_0 17 rfl rfl)
theorem dX0_may_18 : decode cX0_may 18 = .ok (.iload_n 3, 1) := dk_29 (dk_at dksX0_may_0 18 rfl rfl)
theorem dX0_may_19 : decode cX0_may 19 = .ok (.aload_n 0, 1) := dk_42 (dk_at dksX0_may_0 19 rfl rfl)
theorem dX0_may_20 : decode cX0_may 20 = .ok (.getfield 182, 3) := dk_180 0 182 (dk_at dksX0_may_0 20 rfl rfl)
theorem dX0_may_23 : decode cX0_may 23 = .ok (.if_icmp .ge 33, 3) := dk_162 0 33 (dk_at dksX0_may_1 0 rfl rfl)
theorem dX0_may_26 : decode cX0_may 26 = .ok (.iload_n 2, 1) := dk_28 (dk_at dksX0_may_1 3 rfl rfl)
theorem dX0_may_27 : decode cX0_may 27 = .ok (.aload_n 0, 1) := dk_42 (dk_at dksX0_may_1 4 rfl rfl)
theorem dX0_may_28 : decode cX0_may 28 = .ok (.getfield 77, 3) := dk_180 0 77 (dk_at dksX0_may_1 5 rfl rfl)
theorem dX0_may_31 : decode cX0_may 31 = .ok (.bipush 7, 2) := dk_16 7 (dk_at dksX0_may_1 8 rfl rfl)
theorem dX0_may_33 : decode cX0_may 33 = .ok (.iload_n 3, 1) := dk_29 (dk_at dksX0_may_1 10 rfl rfl)
theorem dX0_may_34 : decode cX0_may 34 = .ok (.imul, 1) := dk_104 (dk_at dksX0_may_1 11 rfl rfl)
theorem dX0_may_35 : decode cX0_may 35 = .ok (.iload_n 1, 1) := dk_27 (dk_at dksX0_may_1 12 rfl rfl)
theorem dX0_may_36 : decode cX0_may 36 = .ok (.iadd, 1) := dk_96 (dk_at dksX0_may_1 13 rfl rfl)
theorem dX0_may_37 : decode cX0_may 37 = .ok (.iaload, 1) := dk_46 (dk_at dksX0_may_1 14 rfl rfl)
theorem dX0_may_38 : decode cX0_may 38 = .ok (.ifCond .le 9, 3) := dk_158 0 9 (dk_at dksX0_may_1 15 rfl rfl)
theorem dX0_may_41 : decode cX0_may 41 = .ok (.iconst 1, 1) := dk_4 (dk_at dksX0_may_1 18 rfl rfl)
theorem dX0_may_42 : decode cX0_may 42 = .ok (.iload_n 3, 1) := dk_29 (dk_at dksX0_may_1 19 rfl rfl)
theorem dX0_may_43 : decode cX0_may 43 = .ok (.ishl, 1) := dk_120 (dk_at dksX0_may_1 20 rfl rfl)
theorem dX0_may_44 : decode cX0_may 44 = .ok (.goto 4, 3) := dk_167 0 4 (dk_at dksX0_may_1 21 rfl rfl)
theorem dX0_may_47 : decode cX0_may 47 = .ok (.iconst 0, 1) := dk_3 (dk_at dksX0_may_2 0 rfl rfl)
theorem dX0_may_48 : decode cX0_may 48 = .ok (.ior, 1) := dk_128 (dk_at dksX0_may_2 1 rfl rfl)
theorem dX0_may_49 : decode cX0_may 49 = .ok (.istore_n 2, 1) := dk_61 (dk_at dksX0_may_2 2 rfl rfl)
theorem dX0_may_50 : decode cX0_may 50 = .ok (.iinc 3 1, 3) := dk_132 3 1 (dk_at dksX0_may_2 3 rfl rfl)
theorem dX0_may_53 : decode cX0_may 53 = .ok (.goto (-35), 3) := dk_167 255 221 (dk_at dksX0_may_2 6 rfl rfl)
theorem dX0_may_56 : decode cX0_may 56 = .ok (.iload_n 2, 1) := dk_28 (dk_at dksX0_may_2 9 rfl rfl)
theorem dX0_may_57 : decode cX0_may 57 = .ok (.ireturn, 1) := dk_172 (dk_at dksX0_may_2 10 rfl rfl)
abbrev cX0_sure : ByteArray := prog_1_method_67_code
def yX0_sure : MethodName := ⟨RX0, "sure", "(I)I"⟩
def dkwX0_sure_2 : List UInt8 := [167, 255, 225, 16, 247, 172]
abbrev dktX0_sure_2 : List UInt8 := dkwX0_sure_2 ++ []
def dkwX0_sure_1 : List UInt8 := [42, 180, 0, 77, 16, 7, 27, 104, 28, 96, 46, 42, 180, 1, 40, 160, 0, 5, 28, 172, 132, 2, 1]
abbrev dktX0_sure_1 : List UInt8 := dkwX0_sure_1 ++ dktX0_sure_2
def dkwX0_sure_0 : List UInt8 := [42, 27, 182, 0, 223, 154, 0, 5, 2, 172, 42, 182, 1, 47, 3, 61, 28, 42, 180, 0, 175, 162, 0, 29]
abbrev dktX0_sure_0 : List UInt8 := dkwX0_sure_0 ++ dktX0_sure_1
theorem dksX0_sure_0 : cX0_sure.data.toList.drop 0 = dktX0_sure_0 := by decide +kernel
theorem dksX0_sure_1 : cX0_sure.data.toList.drop 24 = dktX0_sure_1 := dk_seg dksX0_sure_0 24 rfl rfl
theorem dksX0_sure_2 : cX0_sure.data.toList.drop 47 = dktX0_sure_2 := dk_seg dksX0_sure_1 23 rfl rfl
theorem dX0_sure_0 : decode cX0_sure 0 = .ok (.aload_n 0, 1) := dk_42 (dk_at dksX0_sure_0 0 rfl rfl)
theorem dX0_sure_1 : decode cX0_sure 1 = .ok (.iload_n 1, 1) := dk_27 (dk_at dksX0_sure_0 1 rfl rfl)
theorem dX0_sure_2 : decode cX0_sure 2 = .ok (.invokevirtual 223, 3) := dk_182 0 223 (dk_at dksX0_sure_0 2 rfl rfl)
theorem dX0_sure_5 : decode cX0_sure 5 = .ok (.ifCond .ne 5, 3) := dk_154 0 5 (dk_at dksX0_sure_0 5 rfl rfl)
theorem dX0_sure_8 : decode cX0_sure 8 = .ok (.iconst (-1), 1) := dk_2 (dk_at dksX0_sure_0 8 rfl rfl)
theorem dX0_sure_9 : decode cX0_sure 9 = .ok (.ireturn, 1) := dk_172 (dk_at dksX0_sure_0 9 rfl rfl)
theorem dX0_sure_10 : decode cX0_sure 10 = .ok (.aload_n 0, 1) := dk_42 (dk_at dksX0_sure_0 10 rfl rfl)
theorem dX0_sure_11 : decode cX0_sure 11 = .ok (.invokevirtual 303, 3) := dk_182 1 47 (dk_at dksX0_sure_0 11 rfl rfl)
theorem dX0_sure_14 : decode cX0_sure 14 = .ok (.iconst 0, 1) := dk_3 (dk_at dksX0_sure_0 14 rfl rfl)
theorem dX0_sure_15 : decode cX0_sure 15 = .ok (.istore_n 2, 1) := dk_61 (dk_at dksX0_sure_0 15 rfl rfl)
theorem dX0_sure_16 : decode cX0_sure 16 = .ok (.iload_n 2, 1) := dk_28 (dk_at dksX0_sure_0 16 rfl rfl)
theorem dX0_sure_17 : decode cX0_sure 17 = .ok (.aload_n 0, 1) := dk_42 (dk_at dksX0_sure_0 17 rfl rfl)
theorem dX0_sure_18 : decode cX0_sure 18 = .ok (.getfield 175, 3) := dk_180 0 175 (dk_at dksX0_sure_0 18 rfl rfl)
theorem dX0_sure_21 : decode cX0_sure 21 = .ok (.if_icmp .ge 29, 3) := dk_162 0 29 (dk_at dksX0_sure_0 21 rfl rfl)
theorem dX0_sure_24 : decode cX0_sure 24 = .ok (.aload_n 0, 1) := dk_42 (dk_at dksX0_sure_1 0 rfl rfl)
theorem dX0_sure_25 : decode cX0_sure 25 = .ok (.getfield 77, 3) := dk_180 0 77 (dk_at dksX0_sure_1 1 rfl rfl)
theorem dX0_sure_28 : decode cX0_sure 28 = .ok (.bipush 7, 2) := dk_16 7 (dk_at dksX0_sure_1 4 rfl rfl)
theorem dX0_sure_30 : decode cX0_sure 30 = .ok (.iload_n 1, 1) := dk_27 (dk_at dksX0_sure_1 6 rfl rfl)
theorem dX0_sure_31 : decode cX0_sure 31 = .ok (.imul, 1) := dk_104 (dk_at dksX0_sure_1 7 rfl rfl)
theorem dX0_sure_32 : decode cX0_sure 32 = .ok (.iload_n 2, 1) := dk_28 (dk_at dksX0_sure_1 8 rfl rfl)
theorem dX0_sure_33 : decode cX0_sure 33 = .ok (.iadd, 1) := dk_96 (dk_at dksX0_sure_1 9 rfl rfl)
theorem dX0_sure_34 : decode cX0_sure 34 = .ok (.iaload, 1) := dk_46 (dk_at dksX0_sure_1 10 rfl rfl)
theorem dX0_sure_35 : decode cX0_sure 35 = .ok (.aload_n 0, 1) := dk_42 (dk_at dksX0_sure_1 11 rfl rfl)
theorem dX0_sure_36 : decode cX0_sure 36 = .ok (.getfield 296, 3) := dk_180 1 40 (dk_at dksX0_sure_1 12 rfl rfl)
theorem dX0_sure_39 : decode cX0_sure 39 = .ok (.if_icmp .ne 5, 3) := dk_160 0 5 (dk_at dksX0_sure_1 15 rfl rfl)
theorem dX0_sure_42 : decode cX0_sure 42 = .ok (.iload_n 2, 1) := dk_28 (dk_at dksX0_sure_1 18 rfl rfl)
theorem dX0_sure_43 : decode cX0_sure 43 = .ok (.ireturn, 1) := dk_172 (dk_at dksX0_sure_1 19 rfl rfl)
theorem dX0_sure_44 : decode cX0_sure 44 = .ok (.iinc 2 1, 3) := dk_132 2 1 (dk_at dksX0_sure_1 20 rfl rfl)
theorem dX0_sure_47 : decode cX0_sure 47 = .ok (.goto (-31), 3) := dk_167 255 225 (dk_at dksX0_sure_2 0 rfl rfl)
theorem dX0_sure_50 : decode cX0_sure 50 = .ok (.bipush (-9), 2) := dk_16 247 (dk_at dksX0_sure_2 3 rfl rfl)
theorem dX0_sure_52 : decode cX0_sure 52 = .ok (.ireturn, 1) := dk_172 (dk_at dksX0_sure_2 5 rfl rfl)
abbrev cX0_test : ByteArray := prog_1_method_68_code
def yX0_test : MethodName := ⟨RX0, "test", "()I"⟩
def dkwX0_test_6 : List UInt8 := [28, 27, 182, 0, 104, 172]
abbrev dktX0_test_6 : List UInt8 := dkwX0_test_6 ++ []
def dkwX0_test_5 : List UInt8 := [132, 4, 1, 167, 255, 160, 132, 3, 1, 167, 255, 143, 27, 16, 247, 160, 0, 8, 16, 247, 167, 0, 9, 42]
abbrev dktX0_test_5 : List UInt8 := dkwX0_test_5 ++ dktX0_test_6
def dkwX0_test_4 : List UInt8 := [16, 10, 29, 104, 21, 4, 96, 167, 0, 4, 27, 60, 21, 7, 153, 0, 8, 21, 6, 167, 0, 4, 28, 61]
abbrev dktX0_test_4 : List UInt8 := dkwX0_test_4 ++ dktX0_test_5
def dkwX0_test_3 : List UInt8 := [180, 1, 40, 162, 0, 13, 21, 6, 28, 162, 0, 7, 4, 167, 0, 4, 3, 54, 7, 21, 7, 153, 0, 13]
abbrev dktX0_test_3 : List UInt8 := dkwX0_test_3 ++ dktX0_test_4
def dkwX0_test_2 : List UInt8 := [21, 5, 42, 180, 1, 40, 21, 5, 100, 184, 1, 51, 54, 6, 21, 5, 158, 0, 22, 21, 5, 42]
abbrev dktX0_test_2 : List UInt8 := dkwX0_test_2 ++ dktX0_test_3
def dkwX0_test_1 : List UInt8 := [21, 4, 42, 180, 0, 175, 162, 0, 93, 42, 180, 0, 77, 16, 7, 29, 104, 21, 4, 96, 46, 54, 5]
abbrev dktX0_test_1 : List UInt8 := dkwX0_test_1 ++ dktX0_test_2
def dkwX0_test_0 : List UInt8 := [42, 182, 1, 47, 16, 247, 60, 19, 1, 50, 61, 3, 62, 29, 42, 180, 0, 182, 162, 0, 111, 3, 54, 4]
abbrev dktX0_test_0 : List UInt8 := dkwX0_test_0 ++ dktX0_test_1
theorem dksX0_test_0 : cX0_test.data.toList.drop 0 = dktX0_test_0 := by decide +kernel
theorem dksX0_test_1 : cX0_test.data.toList.drop 24 = dktX0_test_1 := dk_seg dksX0_test_0 24 rfl rfl
theorem dksX0_test_2 : cX0_test.data.toList.drop 47 = dktX0_test_2 := dk_seg dksX0_test_1 23 rfl rfl
theorem dksX0_test_3 : cX0_test.data.toList.drop 69 = dktX0_test_3 := dk_seg dksX0_test_2 22 rfl rfl
theorem dksX0_test_4 : cX0_test.data.toList.drop 93 = dktX0_test_4 := dk_seg dksX0_test_3 24 rfl rfl
theorem dksX0_test_5 : cX0_test.data.toList.drop 117 = dktX0_test_5 := dk_seg dksX0_test_4 24 rfl rfl
theorem dksX0_test_6 : cX0_test.data.toList.drop 141 = dktX0_test_6 := dk_seg dksX0_test_5 24 rfl rfl
theorem dX0_test_0 : decode cX0_test 0 = .ok (.aload_n 0, 1) := dk_42 (dk_at dksX0_test_0 0 rfl rfl)
theorem dX0_test_1 : decode cX0_test 1 = .ok (.invokevirtual 303, 3) := dk_182 1 47 (dk_at dksX0_test_0 1 rfl rfl)
theorem dX0_test_4 : decode cX0_test 4 = .ok (.bipush (-9), 2) := dk_16 247 (dk_at dksX0_test_0 4 rfl rfl)
theorem dX0_test_6 : decode cX0_test 6 = .ok (.istore_n 1, 1) := dk_60 (dk_at dksX0_test_0 6 rfl rfl)
theorem dX0_test_7 : decode cX0_test 7 = .ok (.ldc_w 306, 3) := dk_19 1 50 (dk_at dksX0_test_0 7 rfl rfl)
theorem dX0_test_10 : decode cX0_test 10 = .ok (.istore_n 2, 1) := dk_61 (dk_at dksX0_test_0 10 rfl rfl)
theorem dX0_test_11 : decode cX0_test 11 = .ok (.iconst 0, 1) := dk_3 (dk_at dksX0_test_0 11 rfl rfl)
theorem dX0_test_12 : decode cX0_test 12 = .ok (.istore_n 3, 1) := dk_62 (dk_at dksX0_test_0 12 rfl rfl)
theorem dX0_test_13 : decode cX0_test 13 = .ok (.iload_n 3, 1) := dk_29 (dk_at dksX0_test_0 13 rfl rfl)
theorem dX0_test_14 : decode cX0_test 14 = .ok (.aload_n 0, 1) := dk_42 (dk_at dksX0_test_0 14 rfl rfl)
theorem dX0_test_15 : decode cX0_test 15 = .ok (.getfield 182, 3) := dk_180 0 182 (dk_at dksX0_test_0 15 rfl rfl)
theorem dX0_test_18 : decode cX0_test 18 = .ok (.if_icmp .ge 111, 3) := dk_162 0 111 (dk_at dksX0_test_0 18 rfl rfl)
theorem dX0_test_21 : decode cX0_test 21 = .ok (.iconst 0, 1) := dk_3 (dk_at dksX0_test_0 21 rfl rfl)
theorem dX0_test_22 : decode cX0_test 22 = .ok (.istore 4, 2) := dk_54 4 (dk_at dksX0_test_0 22 rfl rfl)
theorem dX0_test_24 : decode cX0_test 24 = .ok (.iload 4, 2) := dk_21 4 (dk_at dksX0_test_1 0 rfl rfl)
theorem dX0_test_26 : decode cX0_test 26 = .ok (.aload_n 0, 1) := dk_42 (dk_at dksX0_test_1 2 rfl rfl)
theorem dX0_test_27 : decode cX0_test 27 = .ok (.getfield 175, 3) := dk_180 0 175 (dk_at dksX0_test_1 3 rfl rfl)
theorem dX0_test_30 : decode cX0_test 30 = .ok (.if_icmp .ge 93, 3) := dk_162 0 93 (dk_at dksX0_test_1 6 rfl rfl)
theorem dX0_test_33 : decode cX0_test 33 = .ok (.aload_n 0, 1) := dk_42 (dk_at dksX0_test_1 9 rfl rfl)
theorem dX0_test_34 : decode cX0_test 34 = .ok (.getfield 77, 3) := dk_180 0 77 (dk_at dksX0_test_1 10 rfl rfl)
theorem dX0_test_37 : decode cX0_test 37 = .ok (.bipush 7, 2) := dk_16 7 (dk_at dksX0_test_1 13 rfl rfl)
theorem dX0_test_39 : decode cX0_test 39 = .ok (.iload_n 3, 1) := dk_29 (dk_at dksX0_test_1 15 rfl rfl)
theorem dX0_test_40 : decode cX0_test 40 = .ok (.imul, 1) := dk_104 (dk_at dksX0_test_1 16 rfl rfl)
theorem dX0_test_41 : decode cX0_test 41 = .ok (.iload 4, 2) := dk_21 4 (dk_at dksX0_test_1 17 rfl rfl)
theorem dX0_test_43 : decode cX0_test 43 = .ok (.iadd, 1) := dk_96 (dk_at dksX0_test_1 19 rfl rfl)
theorem dX0_test_44 : decode cX0_test 44 = .ok (.iaload, 1) := dk_46 (dk_at dksX0_test_1 20 rfl rfl)
theorem dX0_test_45 : decode cX0_test 45 = .ok (.istore 5, 2) := dk_54 5 (dk_at dksX0_test_1 21 rfl rfl)
theorem dX0_test_47 : decode cX0_test 47 = .ok (.iload 5, 2) := dk_21 5 (dk_at dksX0_test_2 0 rfl rfl)
theorem dX0_test_49 : decode cX0_test 49 = .ok (.aload_n 0, 1) := dk_42 (dk_at dksX0_test_2 2 rfl rfl)
theorem dX0_test_50 : decode cX0_test 50 = .ok (.getfield 296, 3) := dk_180 1 40 (dk_at dksX0_test_2 3 rfl rfl)
theorem dX0_test_53 : decode cX0_test 53 = .ok (.iload 5, 2) := dk_21 5 (dk_at dksX0_test_2 6 rfl rfl)
theorem dX0_test_55 : decode cX0_test 55 = .ok (.isub, 1) := dk_100 (dk_at dksX0_test_2 8 rfl rfl)
theorem dX0_test_56 : decode cX0_test 56 = .ok (.invokestatic 307, 3) := dk_184 1 51 (dk_at dksX0_test_2 9 rfl rfl)
theorem dX0_test_59 : decode cX0_test 59 = .ok (.istore 6, 2) := dk_54 6 (dk_at dksX0_test_2 12 rfl rfl)
theorem dX0_test_61 : decode cX0_test 61 = .ok (.iload 5, 2) := dk_21 5 (dk_at dksX0_test_2 14 rfl rfl)
theorem dX0_test_63 : decode cX0_test 63 = .ok (.ifCond .le 22, 3) := dk_158 0 22 (dk_at dksX0_test_2 16 rfl rfl)
theorem dX0_test_66 : decode cX0_test 66 = .ok (.iload 5, 2) := dk_21 5 (dk_at dksX0_test_2 19 rfl rfl)
theorem dX0_test_68 : decode cX0_test 68 = .ok (.aload_n 0, 1) := dk_42 (dk_at dksX0_test_2 21 rfl rfl)
theorem dX0_test_69 : decode cX0_test 69 = .ok (.getfield 296, 3) := dk_180 1 40 (dk_at dksX0_test_3 0 rfl rfl)
theorem dX0_test_72 : decode cX0_test 72 = .ok (.if_icmp .ge 13, 3) := dk_162 0 13 (dk_at dksX0_test_3 3 rfl rfl)
theorem dX0_test_75 : decode cX0_test 75 = .ok (.iload 6, 2) := dk_21 6 (dk_at dksX0_test_3 6 rfl rfl)
theorem dX0_test_77 : decode cX0_test 77 = .ok (.iload_n 2, 1) := dk_28 (dk_at dksX0_test_3 8 rfl rfl)
theorem dX0_test_78 : decode cX0_test 78 = .ok (.if_icmp .ge 7, 3) := dk_162 0 7 (dk_at dksX0_test_3 9 rfl rfl)
theorem dX0_test_81 : decode cX0_test 81 = .ok (.iconst 1, 1) := dk_4 (dk_at dksX0_test_3 12 rfl rfl)
theorem dX0_test_82 : decode cX0_test 82 = .ok (.goto 4, 3) := dk_167 0 4 (dk_at dksX0_test_3 13 rfl rfl)
theorem dX0_test_85 : decode cX0_test 85 = .ok (.iconst 0, 1) := dk_3 (dk_at dksX0_test_3 16 rfl rfl)
theorem dX0_test_86 : decode cX0_test 86 = .ok (.istore 7, 2) := dk_54 7 (dk_at dksX0_test_3 17 rfl rfl)
theorem dX0_test_88 : decode cX0_test 88 = .ok (.iload 7, 2) := dk_21 7 (dk_at dksX0_test_3 19 rfl rfl)
theorem dX0_test_90 : decode cX0_test 90 = .ok (.ifCond .eq 13, 3) := dk_153 0 13 (dk_at dksX0_test_3 21 rfl rfl)
theorem dX0_test_93 : decode cX0_test 93 = .ok (.bipush 10, 2) := dk_16 10 (dk_at dksX0_test_4 0 rfl rfl)
theorem dX0_test_95 : decode cX0_test 95 = .ok (.iload_n 3, 1) := dk_29 (dk_at dksX0_test_4 2 rfl rfl)
theorem dX0_test_96 : decode cX0_test 96 = .ok (.imul, 1) := dk_104 (dk_at dksX0_test_4 3 rfl rfl)
theorem dX0_test_97 : decode cX0_test 97 = .ok (.iload 4, 2) := dk_21 4 (dk_at dksX0_test_4 4 rfl rfl)
theorem dX0_test_99 : decode cX0_test 99 = .ok (.iadd, 1) := dk_96 (dk_at dksX0_test_4 6 rfl rfl)
theorem dX0_test_100 : decode cX0_test 100 = .ok (.goto 4, 3) := dk_167 0 4 (dk_at dksX0_test_4 7 rfl rfl)
theorem dX0_test_103 : decode cX0_test 103 = .ok (.iload_n 1, 1) := dk_27 (dk_at dksX0_test_4 10 rfl rfl)
theorem dX0_test_104 : decode cX0_test 104 = .ok (.istore_n 1, 1) := dk_60 (dk_at dksX0_test_4 11 rfl rfl)
theorem dX0_test_105 : decode cX0_test 105 = .ok (.iload 7, 2) := dk_21 7 (dk_at dksX0_test_4 12 rfl rfl)
theorem dX0_test_107 : decode cX0_test 107 = .ok (.ifCond .eq 8, 3) := dk_153 0 8 (dk_at dksX0_test_4 14 rfl rfl)
theorem dX0_test_110 : decode cX0_test 110 = .ok (.iload 6, 2) := dk_21 6 (dk_at dksX0_test_4 17 rfl rfl)
theorem dX0_test_112 : decode cX0_test 112 = .ok (.goto 4, 3) := dk_167 0 4 (dk_at dksX0_test_4 19 rfl rfl)
theorem dX0_test_115 : decode cX0_test 115 = .ok (.iload_n 2, 1) := dk_28 (dk_at dksX0_test_4 22 rfl rfl)
theorem dX0_test_116 : decode cX0_test 116 = .ok (.istore_n 2, 1) := dk_61 (dk_at dksX0_test_4 23 rfl rfl)
theorem dX0_test_117 : decode cX0_test 117 = .ok (.iinc 4 1, 3) := dk_132 4 1 (dk_at dksX0_test_5 0 rfl rfl)
theorem dX0_test_120 : decode cX0_test 120 = .ok (.goto (-96), 3) := dk_167 255 160 (dk_at dksX0_test_5 3 rfl rfl)
theorem dX0_test_123 : decode cX0_test 123 = .ok (.iinc 3 1, 3) := dk_132 3 1 (dk_at dksX0_test_5 6 rfl rfl)
theorem dX0_test_126 : decode cX0_test 126 = .ok (.goto (-113), 3) := dk_167 255 143 (dk_at dksX0_test_5 9 rfl rfl)
theorem dX0_test_129 : decode cX0_test 129 = .ok (.iload_n 1, 1) := dk_27 (dk_at dksX0_test_5 12 rfl rfl)
theorem dX0_test_130 : decode cX0_test 130 = .ok (.bipush (-9), 2) := dk_16 247 (dk_at dksX0_test_5 13 rfl rfl)
theorem dX0_test_132 : decode cX0_test 132 = .ok (.if_icmp .ne 8, 3) := dk_160 0 8 (dk_at dksX0_test_5 15 rfl rfl)
theorem dX0_test_135 : decode cX0_test 135 = .ok (.bipush (-9), 2) := dk_16 247 (dk_at dksX0_test_5 18 rfl rfl)
theorem dX0_test_137 : decode cX0_test 137 = .ok (.goto 9, 3) := dk_167 0 9 (dk_at dksX0_test_5 20 rfl rfl)
theorem dX0_test_140 : decode cX0_test 140 = .ok (.aload_n 0, 1) := dk_42 (dk_at dksX0_test_5 23 rfl rfl)
theorem dX0_test_141 : decode cX0_test 141 = .ok (.iload_n 2, 1) := dk_28 (dk_at dksX0_test_6 0 rfl rfl)
theorem dX0_test_142 : decode cX0_test 142 = .ok (.iload_n 1, 1) := dk_27 (dk_at dksX0_test_6 1 rfl rfl)
theorem dX0_test_143 : decode cX0_test 143 = .ok (.invokevirtual 104, 3) := dk_182 0 104 (dk_at dksX0_test_6 2 rfl rfl)
theorem dX0_test_146 : decode cX0_test 146 = .ok (.ireturn, 1) := dk_172 (dk_at dksX0_test_6 5 rfl rfl)
abbrev cX0_odds : ByteArray := prog_1_method_69_code
def yX0_odds : MethodName := ⟨RX0, "odds", "(II)I"⟩
def dkwX0_odds_1 : List UInt8 := [180, 0, 77, 16, 7, 27, 104, 28, 96, 46, 42, 180, 1, 40, 182, 1, 56, 172]
abbrev dktX0_odds_1 : List UInt8 := dkwX0_odds_1 ++ []
def dkwX0_odds_0 : List UInt8 := [42, 27, 182, 0, 223, 153, 0, 11, 42, 28, 182, 0, 217, 154, 0, 5, 2, 172, 42, 182, 1, 47, 42, 42]
abbrev dktX0_odds_0 : List UInt8 := dkwX0_odds_0 ++ dktX0_odds_1
theorem dksX0_odds_0 : cX0_odds.data.toList.drop 0 = dktX0_odds_0 := by decide +kernel
theorem dksX0_odds_1 : cX0_odds.data.toList.drop 24 = dktX0_odds_1 := dk_seg dksX0_odds_0 24 rfl rfl
theorem dX0_odds_0 : decode cX0_odds 0 = .ok (.aload_n 0, 1) := dk_42 (dk_at dksX0_odds_0 0 rfl rfl)
theorem dX0_odds_1 : decode cX0_odds 1 = .ok (.iload_n 1, 1) := dk_27 (dk_at dksX0_odds_0 1 rfl rfl)
theorem dX0_odds_2 : decode cX0_odds 2 = .ok (.invokevirtual 223, 3) := dk_182 0 223 (dk_at dksX0_odds_0 2 rfl rfl)
theorem dX0_odds_5 : decode cX0_odds 5 = .ok (.ifCond .eq 11, 3) := dk_153 0 11 (dk_at dksX0_odds_0 5 rfl rfl)
theorem dX0_odds_8 : decode cX0_odds 8 = .ok (.aload_n 0, 1) := dk_42 (dk_at dksX0_odds_0 8 rfl rfl)
theorem dX0_odds_9 : decode cX0_odds 9 = .ok (.iload_n 2, 1) := dk_28 (dk_at dksX0_odds_0 9 rfl rfl)
theorem dX0_odds_10 : decode cX0_odds 10 = .ok (.invokevirtual 217, 3) := dk_182 0 217 (dk_at dksX0_odds_0 10 rfl rfl)
theorem dX0_odds_13 : decode cX0_odds 13 = .ok (.ifCond .ne 5, 3) := dk_154 0 5 (dk_at dksX0_odds_0 13 rfl rfl)
theorem dX0_odds_16 : decode cX0_odds 16 = .ok (.iconst (-1), 1) := dk_2 (dk_at dksX0_odds_0 16 rfl rfl)
theorem dX0_odds_17 : decode cX0_odds 17 = .ok (.ireturn, 1) := dk_172 (dk_at dksX0_odds_0 17 rfl rfl)
theorem dX0_odds_18 : decode cX0_odds 18 = .ok (.aload_n 0, 1) := dk_42 (dk_at dksX0_odds_0 18 rfl rfl)
theorem dX0_odds_19 : decode cX0_odds 19 = .ok (.invokevirtual 303, 3) := dk_182 1 47 (dk_at dksX0_odds_0 19 rfl rfl)
theorem dX0_odds_22 : decode cX0_odds 22 = .ok (.aload_n 0, 1) := dk_42 (dk_at dksX0_odds_0 22 rfl rfl)
theorem dX0_odds_23 : decode cX0_odds 23 = .ok (.aload_n 0, 1) := dk_42 (dk_at dksX0_odds_0 23 rfl rfl)
theorem dX0_odds_24 : decode cX0_odds 24 = .ok (.getfield 77, 3) := dk_180 0 77 (dk_at dksX0_odds_1 0 rfl rfl)
theorem dX0_odds_27 : decode cX0_odds 27 = .ok (.bipush 7, 2) := dk_16 7 (dk_at dksX0_odds_1 3 rfl rfl)
theorem dX0_odds_29 : decode cX0_odds 29 = .ok (.iload_n 1, 1) := dk_27 (dk_at dksX0_odds_1 5 rfl rfl)
theorem dX0_odds_30 : decode cX0_odds 30 = .ok (.imul, 1) := dk_104 (dk_at dksX0_odds_1 6 rfl rfl)
theorem dX0_odds_31 : decode cX0_odds 31 = .ok (.iload_n 2, 1) := dk_28 (dk_at dksX0_odds_1 7 rfl rfl)
theorem dX0_odds_32 : decode cX0_odds 32 = .ok (.iadd, 1) := dk_96 (dk_at dksX0_odds_1 8 rfl rfl)
theorem dX0_odds_33 : decode cX0_odds 33 = .ok (.iaload, 1) := dk_46 (dk_at dksX0_odds_1 9 rfl rfl)
theorem dX0_odds_34 : decode cX0_odds 34 = .ok (.aload_n 0, 1) := dk_42 (dk_at dksX0_odds_1 10 rfl rfl)
theorem dX0_odds_35 : decode cX0_odds 35 = .ok (.getfield 296, 3) := dk_180 1 40 (dk_at dksX0_odds_1 11 rfl rfl)
theorem dX0_odds_38 : decode cX0_odds 38 = .ok (.invokevirtual 312, 3) := dk_182 1 56 (dk_at dksX0_odds_1 14 rfl rfl)
theorem dX0_odds_41 : decode cX0_odds 41 = .ok (.ireturn, 1) := dk_172 (dk_at dksX0_odds_1 17 rfl rfl)
abbrev cX0_chances : ByteArray := prog_1_method_5_code
def yX0_chances : MethodName := ⟨RX0, "chances", "(II)I"⟩
def dkwX0_chances_1 : List UInt8 := [167, 255, 238, 42, 27, 29, 108, 133, 181, 0, 14, 42, 28, 29, 108, 133, 181, 0, 18, 4, 172]
abbrev dktX0_chances_1 : List UInt8 := dkwX0_chances_1 ++ []
def dkwX0_chances_0 : List UInt8 := [27, 62, 28, 54, 4, 21, 4, 153, 0, 19, 29, 21, 4, 112, 54, 5, 21, 4, 62, 21, 5, 54, 4]
abbrev dktX0_chances_0 : List UInt8 := dkwX0_chances_0 ++ dktX0_chances_1
theorem dksX0_chances_0 : cX0_chances.data.toList.drop 0 = dktX0_chances_0 := by decide +kernel
theorem dksX0_chances_1 : cX0_chances.data.toList.drop 23 = dktX0_chances_1 := dk_seg dksX0_chances_0 23 rfl rfl
theorem dX0_chances_0 : decode cX0_chances 0 = .ok (.iload_n 1, 1) := dk_27 (dk_at dksX0_chances_0 0 rfl rfl)
theorem dX0_chances_1 : decode cX0_chances 1 = .ok (.istore_n 3, 1) := dk_62 (dk_at dksX0_chances_0 1 rfl rfl)
theorem dX0_chances_2 : decode cX0_chances 2 = .ok (.iload_n 2, 1) := dk_28 (dk_at dksX0_chances_0 2 rfl rfl)
theorem dX0_chances_3 : decode cX0_chances 3 = .ok (.istore 4, 2) := dk_54 4 (dk_at dksX0_chances_0 3 rfl rfl)
theorem dX0_chances_5 : decode cX0_chances 5 = .ok (.iload 4, 2) := dk_21 4 (dk_at dksX0_chances_0 5 rfl rfl)
theorem dX0_chances_7 : decode cX0_chances 7 = .ok (.ifCond .eq 19, 3) := dk_153 0 19 (dk_at dksX0_chances_0 7 rfl rfl)
theorem dX0_chances_10 : decode cX0_chances 10 = .ok (.iload_n 3, 1) := dk_29 (dk_at dksX0_chances_0 10 rfl rfl)
theorem dX0_chances_11 : decode cX0_chances 11 = .ok (.iload 4, 2) := dk_21 4 (dk_at dksX0_chances_0 11 rfl rfl)
theorem dX0_chances_13 : decode cX0_chances 13 = .ok (.irem, 1) := dk_112 (dk_at dksX0_chances_0 13 rfl rfl)
theorem dX0_chances_14 : decode cX0_chances 14 = .ok (.istore 5, 2) := dk_54 5 (dk_at dksX0_chances_0 14 rfl rfl)
theorem dX0_chances_16 : decode cX0_chances 16 = .ok (.iload 4, 2) := dk_21 4 (dk_at dksX0_chances_0 16 rfl rfl)
theorem dX0_chances_18 : decode cX0_chances 18 = .ok (.istore_n 3, 1) := dk_62 (dk_at dksX0_chances_0 18 rfl rfl)
theorem dX0_chances_19 : decode cX0_chances 19 = .ok (.iload 5, 2) := dk_21 5 (dk_at dksX0_chances_0 19 rfl rfl)
theorem dX0_chances_21 : decode cX0_chances 21 = .ok (.istore 4, 2) := dk_54 4 (dk_at dksX0_chances_0 21 rfl rfl)
theorem dX0_chances_23 : decode cX0_chances 23 = .ok (.goto (-18), 3) := dk_167 255 238 (dk_at dksX0_chances_1 0 rfl rfl)
theorem dX0_chances_26 : decode cX0_chances 26 = .ok (.aload_n 0, 1) := dk_42 (dk_at dksX0_chances_1 3 rfl rfl)
theorem dX0_chances_27 : decode cX0_chances 27 = .ok (.iload_n 1, 1) := dk_27 (dk_at dksX0_chances_1 4 rfl rfl)
theorem dX0_chances_28 : decode cX0_chances 28 = .ok (.iload_n 3, 1) := dk_29 (dk_at dksX0_chances_1 5 rfl rfl)
theorem dX0_chances_29 : decode cX0_chances 29 = .ok (.idiv, 1) := dk_108 (dk_at dksX0_chances_1 6 rfl rfl)
theorem dX0_chances_30 : decode cX0_chances 30 = .ok (.i2l, 1) := dk_133 (dk_at dksX0_chances_1 7 rfl rfl)
theorem dX0_chances_31 : decode cX0_chances 31 = .ok (.putfield 14, 3) := dk_181 0 14 (dk_at dksX0_chances_1 8 rfl rfl)
theorem dX0_chances_34 : decode cX0_chances 34 = .ok (.aload_n 0, 1) := dk_42 (dk_at dksX0_chances_1 11 rfl rfl)
theorem dX0_chances_35 : decode cX0_chances 35 = .ok (.iload_n 2, 1) := dk_28 (dk_at dksX0_chances_1 12 rfl rfl)
theorem dX0_chances_36 : decode cX0_chances 36 = .ok (.iload_n 3, 1) := dk_29 (dk_at dksX0_chances_1 13 rfl rfl)
theorem dX0_chances_37 : decode cX0_chances 37 = .ok (.idiv, 1) := dk_108 (dk_at dksX0_chances_1 14 rfl rfl)
theorem dX0_chances_38 : decode cX0_chances 38 = .ok (.i2l, 1) := dk_133 (dk_at dksX0_chances_1 15 rfl rfl)
theorem dX0_chances_39 : decode cX0_chances 39 = .ok (.putfield 18, 3) := dk_181 0 18 (dk_at dksX0_chances_1 16 rfl rfl)
theorem dX0_chances_42 : decode cX0_chances 42 = .ok (.iconst 1, 1) := dk_4 (dk_at dksX0_chances_1 19 rfl rfl)
theorem dX0_chances_43 : decode cX0_chances 43 = .ok (.ireturn, 1) := dk_172 (dk_at dksX0_chances_1 20 rfl rfl)
abbrev cX0_worlds : ByteArray := prog_1_method_70_code
def yX0_worlds : MethodName := ⟨RX0, "worlds", "()I"⟩
def dkwX0_worlds_5 : List UInt8 := [167, 0, 4, 3, 54, 4, 27, 21, 4, 104, 60, 132, 2, 1, 167, 255, 129, 27, 172]
abbrev dktX0_worlds_5 : List UInt8 := dkwX0_worlds_5 ++ []
def dkwX0_worlds_4 : List UInt8 := [182, 0, 188, 42, 28, 4, 182, 0, 191, 42, 28, 5, 182, 0, 191, 184, 0, 86, 153, 0, 7, 4]
abbrev dktX0_worlds_4 : List UInt8 := dkwX0_worlds_4 ++ dktX0_worlds_5
def dkwX0_worlds_3 : List UInt8 := [167, 0, 4, 3, 54, 4, 167, 0, 46, 29, 154, 0, 42, 42, 180, 0, 40, 42, 180, 0, 50, 28, 46, 50]
abbrev dktX0_worlds_3 : List UInt8 := dkwX0_worlds_3 ++ dktX0_worlds_4
def dkwX0_worlds_2 : List UInt8 := [180, 0, 47, 28, 46, 16, 247, 159, 0, 26, 29, 154, 0, 12, 42, 28, 182, 0, 249, 4, 160, 0, 7, 4]
abbrev dktX0_worlds_2 : List UInt8 := dkwX0_worlds_2 ++ dktX0_worlds_3
def dkwX0_worlds_1 : List UInt8 := [167, 0, 4, 3, 62, 42, 28, 5, 182, 0, 191, 42, 28, 4, 182, 0, 191, 100, 4, 96, 54, 4, 42]
abbrev dktX0_worlds_1 : List UInt8 := dkwX0_worlds_1 ++ dktX0_worlds_2
def dkwX0_worlds_0 : List UInt8 := [4, 60, 3, 61, 28, 42, 180, 0, 182, 162, 0, 125, 42, 180, 0, 50, 28, 46, 16, 247, 160, 0, 7, 4]
abbrev dktX0_worlds_0 : List UInt8 := dkwX0_worlds_0 ++ dktX0_worlds_1
theorem dksX0_worlds_0 : cX0_worlds.data.toList.drop 0 = dktX0_worlds_0 := by decide +kernel
theorem dksX0_worlds_1 : cX0_worlds.data.toList.drop 24 = dktX0_worlds_1 := dk_seg dksX0_worlds_0 24 rfl rfl
theorem dksX0_worlds_2 : cX0_worlds.data.toList.drop 47 = dktX0_worlds_2 := dk_seg dksX0_worlds_1 23 rfl rfl
theorem dksX0_worlds_3 : cX0_worlds.data.toList.drop 71 = dktX0_worlds_3 := dk_seg dksX0_worlds_2 24 rfl rfl
theorem dksX0_worlds_4 : cX0_worlds.data.toList.drop 95 = dktX0_worlds_4 := dk_seg dksX0_worlds_3 24 rfl rfl
theorem dksX0_worlds_5 : cX0_worlds.data.toList.drop 117 = dktX0_worlds_5 := dk_seg dksX0_worlds_4 22 rfl rfl
theorem dX0_worlds_0 : decode cX0_worlds 0 = .ok (.iconst 1, 1) := dk_4 (dk_at dksX0_worlds_0 0 rfl rfl)
theorem dX0_worlds_1 : decode cX0_worlds 1 = .ok (.istore_n 1, 1) := dk_60 (dk_at dksX0_worlds_0 1 rfl rfl)
theorem dX0_worlds_2 : decode cX0_worlds 2 = .ok (.iconst 0, 1) := dk_3 (dk_at dksX0_worlds_0 2 rfl rfl)
theorem dX0_worlds_3 : decode cX0_worlds 3 = .ok (.istore_n 2, 1) := dk_61 (dk_at dksX0_worlds_0 3 rfl rfl)
theorem dX0_worlds_4 : decode cX0_worlds 4 = .ok (.iload_n 2, 1) := dk_28 (dk_at dksX0_worlds_0 4 rfl rfl)
theorem dX0_worlds_5 : decode cX0_worlds 5 = .ok (.aload_n 0, 1) := dk_42 (dk_at dksX0_worlds_0 5 rfl rfl)
theorem dX0_worlds_6 : decode cX0_worlds 6 = .ok (.getfield 182, 3) := dk_180 0 182 (dk_at dksX0_worlds_0 6 rfl rfl)
theorem dX0_worlds_9 : decode cX0_worlds 9 = .ok (.if_icmp .ge 125, 3) := dk_162 0 125 (dk_at dksX0_worlds_0 9 rfl rfl)
theorem dX0_worlds_12 : decode cX0_worlds 12 = .ok (.aload_n 0, 1) := dk_42 (dk_at dksX0_worlds_0 12 rfl rfl)
theorem dX0_worlds_13 : decode cX0_worlds 13 = .ok (.getfield 50, 3) := dk_180 0 50 (dk_at dksX0_worlds_0 13 rfl rfl)
theorem dX0_worlds_16 : decode cX0_worlds 16 = .ok (.iload_n 2, 1) := dk_28 (dk_at dksX0_worlds_0 16 rfl rfl)
theorem dX0_worlds_17 : decode cX0_worlds 17 = .ok (.iaload, 1) := dk_46 (dk_at dksX0_worlds_0 17 rfl rfl)
theorem dX0_worlds_18 : decode cX0_worlds 18 = .ok (.bipush (-9), 2) := dk_16 247 (dk_at dksX0_worlds_0 18 rfl rfl)
theorem dX0_worlds_20 : decode cX0_worlds 20 = .ok (.if_icmp .ne 7, 3) := dk_160 0 7 (dk_at dksX0_worlds_0 20 rfl rfl)
theorem dX0_worlds_23 : decode cX0_worlds 23 = .ok (.iconst 1, 1) := dk_4 (dk_at dksX0_worlds_0 23 rfl rfl)
theorem dX0_worlds_24 : decode cX0_worlds 24 = .ok (.goto 4, 3) := dk_167 0 4 (dk_at dksX0_worlds_1 0 rfl rfl)
theorem dX0_worlds_27 : decode cX0_worlds 27 = .ok (.iconst 0, 1) := dk_3 (dk_at dksX0_worlds_1 3 rfl rfl)
theorem dX0_worlds_28 : decode cX0_worlds 28 = .ok (.istore_n 3, 1) := dk_62 (dk_at dksX0_worlds_1 4 rfl rfl)
theorem dX0_worlds_29 : decode cX0_worlds 29 = .ok (.aload_n 0, 1) := dk_42 (dk_at dksX0_worlds_1 5 rfl rfl)
theorem dX0_worlds_30 : decode cX0_worlds 30 = .ok (.iload_n 2, 1) := dk_28 (dk_at dksX0_worlds_1 6 rfl rfl)
theorem dX0_worlds_31 : decode cX0_worlds 31 = .ok (.iconst 2, 1) := dk_5 (dk_at dksX0_worlds_1 7 rfl rfl)
theorem dX0_worlds_32 : decode cX0_worlds 32 = .ok (.invokevirtual 191, 3) := dk_182 0 191 (dk_at dksX0_worlds_1 8 rfl rfl)
theorem dX0_worlds_35 : decode cX0_worlds 35 = .ok (.aload_n 0, 1) := dk_42 (dk_at dksX0_worlds_1 11 rfl rfl)
theorem dX0_worlds_36 : decode cX0_worlds 36 = .ok (.iload_n 2, 1) := dk_28 (dk_at dksX0_worlds_1 12 rfl rfl)
theorem dX0_worlds_37 : decode cX0_worlds 37 = .ok (.iconst 1, 1) := dk_4 (dk_at dksX0_worlds_1 13 rfl rfl)
theorem dX0_worlds_38 : decode cX0_worlds 38 = .ok (.invokevirtual 191, 3) := dk_182 0 191 (dk_at dksX0_worlds_1 14 rfl rfl)
theorem dX0_worlds_41 : decode cX0_worlds 41 = .ok (.isub, 1) := dk_100 (dk_at dksX0_worlds_1 17 rfl rfl)
theorem dX0_worlds_42 : decode cX0_worlds 42 = .ok (.iconst 1, 1) := dk_4 (dk_at dksX0_worlds_1 18 rfl rfl)
theorem dX0_worlds_43 : decode cX0_worlds 43 = .ok (.iadd, 1) := dk_96 (dk_at dksX0_worlds_1 19 rfl rfl)
theorem dX0_worlds_44 : decode cX0_worlds 44 = .ok (.istore 4, 2) := dk_54 4 (dk_at dksX0_worlds_1 20 rfl rfl)
theorem dX0_worlds_46 : decode cX0_worlds 46 = .ok (.aload_n 0, 1) := dk_42 (dk_at dksX0_worlds_1 22 rfl rfl)
theorem dX0_worlds_47 : decode cX0_worlds 47 = .ok (.getfield 47, 3) := dk_180 0 47 (dk_at dksX0_worlds_2 0 rfl rfl)
theorem dX0_worlds_50 : decode cX0_worlds 50 = .ok (.iload_n 2, 1) := dk_28 (dk_at dksX0_worlds_2 3 rfl rfl)
theorem dX0_worlds_51 : decode cX0_worlds 51 = .ok (.iaload, 1) := dk_46 (dk_at dksX0_worlds_2 4 rfl rfl)
theorem dX0_worlds_52 : decode cX0_worlds 52 = .ok (.bipush (-9), 2) := dk_16 247 (dk_at dksX0_worlds_2 5 rfl rfl)
theorem dX0_worlds_54 : decode cX0_worlds 54 = .ok (.if_icmp .eq 26, 3) := dk_159 0 26 (dk_at dksX0_worlds_2 7 rfl rfl)
theorem dX0_worlds_57 : decode cX0_worlds 57 = .ok (.iload_n 3, 1) := dk_29 (dk_at dksX0_worlds_2 10 rfl rfl)
theorem dX0_worlds_58 : decode cX0_worlds 58 = .ok (.ifCond .ne 12, 3) := dk_154 0 12 (dk_at dksX0_worlds_2 11 rfl rfl)
theorem dX0_worlds_61 : decode cX0_worlds 61 = .ok (.aload_n 0, 1) := dk_42 (dk_at dksX0_worlds_2 14 rfl rfl)
theorem dX0_worlds_62 : decode cX0_worlds 62 = .ok (.iload_n 2, 1) := dk_28 (dk_at dksX0_worlds_2 15 rfl rfl)
theorem dX0_worlds_63 : decode cX0_worlds 63 = .ok (.invokevirtual 249, 3) := dk_182 0 249 (dk_at dksX0_worlds_2 16 rfl rfl)
theorem dX0_worlds_66 : decode cX0_worlds 66 = .ok (.iconst 1, 1) := dk_4 (dk_at dksX0_worlds_2 19 rfl rfl)
theorem dX0_worlds_67 : decode cX0_worlds 67 = .ok (.if_icmp .ne 7, 3) := dk_160 0 7 (dk_at dksX0_worlds_2 20 rfl rfl)
theorem dX0_worlds_70 : decode cX0_worlds 70 = .ok (.iconst 1, 1) := dk_4 (dk_at dksX0_worlds_2 23 rfl rfl)
theorem dX0_worlds_71 : decode cX0_worlds 71 = .ok (.goto 4, 3) := dk_167 0 4 (dk_at dksX0_worlds_3 0 rfl rfl)
theorem dX0_worlds_74 : decode cX0_worlds 74 = .ok (.iconst 0, 1) := dk_3 (dk_at dksX0_worlds_3 3 rfl rfl)
theorem dX0_worlds_75 : decode cX0_worlds 75 = .ok (.istore 4, 2) := dk_54 4 (dk_at dksX0_worlds_3 4 rfl rfl)
theorem dX0_worlds_77 : decode cX0_worlds 77 = .ok (.goto 46, 3) := dk_167 0 46 (dk_at dksX0_worlds_3 6 rfl rfl)
theorem dX0_worlds_80 : decode cX0_worlds 80 = .ok (.iload_n 3, 1) := dk_29 (dk_at dksX0_worlds_3 9 rfl rfl)
theorem dX0_worlds_81 : decode cX0_worlds 81 = .ok (.ifCond .ne 42, 3) := dk_154 0 42 (dk_at dksX0_worlds_3 10 rfl rfl)
theorem dX0_worlds_84 : decode cX0_worlds 84 = .ok (.aload_n 0, 1) := dk_42 (dk_at dksX0_worlds_3 13 rfl rfl)
theorem dX0_worlds_85 : decode cX0_worlds 85 = .ok (.getfield 40, 3) := dk_180 0 40 (dk_at dksX0_worlds_3 14 rfl rfl)
theorem dX0_worlds_88 : decode cX0_worlds 88 = .ok (.aload_n 0, 1) := dk_42 (dk_at dksX0_worlds_3 17 rfl rfl)
theorem dX0_worlds_89 : decode cX0_worlds 89 = .ok (.getfield 50, 3) := dk_180 0 50 (dk_at dksX0_worlds_3 18 rfl rfl)
theorem dX0_worlds_92 : decode cX0_worlds 92 = .ok (.iload_n 2, 1) := dk_28 (dk_at dksX0_worlds_3 21 rfl rfl)
theorem dX0_worlds_93 : decode cX0_worlds 93 = .ok (.iaload, 1) := dk_46 (dk_at dksX0_worlds_3 22 rfl rfl)
theorem dX0_worlds_94 : decode cX0_worlds 94 = .ok (.aaload, 1) := dk_50 (dk_at dksX0_worlds_3 23 rfl rfl)
theorem dX0_worlds_95 : decode cX0_worlds 95 = .ok (.invokevirtual 188, 3) := dk_182 0 188 (dk_at dksX0_worlds_4 0 rfl rfl)
theorem dX0_worlds_98 : decode cX0_worlds 98 = .ok (.aload_n 0, 1) := dk_42 (dk_at dksX0_worlds_4 3 rfl rfl)
theorem dX0_worlds_99 : decode cX0_worlds 99 = .ok (.iload_n 2, 1) := dk_28 (dk_at dksX0_worlds_4 4 rfl rfl)
theorem dX0_worlds_100 : decode cX0_worlds 100 = .ok (.iconst 1, 1) := dk_4 (dk_at dksX0_worlds_4 5 rfl rfl)
theorem dX0_worlds_101 : decode cX0_worlds 101 = .ok (.invokevirtual 191, 3) := dk_182 0 191 (dk_at dksX0_worlds_4 6 rfl rfl)
theorem dX0_worlds_104 : decode cX0_worlds 104 = .ok (.aload_n 0, 1) := dk_42 (dk_at dksX0_worlds_4 9 rfl rfl)
theorem dX0_worlds_105 : decode cX0_worlds 105 = .ok (.iload_n 2, 1) := dk_28 (dk_at dksX0_worlds_4 10 rfl rfl)
theorem dX0_worlds_106 : decode cX0_worlds 106 = .ok (.iconst 2, 1) := dk_5 (dk_at dksX0_worlds_4 11 rfl rfl)
theorem dX0_worlds_107 : decode cX0_worlds 107 = .ok (.invokevirtual 191, 3) := dk_182 0 191 (dk_at dksX0_worlds_4 12 rfl rfl)
theorem dX0_worlds_110 : decode cX0_worlds 110 = .ok (.invokestatic 86, 3) := dk_184 0 86 (dk_at dksX0_worlds_4 15 rfl rfl)
theorem dX0_worlds_113 : decode cX0_worlds 113 = .ok (.ifCond .eq 7, 3) := dk_153 0 7 (dk_at dksX0_worlds_4 18 rfl rfl)
theorem dX0_worlds_116 : decode cX0_worlds 116 = .ok (.iconst 1, 1) := dk_4 (dk_at dksX0_worlds_4 21 rfl rfl)
theorem dX0_worlds_117 : decode cX0_worlds 117 = .ok (.goto 4, 3) := dk_167 0 4 (dk_at dksX0_worlds_5 0 rfl rfl)
theorem dX0_worlds_120 : decode cX0_worlds 120 = .ok (.iconst 0, 1) := dk_3 (dk_at dksX0_worlds_5 3 rfl rfl)
theorem dX0_worlds_121 : decode cX0_worlds 121 = .ok (.istore 4, 2) := dk_54 4 (dk_at dksX0_worlds_5 4 rfl rfl)
theorem dX0_worlds_123 : decode cX0_worlds 123 = .ok (.iload_n 1, 1) := dk_27 (dk_at dksX0_worlds_5 6 rfl rfl)
theorem dX0_worlds_124 : decode cX0_worlds 124 = .ok (.iload 4, 2) := dk_21 4 (dk_at dksX0_worlds_5 7 rfl rfl)
theorem dX0_worlds_126 : decode cX0_worlds 126 = .ok (.imul, 1) := dk_104 (dk_at dksX0_worlds_5 9 rfl rfl)
theorem dX0_worlds_127 : decode cX0_worlds 127 = .ok (.istore_n 1, 1) := dk_60 (dk_at dksX0_worlds_5 10 rfl rfl)
theorem dX0_worlds_128 : decode cX0_worlds 128 = .ok (.iinc 2 1, 3) := dk_132 2 1 (dk_at dksX0_worlds_5 11 rfl rfl)
theorem dX0_worlds_131 : decode cX0_worlds 131 = .ok (.goto (-127), 3) := dk_167 255 129 (dk_at dksX0_worlds_5 14 rfl rfl)
theorem dX0_worlds_134 : decode cX0_worlds 134 = .ok (.iload_n 1, 1) := dk_27 (dk_at dksX0_worlds_5 17 rfl rfl)
theorem dX0_worlds_135 : decode cX0_worlds 135 = .ok (.ireturn, 1) := dk_172 (dk_at dksX0_worlds_5 18 rfl rfl)
abbrev cX0_never : ByteArray := prog_1_method_71_code
def yX0_never : MethodName := ⟨RX0, "never", "()I"⟩
def dkwX0_never_4 : List UInt8 := [128, 60, 132, 2, 1, 167, 255, 163, 27, 172]
abbrev dktX0_never_4 : List UInt8 := dkwX0_never_4 ++ []
def dkwX0_never_3 : List UInt8 := [167, 0, 4, 3, 128, 62, 132, 4, 1, 167, 255, 196, 27, 29, 153, 0, 7, 3, 167, 0, 6, 4, 28, 120]
abbrev dktX0_never_3 : List UInt8 := dkwX0_never_3 ++ dktX0_never_4
def dkwX0_never_2 : List UInt8 := [159, 0, 22, 42, 180, 0, 40, 21, 4, 50, 182, 0, 188, 42, 180, 0, 47, 28, 46, 160, 0, 7, 4]
abbrev dktX0_never_2 : List UInt8 := dkwX0_never_2 ++ dktX0_never_3
def dkwX0_never_1 : List UInt8 := [162, 0, 57, 29, 42, 21, 4, 28, 182, 0, 198, 153, 0, 37, 42, 180, 0, 47, 28, 46, 16, 247]
abbrev dktX0_never_1 : List UInt8 := dkwX0_never_1 ++ dktX0_never_2
def dkwX0_never_0 : List UInt8 := [3, 60, 3, 61, 28, 42, 180, 0, 182, 162, 0, 91, 3, 62, 3, 54, 4, 21, 4, 42, 180, 0, 175]
abbrev dktX0_never_0 : List UInt8 := dkwX0_never_0 ++ dktX0_never_1
theorem dksX0_never_0 : cX0_never.data.toList.drop 0 = dktX0_never_0 := by decide +kernel
theorem dksX0_never_1 : cX0_never.data.toList.drop 23 = dktX0_never_1 := dk_seg dksX0_never_0 23 rfl rfl
theorem dksX0_never_2 : cX0_never.data.toList.drop 45 = dktX0_never_2 := dk_seg dksX0_never_1 22 rfl rfl
theorem dksX0_never_3 : cX0_never.data.toList.drop 68 = dktX0_never_3 := dk_seg dksX0_never_2 23 rfl rfl
theorem dksX0_never_4 : cX0_never.data.toList.drop 92 = dktX0_never_4 := dk_seg dksX0_never_3 24 rfl rfl
theorem dX0_never_0 : decode cX0_never 0 = .ok (.iconst 0, 1) := dk_3 (dk_at dksX0_never_0 0 rfl rfl)
theorem dX0_never_1 : decode cX0_never 1 = .ok (.istore_n 1, 1) := dk_60 (dk_at dksX0_never_0 1 rfl rfl)
theorem dX0_never_2 : decode cX0_never 2 = .ok (.iconst 0, 1) := dk_3 (dk_at dksX0_never_0 2 rfl rfl)
theorem dX0_never_3 : decode cX0_never 3 = .ok (.istore_n 2, 1) := dk_61 (dk_at dksX0_never_0 3 rfl rfl)
theorem dX0_never_4 : decode cX0_never 4 = .ok (.iload_n 2, 1) := dk_28 (dk_at dksX0_never_0 4 rfl rfl)
theorem dX0_never_5 : decode cX0_never 5 = .ok (.aload_n 0, 1) := dk_42 (dk_at dksX0_never_0 5 rfl rfl)
theorem dX0_never_6 : decode cX0_never 6 = .ok (.getfield 182, 3) := dk_180 0 182 (dk_at dksX0_never_0 6 rfl rfl)
theorem dX0_never_9 : decode cX0_never 9 = .ok (.if_icmp .ge 91, 3) := dk_162 0 91 (dk_at dksX0_never_0 9 rfl rfl)
theorem dX0_never_12 : decode cX0_never 12 = .ok (.iconst 0, 1) := dk_3 (dk_at dksX0_never_0 12 rfl rfl)
theorem dX0_never_13 : decode cX0_never 13 = .ok (.istore_n 3, 1) := dk_62 (dk_at dksX0_never_0 13 rfl rfl)
theorem dX0_never_14 : decode cX0_never 14 = .ok (.iconst 0, 1) := dk_3 (dk_at dksX0_never_0 14 rfl rfl)
theorem dX0_never_15 : decode cX0_never 15 = .ok (.istore 4, 2) := dk_54 4 (dk_at dksX0_never_0 15 rfl rfl)
theorem dX0_never_17 : decode cX0_never 17 = .ok (.iload 4, 2) := dk_21 4 (dk_at dksX0_never_0 17 rfl rfl)
theorem dX0_never_19 : decode cX0_never 19 = .ok (.aload_n 0, 1) := dk_42 (dk_at dksX0_never_0 19 rfl rfl)
theorem dX0_never_20 : decode cX0_never 20 = .ok (.getfield 175, 3) := dk_180 0 175 (dk_at dksX0_never_0 20 rfl rfl)
theorem dX0_never_23 : decode cX0_never 23 = .ok (.if_icmp .ge 57, 3) := dk_162 0 57 (dk_at dksX0_never_1 0 rfl rfl)
theorem dX0_never_26 : decode cX0_never 26 = .ok (.iload_n 3, 1) := dk_29 (dk_at dksX0_never_1 3 rfl rfl)
theorem dX0_never_27 : decode cX0_never 27 = .ok (.aload_n 0, 1) := dk_42 (dk_at dksX0_never_1 4 rfl rfl)
theorem dX0_never_28 : decode cX0_never 28 = .ok (.iload 4, 2) := dk_21 4 (dk_at dksX0_never_1 5 rfl rfl)
theorem dX0_never_30 : decode cX0_never 30 = .ok (.iload_n 2, 1) := dk_28 (dk_at dksX0_never_1 7 rfl rfl)
theorem dX0_never_31 : decode cX0_never 31 = .ok (.invokevirtual 198, 3) := dk_182 0 198 (dk_at dksX0_never_1 8 rfl rfl)
theorem dX0_never_34 : decode cX0_never 34 = .ok (.ifCond .eq 37, 3) := dk_153 0 37 (dk_at dksX0_never_1 11 rfl rfl)
theorem dX0_never_37 : decode cX0_never 37 = .ok (.aload_n 0, 1) := dk_42 (dk_at dksX0_never_1 14 rfl rfl)
theorem dX0_never_38 : decode cX0_never 38 = .ok (.getfield 47, 3) := dk_180 0 47 (dk_at dksX0_never_1 15 rfl rfl)
theorem dX0_never_41 : decode cX0_never 41 = .ok (.iload_n 2, 1) := dk_28 (dk_at dksX0_never_1 18 rfl rfl)
theorem dX0_never_42 : decode cX0_never 42 = .ok (.iaload, 1) := dk_46 (dk_at dksX0_never_1 19 rfl rfl)
theorem dX0_never_43 : decode cX0_never 43 = .ok (.bipush (-9), 2) := dk_16 247 (dk_at dksX0_never_1 20 rfl rfl)
theorem dX0_never_45 : decode cX0_never 45 = .ok (.if_icmp .eq 22, 3) := dk_159 0 22 (dk_at dksX0_never_2 0 rfl rfl)
theorem dX0_never_48 : decode cX0_never 48 = .ok (.aload_n 0, 1) := dk_42 (dk_at dksX0_never_2 3 rfl rfl)
theorem dX0_never_49 : decode cX0_never 49 = .ok (.getfield 40, 3) := dk_180 0 40 (dk_at dksX0_never_2 4 rfl rfl)
theorem dX0_never_52 : decode cX0_never 52 = .ok (.iload 4, 2) := dk_21 4 (dk_at dksX0_never_2 7 rfl rfl)
theorem dX0_never_54 : decode cX0_never 54 = .ok (.aaload, 1) := dk_50 (dk_at dksX0_never_2 9 rfl rfl)
theorem dX0_never_55 : decode cX0_never 55 = .ok (.invokevirtual 188, 3) := dk_182 0 188 (dk_at dksX0_never_2 10 rfl rfl)
theorem dX0_never_58 : decode cX0_never 58 = .ok (.aload_n 0, 1) := dk_42 (dk_at dksX0_never_2 13 rfl rfl)
theorem dX0_never_59 : decode cX0_never 59 = .ok (.getfield 47, 3) := dk_180 0 47 (dk_at dksX0_never_2 14 rfl rfl)
theorem dX0_never_62 : decode cX0_never 62 = .ok (.iload_n 2, 1) := dk_28 (dk_at dksX0_never_2 17 rfl rfl)
theorem dX0_never_63 : decode cX0_never 63 = .ok (.iaload, 1) := dk_46 (dk_at dksX0_never_2 18 rfl rfl)
theorem dX0_never_64 : decode cX0_never 64 = .ok (.if_icmp .ne 7, 3) := dk_160 0 7 (dk_at dksX0_never_2 19 rfl rfl)
theorem dX0_never_67 : decode cX0_never 67 = .ok (.iconst 1, 1) := dk_4 (dk_at dksX0_never_2 22 rfl rfl)
theorem dX0_never_68 : decode cX0_never 68 = .ok (.goto 4, 3) := dk_167 0 4 (dk_at dksX0_never_3 0 rfl rfl)
theorem dX0_never_71 : decode cX0_never 71 = .ok (.iconst 0, 1) := dk_3 (dk_at dksX0_never_3 3 rfl rfl)
theorem dX0_never_72 : decode cX0_never 72 = .ok (.ior, 1) := dk_128 (dk_at dksX0_never_3 4 rfl rfl)
theorem dX0_never_73 : decode cX0_never 73 = .ok (.istore_n 3, 1) := dk_62 (dk_at dksX0_never_3 5 rfl rfl)
theorem dX0_never_74 : decode cX0_never 74 = .ok (.iinc 4 1, 3) := dk_132 4 1 (dk_at dksX0_never_3 6 rfl rfl)
theorem dX0_never_77 : decode cX0_never 77 = .ok (.goto (-60), 3) := dk_167 255 196 (dk_at dksX0_never_3 9 rfl rfl)
theorem dX0_never_80 : decode cX0_never 80 = .ok (.iload_n 1, 1) := dk_27 (dk_at dksX0_never_3 12 rfl rfl)
theorem dX0_never_81 : decode cX0_never 81 = .ok (.iload_n 3, 1) := dk_29 (dk_at dksX0_never_3 13 rfl rfl)
theorem dX0_never_82 : decode cX0_never 82 = .ok (.ifCond .eq 7, 3) := dk_153 0 7 (dk_at dksX0_never_3 14 rfl rfl)
theorem dX0_never_85 : decode cX0_never 85 = .ok (.iconst 0, 1) := dk_3 (dk_at dksX0_never_3 17 rfl rfl)
theorem dX0_never_86 : decode cX0_never 86 = .ok (.goto 6, 3) := dk_167 0 6 (dk_at dksX0_never_3 18 rfl rfl)
theorem dX0_never_89 : decode cX0_never 89 = .ok (.iconst 1, 1) := dk_4 (dk_at dksX0_never_3 21 rfl rfl)
theorem dX0_never_90 : decode cX0_never 90 = .ok (.iload_n 2, 1) := dk_28 (dk_at dksX0_never_3 22 rfl rfl)
theorem dX0_never_91 : decode cX0_never 91 = .ok (.ishl, 1) := dk_120 (dk_at dksX0_never_3 23 rfl rfl)
theorem dX0_never_92 : decode cX0_never 92 = .ok (.ior, 1) := dk_128 (dk_at dksX0_never_4 0 rfl rfl)
theorem dX0_never_93 : decode cX0_never 93 = .ok (.istore_n 1, 1) := dk_60 (dk_at dksX0_never_4 1 rfl rfl)
theorem dX0_never_94 : decode cX0_never 94 = .ok (.iinc 2 1, 3) := dk_132 2 1 (dk_at dksX0_never_4 2 rfl rfl)
theorem dX0_never_97 : decode cX0_never 97 = .ok (.goto (-93), 3) := dk_167 255 163 (dk_at dksX0_never_4 5 rfl rfl)
theorem dX0_never_100 : decode cX0_never 100 = .ok (.iload_n 1, 1) := dk_27 (dk_at dksX0_never_4 8 rfl rfl)
theorem dX0_never_101 : decode cX0_never 101 = .ok (.ireturn, 1) := dk_172 (dk_at dksX0_never_4 9 rfl rfl)
abbrev cX0_parts : ByteArray := prog_1_method_73_code
def yX0_parts : MethodName := ⟨RX0, "parts", "()I"⟩
def dkwX0_parts_8 : List UInt8 := [182, 0, 104, 172]
abbrev dktX0_parts_8 : List UInt8 := dkwX0_parts_8 ++ []
def dkwX0_parts_7 : List UInt8 := [54, 4, 132, 7, 1, 167, 255, 133, 132, 6, 1, 167, 255, 116, 132, 5, 1, 167, 255, 100, 42, 21, 4, 27]
abbrev dktX0_parts_7 : List UInt8 := dkwX0_parts_7 ++ dktX0_parts_8
def dkwX0_parts_6 : List UInt8 := [21, 5, 104, 16, 10, 21, 6, 104, 96, 21, 7, 96, 60, 21, 9, 61, 21, 7, 21, 6, 100, 62, 21, 8]
abbrev dktX0_parts_6 : List UInt8 := dkwX0_parts_6 ++ dktX0_parts_7
def dkwX0_parts_5 : List UInt8 := [21, 9, 28, 161, 0, 18, 21, 9, 28, 160, 0, 40, 21, 7, 21, 6, 100, 29, 162, 0, 31, 16, 100]
abbrev dktX0_parts_5 : List UInt8 := dkwX0_parts_5 ++ dktX0_parts_6
def dkwX0_parts_4 : List UInt8 := [96, 54, 8, 132, 9, 1, 167, 255, 215, 5, 21, 8, 104, 42, 180, 0, 175, 100, 184, 1, 59, 54, 9]
abbrev dktX0_parts_4 : List UInt8 := dkwX0_parts_4 ++ dktX0_parts_5
def dkwX0_parts_3 : List UInt8 := [42, 180, 0, 40, 21, 9, 50, 21, 5, 21, 6, 21, 7, 184, 0, 194, 153, 0, 7, 4, 167, 0, 4, 3]
abbrev dktX0_parts_3 : List UInt8 := dkwX0_parts_3 ++ dktX0_parts_4
def dkwX0_parts_2 : List UInt8 := [21, 7, 16, 10, 162, 0, 122, 3, 54, 8, 3, 54, 9, 21, 9, 42, 180, 0, 175, 162, 0, 38, 21, 8]
abbrev dktX0_parts_2 : List UInt8 := dkwX0_parts_2 ++ dktX0_parts_3
def dkwX0_parts_1 : List UInt8 := [3, 54, 5, 21, 5, 16, 6, 162, 0, 155, 3, 54, 6, 21, 6, 16, 10, 162, 0, 139, 21, 6, 54, 7]
abbrev dktX0_parts_1 : List UInt8 := dkwX0_parts_1 ++ dktX0_parts_2
def dkwX0_parts_0 : List UInt8 := [42, 180, 0, 175, 154, 0, 6, 16, 252, 172, 16, 247, 60, 19, 1, 50, 61, 19, 1, 50, 62, 3, 54, 4]
abbrev dktX0_parts_0 : List UInt8 := dkwX0_parts_0 ++ dktX0_parts_1
theorem dksX0_parts_0 : cX0_parts.data.toList.drop 0 = dktX0_parts_0 := by decide +kernel
theorem dksX0_parts_1 : cX0_parts.data.toList.drop 24 = dktX0_parts_1 := dk_seg dksX0_parts_0 24 rfl rfl
theorem dksX0_parts_2 : cX0_parts.data.toList.drop 48 = dktX0_parts_2 := dk_seg dksX0_parts_1 24 rfl rfl
theorem dksX0_parts_3 : cX0_parts.data.toList.drop 72 = dktX0_parts_3 := dk_seg dksX0_parts_2 24 rfl rfl
theorem dksX0_parts_4 : cX0_parts.data.toList.drop 96 = dktX0_parts_4 := dk_seg dksX0_parts_3 24 rfl rfl
theorem dksX0_parts_5 : cX0_parts.data.toList.drop 119 = dktX0_parts_5 := dk_seg dksX0_parts_4 23 rfl rfl
theorem dksX0_parts_6 : cX0_parts.data.toList.drop 142 = dktX0_parts_6 := dk_seg dksX0_parts_5 23 rfl rfl
theorem dksX0_parts_7 : cX0_parts.data.toList.drop 166 = dktX0_parts_7 := dk_seg dksX0_parts_6 24 rfl rfl
theorem dksX0_parts_8 : cX0_parts.data.toList.drop 190 = dktX0_parts_8 := dk_seg dksX0_parts_7 24 rfl rfl
theorem dX0_parts_0 : decode cX0_parts 0 = .ok (.aload_n 0, 1) := dk_42 (dk_at dksX0_parts_0 0 rfl rfl)
theorem dX0_parts_1 : decode cX0_parts 1 = .ok (.getfield 175, 3) := dk_180 0 175 (dk_at dksX0_parts_0 1 rfl rfl)
theorem dX0_parts_4 : decode cX0_parts 4 = .ok (.ifCond .ne 6, 3) := dk_154 0 6 (dk_at dksX0_parts_0 4 rfl rfl)
theorem dX0_parts_7 : decode cX0_parts 7 = .ok (.bipush (-4), 2) := dk_16 252 (dk_at dksX0_parts_0 7 rfl rfl)
theorem dX0_parts_9 : decode cX0_parts 9 = .ok (.ireturn, 1) := dk_172 (dk_at dksX0_parts_0 9 rfl rfl)
theorem dX0_parts_10 : decode cX0_parts 10 = .ok (.bipush (-9), 2) := dk_16 247 (dk_at dksX0_parts_0 10 rfl rfl)
theorem dX0_parts_12 : decode cX0_parts 12 = .ok (.istore_n 1, 1) := dk_60 (dk_at dksX0_parts_0 12 rfl rfl)
theorem dX0_parts_13 : decode cX0_parts 13 = .ok (.ldc_w 306, 3) := dk_19 1 50 (dk_at dksX0_parts_0 13 rfl rfl)
theorem dX0_parts_16 : decode cX0_parts 16 = .ok (.istore_n 2, 1) := dk_61 (dk_at dksX0_parts_0 16 rfl rfl)
theorem dX0_parts_17 : decode cX0_parts 17 = .ok (.ldc_w 306, 3) := dk_19 1 50 (dk_at dksX0_parts_0 17 rfl rfl)
theorem dX0_parts_20 : decode cX0_parts 20 = .ok (.istore_n 3, 1) := dk_62 (dk_at dksX0_parts_0 20 rfl rfl)
theorem dX0_parts_21 : decode cX0_parts 21 = .ok (.iconst 0, 1) := dk_3 (dk_at dksX0_parts_0 21 rfl rfl)
theorem dX0_parts_22 : decode cX0_parts 22 = .ok (.istore 4, 2) := dk_54 4 (dk_at dksX0_parts_0 22 rfl rfl)
theorem dX0_parts_24 : decode cX0_parts 24 = .ok (.iconst 0, 1) := dk_3 (dk_at dksX0_parts_1 0 rfl rfl)
theorem dX0_parts_25 : decode cX0_parts 25 = .ok (.istore 5, 2) := dk_54 5 (dk_at dksX0_parts_1 1 rfl rfl)
theorem dX0_parts_27 : decode cX0_parts 27 = .ok (.iload 5, 2) := dk_21 5 (dk_at dksX0_parts_1 3 rfl rfl)
theorem dX0_parts_29 : decode cX0_parts 29 = .ok (.bipush 6, 2) := dk_16 6 (dk_at dksX0_parts_1 5 rfl rfl)
theorem dX0_parts_31 : decode cX0_parts 31 = .ok (.if_icmp .ge 155, 3) := dk_162 0 155 (dk_at dksX0_parts_1 7 rfl rfl)
theorem dX0_parts_34 : decode cX0_parts 34 = .ok (.iconst 0, 1) := dk_3 (dk_at dksX0_parts_1 10 rfl rfl)
theorem dX0_parts_35 : decode cX0_parts 35 = .ok (.istore 6, 2) := dk_54 6 (dk_at dksX0_parts_1 11 rfl rfl)
theorem dX0_parts_37 : decode cX0_parts 37 = .ok (.iload 6, 2) := dk_21 6 (dk_at dksX0_parts_1 13 rfl rfl)
theorem dX0_parts_39 : decode cX0_parts 39 = .ok (.bipush 10, 2) := dk_16 10 (dk_at dksX0_parts_1 15 rfl rfl)
theorem dX0_parts_41 : decode cX0_parts 41 = .ok (.if_icmp .ge 139, 3) := dk_162 0 139 (dk_at dksX0_parts_1 17 rfl rfl)
theorem dX0_parts_44 : decode cX0_parts 44 = .ok (.iload 6, 2) := dk_21 6 (dk_at dksX0_parts_1 20 rfl rfl)
theorem dX0_parts_46 : decode cX0_parts 46 = .ok (.istore 7, 2) := dk_54 7 (dk_at dksX0_parts_1 22 rfl rfl)
theorem dX0_parts_48 : decode cX0_parts 48 = .ok (.iload 7, 2) := dk_21 7 (dk_at dksX0_parts_2 0 rfl rfl)
theorem dX0_parts_50 : decode cX0_parts 50 = .ok (.bipush 10, 2) := dk_16 10 (dk_at dksX0_parts_2 2 rfl rfl)
theorem dX0_parts_52 : decode cX0_parts 52 = .ok (.if_icmp .ge 122, 3) := dk_162 0 122 (dk_at dksX0_parts_2 4 rfl rfl)
theorem dX0_parts_55 : decode cX0_parts 55 = .ok (.iconst 0, 1) := dk_3 (dk_at dksX0_parts_2 7 rfl rfl)
theorem dX0_parts_56 : decode cX0_parts 56 = .ok (.istore 8, 2) := dk_54 8 (dk_at dksX0_parts_2 8 rfl rfl)
theorem dX0_parts_58 : decode cX0_parts 58 = .ok (.iconst 0, 1) := dk_3 (dk_at dksX0_parts_2 10 rfl rfl)
theorem dX0_parts_59 : decode cX0_parts 59 = .ok (.istore 9, 2) := dk_54 9 (dk_at dksX0_parts_2 11 rfl rfl)
theorem dX0_parts_61 : decode cX0_parts 61 = .ok (.iload 9, 2) := dk_21 9 (dk_at dksX0_parts_2 13 rfl rfl)
theorem dX0_parts_63 : decode cX0_parts 63 = .ok (.aload_n 0, 1) := dk_42 (dk_at dksX0_parts_2 15 rfl rfl)
theorem dX0_parts_64 : decode cX0_parts 64 = .ok (.getfield 175, 3) := dk_180 0 175 (dk_at dksX0_parts_2 16 rfl rfl)
theorem dX0_parts_67 : decode cX0_parts 67 = .ok (.if_icmp .ge 38, 3) := dk_162 0 38 (dk_at dksX0_parts_2 19 rfl rfl)
theorem dX0_parts_70 : decode cX0_parts 70 = .ok (.iload 8, 2) := dk_21 8 (dk_at dksX0_parts_2 22 rfl rfl)
theorem dX0_parts_72 : decode cX0_parts 72 = .ok (.aload_n 0, 1) := dk_42 (dk_at dksX0_parts_3 0 rfl rfl)
theorem dX0_parts_73 : decode cX0_parts 73 = .ok (.getfield 40, 3) := dk_180 0 40 (dk_at dksX0_parts_3 1 rfl rfl)
theorem dX0_parts_76 : decode cX0_parts 76 = .ok (.iload 9, 2) := dk_21 9 (dk_at dksX0_parts_3 4 rfl rfl)
theorem dX0_parts_78 : decode cX0_parts 78 = .ok (.aaload, 1) := dk_50 (dk_at dksX0_parts_3 6 rfl rfl)
theorem dX0_parts_79 : decode cX0_parts 79 = .ok (.iload 5, 2) := dk_21 5 (dk_at dksX0_parts_3 7 rfl rfl)
theorem dX0_parts_81 : decode cX0_parts 81 = .ok (.iload 6, 2) := dk_21 6 (dk_at dksX0_parts_3 9 rfl rfl)
theorem dX0_parts_83 : decode cX0_parts 83 = .ok (.iload 7, 2) := dk_21 7 (dk_at dksX0_parts_3 11 rfl rfl)
theorem dX0_parts_85 : decode cX0_parts 85 = .ok (.invokestatic 194, 3) := dk_184 0 194 (dk_at dksX0_parts_3 13 rfl rfl)
theorem dX0_parts_88 : decode cX0_parts 88 = .ok (.ifCond .eq 7, 3) := dk_153 0 7 (dk_at dksX0_parts_3 16 rfl rfl)
theorem dX0_parts_91 : decode cX0_parts 91 = .ok (.iconst 1, 1) := dk_4 (dk_at dksX0_parts_3 19 rfl rfl)
theorem dX0_parts_92 : decode cX0_parts 92 = .ok (.goto 4, 3) := dk_167 0 4 (dk_at dksX0_parts_3 20 rfl rfl)
theorem dX0_parts_95 : decode cX0_parts 95 = .ok (.iconst 0, 1) := dk_3 (dk_at dksX0_parts_3 23 rfl rfl)
theorem dX0_parts_96 : decode cX0_parts 96 = .ok (.iadd, 1) := dk_96 (dk_at dksX0_parts_4 0 rfl rfl)
theorem dX0_parts_97 : decode cX0_parts 97 = .ok (.istore 8, 2) := dk_54 8 (dk_at dksX0_parts_4 1 rfl rfl)
theorem dX0_parts_99 : decode cX0_parts 99 = .ok (.iinc 9 1, 3) := dk_132 9 1 (dk_at dksX0_parts_4 3 rfl rfl)
theorem dX0_parts_102 : decode cX0_parts 102 = .ok (.goto (-41), 3) := dk_167 255 215 (dk_at dksX0_parts_4 6 rfl rfl)
theorem dX0_parts_105 : decode cX0_parts 105 = .ok (.iconst 2, 1) := dk_5 (dk_at dksX0_parts_4 9 rfl rfl)
theorem dX0_parts_106 : decode cX0_parts 106 = .ok (.iload 8, 2) := dk_21 8 (dk_at dksX0_parts_4 10 rfl rfl)
theorem dX0_parts_108 : decode cX0_parts 108 = .ok (.imul, 1) := dk_104 (dk_at dksX0_parts_4 12 rfl rfl)
theorem dX0_parts_109 : decode cX0_parts 109 = .ok (.aload_n 0, 1) := dk_42 (dk_at dksX0_parts_4 13 rfl rfl)
theorem dX0_parts_110 : decode cX0_parts 110 = .ok (.getfield 175, 3) := dk_180 0 175 (dk_at dksX0_parts_4 14 rfl rfl)
theorem dX0_parts_113 : decode cX0_parts 113 = .ok (.isub, 1) := dk_100 (dk_at dksX0_parts_4 17 rfl rfl)
theorem dX0_parts_114 : decode cX0_parts 114 = .ok (.invokestatic 315, 3) := dk_184 1 59 (dk_at dksX0_parts_4 18 rfl rfl)
theorem dX0_parts_117 : decode cX0_parts 117 = .ok (.istore 9, 2) := dk_54 9 (dk_at dksX0_parts_4 21 rfl rfl)
theorem dX0_parts_119 : decode cX0_parts 119 = .ok (.iload 9, 2) := dk_21 9 (dk_at dksX0_parts_5 0 rfl rfl)
theorem dX0_parts_121 : decode cX0_parts 121 = .ok (.iload_n 2, 1) := dk_28 (dk_at dksX0_parts_5 2 rfl rfl)
theorem dX0_parts_122 : decode cX0_parts 122 = .ok (.if_icmp .lt 18, 3) := dk_161 0 18 (dk_at dksX0_parts_5 3 rfl rfl)
theorem dX0_parts_125 : decode cX0_parts 125 = .ok (.iload 9, 2) := dk_21 9 (dk_at dksX0_parts_5 6 rfl rfl)
theorem dX0_parts_127 : decode cX0_parts 127 = .ok (.iload_n 2, 1) := dk_28 (dk_at dksX0_parts_5 8 rfl rfl)
theorem dX0_parts_128 : decode cX0_parts 128 = .ok (.if_icmp .ne 40, 3) := dk_160 0 40 (dk_at dksX0_parts_5 9 rfl rfl)
theorem dX0_parts_131 : decode cX0_parts 131 = .ok (.iload 7, 2) := dk_21 7 (dk_at dksX0_parts_5 12 rfl rfl)
theorem dX0_parts_133 : decode cX0_parts 133 = .ok (.iload 6, 2) := dk_21 6 (dk_at dksX0_parts_5 14 rfl rfl)
theorem dX0_parts_135 : decode cX0_parts 135 = .ok (.isub, 1) := dk_100 (dk_at dksX0_parts_5 16 rfl rfl)
theorem dX0_parts_136 : decode cX0_parts 136 = .ok (.iload_n 3, 1) := dk_29 (dk_at dksX0_parts_5 17 rfl rfl)
theorem dX0_parts_137 : decode cX0_parts 137 = .ok (.if_icmp .ge 31, 3) := dk_162 0 31 (dk_at dksX0_parts_5 18 rfl rfl)
theorem dX0_parts_140 : decode cX0_parts 140 = .ok (.bipush 100, 2) := dk_16 100 (dk_at dksX0_parts_5 21 rfl rfl)
theorem dX0_parts_142 : decode cX0_parts 142 = .ok (.iload 5, 2) := dk_21 5 (dk_at dksX0_parts_6 0 rfl rfl)
theorem dX0_parts_144 : decode cX0_parts 144 = .ok (.imul, 1) := dk_104 (dk_at dksX0_parts_6 2 rfl rfl)
theorem dX0_parts_145 : decode cX0_parts 145 = .ok (.bipush 10, 2) := dk_16 10 (dk_at dksX0_parts_6 3 rfl rfl)
theorem dX0_parts_147 : decode cX0_parts 147 = .ok (.iload 6, 2) := dk_21 6 (dk_at dksX0_parts_6 5 rfl rfl)
theorem dX0_parts_149 : decode cX0_parts 149 = .ok (.imul, 1) := dk_104 (dk_at dksX0_parts_6 7 rfl rfl)
theorem dX0_parts_150 : decode cX0_parts 150 = .ok (.iadd, 1) := dk_96 (dk_at dksX0_parts_6 8 rfl rfl)
theorem dX0_parts_151 : decode cX0_parts 151 = .ok (.iload 7, 2) := dk_21 7 (dk_at dksX0_parts_6 9 rfl rfl)
theorem dX0_parts_153 : decode cX0_parts 153 = .ok (.iadd, 1) := dk_96 (dk_at dksX0_parts_6 11 rfl rfl)
theorem dX0_parts_154 : decode cX0_parts 154 = .ok (.istore_n 1, 1) := dk_60 (dk_at dksX0_parts_6 12 rfl rfl)
theorem dX0_parts_155 : decode cX0_parts 155 = .ok (.iload 9, 2) := dk_21 9 (dk_at dksX0_parts_6 13 rfl rfl)
theorem dX0_parts_157 : decode cX0_parts 157 = .ok (.istore_n 2, 1) := dk_61 (dk_at dksX0_parts_6 15 rfl rfl)
theorem dX0_parts_158 : decode cX0_parts 158 = .ok (.iload 7, 2) := dk_21 7 (dk_at dksX0_parts_6 16 rfl rfl)
theorem dX0_parts_160 : decode cX0_parts 160 = .ok (.iload 6, 2) := dk_21 6 (dk_at dksX0_parts_6 18 rfl rfl)
theorem dX0_parts_162 : decode cX0_parts 162 = .ok (.isub, 1) := dk_100 (dk_at dksX0_parts_6 20 rfl rfl)
theorem dX0_parts_163 : decode cX0_parts 163 = .ok (.istore_n 3, 1) := dk_62 (dk_at dksX0_parts_6 21 rfl rfl)
theorem dX0_parts_164 : decode cX0_parts 164 = .ok (.iload 8, 2) := dk_21 8 (dk_at dksX0_parts_6 22 rfl rfl)
theorem dX0_parts_166 : decode cX0_parts 166 = .ok (.istore 4, 2) := dk_54 4 (dk_at dksX0_parts_7 0 rfl rfl)
theorem dX0_parts_168 : decode cX0_parts 168 = .ok (.iinc 7 1, 3) := dk_132 7 1 (dk_at dksX0_parts_7 2 rfl rfl)
theorem dX0_parts_171 : decode cX0_parts 171 = .ok (.goto (-123), 3) := dk_167 255 133 (dk_at dksX0_parts_7 5 rfl rfl)
theorem dX0_parts_174 : decode cX0_parts 174 = .ok (.iinc 6 1, 3) := dk_132 6 1 (dk_at dksX0_parts_7 8 rfl rfl)
theorem dX0_parts_177 : decode cX0_parts 177 = .ok (.goto (-140), 3) := dk_167 255 116 (dk_at dksX0_parts_7 11 rfl rfl)
theorem dX0_parts_180 : decode cX0_parts 180 = .ok (.iinc 5 1, 3) := dk_132 5 1 (dk_at dksX0_parts_7 14 rfl rfl)
theorem dX0_parts_183 : decode cX0_parts 183 = .ok (.goto (-156), 3) := dk_167 255 100 (dk_at dksX0_parts_7 17 rfl rfl)
theorem dX0_parts_186 : decode cX0_parts 186 = .ok (.aload_n 0, 1) := dk_42 (dk_at dksX0_parts_7 20 rfl rfl)
theorem dX0_parts_187 : decode cX0_parts 187 = .ok (.iload 4, 2) := dk_21 4 (dk_at dksX0_parts_7 21 rfl rfl)
theorem dX0_parts_189 : decode cX0_parts 189 = .ok (.iload_n 1, 1) := dk_27 (dk_at dksX0_parts_7 23 rfl rfl)
theorem dX0_parts_190 : decode cX0_parts 190 = .ok (.invokevirtual 104, 3) := dk_182 0 104 (dk_at dksX0_parts_8 0 rfl rfl)
theorem dX0_parts_193 : decode cX0_parts 193 = .ok (.ireturn, 1) := dk_172 (dk_at dksX0_parts_8 3 rfl rfl)
abbrev cX0_size : ByteArray := prog_1_method_72_code
def yX0_size : MethodName := ⟨RX0, "size", "(I)I"⟩
def dkwX0_size_0 : List UInt8 := [26, 156, 0, 8, 26, 116, 167, 0, 4, 26, 172]
abbrev dktX0_size_0 : List UInt8 := dkwX0_size_0 ++ []
theorem dksX0_size_0 : cX0_size.data.toList.drop 0 = dktX0_size_0 := by decide +kernel
theorem dX0_size_0 : decode cX0_size 0 = .ok (.iload_n 0, 1) := dk_26 (dk_at dksX0_size_0 0 rfl rfl)
theorem dX0_size_1 : decode cX0_size 1 = .ok (.ifCond .ge 8, 3) := dk_156 0 8 (dk_at dksX0_size_0 1 rfl rfl)
theorem dX0_size_4 : decode cX0_size 4 = .ok (.iload_n 0, 1) := dk_26 (dk_at dksX0_size_0 4 rfl rfl)
theorem dX0_size_5 : decode cX0_size 5 = .ok (.ineg, 1) := dk_116 (dk_at dksX0_size_0 5 rfl rfl)
theorem dX0_size_6 : decode cX0_size 6 = .ok (.goto 4, 3) := dk_167 0 4 (dk_at dksX0_size_0 6 rfl rfl)
theorem dX0_size_9 : decode cX0_size 9 = .ok (.iload_n 0, 1) := dk_26 (dk_at dksX0_size_0 9 rfl rfl)
theorem dX0_size_10 : decode cX0_size 10 = .ok (.ireturn, 1) := dk_172 (dk_at dksX0_size_0 10 rfl rfl)
abbrev cX0_finds : ByteArray := prog_1_method_75_code
def yX0_finds : MethodName := ⟨RX0, "finds", "(I)I"⟩
def dkwX0_finds_7 : List UInt8 := [182, 0, 104, 172]
abbrev dktX0_finds_7 : List UInt8 := dkwX0_finds_7 ++ []
def dkwX0_finds_6 : List UInt8 := [180, 0, 80, 27, 46, 19, 1, 50, 161, 0, 8, 16, 247, 167, 0, 14, 42, 28, 42, 180, 0, 80, 27, 46]
abbrev dktX0_finds_6 : List UInt8 := dkwX0_finds_6 ++ dktX0_finds_7
def dkwX0_finds_5 : List UInt8 := [21, 4, 182, 1, 67, 96, 79, 21, 4, 61, 132, 4, 1, 167, 255, 179, 132, 3, 1, 167, 255, 141, 42]
abbrev dktX0_finds_5 : List UInt8 := dkwX0_finds_5 ++ dktX0_finds_6
def dkwX0_finds_4 : List UInt8 := [21, 4, 182, 1, 67, 96, 42, 180, 0, 80, 29, 46, 162, 0, 21, 42, 180, 0, 80, 29, 4, 42, 29]
abbrev dktX0_finds_4 : List UInt8 := dkwX0_finds_4 ++ dktX0_finds_5
def dkwX0_finds_3 : List UInt8 := [29, 42, 21, 4, 182, 0, 246, 126, 54, 5, 21, 5, 153, 0, 45, 21, 5, 29, 159, 0, 39, 4, 42, 29]
abbrev dktX0_finds_3 : List UInt8 := dkwX0_finds_3 ++ dktX0_finds_4
def dkwX0_finds_2 : List UInt8 := [79, 16, 247, 61, 3, 54, 4, 21, 4, 42, 180, 0, 182, 162, 0, 74, 29, 184, 1, 62, 4, 164, 0, 66]
abbrev dktX0_finds_2 : List UInt8 := dkwX0_finds_2 ++ dktX0_finds_3
def dkwX0_finds_1 : List UInt8 := [27, 163, 0, 116, 42, 180, 0, 80, 29, 29, 184, 1, 62, 4, 160, 0, 7, 3, 167, 0, 6, 19, 1, 50]
abbrev dktX0_finds_1 : List UInt8 := dkwX0_finds_1 ++ dktX0_finds_2
def dkwX0_finds_0 : List UInt8 := [27, 4, 4, 42, 180, 0, 175, 120, 4, 100, 184, 0, 86, 154, 0, 5, 2, 172, 16, 247, 61, 4, 62, 29]
abbrev dktX0_finds_0 : List UInt8 := dkwX0_finds_0 ++ dktX0_finds_1
theorem dksX0_finds_0 : cX0_finds.data.toList.drop 0 = dktX0_finds_0 := by decide +kernel
theorem dksX0_finds_1 : cX0_finds.data.toList.drop 24 = dktX0_finds_1 := dk_seg dksX0_finds_0 24 rfl rfl
theorem dksX0_finds_2 : cX0_finds.data.toList.drop 48 = dktX0_finds_2 := dk_seg dksX0_finds_1 24 rfl rfl
theorem dksX0_finds_3 : cX0_finds.data.toList.drop 72 = dktX0_finds_3 := dk_seg dksX0_finds_2 24 rfl rfl
theorem dksX0_finds_4 : cX0_finds.data.toList.drop 96 = dktX0_finds_4 := dk_seg dksX0_finds_3 24 rfl rfl
theorem dksX0_finds_5 : cX0_finds.data.toList.drop 119 = dktX0_finds_5 := dk_seg dksX0_finds_4 23 rfl rfl
theorem dksX0_finds_6 : cX0_finds.data.toList.drop 142 = dktX0_finds_6 := dk_seg dksX0_finds_5 23 rfl rfl
theorem dksX0_finds_7 : cX0_finds.data.toList.drop 166 = dktX0_finds_7 := dk_seg dksX0_finds_6 24 rfl rfl
theorem dX0_finds_0 : decode cX0_finds 0 = .ok (.iload_n 1, 1) := dk_27 (dk_at dksX0_finds_0 0 rfl rfl)
theorem dX0_finds_1 : decode cX0_finds 1 = .ok (.iconst 1, 1) := dk_4 (dk_at dksX0_finds_0 1 rfl rfl)
theorem dX0_finds_2 : decode cX0_finds 2 = .ok (.iconst 1, 1) := dk_4 (dk_at dksX0_finds_0 2 rfl rfl)
theorem dX0_finds_3 : decode cX0_finds 3 = .ok (.aload_n 0, 1) := dk_42 (dk_at dksX0_finds_0 3 rfl rfl)
theorem dX0_finds_4 : decode cX0_finds 4 = .ok (.getfield 175, 3) := dk_180 0 175 (dk_at dksX0_finds_0 4 rfl rfl)
theorem dX0_finds_7 : decode cX0_finds 7 = .ok (.ishl, 1) := dk_120 (dk_at dksX0_finds_0 7 rfl rfl)
theorem dX0_finds_8 : decode cX0_finds 8 = .ok (.iconst 1, 1) := dk_4 (dk_at dksX0_finds_0 8 rfl rfl)
theorem dX0_finds_9 : decode cX0_finds 9 = .ok (.isub, 1) := dk_100 (dk_at dksX0_finds_0 9 rfl rfl)
theorem dX0_finds_10 : decode cX0_finds 10 = .ok (.invokestatic 86, 3) := dk_184 0 86 (dk_at dksX0_finds_0 10 rfl rfl)
theorem dX0_finds_13 : decode cX0_finds 13 = .ok (.ifCond .ne 5, 3) := dk_154 0 5 (dk_at dksX0_finds_0 13 rfl rfl)
theorem dX0_finds_16 : decode cX0_finds 16 = .ok (.iconst (-1), 1) := dk_2 (dk_at dksX0_finds_0 16 rfl rfl)
theorem dX0_finds_17 : decode cX0_finds 17 = .ok (.ireturn, 1) := dk_172 (dk_at dksX0_finds_0 17 rfl rfl)
theorem dX0_finds_18 : decode cX0_finds 18 = .ok (.bipush (-9), 2) := dk_16 247 (dk_at dksX0_finds_0 18 rfl rfl)
theorem dX0_finds_20 : decode cX0_finds 20 = .ok (.istore_n 2, 1) := dk_61 (dk_at dksX0_finds_0 20 rfl rfl)
theorem dX0_finds_21 : decode cX0_finds 21 = .ok (.iconst 1, 1) := dk_4 (dk_at dksX0_finds_0 21 rfl rfl)
theorem dX0_finds_22 : decode cX0_finds 22 = .ok (.istore_n 3, 1) := dk_62 (dk_at dksX0_finds_0 22 rfl rfl)
theorem dX0_finds_23 : decode cX0_finds 23 = .ok (.iload_n 3, 1) := dk_29 (dk_at dksX0_finds_0 23 rfl rfl)
theorem dX0_finds_24 : decode cX0_finds 24 = .ok (.iload_n 1, 1) := dk_27 (dk_at dksX0_finds_1 0 rfl rfl)
theorem dX0_finds_25 : decode cX0_finds 25 = .ok (.if_icmp .gt 116, 3) := dk_163 0 116 (dk_at dksX0_finds_1 1 rfl rfl)
theorem dX0_finds_28 : decode cX0_finds 28 = .ok (.aload_n 0, 1) := dk_42 (dk_at dksX0_finds_1 4 rfl rfl)
theorem dX0_finds_29 : decode cX0_finds 29 = .ok (.getfield 80, 3) := dk_180 0 80 (dk_at dksX0_finds_1 5 rfl rfl)
theorem dX0_finds_32 : decode cX0_finds 32 = .ok (.iload_n 3, 1) := dk_29 (dk_at dksX0_finds_1 8 rfl rfl)
theorem dX0_finds_33 : decode cX0_finds 33 = .ok (.iload_n 3, 1) := dk_29 (dk_at dksX0_finds_1 9 rfl rfl)
theorem dX0_finds_34 : decode cX0_finds 34 = .ok (.invokestatic 318, 3) := dk_184 1 62 (dk_at dksX0_finds_1 10 rfl rfl)
theorem dX0_finds_37 : decode cX0_finds 37 = .ok (.iconst 1, 1) := dk_4 (dk_at dksX0_finds_1 13 rfl rfl)
theorem dX0_finds_38 : decode cX0_finds 38 = .ok (.if_icmp .ne 7, 3) := dk_160 0 7 (dk_at dksX0_finds_1 14 rfl rfl)
theorem dX0_finds_41 : decode cX0_finds 41 = .ok (.iconst 0, 1) := dk_3 (dk_at dksX0_finds_1 17 rfl rfl)
theorem dX0_finds_42 : decode cX0_finds 42 = .ok (.goto 6, 3) := dk_167 0 6 (dk_at dksX0_finds_1 18 rfl rfl)
theorem dX0_finds_45 : decode cX0_finds 45 = .ok (.ldc_w 306, 3) := dk_19 1 50 (dk_at dksX0_finds_1 21 rfl rfl)
theorem dX0_finds_48 : decode cX0_finds 48 = .ok (.iastore, 1) := dk_79 (dk_at dksX0_finds_2 0 rfl rfl)
theorem dX0_finds_49 : decode cX0_finds 49 = .ok (.bipush (-9), 2) := dk_16 247 (dk_at dksX0_finds_2 1 rfl rfl)
theorem dX0_finds_51 : decode cX0_finds 51 = .ok (.istore_n 2, 1) := dk_61 (dk_at dksX0_finds_2 3 rfl rfl)
theorem dX0_finds_52 : decode cX0_finds 52 = .ok (.iconst 0, 1) := dk_3 (dk_at dksX0_finds_2 4 rfl rfl)
theorem dX0_finds_53 : decode cX0_finds 53 = .ok (.istore 4, 2) := dk_54 4 (dk_at dksX0_finds_2 5 rfl rfl)
theorem dX0_finds_55 : decode cX0_finds 55 = .ok (.iload 4, 2) := dk_21 4 (dk_at dksX0_finds_2 7 rfl rfl)
theorem dX0_finds_57 : decode cX0_finds 57 = .ok (.aload_n 0, 1) := dk_42 (dk_at dksX0_finds_2 9 rfl rfl)
theorem dX0_finds_58 : decode cX0_finds 58 = .ok (.getfield 182, 3) := dk_180 0 182 (dk_at dksX0_finds_2 10 rfl rfl)
theorem dX0_finds_61 : decode cX0_finds 61 = .ok (.if_icmp .ge 74, 3) := dk_162 0 74 (dk_at dksX0_finds_2 13 rfl rfl)
theorem dX0_finds_64 : decode cX0_finds 64 = .ok (.iload_n 3, 1) := dk_29 (dk_at dksX0_finds_2 16 rfl rfl)
theorem dX0_finds_65 : decode cX0_finds 65 = .ok (.invokestatic 318, 3) := dk_184 1 62 (dk_at dksX0_finds_2 17 rfl rfl)
theorem dX0_finds_68 : decode cX0_finds 68 = .ok (.iconst 1, 1) := dk_4 (dk_at dksX0_finds_2 20 rfl rfl)
theorem dX0_finds_69 : decode cX0_finds 69 = .ok (.if_icmp .le 66, 3) := dk_164 0 66 (dk_at dksX0_finds_2 21 rfl rfl)
theorem dX0_finds_72 : decode cX0_finds 72 = .ok (.iload_n 3, 1) := dk_29 (dk_at dksX0_finds_3 0 rfl rfl)
theorem dX0_finds_73 : decode cX0_finds 73 = .ok (.aload_n 0, 1) := dk_42 (dk_at dksX0_finds_3 1 rfl rfl)
theorem dX0_finds_74 : decode cX0_finds 74 = .ok (.iload 4, 2) := dk_21 4 (dk_at dksX0_finds_3 2 rfl rfl)
theorem dX0_finds_76 : decode cX0_finds 76 = .ok (.invokevirtual 246, 3) := dk_182 0 246 (dk_at dksX0_finds_3 4 rfl rfl)
theorem dX0_finds_79 : decode cX0_finds 79 = .ok (.iand, 1) := dk_126 (dk_at dksX0_finds_3 7 rfl rfl)
theorem dX0_finds_80 : decode cX0_finds 80 = .ok (.istore 5, 2) := dk_54 5 (dk_at dksX0_finds_3 8 rfl rfl)
theorem dX0_finds_82 : decode cX0_finds 82 = .ok (.iload 5, 2) := dk_21 5 (dk_at dksX0_finds_3 10 rfl rfl)
theorem dX0_finds_84 : decode cX0_finds 84 = .ok (.ifCond .eq 45, 3) := dk_153 0 45 (dk_at dksX0_finds_3 12 rfl rfl)
theorem dX0_finds_87 : decode cX0_finds 87 = .ok (.iload 5, 2) := dk_21 5 (dk_at dksX0_finds_3 15 rfl rfl)
theorem dX0_finds_89 : decode cX0_finds 89 = .ok (.iload_n 3, 1) := dk_29 (dk_at dksX0_finds_3 17 rfl rfl)
theorem dX0_finds_90 : decode cX0_finds 90 = .ok (.if_icmp .eq 39, 3) := dk_159 0 39 (dk_at dksX0_finds_3 18 rfl rfl)
theorem dX0_finds_93 : decode cX0_finds 93 = .ok (.iconst 1, 1) := dk_4 (dk_at dksX0_finds_3 21 rfl rfl)
theorem dX0_finds_94 : decode cX0_finds 94 = .ok (.aload_n 0, 1) := dk_42 (dk_at dksX0_finds_3 22 rfl rfl)
theorem dX0_finds_95 : decode cX0_finds 95 = .ok (.iload_n 3, 1) := dk_29 (dk_at dksX0_finds_3 23 rfl rfl)
theorem dX0_finds_96 : decode cX0_finds 96 = .ok (.iload 4, 2) := dk_21 4 (dk_at dksX0_finds_4 0 rfl rfl)
theorem dX0_finds_98 : decode cX0_finds 98 = .ok (.invokevirtual 323, 3) := dk_182 1 67 (dk_at dksX0_finds_4 2 rfl rfl)
theorem dX0_finds_101 : decode cX0_finds 101 = .ok (.iadd, 1) := dk_96 (dk_at dksX0_finds_4 5 rfl rfl)
theorem dX0_finds_102 : decode cX0_finds 102 = .ok (.aload_n 0, 1) := dk_42 (dk_at dksX0_finds_4 6 rfl rfl)
theorem dX0_finds_103 : decode cX0_finds 103 = .ok (.getfield 80, 3) := dk_180 0 80 (dk_at dksX0_finds_4 7 rfl rfl)
theorem dX0_finds_106 : decode cX0_finds 106 = .ok (.iload_n 3, 1) := dk_29 (dk_at dksX0_finds_4 10 rfl rfl)
theorem dX0_finds_107 : decode cX0_finds 107 = .ok (.iaload, 1) := dk_46 (dk_at dksX0_finds_4 11 rfl rfl)
theorem dX0_finds_108 : decode cX0_finds 108 = .ok (.if_icmp .ge 21, 3) := dk_162 0 21 (dk_at dksX0_finds_4 12 rfl rfl)
theorem dX0_finds_111 : decode cX0_finds 111 = .ok (.aload_n 0, 1) := dk_42 (dk_at dksX0_finds_4 15 rfl rfl)
theorem dX0_finds_112 : decode cX0_finds 112 = .ok (.getfield 80, 3) := dk_180 0 80 (dk_at dksX0_finds_4 16 rfl rfl)
theorem dX0_finds_115 : decode cX0_finds 115 = .ok (.iload_n 3, 1) := dk_29 (dk_at dksX0_finds_4 19 rfl rfl)
theorem dX0_finds_116 : decode cX0_finds 116 = .ok (.iconst 1, 1) := dk_4 (dk_at dksX0_finds_4 20 rfl rfl)
theorem dX0_finds_117 : decode cX0_finds 117 = .ok (.aload_n 0, 1) := dk_42 (dk_at dksX0_finds_4 21 rfl rfl)
theorem dX0_finds_118 : decode cX0_finds 118 = .ok (.iload_n 3, 1) := dk_29 (dk_at dksX0_finds_4 22 rfl rfl)
theorem dX0_finds_119 : decode cX0_finds 119 = .ok (.iload 4, 2) := dk_21 4 (dk_at dksX0_finds_5 0 rfl rfl)
theorem dX0_finds_121 : decode cX0_finds 121 = .ok (.invokevirtual 323, 3) := dk_182 1 67 (dk_at dksX0_finds_5 2 rfl rfl)
theorem dX0_finds_124 : decode cX0_finds 124 = .ok (.iadd, 1) := dk_96 (dk_at dksX0_finds_5 5 rfl rfl)
theorem dX0_finds_125 : decode cX0_finds 125 = .ok (.iastore, 1) := dk_79 (dk_at dksX0_finds_5 6 rfl rfl)
theorem dX0_finds_126 : decode cX0_finds 126 = .ok (.iload 4, 2) := dk_21 4 (dk_at dksX0_finds_5 7 rfl rfl)
theorem dX0_finds_128 : decode cX0_finds 128 = .ok (.istore_n 2, 1) := dk_61 (dk_at dksX0_finds_5 9 rfl rfl)
theorem dX0_finds_129 : decode cX0_finds 129 = .ok (.iinc 4 1, 3) := dk_132 4 1 (dk_at dksX0_finds_5 10 rfl rfl)
theorem dX0_finds_132 : decode cX0_finds 132 = .ok (.goto (-77), 3) := dk_167 255 179 (dk_at dksX0_finds_5 13 rfl rfl)
theorem dX0_finds_135 : decode cX0_finds 135 = .ok (.iinc 3 1, 3) := dk_132 3 1 (dk_at dksX0_finds_5 16 rfl rfl)
theorem dX0_finds_138 : decode cX0_finds 138 = .ok (.goto (-115), 3) := dk_167 255 141 (dk_at dksX0_finds_5 19 rfl rfl)
theorem dX0_finds_141 : decode cX0_finds 141 = .ok (.aload_n 0, 1) := dk_42 (dk_at dksX0_finds_5 22 rfl rfl)
theorem dX0_finds_142 : decode cX0_finds 142 = .ok (.getfield 80, 3) := dk_180 0 80 (dk_at dksX0_finds_6 0 rfl rfl)
theorem dX0_finds_145 : decode cX0_finds 145 = .ok (.iload_n 1, 1) := dk_27 (dk_at dksX0_finds_6 3 rfl rfl)
theorem dX0_finds_146 : decode cX0_finds 146 = .ok (.iaload, 1) := dk_46 (dk_at dksX0_finds_6 4 rfl rfl)
theorem dX0_finds_147 : decode cX0_finds 147 = .ok (.ldc_w 306, 3) := dk_19 1 50 (dk_at dksX0_finds_6 5 rfl rfl)
theorem dX0_finds_150 : decode cX0_finds 150 = .ok (.if_icmp .lt 8, 3) := dk_161 0 8 (dk_at dksX0_finds_6 8 rfl rfl)
theorem dX0_finds_153 : decode cX0_finds 153 = .ok (.bipush (-9), 2) := dk_16 247 (dk_at dksX0_finds_6 11 rfl rfl)
theorem dX0_finds_155 : decode cX0_finds 155 = .ok (.goto 14, 3) := dk_167 0 14 (dk_at dksX0_finds_6 13 rfl rfl)
theorem dX0_finds_158 : decode cX0_finds 158 = .ok (.aload_n 0, 1) := dk_42 (dk_at dksX0_finds_6 16 rfl rfl)
theorem dX0_finds_159 : decode cX0_finds 159 = .ok (.iload_n 2, 1) := dk_28 (dk_at dksX0_finds_6 17 rfl rfl)
theorem dX0_finds_160 : decode cX0_finds 160 = .ok (.aload_n 0, 1) := dk_42 (dk_at dksX0_finds_6 18 rfl rfl)
theorem dX0_finds_161 : decode cX0_finds 161 = .ok (.getfield 80, 3) := dk_180 0 80 (dk_at dksX0_finds_6 19 rfl rfl)
theorem dX0_finds_164 : decode cX0_finds 164 = .ok (.iload_n 1, 1) := dk_27 (dk_at dksX0_finds_6 22 rfl rfl)
theorem dX0_finds_165 : decode cX0_finds 165 = .ok (.iaload, 1) := dk_46 (dk_at dksX0_finds_6 23 rfl rfl)
theorem dX0_finds_166 : decode cX0_finds 166 = .ok (.invokevirtual 104, 3) := dk_182 0 104 (dk_at dksX0_finds_7 0 rfl rfl)
theorem dX0_finds_169 : decode cX0_finds 169 = .ok (.ireturn, 1) := dk_172 (dk_at dksX0_finds_7 3 rfl rfl)
abbrev cX0_partOf : ByteArray := prog_1_method_74_code
def yX0_partOf : MethodName := ⟨RX0, "partOf", "(II)I"⟩
def dkwX0_partOf_1 : List UInt8 := [184, 1, 51, 172]
abbrev dktX0_partOf_1 : List UInt8 := dkwX0_partOf_1 ++ []
def dkwX0_partOf_0 : List UInt8 := [27, 42, 28, 182, 0, 246, 126, 62, 42, 180, 0, 80, 29, 46, 42, 180, 0, 80, 27, 29, 2, 130, 126, 46]
abbrev dktX0_partOf_0 : List UInt8 := dkwX0_partOf_0 ++ dktX0_partOf_1
theorem dksX0_partOf_0 : cX0_partOf.data.toList.drop 0 = dktX0_partOf_0 := by decide +kernel
theorem dksX0_partOf_1 : cX0_partOf.data.toList.drop 24 = dktX0_partOf_1 := dk_seg dksX0_partOf_0 24 rfl rfl
theorem dX0_partOf_0 : decode cX0_partOf 0 = .ok (.iload_n 1, 1) := dk_27 (dk_at dksX0_partOf_0 0 rfl rfl)
theorem dX0_partOf_1 : decode cX0_partOf 1 = .ok (.aload_n 0, 1) := dk_42 (dk_at dksX0_partOf_0 1 rfl rfl)
theorem dX0_partOf_2 : decode cX0_partOf 2 = .ok (.iload_n 2, 1) := dk_28 (dk_at dksX0_partOf_0 2 rfl rfl)
theorem dX0_partOf_3 : decode cX0_partOf 3 = .ok (.invokevirtual 246, 3) := dk_182 0 246 (dk_at dksX0_partOf_0 3 rfl rfl)
theorem dX0_partOf_6 : decode cX0_partOf 6 = .ok (.iand, 1) := dk_126 (dk_at dksX0_partOf_0 6 rfl rfl)
theorem dX0_partOf_7 : decode cX0_partOf 7 = .ok (.istore_n 3, 1) := dk_62 (dk_at dksX0_partOf_0 7 rfl rfl)
theorem dX0_partOf_8 : decode cX0_partOf 8 = .ok (.aload_n 0, 1) := dk_42 (dk_at dksX0_partOf_0 8 rfl rfl)
theorem dX0_partOf_9 : decode cX0_partOf 9 = .ok (.getfield 80, 3) := dk_180 0 80 (dk_at dksX0_partOf_0 9 rfl rfl)
theorem dX0_partOf_12 : decode cX0_partOf 12 = .ok (.iload_n 3, 1) := dk_29 (dk_at dksX0_partOf_0 12 rfl rfl)
theorem dX0_partOf_13 : decode cX0_partOf 13 = .ok (.iaload, 1) := dk_46 (dk_at dksX0_partOf_0 13 rfl rfl)
theorem dX0_partOf_14 : decode cX0_partOf 14 = .ok (.aload_n 0, 1) := dk_42 (dk_at dksX0_partOf_0 14 rfl rfl)
theorem dX0_partOf_15 : decode cX0_partOf 15 = .ok (.getfield 80, 3) := dk_180 0 80 (dk_at dksX0_partOf_0 15 rfl rfl)
theorem dX0_partOf_18 : decode cX0_partOf 18 = .ok (.iload_n 1, 1) := dk_27 (dk_at dksX0_partOf_0 18 rfl rfl)
theorem dX0_partOf_19 : decode cX0_partOf 19 = .ok (.iload_n 3, 1) := dk_29 (dk_at dksX0_partOf_0 19 rfl rfl)
theorem dX0_partOf_20 : decode cX0_partOf 20 = .ok (.iconst (-1), 1) := dk_2 (dk_at dksX0_partOf_0 20 rfl rfl)
theorem dX0_partOf_21 : decode cX0_partOf 21 = .ok (.ixor, 1) := dk_130 (dk_at dksX0_partOf_0 21 rfl rfl)
theorem dX0_partOf_22 : decode cX0_partOf 22 = .ok (.iand, 1) := dk_126 (dk_at dksX0_partOf_0 22 rfl rfl)
theorem dX0_partOf_23 : decode cX0_partOf 23 = .ok (.iaload, 1) := dk_46 (dk_at dksX0_partOf_0 23 rfl rfl)
theorem dX0_partOf_24 : decode cX0_partOf 24 = .ok (.invokestatic 307, 3) := dk_184 1 51 (dk_at dksX0_partOf_1 0 rfl rfl)
theorem dX0_partOf_27 : decode cX0_partOf 27 = .ok (.ireturn, 1) := dk_172 (dk_at dksX0_partOf_1 3 rfl rfl)
abbrev cX0_left : ByteArray := prog_1_method_77_code
def yX0_left : MethodName := ⟨RX0, "left", "(I)I"⟩
def dkwX0_left_4 : List UInt8 := [132, 4, 2, 167, 255, 192, 29, 172]
abbrev dktX0_left_4 : List UInt8 := dkwX0_left_4 ++ []
def dkwX0_left_3 : List UInt8 := [182, 0, 246, 167, 0, 18, 42, 42, 180, 0, 28, 27, 50, 21, 4, 46, 182, 0, 246, 2, 130, 126, 62]
abbrev dktX0_left_3 : List UInt8 := dkwX0_left_3 ++ dktX0_left_4
def dkwX0_left_2 : List UInt8 := [180, 0, 28, 27, 50, 21, 4, 4, 96, 46, 4, 160, 0, 19, 42, 42, 180, 0, 28, 27, 50, 21, 4, 46]
abbrev dktX0_left_2 : List UInt8 := dkwX0_left_2 ++ dktX0_left_3
def dkwX0_left_1 : List UInt8 := [180, 0, 175, 120, 4, 100, 62, 3, 54, 4, 21, 4, 42, 180, 0, 28, 27, 50, 190, 162, 0, 58, 29, 42]
abbrev dktX0_left_1 : List UInt8 := dkwX0_left_1 ++ dktX0_left_2
def dkwX0_left_0 : List UInt8 := [27, 184, 0, 90, 154, 0, 5, 2, 172, 42, 27, 182, 1, 70, 61, 28, 156, 0, 5, 28, 172, 4, 42]
abbrev dktX0_left_0 : List UInt8 := dkwX0_left_0 ++ dktX0_left_1
theorem dksX0_left_0 : cX0_left.data.toList.drop 0 = dktX0_left_0 := by decide +kernel
theorem dksX0_left_1 : cX0_left.data.toList.drop 23 = dktX0_left_1 := dk_seg dksX0_left_0 23 rfl rfl
theorem dksX0_left_2 : cX0_left.data.toList.drop 47 = dktX0_left_2 := dk_seg dksX0_left_1 24 rfl rfl
theorem dksX0_left_3 : cX0_left.data.toList.drop 71 = dktX0_left_3 := dk_seg dksX0_left_2 24 rfl rfl
theorem dksX0_left_4 : cX0_left.data.toList.drop 94 = dktX0_left_4 := dk_seg dksX0_left_3 23 rfl rfl
theorem dX0_left_0 : decode cX0_left 0 = .ok (.iload_n 1, 1) := dk_27 (dk_at dksX0_left_0 0 rfl rfl)
theorem dX0_left_1 : decode cX0_left 1 = .ok (.invokestatic 90, 3) := dk_184 0 90 (dk_at dksX0_left_0 1 rfl rfl)
theorem dX0_left_4 : decode cX0_left 4 = .ok (.ifCond .ne 5, 3) := dk_154 0 5 (dk_at dksX0_left_0 4 rfl rfl)
theorem dX0_left_7 : decode cX0_left 7 = .ok (.iconst (-1), 1) := dk_2 (dk_at dksX0_left_0 7 rfl rfl)
theorem dX0_left_8 : decode cX0_left 8 = .ok (.ireturn, 1) := dk_172 (dk_at dksX0_left_0 8 rfl rfl)
theorem dX0_left_9 : decode cX0_left 9 = .ok (.aload_n 0, 1) := dk_42 (dk_at dksX0_left_0 9 rfl rfl)
theorem dX0_left_10 : decode cX0_left 10 = .ok (.iload_n 1, 1) := dk_27 (dk_at dksX0_left_0 10 rfl rfl)
theorem dX0_left_11 : decode cX0_left 11 = .ok (.invokevirtual 326, 3) := dk_182 1 70 (dk_at dksX0_left_0 11 rfl rfl)
theorem dX0_left_14 : decode cX0_left 14 = .ok (.istore_n 2, 1) := dk_61 (dk_at dksX0_left_0 14 rfl rfl)
theorem dX0_left_15 : decode cX0_left 15 = .ok (.iload_n 2, 1) := dk_28 (dk_at dksX0_left_0 15 rfl rfl)
theorem dX0_left_16 : decode cX0_left 16 = .ok (.ifCond .ge 5, 3) := dk_156 0 5 (dk_at dksX0_left_0 16 rfl rfl)
theorem dX0_left_19 : decode cX0_left 19 = .ok (.iload_n 2, 1) := dk_28 (dk_at dksX0_left_0 19 rfl rfl)
theorem dX0_left_20 : decode cX0_left 20 = .ok (.ireturn, 1) := dk_172 (dk_at dksX0_left_0 20 rfl rfl)
theorem dX0_left_21 : decode cX0_left 21 = .ok (.iconst 1, 1) := dk_4 (dk_at dksX0_left_0 21 rfl rfl)
theorem dX0_left_22 : decode cX0_left 22 = .ok (.aload_n 0, 1) := dk_42 (dk_at dksX0_left_0 22 rfl rfl)
theorem dX0_left_23 : decode cX0_left 23 = .ok (.getfield 175, 3) := dk_180 0 175 (dk_at dksX0_left_1 0 rfl rfl)
theorem dX0_left_26 : decode cX0_left 26 = .ok (.ishl, 1) := dk_120 (dk_at dksX0_left_1 3 rfl rfl)
theorem dX0_left_27 : decode cX0_left 27 = .ok (.iconst 1, 1) := dk_4 (dk_at dksX0_left_1 4 rfl rfl)
theorem dX0_left_28 : decode cX0_left 28 = .ok (.isub, 1) := dk_100 (dk_at dksX0_left_1 5 rfl rfl)
theorem dX0_left_29 : decode cX0_left 29 = .ok (.istore_n 3, 1) := dk_62 (dk_at dksX0_left_1 6 rfl rfl)
theorem dX0_left_30 : decode cX0_left 30 = .ok (.iconst 0, 1) := dk_3 (dk_at dksX0_left_1 7 rfl rfl)
theorem dX0_left_31 : decode cX0_left 31 = .ok (.istore 4, 2) := dk_54 4 (dk_at dksX0_left_1 8 rfl rfl)
theorem dX0_left_33 : decode cX0_left 33 = .ok (.iload 4, 2) := dk_21 4 (dk_at dksX0_left_1 10 rfl rfl)
theorem dX0_left_35 : decode cX0_left 35 = .ok (.aload_n 0, 1) := dk_42 (dk_at dksX0_left_1 12 rfl rfl)
theorem dX0_left_36 : decode cX0_left 36 = .ok (.getfield 28, 3) := dk_180 0 28 (dk_at dksX0_left_1 13 rfl rfl)
theorem dX0_left_39 : decode cX0_left 39 = .ok (.iload_n 1, 1) := dk_27 (dk_at dksX0_left_1 16 rfl rfl)
theorem dX0_left_40 : decode cX0_left 40 = .ok (.aaload, 1) := dk_50 (dk_at dksX0_left_1 17 rfl rfl)
theorem dX0_left_41 : decode cX0_left 41 = .ok (.arraylength, 1) := dk_190 (dk_at dksX0_left_1 18 rfl rfl)
theorem dX0_left_42 : decode cX0_left 42 = .ok (.if_icmp .ge 58, 3) := dk_162 0 58 (dk_at dksX0_left_1 19 rfl rfl)
theorem dX0_left_45 : decode cX0_left 45 = .ok (.iload_n 3, 1) := dk_29 (dk_at dksX0_left_1 22 rfl rfl)
theorem dX0_left_46 : decode cX0_left 46 = .ok (.aload_n 0, 1) := dk_42 (dk_at dksX0_left_1 23 rfl rfl)
theorem dX0_left_47 : decode cX0_left 47 = .ok (.getfield 28, 3) := dk_180 0 28 (dk_at dksX0_left_2 0 rfl rfl)
theorem dX0_left_50 : decode cX0_left 50 = .ok (.iload_n 1, 1) := dk_27 (dk_at dksX0_left_2 3 rfl rfl)
theorem dX0_left_51 : decode cX0_left 51 = .ok (.aaload, 1) := dk_50 (dk_at dksX0_left_2 4 rfl rfl)
theorem dX0_left_52 : decode cX0_left 52 = .ok (.iload 4, 2) := dk_21 4 (dk_at dksX0_left_2 5 rfl rfl)
theorem dX0_left_54 : decode cX0_left 54 = .ok (.iconst 1, 1) := dk_4 (dk_at dksX0_left_2 7 rfl rfl)
theorem dX0_left_55 : decode cX0_left 55 = .ok (.iadd, 1) := dk_96 (dk_at dksX0_left_2 8 rfl rfl)
theorem dX0_left_56 : decode cX0_left 56 = .ok (.iaload, 1) := dk_46 (dk_at dksX0_left_2 9 rfl rfl)
theorem dX0_left_57 : decode cX0_left 57 = .ok (.iconst 1, 1) := dk_4 (dk_at dksX0_left_2 10 rfl rfl)
theorem dX0_left_58 : decode cX0_left 58 = .ok (.if_icmp .ne 19, 3) := dk_160 0 19 (dk_at dksX0_left_2 11 rfl rfl)
theorem dX0_left_61 : decode cX0_left 61 = .ok (.aload_n 0, 1) := dk_42 (dk_at dksX0_left_2 14 rfl rfl)
theorem dX0_left_62 : decode cX0_left 62 = .ok (.aload_n 0, 1) := dk_42 (dk_at dksX0_left_2 15 rfl rfl)
theorem dX0_left_63 : decode cX0_left 63 = .ok (.getfield 28, 3) := dk_180 0 28 (dk_at dksX0_left_2 16 rfl rfl)
theorem dX0_left_66 : decode cX0_left 66 = .ok (.iload_n 1, 1) := dk_27 (dk_at dksX0_left_2 19 rfl rfl)
theorem dX0_left_67 : decode cX0_left 67 = .ok (.aaload, 1) := dk_50 (dk_at dksX0_left_2 20 rfl rfl)
theorem dX0_left_68 : decode cX0_left 68 = .ok (.iload 4, 2) := dk_21 4 (dk_at dksX0_left_2 21 rfl rfl)
theorem dX0_left_70 : decode cX0_left 70 = .ok (.iaload, 1) := dk_46 (dk_at dksX0_left_2 23 rfl rfl)
theorem dX0_left_71 : decode cX0_left 71 = .ok (.invokevirtual 246, 3) := dk_182 0 246 (dk_at dksX0_left_3 0 rfl rfl)
theorem dX0_left_74 : decode cX0_left 74 = .ok (.goto 18, 3) := dk_167 0 18 (dk_at dksX0_left_3 3 rfl rfl)
theorem dX0_left_77 : decode cX0_left 77 = .ok (.aload_n 0, 1) := dk_42 (dk_at dksX0_left_3 6 rfl rfl)
theorem dX0_left_78 : decode cX0_left 78 = .ok (.aload_n 0, 1) := dk_42 (dk_at dksX0_left_3 7 rfl rfl)
theorem dX0_left_79 : decode cX0_left 79 = .ok (.getfield 28, 3) := dk_180 0 28 (dk_at dksX0_left_3 8 rfl rfl)
theorem dX0_left_82 : decode cX0_left 82 = .ok (.iload_n 1, 1) := dk_27 (dk_at dksX0_left_3 11 rfl rfl)
theorem dX0_left_83 : decode cX0_left 83 = .ok (.aaload, 1) := dk_50 (dk_at dksX0_left_3 12 rfl rfl)
theorem dX0_left_84 : decode cX0_left 84 = .ok (.iload 4, 2) := dk_21 4 (dk_at dksX0_left_3 13 rfl rfl)
theorem dX0_left_86 : decode cX0_left 86 = .ok (.iaload, 1) := dk_46 (dk_at dksX0_left_3 15 rfl rfl)
theorem dX0_left_87 : decode cX0_left 87 = .ok (.invokevirtual 246, 3) := dk_182 0 246 (dk_at dksX0_left_3 16 rfl rfl)
theorem dX0_left_90 : decode cX0_left 90 = .ok (.iconst (-1), 1) := dk_2 (dk_at dksX0_left_3 19 rfl rfl)
theorem dX0_left_91 : decode cX0_left 91 = .ok (.ixor, 1) := dk_130 (dk_at dksX0_left_3 20 rfl rfl)
theorem dX0_left_92 : decode cX0_left 92 = .ok (.iand, 1) := dk_126 (dk_at dksX0_left_3 21 rfl rfl)
theorem dX0_left_93 : decode cX0_left 93 = .ok (.istore_n 3, 1) := dk_62 (dk_at dksX0_left_3 22 rfl rfl)
theorem dX0_left_94 : decode cX0_left 94 = .ok (.iinc 4 2, 3) := dk_132 4 2 (dk_at dksX0_left_4 0 rfl rfl)
theorem dX0_left_97 : decode cX0_left 97 = .ok (.goto (-64), 3) := dk_167 255 192 (dk_at dksX0_left_4 3 rfl rfl)
theorem dX0_left_100 : decode cX0_left 100 = .ok (.iload_n 3, 1) := dk_29 (dk_at dksX0_left_4 6 rfl rfl)
theorem dX0_left_101 : decode cX0_left 101 = .ok (.ireturn, 1) := dk_172 (dk_at dksX0_left_4 7 rfl rfl)
abbrev cX0_askedAnswers : ByteArray := prog_1_method_76_code
def yX0_askedAnswers : MethodName := ⟨RX0, "askedAnswers", "(I)I"⟩
def dkwX0_askedAnswers_3 : List UInt8 := [172, 132, 3, 2, 167, 255, 218, 3, 172]
abbrev dktX0_askedAnswers_3 : List UInt8 := dkwX0_askedAnswers_3 ++ []
def dkwX0_askedAnswers_2 : List UInt8 := [182, 0, 223, 153, 0, 16, 44, 29, 4, 96, 46, 3, 4, 184, 0, 86, 154, 0, 9, 42, 6, 182, 0, 96]
abbrev dktX0_askedAnswers_2 : List UInt8 := dkwX0_askedAnswers_2 ++ dktX0_askedAnswers_3
def dkwX0_askedAnswers_1 : List UInt8 := [5, 112, 153, 0, 9, 42, 8, 182, 0, 96, 172, 3, 62, 29, 44, 190, 162, 0, 38, 42, 44, 29, 46]
abbrev dktX0_askedAnswers_1 : List UInt8 := dkwX0_askedAnswers_1 ++ dktX0_askedAnswers_2
def dkwX0_askedAnswers_0 : List UInt8 := [42, 180, 0, 28, 27, 50, 199, 0, 9, 42, 4, 182, 0, 96, 172, 42, 180, 0, 28, 27, 50, 77, 44, 190]
abbrev dktX0_askedAnswers_0 : List UInt8 := dkwX0_askedAnswers_0 ++ dktX0_askedAnswers_1
theorem dksX0_askedAnswers_0 : cX0_askedAnswers.data.toList.drop 0 = dktX0_askedAnswers_0 := by decide +kernel
theorem dksX0_askedAnswers_1 : cX0_askedAnswers.data.toList.drop 24 = dktX0_askedAnswers_1 := dk_seg dksX0_askedAnswers_0 24 rfl rfl
theorem dksX0_askedAnswers_2 : cX0_askedAnswers.data.toList.drop 47 = dktX0_askedAnswers_2 := dk_seg dksX0_askedAnswers_1 23 rfl rfl
theorem dksX0_askedAnswers_3 : cX0_askedAnswers.data.toList.drop 71 = dktX0_askedAnswers_3 := dk_seg dksX0_askedAnswers_2 24 rfl rfl
theorem dX0_askedAnswers_0 : decode cX0_askedAnswers 0 = .ok (.aload_n 0, 1) := dk_42 (dk_at dksX0_askedAnswers_0 0 rfl rfl)
theorem dX0_askedAnswers_1 : decode cX0_askedAnswers 1 = .ok (.getfield 28, 3) := dk_180 0 28 (dk_at dksX0_askedAnswers_0 1 rfl rfl)
theorem dX0_askedAnswers_4 : decode cX0_askedAnswers 4 = .ok (.iload_n 1, 1) := dk_27 (dk_at dksX0_askedAnswers_0 4 rfl rfl)
theorem dX0_askedAnswers_5 : decode cX0_askedAnswers 5 = .ok (.aaload, 1) := dk_50 (dk_at dksX0_askedAnswers_0 5 rfl rfl)
theorem dX0_askedAnswers_6 : decode cX0_askedAnswers 6 = .ok (.ifnonnull 9, 3) := dk_199 0 9 (dk_at dksX0_askedAnswers_0 6 rfl rfl)
theorem dX0_askedAnswers_9 : decode cX0_askedAnswers 9 = .ok (.aload_n 0, 1) := dk_42 (dk_at dksX0_askedAnswers_0 9 rfl rfl)
theorem dX0_askedAnswers_10 : decode cX0_askedAnswers 10 = .ok (.iconst 1, 1) := dk_4 (dk_at dksX0_askedAnswers_0 10 rfl rfl)
theorem dX0_askedAnswers_11 : decode cX0_askedAnswers 11 = .ok (.invokevirtual 96, 3) := dk_182 0 96 (dk_at dksX0_askedAnswers_0 11 rfl rfl)
theorem dX0_askedAnswers_14 : decode cX0_askedAnswers 14 = .ok (.ireturn, 1) := dk_172 (dk_at dksX0_askedAnswers_0 14 rfl rfl)
theorem dX0_askedAnswers_15 : decode cX0_askedAnswers 15 = .ok (.aload_n 0, 1) := dk_42 (dk_at dksX0_askedAnswers_0 15 rfl rfl)
theorem dX0_askedAnswers_16 : decode cX0_askedAnswers 16 = .ok (.getfield 28, 3) := dk_180 0 28 (dk_at dksX0_askedAnswers_0 16 rfl rfl)
theorem dX0_askedAnswers_19 : decode cX0_askedAnswers 19 = .ok (.iload_n 1, 1) := dk_27 (dk_at dksX0_askedAnswers_0 19 rfl rfl)
theorem dX0_askedAnswers_20 : decode cX0_askedAnswers 20 = .ok (.aaload, 1) := dk_50 (dk_at dksX0_askedAnswers_0 20 rfl rfl)
theorem dX0_askedAnswers_21 : decode cX0_askedAnswers 21 = .ok (.astore_n 2, 1) := dk_77 (dk_at dksX0_askedAnswers_0 21 rfl rfl)
theorem dX0_askedAnswers_22 : decode cX0_askedAnswers 22 = .ok (.aload_n 2, 1) := dk_44 (dk_at dksX0_askedAnswers_0 22 rfl rfl)
theorem dX0_askedAnswers_23 : decode cX0_askedAnswers 23 = .ok (.arraylength, 1) := dk_190 (dk_at dksX0_askedAnswers_0 23 rfl rfl)
theorem dX0_askedAnswers_24 : decode cX0_askedAnswers 24 = .ok (.iconst 2, 1) := dk_5 (dk_at dksX0_askedAnswers_1 0 rfl rfl)
theorem dX0_askedAnswers_25 : decode cX0_askedAnswers 25 = .ok (.irem, 1) := dk_112 (dk_at dksX0_askedAnswers_1 1 rfl rfl)
theorem dX0_askedAnswers_26 : decode cX0_askedAnswers 26 = .ok (.ifCond .eq 9, 3) := dk_153 0 9 (dk_at dksX0_askedAnswers_1 2 rfl rfl)
theorem dX0_askedAnswers_29 : decode cX0_askedAnswers 29 = .ok (.aload_n 0, 1) := dk_42 (dk_at dksX0_askedAnswers_1 5 rfl rfl)
theorem dX0_askedAnswers_30 : decode cX0_askedAnswers 30 = .ok (.iconst 5, 1) := dk_8 (dk_at dksX0_askedAnswers_1 6 rfl rfl)
theorem dX0_askedAnswers_31 : decode cX0_askedAnswers 31 = .ok (.invokevirtual 96, 3) := dk_182 0 96 (dk_at dksX0_askedAnswers_1 7 rfl rfl)
theorem dX0_askedAnswers_34 : decode cX0_askedAnswers 34 = .ok (.ireturn, 1) := dk_172 (dk_at dksX0_askedAnswers_1 10 rfl rfl)
theorem dX0_askedAnswers_35 : decode cX0_askedAnswers 35 = .ok (.iconst 0, 1) := dk_3 (dk_at dksX0_askedAnswers_1 11 rfl rfl)
theorem dX0_askedAnswers_36 : decode cX0_askedAnswers 36 = .ok (.istore_n 3, 1) := dk_62 (dk_at dksX0_askedAnswers_1 12 rfl rfl)
theorem dX0_askedAnswers_37 : decode cX0_askedAnswers 37 = .ok (.iload_n 3, 1) := dk_29 (dk_at dksX0_askedAnswers_1 13 rfl rfl)
theorem dX0_askedAnswers_38 : decode cX0_askedAnswers 38 = .ok (.aload_n 2, 1) := dk_44 (dk_at dksX0_askedAnswers_1 14 rfl rfl)
theorem dX0_askedAnswers_39 : decode cX0_askedAnswers 39 = .ok (.arraylength, 1) := dk_190 (dk_at dksX0_askedAnswers_1 15 rfl rfl)
theorem dX0_askedAnswers_40 : decode cX0_askedAnswers 40 = .ok (.if_icmp .ge 38, 3) := dk_162 0 38 (dk_at dksX0_askedAnswers_1 16 rfl rfl)
theorem dX0_askedAnswers_43 : decode cX0_askedAnswers 43 = .ok (.aload_n 0, 1) := dk_42 (dk_at dksX0_askedAnswers_1 19 rfl rfl)
theorem dX0_askedAnswers_44 : decode cX0_askedAnswers 44 = .ok (.aload_n 2, 1) := dk_44 (dk_at dksX0_askedAnswers_1 20 rfl rfl)
theorem dX0_askedAnswers_45 : decode cX0_askedAnswers 45 = .ok (.iload_n 3, 1) := dk_29 (dk_at dksX0_askedAnswers_1 21 rfl rfl)
theorem dX0_askedAnswers_46 : decode cX0_askedAnswers 46 = .ok (.iaload, 1) := dk_46 (dk_at dksX0_askedAnswers_1 22 rfl rfl)
theorem dX0_askedAnswers_47 : decode cX0_askedAnswers 47 = .ok (.invokevirtual 223, 3) := dk_182 0 223 (dk_at dksX0_askedAnswers_2 0 rfl rfl)
theorem dX0_askedAnswers_50 : decode cX0_askedAnswers 50 = .ok (.ifCond .eq 16, 3) := dk_153 0 16 (dk_at dksX0_askedAnswers_2 3 rfl rfl)
theorem dX0_askedAnswers_53 : decode cX0_askedAnswers 53 = .ok (.aload_n 2, 1) := dk_44 (dk_at dksX0_askedAnswers_2 6 rfl rfl)
theorem dX0_askedAnswers_54 : decode cX0_askedAnswers 54 = .ok (.iload_n 3, 1) := dk_29 (dk_at dksX0_askedAnswers_2 7 rfl rfl)
theorem dX0_askedAnswers_55 : decode cX0_askedAnswers 55 = .ok (.iconst 1, 1) := dk_4 (dk_at dksX0_askedAnswers_2 8 rfl rfl)
theorem dX0_askedAnswers_56 : decode cX0_askedAnswers 56 = .ok (.iadd, 1) := dk_96 (dk_at dksX0_askedAnswers_2 9 rfl rfl)
theorem dX0_askedAnswers_57 : decode cX0_askedAnswers 57 = .ok (.iaload, 1) := dk_46 (dk_at dksX0_askedAnswers_2 10 rfl rfl)
theorem dX0_askedAnswers_58 : decode cX0_askedAnswers 58 = .ok (.iconst 0, 1) := dk_3 (dk_at dksX0_askedAnswers_2 11 rfl rfl)
theorem dX0_askedAnswers_59 : decode cX0_askedAnswers 59 = .ok (.iconst 1, 1) := dk_4 (dk_at dksX0_askedAnswers_2 12 rfl rfl)
theorem dX0_askedAnswers_60 : decode cX0_askedAnswers 60 = .ok (.invokestatic 86, 3) := dk_184 0 86 (dk_at dksX0_askedAnswers_2 13 rfl rfl)
theorem dX0_askedAnswers_63 : decode cX0_askedAnswers 63 = .ok (.ifCond .ne 9, 3) := dk_154 0 9 (dk_at dksX0_askedAnswers_2 16 rfl rfl)
theorem dX0_askedAnswers_66 : decode cX0_askedAnswers 66 = .ok (.aload_n 0, 1) := dk_42 (dk_at dksX0_askedAnswers_2 19 rfl rfl)
theorem dX0_askedAnswers_67 : decode cX0_askedAnswers 67 = .ok (.iconst 3, 1) := dk_6 (dk_at dksX0_askedAnswers_2 20 rfl rfl)
theorem dX0_askedAnswers_68 : decode cX0_askedAnswers 68 = .ok (.invokevirtual 96, 3) := dk_182 0 96 (dk_at dksX0_askedAnswers_2 21 rfl rfl)
theorem dX0_askedAnswers_71 : decode cX0_askedAnswers 71 = .ok (.ireturn, 1) := dk_172 (dk_at dksX0_askedAnswers_3 0 rfl rfl)
theorem dX0_askedAnswers_72 : decode cX0_askedAnswers 72 = .ok (.iinc 3 2, 3) := dk_132 3 2 (dk_at dksX0_askedAnswers_3 1 rfl rfl)
theorem dX0_askedAnswers_75 : decode cX0_askedAnswers 75 = .ok (.goto (-38), 3) := dk_167 255 218 (dk_at dksX0_askedAnswers_3 4 rfl rfl)
theorem dX0_askedAnswers_78 : decode cX0_askedAnswers 78 = .ok (.iconst 0, 1) := dk_3 (dk_at dksX0_askedAnswers_3 7 rfl rfl)
theorem dX0_askedAnswers_79 : decode cX0_askedAnswers 79 = .ok (.ireturn, 1) := dk_172 (dk_at dksX0_askedAnswers_3 8 rfl rfl)
abbrev cX0_forged : ByteArray := prog_1_method_78_code
def yX0_forged : MethodName := ⟨RX0, "forged", "()I"⟩
def dkwX0_forged_2 : List UInt8 := [16, 247, 160, 0, 8, 16, 247, 167, 0, 9, 42, 28, 27, 182, 0, 104, 172]
abbrev dktX0_forged_2 : List UInt8 := dkwX0_forged_2 ++ []
def dkwX0_forged_1 : List UInt8 := [28, 164, 0, 7, 29, 167, 0, 4, 27, 60, 28, 21, 4, 184, 1, 51, 61, 132, 3, 1, 167, 255, 219, 27]
abbrev dktX0_forged_1 : List UInt8 := dkwX0_forged_1 ++ dktX0_forged_2
def dkwX0_forged_0 : List UInt8 := [16, 247, 60, 2, 61, 3, 62, 29, 42, 180, 0, 175, 162, 0, 35, 42, 29, 182, 1, 73, 54, 4, 21, 4]
abbrev dktX0_forged_0 : List UInt8 := dkwX0_forged_0 ++ dktX0_forged_1
theorem dksX0_forged_0 : cX0_forged.data.toList.drop 0 = dktX0_forged_0 := by decide +kernel
theorem dksX0_forged_1 : cX0_forged.data.toList.drop 24 = dktX0_forged_1 := dk_seg dksX0_forged_0 24 rfl rfl
theorem dksX0_forged_2 : cX0_forged.data.toList.drop 48 = dktX0_forged_2 := dk_seg dksX0_forged_1 24 rfl rfl
theorem dX0_forged_0 : decode cX0_forged 0 = .ok (.bipush (-9), 2) := dk_16 247 (dk_at dksX0_forged_0 0 rfl rfl)
theorem dX0_forged_2 : decode cX0_forged 2 = .ok (.istore_n 1, 1) := dk_60 (dk_at dksX0_forged_0 2 rfl rfl)
theorem dX0_forged_3 : decode cX0_forged 3 = .ok (.iconst (-1), 1) := dk_2 (dk_at dksX0_forged_0 3 rfl rfl)
theorem dX0_forged_4 : decode cX0_forged 4 = .ok (.istore_n 2, 1) := dk_61 (dk_at dksX0_forged_0 4 rfl rfl)
theorem dX0_forged_5 : decode cX0_forged 5 = .ok (.iconst 0, 1) := dk_3 (dk_at dksX0_forged_0 5 rfl rfl)
theorem dX0_forged_6 : decode cX0_forged 6 = .ok (.istore_n 3, 1) := dk_62 (dk_at dksX0_forged_0 6 rfl rfl)
theorem dX0_forged_7 : decode cX0_forged 7 = .ok (.iload_n 3, 1) := dk_29 (dk_at dksX0_forged_0 7 rfl rfl)
theorem dX0_forged_8 : decode cX0_forged 8 = .ok (.aload_n 0, 1) := dk_42 (dk_at dksX0_forged_0 8 rfl rfl)
theorem dX0_forged_9 : decode cX0_forged 9 = .ok (.getfield 175, 3) := dk_180 0 175 (dk_at dksX0_forged_0 9 rfl rfl)
theorem dX0_forged_12 : decode cX0_forged 12 = .ok (.if_icmp .ge 35, 3) := dk_162 0 35 (dk_at dksX0_forged_0 12 rfl rfl)
theorem dX0_forged_15 : decode cX0_forged 15 = .ok (.aload_n 0, 1) := dk_42 (dk_at dksX0_forged_0 15 rfl rfl)
theorem dX0_forged_16 : decode cX0_forged 16 = .ok (.iload_n 3, 1) := dk_29 (dk_at dksX0_forged_0 16 rfl rfl)
theorem dX0_forged_17 : decode cX0_forged 17 = .ok (.invokevirtual 329, 3) := dk_182 1 73 (dk_at dksX0_forged_0 17 rfl rfl)
theorem dX0_forged_20 : decode cX0_forged 20 = .ok (.istore 4, 2) := dk_54 4 (dk_at dksX0_forged_0 20 rfl rfl)
theorem dX0_forged_22 : decode cX0_forged 22 = .ok (.iload 4, 2) := dk_21 4 (dk_at dksX0_forged_0 22 rfl rfl)
theorem dX0_forged_24 : decode cX0_forged 24 = .ok (.iload_n 2, 1) := dk_28 (dk_at dksX0_forged_1 0 rfl rfl)
theorem dX0_forged_25 : decode cX0_forged 25 = .ok (.if_icmp .le 7, 3) := dk_164 0 7 (dk_at dksX0_forged_1 1 rfl rfl)
theorem dX0_forged_28 : decode cX0_forged 28 = .ok (.iload_n 3, 1) := dk_29 (dk_at dksX0_forged_1 4 rfl rfl)
theorem dX0_forged_29 : decode cX0_forged 29 = .ok (.goto 4, 3) := dk_167 0 4 (dk_at dksX0_forged_1 5 rfl rfl)
theorem dX0_forged_32 : decode cX0_forged 32 = .ok (.iload_n 1, 1) := dk_27 (dk_at dksX0_forged_1 8 rfl rfl)
theorem dX0_forged_33 : decode cX0_forged 33 = .ok (.istore_n 1, 1) := dk_60 (dk_at dksX0_forged_1 9 rfl rfl)
theorem dX0_forged_34 : decode cX0_forged 34 = .ok (.iload_n 2, 1) := dk_28 (dk_at dksX0_forged_1 10 rfl rfl)
theorem dX0_forged_35 : decode cX0_forged 35 = .ok (.iload 4, 2) := dk_21 4 (dk_at dksX0_forged_1 11 rfl rfl)
theorem dX0_forged_37 : decode cX0_forged 37 = .ok (.invokestatic 307, 3) := dk_184 1 51 (dk_at dksX0_forged_1 13 rfl rfl)
theorem dX0_forged_40 : decode cX0_forged 40 = .ok (.istore_n 2, 1) := dk_61 (dk_at dksX0_forged_1 16 rfl rfl)
theorem dX0_forged_41 : decode cX0_forged 41 = .ok (.iinc 3 1, 3) := dk_132 3 1 (dk_at dksX0_forged_1 17 rfl rfl)
theorem dX0_forged_44 : decode cX0_forged 44 = .ok (.goto (-37), 3) := dk_167 255 219 (dk_at dksX0_forged_1 20 rfl rfl)
theorem dX0_forged_47 : decode cX0_forged 47 = .ok (.iload_n 1, 1) := dk_27 (dk_at dksX0_forged_1 23 rfl rfl)
theorem dX0_forged_48 : decode cX0_forged 48 = .ok (.bipush (-9), 2) := dk_16 247 (dk_at dksX0_forged_2 0 rfl rfl)
theorem dX0_forged_50 : decode cX0_forged 50 = .ok (.if_icmp .ne 8, 3) := dk_160 0 8 (dk_at dksX0_forged_2 2 rfl rfl)
theorem dX0_forged_53 : decode cX0_forged 53 = .ok (.bipush (-9), 2) := dk_16 247 (dk_at dksX0_forged_2 5 rfl rfl)
theorem dX0_forged_55 : decode cX0_forged 55 = .ok (.goto 9, 3) := dk_167 0 9 (dk_at dksX0_forged_2 7 rfl rfl)
theorem dX0_forged_58 : decode cX0_forged 58 = .ok (.aload_n 0, 1) := dk_42 (dk_at dksX0_forged_2 10 rfl rfl)
theorem dX0_forged_59 : decode cX0_forged 59 = .ok (.iload_n 2, 1) := dk_28 (dk_at dksX0_forged_2 11 rfl rfl)
theorem dX0_forged_60 : decode cX0_forged 60 = .ok (.iload_n 1, 1) := dk_27 (dk_at dksX0_forged_2 12 rfl rfl)
theorem dX0_forged_61 : decode cX0_forged 61 = .ok (.invokevirtual 104, 3) := dk_182 0 104 (dk_at dksX0_forged_2 13 rfl rfl)
theorem dX0_forged_64 : decode cX0_forged 64 = .ok (.ireturn, 1) := dk_172 (dk_at dksX0_forged_2 16 rfl rfl)
abbrev cX0_beside : ByteArray := prog_1_method_80_code
def yX0_beside : MethodName := ⟨RX0, "beside", "(I)I"⟩
def dkwX0_beside_5 : List UInt8 := [172]
abbrev dktX0_beside_5 : List UInt8 := dkwX0_beside_5 ++ []
def dkwX0_beside_4 : List UInt8 := [50, 4, 182, 1, 79, 61, 42, 42, 42, 180, 0, 28, 27, 50, 3, 182, 1, 79, 28, 100, 28, 182, 0, 104]
abbrev dktX0_beside_4 : List UInt8 := dkwX0_beside_4 ++ dktX0_beside_5
def dkwX0_beside_3 : List UInt8 := [184, 0, 86, 154, 0, 9, 42, 6, 182, 0, 96, 172, 132, 4, 1, 167, 255, 224, 42, 42, 180, 0, 28, 27]
abbrev dktX0_beside_3 : List UInt8 := dkwX0_beside_3 ++ dktX0_beside_4
def dkwX0_beside_2 : List UInt8 := [77, 44, 190, 62, 3, 54, 4, 21, 4, 29, 162, 0, 32, 44, 21, 4, 46, 54, 5, 21, 5, 3, 16, 59]
abbrev dktX0_beside_2 : List UInt8 := dkwX0_beside_2 ++ dktX0_beside_3
def dkwX0_beside_1 : List UInt8 := [42, 180, 0, 28, 27, 50, 190, 16, 7, 164, 0, 9, 42, 8, 182, 0, 96, 172, 42, 180, 0, 28, 27, 50]
abbrev dktX0_beside_1 : List UInt8 := dkwX0_beside_1 ++ dktX0_beside_2
def dkwX0_beside_0 : List UInt8 := [27, 184, 0, 90, 154, 0, 5, 2, 172, 42, 180, 0, 28, 27, 50, 199, 0, 9, 42, 4, 182, 0, 96, 172]
abbrev dktX0_beside_0 : List UInt8 := dkwX0_beside_0 ++ dktX0_beside_1
theorem dksX0_beside_0 : cX0_beside.data.toList.drop 0 = dktX0_beside_0 := by decide +kernel
theorem dksX0_beside_1 : cX0_beside.data.toList.drop 24 = dktX0_beside_1 := dk_seg dksX0_beside_0 24 rfl rfl
theorem dksX0_beside_2 : cX0_beside.data.toList.drop 48 = dktX0_beside_2 := dk_seg dksX0_beside_1 24 rfl rfl
theorem dksX0_beside_3 : cX0_beside.data.toList.drop 72 = dktX0_beside_3 := dk_seg dksX0_beside_2 24 rfl rfl
theorem dksX0_beside_4 : cX0_beside.data.toList.drop 96 = dktX0_beside_4 := dk_seg dksX0_beside_3 24 rfl rfl
theorem dksX0_beside_5 : cX0_beside.data.toList.drop 120 = dktX0_beside_5 := dk_seg dksX0_beside_4 24 rfl rfl
theorem dX0_beside_0 : decode cX0_beside 0 = .ok (.iload_n 1, 1) := dk_27 (dk_at dksX0_beside_0 0 rfl rfl)
theorem dX0_beside_1 : decode cX0_beside 1 = .ok (.invokestatic 90, 3) := dk_184 0 90 (dk_at dksX0_beside_0 1 rfl rfl)
theorem dX0_beside_4 : decode cX0_beside 4 = .ok (.ifCond .ne 5, 3) := dk_154 0 5 (dk_at dksX0_beside_0 4 rfl rfl)
theorem dX0_beside_7 : decode cX0_beside 7 = .ok (.iconst (-1), 1) := dk_2 (dk_at dksX0_beside_0 7 rfl rfl)
theorem dX0_beside_8 : decode cX0_beside 8 = .ok (.ireturn, 1) := dk_172 (dk_at dksX0_beside_0 8 rfl rfl)
theorem dX0_beside_9 : decode cX0_beside 9 = .ok (.aload_n 0, 1) := dk_42 (dk_at dksX0_beside_0 9 rfl rfl)
theorem dX0_beside_10 : decode cX0_beside 10 = .ok (.getfield 28, 3) := dk_180 0 28 (dk_at dksX0_beside_0 10 rfl rfl)
theorem dX0_beside_13 : decode cX0_beside 13 = .ok (.iload_n 1, 1) := dk_27 (dk_at dksX0_beside_0 13 rfl rfl)
theorem dX0_beside_14 : decode cX0_beside 14 = .ok (.aaload, 1) := dk_50 (dk_at dksX0_beside_0 14 rfl rfl)
theorem dX0_beside_15 : decode cX0_beside 15 = .ok (.ifnonnull 9, 3) := dk_199 0 9 (dk_at dksX0_beside_0 15 rfl rfl)
theorem dX0_beside_18 : decode cX0_beside 18 = .ok (.aload_n 0, 1) := dk_42 (dk_at dksX0_beside_0 18 rfl rfl)
theorem dX0_beside_19 : decode cX0_beside 19 = .ok (.iconst 1, 1) := dk_4 (dk_at dksX0_beside_0 19 rfl rfl)
theorem dX0_beside_20 : decode cX0_beside 20 = .ok (.invokevirtual 96, 3) := dk_182 0 96 (dk_at dksX0_beside_0 20 rfl rfl)
theorem dX0_beside_23 : decode cX0_beside 23 = .ok (.ireturn, 1) := dk_172 (dk_at dksX0_beside_0 23 rfl rfl)
theorem dX0_beside_24 : decode cX0_beside 24 = .ok (.aload_n 0, 1) := dk_42 (dk_at dksX0_beside_1 0 rfl rfl)
theorem dX0_beside_25 : decode cX0_beside 25 = .ok (.getfield 28, 3) := dk_180 0 28 (dk_at dksX0_beside_1 1 rfl rfl)
theorem dX0_beside_28 : decode cX0_beside 28 = .ok (.iload_n 1, 1) := dk_27 (dk_at dksX0_beside_1 4 rfl rfl)
theorem dX0_beside_29 : decode cX0_beside 29 = .ok (.aaload, 1) := dk_50 (dk_at dksX0_beside_1 5 rfl rfl)
theorem dX0_beside_30 : decode cX0_beside 30 = .ok (.arraylength, 1) := dk_190 (dk_at dksX0_beside_1 6 rfl rfl)
theorem dX0_beside_31 : decode cX0_beside 31 = .ok (.bipush 7, 2) := dk_16 7 (dk_at dksX0_beside_1 7 rfl rfl)
theorem dX0_beside_33 : decode cX0_beside 33 = .ok (.if_icmp .le 9, 3) := dk_164 0 9 (dk_at dksX0_beside_1 9 rfl rfl)
theorem dX0_beside_36 : decode cX0_beside 36 = .ok (.aload_n 0, 1) := dk_42 (dk_at dksX0_beside_1 12 rfl rfl)
theorem dX0_beside_37 : decode cX0_beside 37 = .ok (.iconst 5, 1) := dk_8 (dk_at dksX0_beside_1 13 rfl rfl)
theorem dX0_beside_38 : decode cX0_beside 38 = .ok (.invokevirtual 96, 3) := dk_182 0 96 (dk_at dksX0_beside_1 14 rfl rfl)
theorem dX0_beside_41 : decode cX0_beside 41 = .ok (.ireturn, 1) := dk_172 (dk_at dksX0_beside_1 17 rfl rfl)
theorem dX0_beside_42 : decode cX0_beside 42 = .ok (.aload_n 0, 1) := dk_42 (dk_at dksX0_beside_1 18 rfl rfl)
theorem dX0_beside_43 : decode cX0_beside 43 = .ok (.getfield 28, 3) := dk_180 0 28 (dk_at dksX0_beside_1 19 rfl rfl)
theorem dX0_beside_46 : decode cX0_beside 46 = .ok (.iload_n 1, 1) := dk_27 (dk_at dksX0_beside_1 22 rfl rfl)
theorem dX0_beside_47 : decode cX0_beside 47 = .ok (.aaload, 1) := dk_50 (dk_at dksX0_beside_1 23 rfl rfl)
theorem dX0_beside_48 : decode cX0_beside 48 = .ok (.astore_n 2, 1) := dk_77 (dk_at dksX0_beside_2 0 rfl rfl)
theorem dX0_beside_49 : decode cX0_beside 49 = .ok (.aload_n 2, 1) := dk_44 (dk_at dksX0_beside_2 1 rfl rfl)
theorem dX0_beside_50 : decode cX0_beside 50 = .ok (.arraylength, 1) := dk_190 (dk_at dksX0_beside_2 2 rfl rfl)
theorem dX0_beside_51 : decode cX0_beside 51 = .ok (.istore_n 3, 1) := dk_62 (dk_at dksX0_beside_2 3 rfl rfl)
theorem dX0_beside_52 : decode cX0_beside 52 = .ok (.iconst 0, 1) := dk_3 (dk_at dksX0_beside_2 4 rfl rfl)
theorem dX0_beside_53 : decode cX0_beside 53 = .ok (.istore 4, 2) := dk_54 4 (dk_at dksX0_beside_2 5 rfl rfl)
theorem dX0_beside_55 : decode cX0_beside 55 = .ok (.iload 4, 2) := dk_21 4 (dk_at dksX0_beside_2 7 rfl rfl)
theorem dX0_beside_57 : decode cX0_beside 57 = .ok (.iload_n 3, 1) := dk_29 (dk_at dksX0_beside_2 9 rfl rfl)
theorem dX0_beside_58 : decode cX0_beside 58 = .ok (.if_icmp .ge 32, 3) := dk_162 0 32 (dk_at dksX0_beside_2 10 rfl rfl)
theorem dX0_beside_61 : decode cX0_beside 61 = .ok (.aload_n 2, 1) := dk_44 (dk_at dksX0_beside_2 13 rfl rfl)
theorem dX0_beside_62 : decode cX0_beside 62 = .ok (.iload 4, 2) := dk_21 4 (dk_at dksX0_beside_2 14 rfl rfl)
theorem dX0_beside_64 : decode cX0_beside 64 = .ok (.iaload, 1) := dk_46 (dk_at dksX0_beside_2 16 rfl rfl)
theorem dX0_beside_65 : decode cX0_beside 65 = .ok (.istore 5, 2) := dk_54 5 (dk_at dksX0_beside_2 17 rfl rfl)
theorem dX0_beside_67 : decode cX0_beside 67 = .ok (.iload 5, 2) := dk_21 5 (dk_at dksX0_beside_2 19 rfl rfl)
theorem dX0_beside_69 : decode cX0_beside 69 = .ok (.iconst 0, 1) := dk_3 (dk_at dksX0_beside_2 21 rfl rfl)
theorem dX0_beside_70 : decode cX0_beside 70 = .ok (.bipush 59, 2) := dk_16 59 (dk_at dksX0_beside_2 22 rfl rfl)
theorem dX0_beside_72 : decode cX0_beside 72 = .ok (.invokestatic 86, 3) := dk_184 0 86 (dk_at dksX0_beside_3 0 rfl rfl)
theorem dX0_beside_75 : decode cX0_beside 75 = .ok (.ifCond .ne 9, 3) := dk_154 0 9 (dk_at dksX0_beside_3 3 rfl rfl)
theorem dX0_beside_78 : decode cX0_beside 78 = .ok (.aload_n 0, 1) := dk_42 (dk_at dksX0_beside_3 6 rfl rfl)
theorem dX0_beside_79 : decode cX0_beside 79 = .ok (.iconst 3, 1) := dk_6 (dk_at dksX0_beside_3 7 rfl rfl)
theorem dX0_beside_80 : decode cX0_beside 80 = .ok (.invokevirtual 96, 3) := dk_182 0 96 (dk_at dksX0_beside_3 8 rfl rfl)
theorem dX0_beside_83 : decode cX0_beside 83 = .ok (.ireturn, 1) := dk_172 (dk_at dksX0_beside_3 11 rfl rfl)
theorem dX0_beside_84 : decode cX0_beside 84 = .ok (.iinc 4 1, 3) := dk_132 4 1 (dk_at dksX0_beside_3 12 rfl rfl)
theorem dX0_beside_87 : decode cX0_beside 87 = .ok (.goto (-32), 3) := dk_167 255 224 (dk_at dksX0_beside_3 15 rfl rfl)
theorem dX0_beside_90 : decode cX0_beside 90 = .ok (.aload_n 0, 1) := dk_42 (dk_at dksX0_beside_3 18 rfl rfl)
theorem dX0_beside_91 : decode cX0_beside 91 = .ok (.aload_n 0, 1) := dk_42 (dk_at dksX0_beside_3 19 rfl rfl)
theorem dX0_beside_92 : decode cX0_beside 92 = .ok (.getfield 28, 3) := dk_180 0 28 (dk_at dksX0_beside_3 20 rfl rfl)
theorem dX0_beside_95 : decode cX0_beside 95 = .ok (.iload_n 1, 1) := dk_27 (dk_at dksX0_beside_3 23 rfl rfl)
theorem dX0_beside_96 : decode cX0_beside 96 = .ok (.aaload, 1) := dk_50 (dk_at dksX0_beside_4 0 rfl rfl)
theorem dX0_beside_97 : decode cX0_beside 97 = .ok (.iconst 1, 1) := dk_4 (dk_at dksX0_beside_4 1 rfl rfl)
theorem dX0_beside_98 : decode cX0_beside 98 = .ok (.invokevirtual 335, 3) := dk_182 1 79 (dk_at dksX0_beside_4 2 rfl rfl)
theorem dX0_beside_101 : decode cX0_beside 101 = .ok (.istore_n 2, 1) := dk_61 (dk_at dksX0_beside_4 5 rfl rfl)
theorem dX0_beside_102 : decode cX0_beside 102 = .ok (.aload_n 0, 1) := dk_42 (dk_at dksX0_beside_4 6 rfl rfl)
theorem dX0_beside_103 : decode cX0_beside 103 = .ok (.aload_n 0, 1) := dk_42 (dk_at dksX0_beside_4 7 rfl rfl)
theorem dX0_beside_104 : decode cX0_beside 104 = .ok (.aload_n 0, 1) := dk_42 (dk_at dksX0_beside_4 8 rfl rfl)
theorem dX0_beside_105 : decode cX0_beside 105 = .ok (.getfield 28, 3) := dk_180 0 28 (dk_at dksX0_beside_4 9 rfl rfl)
theorem dX0_beside_108 : decode cX0_beside 108 = .ok (.iload_n 1, 1) := dk_27 (dk_at dksX0_beside_4 12 rfl rfl)
theorem dX0_beside_109 : decode cX0_beside 109 = .ok (.aaload, 1) := dk_50 (dk_at dksX0_beside_4 13 rfl rfl)
theorem dX0_beside_110 : decode cX0_beside 110 = .ok (.iconst 0, 1) := dk_3 (dk_at dksX0_beside_4 14 rfl rfl)
theorem dX0_beside_111 : decode cX0_beside 111 = .ok (.invokevirtual 335, 3) := dk_182 1 79 (dk_at dksX0_beside_4 15 rfl rfl)
theorem dX0_beside_114 : decode cX0_beside 114 = .ok (.iload_n 2, 1) := dk_28 (dk_at dksX0_beside_4 18 rfl rfl)
theorem dX0_beside_115 : decode cX0_beside 115 = .ok (.isub, 1) := dk_100 (dk_at dksX0_beside_4 19 rfl rfl)
theorem dX0_beside_116 : decode cX0_beside 116 = .ok (.iload_n 2, 1) := dk_28 (dk_at dksX0_beside_4 20 rfl rfl)
theorem dX0_beside_117 : decode cX0_beside 117 = .ok (.invokevirtual 104, 3) := dk_182 0 104 (dk_at dksX0_beside_4 21 rfl rfl)
theorem dX0_beside_120 : decode cX0_beside 120 = .ok (.ireturn, 1) := dk_172 (dk_at dksX0_beside_5 0 rfl rfl)
abbrev cX0_pairsWith : ByteArray := prog_1_method_79_code
def yX0_pairsWith : MethodName := ⟨RX0, "pairsWith", "([IZ)I"⟩
def dkwX0_pairsWith_8 : List UInt8 := [132, 4, 1, 167, 255, 74, 29, 172]
abbrev dktX0_pairsWith_8 : List UInt8 := dkwX0_pairsWith_8 ++ []
def dkwX0_pairsWith_7 : List UInt8 := [167, 255, 210, 29, 21, 5, 153, 0, 13, 21, 6, 21, 7, 184, 1, 76, 167, 0, 4, 3, 96, 62]
abbrev dktX0_pairsWith_7 : List UInt8 := dkwX0_pairsWith_7 ++ dktX0_pairsWith_8
def dkwX0_pairsWith_6 : List UInt8 := [167, 0, 8, 21, 11, 16, 10, 112, 21, 4, 160, 0, 7, 4, 167, 0, 4, 3, 96, 54, 7, 132, 10, 1]
abbrev dktX0_pairsWith_6 : List UInt8 := dkwX0_pairsWith_6 ++ dktX0_pairsWith_7
def dkwX0_pairsWith_5 : List UInt8 := [21, 10, 21, 9, 162, 0, 45, 25, 8, 21, 10, 46, 54, 11, 21, 7, 28, 153, 0, 8, 21, 11]
abbrev dktX0_pairsWith_5 : List UInt8 := dkwX0_pairsWith_5 ++ dktX0_pairsWith_6
def dkwX0_pairsWith_4 : List UInt8 := [167, 0, 4, 3, 96, 54, 6, 132, 8, 1, 167, 255, 193, 43, 58, 8, 25, 8, 190, 54, 9, 3, 54, 10]
abbrev dktX0_pairsWith_4 : List UInt8 := dkwX0_pairsWith_4 ++ dktX0_pairsWith_5
def dkwX0_pairsWith_3 : List UInt8 := [180, 0, 40, 21, 8, 50, 182, 0, 188, 96, 54, 9, 21, 6, 21, 9, 21, 4, 160, 0, 7, 4]
abbrev dktX0_pairsWith_3 : List UInt8 := dkwX0_pairsWith_3 ++ dktX0_pairsWith_4
def dkwX0_pairsWith_2 : List UInt8 := [28, 153, 0, 19, 16, 10, 42, 180, 0, 40, 21, 8, 50, 182, 0, 208, 104, 167, 0, 4, 3, 42]
abbrev dktX0_pairsWith_2 : List UInt8 := dkwX0_pairsWith_2 ++ dktX0_pairsWith_3
def dkwX0_pairsWith_1 : List UInt8 := [167, 0, 4, 3, 54, 5, 3, 54, 6, 3, 54, 7, 3, 54, 8, 21, 8, 42, 180, 0, 175, 162, 0, 60]
abbrev dktX0_pairsWith_1 : List UInt8 := dkwX0_pairsWith_1 ++ dktX0_pairsWith_2
def dkwX0_pairsWith_0 : List UInt8 := [3, 62, 3, 54, 4, 21, 4, 16, 60, 162, 0, 181, 28, 154, 0, 10, 21, 4, 16, 10, 162, 0, 7, 4]
abbrev dktX0_pairsWith_0 : List UInt8 := dkwX0_pairsWith_0 ++ dktX0_pairsWith_1
theorem dksX0_pairsWith_0 : cX0_pairsWith.data.toList.drop 0 = dktX0_pairsWith_0 := by decide +kernel
theorem dksX0_pairsWith_1 : cX0_pairsWith.data.toList.drop 24 = dktX0_pairsWith_1 := dk_seg dksX0_pairsWith_0 24 rfl rfl
theorem dksX0_pairsWith_2 : cX0_pairsWith.data.toList.drop 48 = dktX0_pairsWith_2 := dk_seg dksX0_pairsWith_1 24 rfl rfl
theorem dksX0_pairsWith_3 : cX0_pairsWith.data.toList.drop 70 = dktX0_pairsWith_3 := dk_seg dksX0_pairsWith_2 22 rfl rfl
theorem dksX0_pairsWith_4 : cX0_pairsWith.data.toList.drop 92 = dktX0_pairsWith_4 := dk_seg dksX0_pairsWith_3 22 rfl rfl
theorem dksX0_pairsWith_5 : cX0_pairsWith.data.toList.drop 116 = dktX0_pairsWith_5 := dk_seg dksX0_pairsWith_4 24 rfl rfl
theorem dksX0_pairsWith_6 : cX0_pairsWith.data.toList.drop 138 = dktX0_pairsWith_6 := dk_seg dksX0_pairsWith_5 22 rfl rfl
theorem dksX0_pairsWith_7 : cX0_pairsWith.data.toList.drop 162 = dktX0_pairsWith_7 := dk_seg dksX0_pairsWith_6 24 rfl rfl
theorem dksX0_pairsWith_8 : cX0_pairsWith.data.toList.drop 184 = dktX0_pairsWith_8 := dk_seg dksX0_pairsWith_7 22 rfl rfl
theorem dX0_pairsWith_0 : decode cX0_pairsWith 0 = .ok (.iconst 0, 1) := dk_3 (dk_at dksX0_pairsWith_0 0 rfl rfl)
theorem dX0_pairsWith_1 : decode cX0_pairsWith 1 = .ok (.istore_n 3, 1) := dk_62 (dk_at dksX0_pairsWith_0 1 rfl rfl)
theorem dX0_pairsWith_2 : decode cX0_pairsWith 2 = .ok (.iconst 0, 1) := dk_3 (dk_at dksX0_pairsWith_0 2 rfl rfl)
theorem dX0_pairsWith_3 : decode cX0_pairsWith 3 = .ok (.istore 4, 2) := dk_54 4 (dk_at dksX0_pairsWith_0 3 rfl rfl)
theorem dX0_pairsWith_5 : decode cX0_pairsWith 5 = .ok (.iload 4, 2) := dk_21 4 (dk_at dksX0_pairsWith_0 5 rfl rfl)
theorem dX0_pairsWith_7 : decode cX0_pairsWith 7 = .ok (.bipush 60, 2) := dk_16 60 (dk_at dksX0_pairsWith_0 7 rfl rfl)
theorem dX0_pairsWith_9 : decode cX0_pairsWith 9 = .ok (.if_icmp .ge 181, 3) := dk_162 0 181 (dk_at dksX0_pairsWith_0 9 rfl rfl)
theorem dX0_pairsWith_12 : decode cX0_pairsWith 12 = .ok (.iload_n 2, 1) := dk_28 (dk_at dksX0_pairsWith_0 12 rfl rfl)
theorem dX0_pairsWith_13 : decode cX0_pairsWith 13 = .ok (.ifCond .ne 10, 3) := dk_154 0 10 (dk_at dksX0_pairsWith_0 13 rfl rfl)
theorem dX0_pairsWith_16 : decode cX0_pairsWith 16 = .ok (.iload 4, 2) := dk_21 4 (dk_at dksX0_pairsWith_0 16 rfl rfl)
theorem dX0_pairsWith_18 : decode cX0_pairsWith 18 = .ok (.bipush 10, 2) := dk_16 10 (dk_at dksX0_pairsWith_0 18 rfl rfl)
theorem dX0_pairsWith_20 : decode cX0_pairsWith 20 = .ok (.if_icmp .ge 7, 3) := dk_162 0 7 (dk_at dksX0_pairsWith_0 20 rfl rfl)
theorem dX0_pairsWith_23 : decode cX0_pairsWith 23 = .ok (.iconst 1, 1) := dk_4 (dk_at dksX0_pairsWith_0 23 rfl rfl)
theorem dX0_pairsWith_24 : decode cX0_pairsWith 24 = .ok (.goto 4, 3) := dk_167 0 4 (dk_at dksX0_pairsWith_1 0 rfl rfl)
theorem dX0_pairsWith_27 : decode cX0_pairsWith 27 = .ok (.iconst 0, 1) := dk_3 (dk_at dksX0_pairsWith_1 3 rfl rfl)
theorem dX0_pairsWith_28 : decode cX0_pairsWith 28 = .ok (.istore 5, 2) := dk_54 5 (dk_at dksX0_pairsWith_1 4 rfl rfl)
theorem dX0_pairsWith_30 : decode cX0_pairsWith 30 = .ok (.iconst 0, 1) := dk_3 (dk_at dksX0_pairsWith_1 6 rfl rfl)
theorem dX0_pairsWith_31 : decode cX0_pairsWith 31 = .ok (.istore 6, 2) := dk_54 6 (dk_at dksX0_pairsWith_1 7 rfl rfl)
theorem dX0_pairsWith_33 : decode cX0_pairsWith 33 = .ok (.iconst 0, 1) := dk_3 (dk_at dksX0_pairsWith_1 9 rfl rfl)
theorem dX0_pairsWith_34 : decode cX0_pairsWith 34 = .ok (.istore 7, 2) := dk_54 7 (dk_at dksX0_pairsWith_1 10 rfl rfl)
theorem dX0_pairsWith_36 : decode cX0_pairsWith 36 = .ok (.iconst 0, 1) := dk_3 (dk_at dksX0_pairsWith_1 12 rfl rfl)
theorem dX0_pairsWith_37 : decode cX0_pairsWith 37 = .ok (.istore 8, 2) := dk_54 8 (dk_at dksX0_pairsWith_1 13 rfl rfl)
theorem dX0_pairsWith_39 : decode cX0_pairsWith 39 = .ok (.iload 8, 2) := dk_21 8 (dk_at dksX0_pairsWith_1 15 rfl rfl)
theorem dX0_pairsWith_41 : decode cX0_pairsWith 41 = .ok (.aload_n 0, 1) := dk_42 (dk_at dksX0_pairsWith_1 17 rfl rfl)
theorem dX0_pairsWith_42 : decode cX0_pairsWith 42 = .ok (.getfield 175, 3) := dk_180 0 175 (dk_at dksX0_pairsWith_1 18 rfl rfl)
theorem dX0_pairsWith_45 : decode cX0_pairsWith 45 = .ok (.if_icmp .ge 60, 3) := dk_162 0 60 (dk_at dksX0_pairsWith_1 21 rfl rfl)
theorem dX0_pairsWith_48 : decode cX0_pairsWith 48 = .ok (.iload_n 2, 1) := dk_28 (dk_at dksX0_pairsWith_2 0 rfl rfl)
theorem dX0_pairsWith_49 : decode cX0_pairsWith 49 = .ok (.ifCond .eq 19, 3) := dk_153 0 19 (dk_at dksX0_pairsWith_2 1 rfl rfl)
theorem dX0_pairsWith_52 : decode cX0_pairsWith 52 = .ok (.bipush 10, 2) := dk_16 10 (dk_at dksX0_pairsWith_2 4 rfl rfl)
theorem dX0_pairsWith_54 : decode cX0_pairsWith 54 = .ok (.aload_n 0, 1) := dk_42 (dk_at dksX0_pairsWith_2 6 rfl rfl)
theorem dX0_pairsWith_55 : decode cX0_pairsWith 55 = .ok (.getfield 40, 3) := dk_180 0 40 (dk_at dksX0_pairsWith_2 7 rfl rfl)
theorem dX0_pairsWith_58 : decode cX0_pairsWith 58 = .ok (.iload 8, 2) := dk_21 8 (dk_at dksX0_pairsWith_2 10 rfl rfl)
theorem dX0_pairsWith_60 : decode cX0_pairsWith 60 = .ok (.aaload, 1) := dk_50 (dk_at dksX0_pairsWith_2 12 rfl rfl)
theorem dX0_pairsWith_61 : decode cX0_pairsWith 61 = .ok (.invokevirtual 208, 3) := dk_182 0 208 (dk_at dksX0_pairsWith_2 13 rfl rfl)
theorem dX0_pairsWith_64 : decode cX0_pairsWith 64 = .ok (.imul, 1) := dk_104 (dk_at dksX0_pairsWith_2 16 rfl rfl)
theorem dX0_pairsWith_65 : decode cX0_pairsWith 65 = .ok (.goto 4, 3) := dk_167 0 4 (dk_at dksX0_pairsWith_2 17 rfl rfl)
theorem dX0_pairsWith_68 : decode cX0_pairsWith 68 = .ok (.iconst 0, 1) := dk_3 (dk_at dksX0_pairsWith_2 20 rfl rfl)
theorem dX0_pairsWith_69 : decode cX0_pairsWith 69 = .ok (.aload_n 0, 1) := dk_42 (dk_at dksX0_pairsWith_2 21 rfl rfl)
theorem dX0_pairsWith_70 : decode cX0_pairsWith 70 = .ok (.getfield 40, 3) := dk_180 0 40 (dk_at dksX0_pairsWith_3 0 rfl rfl)
theorem dX0_pairsWith_73 : decode cX0_pairsWith 73 = .ok (.iload 8, 2) := dk_21 8 (dk_at dksX0_pairsWith_3 3 rfl rfl)
theorem dX0_pairsWith_75 : decode cX0_pairsWith 75 = .ok (.aaload, 1) := dk_50 (dk_at dksX0_pairsWith_3 5 rfl rfl)
theorem dX0_pairsWith_76 : decode cX0_pairsWith 76 = .ok (.invokevirtual 188, 3) := dk_182 0 188 (dk_at dksX0_pairsWith_3 6 rfl rfl)
theorem dX0_pairsWith_79 : decode cX0_pairsWith 79 = .ok (.iadd, 1) := dk_96 (dk_at dksX0_pairsWith_3 9 rfl rfl)
theorem dX0_pairsWith_80 : decode cX0_pairsWith 80 = .ok (.istore 9, 2) := dk_54 9 (dk_at dksX0_pairsWith_3 10 rfl rfl)
theorem dX0_pairsWith_82 : decode cX0_pairsWith 82 = .ok (.iload 6, 2) := dk_21 6 (dk_at dksX0_pairsWith_3 12 rfl rfl)
theorem dX0_pairsWith_84 : decode cX0_pairsWith 84 = .ok (.iload 9, 2) := dk_21 9 (dk_at dksX0_pairsWith_3 14 rfl rfl)
theorem dX0_pairsWith_86 : decode cX0_pairsWith 86 = .ok (.iload 4, 2) := dk_21 4 (dk_at dksX0_pairsWith_3 16 rfl rfl)
theorem dX0_pairsWith_88 : decode cX0_pairsWith 88 = .ok (.if_icmp .ne 7, 3) := dk_160 0 7 (dk_at dksX0_pairsWith_3 18 rfl rfl)
theorem dX0_pairsWith_91 : decode cX0_pairsWith 91 = .ok (.iconst 1, 1) := dk_4 (dk_at dksX0_pairsWith_3 21 rfl rfl)
theorem dX0_pairsWith_92 : decode cX0_pairsWith 92 = .ok (.goto 4, 3) := dk_167 0 4 (dk_at dksX0_pairsWith_4 0 rfl rfl)
theorem dX0_pairsWith_95 : decode cX0_pairsWith 95 = .ok (.iconst 0, 1) := dk_3 (dk_at dksX0_pairsWith_4 3 rfl rfl)
theorem dX0_pairsWith_96 : decode cX0_pairsWith 96 = .ok (.iadd, 1) := dk_96 (dk_at dksX0_pairsWith_4 4 rfl rfl)
theorem dX0_pairsWith_97 : decode cX0_pairsWith 97 = .ok (.istore 6, 2) := dk_54 6 (dk_at dksX0_pairsWith_4 5 rfl rfl)
theorem dX0_pairsWith_99 : decode cX0_pairsWith 99 = .ok (.iinc 8 1, 3) := dk_132 8 1 (dk_at dksX0_pairsWith_4 7 rfl rfl)
theorem dX0_pairsWith_102 : decode cX0_pairsWith 102 = .ok (.goto (-63), 3) := dk_167 255 193 (dk_at dksX0_pairsWith_4 10 rfl rfl)
theorem dX0_pairsWith_105 : decode cX0_pairsWith 105 = .ok (.aload_n 1, 1) := dk_43 (dk_at dksX0_pairsWith_4 13 rfl rfl)
theorem dX0_pairsWith_106 : decode cX0_pairsWith 106 = .ok (.astore 8, 2) := dk_58 8 (dk_at dksX0_pairsWith_4 14 rfl rfl)
theorem dX0_pairsWith_108 : decode cX0_pairsWith 108 = .ok (.aload 8, 2) := dk_25 8 (dk_at dksX0_pairsWith_4 16 rfl rfl)
theorem dX0_pairsWith_110 : decode cX0_pairsWith 110 = .ok (.arraylength, 1) := dk_190 (dk_at dksX0_pairsWith_4 18 rfl rfl)
theorem dX0_pairsWith_111 : decode cX0_pairsWith 111 = .ok (.istore 9, 2) := dk_54 9 (dk_at dksX0_pairsWith_4 19 rfl rfl)
theorem dX0_pairsWith_113 : decode cX0_pairsWith 113 = .ok (.iconst 0, 1) := dk_3 (dk_at dksX0_pairsWith_4 21 rfl rfl)
theorem dX0_pairsWith_114 : decode cX0_pairsWith 114 = .ok (.istore 10, 2) := dk_54 10 (dk_at dksX0_pairsWith_4 22 rfl rfl)
theorem dX0_pairsWith_116 : decode cX0_pairsWith 116 = .ok (.iload 10, 2) := dk_21 10 (dk_at dksX0_pairsWith_5 0 rfl rfl)
theorem dX0_pairsWith_118 : decode cX0_pairsWith 118 = .ok (.iload 9, 2) := dk_21 9 (dk_at dksX0_pairsWith_5 2 rfl rfl)
theorem dX0_pairsWith_120 : decode cX0_pairsWith 120 = .ok (.if_icmp .ge 45, 3) := dk_162 0 45 (dk_at dksX0_pairsWith_5 4 rfl rfl)
theorem dX0_pairsWith_123 : decode cX0_pairsWith 123 = .ok (.aload 8, 2) := dk_25 8 (dk_at dksX0_pairsWith_5 7 rfl rfl)
theorem dX0_pairsWith_125 : decode cX0_pairsWith 125 = .ok (.iload 10, 2) := dk_21 10 (dk_at dksX0_pairsWith_5 9 rfl rfl)
theorem dX0_pairsWith_127 : decode cX0_pairsWith 127 = .ok (.iaload, 1) := dk_46 (dk_at dksX0_pairsWith_5 11 rfl rfl)
theorem dX0_pairsWith_128 : decode cX0_pairsWith 128 = .ok (.istore 11, 2) := dk_54 11 (dk_at dksX0_pairsWith_5 12 rfl rfl)
theorem dX0_pairsWith_130 : decode cX0_pairsWith 130 = .ok (.iload 7, 2) := dk_21 7 (dk_at dksX0_pairsWith_5 14 rfl rfl)
theorem dX0_pairsWith_132 : decode cX0_pairsWith 132 = .ok (.iload_n 2, 1) := dk_28 (dk_at dksX0_pairsWith_5 16 rfl rfl)
theorem dX0_pairsWith_133 : decode cX0_pairsWith 133 = .ok (.ifCond .eq 8, 3) := dk_153 0 8 (dk_at dksX0_pairsWith_5 17 rfl rfl)
theorem dX0_pairsWith_136 : decode cX0_pairsWith 136 = .ok (.iload 11, 2) := dk_21 11 (dk_at dksX0_pairsWith_5 20 rfl rfl)
theorem dX0_pairsWith_138 : decode cX0_pairsWith 138 = .ok (.goto 8, 3) := dk_167 0 8 (dk_at dksX0_pairsWith_6 0 rfl rfl)
theorem dX0_pairsWith_141 : decode cX0_pairsWith 141 = .ok (.iload 11, 2) := dk_21 11 (dk_at dksX0_pairsWith_6 3 rfl rfl)
theorem dX0_pairsWith_143 : decode cX0_pairsWith 143 = .ok (.bipush 10, 2) := dk_16 10 (dk_at dksX0_pairsWith_6 5 rfl rfl)
theorem dX0_pairsWith_145 : decode cX0_pairsWith 145 = .ok (.irem, 1) := dk_112 (dk_at dksX0_pairsWith_6 7 rfl rfl)
theorem dX0_pairsWith_146 : decode cX0_pairsWith 146 = .ok (.iload 4, 2) := dk_21 4 (dk_at dksX0_pairsWith_6 8 rfl rfl)
theorem dX0_pairsWith_148 : decode cX0_pairsWith 148 = .ok (.if_icmp .ne 7, 3) := dk_160 0 7 (dk_at dksX0_pairsWith_6 10 rfl rfl)
theorem dX0_pairsWith_151 : decode cX0_pairsWith 151 = .ok (.iconst 1, 1) := dk_4 (dk_at dksX0_pairsWith_6 13 rfl rfl)
theorem dX0_pairsWith_152 : decode cX0_pairsWith 152 = .ok (.goto 4, 3) := dk_167 0 4 (dk_at dksX0_pairsWith_6 14 rfl rfl)
theorem dX0_pairsWith_155 : decode cX0_pairsWith 155 = .ok (.iconst 0, 1) := dk_3 (dk_at dksX0_pairsWith_6 17 rfl rfl)
theorem dX0_pairsWith_156 : decode cX0_pairsWith 156 = .ok (.iadd, 1) := dk_96 (dk_at dksX0_pairsWith_6 18 rfl rfl)
theorem dX0_pairsWith_157 : decode cX0_pairsWith 157 = .ok (.istore 7, 2) := dk_54 7 (dk_at dksX0_pairsWith_6 19 rfl rfl)
theorem dX0_pairsWith_159 : decode cX0_pairsWith 159 = .ok (.iinc 10 1, 3) := dk_132 10 1 (dk_at dksX0_pairsWith_6 21 rfl rfl)
theorem dX0_pairsWith_162 : decode cX0_pairsWith 162 = .ok (.goto (-46), 3) := dk_167 255 210 (dk_at dksX0_pairsWith_7 0 rfl rfl)
theorem dX0_pairsWith_165 : decode cX0_pairsWith 165 = .ok (.iload_n 3, 1) := dk_29 (dk_at dksX0_pairsWith_7 3 rfl rfl)
theorem dX0_pairsWith_166 : decode cX0_pairsWith 166 = .ok (.iload 5, 2) := dk_21 5 (dk_at dksX0_pairsWith_7 4 rfl rfl)
theorem dX0_pairsWith_168 : decode cX0_pairsWith 168 = .ok (.ifCond .eq 13, 3) := dk_153 0 13 (dk_at dksX0_pairsWith_7 6 rfl rfl)
theorem dX0_pairsWith_171 : decode cX0_pairsWith 171 = .ok (.iload 6, 2) := dk_21 6 (dk_at dksX0_pairsWith_7 9 rfl rfl)
theorem dX0_pairsWith_173 : decode cX0_pairsWith 173 = .ok (.iload 7, 2) := dk_21 7 (dk_at dksX0_pairsWith_7 11 rfl rfl)
theorem dX0_pairsWith_175 : decode cX0_pairsWith 175 = .ok (.invokestatic 332, 3) := dk_184 1 76 (dk_at dksX0_pairsWith_7 13 rfl rfl)
theorem dX0_pairsWith_178 : decode cX0_pairsWith 178 = .ok (.goto 4, 3) := dk_167 0 4 (dk_at dksX0_pairsWith_7 16 rfl rfl)
theorem dX0_pairsWith_181 : decode cX0_pairsWith 181 = .ok (.iconst 0, 1) := dk_3 (dk_at dksX0_pairsWith_7 19 rfl rfl)
theorem dX0_pairsWith_182 : decode cX0_pairsWith 182 = .ok (.iadd, 1) := dk_96 (dk_at dksX0_pairsWith_7 20 rfl rfl)
theorem dX0_pairsWith_183 : decode cX0_pairsWith 183 = .ok (.istore_n 3, 1) := dk_62 (dk_at dksX0_pairsWith_7 21 rfl rfl)
theorem dX0_pairsWith_184 : decode cX0_pairsWith 184 = .ok (.iinc 4 1, 3) := dk_132 4 1 (dk_at dksX0_pairsWith_8 0 rfl rfl)
theorem dX0_pairsWith_187 : decode cX0_pairsWith 187 = .ok (.goto (-182), 3) := dk_167 255 74 (dk_at dksX0_pairsWith_8 3 rfl rfl)
theorem dX0_pairsWith_190 : decode cX0_pairsWith 190 = .ok (.iload_n 3, 1) := dk_29 (dk_at dksX0_pairsWith_8 6 rfl rfl)
theorem dX0_pairsWith_191 : decode cX0_pairsWith 191 = .ok (.ireturn, 1) := dk_172 (dk_at dksX0_pairsWith_8 7 rfl rfl)
abbrev cX0_habit : ByteArray := prog_1_method_83_code
def yX0_habit : MethodName := ⟨RX0, "habit", "()I"⟩
def dkwX0_habit_2 : List UInt8 := [132, 2, 1, 167, 255, 210, 42, 27, 42, 180, 0, 175, 27, 184, 1, 62, 100, 182, 0, 104, 172]
abbrev dktX0_habit_2 : List UInt8 := dkwX0_habit_2 ++ []
def dkwX0_habit_1 : List UInt8 := [180, 0, 40, 28, 50, 182, 0, 208, 182, 1, 86, 160, 0, 7, 3, 167, 0, 6, 4, 28, 120, 128, 60]
abbrev dktX0_habit_1 : List UInt8 := dkwX0_habit_1 ++ dktX0_habit_2
def dkwX0_habit_0 : List UInt8 := [3, 60, 3, 61, 28, 42, 180, 0, 175, 162, 0, 44, 27, 42, 180, 0, 40, 28, 50, 180, 0, 205, 42, 42]
abbrev dktX0_habit_0 : List UInt8 := dkwX0_habit_0 ++ dktX0_habit_1
theorem dksX0_habit_0 : cX0_habit.data.toList.drop 0 = dktX0_habit_0 := by decide +kernel
theorem dksX0_habit_1 : cX0_habit.data.toList.drop 24 = dktX0_habit_1 := dk_seg dksX0_habit_0 24 rfl rfl
theorem dksX0_habit_2 : cX0_habit.data.toList.drop 47 = dktX0_habit_2 := dk_seg dksX0_habit_1 23 rfl rfl
theorem dX0_habit_0 : decode cX0_habit 0 = .ok (.iconst 0, 1) := dk_3 (dk_at dksX0_habit_0 0 rfl rfl)
theorem dX0_habit_1 : decode cX0_habit 1 = .ok (.istore_n 1, 1) := dk_60 (dk_at dksX0_habit_0 1 rfl rfl)
theorem dX0_habit_2 : decode cX0_habit 2 = .ok (.iconst 0, 1) := dk_3 (dk_at dksX0_habit_0 2 rfl rfl)
theorem dX0_habit_3 : decode cX0_habit 3 = .ok (.istore_n 2, 1) := dk_61 (dk_at dksX0_habit_0 3 rfl rfl)
theorem dX0_habit_4 : decode cX0_habit 4 = .ok (.iload_n 2, 1) := dk_28 (dk_at dksX0_habit_0 4 rfl rfl)
theorem dX0_habit_5 : decode cX0_habit 5 = .ok (.aload_n 0, 1) := dk_42 (dk_at dksX0_habit_0 5 rfl rfl)
theorem dX0_habit_6 : decode cX0_habit 6 = .ok (.getfield 175, 3) := dk_180 0 175 (dk_at dksX0_habit_0 6 rfl rfl)
theorem dX0_habit_9 : decode cX0_habit 9 = .ok (.if_icmp .ge 44, 3) := dk_162 0 44 (dk_at dksX0_habit_0 9 rfl rfl)
theorem dX0_habit_12 : decode cX0_habit 12 = .ok (.iload_n 1, 1) := dk_27 (dk_at dksX0_habit_0 12 rfl rfl)
theorem dX0_habit_13 : decode cX0_habit 13 = .ok (.aload_n 0, 1) := dk_42 (dk_at dksX0_habit_0 13 rfl rfl)
theorem dX0_habit_14 : decode cX0_habit 14 = .ok (.getfield 40, 3) := dk_180 0 40 (dk_at dksX0_habit_0 14 rfl rfl)
theorem dX0_habit_17 : decode cX0_habit 17 = .ok (.iload_n 2, 1) := dk_28 (dk_at dksX0_habit_0 17 rfl rfl)
theorem dX0_habit_18 : decode cX0_habit 18 = .ok (.aaload, 1) := dk_50 (dk_at dksX0_habit_0 18 rfl rfl)
theorem dX0_habit_19 : decode cX0_habit 19 = .ok (.getfield 205, 3) := dk_180 0 205 (dk_at dksX0_habit_0 19 rfl rfl)
theorem dX0_habit_22 : decode cX0_habit 22 = .ok (.aload_n 0, 1) := dk_42 (dk_at dksX0_habit_0 22 rfl rfl)
theorem dX0_habit_23 : decode cX0_habit 23 = .ok (.aload_n 0, 1) := dk_42 (dk_at dksX0_habit_0 23 rfl rfl)
theorem dX0_habit_24 : decode cX0_habit 24 = .ok (.getfield 40, 3) := dk_180 0 40 (dk_at dksX0_habit_1 0 rfl rfl)
theorem dX0_habit_27 : decode cX0_habit 27 = .ok (.iload_n 2, 1) := dk_28 (dk_at dksX0_habit_1 3 rfl rfl)
theorem dX0_habit_28 : decode cX0_habit 28 = .ok (.aaload, 1) := dk_50 (dk_at dksX0_habit_1 4 rfl rfl)
theorem dX0_habit_29 : decode cX0_habit 29 = .ok (.invokevirtual 208, 3) := dk_182 0 208 (dk_at dksX0_habit_1 5 rfl rfl)
theorem dX0_habit_32 : decode cX0_habit 32 = .ok (.invokevirtual 342, 3) := dk_182 1 86 (dk_at dksX0_habit_1 8 rfl rfl)
theorem dX0_habit_35 : decode cX0_habit 35 = .ok (.if_icmp .ne 7, 3) := dk_160 0 7 (dk_at dksX0_habit_1 11 rfl rfl)
theorem dX0_habit_38 : decode cX0_habit 38 = .ok (.iconst 0, 1) := dk_3 (dk_at dksX0_habit_1 14 rfl rfl)
theorem dX0_habit_39 : decode cX0_habit 39 = .ok (.goto 6, 3) := dk_167 0 6 (dk_at dksX0_habit_1 15 rfl rfl)
theorem dX0_habit_42 : decode cX0_habit 42 = .ok (.iconst 1, 1) := dk_4 (dk_at dksX0_habit_1 18 rfl rfl)
theorem dX0_habit_43 : decode cX0_habit 43 = .ok (.iload_n 2, 1) := dk_28 (dk_at dksX0_habit_1 19 rfl rfl)
theorem dX0_habit_44 : decode cX0_habit 44 = .ok (.ishl, 1) := dk_120 (dk_at dksX0_habit_1 20 rfl rfl)
theorem dX0_habit_45 : decode cX0_habit 45 = .ok (.ior, 1) := dk_128 (dk_at dksX0_habit_1 21 rfl rfl)
theorem dX0_habit_46 : decode cX0_habit 46 = .ok (.istore_n 1, 1) := dk_60 (dk_at dksX0_habit_1 22 rfl rfl)
theorem dX0_habit_47 : decode cX0_habit 47 = .ok (.iinc 2 1, 3) := dk_132 2 1 (dk_at dksX0_habit_2 0 rfl rfl)
theorem dX0_habit_50 : decode cX0_habit 50 = .ok (.goto (-46), 3) := dk_167 255 210 (dk_at dksX0_habit_2 3 rfl rfl)
theorem dX0_habit_53 : decode cX0_habit 53 = .ok (.aload_n 0, 1) := dk_42 (dk_at dksX0_habit_2 6 rfl rfl)
theorem dX0_habit_54 : decode cX0_habit 54 = .ok (.iload_n 1, 1) := dk_27 (dk_at dksX0_habit_2 7 rfl rfl)
theorem dX0_habit_55 : decode cX0_habit 55 = .ok (.aload_n 0, 1) := dk_42 (dk_at dksX0_habit_2 8 rfl rfl)
theorem dX0_habit_56 : decode cX0_habit 56 = .ok (.getfield 175, 3) := dk_180 0 175 (dk_at dksX0_habit_2 9 rfl rfl)
theorem dX0_habit_59 : decode cX0_habit 59 = .ok (.iload_n 1, 1) := dk_27 (dk_at dksX0_habit_2 12 rfl rfl)
theorem dX0_habit_60 : decode cX0_habit 60 = .ok (.invokestatic 318, 3) := dk_184 1 62 (dk_at dksX0_habit_2 13 rfl rfl)
theorem dX0_habit_63 : decode cX0_habit 63 = .ok (.isub, 1) := dk_100 (dk_at dksX0_habit_2 16 rfl rfl)
theorem dX0_habit_64 : decode cX0_habit 64 = .ok (.invokevirtual 104, 3) := dk_182 0 104 (dk_at dksX0_habit_2 17 rfl rfl)
theorem dX0_habit_67 : decode cX0_habit 67 = .ok (.ireturn, 1) := dk_172 (dk_at dksX0_habit_2 20 rfl rfl)
abbrev cX0_homeOf : ByteArray := prog_1_method_82_code
def yX0_homeOf : MethodName := ⟨RX0, "homeOf", "(I)I"⟩
def dkwX0_homeOf_1 : List UInt8 := [29, 167, 0, 4, 28, 61, 132, 3, 1, 167, 255, 227, 28, 172]
abbrev dktX0_homeOf_1 : List UInt8 := dkwX0_homeOf_1 ++ []
def dkwX0_homeOf_0 : List UInt8 := [3, 61, 4, 62, 29, 7, 162, 0, 30, 42, 27, 29, 182, 1, 83, 42, 27, 28, 182, 1, 83, 164, 0, 7]
abbrev dktX0_homeOf_0 : List UInt8 := dkwX0_homeOf_0 ++ dktX0_homeOf_1
theorem dksX0_homeOf_0 : cX0_homeOf.data.toList.drop 0 = dktX0_homeOf_0 := by decide +kernel
theorem dksX0_homeOf_1 : cX0_homeOf.data.toList.drop 24 = dktX0_homeOf_1 := dk_seg dksX0_homeOf_0 24 rfl rfl
theorem dX0_homeOf_0 : decode cX0_homeOf 0 = .ok (.iconst 0, 1) := dk_3 (dk_at dksX0_homeOf_0 0 rfl rfl)
theorem dX0_homeOf_1 : decode cX0_homeOf 1 = .ok (.istore_n 2, 1) := dk_61 (dk_at dksX0_homeOf_0 1 rfl rfl)
theorem dX0_homeOf_2 : decode cX0_homeOf 2 = .ok (.iconst 1, 1) := dk_4 (dk_at dksX0_homeOf_0 2 rfl rfl)
theorem dX0_homeOf_3 : decode cX0_homeOf 3 = .ok (.istore_n 3, 1) := dk_62 (dk_at dksX0_homeOf_0 3 rfl rfl)
theorem dX0_homeOf_4 : decode cX0_homeOf 4 = .ok (.iload_n 3, 1) := dk_29 (dk_at dksX0_homeOf_0 4 rfl rfl)
theorem dX0_homeOf_5 : decode cX0_homeOf 5 = .ok (.iconst 4, 1) := dk_7 (dk_at dksX0_homeOf_0 5 rfl rfl)
theorem dX0_homeOf_6 : decode cX0_homeOf 6 = .ok (.if_icmp .ge 30, 3) := dk_162 0 30 (dk_at dksX0_homeOf_0 6 rfl rfl)
theorem dX0_homeOf_9 : decode cX0_homeOf 9 = .ok (.aload_n 0, 1) := dk_42 (dk_at dksX0_homeOf_0 9 rfl rfl)
theorem dX0_homeOf_10 : decode cX0_homeOf 10 = .ok (.iload_n 1, 1) := dk_27 (dk_at dksX0_homeOf_0 10 rfl rfl)
theorem dX0_homeOf_11 : decode cX0_homeOf 11 = .ok (.iload_n 3, 1) := dk_29 (dk_at dksX0_homeOf_0 11 rfl rfl)
theorem dX0_homeOf_12 : decode cX0_homeOf 12 = .ok (.invokevirtual 339, 3) := dk_182 1 83 (dk_at dksX0_homeOf_0 12 rfl rfl)
theorem dX0_homeOf_15 : decode cX0_homeOf 15 = .ok (.aload_n 0, 1) := dk_42 (dk_at dksX0_homeOf_0 15 rfl rfl)
theorem dX0_homeOf_16 : decode cX0_homeOf 16 = .ok (.iload_n 1, 1) := dk_27 (dk_at dksX0_homeOf_0 16 rfl rfl)
theorem dX0_homeOf_17 : decode cX0_homeOf 17 = .ok (.iload_n 2, 1) := dk_28 (dk_at dksX0_homeOf_0 17 rfl rfl)
theorem dX0_homeOf_18 : decode cX0_homeOf 18 = .ok (.invokevirtual 339, 3) := dk_182 1 83 (dk_at dksX0_homeOf_0 18 rfl rfl)
theorem dX0_homeOf_21 : decode cX0_homeOf 21 = .ok (.if_icmp .le 7, 3) := dk_164 0 7 (dk_at dksX0_homeOf_0 21 rfl rfl)
theorem dX0_homeOf_24 : decode cX0_homeOf 24 = .ok (.iload_n 3, 1) := dk_29 (dk_at dksX0_homeOf_1 0 rfl rfl)
theorem dX0_homeOf_25 : decode cX0_homeOf 25 = .ok (.goto 4, 3) := dk_167 0 4 (dk_at dksX0_homeOf_1 1 rfl rfl)
theorem dX0_homeOf_28 : decode cX0_homeOf 28 = .ok (.iload_n 2, 1) := dk_28 (dk_at dksX0_homeOf_1 4 rfl rfl)
theorem dX0_homeOf_29 : decode cX0_homeOf 29 = .ok (.istore_n 2, 1) := dk_61 (dk_at dksX0_homeOf_1 5 rfl rfl)
theorem dX0_homeOf_30 : decode cX0_homeOf 30 = .ok (.iinc 3 1, 3) := dk_132 3 1 (dk_at dksX0_homeOf_1 6 rfl rfl)
theorem dX0_homeOf_33 : decode cX0_homeOf 33 = .ok (.goto (-29), 3) := dk_167 255 227 (dk_at dksX0_homeOf_1 9 rfl rfl)
theorem dX0_homeOf_36 : decode cX0_homeOf 36 = .ok (.iload_n 2, 1) := dk_28 (dk_at dksX0_homeOf_1 12 rfl rfl)
theorem dX0_homeOf_37 : decode cX0_homeOf 37 = .ok (.ireturn, 1) := dk_172 (dk_at dksX0_homeOf_1 13 rfl rfl)
abbrev cX0_kindOn : ByteArray := prog_1_method_81_code
def yX0_kindOn : MethodName := ⟨RX0, "kindOn", "(II)I"⟩
def dkwX0_kindOn_2 : List UInt8 := [167, 0, 4, 3, 96, 62, 132, 4, 1, 167, 255, 208, 29, 172]
abbrev dktX0_kindOn_2 : List UInt8 := dkwX0_kindOn_2 ++ []
def dkwX0_kindOn_1 : List UInt8 := [182, 0, 208, 27, 160, 0, 21, 42, 180, 0, 40, 21, 4, 50, 180, 0, 205, 28, 160, 0, 7, 4]
abbrev dktX0_kindOn_1 : List UInt8 := dkwX0_kindOn_1 ++ dktX0_kindOn_2
def dkwX0_kindOn_0 : List UInt8 := [3, 62, 3, 54, 4, 21, 4, 42, 180, 0, 175, 162, 0, 45, 29, 42, 180, 0, 40, 21, 4, 50]
abbrev dktX0_kindOn_0 : List UInt8 := dkwX0_kindOn_0 ++ dktX0_kindOn_1
theorem dksX0_kindOn_0 : cX0_kindOn.data.toList.drop 0 = dktX0_kindOn_0 := by decide +kernel
theorem dksX0_kindOn_1 : cX0_kindOn.data.toList.drop 22 = dktX0_kindOn_1 := dk_seg dksX0_kindOn_0 22 rfl rfl
theorem dksX0_kindOn_2 : cX0_kindOn.data.toList.drop 44 = dktX0_kindOn_2 := dk_seg dksX0_kindOn_1 22 rfl rfl
theorem dX0_kindOn_0 : decode cX0_kindOn 0 = .ok (.iconst 0, 1) := dk_3 (dk_at dksX0_kindOn_0 0 rfl rfl)
theorem dX0_kindOn_1 : decode cX0_kindOn 1 = .ok (.istore_n 3, 1) := dk_62 (dk_at dksX0_kindOn_0 1 rfl rfl)
theorem dX0_kindOn_2 : decode cX0_kindOn 2 = .ok (.iconst 0, 1) := dk_3 (dk_at dksX0_kindOn_0 2 rfl rfl)
theorem dX0_kindOn_3 : decode cX0_kindOn 3 = .ok (.istore 4, 2) := dk_54 4 (dk_at dksX0_kindOn_0 3 rfl rfl)
theorem dX0_kindOn_5 : decode cX0_kindOn 5 = .ok (.iload 4, 2) := dk_21 4 (dk_at dksX0_kindOn_0 5 rfl rfl)
theorem dX0_kindOn_7 : decode cX0_kindOn 7 = .ok (.aload_n 0, 1) := dk_42 (dk_at dksX0_kindOn_0 7 rfl rfl)
theorem dX0_kindOn_8 : decode cX0_kindOn 8 = .ok (.getfield 175, 3) := dk_180 0 175 (dk_at dksX0_kindOn_0 8 rfl rfl)
theorem dX0_kindOn_11 : decode cX0_kindOn 11 = .ok (.if_icmp .ge 45, 3) := dk_162 0 45 (dk_at dksX0_kindOn_0 11 rfl rfl)
theorem dX0_kindOn_14 : decode cX0_kindOn 14 = .ok (.iload_n 3, 1) := dk_29 (dk_at dksX0_kindOn_0 14 rfl rfl)
theorem dX0_kindOn_15 : decode cX0_kindOn 15 = .ok (.aload_n 0, 1) := dk_42 (dk_at dksX0_kindOn_0 15 rfl rfl)
theorem dX0_kindOn_16 : decode cX0_kindOn 16 = .ok (.getfield 40, 3) := dk_180 0 40 (dk_at dksX0_kindOn_0 16 rfl rfl)
theorem dX0_kindOn_19 : decode cX0_kindOn 19 = .ok (.iload 4, 2) := dk_21 4 (dk_at dksX0_kindOn_0 19 rfl rfl)
theorem dX0_kindOn_21 : decode cX0_kindOn 21 = .ok (.aaload, 1) := dk_50 (dk_at dksX0_kindOn_0 21 rfl rfl)
theorem dX0_kindOn_22 : decode cX0_kindOn 22 = .ok (.invokevirtual 208, 3) := dk_182 0 208 (dk_at dksX0_kindOn_1 0 rfl rfl)
theorem dX0_kindOn_25 : decode cX0_kindOn 25 = .ok (.iload_n 1, 1) := dk_27 (dk_at dksX0_kindOn_1 3 rfl rfl)
theorem dX0_kindOn_26 : decode cX0_kindOn 26 = .ok (.if_icmp .ne 21, 3) := dk_160 0 21 (dk_at dksX0_kindOn_1 4 rfl rfl)
theorem dX0_kindOn_29 : decode cX0_kindOn 29 = .ok (.aload_n 0, 1) := dk_42 (dk_at dksX0_kindOn_1 7 rfl rfl)
theorem dX0_kindOn_30 : decode cX0_kindOn 30 = .ok (.getfield 40, 3) := dk_180 0 40 (dk_at dksX0_kindOn_1 8 rfl rfl)
theorem dX0_kindOn_33 : decode cX0_kindOn 33 = .ok (.iload 4, 2) := dk_21 4 (dk_at dksX0_kindOn_1 11 rfl rfl)
theorem dX0_kindOn_35 : decode cX0_kindOn 35 = .ok (.aaload, 1) := dk_50 (dk_at dksX0_kindOn_1 13 rfl rfl)
theorem dX0_kindOn_36 : decode cX0_kindOn 36 = .ok (.getfield 205, 3) := dk_180 0 205 (dk_at dksX0_kindOn_1 14 rfl rfl)
theorem dX0_kindOn_39 : decode cX0_kindOn 39 = .ok (.iload_n 2, 1) := dk_28 (dk_at dksX0_kindOn_1 17 rfl rfl)
theorem dX0_kindOn_40 : decode cX0_kindOn 40 = .ok (.if_icmp .ne 7, 3) := dk_160 0 7 (dk_at dksX0_kindOn_1 18 rfl rfl)
theorem dX0_kindOn_43 : decode cX0_kindOn 43 = .ok (.iconst 1, 1) := dk_4 (dk_at dksX0_kindOn_1 21 rfl rfl)
theorem dX0_kindOn_44 : decode cX0_kindOn 44 = .ok (.goto 4, 3) := dk_167 0 4 (dk_at dksX0_kindOn_2 0 rfl rfl)
theorem dX0_kindOn_47 : decode cX0_kindOn 47 = .ok (.iconst 0, 1) := dk_3 (dk_at dksX0_kindOn_2 3 rfl rfl)
theorem dX0_kindOn_48 : decode cX0_kindOn 48 = .ok (.iadd, 1) := dk_96 (dk_at dksX0_kindOn_2 4 rfl rfl)
theorem dX0_kindOn_49 : decode cX0_kindOn 49 = .ok (.istore_n 3, 1) := dk_62 (dk_at dksX0_kindOn_2 5 rfl rfl)
theorem dX0_kindOn_50 : decode cX0_kindOn 50 = .ok (.iinc 4 1, 3) := dk_132 4 1 (dk_at dksX0_kindOn_2 6 rfl rfl)
theorem dX0_kindOn_53 : decode cX0_kindOn 53 = .ok (.goto (-48), 3) := dk_167 255 208 (dk_at dksX0_kindOn_2 9 rfl rfl)
theorem dX0_kindOn_56 : decode cX0_kindOn 56 = .ok (.iload_n 3, 1) := dk_29 (dk_at dksX0_kindOn_2 12 rfl rfl)
theorem dX0_kindOn_57 : decode cX0_kindOn 57 = .ok (.ireturn, 1) := dk_172 (dk_at dksX0_kindOn_2 13 rfl rfl)
abbrev cX0_order : ByteArray := prog_1_method_85_code
def yX0_order : MethodName := ⟨RX0, "order", "()I"⟩
def dkwX0_order_2 : List UInt8 := [42, 180, 0, 175, 28, 100, 172]
abbrev dktX0_order_2 : List UInt8 := dkwX0_order_2 ++ []
def dkwX0_order_1 : List UInt8 := [128, 60, 132, 2, 1, 167, 255, 231, 42, 3, 27, 182, 1, 90, 61, 28, 156, 0, 8, 16, 247, 167, 0, 9]
abbrev dktX0_order_1 : List UInt8 := dkwX0_order_1 ++ dktX0_order_2
def dkwX0_order_0 : List UInt8 := [3, 60, 3, 61, 28, 42, 180, 0, 175, 162, 0, 23, 27, 4, 42, 180, 0, 40, 28, 50, 182, 0, 208, 120]
abbrev dktX0_order_0 : List UInt8 := dkwX0_order_0 ++ dktX0_order_1
theorem dksX0_order_0 : cX0_order.data.toList.drop 0 = dktX0_order_0 := by decide +kernel
theorem dksX0_order_1 : cX0_order.data.toList.drop 24 = dktX0_order_1 := dk_seg dksX0_order_0 24 rfl rfl
theorem dksX0_order_2 : cX0_order.data.toList.drop 48 = dktX0_order_2 := dk_seg dksX0_order_1 24 rfl rfl
theorem dX0_order_0 : decode cX0_order 0 = .ok (.iconst 0, 1) := dk_3 (dk_at dksX0_order_0 0 rfl rfl)
theorem dX0_order_1 : decode cX0_order 1 = .ok (.istore_n 1, 1) := dk_60 (dk_at dksX0_order_0 1 rfl rfl)
theorem dX0_order_2 : decode cX0_order 2 = .ok (.iconst 0, 1) := dk_3 (dk_at dksX0_order_0 2 rfl rfl)
theorem dX0_order_3 : decode cX0_order 3 = .ok (.istore_n 2, 1) := dk_61 (dk_at dksX0_order_0 3 rfl rfl)
theorem dX0_order_4 : decode cX0_order 4 = .ok (.iload_n 2, 1) := dk_28 (dk_at dksX0_order_0 4 rfl rfl)
theorem dX0_order_5 : decode cX0_order 5 = .ok (.aload_n 0, 1) := dk_42 (dk_at dksX0_order_0 5 rfl rfl)
theorem dX0_order_6 : decode cX0_order 6 = .ok (.getfield 175, 3) := dk_180 0 175 (dk_at dksX0_order_0 6 rfl rfl)
theorem dX0_order_9 : decode cX0_order 9 = .ok (.if_icmp .ge 23, 3) := dk_162 0 23 (dk_at dksX0_order_0 9 rfl rfl)
theorem dX0_order_12 : decode cX0_order 12 = .ok (.iload_n 1, 1) := dk_27 (dk_at dksX0_order_0 12 rfl rfl)
theorem dX0_order_13 : decode cX0_order 13 = .ok (.iconst 1, 1) := dk_4 (dk_at dksX0_order_0 13 rfl rfl)
theorem dX0_order_14 : decode cX0_order 14 = .ok (.aload_n 0, 1) := dk_42 (dk_at dksX0_order_0 14 rfl rfl)
theorem dX0_order_15 : decode cX0_order 15 = .ok (.getfield 40, 3) := dk_180 0 40 (dk_at dksX0_order_0 15 rfl rfl)
theorem dX0_order_18 : decode cX0_order 18 = .ok (.iload_n 2, 1) := dk_28 (dk_at dksX0_order_0 18 rfl rfl)
theorem dX0_order_19 : decode cX0_order 19 = .ok (.aaload, 1) := dk_50 (dk_at dksX0_order_0 19 rfl rfl)
theorem dX0_order_20 : decode cX0_order 20 = .ok (.invokevirtual 208, 3) := dk_182 0 208 (dk_at dksX0_order_0 20 rfl rfl)
theorem dX0_order_23 : decode cX0_order 23 = .ok (.ishl, 1) := dk_120 (dk_at dksX0_order_0 23 rfl rfl)
theorem dX0_order_24 : decode cX0_order 24 = .ok (.ior, 1) := dk_128 (dk_at dksX0_order_1 0 rfl rfl)
theorem dX0_order_25 : decode cX0_order 25 = .ok (.istore_n 1, 1) := dk_60 (dk_at dksX0_order_1 1 rfl rfl)
theorem dX0_order_26 : decode cX0_order 26 = .ok (.iinc 2 1, 3) := dk_132 2 1 (dk_at dksX0_order_1 2 rfl rfl)
theorem dX0_order_29 : decode cX0_order 29 = .ok (.goto (-25), 3) := dk_167 255 231 (dk_at dksX0_order_1 5 rfl rfl)
theorem dX0_order_32 : decode cX0_order 32 = .ok (.aload_n 0, 1) := dk_42 (dk_at dksX0_order_1 8 rfl rfl)
theorem dX0_order_33 : decode cX0_order 33 = .ok (.iconst 0, 1) := dk_3 (dk_at dksX0_order_1 9 rfl rfl)
theorem dX0_order_34 : decode cX0_order 34 = .ok (.iload_n 1, 1) := dk_27 (dk_at dksX0_order_1 10 rfl rfl)
theorem dX0_order_35 : decode cX0_order 35 = .ok (.invokevirtual 346, 3) := dk_182 1 90 (dk_at dksX0_order_1 11 rfl rfl)
theorem dX0_order_38 : decode cX0_order 38 = .ok (.istore_n 2, 1) := dk_61 (dk_at dksX0_order_1 14 rfl rfl)
theorem dX0_order_39 : decode cX0_order 39 = .ok (.iload_n 2, 1) := dk_28 (dk_at dksX0_order_1 15 rfl rfl)
theorem dX0_order_40 : decode cX0_order 40 = .ok (.ifCond .ge 8, 3) := dk_156 0 8 (dk_at dksX0_order_1 16 rfl rfl)
theorem dX0_order_43 : decode cX0_order 43 = .ok (.bipush (-9), 2) := dk_16 247 (dk_at dksX0_order_1 19 rfl rfl)
theorem dX0_order_45 : decode cX0_order 45 = .ok (.goto 9, 3) := dk_167 0 9 (dk_at dksX0_order_1 21 rfl rfl)
theorem dX0_order_48 : decode cX0_order 48 = .ok (.aload_n 0, 1) := dk_42 (dk_at dksX0_order_2 0 rfl rfl)
theorem dX0_order_49 : decode cX0_order 49 = .ok (.getfield 175, 3) := dk_180 0 175 (dk_at dksX0_order_2 1 rfl rfl)
theorem dX0_order_52 : decode cX0_order 52 = .ok (.iload_n 2, 1) := dk_28 (dk_at dksX0_order_2 4 rfl rfl)
theorem dX0_order_53 : decode cX0_order 53 = .ok (.isub, 1) := dk_100 (dk_at dksX0_order_2 5 rfl rfl)
theorem dX0_order_54 : decode cX0_order 54 = .ok (.ireturn, 1) := dk_172 (dk_at dksX0_order_2 6 rfl rfl)
abbrev cX0_staysOn : ByteArray := prog_1_method_84_code
def yX0_staysOn : MethodName := ⟨RX0, "staysOn", "(II)I"⟩
def dkwX0_staysOn_3 : List UInt8 := [21, 4, 120, 2, 130, 126, 182, 1, 90, 96, 184, 1, 51, 62, 132, 4, 1, 167, 255, 199, 29, 172]
abbrev dktX0_staysOn_3 : List UInt8 := dkwX0_staysOn_3 ++ []
def dkwX0_staysOn_2 : List UInt8 := [28, 21, 4, 184, 1, 26, 153, 0, 31, 29, 42, 21, 4, 27, 182, 1, 83, 42, 27, 4, 96, 28, 4]
abbrev dktX0_staysOn_2 : List UInt8 := dkwX0_staysOn_2 ++ dktX0_staysOn_3
def dkwX0_staysOn_1 : List UInt8 := [182, 1, 90, 62, 3, 54, 4, 21, 4, 16, 6, 162, 0, 56, 42, 21, 4, 27, 182, 1, 83, 157, 0, 12]
abbrev dktX0_staysOn_1 : List UInt8 := dkwX0_staysOn_1 ++ dktX0_staysOn_2
def dkwX0_staysOn_0 : List UInt8 := [27, 7, 160, 0, 15, 28, 154, 0, 7, 3, 167, 0, 6, 19, 1, 89, 172, 42, 27, 4, 96, 28]
abbrev dktX0_staysOn_0 : List UInt8 := dkwX0_staysOn_0 ++ dktX0_staysOn_1
theorem dksX0_staysOn_0 : cX0_staysOn.data.toList.drop 0 = dktX0_staysOn_0 := by decide +kernel
theorem dksX0_staysOn_1 : cX0_staysOn.data.toList.drop 22 = dktX0_staysOn_1 := dk_seg dksX0_staysOn_0 22 rfl rfl
theorem dksX0_staysOn_2 : cX0_staysOn.data.toList.drop 46 = dktX0_staysOn_2 := dk_seg dksX0_staysOn_1 24 rfl rfl
theorem dksX0_staysOn_3 : cX0_staysOn.data.toList.drop 69 = dktX0_staysOn_3 := dk_seg dksX0_staysOn_2 23 rfl rfl
theorem dX0_staysOn_0 : decode cX0_staysOn 0 = .ok (.iload_n 1, 1) := dk_27 (dk_at dksX0_staysOn_0 0 rfl rfl)
theorem dX0_staysOn_1 : decode cX0_staysOn 1 = .ok (.iconst 4, 1) := dk_7 (dk_at dksX0_staysOn_0 1 rfl rfl)
theorem dX0_staysOn_2 : decode cX0_staysOn 2 = .ok (.if_icmp .ne 15, 3) := dk_160 0 15 (dk_at dksX0_staysOn_0 2 rfl rfl)
theorem dX0_staysOn_5 : decode cX0_staysOn 5 = .ok (.iload_n 2, 1) := dk_28 (dk_at dksX0_staysOn_0 5 rfl rfl)
theorem dX0_staysOn_6 : decode cX0_staysOn 6 = .ok (.ifCond .ne 7, 3) := dk_154 0 7 (dk_at dksX0_staysOn_0 6 rfl rfl)
theorem dX0_staysOn_9 : decode cX0_staysOn 9 = .ok (.iconst 0, 1) := dk_3 (dk_at dksX0_staysOn_0 9 rfl rfl)
theorem dX0_staysOn_10 : decode cX0_staysOn 10 = .ok (.goto 6, 3) := dk_167 0 6 (dk_at dksX0_staysOn_0 10 rfl rfl)
theorem dX0_staysOn_13 : decode cX0_staysOn 13 = .ok (.ldc_w 345, 3) := dk_19 1 89 (dk_at dksX0_staysOn_0 13 rfl rfl)
theorem dX0_staysOn_16 : decode cX0_staysOn 16 = .ok (.ireturn, 1) := dk_172 (dk_at dksX0_staysOn_0 16 rfl rfl)
theorem dX0_staysOn_17 : decode cX0_staysOn 17 = .ok (.aload_n 0, 1) := dk_42 (dk_at dksX0_staysOn_0 17 rfl rfl)
theorem dX0_staysOn_18 : decode cX0_staysOn 18 = .ok (.iload_n 1, 1) := dk_27 (dk_at dksX0_staysOn_0 18 rfl rfl)
theorem dX0_staysOn_19 : decode cX0_staysOn 19 = .ok (.iconst 1, 1) := dk_4 (dk_at dksX0_staysOn_0 19 rfl rfl)
theorem dX0_staysOn_20 : decode cX0_staysOn 20 = .ok (.iadd, 1) := dk_96 (dk_at dksX0_staysOn_0 20 rfl rfl)
theorem dX0_staysOn_21 : decode cX0_staysOn 21 = .ok (.iload_n 2, 1) := dk_28 (dk_at dksX0_staysOn_0 21 rfl rfl)
theorem dX0_staysOn_22 : decode cX0_staysOn 22 = .ok (.invokevirtual 346, 3) := dk_182 1 90 (dk_at dksX0_staysOn_1 0 rfl rfl)
theorem dX0_staysOn_25 : decode cX0_staysOn 25 = .ok (.istore_n 3, 1) := dk_62 (dk_at dksX0_staysOn_1 3 rfl rfl)
theorem dX0_staysOn_26 : decode cX0_staysOn 26 = .ok (.iconst 0, 1) := dk_3 (dk_at dksX0_staysOn_1 4 rfl rfl)
theorem dX0_staysOn_27 : decode cX0_staysOn 27 = .ok (.istore 4, 2) := dk_54 4 (dk_at dksX0_staysOn_1 5 rfl rfl)
theorem dX0_staysOn_29 : decode cX0_staysOn 29 = .ok (.iload 4, 2) := dk_21 4 (dk_at dksX0_staysOn_1 7 rfl rfl)
theorem dX0_staysOn_31 : decode cX0_staysOn 31 = .ok (.bipush 6, 2) := dk_16 6 (dk_at dksX0_staysOn_1 9 rfl rfl)
theorem dX0_staysOn_33 : decode cX0_staysOn 33 = .ok (.if_icmp .ge 56, 3) := dk_162 0 56 (dk_at dksX0_staysOn_1 11 rfl rfl)
theorem dX0_staysOn_36 : decode cX0_staysOn 36 = .ok (.aload_n 0, 1) := dk_42 (dk_at dksX0_staysOn_1 14 rfl rfl)
theorem dX0_staysOn_37 : decode cX0_staysOn 37 = .ok (.iload 4, 2) := dk_21 4 (dk_at dksX0_staysOn_1 15 rfl rfl)
theorem dX0_staysOn_39 : decode cX0_staysOn 39 = .ok (.iload_n 1, 1) := dk_27 (dk_at dksX0_staysOn_1 17 rfl rfl)
theorem dX0_staysOn_40 : decode cX0_staysOn 40 = .ok (.invokevirtual 339, 3) := dk_182 1 83 (dk_at dksX0_staysOn_1 18 rfl rfl)
theorem dX0_staysOn_43 : decode cX0_staysOn 43 = .ok (.ifCond .gt 12, 3) := dk_157 0 12 (dk_at dksX0_staysOn_1 21 rfl rfl)
theorem dX0_staysOn_46 : decode cX0_staysOn 46 = .ok (.iload_n 2, 1) := dk_28 (dk_at dksX0_staysOn_2 0 rfl rfl)
theorem dX0_staysOn_47 : decode cX0_staysOn 47 = .ok (.iload 4, 2) := dk_21 4 (dk_at dksX0_staysOn_2 1 rfl rfl)
theorem dX0_staysOn_49 : decode cX0_staysOn 49 = .ok (.invokestatic 282, 3) := dk_184 1 26 (dk_at dksX0_staysOn_2 3 rfl rfl)
theorem dX0_staysOn_52 : decode cX0_staysOn 52 = .ok (.ifCond .eq 31, 3) := dk_153 0 31 (dk_at dksX0_staysOn_2 6 rfl rfl)
theorem dX0_staysOn_55 : decode cX0_staysOn 55 = .ok (.iload_n 3, 1) := dk_29 (dk_at dksX0_staysOn_2 9 rfl rfl)
theorem dX0_staysOn_56 : decode cX0_staysOn 56 = .ok (.aload_n 0, 1) := dk_42 (dk_at dksX0_staysOn_2 10 rfl rfl)
theorem dX0_staysOn_57 : decode cX0_staysOn 57 = .ok (.iload 4, 2) := dk_21 4 (dk_at dksX0_staysOn_2 11 rfl rfl)
theorem dX0_staysOn_59 : decode cX0_staysOn 59 = .ok (.iload_n 1, 1) := dk_27 (dk_at dksX0_staysOn_2 13 rfl rfl)
theorem dX0_staysOn_60 : decode cX0_staysOn 60 = .ok (.invokevirtual 339, 3) := dk_182 1 83 (dk_at dksX0_staysOn_2 14 rfl rfl)
theorem dX0_staysOn_63 : decode cX0_staysOn 63 = .ok (.aload_n 0, 1) := dk_42 (dk_at dksX0_staysOn_2 17 rfl rfl)
theorem dX0_staysOn_64 : decode cX0_staysOn 64 = .ok (.iload_n 1, 1) := dk_27 (dk_at dksX0_staysOn_2 18 rfl rfl)
theorem dX0_staysOn_65 : decode cX0_staysOn 65 = .ok (.iconst 1, 1) := dk_4 (dk_at dksX0_staysOn_2 19 rfl rfl)
theorem dX0_staysOn_66 : decode cX0_staysOn 66 = .ok (.iadd, 1) := dk_96 (dk_at dksX0_staysOn_2 20 rfl rfl)
theorem dX0_staysOn_67 : decode cX0_staysOn 67 = .ok (.iload_n 2, 1) := dk_28 (dk_at dksX0_staysOn_2 21 rfl rfl)
theorem dX0_staysOn_68 : decode cX0_staysOn 68 = .ok (.iconst 1, 1) := dk_4 (dk_at dksX0_staysOn_2 22 rfl rfl)
theorem dX0_staysOn_69 : decode cX0_staysOn 69 = .ok (.iload 4, 2) := dk_21 4 (dk_at dksX0_staysOn_3 0 rfl rfl)
theorem dX0_staysOn_71 : decode cX0_staysOn 71 = .ok (.ishl, 1) := dk_120 (dk_at dksX0_staysOn_3 2 rfl rfl)
theorem dX0_staysOn_72 : decode cX0_staysOn 72 = .ok (.iconst (-1), 1) := dk_2 (dk_at dksX0_staysOn_3 3 rfl rfl)
theorem dX0_staysOn_73 : decode cX0_staysOn 73 = .ok (.ixor, 1) := dk_130 (dk_at dksX0_staysOn_3 4 rfl rfl)
theorem dX0_staysOn_74 : decode cX0_staysOn 74 = .ok (.iand, 1) := dk_126 (dk_at dksX0_staysOn_3 5 rfl rfl)
theorem dX0_staysOn_75 : decode cX0_staysOn 75 = .ok (.invokevirtual 346, 3) := dk_182 1 90 (dk_at dksX0_staysOn_3 6 rfl rfl)
theorem dX0_staysOn_78 : decode cX0_staysOn 78 = .ok (.iadd, 1) := dk_96 (dk_at dksX0_staysOn_3 9 rfl rfl)
theorem dX0_staysOn_79 : decode cX0_staysOn 79 = .ok (.invokestatic 307, 3) := dk_184 1 51 (dk_at dksX0_staysOn_3 10 rfl rfl)
theorem dX0_staysOn_82 : decode cX0_staysOn 82 = .ok (.istore_n 3, 1) := dk_62 (dk_at dksX0_staysOn_3 13 rfl rfl)
theorem dX0_staysOn_83 : decode cX0_staysOn 83 = .ok (.iinc 4 1, 3) := dk_132 4 1 (dk_at dksX0_staysOn_3 14 rfl rfl)
theorem dX0_staysOn_86 : decode cX0_staysOn 86 = .ok (.goto (-57), 3) := dk_167 255 199 (dk_at dksX0_staysOn_3 17 rfl rfl)
theorem dX0_staysOn_89 : decode cX0_staysOn 89 = .ok (.iload_n 3, 1) := dk_29 (dk_at dksX0_staysOn_3 20 rfl rfl)
theorem dX0_staysOn_90 : decode cX0_staysOn 90 = .ok (.ireturn, 1) := dk_172 (dk_at dksX0_staysOn_3 21 rfl rfl)
abbrev cX0_byAge : ByteArray := prog_1_method_86_code
def yX0_byAge : MethodName := ⟨RX0, "byAge", "(I)I"⟩
def dkwX0_byAge_3 : List UInt8 := [132, 4, 255, 167, 255, 207, 42, 180, 0, 28, 27, 44, 83, 42, 180, 0, 175, 172]
abbrev dktX0_byAge_3 : List UInt8 := dkwX0_byAge_3 ++ []
def dkwX0_byAge_2 : List UInt8 := [180, 0, 211, 21, 4, 160, 0, 11, 44, 29, 21, 5, 79, 132, 3, 1, 132, 5, 1, 167, 255, 221]
abbrev dktX0_byAge_2 : List UInt8 := dkwX0_byAge_2 ++ dktX0_byAge_3
def dkwX0_byAge_1 : List UInt8 := [155, 0, 50, 3, 54, 5, 21, 5, 42, 180, 0, 175, 162, 0, 32, 42, 180, 0, 40, 21, 5, 50]
abbrev dktX0_byAge_1 : List UInt8 := dkwX0_byAge_1 ++ dktX0_byAge_2
def dkwX0_byAge_0 : List UInt8 := [27, 184, 0, 90, 154, 0, 5, 2, 172, 42, 180, 0, 175, 188, 10, 77, 3, 62, 16, 9, 54, 4, 21, 4]
abbrev dktX0_byAge_0 : List UInt8 := dkwX0_byAge_0 ++ dktX0_byAge_1
theorem dksX0_byAge_0 : cX0_byAge.data.toList.drop 0 = dktX0_byAge_0 := by decide +kernel
theorem dksX0_byAge_1 : cX0_byAge.data.toList.drop 24 = dktX0_byAge_1 := dk_seg dksX0_byAge_0 24 rfl rfl
theorem dksX0_byAge_2 : cX0_byAge.data.toList.drop 46 = dktX0_byAge_2 := dk_seg dksX0_byAge_1 22 rfl rfl
theorem dksX0_byAge_3 : cX0_byAge.data.toList.drop 68 = dktX0_byAge_3 := dk_seg dksX0_byAge_2 22 rfl rfl
theorem dX0_byAge_0 : decode cX0_byAge 0 = .ok (.iload_n 1, 1) := dk_27 (dk_at dksX0_byAge_0 0 rfl rfl)
theorem dX0_byAge_1 : decode cX0_byAge 1 = .ok (.invokestatic 90, 3) := dk_184 0 90 (dk_at dksX0_byAge_0 1 rfl rfl)
theorem dX0_byAge_4 : decode cX0_byAge 4 = .ok (.ifCond .ne 5, 3) := dk_154 0 5 (dk_at dksX0_byAge_0 4 rfl rfl)
theorem dX0_byAge_7 : decode cX0_byAge 7 = .ok (.iconst (-1), 1) := dk_2 (dk_at dksX0_byAge_0 7 rfl rfl)
theorem dX0_byAge_8 : decode cX0_byAge 8 = .ok (.ireturn, 1) := dk_172 (dk_at dksX0_byAge_0 8 rfl rfl)
theorem dX0_byAge_9 : decode cX0_byAge 9 = .ok (.aload_n 0, 1) := dk_42 (dk_at dksX0_byAge_0 9 rfl rfl)
theorem dX0_byAge_10 : decode cX0_byAge 10 = .ok (.getfield 175, 3) := dk_180 0 175 (dk_at dksX0_byAge_0 10 rfl rfl)
theorem dX0_byAge_13 : decode cX0_byAge 13 = .ok (.newarray .int, 2) := dk_188_10 (dk_at dksX0_byAge_0 13 rfl rfl)
theorem dX0_byAge_15 : decode cX0_byAge 15 = .ok (.astore_n 2, 1) := dk_77 (dk_at dksX0_byAge_0 15 rfl rfl)
theorem dX0_byAge_16 : decode cX0_byAge 16 = .ok (.iconst 0, 1) := dk_3 (dk_at dksX0_byAge_0 16 rfl rfl)
theorem dX0_byAge_17 : decode cX0_byAge 17 = .ok (.istore_n 3, 1) := dk_62 (dk_at dksX0_byAge_0 17 rfl rfl)
theorem dX0_byAge_18 : decode cX0_byAge 18 = .ok (.bipush 9, 2) := dk_16 9 (dk_at dksX0_byAge_0 18 rfl rfl)
theorem dX0_byAge_20 : decode cX0_byAge 20 = .ok (.istore 4, 2) := dk_54 4 (dk_at dksX0_byAge_0 20 rfl rfl)
theorem dX0_byAge_22 : decode cX0_byAge 22 = .ok (.iload 4, 2) := dk_21 4 (dk_at dksX0_byAge_0 22 rfl rfl)
theorem dX0_byAge_24 : decode cX0_byAge 24 = .ok (.ifCond .lt 50, 3) := dk_155 0 50 (dk_at dksX0_byAge_1 0 rfl rfl)
theorem dX0_byAge_27 : decode cX0_byAge 27 = .ok (.iconst 0, 1) := dk_3 (dk_at dksX0_byAge_1 3 rfl rfl)
theorem dX0_byAge_28 : decode cX0_byAge 28 = .ok (.istore 5, 2) := dk_54 5 (dk_at dksX0_byAge_1 4 rfl rfl)
theorem dX0_byAge_30 : decode cX0_byAge 30 = .ok (.iload 5, 2) := dk_21 5 (dk_at dksX0_byAge_1 6 rfl rfl)
theorem dX0_byAge_32 : decode cX0_byAge 32 = .ok (.aload_n 0, 1) := dk_42 (dk_at dksX0_byAge_1 8 rfl rfl)
theorem dX0_byAge_33 : decode cX0_byAge 33 = .ok (.getfield 175, 3) := dk_180 0 175 (dk_at dksX0_byAge_1 9 rfl rfl)
theorem dX0_byAge_36 : decode cX0_byAge 36 = .ok (.if_icmp .ge 32, 3) := dk_162 0 32 (dk_at dksX0_byAge_1 12 rfl rfl)
theorem dX0_byAge_39 : decode cX0_byAge 39 = .ok (.aload_n 0, 1) := dk_42 (dk_at dksX0_byAge_1 15 rfl rfl)
theorem dX0_byAge_40 : decode cX0_byAge 40 = .ok (.getfield 40, 3) := dk_180 0 40 (dk_at dksX0_byAge_1 16 rfl rfl)
theorem dX0_byAge_43 : decode cX0_byAge 43 = .ok (.iload 5, 2) := dk_21 5 (dk_at dksX0_byAge_1 19 rfl rfl)
theorem dX0_byAge_45 : decode cX0_byAge 45 = .ok (.aaload, 1) := dk_50 (dk_at dksX0_byAge_1 21 rfl rfl)
theorem dX0_byAge_46 : decode cX0_byAge 46 = .ok (.getfield 211, 3) := dk_180 0 211 (dk_at dksX0_byAge_2 0 rfl rfl)
theorem dX0_byAge_49 : decode cX0_byAge 49 = .ok (.iload 4, 2) := dk_21 4 (dk_at dksX0_byAge_2 3 rfl rfl)
theorem dX0_byAge_51 : decode cX0_byAge 51 = .ok (.if_icmp .ne 11, 3) := dk_160 0 11 (dk_at dksX0_byAge_2 5 rfl rfl)
theorem dX0_byAge_54 : decode cX0_byAge 54 = .ok (.aload_n 2, 1) := dk_44 (dk_at dksX0_byAge_2 8 rfl rfl)
theorem dX0_byAge_55 : decode cX0_byAge 55 = .ok (.iload_n 3, 1) := dk_29 (dk_at dksX0_byAge_2 9 rfl rfl)
theorem dX0_byAge_56 : decode cX0_byAge 56 = .ok (.iload 5, 2) := dk_21 5 (dk_at dksX0_byAge_2 10 rfl rfl)
theorem dX0_byAge_58 : decode cX0_byAge 58 = .ok (.iastore, 1) := dk_79 (dk_at dksX0_byAge_2 12 rfl rfl)
theorem dX0_byAge_59 : decode cX0_byAge 59 = .ok (.iinc 3 1, 3) := dk_132 3 1 (dk_at dksX0_byAge_2 13 rfl rfl)
theorem dX0_byAge_62 : decode cX0_byAge 62 = .ok (.iinc 5 1, 3) := dk_132 5 1 (dk_at dksX0_byAge_2 16 rfl rfl)
theorem dX0_byAge_65 : decode cX0_byAge 65 = .ok (.goto (-35), 3) := dk_167 255 221 (dk_at dksX0_byAge_2 19 rfl rfl)
theorem dX0_byAge_68 : decode cX0_byAge 68 = .ok (.iinc 4 (-1), 3) := dk_132 4 255 (dk_at dksX0_byAge_3 0 rfl rfl)
theorem dX0_byAge_71 : decode cX0_byAge 71 = .ok (.goto (-49), 3) := dk_167 255 207 (dk_at dksX0_byAge_3 3 rfl rfl)
theorem dX0_byAge_74 : decode cX0_byAge 74 = .ok (.aload_n 0, 1) := dk_42 (dk_at dksX0_byAge_3 6 rfl rfl)
theorem dX0_byAge_75 : decode cX0_byAge 75 = .ok (.getfield 28, 3) := dk_180 0 28 (dk_at dksX0_byAge_3 7 rfl rfl)
theorem dX0_byAge_78 : decode cX0_byAge 78 = .ok (.iload_n 1, 1) := dk_27 (dk_at dksX0_byAge_3 10 rfl rfl)
theorem dX0_byAge_79 : decode cX0_byAge 79 = .ok (.aload_n 2, 1) := dk_44 (dk_at dksX0_byAge_3 11 rfl rfl)
theorem dX0_byAge_80 : decode cX0_byAge 80 = .ok (.aastore, 1) := dk_83 (dk_at dksX0_byAge_3 12 rfl rfl)
theorem dX0_byAge_81 : decode cX0_byAge 81 = .ok (.aload_n 0, 1) := dk_42 (dk_at dksX0_byAge_3 13 rfl rfl)
theorem dX0_byAge_82 : decode cX0_byAge 82 = .ok (.getfield 175, 3) := dk_180 0 175 (dk_at dksX0_byAge_3 14 rfl rfl)
theorem dX0_byAge_85 : decode cX0_byAge 85 = .ok (.ireturn, 1) := dk_172 (dk_at dksX0_byAge_3 17 rfl rfl)
abbrev cX0_lots : ByteArray := prog_1_method_87_code
def yX0_lots : MethodName := ⟨RX0, "lots", "(II)I"⟩
def dkwX0_lots_7 : List UInt8 := [132, 5, 1, 132, 6, 1, 167, 255, 143, 21, 5, 172]
abbrev dktX0_lots_7 : List UInt8 := dkwX0_lots_7 ++ []
def dkwX0_lots_6 : List UInt8 := [100, 126, 54, 8, 132, 9, 255, 167, 255, 239, 42, 21, 7, 21, 8, 184, 1, 100, 182, 0, 255, 87]
abbrev dktX0_lots_6 : List UInt8 := dkwX0_lots_6 ++ dktX0_lots_7
def dkwX0_lots_5 : List UInt8 := [20, 1, 98, 109, 21, 8, 184, 1, 62, 133, 113, 136, 54, 9, 21, 9, 158, 0, 18, 21, 8, 21, 8, 4]
abbrev dktX0_lots_5 : List UInt8 := dkwX0_lots_5 ++ dktX0_lots_6
def dkwX0_lots_4 : List UInt8 := [21, 7, 182, 0, 246, 42, 182, 1, 33, 126, 167, 0, 4, 3, 54, 8, 21, 8, 153, 0, 53, 33]
abbrev dktX0_lots_4 : List UInt8 := dkwX0_lots_4 ++ dktX0_lots_5
def dkwX0_lots_3 : List UInt8 := [33, 42, 180, 0, 182, 133, 113, 136, 54, 7, 42, 180, 0, 50, 21, 7, 46, 16, 247, 160, 0, 17, 42]
abbrev dktX0_lots_3 : List UInt8 := dkwX0_lots_3 ++ dktX0_lots_4
def dkwX0_lots_2 : List UInt8 := [133, 66, 3, 54, 5, 3, 54, 6, 21, 6, 27, 162, 0, 113, 20, 1, 94, 33, 105, 20, 1, 96, 113, 66]
abbrev dktX0_lots_2 : List UInt8 := dkwX0_lots_2 ++ dktX0_lots_3
def dkwX0_lots_1 : List UInt8 := [180, 0, 182, 154, 0, 6, 16, 252, 172, 42, 180, 0, 83, 27, 96, 16, 40, 164, 0, 6, 16, 254, 172, 28]
abbrev dktX0_lots_1 : List UInt8 := dkwX0_lots_1 ++ dktX0_lots_2
def dkwX0_lots_0 : List UInt8 := [27, 4, 16, 20, 184, 0, 86, 153, 0, 14, 28, 4, 19, 1, 93, 184, 0, 86, 154, 0, 5, 2, 172, 42]
abbrev dktX0_lots_0 : List UInt8 := dkwX0_lots_0 ++ dktX0_lots_1
theorem dksX0_lots_0 : cX0_lots.data.toList.drop 0 = dktX0_lots_0 := by decide +kernel
theorem dksX0_lots_1 : cX0_lots.data.toList.drop 24 = dktX0_lots_1 := dk_seg dksX0_lots_0 24 rfl rfl
theorem dksX0_lots_2 : cX0_lots.data.toList.drop 48 = dktX0_lots_2 := dk_seg dksX0_lots_1 24 rfl rfl
theorem dksX0_lots_3 : cX0_lots.data.toList.drop 72 = dktX0_lots_3 := dk_seg dksX0_lots_2 24 rfl rfl
theorem dksX0_lots_4 : cX0_lots.data.toList.drop 95 = dktX0_lots_4 := dk_seg dksX0_lots_3 23 rfl rfl
theorem dksX0_lots_5 : cX0_lots.data.toList.drop 117 = dktX0_lots_5 := dk_seg dksX0_lots_4 22 rfl rfl
theorem dksX0_lots_6 : cX0_lots.data.toList.drop 141 = dktX0_lots_6 := dk_seg dksX0_lots_5 24 rfl rfl
theorem dksX0_lots_7 : cX0_lots.data.toList.drop 163 = dktX0_lots_7 := dk_seg dksX0_lots_6 22 rfl rfl
theorem dX0_lots_0 : decode cX0_lots 0 = .ok (.iload_n 1, 1) := dk_27 (dk_at dksX0_lots_0 0 rfl rfl)
theorem dX0_lots_1 : decode cX0_lots 1 = .ok (.iconst 1, 1) := dk_4 (dk_at dksX0_lots_0 1 rfl rfl)
theorem dX0_lots_2 : decode cX0_lots 2 = .ok (.bipush 20, 2) := dk_16 20 (dk_at dksX0_lots_0 2 rfl rfl)
theorem dX0_lots_4 : decode cX0_lots 4 = .ok (.invokestatic 86, 3) := dk_184 0 86 (dk_at dksX0_lots_0 4 rfl rfl)
theorem dX0_lots_7 : decode cX0_lots 7 = .ok (.ifCond .eq 14, 3) := dk_153 0 14 (dk_at dksX0_lots_0 7 rfl rfl)
theorem dX0_lots_10 : decode cX0_lots 10 = .ok (.iload_n 2, 1) := dk_28 (dk_at dksX0_lots_0 10 rfl rfl)
theorem dX0_lots_11 : decode cX0_lots 11 = .ok (.iconst 1, 1) := dk_4 (dk_at dksX0_lots_0 11 rfl rfl)
theorem dX0_lots_12 : decode cX0_lots 12 = .ok (.ldc_w 349, 3) := dk_19 1 93 (dk_at dksX0_lots_0 12 rfl rfl)
theorem dX0_lots_15 : decode cX0_lots 15 = .ok (.invokestatic 86, 3) := dk_184 0 86 (dk_at dksX0_lots_0 15 rfl rfl)
theorem dX0_lots_18 : decode cX0_lots 18 = .ok (.ifCond .ne 5, 3) := dk_154 0 5 (dk_at dksX0_lots_0 18 rfl rfl)
theorem dX0_lots_21 : decode cX0_lots 21 = .ok (.iconst (-1), 1) := dk_2 (dk_at dksX0_lots_0 21 rfl rfl)
theorem dX0_lots_22 : decode cX0_lots 22 = .ok (.ireturn, 1) := dk_172 (dk_at dksX0_lots_0 22 rfl rfl)
theorem dX0_lots_23 : decode cX0_lots 23 = .ok (.aload_n 0, 1) := dk_42 (dk_at dksX0_lots_0 23 rfl rfl)
theorem dX0_lots_24 : decode cX0_lots 24 = .ok (.getfield 182, 3) := dk_180 0 182 (dk_at dksX0_lots_1 0 rfl rfl)
theorem dX0_lots_27 : decode cX0_lots 27 = .ok (.ifCond .ne 6, 3) := dk_154 0 6 (dk_at dksX0_lots_1 3 rfl rfl)
theorem dX0_lots_30 : decode cX0_lots 30 = .ok (.bipush (-4), 2) := dk_16 252 (dk_at dksX0_lots_1 6 rfl rfl)
theorem dX0_lots_32 : decode cX0_lots 32 = .ok (.ireturn, 1) := dk_172 (dk_at dksX0_lots_1 8 rfl rfl)
theorem dX0_lots_33 : decode cX0_lots 33 = .ok (.aload_n 0, 1) := dk_42 (dk_at dksX0_lots_1 9 rfl rfl)
theorem dX0_lots_34 : decode cX0_lots 34 = .ok (.getfield 83, 3) := dk_180 0 83 (dk_at dksX0_lots_1 10 rfl rfl)
theorem dX0_lots_37 : decode cX0_lots 37 = .ok (.iload_n 1, 1) := dk_27 (dk_at dksX0_lots_1 13 rfl rfl)
theorem dX0_lots_38 : decode cX0_lots 38 = .ok (.iadd, 1) := dk_96 (dk_at dksX0_lots_1 14 rfl rfl)
theorem dX0_lots_39 : decode cX0_lots 39 = .ok (.bipush 40, 2) := dk_16 40 (dk_at dksX0_lots_1 15 rfl rfl)
theorem dX0_lots_41 : decode cX0_lots 41 = .ok (.if_icmp .le 6, 3) := dk_164 0 6 (dk_at dksX0_lots_1 17 rfl rfl)
theorem dX0_lots_44 : decode cX0_lots 44 = .ok (.bipush (-2), 2) := dk_16 254 (dk_at dksX0_lots_1 20 rfl rfl)
theorem dX0_lots_46 : decode cX0_lots 46 = .ok (.ireturn, 1) := dk_172 (dk_at dksX0_lots_1 22 rfl rfl)
theorem dX0_lots_47 : decode cX0_lots 47 = .ok (.iload_n 2, 1) := dk_28 (dk_at dksX0_lots_1 23 rfl rfl)
theorem dX0_lots_48 : decode cX0_lots 48 = .ok (.i2l, 1) := dk_133 (dk_at dksX0_lots_2 0 rfl rfl)
theorem dX0_lots_49 : decode cX0_lots 49 = .ok (.lstore_n 3, 1) := dk_66 (dk_at dksX0_lots_2 1 rfl rfl)
theorem dX0_lots_50 : decode cX0_lots 50 = .ok (.iconst 0, 1) := dk_3 (dk_at dksX0_lots_2 2 rfl rfl)
theorem dX0_lots_51 : decode cX0_lots 51 = .ok (.istore 5, 2) := dk_54 5 (dk_at dksX0_lots_2 3 rfl rfl)
theorem dX0_lots_53 : decode cX0_lots 53 = .ok (.iconst 0, 1) := dk_3 (dk_at dksX0_lots_2 5 rfl rfl)
theorem dX0_lots_54 : decode cX0_lots 54 = .ok (.istore 6, 2) := dk_54 6 (dk_at dksX0_lots_2 6 rfl rfl)
theorem dX0_lots_56 : decode cX0_lots 56 = .ok (.iload 6, 2) := dk_21 6 (dk_at dksX0_lots_2 8 rfl rfl)
theorem dX0_lots_58 : decode cX0_lots 58 = .ok (.iload_n 1, 1) := dk_27 (dk_at dksX0_lots_2 10 rfl rfl)
theorem dX0_lots_59 : decode cX0_lots 59 = .ok (.if_icmp .ge 113, 3) := dk_162 0 113 (dk_at dksX0_lots_2 11 rfl rfl)
theorem dX0_lots_62 : decode cX0_lots 62 = .ok (.ldc2_w 350, 3) := dk_20 1 94 (dk_at dksX0_lots_2 14 rfl rfl)
theorem dX0_lots_65 : decode cX0_lots 65 = .ok (.lload_n 3, 1) := dk_33 (dk_at dksX0_lots_2 17 rfl rfl)
theorem dX0_lots_66 : decode cX0_lots 66 = .ok (.lmul, 1) := dk_105 (dk_at dksX0_lots_2 18 rfl rfl)
theorem dX0_lots_67 : decode cX0_lots 67 = .ok (.ldc2_w 352, 3) := dk_20 1 96 (dk_at dksX0_lots_2 19 rfl rfl)
theorem dX0_lots_70 : decode cX0_lots 70 = .ok (.lrem, 1) := dk_113 (dk_at dksX0_lots_2 22 rfl rfl)
theorem dX0_lots_71 : decode cX0_lots 71 = .ok (.lstore_n 3, 1) := dk_66 (dk_at dksX0_lots_2 23 rfl rfl)
theorem dX0_lots_72 : decode cX0_lots 72 = .ok (.lload_n 3, 1) := dk_33 (dk_at dksX0_lots_3 0 rfl rfl)
theorem dX0_lots_73 : decode cX0_lots 73 = .ok (.aload_n 0, 1) := dk_42 (dk_at dksX0_lots_3 1 rfl rfl)
theorem dX0_lots_74 : decode cX0_lots 74 = .ok (.getfield 182, 3) := dk_180 0 182 (dk_at dksX0_lots_3 2 rfl rfl)
theorem dX0_lots_77 : decode cX0_lots 77 = .ok (.i2l, 1) := dk_133 (dk_at dksX0_lots_3 5 rfl rfl)
theorem dX0_lots_78 : decode cX0_lots 78 = .ok (.lrem, 1) := dk_113 (dk_at dksX0_lots_3 6 rfl rfl)
theorem dX0_lots_79 : decode cX0_lots 79 = .ok (.l2i, 1) := dk_136 (dk_at dksX0_lots_3 7 rfl rfl)
theorem dX0_lots_80 : decode cX0_lots 80 = .ok (.istore 7, 2) := dk_54 7 (dk_at dksX0_lots_3 8 rfl rfl)
theorem dX0_lots_82 : decode cX0_lots 82 = .ok (.aload_n 0, 1) := dk_42 (dk_at dksX0_lots_3 10 rfl rfl)
theorem dX0_lots_83 : decode cX0_lots 83 = .ok (.getfield 50, 3) := dk_180 0 50 (dk_at dksX0_lots_3 11 rfl rfl)
theorem dX0_lots_86 : decode cX0_lots 86 = .ok (.iload 7, 2) := dk_21 7 (dk_at dksX0_lots_3 14 rfl rfl)
theorem dX0_lots_88 : decode cX0_lots 88 = .ok (.iaload, 1) := dk_46 (dk_at dksX0_lots_3 16 rfl rfl)
theorem dX0_lots_89 : decode cX0_lots 89 = .ok (.bipush (-9), 2) := dk_16 247 (dk_at dksX0_lots_3 17 rfl rfl)
theorem dX0_lots_91 : decode cX0_lots 91 = .ok (.if_icmp .ne 17, 3) := dk_160 0 17 (dk_at dksX0_lots_3 19 rfl rfl)
theorem dX0_lots_94 : decode cX0_lots 94 = .ok (.aload_n 0, 1) := dk_42 (dk_at dksX0_lots_3 22 rfl rfl)
theorem dX0_lots_95 : decode cX0_lots 95 = .ok (.iload 7, 2) := dk_21 7 (dk_at dksX0_lots_4 0 rfl rfl)
theorem dX0_lots_97 : decode cX0_lots 97 = .ok (.invokevirtual 246, 3) := dk_182 0 246 (dk_at dksX0_lots_4 2 rfl rfl)
theorem dX0_lots_100 : decode cX0_lots 100 = .ok (.aload_n 0, 1) := dk_42 (dk_at dksX0_lots_4 5 rfl rfl)
theorem dX0_lots_101 : decode cX0_lots 101 = .ok (.invokevirtual 289, 3) := dk_182 1 33 (dk_at dksX0_lots_4 6 rfl rfl)
theorem dX0_lots_104 : decode cX0_lots 104 = .ok (.iand, 1) := dk_126 (dk_at dksX0_lots_4 9 rfl rfl)
theorem dX0_lots_105 : decode cX0_lots 105 = .ok (.goto 4, 3) := dk_167 0 4 (dk_at dksX0_lots_4 10 rfl rfl)
theorem dX0_lots_108 : decode cX0_lots 108 = .ok (.iconst 0, 1) := dk_3 (dk_at dksX0_lots_4 13 rfl rfl)
theorem dX0_lots_109 : decode cX0_lots 109 = .ok (.istore 8, 2) := dk_54 8 (dk_at dksX0_lots_4 14 rfl rfl)
theorem dX0_lots_111 : decode cX0_lots 111 = .ok (.iload 8, 2) := dk_21 8 (dk_at dksX0_lots_4 16 rfl rfl)
theorem dX0_lots_113 : decode cX0_lots 113 = .ok (.ifCond .eq 53, 3) := dk_153 0 53 (dk_at dksX0_lots_4 18 rfl rfl)
theorem dX0_lots_116 : decode cX0_lots 116 = .ok (.lload_n 3, 1) := dk_33 (dk_at dksX0_lots_4 21 rfl rfl)
theorem dX0_lots_117 : decode cX0_lots 117 = .ok (.ldc2_w 354, 3) := dk_20 1 98 (dk_at dksX0_lots_5 0 rfl rfl)
theorem dX0_lots_120 : decode cX0_lots 120 = .ok (.ldiv, 1) := dk_109 (dk_at dksX0_lots_5 3 rfl rfl)
theorem dX0_lots_121 : decode cX0_lots 121 = .ok (.iload 8, 2) := dk_21 8 (dk_at dksX0_lots_5 4 rfl rfl)
theorem dX0_lots_123 : decode cX0_lots 123 = .ok (.invokestatic 318, 3) := dk_184 1 62 (dk_at dksX0_lots_5 6 rfl rfl)
theorem dX0_lots_126 : decode cX0_lots 126 = .ok (.i2l, 1) := dk_133 (dk_at dksX0_lots_5 9 rfl rfl)
theorem dX0_lots_127 : decode cX0_lots 127 = .ok (.lrem, 1) := dk_113 (dk_at dksX0_lots_5 10 rfl rfl)
theorem dX0_lots_128 : decode cX0_lots 128 = .ok (.l2i, 1) := dk_136 (dk_at dksX0_lots_5 11 rfl rfl)
theorem dX0_lots_129 : decode cX0_lots 129 = .ok (.istore 9, 2) := dk_54 9 (dk_at dksX0_lots_5 12 rfl rfl)
theorem dX0_lots_131 : decode cX0_lots 131 = .ok (.iload 9, 2) := dk_21 9 (dk_at dksX0_lots_5 14 rfl rfl)
theorem dX0_lots_133 : decode cX0_lots 133 = .ok (.ifCond .le 18, 3) := dk_158 0 18 (dk_at dksX0_lots_5 16 rfl rfl)
theorem dX0_lots_136 : decode cX0_lots 136 = .ok (.iload 8, 2) := dk_21 8 (dk_at dksX0_lots_5 19 rfl rfl)
theorem dX0_lots_138 : decode cX0_lots 138 = .ok (.iload 8, 2) := dk_21 8 (dk_at dksX0_lots_5 21 rfl rfl)
theorem dX0_lots_140 : decode cX0_lots 140 = .ok (.iconst 1, 1) := dk_4 (dk_at dksX0_lots_5 23 rfl rfl)
theorem dX0_lots_141 : decode cX0_lots 141 = .ok (.isub, 1) := dk_100 (dk_at dksX0_lots_6 0 rfl rfl)
theorem dX0_lots_142 : decode cX0_lots 142 = .ok (.iand, 1) := dk_126 (dk_at dksX0_lots_6 1 rfl rfl)
theorem dX0_lots_143 : decode cX0_lots 143 = .ok (.istore 8, 2) := dk_54 8 (dk_at dksX0_lots_6 2 rfl rfl)
theorem dX0_lots_145 : decode cX0_lots 145 = .ok (.iinc 9 (-1), 3) := dk_132 9 255 (dk_at dksX0_lots_6 4 rfl rfl)
theorem dX0_lots_148 : decode cX0_lots 148 = .ok (.goto (-17), 3) := dk_167 255 239 (dk_at dksX0_lots_6 7 rfl rfl)
theorem dX0_lots_151 : decode cX0_lots 151 = .ok (.aload_n 0, 1) := dk_42 (dk_at dksX0_lots_6 10 rfl rfl)
theorem dX0_lots_152 : decode cX0_lots 152 = .ok (.iload 7, 2) := dk_21 7 (dk_at dksX0_lots_6 11 rfl rfl)
theorem dX0_lots_154 : decode cX0_lots 154 = .ok (.iload 8, 2) := dk_21 8 (dk_at dksX0_lots_6 13 rfl rfl)
theorem dX0_lots_156 : decode cX0_lots 156 = .ok (.invokestatic 356, 3) := dk_184 1 100 (dk_at dksX0_lots_6 15 rfl rfl)
theorem dX0_lots_159 : decode cX0_lots 159 = .ok (.invokevirtual 255, 3) := dk_182 0 255 (dk_at dksX0_lots_6 18 rfl rfl)
theorem dX0_lots_162 : decode cX0_lots 162 = .ok (.pop, 1) := dk_87 (dk_at dksX0_lots_6 21 rfl rfl)
theorem dX0_lots_163 : decode cX0_lots 163 = .ok (.iinc 5 1, 3) := dk_132 5 1 (dk_at dksX0_lots_7 0 rfl rfl)
theorem dX0_lots_166 : decode cX0_lots 166 = .ok (.iinc 6 1, 3) := dk_132 6 1 (dk_at dksX0_lots_7 3 rfl rfl)
theorem dX0_lots_169 : decode cX0_lots 169 = .ok (.goto (-113), 3) := dk_167 255 143 (dk_at dksX0_lots_7 6 rfl rfl)
theorem dX0_lots_172 : decode cX0_lots 172 = .ok (.iload 5, 2) := dk_21 5 (dk_at dksX0_lots_7 9 rfl rfl)
theorem dX0_lots_174 : decode cX0_lots 174 = .ok (.ireturn, 1) := dk_172 (dk_at dksX0_lots_7 11 rfl rfl)
abbrev cX0_asked : ByteArray := prog_1_method_88_code
def yX0_asked : MethodName := ⟨RX0, "asked", "()I"⟩
theorem dX0_asked_0 : decode cX0_asked 0 = .ok (.aload_n 0, 1) := by decide +kernel
theorem dX0_asked_1 : decode cX0_asked 1 = .ok (.getfield 11, 3) := by decide +kernel
theorem dX0_asked_4 : decode cX0_asked 4 = .ok (.ireturn, 1) := by decide +kernel
abbrev cX0_upper : ByteArray := prog_1_method_89_code
def yX0_upper : MethodName := ⟨RX0, "upper", "()J"⟩
theorem dX0_upper_0 : decode cX0_upper 0 = .ok (.aload_n 0, 1) := by decide +kernel
theorem dX0_upper_1 : decode cX0_upper 1 = .ok (.getfield 14, 3) := by decide +kernel
theorem dX0_upper_4 : decode cX0_upper 4 = .ok (.lreturn, 1) := by decide +kernel
abbrev cX0_lower : ByteArray := prog_1_method_90_code
def yX0_lower : MethodName := ⟨RX0, "lower", "()J"⟩
theorem dX0_lower_0 : decode cX0_lower 0 = .ok (.aload_n 0, 1) := by decide +kernel
theorem dX0_lower_1 : decode cX0_lower 1 = .ok (.getfield 18, 3) := by decide +kernel
theorem dX0_lower_4 : decode cX0_lower 4 = .ok (.lreturn, 1) := by decide +kernel
abbrev cX0_count : ByteArray := prog_1_method_95_code
def yX0_count : MethodName := ⟨RX0, "count", "(I)I"⟩
def dkwX0_count_0 : List UInt8 := [27, 3, 16, 8, 184, 0, 86, 153, 0, 11, 42, 27, 182, 1, 112, 167, 0, 4, 2, 172]
abbrev dktX0_count_0 : List UInt8 := dkwX0_count_0 ++ []
theorem dksX0_count_0 : cX0_count.data.toList.drop 0 = dktX0_count_0 := by decide +kernel
theorem dX0_count_0 : decode cX0_count 0 = .ok (.iload_n 1, 1) := dk_27 (dk_at dksX0_count_0 0 rfl rfl)
theorem dX0_count_1 : decode cX0_count 1 = .ok (.iconst 0, 1) := dk_3 (dk_at dksX0_count_0 1 rfl rfl)
theorem dX0_count_2 : decode cX0_count 2 = .ok (.bipush 8, 2) := dk_16 8 (dk_at dksX0_count_0 2 rfl rfl)
theorem dX0_count_4 : decode cX0_count 4 = .ok (.invokestatic 86, 3) := dk_184 0 86 (dk_at dksX0_count_0 4 rfl rfl)
theorem dX0_count_7 : decode cX0_count 7 = .ok (.ifCond .eq 11, 3) := dk_153 0 11 (dk_at dksX0_count_0 7 rfl rfl)
theorem dX0_count_10 : decode cX0_count 10 = .ok (.aload_n 0, 1) := dk_42 (dk_at dksX0_count_0 10 rfl rfl)
theorem dX0_count_11 : decode cX0_count 11 = .ok (.iload_n 1, 1) := dk_27 (dk_at dksX0_count_0 11 rfl rfl)
theorem dX0_count_12 : decode cX0_count 12 = .ok (.invokevirtual 368, 3) := dk_182 1 112 (dk_at dksX0_count_0 12 rfl rfl)
theorem dX0_count_15 : decode cX0_count 15 = .ok (.goto 4, 3) := dk_167 0 4 (dk_at dksX0_count_0 15 rfl rfl)
theorem dX0_count_18 : decode cX0_count 18 = .ok (.iconst (-1), 1) := dk_2 (dk_at dksX0_count_0 18 rfl rfl)
theorem dX0_count_19 : decode cX0_count 19 = .ok (.ireturn, 1) := dk_172 (dk_at dksX0_count_0 19 rfl rfl)
abbrev cX0_countOf : ByteArray := prog_1_method_94_code
def yX0_countOf : MethodName := ⟨RX0, "countOf", "(I)I"⟩
def dkwX0_countOf_3 : List UInt8 := [182, 1, 103, 172, 42, 5, 182, 1, 106, 172, 42, 27, 182, 1, 109, 172]
abbrev dktX0_countOf_3 : List UInt8 := dkwX0_countOf_3 ++ []
def dkwX0_countOf_2 : List UInt8 := [42, 180, 0, 175, 172, 42, 180, 0, 182, 172, 42, 180, 0, 83, 172, 42, 182, 1, 33, 184, 1, 62, 172, 42]
abbrev dktX0_countOf_2 : List UInt8 := dkwX0_countOf_2 ++ dktX0_countOf_3
def dkwX0_countOf_1 : List UInt8 := [170, 0, 0, 0, 0, 0, 73, 0, 0, 0, 0, 0, 0, 0, 5, 0, 0, 0, 39, 0, 0, 0, 44, 0, 0, 0, 49, 0, 0, 0, 54, 0, 0, 0, 62, 0, 0, 0, 67]
abbrev dktX0_countOf_1 : List UInt8 := dkwX0_countOf_1 ++ dktX0_countOf_2
def dkwX0_countOf_0 : List UInt8 := [27]
abbrev dktX0_countOf_0 : List UInt8 := dkwX0_countOf_0 ++ dktX0_countOf_1
theorem dksX0_countOf_0 : cX0_countOf.data.toList.drop 0 = dktX0_countOf_0 := by decide +kernel
theorem dksX0_countOf_1 : cX0_countOf.data.toList.drop 1 = dktX0_countOf_1 := dk_seg dksX0_countOf_0 1 rfl rfl
theorem dksX0_countOf_2 : cX0_countOf.data.toList.drop 40 = dktX0_countOf_2 := dk_seg dksX0_countOf_1 39 rfl rfl
theorem dksX0_countOf_3 : cX0_countOf.data.toList.drop 64 = dktX0_countOf_3 := dk_seg dksX0_countOf_2 24 rfl rfl
theorem dX0_countOf_0 : decode cX0_countOf 0 = .ok (.iload_n 1, 1) := dk_27 (dk_at dksX0_countOf_0 0 rfl rfl)
theorem dX0_countOf_1 : decode cX0_countOf 1 = .ok (.tableswitch 73 0 5 #[39, 44, 49, 54, 62, 67], 39) := by decide +kernel
theorem dX0_countOf_40 : decode cX0_countOf 40 = .ok (.aload_n 0, 1) := dk_42 (dk_at dksX0_countOf_2 0 rfl rfl)
theorem dX0_countOf_41 : decode cX0_countOf 41 = .ok (.getfield 175, 3) := dk_180 0 175 (dk_at dksX0_countOf_2 1 rfl rfl)
theorem dX0_countOf_44 : decode cX0_countOf 44 = .ok (.ireturn, 1) := dk_172 (dk_at dksX0_countOf_2 4 rfl rfl)
theorem dX0_countOf_45 : decode cX0_countOf 45 = .ok (.aload_n 0, 1) := dk_42 (dk_at dksX0_countOf_2 5 rfl rfl)
theorem dX0_countOf_46 : decode cX0_countOf 46 = .ok (.getfield 182, 3) := dk_180 0 182 (dk_at dksX0_countOf_2 6 rfl rfl)
theorem dX0_countOf_49 : decode cX0_countOf 49 = .ok (.ireturn, 1) := dk_172 (dk_at dksX0_countOf_2 9 rfl rfl)
theorem dX0_countOf_50 : decode cX0_countOf 50 = .ok (.aload_n 0, 1) := dk_42 (dk_at dksX0_countOf_2 10 rfl rfl)
theorem dX0_countOf_51 : decode cX0_countOf 51 = .ok (.getfield 83, 3) := dk_180 0 83 (dk_at dksX0_countOf_2 11 rfl rfl)
theorem dX0_countOf_54 : decode cX0_countOf 54 = .ok (.ireturn, 1) := dk_172 (dk_at dksX0_countOf_2 14 rfl rfl)
theorem dX0_countOf_55 : decode cX0_countOf 55 = .ok (.aload_n 0, 1) := dk_42 (dk_at dksX0_countOf_2 15 rfl rfl)
theorem dX0_countOf_56 : decode cX0_countOf 56 = .ok (.invokevirtual 289, 3) := dk_182 1 33 (dk_at dksX0_countOf_2 16 rfl rfl)
theorem dX0_countOf_59 : decode cX0_countOf 59 = .ok (.invokestatic 318, 3) := dk_184 1 62 (dk_at dksX0_countOf_2 19 rfl rfl)
theorem dX0_countOf_62 : decode cX0_countOf 62 = .ok (.ireturn, 1) := dk_172 (dk_at dksX0_countOf_2 22 rfl rfl)
theorem dX0_countOf_63 : decode cX0_countOf 63 = .ok (.aload_n 0, 1) := dk_42 (dk_at dksX0_countOf_2 23 rfl rfl)
theorem dX0_countOf_64 : decode cX0_countOf 64 = .ok (.invokevirtual 359, 3) := dk_182 1 103 (dk_at dksX0_countOf_3 0 rfl rfl)
theorem dX0_countOf_67 : decode cX0_countOf 67 = .ok (.ireturn, 1) := dk_172 (dk_at dksX0_countOf_3 3 rfl rfl)
theorem dX0_countOf_68 : decode cX0_countOf 68 = .ok (.aload_n 0, 1) := dk_42 (dk_at dksX0_countOf_3 4 rfl rfl)
theorem dX0_countOf_69 : decode cX0_countOf 69 = .ok (.iconst 2, 1) := dk_5 (dk_at dksX0_countOf_3 5 rfl rfl)
theorem dX0_countOf_70 : decode cX0_countOf 70 = .ok (.invokevirtual 362, 3) := dk_182 1 106 (dk_at dksX0_countOf_3 6 rfl rfl)
theorem dX0_countOf_73 : decode cX0_countOf 73 = .ok (.ireturn, 1) := dk_172 (dk_at dksX0_countOf_3 9 rfl rfl)
theorem dX0_countOf_74 : decode cX0_countOf 74 = .ok (.aload_n 0, 1) := dk_42 (dk_at dksX0_countOf_3 10 rfl rfl)
theorem dX0_countOf_75 : decode cX0_countOf 75 = .ok (.iload_n 1, 1) := dk_27 (dk_at dksX0_countOf_3 11 rfl rfl)
theorem dX0_countOf_76 : decode cX0_countOf 76 = .ok (.invokevirtual 365, 3) := dk_182 1 109 (dk_at dksX0_countOf_3 12 rfl rfl)
theorem dX0_countOf_79 : decode cX0_countOf 79 = .ok (.ireturn, 1) := dk_172 (dk_at dksX0_countOf_3 15 rfl rfl)
abbrev cX0_freeQuestions : ByteArray := prog_1_method_91_code
def yX0_freeQuestions : MethodName := ⟨RX0, "freeQuestions", "()I"⟩
def dkwX0_freeQuestions_1 : List UInt8 := [4, 167, 0, 4, 3, 96, 60, 132, 2, 1, 167, 255, 226, 27, 172]
abbrev dktX0_freeQuestions_1 : List UInt8 := dkwX0_freeQuestions_1 ++ []
def dkwX0_freeQuestions_0 : List UInt8 := [3, 60, 3, 61, 28, 42, 180, 0, 182, 162, 0, 28, 27, 42, 180, 0, 50, 28, 46, 16, 247, 160, 0, 7]
abbrev dktX0_freeQuestions_0 : List UInt8 := dkwX0_freeQuestions_0 ++ dktX0_freeQuestions_1
theorem dksX0_freeQuestions_0 : cX0_freeQuestions.data.toList.drop 0 = dktX0_freeQuestions_0 := by decide +kernel
theorem dksX0_freeQuestions_1 : cX0_freeQuestions.data.toList.drop 24 = dktX0_freeQuestions_1 := dk_seg dksX0_freeQuestions_0 24 rfl rfl
theorem dX0_freeQuestions_0 : decode cX0_freeQuestions 0 = .ok (.iconst 0, 1) := dk_3 (dk_at dksX0_freeQuestions_0 0 rfl rfl)
theorem dX0_freeQuestions_1 : decode cX0_freeQuestions 1 = .ok (.istore_n 1, 1) := dk_60 (dk_at dksX0_freeQuestions_0 1 rfl rfl)
theorem dX0_freeQuestions_2 : decode cX0_freeQuestions 2 = .ok (.iconst 0, 1) := dk_3 (dk_at dksX0_freeQuestions_0 2 rfl rfl)
theorem dX0_freeQuestions_3 : decode cX0_freeQuestions 3 = .ok (.istore_n 2, 1) := dk_61 (dk_at dksX0_freeQuestions_0 3 rfl rfl)
theorem dX0_freeQuestions_4 : decode cX0_freeQuestions 4 = .ok (.iload_n 2, 1) := dk_28 (dk_at dksX0_freeQuestions_0 4 rfl rfl)
theorem dX0_freeQuestions_5 : decode cX0_freeQuestions 5 = .ok (.aload_n 0, 1) := dk_42 (dk_at dksX0_freeQuestions_0 5 rfl rfl)
theorem dX0_freeQuestions_6 : decode cX0_freeQuestions 6 = .ok (.getfield 182, 3) := dk_180 0 182 (dk_at dksX0_freeQuestions_0 6 rfl rfl)
theorem dX0_freeQuestions_9 : decode cX0_freeQuestions 9 = .ok (.if_icmp .ge 28, 3) := dk_162 0 28 (dk_at dksX0_freeQuestions_0 9 rfl rfl)
theorem dX0_freeQuestions_12 : decode cX0_freeQuestions 12 = .ok (.iload_n 1, 1) := dk_27 (dk_at dksX0_freeQuestions_0 12 rfl rfl)
theorem dX0_freeQuestions_13 : decode cX0_freeQuestions 13 = .ok (.aload_n 0, 1) := dk_42 (dk_at dksX0_freeQuestions_0 13 rfl rfl)
theorem dX0_freeQuestions_14 : decode cX0_freeQuestions 14 = .ok (.getfield 50, 3) := dk_180 0 50 (dk_at dksX0_freeQuestions_0 14 rfl rfl)
theorem dX0_freeQuestions_17 : decode cX0_freeQuestions 17 = .ok (.iload_n 2, 1) := dk_28 (dk_at dksX0_freeQuestions_0 17 rfl rfl)
theorem dX0_freeQuestions_18 : decode cX0_freeQuestions 18 = .ok (.iaload, 1) := dk_46 (dk_at dksX0_freeQuestions_0 18 rfl rfl)
theorem dX0_freeQuestions_19 : decode cX0_freeQuestions 19 = .ok (.bipush (-9), 2) := dk_16 247 (dk_at dksX0_freeQuestions_0 19 rfl rfl)
theorem dX0_freeQuestions_21 : decode cX0_freeQuestions 21 = .ok (.if_icmp .ne 7, 3) := dk_160 0 7 (dk_at dksX0_freeQuestions_0 21 rfl rfl)
theorem dX0_freeQuestions_24 : decode cX0_freeQuestions 24 = .ok (.iconst 1, 1) := dk_4 (dk_at dksX0_freeQuestions_1 0 rfl rfl)
theorem dX0_freeQuestions_25 : decode cX0_freeQuestions 25 = .ok (.goto 4, 3) := dk_167 0 4 (dk_at dksX0_freeQuestions_1 1 rfl rfl)
theorem dX0_freeQuestions_28 : decode cX0_freeQuestions 28 = .ok (.iconst 0, 1) := dk_3 (dk_at dksX0_freeQuestions_1 4 rfl rfl)
theorem dX0_freeQuestions_29 : decode cX0_freeQuestions 29 = .ok (.iadd, 1) := dk_96 (dk_at dksX0_freeQuestions_1 5 rfl rfl)
theorem dX0_freeQuestions_30 : decode cX0_freeQuestions 30 = .ok (.istore_n 1, 1) := dk_60 (dk_at dksX0_freeQuestions_1 6 rfl rfl)
theorem dX0_freeQuestions_31 : decode cX0_freeQuestions 31 = .ok (.iinc 2 1, 3) := dk_132 2 1 (dk_at dksX0_freeQuestions_1 7 rfl rfl)
theorem dX0_freeQuestions_34 : decode cX0_freeQuestions 34 = .ok (.goto (-30), 3) := dk_167 255 226 (dk_at dksX0_freeQuestions_1 10 rfl rfl)
theorem dX0_freeQuestions_37 : decode cX0_freeQuestions 37 = .ok (.iload_n 1, 1) := dk_27 (dk_at dksX0_freeQuestions_1 13 rfl rfl)
theorem dX0_freeQuestions_38 : decode cX0_freeQuestions 38 = .ok (.ireturn, 1) := dk_172 (dk_at dksX0_freeQuestions_1 14 rfl rfl)
abbrev cX0_cardsOf : ByteArray := prog_1_method_92_code
def yX0_cardsOf : MethodName := ⟨RX0, "cardsOf", "(I)I"⟩
def dkwX0_cardsOf_1 : List UInt8 := [153, 0, 7, 4, 167, 0, 4, 3, 96, 61, 132, 3, 1, 167, 255, 224, 28, 172]
abbrev dktX0_cardsOf_1 : List UInt8 := dkwX0_cardsOf_1 ++ []
def dkwX0_cardsOf_0 : List UInt8 := [3, 61, 3, 62, 29, 42, 180, 0, 175, 162, 0, 30, 28, 42, 180, 0, 40, 29, 50, 27, 182, 0, 185]
abbrev dktX0_cardsOf_0 : List UInt8 := dkwX0_cardsOf_0 ++ dktX0_cardsOf_1
theorem dksX0_cardsOf_0 : cX0_cardsOf.data.toList.drop 0 = dktX0_cardsOf_0 := by decide +kernel
theorem dksX0_cardsOf_1 : cX0_cardsOf.data.toList.drop 23 = dktX0_cardsOf_1 := dk_seg dksX0_cardsOf_0 23 rfl rfl
theorem dX0_cardsOf_0 : decode cX0_cardsOf 0 = .ok (.iconst 0, 1) := dk_3 (dk_at dksX0_cardsOf_0 0 rfl rfl)
theorem dX0_cardsOf_1 : decode cX0_cardsOf 1 = .ok (.istore_n 2, 1) := dk_61 (dk_at dksX0_cardsOf_0 1 rfl rfl)
theorem dX0_cardsOf_2 : decode cX0_cardsOf 2 = .ok (.iconst 0, 1) := dk_3 (dk_at dksX0_cardsOf_0 2 rfl rfl)
theorem dX0_cardsOf_3 : decode cX0_cardsOf 3 = .ok (.istore_n 3, 1) := dk_62 (dk_at dksX0_cardsOf_0 3 rfl rfl)
theorem dX0_cardsOf_4 : decode cX0_cardsOf 4 = .ok (.iload_n 3, 1) := dk_29 (dk_at dksX0_cardsOf_0 4 rfl rfl)
theorem dX0_cardsOf_5 : decode cX0_cardsOf 5 = .ok (.aload_n 0, 1) := dk_42 (dk_at dksX0_cardsOf_0 5 rfl rfl)
theorem dX0_cardsOf_6 : decode cX0_cardsOf 6 = .ok (.getfield 175, 3) := dk_180 0 175 (dk_at dksX0_cardsOf_0 6 rfl rfl)
theorem dX0_cardsOf_9 : decode cX0_cardsOf 9 = .ok (.if_icmp .ge 30, 3) := dk_162 0 30 (dk_at dksX0_cardsOf_0 9 rfl rfl)
theorem dX0_cardsOf_12 : decode cX0_cardsOf 12 = .ok (.iload_n 2, 1) := dk_28 (dk_at dksX0_cardsOf_0 12 rfl rfl)
theorem dX0_cardsOf_13 : decode cX0_cardsOf 13 = .ok (.aload_n 0, 1) := dk_42 (dk_at dksX0_cardsOf_0 13 rfl rfl)
theorem dX0_cardsOf_14 : decode cX0_cardsOf 14 = .ok (.getfield 40, 3) := dk_180 0 40 (dk_at dksX0_cardsOf_0 14 rfl rfl)
theorem dX0_cardsOf_17 : decode cX0_cardsOf 17 = .ok (.iload_n 3, 1) := dk_29 (dk_at dksX0_cardsOf_0 17 rfl rfl)
theorem dX0_cardsOf_18 : decode cX0_cardsOf 18 = .ok (.aaload, 1) := dk_50 (dk_at dksX0_cardsOf_0 18 rfl rfl)
theorem dX0_cardsOf_19 : decode cX0_cardsOf 19 = .ok (.iload_n 1, 1) := dk_27 (dk_at dksX0_cardsOf_0 19 rfl rfl)
theorem dX0_cardsOf_20 : decode cX0_cardsOf 20 = .ok (.invokevirtual 185, 3) := dk_182 0 185 (dk_at dksX0_cardsOf_0 20 rfl rfl)
theorem dX0_cardsOf_23 : decode cX0_cardsOf 23 = .ok (.ifCond .eq 7, 3) := dk_153 0 7 (dk_at dksX0_cardsOf_1 0 rfl rfl)
theorem dX0_cardsOf_26 : decode cX0_cardsOf 26 = .ok (.iconst 1, 1) := dk_4 (dk_at dksX0_cardsOf_1 3 rfl rfl)
theorem dX0_cardsOf_27 : decode cX0_cardsOf 27 = .ok (.goto 4, 3) := dk_167 0 4 (dk_at dksX0_cardsOf_1 4 rfl rfl)
theorem dX0_cardsOf_30 : decode cX0_cardsOf 30 = .ok (.iconst 0, 1) := dk_3 (dk_at dksX0_cardsOf_1 7 rfl rfl)
theorem dX0_cardsOf_31 : decode cX0_cardsOf 31 = .ok (.iadd, 1) := dk_96 (dk_at dksX0_cardsOf_1 8 rfl rfl)
theorem dX0_cardsOf_32 : decode cX0_cardsOf 32 = .ok (.istore_n 2, 1) := dk_61 (dk_at dksX0_cardsOf_1 9 rfl rfl)
theorem dX0_cardsOf_33 : decode cX0_cardsOf 33 = .ok (.iinc 3 1, 3) := dk_132 3 1 (dk_at dksX0_cardsOf_1 10 rfl rfl)
theorem dX0_cardsOf_36 : decode cX0_cardsOf 36 = .ok (.goto (-32), 3) := dk_167 255 224 (dk_at dksX0_cardsOf_1 13 rfl rfl)
theorem dX0_cardsOf_39 : decode cX0_cardsOf 39 = .ok (.iload_n 2, 1) := dk_28 (dk_at dksX0_cardsOf_1 16 rfl rfl)
theorem dX0_cardsOf_40 : decode cX0_cardsOf 40 = .ok (.ireturn, 1) := dk_172 (dk_at dksX0_cardsOf_1 17 rfl rfl)
abbrev cX0_thereOf : ByteArray := prog_1_method_93_code
def yX0_thereOf : MethodName := ⟨RX0, "thereOf", "(I)I"⟩
def dkwX0_thereOf_3 : List UInt8 := [96, 61, 132, 3, 1, 167, 255, 184, 28, 172]
abbrev dktX0_thereOf_3 : List UInt8 := dkwX0_thereOf_3 ++ []
def dkwX0_thereOf_2 : List UInt8 := [16, 8, 160, 0, 21, 29, 6, 162, 0, 16, 42, 180, 0, 67, 29, 50, 198, 0, 7, 4, 167, 0, 4, 3]
abbrev dktX0_thereOf_2 : List UInt8 := dkwX0_thereOf_2 ++ dktX0_thereOf_3
def dkwX0_thereOf_1 : List UInt8 := [199, 0, 43, 27, 16, 7, 160, 0, 17, 29, 7, 162, 0, 12, 42, 180, 0, 34, 29, 50, 199, 0, 23, 27]
abbrev dktX0_thereOf_1 : List UInt8 := dkwX0_thereOf_1 ++ dktX0_thereOf_2
def dkwX0_thereOf_0 : List UInt8 := [3, 61, 3, 62, 29, 16, 6, 162, 0, 72, 28, 27, 16, 6, 160, 0, 12, 42, 180, 0, 28, 29, 50]
abbrev dktX0_thereOf_0 : List UInt8 := dkwX0_thereOf_0 ++ dktX0_thereOf_1
theorem dksX0_thereOf_0 : cX0_thereOf.data.toList.drop 0 = dktX0_thereOf_0 := by decide +kernel
theorem dksX0_thereOf_1 : cX0_thereOf.data.toList.drop 23 = dktX0_thereOf_1 := dk_seg dksX0_thereOf_0 23 rfl rfl
theorem dksX0_thereOf_2 : cX0_thereOf.data.toList.drop 47 = dktX0_thereOf_2 := dk_seg dksX0_thereOf_1 24 rfl rfl
theorem dksX0_thereOf_3 : cX0_thereOf.data.toList.drop 71 = dktX0_thereOf_3 := dk_seg dksX0_thereOf_2 24 rfl rfl
theorem dX0_thereOf_0 : decode cX0_thereOf 0 = .ok (.iconst 0, 1) := dk_3 (dk_at dksX0_thereOf_0 0 rfl rfl)
theorem dX0_thereOf_1 : decode cX0_thereOf 1 = .ok (.istore_n 2, 1) := dk_61 (dk_at dksX0_thereOf_0 1 rfl rfl)
theorem dX0_thereOf_2 : decode cX0_thereOf 2 = .ok (.iconst 0, 1) := dk_3 (dk_at dksX0_thereOf_0 2 rfl rfl)
theorem dX0_thereOf_3 : decode cX0_thereOf 3 = .ok (.istore_n 3, 1) := dk_62 (dk_at dksX0_thereOf_0 3 rfl rfl)
theorem dX0_thereOf_4 : decode cX0_thereOf 4 = .ok (.iload_n 3, 1) := dk_29 (dk_at dksX0_thereOf_0 4 rfl rfl)
theorem dX0_thereOf_5 : decode cX0_thereOf 5 = .ok (.bipush 6, 2) := dk_16 6 (dk_at dksX0_thereOf_0 5 rfl rfl)
theorem dX0_thereOf_7 : decode cX0_thereOf 7 = .ok (.if_icmp .ge 72, 3) := dk_162 0 72 (dk_at dksX0_thereOf_0 7 rfl rfl)
theorem dX0_thereOf_10 : decode cX0_thereOf 10 = .ok (.iload_n 2, 1) := dk_28 (dk_at dksX0_thereOf_0 10 rfl rfl)
theorem dX0_thereOf_11 : decode cX0_thereOf 11 = .ok (.iload_n 1, 1) := dk_27 (dk_at dksX0_thereOf_0 11 rfl rfl)
theorem dX0_thereOf_12 : decode cX0_thereOf 12 = .ok (.bipush 6, 2) := dk_16 6 (dk_at dksX0_thereOf_0 12 rfl rfl)
theorem dX0_thereOf_14 : decode cX0_thereOf 14 = .ok (.if_icmp .ne 12, 3) := dk_160 0 12 (dk_at dksX0_thereOf_0 14 rfl rfl)
theorem dX0_thereOf_17 : decode cX0_thereOf 17 = .ok (.aload_n 0, 1) := dk_42 (dk_at dksX0_thereOf_0 17 rfl rfl)
theorem dX0_thereOf_18 : decode cX0_thereOf 18 = .ok (.getfield 28, 3) := dk_180 0 28 (dk_at dksX0_thereOf_0 18 rfl rfl)
theorem dX0_thereOf_21 : decode cX0_thereOf 21 = .ok (.iload_n 3, 1) := dk_29 (dk_at dksX0_thereOf_0 21 rfl rfl)
theorem dX0_thereOf_22 : decode cX0_thereOf 22 = .ok (.aaload, 1) := dk_50 (dk_at dksX0_thereOf_0 22 rfl rfl)
theorem dX0_thereOf_23 : decode cX0_thereOf 23 = .ok (.ifnonnull 43, 3) := dk_199 0 43 (dk_at dksX0_thereOf_1 0 rfl rfl)
theorem dX0_thereOf_26 : decode cX0_thereOf 26 = .ok (.iload_n 1, 1) := dk_27 (dk_at dksX0_thereOf_1 3 rfl rfl)
theorem dX0_thereOf_27 : decode cX0_thereOf 27 = .ok (.bipush 7, 2) := dk_16 7 (dk_at dksX0_thereOf_1 4 rfl rfl)
theorem dX0_thereOf_29 : decode cX0_thereOf 29 = .ok (.if_icmp .ne 17, 3) := dk_160 0 17 (dk_at dksX0_thereOf_1 6 rfl rfl)
theorem dX0_thereOf_32 : decode cX0_thereOf 32 = .ok (.iload_n 3, 1) := dk_29 (dk_at dksX0_thereOf_1 9 rfl rfl)
theorem dX0_thereOf_33 : decode cX0_thereOf 33 = .ok (.iconst 4, 1) := dk_7 (dk_at dksX0_thereOf_1 10 rfl rfl)
theorem dX0_thereOf_34 : decode cX0_thereOf 34 = .ok (.if_icmp .ge 12, 3) := dk_162 0 12 (dk_at dksX0_thereOf_1 11 rfl rfl)
theorem dX0_thereOf_37 : decode cX0_thereOf 37 = .ok (.aload_n 0, 1) := dk_42 (dk_at dksX0_thereOf_1 14 rfl rfl)
theorem dX0_thereOf_38 : decode cX0_thereOf 38 = .ok (.getfield 34, 3) := dk_180 0 34 (dk_at dksX0_thereOf_1 15 rfl rfl)
theorem dX0_thereOf_41 : decode cX0_thereOf 41 = .ok (.iload_n 3, 1) := dk_29 (dk_at dksX0_thereOf_1 18 rfl rfl)
theorem dX0_thereOf_42 : decode cX0_thereOf 42 = .ok (.aaload, 1) := dk_50 (dk_at dksX0_thereOf_1 19 rfl rfl)
theorem dX0_thereOf_43 : decode cX0_thereOf 43 = .ok (.ifnonnull 23, 3) := dk_199 0 23 (dk_at dksX0_thereOf_1 20 rfl rfl)
theorem dX0_thereOf_46 : decode cX0_thereOf 46 = .ok (.iload_n 1, 1) := dk_27 (dk_at dksX0_thereOf_1 23 rfl rfl)
theorem dX0_thereOf_47 : decode cX0_thereOf 47 = .ok (.bipush 8, 2) := dk_16 8 (dk_at dksX0_thereOf_2 0 rfl rfl)
theorem dX0_thereOf_49 : decode cX0_thereOf 49 = .ok (.if_icmp .ne 21, 3) := dk_160 0 21 (dk_at dksX0_thereOf_2 2 rfl rfl)
theorem dX0_thereOf_52 : decode cX0_thereOf 52 = .ok (.iload_n 3, 1) := dk_29 (dk_at dksX0_thereOf_2 5 rfl rfl)
theorem dX0_thereOf_53 : decode cX0_thereOf 53 = .ok (.iconst 3, 1) := dk_6 (dk_at dksX0_thereOf_2 6 rfl rfl)
theorem dX0_thereOf_54 : decode cX0_thereOf 54 = .ok (.if_icmp .ge 16, 3) := dk_162 0 16 (dk_at dksX0_thereOf_2 7 rfl rfl)
theorem dX0_thereOf_57 : decode cX0_thereOf 57 = .ok (.aload_n 0, 1) := dk_42 (dk_at dksX0_thereOf_2 10 rfl rfl)
theorem dX0_thereOf_58 : decode cX0_thereOf 58 = .ok (.getfield 67, 3) := dk_180 0 67 (dk_at dksX0_thereOf_2 11 rfl rfl)
theorem dX0_thereOf_61 : decode cX0_thereOf 61 = .ok (.iload_n 3, 1) := dk_29 (dk_at dksX0_thereOf_2 14 rfl rfl)
theorem dX0_thereOf_62 : decode cX0_thereOf 62 = .ok (.aaload, 1) := dk_50 (dk_at dksX0_thereOf_2 15 rfl rfl)
theorem dX0_thereOf_63 : decode cX0_thereOf 63 = .ok (.ifnull 7, 3) := dk_198 0 7 (dk_at dksX0_thereOf_2 16 rfl rfl)
theorem dX0_thereOf_66 : decode cX0_thereOf 66 = .ok (.iconst 1, 1) := dk_4 (dk_at dksX0_thereOf_2 19 rfl rfl)
theorem dX0_thereOf_67 : decode cX0_thereOf 67 = .ok (.goto 4, 3) := dk_167 0 4 (dk_at dksX0_thereOf_2 20 rfl rfl)
theorem dX0_thereOf_70 : decode cX0_thereOf 70 = .ok (.iconst 0, 1) := dk_3 (dk_at dksX0_thereOf_2 23 rfl rfl)
theorem dX0_thereOf_71 : decode cX0_thereOf 71 = .ok (.iadd, 1) := dk_96 (dk_at dksX0_thereOf_3 0 rfl rfl)
theorem dX0_thereOf_72 : decode cX0_thereOf 72 = .ok (.istore_n 2, 1) := dk_61 (dk_at dksX0_thereOf_3 1 rfl rfl)
theorem dX0_thereOf_73 : decode cX0_thereOf 73 = .ok (.iinc 3 1, 3) := dk_132 3 1 (dk_at dksX0_thereOf_3 2 rfl rfl)
theorem dX0_thereOf_76 : decode cX0_thereOf 76 = .ok (.goto (-72), 3) := dk_167 255 184 (dk_at dksX0_thereOf_3 5 rfl rfl)
theorem dX0_thereOf_79 : decode cX0_thereOf 79 = .ok (.iload_n 2, 1) := dk_28 (dk_at dksX0_thereOf_3 8 rfl rfl)
theorem dX0_thereOf_80 : decode cX0_thereOf 80 = .ok (.ireturn, 1) := dk_172 (dk_at dksX0_thereOf_3 9 rfl rfl)
abbrev cX0_finding : ByteArray := prog_1_method_96_code
def yX0_finding : MethodName := ⟨RX0, "finding", "()I"⟩
theorem dX0_finding_0 : decode cX0_finding 0 = .ok (.aload_n 0, 1) := by decide +kernel
theorem dX0_finding_1 : decode cX0_finding 1 = .ok (.getfield 1, 3) := by decide +kernel
theorem dX0_finding_4 : decode cX0_finding 4 = .ok (.ireturn, 1) := by decide +kernel
abbrev cX0_findings : ByteArray := prog_1_method_97_code
def yX0_findings : MethodName := ⟨RX0, "findings", "(I)I"⟩
def dkwX0_findings_0 : List UInt8 := [27, 4, 8, 184, 0, 86, 153, 0, 12, 42, 180, 0, 7, 27, 46, 167, 0, 4, 2, 172]
abbrev dktX0_findings_0 : List UInt8 := dkwX0_findings_0 ++ []
theorem dksX0_findings_0 : cX0_findings.data.toList.drop 0 = dktX0_findings_0 := by decide +kernel
theorem dX0_findings_0 : decode cX0_findings 0 = .ok (.iload_n 1, 1) := dk_27 (dk_at dksX0_findings_0 0 rfl rfl)
theorem dX0_findings_1 : decode cX0_findings 1 = .ok (.iconst 1, 1) := dk_4 (dk_at dksX0_findings_0 1 rfl rfl)
theorem dX0_findings_2 : decode cX0_findings 2 = .ok (.iconst 5, 1) := dk_8 (dk_at dksX0_findings_0 2 rfl rfl)
theorem dX0_findings_3 : decode cX0_findings 3 = .ok (.invokestatic 86, 3) := dk_184 0 86 (dk_at dksX0_findings_0 3 rfl rfl)
theorem dX0_findings_6 : decode cX0_findings 6 = .ok (.ifCond .eq 12, 3) := dk_153 0 12 (dk_at dksX0_findings_0 6 rfl rfl)
theorem dX0_findings_9 : decode cX0_findings 9 = .ok (.aload_n 0, 1) := dk_42 (dk_at dksX0_findings_0 9 rfl rfl)
theorem dX0_findings_10 : decode cX0_findings 10 = .ok (.getfield 7, 3) := dk_180 0 7 (dk_at dksX0_findings_0 10 rfl rfl)
theorem dX0_findings_13 : decode cX0_findings 13 = .ok (.iload_n 1, 1) := dk_27 (dk_at dksX0_findings_0 13 rfl rfl)
theorem dX0_findings_14 : decode cX0_findings 14 = .ok (.iaload, 1) := dk_46 (dk_at dksX0_findings_0 14 rfl rfl)
theorem dX0_findings_15 : decode cX0_findings 15 = .ok (.goto 4, 3) := dk_167 0 4 (dk_at dksX0_findings_0 15 rfl rfl)
theorem dX0_findings_18 : decode cX0_findings 18 = .ok (.iconst (-1), 1) := dk_2 (dk_at dksX0_findings_0 18 rfl rfl)
theorem dX0_findings_19 : decode cX0_findings 19 = .ok (.ireturn, 1) := dk_172 (dk_at dksX0_findings_0 19 rfl rfl)
abbrev cX0_digest : ByteArray := prog_1_method_100_code
def yX0_digest : MethodName := ⟨RX0, "digest", "()J"⟩
def dkwX0_digest_7 : List UInt8 := [132, 6, 1, 167, 255, 237, 132, 3, 1, 167, 255, 198, 42, 180, 1, 117, 173]
abbrev dktX0_digest_7 : List UInt8 := dkwX0_digest_7 ++ []
def dkwX0_digest_6 : List UInt8 := [21, 5, 182, 1, 120, 3, 54, 6, 21, 6, 21, 5, 162, 0, 18, 42, 25, 4, 21, 6, 51, 182, 1, 120]
abbrev dktX0_digest_6 : List UInt8 := dkwX0_digest_6 ++ dktX0_digest_7
def dkwX0_digest_5 : List UInt8 := [162, 0, 59, 43, 29, 50, 58, 4, 25, 4, 199, 0, 7, 2, 167, 0, 6, 25, 4, 190, 54, 5, 42]
abbrev dktX0_digest_5 : List UInt8 := dkwX0_digest_5 ++ dktX0_digest_6
def dkwX0_digest_4 : List UInt8 := [132, 6, 1, 167, 255, 237, 132, 3, 1, 167, 255, 198, 42, 180, 0, 34, 76, 43, 190, 61, 3, 62, 29, 28]
abbrev dktX0_digest_4 : List UInt8 := dkwX0_digest_4 ++ dktX0_digest_5
def dkwX0_digest_3 : List UInt8 := [21, 5, 182, 1, 120, 3, 54, 6, 21, 6, 21, 5, 162, 0, 18, 42, 25, 4, 21, 6, 46, 182, 1, 120]
abbrev dktX0_digest_3 : List UInt8 := dkwX0_digest_3 ++ dktX0_digest_4
def dkwX0_digest_2 : List UInt8 := [162, 0, 59, 43, 29, 50, 58, 4, 25, 4, 199, 0, 7, 2, 167, 0, 6, 25, 4, 190, 54, 5, 42]
abbrev dktX0_digest_2 : List UInt8 := dkwX0_digest_2 ++ dktX0_digest_3
def dkwX0_digest_1 : List UInt8 := [132, 1, 1, 167, 255, 238, 42, 182, 1, 126, 42, 180, 0, 28, 76, 43, 190, 61, 3, 62, 29, 28]
abbrev dktX0_digest_1 : List UInt8 := dkwX0_digest_1 ++ dktX0_digest_2
def dkwX0_digest_0 : List UInt8 := [42, 20, 1, 124, 181, 1, 117, 3, 60, 27, 16, 8, 163, 0, 18, 42, 42, 27, 182, 1, 112, 182, 1, 120]
abbrev dktX0_digest_0 : List UInt8 := dkwX0_digest_0 ++ dktX0_digest_1
theorem dksX0_digest_0 : cX0_digest.data.toList.drop 0 = dktX0_digest_0 := by decide +kernel
theorem dksX0_digest_1 : cX0_digest.data.toList.drop 24 = dktX0_digest_1 := dk_seg dksX0_digest_0 24 rfl rfl
theorem dksX0_digest_2 : cX0_digest.data.toList.drop 46 = dktX0_digest_2 := dk_seg dksX0_digest_1 22 rfl rfl
theorem dksX0_digest_3 : cX0_digest.data.toList.drop 69 = dktX0_digest_3 := dk_seg dksX0_digest_2 23 rfl rfl
theorem dksX0_digest_4 : cX0_digest.data.toList.drop 93 = dktX0_digest_4 := dk_seg dksX0_digest_3 24 rfl rfl
theorem dksX0_digest_5 : cX0_digest.data.toList.drop 117 = dktX0_digest_5 := dk_seg dksX0_digest_4 24 rfl rfl
theorem dksX0_digest_6 : cX0_digest.data.toList.drop 140 = dktX0_digest_6 := dk_seg dksX0_digest_5 23 rfl rfl
theorem dksX0_digest_7 : cX0_digest.data.toList.drop 164 = dktX0_digest_7 := dk_seg dksX0_digest_6 24 rfl rfl
theorem dX0_digest_0 : decode cX0_digest 0 = .ok (.aload_n 0, 1) := dk_42 (dk_at dksX0_digest_0 0 rfl rfl)
theorem dX0_digest_1 : decode cX0_digest 1 = .ok (.ldc2_w 380, 3) := dk_20 1 124 (dk_at dksX0_digest_0 1 rfl rfl)
theorem dX0_digest_4 : decode cX0_digest 4 = .ok (.putfield 373, 3) := dk_181 1 117 (dk_at dksX0_digest_0 4 rfl rfl)
theorem dX0_digest_7 : decode cX0_digest 7 = .ok (.iconst 0, 1) := dk_3 (dk_at dksX0_digest_0 7 rfl rfl)
theorem dX0_digest_8 : decode cX0_digest 8 = .ok (.istore_n 1, 1) := dk_60 (dk_at dksX0_digest_0 8 rfl rfl)
theorem dX0_digest_9 : decode cX0_digest 9 = .ok (.iload_n 1, 1) := dk_27 (dk_at dksX0_digest_0 9 rfl rfl)
theorem dX0_digest_10 : decode cX0_digest 10 = .ok (.bipush 8, 2) := dk_16 8 (dk_at dksX0_digest_0 10 rfl rfl)
theorem dX0_digest_12 : decode cX0_digest 12 = .ok (.if_icmp .gt 18, 3) := dk_163 0 18 (dk_at dksX0_digest_0 12 rfl rfl)
theorem dX0_digest_15 : decode cX0_digest 15 = .ok (.aload_n 0, 1) := dk_42 (dk_at dksX0_digest_0 15 rfl rfl)
theorem dX0_digest_16 : decode cX0_digest 16 = .ok (.aload_n 0, 1) := dk_42 (dk_at dksX0_digest_0 16 rfl rfl)
theorem dX0_digest_17 : decode cX0_digest 17 = .ok (.iload_n 1, 1) := dk_27 (dk_at dksX0_digest_0 17 rfl rfl)
theorem dX0_digest_18 : decode cX0_digest 18 = .ok (.invokevirtual 368, 3) := dk_182 1 112 (dk_at dksX0_digest_0 18 rfl rfl)
theorem dX0_digest_21 : decode cX0_digest 21 = .ok (.invokevirtual 376, 3) := dk_182 1 120 (dk_at dksX0_digest_0 21 rfl rfl)
theorem dX0_digest_24 : decode cX0_digest 24 = .ok (.iinc 1 1, 3) := dk_132 1 1 (dk_at dksX0_digest_1 0 rfl rfl)
theorem dX0_digest_27 : decode cX0_digest 27 = .ok (.goto (-18), 3) := dk_167 255 238 (dk_at dksX0_digest_1 3 rfl rfl)
theorem dX0_digest_30 : decode cX0_digest 30 = .ok (.aload_n 0, 1) := dk_42 (dk_at dksX0_digest_1 6 rfl rfl)
theorem dX0_digest_31 : decode cX0_digest 31 = .ok (.invokevirtual 382, 3) := dk_182 1 126 (dk_at dksX0_digest_1 7 rfl rfl)
theorem dX0_digest_34 : decode cX0_digest 34 = .ok (.aload_n 0, 1) := dk_42 (dk_at dksX0_digest_1 10 rfl rfl)
theorem dX0_digest_35 : decode cX0_digest 35 = .ok (.getfield 28, 3) := dk_180 0 28 (dk_at dksX0_digest_1 11 rfl rfl)
theorem dX0_digest_38 : decode cX0_digest 38 = .ok (.astore_n 1, 1) := dk_76 (dk_at dksX0_digest_1 14 rfl rfl)
theorem dX0_digest_39 : decode cX0_digest 39 = .ok (.aload_n 1, 1) := dk_43 (dk_at dksX0_digest_1 15 rfl rfl)
theorem dX0_digest_40 : decode cX0_digest 40 = .ok (.arraylength, 1) := dk_190 (dk_at dksX0_digest_1 16 rfl rfl)
theorem dX0_digest_41 : decode cX0_digest 41 = .ok (.istore_n 2, 1) := dk_61 (dk_at dksX0_digest_1 17 rfl rfl)
theorem dX0_digest_42 : decode cX0_digest 42 = .ok (.iconst 0, 1) := dk_3 (dk_at dksX0_digest_1 18 rfl rfl)
theorem dX0_digest_43 : decode cX0_digest 43 = .ok (.istore_n 3, 1) := dk_62 (dk_at dksX0_digest_1 19 rfl rfl)
theorem dX0_digest_44 : decode cX0_digest 44 = .ok (.iload_n 3, 1) := dk_29 (dk_at dksX0_digest_1 20 rfl rfl)
theorem dX0_digest_45 : decode cX0_digest 45 = .ok (.iload_n 2, 1) := dk_28 (dk_at dksX0_digest_1 21 rfl rfl)
theorem dX0_digest_46 : decode cX0_digest 46 = .ok (.if_icmp .ge 59, 3) := dk_162 0 59 (dk_at dksX0_digest_2 0 rfl rfl)
theorem dX0_digest_49 : decode cX0_digest 49 = .ok (.aload_n 1, 1) := dk_43 (dk_at dksX0_digest_2 3 rfl rfl)
theorem dX0_digest_50 : decode cX0_digest 50 = .ok (.iload_n 3, 1) := dk_29 (dk_at dksX0_digest_2 4 rfl rfl)
theorem dX0_digest_51 : decode cX0_digest 51 = .ok (.aaload, 1) := dk_50 (dk_at dksX0_digest_2 5 rfl rfl)
theorem dX0_digest_52 : decode cX0_digest 52 = .ok (.astore 4, 2) := dk_58 4 (dk_at dksX0_digest_2 6 rfl rfl)
theorem dX0_digest_54 : decode cX0_digest 54 = .ok (.aload 4, 2) := dk_25 4 (dk_at dksX0_digest_2 8 rfl rfl)
theorem dX0_digest_56 : decode cX0_digest 56 = .ok (.ifnonnull 7, 3) := dk_199 0 7 (dk_at dksX0_digest_2 10 rfl rfl)
theorem dX0_digest_59 : decode cX0_digest 59 = .ok (.iconst (-1), 1) := dk_2 (dk_at dksX0_digest_2 13 rfl rfl)
theorem dX0_digest_60 : decode cX0_digest 60 = .ok (.goto 6, 3) := dk_167 0 6 (dk_at dksX0_digest_2 14 rfl rfl)
theorem dX0_digest_63 : decode cX0_digest 63 = .ok (.aload 4, 2) := dk_25 4 (dk_at dksX0_digest_2 17 rfl rfl)
theorem dX0_digest_65 : decode cX0_digest 65 = .ok (.arraylength, 1) := dk_190 (dk_at dksX0_digest_2 19 rfl rfl)
theorem dX0_digest_66 : decode cX0_digest 66 = .ok (.istore 5, 2) := dk_54 5 (dk_at dksX0_digest_2 20 rfl rfl)
theorem dX0_digest_68 : decode cX0_digest 68 = .ok (.aload_n 0, 1) := dk_42 (dk_at dksX0_digest_2 22 rfl rfl)
theorem dX0_digest_69 : decode cX0_digest 69 = .ok (.iload 5, 2) := dk_21 5 (dk_at dksX0_digest_3 0 rfl rfl)
theorem dX0_digest_71 : decode cX0_digest 71 = .ok (.invokevirtual 376, 3) := dk_182 1 120 (dk_at dksX0_digest_3 2 rfl rfl)
theorem dX0_digest_74 : decode cX0_digest 74 = .ok (.iconst 0, 1) := dk_3 (dk_at dksX0_digest_3 5 rfl rfl)
theorem dX0_digest_75 : decode cX0_digest 75 = .ok (.istore 6, 2) := dk_54 6 (dk_at dksX0_digest_3 6 rfl rfl)
theorem dX0_digest_77 : decode cX0_digest 77 = .ok (.iload 6, 2) := dk_21 6 (dk_at dksX0_digest_3 8 rfl rfl)
theorem dX0_digest_79 : decode cX0_digest 79 = .ok (.iload 5, 2) := dk_21 5 (dk_at dksX0_digest_3 10 rfl rfl)
theorem dX0_digest_81 : decode cX0_digest 81 = .ok (.if_icmp .ge 18, 3) := dk_162 0 18 (dk_at dksX0_digest_3 12 rfl rfl)
theorem dX0_digest_84 : decode cX0_digest 84 = .ok (.aload_n 0, 1) := dk_42 (dk_at dksX0_digest_3 15 rfl rfl)
theorem dX0_digest_85 : decode cX0_digest 85 = .ok (.aload 4, 2) := dk_25 4 (dk_at dksX0_digest_3 16 rfl rfl)
theorem dX0_digest_87 : decode cX0_digest 87 = .ok (.iload 6, 2) := dk_21 6 (dk_at dksX0_digest_3 18 rfl rfl)
theorem dX0_digest_89 : decode cX0_digest 89 = .ok (.iaload, 1) := dk_46 (dk_at dksX0_digest_3 20 rfl rfl)
theorem dX0_digest_90 : decode cX0_digest 90 = .ok (.invokevirtual 376, 3) := dk_182 1 120 (dk_at dksX0_digest_3 21 rfl rfl)
theorem dX0_digest_93 : decode cX0_digest 93 = .ok (.iinc 6 1, 3) := dk_132 6 1 (dk_at dksX0_digest_4 0 rfl rfl)
theorem dX0_digest_96 : decode cX0_digest 96 = .ok (.goto (-19), 3) := dk_167 255 237 (dk_at dksX0_digest_4 3 rfl rfl)
theorem dX0_digest_99 : decode cX0_digest 99 = .ok (.iinc 3 1, 3) := dk_132 3 1 (dk_at dksX0_digest_4 6 rfl rfl)
theorem dX0_digest_102 : decode cX0_digest 102 = .ok (.goto (-58), 3) := dk_167 255 198 (dk_at dksX0_digest_4 9 rfl rfl)
theorem dX0_digest_105 : decode cX0_digest 105 = .ok (.aload_n 0, 1) := dk_42 (dk_at dksX0_digest_4 12 rfl rfl)
theorem dX0_digest_106 : decode cX0_digest 106 = .ok (.getfield 34, 3) := dk_180 0 34 (dk_at dksX0_digest_4 13 rfl rfl)
theorem dX0_digest_109 : decode cX0_digest 109 = .ok (.astore_n 1, 1) := dk_76 (dk_at dksX0_digest_4 16 rfl rfl)
theorem dX0_digest_110 : decode cX0_digest 110 = .ok (.aload_n 1, 1) := dk_43 (dk_at dksX0_digest_4 17 rfl rfl)
theorem dX0_digest_111 : decode cX0_digest 111 = .ok (.arraylength, 1) := dk_190 (dk_at dksX0_digest_4 18 rfl rfl)
theorem dX0_digest_112 : decode cX0_digest 112 = .ok (.istore_n 2, 1) := dk_61 (dk_at dksX0_digest_4 19 rfl rfl)
theorem dX0_digest_113 : decode cX0_digest 113 = .ok (.iconst 0, 1) := dk_3 (dk_at dksX0_digest_4 20 rfl rfl)
theorem dX0_digest_114 : decode cX0_digest 114 = .ok (.istore_n 3, 1) := dk_62 (dk_at dksX0_digest_4 21 rfl rfl)
theorem dX0_digest_115 : decode cX0_digest 115 = .ok (.iload_n 3, 1) := dk_29 (dk_at dksX0_digest_4 22 rfl rfl)
theorem dX0_digest_116 : decode cX0_digest 116 = .ok (.iload_n 2, 1) := dk_28 (dk_at dksX0_digest_4 23 rfl rfl)
theorem dX0_digest_117 : decode cX0_digest 117 = .ok (.if_icmp .ge 59, 3) := dk_162 0 59 (dk_at dksX0_digest_5 0 rfl rfl)
theorem dX0_digest_120 : decode cX0_digest 120 = .ok (.aload_n 1, 1) := dk_43 (dk_at dksX0_digest_5 3 rfl rfl)
theorem dX0_digest_121 : decode cX0_digest 121 = .ok (.iload_n 3, 1) := dk_29 (dk_at dksX0_digest_5 4 rfl rfl)
theorem dX0_digest_122 : decode cX0_digest 122 = .ok (.aaload, 1) := dk_50 (dk_at dksX0_digest_5 5 rfl rfl)
theorem dX0_digest_123 : decode cX0_digest 123 = .ok (.astore 4, 2) := dk_58 4 (dk_at dksX0_digest_5 6 rfl rfl)
theorem dX0_digest_125 : decode cX0_digest 125 = .ok (.aload 4, 2) := dk_25 4 (dk_at dksX0_digest_5 8 rfl rfl)
theorem dX0_digest_127 : decode cX0_digest 127 = .ok (.ifnonnull 7, 3) := dk_199 0 7 (dk_at dksX0_digest_5 10 rfl rfl)
theorem dX0_digest_130 : decode cX0_digest 130 = .ok (.iconst (-1), 1) := dk_2 (dk_at dksX0_digest_5 13 rfl rfl)
theorem dX0_digest_131 : decode cX0_digest 131 = .ok (.goto 6, 3) := dk_167 0 6 (dk_at dksX0_digest_5 14 rfl rfl)
theorem dX0_digest_134 : decode cX0_digest 134 = .ok (.aload 4, 2) := dk_25 4 (dk_at dksX0_digest_5 17 rfl rfl)
theorem dX0_digest_136 : decode cX0_digest 136 = .ok (.arraylength, 1) := dk_190 (dk_at dksX0_digest_5 19 rfl rfl)
theorem dX0_digest_137 : decode cX0_digest 137 = .ok (.istore 5, 2) := dk_54 5 (dk_at dksX0_digest_5 20 rfl rfl)
theorem dX0_digest_139 : decode cX0_digest 139 = .ok (.aload_n 0, 1) := dk_42 (dk_at dksX0_digest_5 22 rfl rfl)
theorem dX0_digest_140 : decode cX0_digest 140 = .ok (.iload 5, 2) := dk_21 5 (dk_at dksX0_digest_6 0 rfl rfl)
theorem dX0_digest_142 : decode cX0_digest 142 = .ok (.invokevirtual 376, 3) := dk_182 1 120 (dk_at dksX0_digest_6 2 rfl rfl)
theorem dX0_digest_145 : decode cX0_digest 145 = .ok (.iconst 0, 1) := dk_3 (dk_at dksX0_digest_6 5 rfl rfl)
theorem dX0_digest_146 : decode cX0_digest 146 = .ok (.istore 6, 2) := dk_54 6 (dk_at dksX0_digest_6 6 rfl rfl)
theorem dX0_digest_148 : decode cX0_digest 148 = .ok (.iload 6, 2) := dk_21 6 (dk_at dksX0_digest_6 8 rfl rfl)
theorem dX0_digest_150 : decode cX0_digest 150 = .ok (.iload 5, 2) := dk_21 5 (dk_at dksX0_digest_6 10 rfl rfl)
theorem dX0_digest_152 : decode cX0_digest 152 = .ok (.if_icmp .ge 18, 3) := dk_162 0 18 (dk_at dksX0_digest_6 12 rfl rfl)
theorem dX0_digest_155 : decode cX0_digest 155 = .ok (.aload_n 0, 1) := dk_42 (dk_at dksX0_digest_6 15 rfl rfl)
theorem dX0_digest_156 : decode cX0_digest 156 = .ok (.aload 4, 2) := dk_25 4 (dk_at dksX0_digest_6 16 rfl rfl)
theorem dX0_digest_158 : decode cX0_digest 158 = .ok (.iload 6, 2) := dk_21 6 (dk_at dksX0_digest_6 18 rfl rfl)
theorem dX0_digest_160 : decode cX0_digest 160 = .ok (.baload, 1) := dk_51 (dk_at dksX0_digest_6 20 rfl rfl)
theorem dX0_digest_161 : decode cX0_digest 161 = .ok (.invokevirtual 376, 3) := dk_182 1 120 (dk_at dksX0_digest_6 21 rfl rfl)
theorem dX0_digest_164 : decode cX0_digest 164 = .ok (.iinc 6 1, 3) := dk_132 6 1 (dk_at dksX0_digest_7 0 rfl rfl)
theorem dX0_digest_167 : decode cX0_digest 167 = .ok (.goto (-19), 3) := dk_167 255 237 (dk_at dksX0_digest_7 3 rfl rfl)
theorem dX0_digest_170 : decode cX0_digest 170 = .ok (.iinc 3 1, 3) := dk_132 3 1 (dk_at dksX0_digest_7 6 rfl rfl)
theorem dX0_digest_173 : decode cX0_digest 173 = .ok (.goto (-58), 3) := dk_167 255 198 (dk_at dksX0_digest_7 9 rfl rfl)
theorem dX0_digest_176 : decode cX0_digest 176 = .ok (.aload_n 0, 1) := dk_42 (dk_at dksX0_digest_7 12 rfl rfl)
theorem dX0_digest_177 : decode cX0_digest 177 = .ok (.getfield 373, 3) := dk_180 1 117 (dk_at dksX0_digest_7 13 rfl rfl)
theorem dX0_digest_180 : decode cX0_digest 180 = .ok (.lreturn, 1) := dk_173 (dk_at dksX0_digest_7 16 rfl rfl)
abbrev cX0_mix : ByteArray := prog_1_method_98_code
def yX0_mix : MethodName := ⟨RX0, "mix", "(I)V"⟩
def dkwX0_mix_0 : List UInt8 := [42, 20, 1, 115, 42, 180, 1, 117, 105, 27, 133, 97, 181, 1, 117, 177]
abbrev dktX0_mix_0 : List UInt8 := dkwX0_mix_0 ++ []
theorem dksX0_mix_0 : cX0_mix.data.toList.drop 0 = dktX0_mix_0 := by decide +kernel
theorem dX0_mix_0 : decode cX0_mix 0 = .ok (.aload_n 0, 1) := dk_42 (dk_at dksX0_mix_0 0 rfl rfl)
theorem dX0_mix_1 : decode cX0_mix 1 = .ok (.ldc2_w 371, 3) := dk_20 1 115 (dk_at dksX0_mix_0 1 rfl rfl)
theorem dX0_mix_4 : decode cX0_mix 4 = .ok (.aload_n 0, 1) := dk_42 (dk_at dksX0_mix_0 4 rfl rfl)
theorem dX0_mix_5 : decode cX0_mix 5 = .ok (.getfield 373, 3) := dk_180 1 117 (dk_at dksX0_mix_0 5 rfl rfl)
theorem dX0_mix_8 : decode cX0_mix 8 = .ok (.lmul, 1) := dk_105 (dk_at dksX0_mix_0 8 rfl rfl)
theorem dX0_mix_9 : decode cX0_mix 9 = .ok (.iload_n 1, 1) := dk_27 (dk_at dksX0_mix_0 9 rfl rfl)
theorem dX0_mix_10 : decode cX0_mix 10 = .ok (.i2l, 1) := dk_133 (dk_at dksX0_mix_0 10 rfl rfl)
theorem dX0_mix_11 : decode cX0_mix 11 = .ok (.ladd, 1) := dk_97 (dk_at dksX0_mix_0 11 rfl rfl)
theorem dX0_mix_12 : decode cX0_mix 12 = .ok (.putfield 373, 3) := dk_181 1 117 (dk_at dksX0_mix_0 12 rfl rfl)
theorem dX0_mix_15 : decode cX0_mix 15 = .ok (.return_, 1) := dk_177 (dk_at dksX0_mix_0 15 rfl rfl)
abbrev cX0_mixLibrary : ByteArray := prog_1_method_99_code
def yX0_mixLibrary : MethodName := ⟨RX0, "mixLibrary", "()V"⟩
def dkwX0_mixLibrary_6 : List UInt8 := [182, 1, 120, 132, 3, 1, 167, 255, 225, 177]
abbrev dktX0_mixLibrary_6 : List UInt8 := dkwX0_mixLibrary_6 ++ []
def dkwX0_mixLibrary_5 : List UInt8 := [162, 0, 32, 43, 29, 50, 58, 4, 42, 25, 4, 199, 0, 7, 2, 167, 0, 8, 25, 4, 180, 1, 9]
abbrev dktX0_mixLibrary_5 : List UInt8 := dkwX0_mixLibrary_5 ++ dktX0_mixLibrary_6
def dkwX0_mixLibrary_4 : List UInt8 := [27, 46, 182, 1, 120, 132, 1, 1, 167, 255, 235, 42, 180, 0, 67, 76, 43, 190, 61, 3, 62, 29, 28]
abbrev dktX0_mixLibrary_4 : List UInt8 := dkwX0_mixLibrary_4 ++ dktX0_mixLibrary_5
def dkwX0_mixLibrary_3 : List UInt8 := [167, 255, 238, 132, 1, 1, 167, 255, 222, 3, 60, 27, 42, 180, 0, 83, 162, 0, 19, 42, 42, 180, 0, 59]
abbrev dktX0_mixLibrary_3 : List UInt8 := dkwX0_mixLibrary_3 ++ dktX0_mixLibrary_4
def dkwX0_mixLibrary_2 : List UInt8 := [162, 0, 32, 3, 61, 28, 8, 163, 0, 19, 42, 42, 27, 28, 182, 0, 226, 182, 1, 120, 132, 2, 1]
abbrev dktX0_mixLibrary_2 : List UInt8 := dkwX0_mixLibrary_2 ++ dktX0_mixLibrary_3
def dkwX0_mixLibrary_1 : List UInt8 := [182, 1, 120, 132, 2, 1, 167, 255, 238, 132, 1, 1, 167, 255, 222, 3, 60, 27, 42, 180, 0, 182]
abbrev dktX0_mixLibrary_1 : List UInt8 := dkwX0_mixLibrary_1 ++ dktX0_mixLibrary_2
def dkwX0_mixLibrary_0 : List UInt8 := [3, 60, 27, 42, 180, 0, 175, 162, 0, 32, 3, 61, 28, 8, 163, 0, 19, 42, 42, 27, 28, 182, 0, 220]
abbrev dktX0_mixLibrary_0 : List UInt8 := dkwX0_mixLibrary_0 ++ dktX0_mixLibrary_1
theorem dksX0_mixLibrary_0 : cX0_mixLibrary.data.toList.drop 0 = dktX0_mixLibrary_0 := by decide +kernel
theorem dksX0_mixLibrary_1 : cX0_mixLibrary.data.toList.drop 24 = dktX0_mixLibrary_1 := dk_seg dksX0_mixLibrary_0 24 rfl rfl
theorem dksX0_mixLibrary_2 : cX0_mixLibrary.data.toList.drop 46 = dktX0_mixLibrary_2 := dk_seg dksX0_mixLibrary_1 22 rfl rfl
theorem dksX0_mixLibrary_3 : cX0_mixLibrary.data.toList.drop 69 = dktX0_mixLibrary_3 := dk_seg dksX0_mixLibrary_2 23 rfl rfl
theorem dksX0_mixLibrary_4 : cX0_mixLibrary.data.toList.drop 93 = dktX0_mixLibrary_4 := dk_seg dksX0_mixLibrary_3 24 rfl rfl
theorem dksX0_mixLibrary_5 : cX0_mixLibrary.data.toList.drop 116 = dktX0_mixLibrary_5 := dk_seg dksX0_mixLibrary_4 23 rfl rfl
theorem dksX0_mixLibrary_6 : cX0_mixLibrary.data.toList.drop 139 = dktX0_mixLibrary_6 := dk_seg dksX0_mixLibrary_5 23 rfl rfl
theorem dX0_mixLibrary_0 : decode cX0_mixLibrary 0 = .ok (.iconst 0, 1) := dk_3 (dk_at dksX0_mixLibrary_0 0 rfl rfl)
theorem dX0_mixLibrary_1 : decode cX0_mixLibrary 1 = .ok (.istore_n 1, 1) := dk_60 (dk_at dksX0_mixLibrary_0 1 rfl rfl)
theorem dX0_mixLibrary_2 : decode cX0_mixLibrary 2 = .ok (.iload_n 1, 1) := dk_27 (dk_at dksX0_mixLibrary_0 2 rfl rfl)
theorem dX0_mixLibrary_3 : decode cX0_mixLibrary 3 = .ok (.aload_n 0, 1) := dk_42 (dk_at dksX0_mixLibrary_0 3 rfl rfl)
theorem dX0_mixLibrary_4 : decode cX0_mixLibrary 4 = .ok (.getfield 175, 3) := dk_180 0 175 (dk_at dksX0_mixLibrary_0 4 rfl rfl)
theorem dX0_mixLibrary_7 : decode cX0_mixLibrary 7 = .ok (.if_icmp .ge 32, 3) := dk_162 0 32 (dk_at dksX0_mixLibrary_0 7 rfl rfl)
theorem dX0_mixLibrary_10 : decode cX0_mixLibrary 10 = .ok (.iconst 0, 1) := dk_3 (dk_at dksX0_mixLibrary_0 10 rfl rfl)
theorem dX0_mixLibrary_11 : decode cX0_mixLibrary 11 = .ok (.istore_n 2, 1) := dk_61 (dk_at dksX0_mixLibrary_0 11 rfl rfl)
theorem dX0_mixLibrary_12 : decode cX0_mixLibrary 12 = .ok (.iload_n 2, 1) := dk_28 (dk_at dksX0_mixLibrary_0 12 rfl rfl)
theorem dX0_mixLibrary_13 : decode cX0_mixLibrary 13 = .ok (.iconst 5, 1) := dk_8 (dk_at dksX0_mixLibrary_0 13 rfl rfl)
theorem dX0_mixLibrary_14 : decode cX0_mixLibrary 14 = .ok (.if_icmp .gt 19, 3) := dk_163 0 19 (dk_at dksX0_mixLibrary_0 14 rfl rfl)
theorem dX0_mixLibrary_17 : decode cX0_mixLibrary 17 = .ok (.aload_n 0, 1) := dk_42 (dk_at dksX0_mixLibrary_0 17 rfl rfl)
theorem dX0_mixLibrary_18 : decode cX0_mixLibrary 18 = .ok (.aload_n 0, 1) := dk_42 (dk_at dksX0_mixLibrary_0 18 rfl rfl)
theorem dX0_mixLibrary_19 : decode cX0_mixLibrary 19 = .ok (.iload_n 1, 1) := dk_27 (dk_at dksX0_mixLibrary_0 19 rfl rfl)
theorem dX0_mixLibrary_20 : decode cX0_mixLibrary 20 = .ok (.iload_n 2, 1) := dk_28 (dk_at dksX0_mixLibrary_0 20 rfl rfl)
theorem dX0_mixLibrary_21 : decode cX0_mixLibrary 21 = .ok (.invokevirtual 220, 3) := dk_182 0 220 (dk_at dksX0_mixLibrary_0 21 rfl rfl)
theorem dX0_mixLibrary_24 : decode cX0_mixLibrary 24 = .ok (.invokevirtual 376, 3) := dk_182 1 120 (dk_at dksX0_mixLibrary_1 0 rfl rfl)
theorem dX0_mixLibrary_27 : decode cX0_mixLibrary 27 = .ok (.iinc 2 1, 3) := dk_132 2 1 (dk_at dksX0_mixLibrary_1 3 rfl rfl)
theorem dX0_mixLibrary_30 : decode cX0_mixLibrary 30 = .ok (.goto (-18), 3) := dk_167 255 238 (dk_at dksX0_mixLibrary_1 6 rfl rfl)
theorem dX0_mixLibrary_33 : decode cX0_mixLibrary 33 = .ok (.iinc 1 1, 3) := dk_132 1 1 (dk_at dksX0_mixLibrary_1 9 rfl rfl)
theorem dX0_mixLibrary_36 : decode cX0_mixLibrary 36 = .ok (.goto (-34), 3) := dk_167 255 222 (dk_at dksX0_mixLibrary_1 12 rfl rfl)
theorem dX0_mixLibrary_39 : decode cX0_mixLibrary 39 = .ok (.iconst 0, 1) := dk_3 (dk_at dksX0_mixLibrary_1 15 rfl rfl)
theorem dX0_mixLibrary_40 : decode cX0_mixLibrary 40 = .ok (.istore_n 1, 1) := dk_60 (dk_at dksX0_mixLibrary_1 16 rfl rfl)
theorem dX0_mixLibrary_41 : decode cX0_mixLibrary 41 = .ok (.iload_n 1, 1) := dk_27 (dk_at dksX0_mixLibrary_1 17 rfl rfl)
theorem dX0_mixLibrary_42 : decode cX0_mixLibrary 42 = .ok (.aload_n 0, 1) := dk_42 (dk_at dksX0_mixLibrary_1 18 rfl rfl)
theorem dX0_mixLibrary_43 : decode cX0_mixLibrary 43 = .ok (.getfield 182, 3) := dk_180 0 182 (dk_at dksX0_mixLibrary_1 19 rfl rfl)
theorem dX0_mixLibrary_46 : decode cX0_mixLibrary 46 = .ok (.if_icmp .ge 32, 3) := dk_162 0 32 (dk_at dksX0_mixLibrary_2 0 rfl rfl)
theorem dX0_mixLibrary_49 : decode cX0_mixLibrary 49 = .ok (.iconst 0, 1) := dk_3 (dk_at dksX0_mixLibrary_2 3 rfl rfl)
theorem dX0_mixLibrary_50 : decode cX0_mixLibrary 50 = .ok (.istore_n 2, 1) := dk_61 (dk_at dksX0_mixLibrary_2 4 rfl rfl)
theorem dX0_mixLibrary_51 : decode cX0_mixLibrary 51 = .ok (.iload_n 2, 1) := dk_28 (dk_at dksX0_mixLibrary_2 5 rfl rfl)
theorem dX0_mixLibrary_52 : decode cX0_mixLibrary 52 = .ok (.iconst 5, 1) := dk_8 (dk_at dksX0_mixLibrary_2 6 rfl rfl)
theorem dX0_mixLibrary_53 : decode cX0_mixLibrary 53 = .ok (.if_icmp .gt 19, 3) := dk_163 0 19 (dk_at dksX0_mixLibrary_2 7 rfl rfl)
theorem dX0_mixLibrary_56 : decode cX0_mixLibrary 56 = .ok (.aload_n 0, 1) := dk_42 (dk_at dksX0_mixLibrary_2 10 rfl rfl)
theorem dX0_mixLibrary_57 : decode cX0_mixLibrary 57 = .ok (.aload_n 0, 1) := dk_42 (dk_at dksX0_mixLibrary_2 11 rfl rfl)
theorem dX0_mixLibrary_58 : decode cX0_mixLibrary 58 = .ok (.iload_n 1, 1) := dk_27 (dk_at dksX0_mixLibrary_2 12 rfl rfl)
theorem dX0_mixLibrary_59 : decode cX0_mixLibrary 59 = .ok (.iload_n 2, 1) := dk_28 (dk_at dksX0_mixLibrary_2 13 rfl rfl)
theorem dX0_mixLibrary_60 : decode cX0_mixLibrary 60 = .ok (.invokevirtual 226, 3) := dk_182 0 226 (dk_at dksX0_mixLibrary_2 14 rfl rfl)
theorem dX0_mixLibrary_63 : decode cX0_mixLibrary 63 = .ok (.invokevirtual 376, 3) := dk_182 1 120 (dk_at dksX0_mixLibrary_2 17 rfl rfl)
theorem dX0_mixLibrary_66 : decode cX0_mixLibrary 66 = .ok (.iinc 2 1, 3) := dk_132 2 1 (dk_at dksX0_mixLibrary_2 20 rfl rfl)
theorem dX0_mixLibrary_69 : decode cX0_mixLibrary 69 = .ok (.goto (-18), 3) := dk_167 255 238 (dk_at dksX0_mixLibrary_3 0 rfl rfl)
theorem dX0_mixLibrary_72 : decode cX0_mixLibrary 72 = .ok (.iinc 1 1, 3) := dk_132 1 1 (dk_at dksX0_mixLibrary_3 3 rfl rfl)
theorem dX0_mixLibrary_75 : decode cX0_mixLibrary 75 = .ok (.goto (-34), 3) := dk_167 255 222 (dk_at dksX0_mixLibrary_3 6 rfl rfl)
theorem dX0_mixLibrary_78 : decode cX0_mixLibrary 78 = .ok (.iconst 0, 1) := dk_3 (dk_at dksX0_mixLibrary_3 9 rfl rfl)
theorem dX0_mixLibrary_79 : decode cX0_mixLibrary 79 = .ok (.istore_n 1, 1) := dk_60 (dk_at dksX0_mixLibrary_3 10 rfl rfl)
theorem dX0_mixLibrary_80 : decode cX0_mixLibrary 80 = .ok (.iload_n 1, 1) := dk_27 (dk_at dksX0_mixLibrary_3 11 rfl rfl)
theorem dX0_mixLibrary_81 : decode cX0_mixLibrary 81 = .ok (.aload_n 0, 1) := dk_42 (dk_at dksX0_mixLibrary_3 12 rfl rfl)
theorem dX0_mixLibrary_82 : decode cX0_mixLibrary 82 = .ok (.getfield 83, 3) := dk_180 0 83 (dk_at dksX0_mixLibrary_3 13 rfl rfl)
theorem dX0_mixLibrary_85 : decode cX0_mixLibrary 85 = .ok (.if_icmp .ge 19, 3) := dk_162 0 19 (dk_at dksX0_mixLibrary_3 16 rfl rfl)
theorem dX0_mixLibrary_88 : decode cX0_mixLibrary 88 = .ok (.aload_n 0, 1) := dk_42 (dk_at dksX0_mixLibrary_3 19 rfl rfl)
theorem dX0_mixLibrary_89 : decode cX0_mixLibrary 89 = .ok (.aload_n 0, 1) := dk_42 (dk_at dksX0_mixLibrary_3 20 rfl rfl)
theorem dX0_mixLibrary_90 : decode cX0_mixLibrary 90 = .ok (.getfield 59, 3) := dk_180 0 59 (dk_at dksX0_mixLibrary_3 21 rfl rfl)
theorem dX0_mixLibrary_93 : decode cX0_mixLibrary 93 = .ok (.iload_n 1, 1) := dk_27 (dk_at dksX0_mixLibrary_4 0 rfl rfl)
theorem dX0_mixLibrary_94 : decode cX0_mixLibrary 94 = .ok (.iaload, 1) := dk_46 (dk_at dksX0_mixLibrary_4 1 rfl rfl)
theorem dX0_mixLibrary_95 : decode cX0_mixLibrary 95 = .ok (.invokevirtual 376, 3) := dk_182 1 120 (dk_at dksX0_mixLibrary_4 2 rfl rfl)
theorem dX0_mixLibrary_98 : decode cX0_mixLibrary 98 = .ok (.iinc 1 1, 3) := dk_132 1 1 (dk_at dksX0_mixLibrary_4 5 rfl rfl)
theorem dX0_mixLibrary_101 : decode cX0_mixLibrary 101 = .ok (.goto (-21), 3) := dk_167 255 235 (dk_at dksX0_mixLibrary_4 8 rfl rfl)
theorem dX0_mixLibrary_104 : decode cX0_mixLibrary 104 = .ok (.aload_n 0, 1) := dk_42 (dk_at dksX0_mixLibrary_4 11 rfl rfl)
theorem dX0_mixLibrary_105 : decode cX0_mixLibrary 105 = .ok (.getfield 67, 3) := dk_180 0 67 (dk_at dksX0_mixLibrary_4 12 rfl rfl)
theorem dX0_mixLibrary_108 : decode cX0_mixLibrary 108 = .ok (.astore_n 1, 1) := dk_76 (dk_at dksX0_mixLibrary_4 15 rfl rfl)
theorem dX0_mixLibrary_109 : decode cX0_mixLibrary 109 = .ok (.aload_n 1, 1) := dk_43 (dk_at dksX0_mixLibrary_4 16 rfl rfl)
theorem dX0_mixLibrary_110 : decode cX0_mixLibrary 110 = .ok (.arraylength, 1) := dk_190 (dk_at dksX0_mixLibrary_4 17 rfl rfl)
theorem dX0_mixLibrary_111 : decode cX0_mixLibrary 111 = .ok (.istore_n 2, 1) := dk_61 (dk_at dksX0_mixLibrary_4 18 rfl rfl)
theorem dX0_mixLibrary_112 : decode cX0_mixLibrary 112 = .ok (.iconst 0, 1) := dk_3 (dk_at dksX0_mixLibrary_4 19 rfl rfl)
theorem dX0_mixLibrary_113 : decode cX0_mixLibrary 113 = .ok (.istore_n 3, 1) := dk_62 (dk_at dksX0_mixLibrary_4 20 rfl rfl)
theorem dX0_mixLibrary_114 : decode cX0_mixLibrary 114 = .ok (.iload_n 3, 1) := dk_29 (dk_at dksX0_mixLibrary_4 21 rfl rfl)
theorem dX0_mixLibrary_115 : decode cX0_mixLibrary 115 = .ok (.iload_n 2, 1) := dk_28 (dk_at dksX0_mixLibrary_4 22 rfl rfl)
theorem dX0_mixLibrary_116 : decode cX0_mixLibrary 116 = .ok (.if_icmp .ge 32, 3) := dk_162 0 32 (dk_at dksX0_mixLibrary_5 0 rfl rfl)
theorem dX0_mixLibrary_119 : decode cX0_mixLibrary 119 = .ok (.aload_n 1, 1) := dk_43 (dk_at dksX0_mixLibrary_5 3 rfl rfl)
theorem dX0_mixLibrary_120 : decode cX0_mixLibrary 120 = .ok (.iload_n 3, 1) := dk_29 (dk_at dksX0_mixLibrary_5 4 rfl rfl)
theorem dX0_mixLibrary_121 : decode cX0_mixLibrary 121 = .ok (.aaload, 1) := dk_50 (dk_at dksX0_mixLibrary_5 5 rfl rfl)
theorem dX0_mixLibrary_122 : decode cX0_mixLibrary 122 = .ok (.astore 4, 2) := dk_58 4 (dk_at dksX0_mixLibrary_5 6 rfl rfl)
theorem dX0_mixLibrary_124 : decode cX0_mixLibrary 124 = .ok (.aload_n 0, 1) := dk_42 (dk_at dksX0_mixLibrary_5 8 rfl rfl)
theorem dX0_mixLibrary_125 : decode cX0_mixLibrary 125 = .ok (.aload 4, 2) := dk_25 4 (dk_at dksX0_mixLibrary_5 9 rfl rfl)
theorem dX0_mixLibrary_127 : decode cX0_mixLibrary 127 = .ok (.ifnonnull 7, 3) := dk_199 0 7 (dk_at dksX0_mixLibrary_5 11 rfl rfl)
theorem dX0_mixLibrary_130 : decode cX0_mixLibrary 130 = .ok (.iconst (-1), 1) := dk_2 (dk_at dksX0_mixLibrary_5 14 rfl rfl)
theorem dX0_mixLibrary_131 : decode cX0_mixLibrary 131 = .ok (.goto 8, 3) := dk_167 0 8 (dk_at dksX0_mixLibrary_5 15 rfl rfl)
theorem dX0_mixLibrary_134 : decode cX0_mixLibrary 134 = .ok (.aload 4, 2) := dk_25 4 (dk_at dksX0_mixLibrary_5 18 rfl rfl)
theorem dX0_mixLibrary_136 : decode cX0_mixLibrary 136 = .ok (.getfield 265, 3) := dk_180 1 9 (dk_at dksX0_mixLibrary_5 20 rfl rfl)
theorem dX0_mixLibrary_139 : decode cX0_mixLibrary 139 = .ok (.invokevirtual 376, 3) := dk_182 1 120 (dk_at dksX0_mixLibrary_6 0 rfl rfl)
theorem dX0_mixLibrary_142 : decode cX0_mixLibrary 142 = .ok (.iinc 3 1, 3) := dk_132 3 1 (dk_at dksX0_mixLibrary_6 3 rfl rfl)
theorem dX0_mixLibrary_145 : decode cX0_mixLibrary 145 = .ok (.goto (-31), 3) := dk_167 255 225 (dk_at dksX0_mixLibrary_6 6 rfl rfl)
theorem dX0_mixLibrary_148 : decode cX0_mixLibrary 148 = .ok (.return_, 1) := dk_177 (dk_at dksX0_mixLibrary_6 9 rfl rfl)
theorem q74 : (Jvm.Cond.initialized "LostQuestions") ∈ lw_all := lw_g (lw_at lw_m1 1 rfl) rfl
theorem q97 : (Jvm.Cond.instantiable "LostQuestions" (30 : Nat)) ∈ lw_all := lw_g (lw_at lw_m1 24 rfl) rfl
theorem q99 : (Jvm.Cond.instanceMethod ({ cls := "LostQuestions", name := "<init>", desc := "()V" } : Jvm.MethodName)) ∈ lw_all := lw_g (lw_at lw_m1 26 rfl) rfl
theorem q100 : (Jvm.Cond.code ({ cls := "LostQuestions", name := "<init>", desc := "()V" } : Jvm.MethodName) prog_1_method_6_code (1 : Nat) (Option.none : Option Jvm.ClassFile.FieldType)) ∈ lw_all := lw_g (lw_at lw_m1 27 rfl) rfl
theorem q101 : (Jvm.Cond.methodLink "LostQuestions" (21 : Nat) ({ cls := "java/lang/Object", name := "<init>", desc := "()V" } : Jvm.MethodName)) ∈ lw_all := lw_g (lw_at lw_m1 28 rfl) rfl
theorem q104 : (Jvm.Cond.classLink "LostQuestions" (27 : Nat) "[I") ∈ lw_all := lw_g (lw_at lw_m1 31 rfl) rfl
theorem q106 : (Jvm.Cond.classLink "LostQuestions" (32 : Nat) "[B") ∈ lw_all := lw_g (lw_at lw_m1 33 rfl) rfl
theorem q108 : (Jvm.Cond.classLink "LostQuestions" (38 : Nat) "LostQuestions$Card") ∈ lw_all := lw_g (lw_at lw_m1 35 rfl) rfl
theorem q110 : (Jvm.Cond.classLink "LostQuestions" (65 : Nat) "LostQuestions$Kept") ∈ lw_all := lw_g (lw_at lw_m1 37 rfl) rfl
theorem q112 : (Jvm.Cond.fieldLink "LostQuestions" (1 : Nat) "LostQuestions" "finding" "I") ∈ lw_all := lw_g (lw_at lw_m1 39 rfl) rfl
theorem q113 : (Jvm.Cond.fieldLink "LostQuestions" (7 : Nat) "LostQuestions" "findings" "[I") ∈ lw_all := lw_g (lw_at lw_m1 40 rfl) rfl
theorem q114 : (Jvm.Cond.fieldLink "LostQuestions" (11 : Nat) "LostQuestions" "asked" "I") ∈ lw_all := lw_g (lw_at lw_m1 41 rfl) rfl
theorem q115 : (Jvm.Cond.fieldLink "LostQuestions" (14 : Nat) "LostQuestions" "upper" "J") ∈ lw_all := lw_g (lw_at lw_m1 42 rfl) rfl
theorem q116 : (Jvm.Cond.fieldLink "LostQuestions" (18 : Nat) "LostQuestions" "lower" "J") ∈ lw_all := lw_g (lw_at lw_m1 43 rfl) rfl
theorem q117 : (Jvm.Cond.fieldLink "LostQuestions" (28 : Nat) "LostQuestions" "rows" "[[I") ∈ lw_all := lw_g (lw_at lw_m1 44 rfl) rfl
theorem q118 : (Jvm.Cond.fieldLink "LostQuestions" (34 : Nat) "LostQuestions" "texts" "[[B") ∈ lw_all := lw_g (lw_at lw_m1 45 rfl) rfl
theorem q119 : (Jvm.Cond.fieldLink "LostQuestions" (175 : Nat) "LostQuestions" "many" "I") ∈ lw_all := lw_g (lw_at lw_m1 46 rfl) rfl
theorem q121 : (Jvm.Cond.fieldLink "LostQuestions" (40 : Nat) "LostQuestions" "cards" "[LLostQuestions$Card;") ∈ lw_all := lw_g (lw_at lw_m1 48 rfl) rfl
theorem q122 : (Jvm.Cond.fieldLink "LostQuestions" (182 : Nat) "LostQuestions" "askMany" "I") ∈ lw_all := lw_g (lw_at lw_m1 49 rfl) rfl
theorem q123 : (Jvm.Cond.fieldLink "LostQuestions" (44 : Nat) "LostQuestions" "asks" "[I") ∈ lw_all := lw_g (lw_at lw_m1 50 rfl) rfl
theorem q124 : (Jvm.Cond.fieldLink "LostQuestions" (47 : Nat) "LostQuestions" "truths" "[I") ∈ lw_all := lw_g (lw_at lw_m1 51 rfl) rfl
theorem q125 : (Jvm.Cond.fieldLink "LostQuestions" (50 : Nat) "LostQuestions" "by" "[I") ∈ lw_all := lw_g (lw_at lw_m1 52 rfl) rfl
theorem q126 : (Jvm.Cond.fieldLink "LostQuestions" (145 : Nat) "LostQuestions" "reading" "[B") ∈ lw_all := lw_g (lw_at lw_m1 53 rfl) rfl
theorem q127 : (Jvm.Cond.fieldLink "LostQuestions" (142 : Nat) "LostQuestions" "readAt" "I") ∈ lw_all := lw_g (lw_at lw_m1 54 rfl) rfl
theorem q128 : (Jvm.Cond.fieldLink "LostQuestions" (155 : Nat) "LostQuestions" "readMany" "I") ∈ lw_all := lw_g (lw_at lw_m1 55 rfl) rfl
theorem q129 : (Jvm.Cond.fieldLink "LostQuestions" (53 : Nat) "LostQuestions" "readCards" "[I") ∈ lw_all := lw_g (lw_at lw_m1 56 rfl) rfl
theorem q130 : (Jvm.Cond.fieldLink "LostQuestions" (158 : Nat) "LostQuestions" "readAsks" "I") ∈ lw_all := lw_g (lw_at lw_m1 57 rfl) rfl
theorem q131 : (Jvm.Cond.fieldLink "LostQuestions" (56 : Nat) "LostQuestions" "readAsk" "[I") ∈ lw_all := lw_g (lw_at lw_m1 58 rfl) rfl
theorem q132 : (Jvm.Cond.fieldLink "LostQuestions" (83 : Nat) "LostQuestions" "takingMany" "I") ∈ lw_all := lw_g (lw_at lw_m1 59 rfl) rfl
theorem q133 : (Jvm.Cond.fieldLink "LostQuestions" (59 : Nat) "LostQuestions" "takings" "[I") ∈ lw_all := lw_g (lw_at lw_m1 60 rfl) rfl
theorem q134 : (Jvm.Cond.fieldLink "LostQuestions" (62 : Nat) "LostQuestions" "ahead" "[I") ∈ lw_all := lw_g (lw_at lw_m1 61 rfl) rfl
theorem q135 : (Jvm.Cond.fieldLink "LostQuestions" (67 : Nat) "LostQuestions" "kept" "[LLostQuestions$Kept;") ∈ lw_all := lw_g (lw_at lw_m1 62 rfl) rfl
theorem q136 : (Jvm.Cond.fieldLink "LostQuestions" (71 : Nat) "LostQuestions" "pairs" "[I") ∈ lw_all := lw_g (lw_at lw_m1 63 rfl) rfl
theorem q137 : (Jvm.Cond.fieldLink "LostQuestions" (74 : Nat) "LostQuestions" "bestPairs" "[I") ∈ lw_all := lw_g (lw_at lw_m1 64 rfl) rfl
theorem q138 : (Jvm.Cond.fieldLink "LostQuestions" (276 : Nat) "LostQuestions" "bestWorth" "I") ∈ lw_all := lw_g (lw_at lw_m1 65 rfl) rfl
theorem q139 : (Jvm.Cond.fieldLink "LostQuestions" (296 : Nat) "LostQuestions" "fullMany" "I") ∈ lw_all := lw_g (lw_at lw_m1 66 rfl) rfl
theorem q140 : (Jvm.Cond.fieldLink "LostQuestions" (77 : Nat) "LostQuestions" "fullWith" "[I") ∈ lw_all := lw_g (lw_at lw_m1 67 rfl) rfl
theorem q141 : (Jvm.Cond.fieldLink "LostQuestions" (80 : Nat) "LostQuestions" "steps" "[I") ∈ lw_all := lw_g (lw_at lw_m1 68 rfl) rfl
theorem q142 : (Jvm.Cond.fieldLink "LostQuestions" (373 : Nat) "LostQuestions" "h0" "J") ∈ lw_all := lw_g (lw_at lw_m1 69 rfl) rfl
theorem q143 : (Jvm.Cond.lays "LostQuestions" "LostQuestions" "finding" "I") ∈ lw_all := lw_g (lw_at lw_m1 70 rfl) rfl
theorem q144 : (Jvm.Cond.soleField "LostQuestions" "finding") ∈ lw_all := lw_g (lw_at lw_m1 71 rfl) rfl
theorem q145 : (Jvm.Cond.laysFinal "LostQuestions" "LostQuestions" "findings" "[I") ∈ lw_all := lw_g (lw_at lw_m1 72 rfl) rfl
theorem q146 : (Jvm.Cond.soleField "LostQuestions" "findings") ∈ lw_all := lw_g (lw_at lw_m1 73 rfl) rfl
theorem q147 : (Jvm.Cond.lays "LostQuestions" "LostQuestions" "asked" "I") ∈ lw_all := lw_g (lw_at lw_m1 74 rfl) rfl
theorem q148 : (Jvm.Cond.soleField "LostQuestions" "asked") ∈ lw_all := lw_g (lw_at lw_m1 75 rfl) rfl
theorem q149 : (Jvm.Cond.lays "LostQuestions" "LostQuestions" "upper" "J") ∈ lw_all := lw_g (lw_at lw_m1 76 rfl) rfl
theorem q150 : (Jvm.Cond.soleField "LostQuestions" "upper") ∈ lw_all := lw_g (lw_at lw_m1 77 rfl) rfl
theorem q151 : (Jvm.Cond.lays "LostQuestions" "LostQuestions" "lower" "J") ∈ lw_all := lw_g (lw_at lw_m1 78 rfl) rfl
theorem q152 : (Jvm.Cond.soleField "LostQuestions" "lower") ∈ lw_all := lw_g (lw_at lw_m1 79 rfl) rfl
theorem q153 : (Jvm.Cond.laysFinal "LostQuestions" "LostQuestions" "rows" "[[I") ∈ lw_all := lw_g (lw_at lw_m1 80 rfl) rfl
theorem q154 : (Jvm.Cond.soleField "LostQuestions" "rows") ∈ lw_all := lw_g (lw_at lw_m1 81 rfl) rfl
theorem q155 : (Jvm.Cond.laysFinal "LostQuestions" "LostQuestions" "texts" "[[B") ∈ lw_all := lw_g (lw_at lw_m1 82 rfl) rfl
theorem q156 : (Jvm.Cond.soleField "LostQuestions" "texts") ∈ lw_all := lw_g (lw_at lw_m1 83 rfl) rfl
theorem q157 : (Jvm.Cond.lays "LostQuestions" "LostQuestions" "many" "I") ∈ lw_all := lw_g (lw_at lw_m1 84 rfl) rfl
theorem q158 : (Jvm.Cond.soleField "LostQuestions" "many") ∈ lw_all := lw_g (lw_at lw_m1 85 rfl) rfl
theorem q159 : (Jvm.Cond.laysFinal "LostQuestions" "LostQuestions" "cards" "[LLostQuestions$Card;") ∈ lw_all := lw_g (lw_at lw_m1 86 rfl) rfl
theorem q160 : (Jvm.Cond.soleField "LostQuestions" "cards") ∈ lw_all := lw_g (lw_at lw_m1 87 rfl) rfl
theorem q161 : (Jvm.Cond.lays "LostQuestions" "LostQuestions" "askMany" "I") ∈ lw_all := lw_g (lw_at lw_m1 88 rfl) rfl
theorem q162 : (Jvm.Cond.soleField "LostQuestions" "askMany") ∈ lw_all := lw_g (lw_at lw_m1 89 rfl) rfl
theorem q163 : (Jvm.Cond.laysFinal "LostQuestions" "LostQuestions" "asks" "[I") ∈ lw_all := lw_g (lw_at lw_m1 90 rfl) rfl
theorem q164 : (Jvm.Cond.soleField "LostQuestions" "asks") ∈ lw_all := lw_g (lw_at lw_m1 91 rfl) rfl
theorem q165 : (Jvm.Cond.laysFinal "LostQuestions" "LostQuestions" "truths" "[I") ∈ lw_all := lw_g (lw_at lw_m1 92 rfl) rfl
theorem q166 : (Jvm.Cond.soleField "LostQuestions" "truths") ∈ lw_all := lw_g (lw_at lw_m1 93 rfl) rfl
theorem q167 : (Jvm.Cond.laysFinal "LostQuestions" "LostQuestions" "by" "[I") ∈ lw_all := lw_g (lw_at lw_m1 94 rfl) rfl
theorem q168 : (Jvm.Cond.soleField "LostQuestions" "by") ∈ lw_all := lw_g (lw_at lw_m1 95 rfl) rfl
theorem q169 : (Jvm.Cond.lays "LostQuestions" "LostQuestions" "reading" "[B") ∈ lw_all := lw_g (lw_at lw_m1 96 rfl) rfl
theorem q170 : (Jvm.Cond.soleField "LostQuestions" "reading") ∈ lw_all := lw_g (lw_at lw_m1 97 rfl) rfl
theorem q171 : (Jvm.Cond.lays "LostQuestions" "LostQuestions" "readAt" "I") ∈ lw_all := lw_g (lw_at lw_m1 98 rfl) rfl
theorem q172 : (Jvm.Cond.soleField "LostQuestions" "readAt") ∈ lw_all := lw_g (lw_at lw_m1 99 rfl) rfl
theorem q173 : (Jvm.Cond.lays "LostQuestions" "LostQuestions" "readMany" "I") ∈ lw_all := lw_g (lw_at lw_m1 100 rfl) rfl
theorem q174 : (Jvm.Cond.soleField "LostQuestions" "readMany") ∈ lw_all := lw_g (lw_at lw_m1 101 rfl) rfl
theorem q175 : (Jvm.Cond.laysFinal "LostQuestions" "LostQuestions" "readCards" "[I") ∈ lw_all := lw_g (lw_at lw_m1 102 rfl) rfl
theorem q176 : (Jvm.Cond.soleField "LostQuestions" "readCards") ∈ lw_all := lw_g (lw_at lw_m1 103 rfl) rfl
theorem q177 : (Jvm.Cond.lays "LostQuestions" "LostQuestions" "readAsks" "I") ∈ lw_all := lw_g (lw_at lw_m1 104 rfl) rfl
theorem q178 : (Jvm.Cond.soleField "LostQuestions" "readAsks") ∈ lw_all := lw_g (lw_at lw_m1 105 rfl) rfl
theorem q179 : (Jvm.Cond.laysFinal "LostQuestions" "LostQuestions" "readAsk" "[I") ∈ lw_all := lw_g (lw_at lw_m1 106 rfl) rfl
theorem q180 : (Jvm.Cond.soleField "LostQuestions" "readAsk") ∈ lw_all := lw_g (lw_at lw_m1 107 rfl) rfl
theorem q181 : (Jvm.Cond.lays "LostQuestions" "LostQuestions" "takingMany" "I") ∈ lw_all := lw_g (lw_at lw_m1 108 rfl) rfl
theorem q182 : (Jvm.Cond.soleField "LostQuestions" "takingMany") ∈ lw_all := lw_g (lw_at lw_m1 109 rfl) rfl
theorem q183 : (Jvm.Cond.laysFinal "LostQuestions" "LostQuestions" "takings" "[I") ∈ lw_all := lw_g (lw_at lw_m1 110 rfl) rfl
theorem q184 : (Jvm.Cond.soleField "LostQuestions" "takings") ∈ lw_all := lw_g (lw_at lw_m1 111 rfl) rfl
theorem q185 : (Jvm.Cond.laysFinal "LostQuestions" "LostQuestions" "ahead" "[I") ∈ lw_all := lw_g (lw_at lw_m1 112 rfl) rfl
theorem q186 : (Jvm.Cond.soleField "LostQuestions" "ahead") ∈ lw_all := lw_g (lw_at lw_m1 113 rfl) rfl
theorem q187 : (Jvm.Cond.laysFinal "LostQuestions" "LostQuestions" "kept" "[LLostQuestions$Kept;") ∈ lw_all := lw_g (lw_at lw_m1 114 rfl) rfl
theorem q188 : (Jvm.Cond.soleField "LostQuestions" "kept") ∈ lw_all := lw_g (lw_at lw_m1 115 rfl) rfl
theorem q189 : (Jvm.Cond.laysFinal "LostQuestions" "LostQuestions" "pairs" "[I") ∈ lw_all := lw_g (lw_at lw_m1 116 rfl) rfl
theorem q190 : (Jvm.Cond.soleField "LostQuestions" "pairs") ∈ lw_all := lw_g (lw_at lw_m1 117 rfl) rfl
theorem q191 : (Jvm.Cond.laysFinal "LostQuestions" "LostQuestions" "bestPairs" "[I") ∈ lw_all := lw_g (lw_at lw_m1 118 rfl) rfl
theorem q192 : (Jvm.Cond.soleField "LostQuestions" "bestPairs") ∈ lw_all := lw_g (lw_at lw_m1 119 rfl) rfl
theorem q193 : (Jvm.Cond.lays "LostQuestions" "LostQuestions" "bestWorth" "I") ∈ lw_all := lw_g (lw_at lw_m1 120 rfl) rfl
theorem q194 : (Jvm.Cond.soleField "LostQuestions" "bestWorth") ∈ lw_all := lw_g (lw_at lw_m1 121 rfl) rfl
theorem q195 : (Jvm.Cond.lays "LostQuestions" "LostQuestions" "fullMany" "I") ∈ lw_all := lw_g (lw_at lw_m1 122 rfl) rfl
theorem q196 : (Jvm.Cond.soleField "LostQuestions" "fullMany") ∈ lw_all := lw_g (lw_at lw_m1 123 rfl) rfl
theorem q197 : (Jvm.Cond.laysFinal "LostQuestions" "LostQuestions" "fullWith" "[I") ∈ lw_all := lw_g (lw_at lw_m1 124 rfl) rfl
theorem q198 : (Jvm.Cond.soleField "LostQuestions" "fullWith") ∈ lw_all := lw_g (lw_at lw_m1 125 rfl) rfl
theorem q199 : (Jvm.Cond.laysFinal "LostQuestions" "LostQuestions" "steps" "[I") ∈ lw_all := lw_g (lw_at lw_m1 126 rfl) rfl
theorem q200 : (Jvm.Cond.soleField "LostQuestions" "steps") ∈ lw_all := lw_g (lw_at lw_m1 127 rfl) rfl
theorem q201 : (Jvm.Cond.lays "LostQuestions" "LostQuestions" "h0" "J") ∈ lw_all := lw_g (lw_at lw_m1 128 rfl) rfl
theorem q202 : (Jvm.Cond.soleField "LostQuestions" "h0") ∈ lw_all := lw_g (lw_at lw_m1 129 rfl) rfl
theorem q203 : (Jvm.Cond.superclass "LostQuestions" "java/lang/Object") ∈ lw_all := lw_g (lw_at lw_m1 130 rfl) rfl
theorem q206 : (Jvm.Cond.instanceMethod ({ cls := "LostQuestions", name := "row", desc := "(II)I" } : Jvm.MethodName)) ∈ lw_all := lw_g (lw_at lw_m1 133 rfl) rfl
theorem q207 : (Jvm.Cond.selects "LostQuestions" ({ cls := "LostQuestions", name := "row", desc := "(II)I" } : Jvm.MethodName) ({ cls := "LostQuestions", name := "row", desc := "(II)I" } : Jvm.MethodName)) ∈ lw_all := lw_g (lw_at lw_m1 134 rfl) rfl
theorem q208 : (Jvm.Cond.codeWith ({ cls := "LostQuestions", name := "row", desc := "(II)I" } : Jvm.MethodName) prog_1_method_9_code (4 : Nat) (Option.some Jvm.ClassFile.FieldType.int) [((15 : Nat), (25 : Nat), (26 : Nat), (94 : Nat))]) ∈ lw_all := lw_g (lw_at lw_m1 135 rfl) rfl
theorem q209 : (Jvm.Cond.classLink "LostQuestions" (94 : Nat) "java/lang/NegativeArraySizeException") ∈ lw_all := lw_g (lw_at lw_m1 136 rfl) rfl
theorem q295 : (Jvm.Cond.methodLink "LostQuestions" (90 : Nat) ({ cls := "LostQuestions", name := "isRow", desc := "(I)Z" } : Jvm.MethodName)) ∈ lw_all := lw_g (lw_at lw_m1 222 rfl) rfl
theorem q296 : (Jvm.Cond.static ({ cls := "LostQuestions", name := "isRow", desc := "(I)Z" } : Jvm.MethodName)) ∈ lw_all := lw_g (lw_at lw_m1 223 rfl) rfl
theorem q297 : (Jvm.Cond.code ({ cls := "LostQuestions", name := "isRow", desc := "(I)Z" } : Jvm.MethodName) prog_1_method_7_code (1 : Nat) (Option.some Jvm.ClassFile.FieldType.boolean)) ∈ lw_all := lw_g (lw_at lw_m1 224 rfl) rfl
theorem q298 : (Jvm.Cond.methodLink "LostQuestions" (86 : Nat) ({ cls := "LostQuestions", name := "isIn", desc := "(III)Z" } : Jvm.MethodName)) ∈ lw_all := lw_g (lw_at lw_m1 225 rfl) rfl
theorem q299 : (Jvm.Cond.static ({ cls := "LostQuestions", name := "isIn", desc := "(III)Z" } : Jvm.MethodName)) ∈ lw_all := lw_g (lw_at lw_m1 226 rfl) rfl
theorem q300 : (Jvm.Cond.code ({ cls := "LostQuestions", name := "isIn", desc := "(III)Z" } : Jvm.MethodName) prog_1_method_1_code (3 : Nat) (Option.some Jvm.ClassFile.FieldType.boolean)) ∈ lw_all := lw_g (lw_at lw_m1 227 rfl) rfl
theorem q301 : (Jvm.Cond.methodLink "LostQuestions" (96 : Nat) ({ cls := "LostQuestions", name := "found", desc := "(I)I" } : Jvm.MethodName)) ∈ lw_all := lw_g (lw_at lw_m1 228 rfl) rfl
theorem q302 : (Jvm.Cond.privateMethod ({ cls := "LostQuestions", name := "found", desc := "(I)I" } : Jvm.MethodName)) ∈ lw_tbl := lw_at lw_m1 229 rfl
theorem q303 : (Jvm.Cond.instanceMethod ({ cls := "LostQuestions", name := "found", desc := "(I)I" } : Jvm.MethodName)) ∈ lw_all := lw_g (lw_at lw_m1 230 rfl) rfl
theorem q304 : (Jvm.Cond.code ({ cls := "LostQuestions", name := "found", desc := "(I)I" } : Jvm.MethodName) prog_1_method_3_code (2 : Nat) (Option.some Jvm.ClassFile.FieldType.int)) ∈ lw_all := lw_g (lw_at lw_m1 231 rfl) rfl
theorem q306 : (Jvm.Cond.instanceMethod ({ cls := "LostQuestions", name := "lay", desc := "(III)I" } : Jvm.MethodName)) ∈ lw_all := lw_g (lw_at lw_m1 233 rfl) rfl
theorem q307 : (Jvm.Cond.selects "LostQuestions" ({ cls := "LostQuestions", name := "lay", desc := "(III)I" } : Jvm.MethodName) ({ cls := "LostQuestions", name := "lay", desc := "(III)I" } : Jvm.MethodName)) ∈ lw_all := lw_g (lw_at lw_m1 234 rfl) rfl
theorem q308 : (Jvm.Cond.code ({ cls := "LostQuestions", name := "lay", desc := "(III)I" } : Jvm.MethodName) prog_1_method_10_code (5 : Nat) (Option.some Jvm.ClassFile.FieldType.int)) ∈ lw_all := lw_g (lw_at lw_m1 235 rfl) rfl
theorem q309 : (Jvm.Cond.methodLink "LostQuestions" (100 : Nat) ({ cls := "LostQuestions", name := "at", desc := "(II)I" } : Jvm.MethodName)) ∈ lw_all := lw_g (lw_at lw_m1 236 rfl) rfl
theorem q310 : (Jvm.Cond.instanceMethod ({ cls := "LostQuestions", name := "at", desc := "(II)I" } : Jvm.MethodName)) ∈ lw_all := lw_g (lw_at lw_m1 237 rfl) rfl
theorem q311 : (Jvm.Cond.selects "LostQuestions" ({ cls := "LostQuestions", name := "at", desc := "(II)I" } : Jvm.MethodName) ({ cls := "LostQuestions", name := "at", desc := "(II)I" } : Jvm.MethodName)) ∈ lw_all := lw_g (lw_at lw_m1 238 rfl) rfl
theorem q312 : (Jvm.Cond.codeWith ({ cls := "LostQuestions", name := "at", desc := "(II)I" } : Jvm.MethodName) prog_1_method_11_code (4 : Nat) (Option.some Jvm.ClassFile.FieldType.int) [((9 : Nat), (22 : Nat), (23 : Nat), (107 : Nat)), ((9 : Nat), (22 : Nat), (30 : Nat), (109 : Nat))]) ∈ lw_all := lw_g (lw_at lw_m1 239 rfl) rfl
theorem q313 : (Jvm.Cond.classLink "LostQuestions" (107 : Nat) "java/lang/NullPointerException") ∈ lw_all := lw_g (lw_at lw_m2 0 rfl) rfl
theorem q338 : (Jvm.Cond.classLink "LostQuestions" (109 : Nat) "java/lang/ArrayIndexOutOfBoundsException") ∈ lw_all := lw_g (lw_at lw_m2 25 rfl) rfl
theorem q357 : (Jvm.Cond.methodLink "LostQuestions" (104 : Nat) ({ cls := "LostQuestions", name := "ask", desc := "(II)I" } : Jvm.MethodName)) ∈ lw_all := lw_g (lw_at lw_m2 44 rfl) rfl
theorem q358 : (Jvm.Cond.privateMethod ({ cls := "LostQuestions", name := "ask", desc := "(II)I" } : Jvm.MethodName)) ∈ lw_tbl := lw_at lw_m2 45 rfl
theorem q359 : (Jvm.Cond.instanceMethod ({ cls := "LostQuestions", name := "ask", desc := "(II)I" } : Jvm.MethodName)) ∈ lw_all := lw_g (lw_at lw_m2 46 rfl) rfl
theorem q360 : (Jvm.Cond.code ({ cls := "LostQuestions", name := "ask", desc := "(II)I" } : Jvm.MethodName) prog_1_method_4_code (3 : Nat) (Option.some Jvm.ClassFile.FieldType.int)) ∈ lw_all := lw_g (lw_at lw_m2 47 rfl) rfl
theorem q363 : (Jvm.Cond.instanceMethod ({ cls := "LostQuestions", name := "tear", desc := "(I)I" } : Jvm.MethodName)) ∈ lw_all := lw_g (lw_at lw_m2 50 rfl) rfl
theorem q364 : (Jvm.Cond.selects "LostQuestions" ({ cls := "LostQuestions", name := "tear", desc := "(I)I" } : Jvm.MethodName) ({ cls := "LostQuestions", name := "tear", desc := "(I)I" } : Jvm.MethodName)) ∈ lw_all := lw_g (lw_at lw_m2 51 rfl) rfl
theorem q365 : (Jvm.Cond.code ({ cls := "LostQuestions", name := "tear", desc := "(I)I" } : Jvm.MethodName) prog_1_method_12_code (2 : Nat) (Option.some Jvm.ClassFile.FieldType.int)) ∈ lw_all := lw_g (lw_at lw_m2 52 rfl) rfl
theorem q367 : (Jvm.Cond.instanceMethod ({ cls := "LostQuestions", name := "copy", desc := "(IIIII)I" } : Jvm.MethodName)) ∈ lw_all := lw_g (lw_at lw_m2 54 rfl) rfl
theorem q368 : (Jvm.Cond.selects "LostQuestions" ({ cls := "LostQuestions", name := "copy", desc := "(IIIII)I" } : Jvm.MethodName) ({ cls := "LostQuestions", name := "copy", desc := "(IIIII)I" } : Jvm.MethodName)) ∈ lw_all := lw_g (lw_at lw_m2 55 rfl) rfl
theorem q369 : (Jvm.Cond.codeWith ({ cls := "LostQuestions", name := "copy", desc := "(IIIII)I" } : Jvm.MethodName) prog_1_method_13_code (7 : Nat) (Option.some Jvm.ClassFile.FieldType.int) [((27 : Nat), (48 : Nat), (49 : Nat), (107 : Nat)), ((27 : Nat), (48 : Nat), (57 : Nat), (117 : Nat))]) ∈ lw_all := lw_g (lw_at lw_m2 56 rfl) rfl
theorem q370 : (Jvm.Cond.classLink "LostQuestions" (117 : Nat) "java/lang/IndexOutOfBoundsException") ∈ lw_all := lw_g (lw_at lw_m2 57 rfl) rfl
theorem q371 : (Jvm.Cond.methodLink "LostQuestions" (111 : Nat) ({ cls := "java/lang/System", name := "arraycopy", desc := "(Ljava/lang/Object;ILjava/lang/Object;II)V" } : Jvm.MethodName)) ∈ lw_all := lw_g (lw_at lw_m2 58 rfl) rfl
theorem q375 : (Jvm.Cond.instanceMethod ({ cls := "LostQuestions", name := "mean", desc := "(I)I" } : Jvm.MethodName)) ∈ lw_all := lw_g (lw_at lw_m2 62 rfl) rfl
theorem q376 : (Jvm.Cond.selects "LostQuestions" ({ cls := "LostQuestions", name := "mean", desc := "(I)I" } : Jvm.MethodName) ({ cls := "LostQuestions", name := "mean", desc := "(I)I" } : Jvm.MethodName)) ∈ lw_all := lw_g (lw_at lw_m2 63 rfl) rfl
theorem q377 : (Jvm.Cond.codeWith ({ cls := "LostQuestions", name := "mean", desc := "(I)I" } : Jvm.MethodName) prog_1_method_14_code (8 : Nat) (Option.some Jvm.ClassFile.FieldType.int) [((9 : Nat), (69 : Nat), (70 : Nat), (107 : Nat)), ((9 : Nat), (69 : Nat), (77 : Nat), (119 : Nat))]) ∈ lw_all := lw_g (lw_at lw_m2 64 rfl) rfl
theorem q378 : (Jvm.Cond.classLink "LostQuestions" (119 : Nat) "java/lang/ArithmeticException") ∈ lw_all := lw_g (lw_at lw_m2 65 rfl) rfl
theorem q393 : (Jvm.Cond.instanceMethod ({ cls := "LostQuestions", name := "text", desc := "(II)I" } : Jvm.MethodName)) ∈ lw_all := lw_g (lw_at lw_m2 80 rfl) rfl
theorem q394 : (Jvm.Cond.selects "LostQuestions" ({ cls := "LostQuestions", name := "text", desc := "(II)I" } : Jvm.MethodName) ({ cls := "LostQuestions", name := "text", desc := "(II)I" } : Jvm.MethodName)) ∈ lw_all := lw_g (lw_at lw_m2 81 rfl) rfl
theorem q395 : (Jvm.Cond.codeWith ({ cls := "LostQuestions", name := "text", desc := "(II)I" } : Jvm.MethodName) prog_1_method_15_code (5 : Nat) (Option.some Jvm.ClassFile.FieldType.int) [((15 : Nat), (48 : Nat), (49 : Nat), (94 : Nat))]) ∈ lw_all := lw_g (lw_at lw_m2 82 rfl) rfl
theorem q396 : (Jvm.Cond.methodLink "LostQuestions" (121 : Nat) ({ cls := "LostQuestions", name := "isText", desc := "(I)Z" } : Jvm.MethodName)) ∈ lw_all := lw_g (lw_at lw_m2 83 rfl) rfl
theorem q397 : (Jvm.Cond.static ({ cls := "LostQuestions", name := "isText", desc := "(I)Z" } : Jvm.MethodName)) ∈ lw_all := lw_g (lw_at lw_m2 84 rfl) rfl
theorem q398 : (Jvm.Cond.code ({ cls := "LostQuestions", name := "isText", desc := "(I)Z" } : Jvm.MethodName) prog_1_method_8_code (1 : Nat) (Option.some Jvm.ClassFile.FieldType.boolean)) ∈ lw_all := lw_g (lw_at lw_m2 85 rfl) rfl
theorem q400 : (Jvm.Cond.instanceMethod ({ cls := "LostQuestions", name := "put", desc := "(III)I" } : Jvm.MethodName)) ∈ lw_all := lw_g (lw_at lw_m2 87 rfl) rfl
theorem q401 : (Jvm.Cond.selects "LostQuestions" ({ cls := "LostQuestions", name := "put", desc := "(III)I" } : Jvm.MethodName) ({ cls := "LostQuestions", name := "put", desc := "(III)I" } : Jvm.MethodName)) ∈ lw_all := lw_g (lw_at lw_m2 88 rfl) rfl
theorem q402 : (Jvm.Cond.codeWith ({ cls := "LostQuestions", name := "put", desc := "(III)I" } : Jvm.MethodName) prog_1_method_16_code (5 : Nat) (Option.some Jvm.ClassFile.FieldType.int) [((9 : Nat), (35 : Nat), (36 : Nat), (107 : Nat)), ((9 : Nat), (35 : Nat), (44 : Nat), (109 : Nat))]) ∈ lw_all := lw_g (lw_at lw_m2 89 rfl) rfl
theorem q404 : (Jvm.Cond.instanceMethod ({ cls := "LostQuestions", name := "fault", desc := "(I)I" } : Jvm.MethodName)) ∈ lw_all := lw_g (lw_at lw_m2 91 rfl) rfl
theorem q405 : (Jvm.Cond.selects "LostQuestions" ({ cls := "LostQuestions", name := "fault", desc := "(I)I" } : Jvm.MethodName) ({ cls := "LostQuestions", name := "fault", desc := "(I)I" } : Jvm.MethodName)) ∈ lw_all := lw_g (lw_at lw_m2 92 rfl) rfl
theorem q406 : (Jvm.Cond.code ({ cls := "LostQuestions", name := "fault", desc := "(I)I" } : Jvm.MethodName) prog_1_method_24_code (2 : Nat) (Option.some Jvm.ClassFile.FieldType.int)) ∈ lw_all := lw_g (lw_at lw_m2 93 rfl) rfl
theorem q407 : (Jvm.Cond.methodLink "LostQuestions" (171 : Nat) ({ cls := "LostQuestions", name := "goesOn", desc := "([B)I" } : Jvm.MethodName)) ∈ lw_all := lw_g (lw_at lw_m2 94 rfl) rfl
theorem q408 : (Jvm.Cond.privateMethod ({ cls := "LostQuestions", name := "goesOn", desc := "([B)I" } : Jvm.MethodName)) ∈ lw_tbl := lw_at lw_m2 95 rfl
theorem q409 : (Jvm.Cond.instanceMethod ({ cls := "LostQuestions", name := "goesOn", desc := "([B)I" } : Jvm.MethodName)) ∈ lw_all := lw_g (lw_at lw_m2 96 rfl) rfl
theorem q410 : (Jvm.Cond.code ({ cls := "LostQuestions", name := "goesOn", desc := "([B)I" } : Jvm.MethodName) prog_1_method_23_code (2 : Nat) (Option.some Jvm.ClassFile.FieldType.int)) ∈ lw_all := lw_g (lw_at lw_m2 97 rfl) rfl
theorem q411 : (Jvm.Cond.methodLink "LostQuestions" (148 : Nat) ({ cls := "LostQuestions", name := "sign", desc := "()I" } : Jvm.MethodName)) ∈ lw_all := lw_g (lw_at lw_m2 98 rfl) rfl
theorem q412 : (Jvm.Cond.privateMethod ({ cls := "LostQuestions", name := "sign", desc := "()I" } : Jvm.MethodName)) ∈ lw_tbl := lw_at lw_m2 99 rfl
theorem q413 : (Jvm.Cond.instanceMethod ({ cls := "LostQuestions", name := "sign", desc := "()I" } : Jvm.MethodName)) ∈ lw_all := lw_g (lw_at lw_m2 100 rfl) rfl
theorem q414 : (Jvm.Cond.code ({ cls := "LostQuestions", name := "sign", desc := "()I" } : Jvm.MethodName) prog_1_method_18_code (1 : Nat) (Option.some Jvm.ClassFile.FieldType.int)) ∈ lw_all := lw_g (lw_at lw_m2 101 rfl) rfl
theorem q415 : (Jvm.Cond.methodLink "LostQuestions" (164 : Nat) ({ cls := "LostQuestions", name := "readsQuestion", desc := "()Z" } : Jvm.MethodName)) ∈ lw_all := lw_g (lw_at lw_m2 102 rfl) rfl
theorem q416 : (Jvm.Cond.privateMethod ({ cls := "LostQuestions", name := "readsQuestion", desc := "()Z" } : Jvm.MethodName)) ∈ lw_tbl := lw_at lw_m2 103 rfl
theorem q417 : (Jvm.Cond.instanceMethod ({ cls := "LostQuestions", name := "readsQuestion", desc := "()Z" } : Jvm.MethodName)) ∈ lw_all := lw_g (lw_at lw_m2 104 rfl) rfl
theorem q418 : (Jvm.Cond.code ({ cls := "LostQuestions", name := "readsQuestion", desc := "()Z" } : Jvm.MethodName) prog_1_method_22_code (5 : Nat) (Option.some Jvm.ClassFile.FieldType.boolean)) ∈ lw_all := lw_g (lw_at lw_m2 105 rfl) rfl
theorem q419 : (Jvm.Cond.methodLink "LostQuestions" (161 : Nat) ({ cls := "LostQuestions", name := "readsFigure", desc := "(II)I" } : Jvm.MethodName)) ∈ lw_all := lw_g (lw_at lw_m2 106 rfl) rfl
theorem q420 : (Jvm.Cond.privateMethod ({ cls := "LostQuestions", name := "readsFigure", desc := "(II)I" } : Jvm.MethodName)) ∈ lw_tbl := lw_at lw_m2 107 rfl
theorem q421 : (Jvm.Cond.instanceMethod ({ cls := "LostQuestions", name := "readsFigure", desc := "(II)I" } : Jvm.MethodName)) ∈ lw_all := lw_g (lw_at lw_m2 108 rfl) rfl
theorem q422 : (Jvm.Cond.code ({ cls := "LostQuestions", name := "readsFigure", desc := "(II)I" } : Jvm.MethodName) prog_1_method_19_code (4 : Nat) (Option.some Jvm.ClassFile.FieldType.int)) ∈ lw_all := lw_g (lw_at lw_m2 109 rfl) rfl
theorem q423 : (Jvm.Cond.methodLink "LostQuestions" (168 : Nat) ({ cls := "LostQuestions", name := "readsCard", desc := "()Z" } : Jvm.MethodName)) ∈ lw_all := lw_g (lw_at lw_m2 110 rfl) rfl
theorem q424 : (Jvm.Cond.privateMethod ({ cls := "LostQuestions", name := "readsCard", desc := "()Z" } : Jvm.MethodName)) ∈ lw_tbl := lw_at lw_m2 111 rfl
theorem q425 : (Jvm.Cond.instanceMethod ({ cls := "LostQuestions", name := "readsCard", desc := "()Z" } : Jvm.MethodName)) ∈ lw_all := lw_g (lw_at lw_m2 112 rfl) rfl
theorem q426 : (Jvm.Cond.code ({ cls := "LostQuestions", name := "readsCard", desc := "()Z" } : Jvm.MethodName) prog_1_method_21_code (4 : Nat) (Option.some Jvm.ClassFile.FieldType.boolean)) ∈ lw_all := lw_g (lw_at lw_m2 113 rfl) rfl
theorem q427 : (Jvm.Cond.methodLink "LostQuestions" (152 : Nat) ({ cls := "LostQuestions", name := "isCardSign", desc := "(I)Z" } : Jvm.MethodName)) ∈ lw_all := lw_g (lw_at lw_m2 114 rfl) rfl
theorem q428 : (Jvm.Cond.static ({ cls := "LostQuestions", name := "isCardSign", desc := "(I)Z" } : Jvm.MethodName)) ∈ lw_all := lw_g (lw_at lw_m2 115 rfl) rfl
theorem q429 : (Jvm.Cond.code ({ cls := "LostQuestions", name := "isCardSign", desc := "(I)Z" } : Jvm.MethodName) prog_1_method_20_code (1 : Nat) (Option.some Jvm.ClassFile.FieldType.boolean)) ∈ lw_all := lw_g (lw_at lw_m2 116 rfl) rfl
theorem q431 : (Jvm.Cond.instanceMethod ({ cls := "LostQuestions", name := "library", desc := "(I)I" } : Jvm.MethodName)) ∈ lw_all := lw_g (lw_at lw_m2 118 rfl) rfl
theorem q432 : (Jvm.Cond.selects "LostQuestions" ({ cls := "LostQuestions", name := "library", desc := "(I)I" } : Jvm.MethodName) ({ cls := "LostQuestions", name := "library", desc := "(I)I" } : Jvm.MethodName)) ∈ lw_all := lw_g (lw_at lw_m2 119 rfl) rfl
theorem q433 : (Jvm.Cond.code ({ cls := "LostQuestions", name := "library", desc := "(I)I" } : Jvm.MethodName) prog_1_method_25_code (3 : Nat) (Option.some Jvm.ClassFile.FieldType.int)) ∈ lw_all := lw_g (lw_at lw_m2 120 rfl) rfl
theorem q434 : (Jvm.Cond.methodLink "LostQuestions" (178 : Nat) ({ cls := "LostQuestions", name := "newCard", desc := "(IIIII)LLostQuestions$Card;" } : Jvm.MethodName)) ∈ lw_all := lw_g (lw_at lw_m2 121 rfl) rfl
theorem q435 : (Jvm.Cond.static ({ cls := "LostQuestions", name := "newCard", desc := "(IIIII)LLostQuestions$Card;" } : Jvm.MethodName)) ∈ lw_all := lw_g (lw_at lw_m2 122 rfl) rfl
theorem q436 : (Jvm.Cond.code ({ cls := "LostQuestions", name := "newCard", desc := "(IIIII)LLostQuestions$Card;" } : Jvm.MethodName) prog_1_method_17_code (5 : Nat) (Option.some (Jvm.ClassFile.FieldType.object "LostQuestions$Card"))) ∈ lw_all := lw_g (lw_at lw_m2 123 rfl) rfl
theorem q437 : (Jvm.Cond.classLink "LostQuestions" (124 : Nat) "LostQuestions$Yes") ∈ lw_all := lw_g (lw_at lw_m2 124 rfl) rfl
theorem q439 : (Jvm.Cond.methodLink "LostQuestions" (126 : Nat) ({ cls := "LostQuestions$Yes", name := "<init>", desc := "(IIII)V" } : Jvm.MethodName)) ∈ lw_all := lw_g (lw_at lw_m2 126 rfl) rfl
theorem q450 : (Jvm.Cond.fieldLinkNest "LostQuestions" (205 : Nat) "LostQuestions$Card" "shelf" "I" "LostQuestions") ∈ lw_tbl := lw_at lw_m2 137 rfl
theorem q452 : (Jvm.Cond.fieldLinkNest "LostQuestions" (211 : Nat) "LostQuestions$Card" "age" "I" "LostQuestions") ∈ lw_tbl := lw_at lw_m2 139 rfl
theorem q462 : (Jvm.Cond.classLink "LostQuestions" (129 : Nat) "LostQuestions$Place") ∈ lw_all := lw_g (lw_at lw_m2 149 rfl) rfl
theorem q464 : (Jvm.Cond.methodLink "LostQuestions" (131 : Nat) ({ cls := "LostQuestions$Place", name := "<init>", desc := "(IIII)V" } : Jvm.MethodName)) ∈ lw_all := lw_g (lw_at lw_m2 151 rfl) rfl
theorem q473 : (Jvm.Cond.classLink "LostQuestions" (132 : Nat) "LostQuestions$Never") ∈ lw_all := lw_g (lw_at lw_m2 160 rfl) rfl
theorem q475 : (Jvm.Cond.methodLink "LostQuestions" (134 : Nat) ({ cls := "LostQuestions$Never", name := "<init>", desc := "(IIII)V" } : Jvm.MethodName)) ∈ lw_all := lw_g (lw_at lw_m2 162 rfl) rfl
theorem q484 : (Jvm.Cond.classLink "LostQuestions" (135 : Nat) "LostQuestions$Time") ∈ lw_all := lw_g (lw_at lw_m2 171 rfl) rfl
theorem q486 : (Jvm.Cond.methodLink "LostQuestions" (137 : Nat) ({ cls := "LostQuestions$Time", name := "<init>", desc := "(IIII)V" } : Jvm.MethodName)) ∈ lw_all := lw_g (lw_at lw_m2 173 rfl) rfl
theorem q495 : (Jvm.Cond.classLink "LostQuestions" (138 : Nat) "LostQuestions$Behind") ∈ lw_all := lw_g (lw_at lw_m2 182 rfl) rfl
theorem q497 : (Jvm.Cond.methodLink "LostQuestions" (140 : Nat) ({ cls := "LostQuestions$Behind", name := "<init>", desc := "(IIII)V" } : Jvm.MethodName)) ∈ lw_all := lw_g (lw_at lw_m2 184 rfl) rfl
theorem q507 : (Jvm.Cond.methodLink "LostQuestions" (141 : Nat) ({ cls := "LostQuestions$Card", name := "<init>", desc := "(IIII)V" } : Jvm.MethodName)) ∈ lw_all := lw_g (lw_at lw_m2 194 rfl) rfl
theorem q514 : (Jvm.Cond.instanceMethod ({ cls := "LostQuestions", name := "card", desc := "(II)I" } : Jvm.MethodName)) ∈ lw_all := lw_g (lw_at lw_m2 201 rfl) rfl
theorem q515 : (Jvm.Cond.selects "LostQuestions" ({ cls := "LostQuestions", name := "card", desc := "(II)I" } : Jvm.MethodName) ({ cls := "LostQuestions", name := "card", desc := "(II)I" } : Jvm.MethodName)) ∈ lw_all := lw_g (lw_at lw_m2 202 rfl) rfl
theorem q516 : (Jvm.Cond.code ({ cls := "LostQuestions", name := "card", desc := "(II)I" } : Jvm.MethodName) prog_1_method_38_code (3 : Nat) (Option.some Jvm.ClassFile.FieldType.int)) ∈ lw_all := lw_g (lw_at lw_m2 203 rfl) rfl
theorem q517 : (Jvm.Cond.methodLink "LostQuestions" (217 : Nat) ({ cls := "LostQuestions", name := "isCard", desc := "(I)Z" } : Jvm.MethodName)) ∈ lw_all := lw_g (lw_at lw_m2 204 rfl) rfl
theorem q518 : (Jvm.Cond.privateMethod ({ cls := "LostQuestions", name := "isCard", desc := "(I)Z" } : Jvm.MethodName)) ∈ lw_tbl := lw_at lw_m2 205 rfl
theorem q519 : (Jvm.Cond.instanceMethod ({ cls := "LostQuestions", name := "isCard", desc := "(I)Z" } : Jvm.MethodName)) ∈ lw_all := lw_g (lw_at lw_m2 206 rfl) rfl
theorem q520 : (Jvm.Cond.code ({ cls := "LostQuestions", name := "isCard", desc := "(I)Z" } : Jvm.MethodName) prog_1_method_26_code (2 : Nat) (Option.some Jvm.ClassFile.FieldType.boolean)) ∈ lw_all := lw_g (lw_at lw_m2 207 rfl) rfl
theorem q521 : (Jvm.Cond.methodLink "LostQuestions" (220 : Nat) ({ cls := "LostQuestions", name := "cardTells", desc := "(II)I" } : Jvm.MethodName)) ∈ lw_all := lw_g (lw_at lw_m2 208 rfl) rfl
theorem q522 : (Jvm.Cond.privateMethod ({ cls := "LostQuestions", name := "cardTells", desc := "(II)I" } : Jvm.MethodName)) ∈ lw_tbl := lw_at lw_m2 209 rfl
theorem q523 : (Jvm.Cond.instanceMethod ({ cls := "LostQuestions", name := "cardTells", desc := "(II)I" } : Jvm.MethodName)) ∈ lw_all := lw_g (lw_at lw_m2 210 rfl) rfl
theorem q524 : (Jvm.Cond.code ({ cls := "LostQuestions", name := "cardTells", desc := "(II)I" } : Jvm.MethodName) prog_1_method_37_code (4 : Nat) (Option.some Jvm.ClassFile.FieldType.int)) ∈ lw_all := lw_g (lw_at lw_m2 211 rfl) rfl
theorem q525 : (Jvm.Cond.methodLink "LostQuestions" (208 : Nat) ({ cls := "LostQuestions$Card", name := "kind", desc := "()I" } : Jvm.MethodName)) ∈ lw_all := lw_g (lw_at lw_m2 212 rfl) rfl
theorem q545 : (Jvm.Cond.methodLink "LostQuestions" (202 : Nat) ({ cls := "LostQuestions$Card", name := "says", desc := "()I" } : Jvm.MethodName)) ∈ lw_all := lw_g (lw_at lw_m2 232 rfl) rfl
theorem q555 : (Jvm.Cond.methodLink "LostQuestions" (188 : Nat) ({ cls := "LostQuestions$Card", name := "means", desc := "()I" } : Jvm.MethodName)) ∈ lw_all := lw_g (lw_at lw_m3 2 rfl) rfl
theorem q584 : (Jvm.Cond.methodLink "LostQuestions" (214 : Nat) ({ cls := "LostQuestions", name := "answers", desc := "(I)I" } : Jvm.MethodName)) ∈ lw_all := lw_g (lw_at lw_m3 31 rfl) rfl
theorem q585 : (Jvm.Cond.privateMethod ({ cls := "LostQuestions", name := "answers", desc := "(I)I" } : Jvm.MethodName)) ∈ lw_tbl := lw_at lw_m3 32 rfl
theorem q586 : (Jvm.Cond.instanceMethod ({ cls := "LostQuestions", name := "answers", desc := "(I)I" } : Jvm.MethodName)) ∈ lw_all := lw_g (lw_at lw_m3 33 rfl) rfl
theorem q587 : (Jvm.Cond.code ({ cls := "LostQuestions", name := "answers", desc := "(I)I" } : Jvm.MethodName) prog_1_method_36_code (3 : Nat) (Option.some Jvm.ClassFile.FieldType.int)) ∈ lw_all := lw_g (lw_at lw_m3 34 rfl) rfl
theorem q589 : (Jvm.Cond.instanceMethod ({ cls := "LostQuestions", name := "question", desc := "(II)I" } : Jvm.MethodName)) ∈ lw_all := lw_g (lw_at lw_m3 36 rfl) rfl
theorem q590 : (Jvm.Cond.selects "LostQuestions" ({ cls := "LostQuestions", name := "question", desc := "(II)I" } : Jvm.MethodName) ({ cls := "LostQuestions", name := "question", desc := "(II)I" } : Jvm.MethodName)) ∈ lw_all := lw_g (lw_at lw_m3 37 rfl) rfl
theorem q591 : (Jvm.Cond.code ({ cls := "LostQuestions", name := "question", desc := "(II)I" } : Jvm.MethodName) prog_1_method_40_code (3 : Nat) (Option.some Jvm.ClassFile.FieldType.int)) ∈ lw_all := lw_g (lw_at lw_m3 38 rfl) rfl
theorem q592 : (Jvm.Cond.methodLink "LostQuestions" (223 : Nat) ({ cls := "LostQuestions", name := "isQuestion", desc := "(I)Z" } : Jvm.MethodName)) ∈ lw_all := lw_g (lw_at lw_m3 39 rfl) rfl
theorem q593 : (Jvm.Cond.privateMethod ({ cls := "LostQuestions", name := "isQuestion", desc := "(I)Z" } : Jvm.MethodName)) ∈ lw_tbl := lw_at lw_m3 40 rfl
theorem q594 : (Jvm.Cond.instanceMethod ({ cls := "LostQuestions", name := "isQuestion", desc := "(I)Z" } : Jvm.MethodName)) ∈ lw_all := lw_g (lw_at lw_m3 41 rfl) rfl
theorem q595 : (Jvm.Cond.code ({ cls := "LostQuestions", name := "isQuestion", desc := "(I)Z" } : Jvm.MethodName) prog_1_method_27_code (2 : Nat) (Option.some Jvm.ClassFile.FieldType.boolean)) ∈ lw_all := lw_g (lw_at lw_m3 42 rfl) rfl
theorem q596 : (Jvm.Cond.methodLink "LostQuestions" (226 : Nat) ({ cls := "LostQuestions", name := "questionTells", desc := "(II)I" } : Jvm.MethodName)) ∈ lw_all := lw_g (lw_at lw_m3 43 rfl) rfl
theorem q597 : (Jvm.Cond.privateMethod ({ cls := "LostQuestions", name := "questionTells", desc := "(II)I" } : Jvm.MethodName)) ∈ lw_tbl := lw_at lw_m3 44 rfl
theorem q598 : (Jvm.Cond.instanceMethod ({ cls := "LostQuestions", name := "questionTells", desc := "(II)I" } : Jvm.MethodName)) ∈ lw_all := lw_g (lw_at lw_m3 45 rfl) rfl
theorem q599 : (Jvm.Cond.code ({ cls := "LostQuestions", name := "questionTells", desc := "(II)I" } : Jvm.MethodName) prog_1_method_39_code (3 : Nat) (Option.some Jvm.ClassFile.FieldType.int)) ∈ lw_all := lw_g (lw_at lw_m3 46 rfl) rfl
theorem q600 : (Jvm.Cond.methodLink "LostQuestions" (191 : Nat) ({ cls := "LostQuestions", name := "askOf", desc := "(II)I" } : Jvm.MethodName)) ∈ lw_all := lw_g (lw_at lw_m3 47 rfl) rfl
theorem q601 : (Jvm.Cond.privateMethod ({ cls := "LostQuestions", name := "askOf", desc := "(II)I" } : Jvm.MethodName)) ∈ lw_tbl := lw_at lw_m3 48 rfl
theorem q602 : (Jvm.Cond.instanceMethod ({ cls := "LostQuestions", name := "askOf", desc := "(II)I" } : Jvm.MethodName)) ∈ lw_all := lw_g (lw_at lw_m3 49 rfl) rfl
theorem q603 : (Jvm.Cond.code ({ cls := "LostQuestions", name := "askOf", desc := "(II)I" } : Jvm.MethodName) prog_1_method_28_code (3 : Nat) (Option.some Jvm.ClassFile.FieldType.int)) ∈ lw_all := lw_g (lw_at lw_m3 50 rfl) rfl
theorem q605 : (Jvm.Cond.instanceMethod ({ cls := "LostQuestions", name := "mark", desc := "(II)I" } : Jvm.MethodName)) ∈ lw_all := lw_g (lw_at lw_m3 52 rfl) rfl
theorem q606 : (Jvm.Cond.selects "LostQuestions" ({ cls := "LostQuestions", name := "mark", desc := "(II)I" } : Jvm.MethodName) ({ cls := "LostQuestions", name := "mark", desc := "(II)I" } : Jvm.MethodName)) ∈ lw_all := lw_g (lw_at lw_m3 53 rfl) rfl
theorem q607 : (Jvm.Cond.codeWith ({ cls := "LostQuestions", name := "mark", desc := "(II)I" } : Jvm.MethodName) prog_1_method_41_code (5 : Nat) (Option.some Jvm.ClassFile.FieldType.int) [((26 : Nat), (64 : Nat), (100 : Nat), (244 : Nat)), ((65 : Nat), (73 : Nat), (100 : Nat), (244 : Nat)), ((74 : Nat), (82 : Nat), (100 : Nat), (244 : Nat)), ((83 : Nat), (90 : Nat), (100 : Nat), (244 : Nat)), ((91 : Nat), (99 : Nat), (100 : Nat), (244 : Nat))]) ∈ lw_all := lw_g (lw_at lw_m3 54 rfl) rfl
theorem q608 : (Jvm.Cond.classLink "LostQuestions" (244 : Nat) "java/lang/ClassCastException") ∈ lw_all := lw_g (lw_at lw_m3 55 rfl) rfl
theorem q622 : (Jvm.Cond.methodLink "LostQuestions" (229 : Nat) ({ cls := "LostQuestions$Yes", name := "likes", desc := "(LLostQuestions;)I" } : Jvm.MethodName)) ∈ lw_all := lw_g (lw_at lw_m3 69 rfl) rfl
theorem q630 : (Jvm.Cond.privateMethod ({ cls := "LostQuestions", name := "meaning", desc := "(II)I" } : Jvm.MethodName)) ∈ lw_tbl := lw_at lw_m3 77 rfl
theorem q631 : (Jvm.Cond.instanceMethod ({ cls := "LostQuestions", name := "meaning", desc := "(II)I" } : Jvm.MethodName)) ∈ lw_all := lw_g (lw_at lw_m3 78 rfl) rfl
theorem q632 : (Jvm.Cond.code ({ cls := "LostQuestions", name := "meaning", desc := "(II)I" } : Jvm.MethodName) prog_1_method_33_code (5 : Nat) (Option.some Jvm.ClassFile.FieldType.int)) ∈ lw_all := lw_g (lw_at lw_m3 79 rfl) rfl
theorem q633 : (Jvm.Cond.methodLink "LostQuestions" (185 : Nat) ({ cls := "LostQuestions$Card", name := "is", desc := "(I)Z" } : Jvm.MethodName)) ∈ lw_all := lw_g (lw_at lw_m3 80 rfl) rfl
theorem q658 : (Jvm.Cond.methodLink "LostQuestions" (233 : Nat) ({ cls := "LostQuestions$Place", name := "besides", desc := "(LLostQuestions;)I" } : Jvm.MethodName)) ∈ lw_all := lw_g (lw_at lw_m3 105 rfl) rfl
theorem q672 : (Jvm.Cond.privateMethod ({ cls := "LostQuestions", name := "onShelf", desc := "(I)I" } : Jvm.MethodName)) ∈ lw_tbl := lw_at lw_m3 119 rfl
theorem q673 : (Jvm.Cond.instanceMethod ({ cls := "LostQuestions", name := "onShelf", desc := "(I)I" } : Jvm.MethodName)) ∈ lw_all := lw_g (lw_at lw_m3 120 rfl) rfl
theorem q674 : (Jvm.Cond.code ({ cls := "LostQuestions", name := "onShelf", desc := "(I)I" } : Jvm.MethodName) prog_1_method_35_code (4 : Nat) (Option.some Jvm.ClassFile.FieldType.int)) ∈ lw_all := lw_g (lw_at lw_m3 121 rfl) rfl
theorem q675 : (Jvm.Cond.methodLink "LostQuestions" (236 : Nat) ({ cls := "LostQuestions$Never", name := "asks", desc := "(LLostQuestions;)I" } : Jvm.MethodName)) ∈ lw_all := lw_g (lw_at lw_m3 122 rfl) rfl
theorem q683 : (Jvm.Cond.privateMethod ({ cls := "LostQuestions", name := "fitted", desc := "(I)I" } : Jvm.MethodName)) ∈ lw_tbl := lw_at lw_m3 130 rfl
theorem q684 : (Jvm.Cond.instanceMethod ({ cls := "LostQuestions", name := "fitted", desc := "(I)I" } : Jvm.MethodName)) ∈ lw_all := lw_g (lw_at lw_m3 131 rfl) rfl
theorem q685 : (Jvm.Cond.code ({ cls := "LostQuestions", name := "fitted", desc := "(I)I" } : Jvm.MethodName) prog_1_method_32_code (4 : Nat) (Option.some Jvm.ClassFile.FieldType.int)) ∈ lw_all := lw_g (lw_at lw_m3 132 rfl) rfl
theorem q686 : (Jvm.Cond.methodLink "LostQuestions" (198 : Nat) ({ cls := "LostQuestions", name := "doesFit", desc := "(II)Z" } : Jvm.MethodName)) ∈ lw_all := lw_g (lw_at lw_m3 133 rfl) rfl
theorem q687 : (Jvm.Cond.privateMethod ({ cls := "LostQuestions", name := "doesFit", desc := "(II)Z" } : Jvm.MethodName)) ∈ lw_tbl := lw_at lw_m3 134 rfl
theorem q688 : (Jvm.Cond.instanceMethod ({ cls := "LostQuestions", name := "doesFit", desc := "(II)Z" } : Jvm.MethodName)) ∈ lw_all := lw_g (lw_at lw_m3 135 rfl) rfl
theorem q689 : (Jvm.Cond.code ({ cls := "LostQuestions", name := "doesFit", desc := "(II)Z" } : Jvm.MethodName) prog_1_method_30_code (3 : Nat) (Option.some Jvm.ClassFile.FieldType.boolean)) ∈ lw_all := lw_g (lw_at lw_m3 136 rfl) rfl
theorem q690 : (Jvm.Cond.methodLink "LostQuestions" (194 : Nat) ({ cls := "LostQuestions", name := "isFor", desc := "(LLostQuestions$Card;III)Z" } : Jvm.MethodName)) ∈ lw_all := lw_g (lw_at lw_m3 137 rfl) rfl
theorem q691 : (Jvm.Cond.static ({ cls := "LostQuestions", name := "isFor", desc := "(LLostQuestions$Card;III)Z" } : Jvm.MethodName)) ∈ lw_all := lw_g (lw_at lw_m3 138 rfl) rfl
theorem q692 : (Jvm.Cond.code ({ cls := "LostQuestions", name := "isFor", desc := "(LLostQuestions$Card;III)Z" } : Jvm.MethodName) prog_1_method_29_code (4 : Nat) (Option.some Jvm.ClassFile.FieldType.boolean)) ∈ lw_all := lw_g (lw_at lw_m3 139 rfl) rfl
theorem q693 : (Jvm.Cond.methodLink "LostQuestions" (238 : Nat) ({ cls := "LostQuestions$Time", name := "goneBy", desc := "()I" } : Jvm.MethodName)) ∈ lw_all := lw_g (lw_at lw_m3 140 rfl) rfl
theorem q702 : (Jvm.Cond.methodLink "LostQuestions" (241 : Nat) ({ cls := "LostQuestions$Behind", name := "before", desc := "(LLostQuestions;)I" } : Jvm.MethodName)) ∈ lw_all := lw_g (lw_at lw_m3 149 rfl) rfl
theorem q708 : (Jvm.Cond.privateMethod ({ cls := "LostQuestions", name := "saying", desc := "(II)I" } : Jvm.MethodName)) ∈ lw_tbl := lw_at lw_m3 155 rfl
theorem q709 : (Jvm.Cond.instanceMethod ({ cls := "LostQuestions", name := "saying", desc := "(II)I" } : Jvm.MethodName)) ∈ lw_all := lw_g (lw_at lw_m3 156 rfl) rfl
theorem q710 : (Jvm.Cond.code ({ cls := "LostQuestions", name := "saying", desc := "(II)I" } : Jvm.MethodName) prog_1_method_34_code (5 : Nat) (Option.some Jvm.ClassFile.FieldType.int)) ∈ lw_all := lw_g (lw_at lw_m3 157 rfl) rfl
theorem q712 : (Jvm.Cond.instanceMethod ({ cls := "LostQuestions", name := "shelve", desc := "(II)I" } : Jvm.MethodName)) ∈ lw_all := lw_g (lw_at lw_m3 159 rfl) rfl
theorem q713 : (Jvm.Cond.selects "LostQuestions" ({ cls := "LostQuestions", name := "shelve", desc := "(II)I" } : Jvm.MethodName) ({ cls := "LostQuestions", name := "shelve", desc := "(II)I" } : Jvm.MethodName)) ∈ lw_all := lw_g (lw_at lw_m3 160 rfl) rfl
theorem q714 : (Jvm.Cond.code ({ cls := "LostQuestions", name := "shelve", desc := "(II)I" } : Jvm.MethodName) prog_1_method_42_code (4 : Nat) (Option.some Jvm.ClassFile.FieldType.int)) ∈ lw_all := lw_g (lw_at lw_m3 161 rfl) rfl
theorem q716 : (Jvm.Cond.instanceMethod ({ cls := "LostQuestions", name := "age", desc := "(II)I" } : Jvm.MethodName)) ∈ lw_all := lw_g (lw_at lw_m3 163 rfl) rfl
theorem q717 : (Jvm.Cond.selects "LostQuestions" ({ cls := "LostQuestions", name := "age", desc := "(II)I" } : Jvm.MethodName) ({ cls := "LostQuestions", name := "age", desc := "(II)I" } : Jvm.MethodName)) ∈ lw_all := lw_g (lw_at lw_m3 164 rfl) rfl
theorem q718 : (Jvm.Cond.code ({ cls := "LostQuestions", name := "age", desc := "(II)I" } : Jvm.MethodName) prog_1_method_43_code (4 : Nat) (Option.some Jvm.ClassFile.FieldType.int)) ∈ lw_all := lw_g (lw_at lw_m3 165 rfl) rfl
theorem q720 : (Jvm.Cond.instanceMethod ({ cls := "LostQuestions", name := "truth", desc := "(II)I" } : Jvm.MethodName)) ∈ lw_all := lw_g (lw_at lw_m3 167 rfl) rfl
theorem q721 : (Jvm.Cond.selects "LostQuestions" ({ cls := "LostQuestions", name := "truth", desc := "(II)I" } : Jvm.MethodName) ({ cls := "LostQuestions", name := "truth", desc := "(II)I" } : Jvm.MethodName)) ∈ lw_all := lw_g (lw_at lw_m3 168 rfl) rfl
theorem q722 : (Jvm.Cond.code ({ cls := "LostQuestions", name := "truth", desc := "(II)I" } : Jvm.MethodName) prog_1_method_44_code (4 : Nat) (Option.some Jvm.ClassFile.FieldType.int)) ∈ lw_all := lw_g (lw_at lw_m3 169 rfl) rfl
theorem q724 : (Jvm.Cond.instanceMethod ({ cls := "LostQuestions", name := "fits", desc := "(I)I" } : Jvm.MethodName)) ∈ lw_all := lw_g (lw_at lw_m3 171 rfl) rfl
theorem q725 : (Jvm.Cond.selects "LostQuestions" ({ cls := "LostQuestions", name := "fits", desc := "(I)I" } : Jvm.MethodName) ({ cls := "LostQuestions", name := "fits", desc := "(I)I" } : Jvm.MethodName)) ∈ lw_all := lw_g (lw_at lw_m3 172 rfl) rfl
theorem q726 : (Jvm.Cond.code ({ cls := "LostQuestions", name := "fits", desc := "(I)I" } : Jvm.MethodName) prog_1_method_45_code (2 : Nat) (Option.some Jvm.ClassFile.FieldType.int)) ∈ lw_all := lw_g (lw_at lw_m3 173 rfl) rfl
theorem q727 : (Jvm.Cond.methodLink "LostQuestions" (246 : Nat) ({ cls := "LostQuestions", name := "fitSet", desc := "(I)I" } : Jvm.MethodName)) ∈ lw_all := lw_g (lw_at lw_m3 174 rfl) rfl
theorem q728 : (Jvm.Cond.privateMethod ({ cls := "LostQuestions", name := "fitSet", desc := "(I)I" } : Jvm.MethodName)) ∈ lw_tbl := lw_at lw_m3 175 rfl
theorem q729 : (Jvm.Cond.instanceMethod ({ cls := "LostQuestions", name := "fitSet", desc := "(I)I" } : Jvm.MethodName)) ∈ lw_all := lw_g (lw_at lw_m3 176 rfl) rfl
theorem q730 : (Jvm.Cond.code ({ cls := "LostQuestions", name := "fitSet", desc := "(I)I" } : Jvm.MethodName) prog_1_method_31_code (4 : Nat) (Option.some Jvm.ClassFile.FieldType.int)) ∈ lw_all := lw_g (lw_at lw_m3 177 rfl) rfl
theorem q732 : (Jvm.Cond.instanceMethod ({ cls := "LostQuestions", name := "take", desc := "(II)I" } : Jvm.MethodName)) ∈ lw_all := lw_g (lw_at lw_m3 179 rfl) rfl
theorem q733 : (Jvm.Cond.selects "LostQuestions" ({ cls := "LostQuestions", name := "take", desc := "(II)I" } : Jvm.MethodName) ({ cls := "LostQuestions", name := "take", desc := "(II)I" } : Jvm.MethodName)) ∈ lw_all := lw_g (lw_at lw_m3 180 rfl) rfl
theorem q734 : (Jvm.Cond.code ({ cls := "LostQuestions", name := "take", desc := "(II)I" } : Jvm.MethodName) prog_1_method_49_code (3 : Nat) (Option.some Jvm.ClassFile.FieldType.int)) ∈ lw_all := lw_g (lw_at lw_m3 181 rfl) rfl
theorem q735 : (Jvm.Cond.methodLink "LostQuestions" (252 : Nat) ({ cls := "LostQuestions", name := "mayTake", desc := "(II)Z" } : Jvm.MethodName)) ∈ lw_all := lw_g (lw_at lw_m3 182 rfl) rfl
theorem q736 : (Jvm.Cond.privateMethod ({ cls := "LostQuestions", name := "mayTake", desc := "(II)Z" } : Jvm.MethodName)) ∈ lw_tbl := lw_at lw_m3 183 rfl
theorem q737 : (Jvm.Cond.instanceMethod ({ cls := "LostQuestions", name := "mayTake", desc := "(II)Z" } : Jvm.MethodName)) ∈ lw_all := lw_g (lw_at lw_m3 184 rfl) rfl
theorem q738 : (Jvm.Cond.code ({ cls := "LostQuestions", name := "mayTake", desc := "(II)Z" } : Jvm.MethodName) prog_1_method_47_code (3 : Nat) (Option.some Jvm.ClassFile.FieldType.boolean)) ∈ lw_all := lw_g (lw_at lw_m3 185 rfl) rfl
theorem q739 : (Jvm.Cond.methodLink "LostQuestions" (255 : Nat) ({ cls := "LostQuestions", name := "takeTruly", desc := "(II)I" } : Jvm.MethodName)) ∈ lw_all := lw_g (lw_at lw_m3 186 rfl) rfl
theorem q740 : (Jvm.Cond.privateMethod ({ cls := "LostQuestions", name := "takeTruly", desc := "(II)I" } : Jvm.MethodName)) ∈ lw_tbl := lw_at lw_m3 187 rfl
theorem q741 : (Jvm.Cond.instanceMethod ({ cls := "LostQuestions", name := "takeTruly", desc := "(II)I" } : Jvm.MethodName)) ∈ lw_all := lw_g (lw_at lw_m3 188 rfl) rfl
theorem q742 : (Jvm.Cond.code ({ cls := "LostQuestions", name := "takeTruly", desc := "(II)I" } : Jvm.MethodName) prog_1_method_48_code (3 : Nat) (Option.some Jvm.ClassFile.FieldType.int)) ∈ lw_all := lw_g (lw_at lw_m3 189 rfl) rfl
theorem q743 : (Jvm.Cond.methodLink "LostQuestions" (249 : Nat) ({ cls := "LostQuestions", name := "isRight", desc := "(I)I" } : Jvm.MethodName)) ∈ lw_all := lw_g (lw_at lw_m3 190 rfl) rfl
theorem q744 : (Jvm.Cond.privateMethod ({ cls := "LostQuestions", name := "isRight", desc := "(I)I" } : Jvm.MethodName)) ∈ lw_tbl := lw_at lw_m3 191 rfl
theorem q745 : (Jvm.Cond.instanceMethod ({ cls := "LostQuestions", name := "isRight", desc := "(I)I" } : Jvm.MethodName)) ∈ lw_all := lw_g (lw_at lw_m3 192 rfl) rfl
theorem q746 : (Jvm.Cond.code ({ cls := "LostQuestions", name := "isRight", desc := "(I)I" } : Jvm.MethodName) prog_1_method_46_code (2 : Nat) (Option.some Jvm.ClassFile.FieldType.int)) ∈ lw_all := lw_g (lw_at lw_m3 193 rfl) rfl
theorem q748 : (Jvm.Cond.instanceMethod ({ cls := "LostQuestions", name := "bring", desc := "(I)I" } : Jvm.MethodName)) ∈ lw_all := lw_g (lw_at lw_m3 195 rfl) rfl
theorem q749 : (Jvm.Cond.selects "LostQuestions" ({ cls := "LostQuestions", name := "bring", desc := "(I)I" } : Jvm.MethodName) ({ cls := "LostQuestions", name := "bring", desc := "(I)I" } : Jvm.MethodName)) ∈ lw_all := lw_g (lw_at lw_m3 196 rfl) rfl
theorem q750 : (Jvm.Cond.code ({ cls := "LostQuestions", name := "bring", desc := "(I)I" } : Jvm.MethodName) prog_1_method_50_code (3 : Nat) (Option.some Jvm.ClassFile.FieldType.int)) ∈ lw_all := lw_g (lw_at lw_m3 197 rfl) rfl
theorem q752 : (Jvm.Cond.instanceMethod ({ cls := "LostQuestions", name := "undo", desc := "(I)I" } : Jvm.MethodName)) ∈ lw_all := lw_g (lw_at lw_m3 199 rfl) rfl
theorem q753 : (Jvm.Cond.selects "LostQuestions" ({ cls := "LostQuestions", name := "undo", desc := "(I)I" } : Jvm.MethodName) ({ cls := "LostQuestions", name := "undo", desc := "(I)I" } : Jvm.MethodName)) ∈ lw_all := lw_g (lw_at lw_m3 200 rfl) rfl
theorem q754 : (Jvm.Cond.code ({ cls := "LostQuestions", name := "undo", desc := "(I)I" } : Jvm.MethodName) prog_1_method_51_code (3 : Nat) (Option.some Jvm.ClassFile.FieldType.int)) ∈ lw_all := lw_g (lw_at lw_m3 201 rfl) rfl
theorem q756 : (Jvm.Cond.instanceMethod ({ cls := "LostQuestions", name := "right", desc := "()I" } : Jvm.MethodName)) ∈ lw_all := lw_g (lw_at lw_m3 203 rfl) rfl
theorem q757 : (Jvm.Cond.selects "LostQuestions" ({ cls := "LostQuestions", name := "right", desc := "()I" } : Jvm.MethodName) ({ cls := "LostQuestions", name := "right", desc := "()I" } : Jvm.MethodName)) ∈ lw_all := lw_g (lw_at lw_m3 204 rfl) rfl
theorem q758 : (Jvm.Cond.code ({ cls := "LostQuestions", name := "right", desc := "()I" } : Jvm.MethodName) prog_1_method_53_code (1 : Nat) (Option.some Jvm.ClassFile.FieldType.int)) ∈ lw_all := lw_g (lw_at lw_m3 205 rfl) rfl
theorem q759 : (Jvm.Cond.methodLink "LostQuestions" (258 : Nat) ({ cls := "LostQuestions", name := "rightMany", desc := "(I)I" } : Jvm.MethodName)) ∈ lw_all := lw_g (lw_at lw_m3 206 rfl) rfl
theorem q760 : (Jvm.Cond.privateMethod ({ cls := "LostQuestions", name := "rightMany", desc := "(I)I" } : Jvm.MethodName)) ∈ lw_tbl := lw_at lw_m3 207 rfl
theorem q761 : (Jvm.Cond.instanceMethod ({ cls := "LostQuestions", name := "rightMany", desc := "(I)I" } : Jvm.MethodName)) ∈ lw_all := lw_g (lw_at lw_m3 208 rfl) rfl
theorem q762 : (Jvm.Cond.code ({ cls := "LostQuestions", name := "rightMany", desc := "(I)I" } : Jvm.MethodName) prog_1_method_52_code (4 : Nat) (Option.some Jvm.ClassFile.FieldType.int)) ∈ lw_all := lw_g (lw_at lw_m3 209 rfl) rfl
theorem q764 : (Jvm.Cond.instanceMethod ({ cls := "LostQuestions", name := "keep", desc := "(I)I" } : Jvm.MethodName)) ∈ lw_all := lw_g (lw_at lw_m3 211 rfl) rfl
theorem q765 : (Jvm.Cond.selects "LostQuestions" ({ cls := "LostQuestions", name := "keep", desc := "(I)I" } : Jvm.MethodName) ({ cls := "LostQuestions", name := "keep", desc := "(I)I" } : Jvm.MethodName)) ∈ lw_all := lw_g (lw_at lw_m3 212 rfl) rfl
theorem q766 : (Jvm.Cond.code ({ cls := "LostQuestions", name := "keep", desc := "(I)I" } : Jvm.MethodName) prog_1_method_55_code (4 : Nat) (Option.some Jvm.ClassFile.FieldType.int)) ∈ lw_all := lw_g (lw_at lw_m3 213 rfl) rfl
theorem q767 : (Jvm.Cond.methodLink "LostQuestions" (261 : Nat) ({ cls := "LostQuestions", name := "isKept", desc := "(I)Z" } : Jvm.MethodName)) ∈ lw_all := lw_g (lw_at lw_m3 214 rfl) rfl
theorem q768 : (Jvm.Cond.static ({ cls := "LostQuestions", name := "isKept", desc := "(I)Z" } : Jvm.MethodName)) ∈ lw_all := lw_g (lw_at lw_m3 215 rfl) rfl
theorem q769 : (Jvm.Cond.code ({ cls := "LostQuestions", name := "isKept", desc := "(I)Z" } : Jvm.MethodName) prog_1_method_54_code (1 : Nat) (Option.some Jvm.ClassFile.FieldType.boolean)) ∈ lw_all := lw_g (lw_at lw_m3 216 rfl) rfl
theorem q771 : (Jvm.Cond.methodLinkNest "LostQuestions" (264 : Nat) ({ cls := "LostQuestions$Kept", name := "<init>", desc := "()V" } : Jvm.MethodName) "LostQuestions") ∈ lw_tbl := lw_at lw_m3 218 rfl
theorem q775 : (Jvm.Cond.fieldLinkNest "LostQuestions" (265 : Nat) "LostQuestions$Kept" "takingMany" "I" "LostQuestions") ∈ lw_tbl := lw_at lw_m3 222 rfl
theorem q777 : (Jvm.Cond.fieldLinkNest "LostQuestions" (266 : Nat) "LostQuestions$Kept" "takings" "[I" "LostQuestions") ∈ lw_tbl := lw_at lw_m3 224 rfl
theorem q779 : (Jvm.Cond.fieldLinkNest "LostQuestions" (267 : Nat) "LostQuestions$Kept" "ahead" "[I" "LostQuestions") ∈ lw_tbl := lw_at lw_m3 226 rfl
theorem q781 : (Jvm.Cond.fieldLinkNest "LostQuestions" (268 : Nat) "LostQuestions$Kept" "by" "[I" "LostQuestions") ∈ lw_tbl := lw_at lw_m3 228 rfl
theorem q783 : (Jvm.Cond.fieldLinkNest "LostQuestions" (269 : Nat) "LostQuestions$Kept" "truths" "[I" "LostQuestions") ∈ lw_tbl := lw_at lw_m3 230 rfl
theorem q785 : (Jvm.Cond.fieldLinkNest "LostQuestions" (270 : Nat) "LostQuestions$Kept" "shelves" "[I" "LostQuestions") ∈ lw_tbl := lw_at lw_m3 232 rfl
theorem q787 : (Jvm.Cond.fieldLinkNest "LostQuestions" (273 : Nat) "LostQuestions$Kept" "ages" "[I" "LostQuestions") ∈ lw_tbl := lw_at lw_m3 234 rfl
theorem q804 : (Jvm.Cond.instanceMethod ({ cls := "LostQuestions", name := "on", desc := "(I)I" } : Jvm.MethodName)) ∈ lw_all := lw_g (lw_at lw_m4 11 rfl) rfl
theorem q805 : (Jvm.Cond.selects "LostQuestions" ({ cls := "LostQuestions", name := "on", desc := "(I)I" } : Jvm.MethodName) ({ cls := "LostQuestions", name := "on", desc := "(I)I" } : Jvm.MethodName)) ∈ lw_all := lw_g (lw_at lw_m4 12 rfl) rfl
theorem q806 : (Jvm.Cond.code ({ cls := "LostQuestions", name := "on", desc := "(I)I" } : Jvm.MethodName) prog_1_method_56_code (4 : Nat) (Option.some Jvm.ClassFile.FieldType.int)) ∈ lw_all := lw_g (lw_at lw_m4 13 rfl) rfl
theorem q808 : (Jvm.Cond.instanceMethod ({ cls := "LostQuestions", name := "match", desc := "(I)I" } : Jvm.MethodName)) ∈ lw_all := lw_g (lw_at lw_m4 15 rfl) rfl
theorem q809 : (Jvm.Cond.selects "LostQuestions" ({ cls := "LostQuestions", name := "match", desc := "(I)I" } : Jvm.MethodName) ({ cls := "LostQuestions", name := "match", desc := "(I)I" } : Jvm.MethodName)) ∈ lw_all := lw_g (lw_at lw_m4 16 rfl) rfl
theorem q810 : (Jvm.Cond.code ({ cls := "LostQuestions", name := "match", desc := "(I)I" } : Jvm.MethodName) prog_1_method_61_code (2 : Nat) (Option.some Jvm.ClassFile.FieldType.int)) ∈ lw_all := lw_g (lw_at lw_m4 17 rfl) rfl
theorem q811 : (Jvm.Cond.methodLink "LostQuestions" (292 : Nat) ({ cls := "LostQuestions", name := "matchTo", desc := "(IZ)I" } : Jvm.MethodName)) ∈ lw_all := lw_g (lw_at lw_m4 18 rfl) rfl
theorem q812 : (Jvm.Cond.privateMethod ({ cls := "LostQuestions", name := "matchTo", desc := "(IZ)I" } : Jvm.MethodName)) ∈ lw_tbl := lw_at lw_m4 19 rfl
theorem q813 : (Jvm.Cond.instanceMethod ({ cls := "LostQuestions", name := "matchTo", desc := "(IZ)I" } : Jvm.MethodName)) ∈ lw_all := lw_g (lw_at lw_m4 20 rfl) rfl
theorem q814 : (Jvm.Cond.code ({ cls := "LostQuestions", name := "matchTo", desc := "(IZ)I" } : Jvm.MethodName) prog_1_method_60_code (3 : Nat) (Option.some Jvm.ClassFile.FieldType.int)) ∈ lw_all := lw_g (lw_at lw_m4 21 rfl) rfl
theorem q815 : (Jvm.Cond.methodLink "LostQuestions" (289 : Nat) ({ cls := "LostQuestions", name := "freeCards", desc := "()I" } : Jvm.MethodName)) ∈ lw_all := lw_g (lw_at lw_m4 22 rfl) rfl
theorem q816 : (Jvm.Cond.privateMethod ({ cls := "LostQuestions", name := "freeCards", desc := "()I" } : Jvm.MethodName)) ∈ lw_tbl := lw_at lw_m4 23 rfl
theorem q817 : (Jvm.Cond.instanceMethod ({ cls := "LostQuestions", name := "freeCards", desc := "()I" } : Jvm.MethodName)) ∈ lw_all := lw_g (lw_at lw_m4 24 rfl) rfl
theorem q818 : (Jvm.Cond.code ({ cls := "LostQuestions", name := "freeCards", desc := "()I" } : Jvm.MethodName) prog_1_method_57_code (3 : Nat) (Option.some Jvm.ClassFile.FieldType.int)) ∈ lw_all := lw_g (lw_at lw_m4 25 rfl) rfl
theorem q819 : (Jvm.Cond.methodLink "LostQuestions" (285 : Nat) ({ cls := "LostQuestions", name := "bestOn", desc := "(IIIZ)V" } : Jvm.MethodName)) ∈ lw_all := lw_g (lw_at lw_m4 26 rfl) rfl
theorem q820 : (Jvm.Cond.privateMethod ({ cls := "LostQuestions", name := "bestOn", desc := "(IIIZ)V" } : Jvm.MethodName)) ∈ lw_tbl := lw_at lw_m4 27 rfl
theorem q821 : (Jvm.Cond.instanceMethod ({ cls := "LostQuestions", name := "bestOn", desc := "(IIIZ)V" } : Jvm.MethodName)) ∈ lw_all := lw_g (lw_at lw_m4 28 rfl) rfl
theorem q822 : (Jvm.Cond.code ({ cls := "LostQuestions", name := "bestOn", desc := "(IIIZ)V" } : Jvm.MethodName) prog_1_method_59_code (7 : Nat) (Option.none : Option Jvm.ClassFile.FieldType)) ∈ lw_all := lw_g (lw_at lw_m4 29 rfl) rfl
theorem q823 : (Jvm.Cond.methodLink "LostQuestions" (279 : Nat) ({ cls := "LostQuestions", name := "mayAnswer", desc := "(II)I" } : Jvm.MethodName)) ∈ lw_all := lw_g (lw_at lw_m4 30 rfl) rfl
theorem q824 : (Jvm.Cond.privateMethod ({ cls := "LostQuestions", name := "mayAnswer", desc := "(II)I" } : Jvm.MethodName)) ∈ lw_tbl := lw_at lw_m4 31 rfl
theorem q825 : (Jvm.Cond.instanceMethod ({ cls := "LostQuestions", name := "mayAnswer", desc := "(II)I" } : Jvm.MethodName)) ∈ lw_all := lw_g (lw_at lw_m4 32 rfl) rfl
theorem q826 : (Jvm.Cond.code ({ cls := "LostQuestions", name := "mayAnswer", desc := "(II)I" } : Jvm.MethodName) prog_1_method_58_code (5 : Nat) (Option.some Jvm.ClassFile.FieldType.int)) ∈ lw_all := lw_g (lw_at lw_m4 33 rfl) rfl
theorem q827 : (Jvm.Cond.methodLink "LostQuestions" (282 : Nat) ({ cls := "LostQuestions", name := "has", desc := "(II)Z" } : Jvm.MethodName)) ∈ lw_all := lw_g (lw_at lw_m4 34 rfl) rfl
theorem q828 : (Jvm.Cond.static ({ cls := "LostQuestions", name := "has", desc := "(II)Z" } : Jvm.MethodName)) ∈ lw_all := lw_g (lw_at lw_m4 35 rfl) rfl
theorem q829 : (Jvm.Cond.code ({ cls := "LostQuestions", name := "has", desc := "(II)Z" } : Jvm.MethodName) prog_1_method_2_code (2 : Nat) (Option.some Jvm.ClassFile.FieldType.boolean)) ∈ lw_all := lw_g (lw_at lw_m4 36 rfl) rfl
theorem q831 : (Jvm.Cond.instanceMethod ({ cls := "LostQuestions", name := "wished", desc := "(I)I" } : Jvm.MethodName)) ∈ lw_all := lw_g (lw_at lw_m4 38 rfl) rfl
theorem q832 : (Jvm.Cond.selects "LostQuestions" ({ cls := "LostQuestions", name := "wished", desc := "(I)I" } : Jvm.MethodName) ({ cls := "LostQuestions", name := "wished", desc := "(I)I" } : Jvm.MethodName)) ∈ lw_all := lw_g (lw_at lw_m4 39 rfl) rfl
theorem q833 : (Jvm.Cond.code ({ cls := "LostQuestions", name := "wished", desc := "(I)I" } : Jvm.MethodName) prog_1_method_62_code (2 : Nat) (Option.some Jvm.ClassFile.FieldType.int)) ∈ lw_all := lw_g (lw_at lw_m4 40 rfl) rfl
theorem q835 : (Jvm.Cond.instanceMethod ({ cls := "LostQuestions", name := "fullest", desc := "()I" } : Jvm.MethodName)) ∈ lw_all := lw_g (lw_at lw_m4 42 rfl) rfl
theorem q836 : (Jvm.Cond.selects "LostQuestions" ({ cls := "LostQuestions", name := "fullest", desc := "()I" } : Jvm.MethodName) ({ cls := "LostQuestions", name := "fullest", desc := "()I" } : Jvm.MethodName)) ∈ lw_all := lw_g (lw_at lw_m4 43 rfl) rfl
theorem q837 : (Jvm.Cond.code ({ cls := "LostQuestions", name := "fullest", desc := "()I" } : Jvm.MethodName) prog_1_method_65_code (3 : Nat) (Option.some Jvm.ClassFile.FieldType.int)) ∈ lw_all := lw_g (lw_at lw_m4 44 rfl) rfl
theorem q838 : (Jvm.Cond.methodLink "LostQuestions" (303 : Nat) ({ cls := "LostQuestions", name := "setFullest", desc := "()V" } : Jvm.MethodName)) ∈ lw_all := lw_g (lw_at lw_m4 45 rfl) rfl
theorem q839 : (Jvm.Cond.privateMethod ({ cls := "LostQuestions", name := "setFullest", desc := "()V" } : Jvm.MethodName)) ∈ lw_tbl := lw_at lw_m4 46 rfl
theorem q840 : (Jvm.Cond.instanceMethod ({ cls := "LostQuestions", name := "setFullest", desc := "()V" } : Jvm.MethodName)) ∈ lw_all := lw_g (lw_at lw_m4 47 rfl) rfl
theorem q841 : (Jvm.Cond.code ({ cls := "LostQuestions", name := "setFullest", desc := "()V" } : Jvm.MethodName) prog_1_method_64_code (2 : Nat) (Option.none : Option Jvm.ClassFile.FieldType)) ∈ lw_all := lw_g (lw_at lw_m4 48 rfl) rfl
theorem q842 : (Jvm.Cond.methodLink "LostQuestions" (299 : Nat) ({ cls := "LostQuestions", name := "fullOn", desc := "(III)V" } : Jvm.MethodName)) ∈ lw_all := lw_g (lw_at lw_m4 49 rfl) rfl
theorem q843 : (Jvm.Cond.privateMethod ({ cls := "LostQuestions", name := "fullOn", desc := "(III)V" } : Jvm.MethodName)) ∈ lw_tbl := lw_at lw_m4 50 rfl
theorem q844 : (Jvm.Cond.instanceMethod ({ cls := "LostQuestions", name := "fullOn", desc := "(III)V" } : Jvm.MethodName)) ∈ lw_all := lw_g (lw_at lw_m4 51 rfl) rfl
theorem q845 : (Jvm.Cond.code ({ cls := "LostQuestions", name := "fullOn", desc := "(III)V" } : Jvm.MethodName) prog_1_method_63_code (6 : Nat) (Option.none : Option Jvm.ClassFile.FieldType)) ∈ lw_all := lw_g (lw_at lw_m4 52 rfl) rfl
theorem q847 : (Jvm.Cond.instanceMethod ({ cls := "LostQuestions", name := "may", desc := "(I)I" } : Jvm.MethodName)) ∈ lw_all := lw_g (lw_at lw_m4 54 rfl) rfl
theorem q848 : (Jvm.Cond.selects "LostQuestions" ({ cls := "LostQuestions", name := "may", desc := "(I)I" } : Jvm.MethodName) ({ cls := "LostQuestions", name := "may", desc := "(I)I" } : Jvm.MethodName)) ∈ lw_all := lw_g (lw_at lw_m4 55 rfl) rfl
theorem q849 : (Jvm.Cond.code ({ cls := "LostQuestions", name := "may", desc := "(I)I" } : Jvm.MethodName) prog_1_method_66_code (4 : Nat) (Option.some Jvm.ClassFile.FieldType.int)) ∈ lw_all := lw_g (lw_at lw_m4 56 rfl) rfl
theorem q851 : (Jvm.Cond.instanceMethod ({ cls := "LostQuestions", name := "sure", desc := "(I)I" } : Jvm.MethodName)) ∈ lw_all := lw_g (lw_at lw_m4 58 rfl) rfl
theorem q852 : (Jvm.Cond.selects "LostQuestions" ({ cls := "LostQuestions", name := "sure", desc := "(I)I" } : Jvm.MethodName) ({ cls := "LostQuestions", name := "sure", desc := "(I)I" } : Jvm.MethodName)) ∈ lw_all := lw_g (lw_at lw_m4 59 rfl) rfl
theorem q853 : (Jvm.Cond.code ({ cls := "LostQuestions", name := "sure", desc := "(I)I" } : Jvm.MethodName) prog_1_method_67_code (3 : Nat) (Option.some Jvm.ClassFile.FieldType.int)) ∈ lw_all := lw_g (lw_at lw_m4 60 rfl) rfl
theorem q855 : (Jvm.Cond.instanceMethod ({ cls := "LostQuestions", name := "test", desc := "()I" } : Jvm.MethodName)) ∈ lw_all := lw_g (lw_at lw_m4 62 rfl) rfl
theorem q856 : (Jvm.Cond.selects "LostQuestions" ({ cls := "LostQuestions", name := "test", desc := "()I" } : Jvm.MethodName) ({ cls := "LostQuestions", name := "test", desc := "()I" } : Jvm.MethodName)) ∈ lw_all := lw_g (lw_at lw_m4 63 rfl) rfl
theorem q857 : (Jvm.Cond.code ({ cls := "LostQuestions", name := "test", desc := "()I" } : Jvm.MethodName) prog_1_method_68_code (8 : Nat) (Option.some Jvm.ClassFile.FieldType.int)) ∈ lw_all := lw_g (lw_at lw_m4 64 rfl) rfl
theorem q858 : (Jvm.Cond.constant "LostQuestions" (306 : Nat) (1048576 : Int32)) ∈ lw_all := lw_g (lw_at lw_m4 65 rfl) rfl
theorem q859 : (Jvm.Cond.methodLink "LostQuestions" (307 : Nat) ({ cls := "java/lang/Math", name := "max", desc := "(II)I" } : Jvm.MethodName)) ∈ lw_all := lw_g (lw_at lw_m4 66 rfl) rfl
theorem q863 : (Jvm.Cond.instanceMethod ({ cls := "LostQuestions", name := "odds", desc := "(II)I" } : Jvm.MethodName)) ∈ lw_all := lw_g (lw_at lw_m4 70 rfl) rfl
theorem q864 : (Jvm.Cond.selects "LostQuestions" ({ cls := "LostQuestions", name := "odds", desc := "(II)I" } : Jvm.MethodName) ({ cls := "LostQuestions", name := "odds", desc := "(II)I" } : Jvm.MethodName)) ∈ lw_all := lw_g (lw_at lw_m4 71 rfl) rfl
theorem q865 : (Jvm.Cond.code ({ cls := "LostQuestions", name := "odds", desc := "(II)I" } : Jvm.MethodName) prog_1_method_69_code (3 : Nat) (Option.some Jvm.ClassFile.FieldType.int)) ∈ lw_all := lw_g (lw_at lw_m4 72 rfl) rfl
theorem q866 : (Jvm.Cond.methodLink "LostQuestions" (312 : Nat) ({ cls := "LostQuestions", name := "chances", desc := "(II)I" } : Jvm.MethodName)) ∈ lw_all := lw_g (lw_at lw_m4 73 rfl) rfl
theorem q867 : (Jvm.Cond.privateMethod ({ cls := "LostQuestions", name := "chances", desc := "(II)I" } : Jvm.MethodName)) ∈ lw_tbl := lw_at lw_m4 74 rfl
theorem q868 : (Jvm.Cond.instanceMethod ({ cls := "LostQuestions", name := "chances", desc := "(II)I" } : Jvm.MethodName)) ∈ lw_all := lw_g (lw_at lw_m4 75 rfl) rfl
theorem q869 : (Jvm.Cond.code ({ cls := "LostQuestions", name := "chances", desc := "(II)I" } : Jvm.MethodName) prog_1_method_5_code (6 : Nat) (Option.some Jvm.ClassFile.FieldType.int)) ∈ lw_all := lw_g (lw_at lw_m4 76 rfl) rfl
theorem q871 : (Jvm.Cond.instanceMethod ({ cls := "LostQuestions", name := "worlds", desc := "()I" } : Jvm.MethodName)) ∈ lw_all := lw_g (lw_at lw_m4 78 rfl) rfl
theorem q872 : (Jvm.Cond.selects "LostQuestions" ({ cls := "LostQuestions", name := "worlds", desc := "()I" } : Jvm.MethodName) ({ cls := "LostQuestions", name := "worlds", desc := "()I" } : Jvm.MethodName)) ∈ lw_all := lw_g (lw_at lw_m4 79 rfl) rfl
theorem q873 : (Jvm.Cond.code ({ cls := "LostQuestions", name := "worlds", desc := "()I" } : Jvm.MethodName) prog_1_method_70_code (5 : Nat) (Option.some Jvm.ClassFile.FieldType.int)) ∈ lw_all := lw_g (lw_at lw_m4 80 rfl) rfl
theorem q875 : (Jvm.Cond.instanceMethod ({ cls := "LostQuestions", name := "never", desc := "()I" } : Jvm.MethodName)) ∈ lw_all := lw_g (lw_at lw_m4 82 rfl) rfl
theorem q876 : (Jvm.Cond.selects "LostQuestions" ({ cls := "LostQuestions", name := "never", desc := "()I" } : Jvm.MethodName) ({ cls := "LostQuestions", name := "never", desc := "()I" } : Jvm.MethodName)) ∈ lw_all := lw_g (lw_at lw_m4 83 rfl) rfl
theorem q877 : (Jvm.Cond.code ({ cls := "LostQuestions", name := "never", desc := "()I" } : Jvm.MethodName) prog_1_method_71_code (5 : Nat) (Option.some Jvm.ClassFile.FieldType.int)) ∈ lw_all := lw_g (lw_at lw_m4 84 rfl) rfl
theorem q879 : (Jvm.Cond.instanceMethod ({ cls := "LostQuestions", name := "parts", desc := "()I" } : Jvm.MethodName)) ∈ lw_all := lw_g (lw_at lw_m4 86 rfl) rfl
theorem q880 : (Jvm.Cond.selects "LostQuestions" ({ cls := "LostQuestions", name := "parts", desc := "()I" } : Jvm.MethodName) ({ cls := "LostQuestions", name := "parts", desc := "()I" } : Jvm.MethodName)) ∈ lw_all := lw_g (lw_at lw_m4 87 rfl) rfl
theorem q881 : (Jvm.Cond.code ({ cls := "LostQuestions", name := "parts", desc := "()I" } : Jvm.MethodName) prog_1_method_73_code (10 : Nat) (Option.some Jvm.ClassFile.FieldType.int)) ∈ lw_all := lw_g (lw_at lw_m4 88 rfl) rfl
theorem q882 : (Jvm.Cond.methodLink "LostQuestions" (315 : Nat) ({ cls := "LostQuestions", name := "size", desc := "(I)I" } : Jvm.MethodName)) ∈ lw_all := lw_g (lw_at lw_m4 89 rfl) rfl
theorem q883 : (Jvm.Cond.static ({ cls := "LostQuestions", name := "size", desc := "(I)I" } : Jvm.MethodName)) ∈ lw_all := lw_g (lw_at lw_m4 90 rfl) rfl
theorem q884 : (Jvm.Cond.code ({ cls := "LostQuestions", name := "size", desc := "(I)I" } : Jvm.MethodName) prog_1_method_72_code (1 : Nat) (Option.some Jvm.ClassFile.FieldType.int)) ∈ lw_all := lw_g (lw_at lw_m4 91 rfl) rfl
theorem q886 : (Jvm.Cond.instanceMethod ({ cls := "LostQuestions", name := "finds", desc := "(I)I" } : Jvm.MethodName)) ∈ lw_all := lw_g (lw_at lw_m4 93 rfl) rfl
theorem q887 : (Jvm.Cond.selects "LostQuestions" ({ cls := "LostQuestions", name := "finds", desc := "(I)I" } : Jvm.MethodName) ({ cls := "LostQuestions", name := "finds", desc := "(I)I" } : Jvm.MethodName)) ∈ lw_all := lw_g (lw_at lw_m4 94 rfl) rfl
theorem q888 : (Jvm.Cond.code ({ cls := "LostQuestions", name := "finds", desc := "(I)I" } : Jvm.MethodName) prog_1_method_75_code (6 : Nat) (Option.some Jvm.ClassFile.FieldType.int)) ∈ lw_all := lw_g (lw_at lw_m4 95 rfl) rfl
theorem q889 : (Jvm.Cond.methodLink "LostQuestions" (318 : Nat) ({ cls := "java/lang/Integer", name := "bitCount", desc := "(I)I" } : Jvm.MethodName)) ∈ lw_all := lw_g (lw_at lw_m4 96 rfl) rfl
theorem q895 : (Jvm.Cond.methodLink "LostQuestions" (323 : Nat) ({ cls := "LostQuestions", name := "partOf", desc := "(II)I" } : Jvm.MethodName)) ∈ lw_all := lw_g (lw_at lw_m4 102 rfl) rfl
theorem q896 : (Jvm.Cond.privateMethod ({ cls := "LostQuestions", name := "partOf", desc := "(II)I" } : Jvm.MethodName)) ∈ lw_tbl := lw_at lw_m4 103 rfl
theorem q897 : (Jvm.Cond.instanceMethod ({ cls := "LostQuestions", name := "partOf", desc := "(II)I" } : Jvm.MethodName)) ∈ lw_all := lw_g (lw_at lw_m4 104 rfl) rfl
theorem q898 : (Jvm.Cond.code ({ cls := "LostQuestions", name := "partOf", desc := "(II)I" } : Jvm.MethodName) prog_1_method_74_code (4 : Nat) (Option.some Jvm.ClassFile.FieldType.int)) ∈ lw_all := lw_g (lw_at lw_m4 105 rfl) rfl
theorem q900 : (Jvm.Cond.instanceMethod ({ cls := "LostQuestions", name := "left", desc := "(I)I" } : Jvm.MethodName)) ∈ lw_all := lw_g (lw_at lw_m4 107 rfl) rfl
theorem q901 : (Jvm.Cond.selects "LostQuestions" ({ cls := "LostQuestions", name := "left", desc := "(I)I" } : Jvm.MethodName) ({ cls := "LostQuestions", name := "left", desc := "(I)I" } : Jvm.MethodName)) ∈ lw_all := lw_g (lw_at lw_m4 108 rfl) rfl
theorem q902 : (Jvm.Cond.code ({ cls := "LostQuestions", name := "left", desc := "(I)I" } : Jvm.MethodName) prog_1_method_77_code (5 : Nat) (Option.some Jvm.ClassFile.FieldType.int)) ∈ lw_all := lw_g (lw_at lw_m4 109 rfl) rfl
theorem q903 : (Jvm.Cond.methodLink "LostQuestions" (326 : Nat) ({ cls := "LostQuestions", name := "askedAnswers", desc := "(I)I" } : Jvm.MethodName)) ∈ lw_all := lw_g (lw_at lw_m4 110 rfl) rfl
theorem q904 : (Jvm.Cond.privateMethod ({ cls := "LostQuestions", name := "askedAnswers", desc := "(I)I" } : Jvm.MethodName)) ∈ lw_tbl := lw_at lw_m4 111 rfl
theorem q905 : (Jvm.Cond.instanceMethod ({ cls := "LostQuestions", name := "askedAnswers", desc := "(I)I" } : Jvm.MethodName)) ∈ lw_all := lw_g (lw_at lw_m4 112 rfl) rfl
theorem q906 : (Jvm.Cond.code ({ cls := "LostQuestions", name := "askedAnswers", desc := "(I)I" } : Jvm.MethodName) prog_1_method_76_code (4 : Nat) (Option.some Jvm.ClassFile.FieldType.int)) ∈ lw_all := lw_g (lw_at lw_m4 113 rfl) rfl
theorem q908 : (Jvm.Cond.instanceMethod ({ cls := "LostQuestions", name := "forged", desc := "()I" } : Jvm.MethodName)) ∈ lw_all := lw_g (lw_at lw_m4 115 rfl) rfl
theorem q909 : (Jvm.Cond.selects "LostQuestions" ({ cls := "LostQuestions", name := "forged", desc := "()I" } : Jvm.MethodName) ({ cls := "LostQuestions", name := "forged", desc := "()I" } : Jvm.MethodName)) ∈ lw_all := lw_g (lw_at lw_m4 116 rfl) rfl
theorem q910 : (Jvm.Cond.code ({ cls := "LostQuestions", name := "forged", desc := "()I" } : Jvm.MethodName) prog_1_method_78_code (5 : Nat) (Option.some Jvm.ClassFile.FieldType.int)) ∈ lw_all := lw_g (lw_at lw_m4 117 rfl) rfl
theorem q911 : (Jvm.Cond.methodLink "LostQuestions" (329 : Nat) ({ cls := "LostQuestions", name := "fitted", desc := "(I)I" } : Jvm.MethodName)) ∈ lw_all := lw_g (lw_at lw_m4 118 rfl) rfl
theorem q913 : (Jvm.Cond.instanceMethod ({ cls := "LostQuestions", name := "beside", desc := "(I)I" } : Jvm.MethodName)) ∈ lw_all := lw_g (lw_at lw_m4 120 rfl) rfl
theorem q914 : (Jvm.Cond.selects "LostQuestions" ({ cls := "LostQuestions", name := "beside", desc := "(I)I" } : Jvm.MethodName) ({ cls := "LostQuestions", name := "beside", desc := "(I)I" } : Jvm.MethodName)) ∈ lw_all := lw_g (lw_at lw_m4 121 rfl) rfl
theorem q915 : (Jvm.Cond.code ({ cls := "LostQuestions", name := "beside", desc := "(I)I" } : Jvm.MethodName) prog_1_method_80_code (6 : Nat) (Option.some Jvm.ClassFile.FieldType.int)) ∈ lw_all := lw_g (lw_at lw_m4 122 rfl) rfl
theorem q916 : (Jvm.Cond.methodLink "LostQuestions" (335 : Nat) ({ cls := "LostQuestions", name := "pairsWith", desc := "([IZ)I" } : Jvm.MethodName)) ∈ lw_all := lw_g (lw_at lw_m4 123 rfl) rfl
theorem q917 : (Jvm.Cond.privateMethod ({ cls := "LostQuestions", name := "pairsWith", desc := "([IZ)I" } : Jvm.MethodName)) ∈ lw_tbl := lw_at lw_m4 124 rfl
theorem q918 : (Jvm.Cond.instanceMethod ({ cls := "LostQuestions", name := "pairsWith", desc := "([IZ)I" } : Jvm.MethodName)) ∈ lw_all := lw_g (lw_at lw_m4 125 rfl) rfl
theorem q919 : (Jvm.Cond.code ({ cls := "LostQuestions", name := "pairsWith", desc := "([IZ)I" } : Jvm.MethodName) prog_1_method_79_code (12 : Nat) (Option.some Jvm.ClassFile.FieldType.int)) ∈ lw_all := lw_g (lw_at lw_m4 126 rfl) rfl
theorem q920 : (Jvm.Cond.methodLink "LostQuestions" (332 : Nat) ({ cls := "java/lang/Math", name := "min", desc := "(II)I" } : Jvm.MethodName)) ∈ lw_all := lw_g (lw_at lw_m4 127 rfl) rfl
theorem q924 : (Jvm.Cond.instanceMethod ({ cls := "LostQuestions", name := "habit", desc := "()I" } : Jvm.MethodName)) ∈ lw_all := lw_g (lw_at lw_m4 131 rfl) rfl
theorem q925 : (Jvm.Cond.selects "LostQuestions" ({ cls := "LostQuestions", name := "habit", desc := "()I" } : Jvm.MethodName) ({ cls := "LostQuestions", name := "habit", desc := "()I" } : Jvm.MethodName)) ∈ lw_all := lw_g (lw_at lw_m4 132 rfl) rfl
theorem q926 : (Jvm.Cond.code ({ cls := "LostQuestions", name := "habit", desc := "()I" } : Jvm.MethodName) prog_1_method_83_code (3 : Nat) (Option.some Jvm.ClassFile.FieldType.int)) ∈ lw_all := lw_g (lw_at lw_m4 133 rfl) rfl
theorem q927 : (Jvm.Cond.methodLink "LostQuestions" (342 : Nat) ({ cls := "LostQuestions", name := "homeOf", desc := "(I)I" } : Jvm.MethodName)) ∈ lw_all := lw_g (lw_at lw_m4 134 rfl) rfl
theorem q928 : (Jvm.Cond.privateMethod ({ cls := "LostQuestions", name := "homeOf", desc := "(I)I" } : Jvm.MethodName)) ∈ lw_tbl := lw_at lw_m4 135 rfl
theorem q929 : (Jvm.Cond.instanceMethod ({ cls := "LostQuestions", name := "homeOf", desc := "(I)I" } : Jvm.MethodName)) ∈ lw_all := lw_g (lw_at lw_m4 136 rfl) rfl
theorem q930 : (Jvm.Cond.code ({ cls := "LostQuestions", name := "homeOf", desc := "(I)I" } : Jvm.MethodName) prog_1_method_82_code (4 : Nat) (Option.some Jvm.ClassFile.FieldType.int)) ∈ lw_all := lw_g (lw_at lw_m4 137 rfl) rfl
theorem q931 : (Jvm.Cond.methodLink "LostQuestions" (339 : Nat) ({ cls := "LostQuestions", name := "kindOn", desc := "(II)I" } : Jvm.MethodName)) ∈ lw_all := lw_g (lw_at lw_m4 138 rfl) rfl
theorem q932 : (Jvm.Cond.privateMethod ({ cls := "LostQuestions", name := "kindOn", desc := "(II)I" } : Jvm.MethodName)) ∈ lw_tbl := lw_at lw_m4 139 rfl
theorem q933 : (Jvm.Cond.instanceMethod ({ cls := "LostQuestions", name := "kindOn", desc := "(II)I" } : Jvm.MethodName)) ∈ lw_all := lw_g (lw_at lw_m4 140 rfl) rfl
theorem q934 : (Jvm.Cond.code ({ cls := "LostQuestions", name := "kindOn", desc := "(II)I" } : Jvm.MethodName) prog_1_method_81_code (5 : Nat) (Option.some Jvm.ClassFile.FieldType.int)) ∈ lw_all := lw_g (lw_at lw_m4 141 rfl) rfl
theorem q936 : (Jvm.Cond.instanceMethod ({ cls := "LostQuestions", name := "order", desc := "()I" } : Jvm.MethodName)) ∈ lw_all := lw_g (lw_at lw_m4 143 rfl) rfl
theorem q937 : (Jvm.Cond.selects "LostQuestions" ({ cls := "LostQuestions", name := "order", desc := "()I" } : Jvm.MethodName) ({ cls := "LostQuestions", name := "order", desc := "()I" } : Jvm.MethodName)) ∈ lw_all := lw_g (lw_at lw_m4 144 rfl) rfl
theorem q938 : (Jvm.Cond.code ({ cls := "LostQuestions", name := "order", desc := "()I" } : Jvm.MethodName) prog_1_method_85_code (3 : Nat) (Option.some Jvm.ClassFile.FieldType.int)) ∈ lw_all := lw_g (lw_at lw_m4 145 rfl) rfl
theorem q939 : (Jvm.Cond.methodLink "LostQuestions" (346 : Nat) ({ cls := "LostQuestions", name := "staysOn", desc := "(II)I" } : Jvm.MethodName)) ∈ lw_all := lw_g (lw_at lw_m4 146 rfl) rfl
theorem q940 : (Jvm.Cond.privateMethod ({ cls := "LostQuestions", name := "staysOn", desc := "(II)I" } : Jvm.MethodName)) ∈ lw_tbl := lw_at lw_m4 147 rfl
theorem q941 : (Jvm.Cond.instanceMethod ({ cls := "LostQuestions", name := "staysOn", desc := "(II)I" } : Jvm.MethodName)) ∈ lw_all := lw_g (lw_at lw_m4 148 rfl) rfl
theorem q942 : (Jvm.Cond.code ({ cls := "LostQuestions", name := "staysOn", desc := "(II)I" } : Jvm.MethodName) prog_1_method_84_code (5 : Nat) (Option.some Jvm.ClassFile.FieldType.int)) ∈ lw_all := lw_g (lw_at lw_m4 149 rfl) rfl
theorem q943 : (Jvm.Cond.constant "LostQuestions" (345 : Nat) (-1048576 : Int32)) ∈ lw_all := lw_g (lw_at lw_m4 150 rfl) rfl
theorem q945 : (Jvm.Cond.instanceMethod ({ cls := "LostQuestions", name := "byAge", desc := "(I)I" } : Jvm.MethodName)) ∈ lw_all := lw_g (lw_at lw_m4 152 rfl) rfl
theorem q946 : (Jvm.Cond.selects "LostQuestions" ({ cls := "LostQuestions", name := "byAge", desc := "(I)I" } : Jvm.MethodName) ({ cls := "LostQuestions", name := "byAge", desc := "(I)I" } : Jvm.MethodName)) ∈ lw_all := lw_g (lw_at lw_m4 153 rfl) rfl
theorem q947 : (Jvm.Cond.code ({ cls := "LostQuestions", name := "byAge", desc := "(I)I" } : Jvm.MethodName) prog_1_method_86_code (6 : Nat) (Option.some Jvm.ClassFile.FieldType.int)) ∈ lw_all := lw_g (lw_at lw_m4 154 rfl) rfl
theorem q949 : (Jvm.Cond.instanceMethod ({ cls := "LostQuestions", name := "lots", desc := "(II)I" } : Jvm.MethodName)) ∈ lw_all := lw_g (lw_at lw_m4 156 rfl) rfl
theorem q950 : (Jvm.Cond.selects "LostQuestions" ({ cls := "LostQuestions", name := "lots", desc := "(II)I" } : Jvm.MethodName) ({ cls := "LostQuestions", name := "lots", desc := "(II)I" } : Jvm.MethodName)) ∈ lw_all := lw_g (lw_at lw_m4 157 rfl) rfl
theorem q951 : (Jvm.Cond.code ({ cls := "LostQuestions", name := "lots", desc := "(II)I" } : Jvm.MethodName) prog_1_method_87_code (10 : Nat) (Option.some Jvm.ClassFile.FieldType.int)) ∈ lw_all := lw_g (lw_at lw_m4 158 rfl) rfl
theorem q952 : (Jvm.Cond.constant "LostQuestions" (349 : Nat) (2147483646 : Int32)) ∈ lw_all := lw_g (lw_at lw_m4 159 rfl) rfl
theorem q953 : (Jvm.Cond.constantLong "LostQuestions" (350 : Nat) (48271 : Int64)) ∈ lw_all := lw_g (lw_at lw_m4 160 rfl) rfl
theorem q954 : (Jvm.Cond.constantLong "LostQuestions" (352 : Nat) (2147483647 : Int64)) ∈ lw_all := lw_g (lw_at lw_m4 161 rfl) rfl
theorem q955 : (Jvm.Cond.constantLong "LostQuestions" (354 : Nat) (64 : Int64)) ∈ lw_all := lw_g (lw_at lw_m4 162 rfl) rfl
theorem q956 : (Jvm.Cond.methodLink "LostQuestions" (356 : Nat) ({ cls := "java/lang/Integer", name := "numberOfTrailingZeros", desc := "(I)I" } : Jvm.MethodName)) ∈ lw_all := lw_g (lw_at lw_m4 163 rfl) rfl
theorem q961 : (Jvm.Cond.instanceMethod ({ cls := "LostQuestions", name := "asked", desc := "()I" } : Jvm.MethodName)) ∈ lw_all := lw_g (lw_at lw_m4 168 rfl) rfl
theorem q962 : (Jvm.Cond.selects "LostQuestions" ({ cls := "LostQuestions", name := "asked", desc := "()I" } : Jvm.MethodName) ({ cls := "LostQuestions", name := "asked", desc := "()I" } : Jvm.MethodName)) ∈ lw_all := lw_g (lw_at lw_m4 169 rfl) rfl
theorem q963 : (Jvm.Cond.code ({ cls := "LostQuestions", name := "asked", desc := "()I" } : Jvm.MethodName) prog_1_method_88_code (1 : Nat) (Option.some Jvm.ClassFile.FieldType.int)) ∈ lw_all := lw_g (lw_at lw_m4 170 rfl) rfl
theorem q965 : (Jvm.Cond.instanceMethod ({ cls := "LostQuestions", name := "upper", desc := "()J" } : Jvm.MethodName)) ∈ lw_all := lw_g (lw_at lw_m4 172 rfl) rfl
theorem q966 : (Jvm.Cond.selects "LostQuestions" ({ cls := "LostQuestions", name := "upper", desc := "()J" } : Jvm.MethodName) ({ cls := "LostQuestions", name := "upper", desc := "()J" } : Jvm.MethodName)) ∈ lw_all := lw_g (lw_at lw_m4 173 rfl) rfl
theorem q967 : (Jvm.Cond.code ({ cls := "LostQuestions", name := "upper", desc := "()J" } : Jvm.MethodName) prog_1_method_89_code (1 : Nat) (Option.some Jvm.ClassFile.FieldType.long)) ∈ lw_all := lw_g (lw_at lw_m4 174 rfl) rfl
theorem q969 : (Jvm.Cond.instanceMethod ({ cls := "LostQuestions", name := "lower", desc := "()J" } : Jvm.MethodName)) ∈ lw_all := lw_g (lw_at lw_m4 176 rfl) rfl
theorem q970 : (Jvm.Cond.selects "LostQuestions" ({ cls := "LostQuestions", name := "lower", desc := "()J" } : Jvm.MethodName) ({ cls := "LostQuestions", name := "lower", desc := "()J" } : Jvm.MethodName)) ∈ lw_all := lw_g (lw_at lw_m4 177 rfl) rfl
theorem q971 : (Jvm.Cond.code ({ cls := "LostQuestions", name := "lower", desc := "()J" } : Jvm.MethodName) prog_1_method_90_code (1 : Nat) (Option.some Jvm.ClassFile.FieldType.long)) ∈ lw_all := lw_g (lw_at lw_m4 178 rfl) rfl
theorem q973 : (Jvm.Cond.instanceMethod ({ cls := "LostQuestions", name := "count", desc := "(I)I" } : Jvm.MethodName)) ∈ lw_all := lw_g (lw_at lw_m4 180 rfl) rfl
theorem q974 : (Jvm.Cond.selects "LostQuestions" ({ cls := "LostQuestions", name := "count", desc := "(I)I" } : Jvm.MethodName) ({ cls := "LostQuestions", name := "count", desc := "(I)I" } : Jvm.MethodName)) ∈ lw_all := lw_g (lw_at lw_m4 181 rfl) rfl
theorem q975 : (Jvm.Cond.code ({ cls := "LostQuestions", name := "count", desc := "(I)I" } : Jvm.MethodName) prog_1_method_95_code (2 : Nat) (Option.some Jvm.ClassFile.FieldType.int)) ∈ lw_all := lw_g (lw_at lw_m4 182 rfl) rfl
theorem q976 : (Jvm.Cond.methodLink "LostQuestions" (368 : Nat) ({ cls := "LostQuestions", name := "countOf", desc := "(I)I" } : Jvm.MethodName)) ∈ lw_all := lw_g (lw_at lw_m4 183 rfl) rfl
theorem q977 : (Jvm.Cond.privateMethod ({ cls := "LostQuestions", name := "countOf", desc := "(I)I" } : Jvm.MethodName)) ∈ lw_tbl := lw_at lw_m4 184 rfl
theorem q978 : (Jvm.Cond.instanceMethod ({ cls := "LostQuestions", name := "countOf", desc := "(I)I" } : Jvm.MethodName)) ∈ lw_all := lw_g (lw_at lw_m4 185 rfl) rfl
theorem q979 : (Jvm.Cond.code ({ cls := "LostQuestions", name := "countOf", desc := "(I)I" } : Jvm.MethodName) prog_1_method_94_code (2 : Nat) (Option.some Jvm.ClassFile.FieldType.int)) ∈ lw_all := lw_g (lw_at lw_m4 186 rfl) rfl
theorem q980 : (Jvm.Cond.methodLink "LostQuestions" (359 : Nat) ({ cls := "LostQuestions", name := "freeQuestions", desc := "()I" } : Jvm.MethodName)) ∈ lw_all := lw_g (lw_at lw_m4 187 rfl) rfl
theorem q981 : (Jvm.Cond.privateMethod ({ cls := "LostQuestions", name := "freeQuestions", desc := "()I" } : Jvm.MethodName)) ∈ lw_tbl := lw_at lw_m4 188 rfl
theorem q982 : (Jvm.Cond.instanceMethod ({ cls := "LostQuestions", name := "freeQuestions", desc := "()I" } : Jvm.MethodName)) ∈ lw_all := lw_g (lw_at lw_m4 189 rfl) rfl
theorem q983 : (Jvm.Cond.code ({ cls := "LostQuestions", name := "freeQuestions", desc := "()I" } : Jvm.MethodName) prog_1_method_91_code (3 : Nat) (Option.some Jvm.ClassFile.FieldType.int)) ∈ lw_all := lw_g (lw_at lw_m4 190 rfl) rfl
theorem q984 : (Jvm.Cond.methodLink "LostQuestions" (362 : Nat) ({ cls := "LostQuestions", name := "cardsOf", desc := "(I)I" } : Jvm.MethodName)) ∈ lw_all := lw_g (lw_at lw_m4 191 rfl) rfl
theorem q985 : (Jvm.Cond.privateMethod ({ cls := "LostQuestions", name := "cardsOf", desc := "(I)I" } : Jvm.MethodName)) ∈ lw_tbl := lw_at lw_m4 192 rfl
theorem q986 : (Jvm.Cond.instanceMethod ({ cls := "LostQuestions", name := "cardsOf", desc := "(I)I" } : Jvm.MethodName)) ∈ lw_all := lw_g (lw_at lw_m4 193 rfl) rfl
theorem q987 : (Jvm.Cond.code ({ cls := "LostQuestions", name := "cardsOf", desc := "(I)I" } : Jvm.MethodName) prog_1_method_92_code (4 : Nat) (Option.some Jvm.ClassFile.FieldType.int)) ∈ lw_all := lw_g (lw_at lw_m4 194 rfl) rfl
theorem q988 : (Jvm.Cond.methodLink "LostQuestions" (365 : Nat) ({ cls := "LostQuestions", name := "thereOf", desc := "(I)I" } : Jvm.MethodName)) ∈ lw_all := lw_g (lw_at lw_m4 195 rfl) rfl
theorem q989 : (Jvm.Cond.privateMethod ({ cls := "LostQuestions", name := "thereOf", desc := "(I)I" } : Jvm.MethodName)) ∈ lw_tbl := lw_at lw_m4 196 rfl
theorem q990 : (Jvm.Cond.instanceMethod ({ cls := "LostQuestions", name := "thereOf", desc := "(I)I" } : Jvm.MethodName)) ∈ lw_all := lw_g (lw_at lw_m4 197 rfl) rfl
theorem q991 : (Jvm.Cond.code ({ cls := "LostQuestions", name := "thereOf", desc := "(I)I" } : Jvm.MethodName) prog_1_method_93_code (4 : Nat) (Option.some Jvm.ClassFile.FieldType.int)) ∈ lw_all := lw_g (lw_at lw_m4 198 rfl) rfl
theorem q993 : (Jvm.Cond.instanceMethod ({ cls := "LostQuestions", name := "finding", desc := "()I" } : Jvm.MethodName)) ∈ lw_all := lw_g (lw_at lw_m4 200 rfl) rfl
theorem q994 : (Jvm.Cond.selects "LostQuestions" ({ cls := "LostQuestions", name := "finding", desc := "()I" } : Jvm.MethodName) ({ cls := "LostQuestions", name := "finding", desc := "()I" } : Jvm.MethodName)) ∈ lw_all := lw_g (lw_at lw_m4 201 rfl) rfl
theorem q995 : (Jvm.Cond.code ({ cls := "LostQuestions", name := "finding", desc := "()I" } : Jvm.MethodName) prog_1_method_96_code (1 : Nat) (Option.some Jvm.ClassFile.FieldType.int)) ∈ lw_all := lw_g (lw_at lw_m4 202 rfl) rfl
theorem q997 : (Jvm.Cond.instanceMethod ({ cls := "LostQuestions", name := "findings", desc := "(I)I" } : Jvm.MethodName)) ∈ lw_all := lw_g (lw_at lw_m4 204 rfl) rfl
theorem q998 : (Jvm.Cond.selects "LostQuestions" ({ cls := "LostQuestions", name := "findings", desc := "(I)I" } : Jvm.MethodName) ({ cls := "LostQuestions", name := "findings", desc := "(I)I" } : Jvm.MethodName)) ∈ lw_all := lw_g (lw_at lw_m4 205 rfl) rfl
theorem q999 : (Jvm.Cond.code ({ cls := "LostQuestions", name := "findings", desc := "(I)I" } : Jvm.MethodName) prog_1_method_97_code (2 : Nat) (Option.some Jvm.ClassFile.FieldType.int)) ∈ lw_all := lw_g (lw_at lw_m4 206 rfl) rfl
theorem q1001 : (Jvm.Cond.instanceMethod ({ cls := "LostQuestions", name := "digest", desc := "()J" } : Jvm.MethodName)) ∈ lw_all := lw_g (lw_at lw_m4 208 rfl) rfl
theorem q1002 : (Jvm.Cond.selects "LostQuestions" ({ cls := "LostQuestions", name := "digest", desc := "()J" } : Jvm.MethodName) ({ cls := "LostQuestions", name := "digest", desc := "()J" } : Jvm.MethodName)) ∈ lw_all := lw_g (lw_at lw_m4 209 rfl) rfl
theorem q1003 : (Jvm.Cond.code ({ cls := "LostQuestions", name := "digest", desc := "()J" } : Jvm.MethodName) prog_1_method_100_code (7 : Nat) (Option.some Jvm.ClassFile.FieldType.long)) ∈ lw_all := lw_g (lw_at lw_m4 210 rfl) rfl
theorem q1004 : (Jvm.Cond.constantLong "LostQuestions" (380 : Nat) (17 : Int64)) ∈ lw_all := lw_g (lw_at lw_m4 211 rfl) rfl
theorem q1005 : (Jvm.Cond.methodLink "LostQuestions" (376 : Nat) ({ cls := "LostQuestions", name := "mix", desc := "(I)V" } : Jvm.MethodName)) ∈ lw_all := lw_g (lw_at lw_m4 212 rfl) rfl
theorem q1006 : (Jvm.Cond.privateMethod ({ cls := "LostQuestions", name := "mix", desc := "(I)V" } : Jvm.MethodName)) ∈ lw_tbl := lw_at lw_m4 213 rfl
theorem q1007 : (Jvm.Cond.instanceMethod ({ cls := "LostQuestions", name := "mix", desc := "(I)V" } : Jvm.MethodName)) ∈ lw_all := lw_g (lw_at lw_m4 214 rfl) rfl
theorem q1008 : (Jvm.Cond.code ({ cls := "LostQuestions", name := "mix", desc := "(I)V" } : Jvm.MethodName) prog_1_method_98_code (2 : Nat) (Option.none : Option Jvm.ClassFile.FieldType)) ∈ lw_all := lw_g (lw_at lw_m4 215 rfl) rfl
theorem q1009 : (Jvm.Cond.constantLong "LostQuestions" (371 : Nat) (31 : Int64)) ∈ lw_all := lw_g (lw_at lw_m4 216 rfl) rfl
theorem q1010 : (Jvm.Cond.methodLink "LostQuestions" (382 : Nat) ({ cls := "LostQuestions", name := "mixLibrary", desc := "()V" } : Jvm.MethodName)) ∈ lw_all := lw_g (lw_at lw_m4 217 rfl) rfl
theorem q1011 : (Jvm.Cond.privateMethod ({ cls := "LostQuestions", name := "mixLibrary", desc := "()V" } : Jvm.MethodName)) ∈ lw_tbl := lw_at lw_m4 218 rfl
theorem q1012 : (Jvm.Cond.instanceMethod ({ cls := "LostQuestions", name := "mixLibrary", desc := "()V" } : Jvm.MethodName)) ∈ lw_all := lw_g (lw_at lw_m4 219 rfl) rfl
theorem q1013 : (Jvm.Cond.code ({ cls := "LostQuestions", name := "mixLibrary", desc := "()V" } : Jvm.MethodName) prog_1_method_99_code (5 : Nat) (Option.none : Option Jvm.ClassFile.FieldType)) ∈ lw_all := lw_g (lw_at lw_m4 220 rfl) rfl
theorem in_X0 : ∀ w ∈ wsX00, w ∈ lw_all := lw_in wsX00 [143, 145, 147, 149, 151, 153, 155, 157, 159, 161, 163, 165, 167, 169, 171, 173, 175, 177, 179, 181, 183, 185, 187, 189, 191, 193, 195, 197, 199, 201] (by decide +kernel) (by decide +kernel)
