/-! java/lang/Object -/
set_option maxRecDepth 100000
def RJ12 : String := "java/lang/Object"
abbrev cJ12_init : ByteArray := object_method_1_code
def yJ12_init : MethodName := ⟨RJ12, "<init>", "()V"⟩
theorem dJ12_init_0 : decode cJ12_init 0 = .ok (.return_, 1) := by decide +kernel
theorem q102 : (Jvm.Cond.instanceMethod ({ cls := "java/lang/Object", name := "<init>", desc := "()V" } : Jvm.MethodName)) ∈ lw_all := lw_g (lw_at lw_m1 29 rfl) rfl
theorem q103 : (Jvm.Cond.code ({ cls := "java/lang/Object", name := "<init>", desc := "()V" } : Jvm.MethodName) object_method_1_code (1 : Nat) (Option.none : Option Jvm.ClassFile.FieldType)) ∈ lw_all := lw_g (lw_at lw_m1 30 rfl) rfl
/-! java/lang/Throwable -/
set_option maxRecDepth 100000
def RJ0 : String := "java/lang/Throwable"
def TJ0 : u_T := fun k => match k with
  | 0 => ("java/lang/Throwable", "cause", "Ljava/lang/Throwable;", false)
  | 1 => ("java/lang/Throwable", "stackTrace", "[Ljava/lang/StackTraceElement;", false)
  | 2 => ("java/lang/Throwable", "suppressedExceptions", "Ljava/util/List;", false)
  | 3 => ("java/lang/Throwable", "detailMessage", "Ljava/lang/String;", false)
  | _ => ("java/lang/Throwable", "backtrace", "Ljava/lang/Object;", false)
def tyJ0 : Nat → FieldType := fun k => match k with
  | 0 => .object "java/lang/Throwable"
  | 1 => .array (.object "java/lang/StackTraceElement")
  | 2 => .object "java/util/List"
  | 3 => .object "java/lang/String"
  | _ => .object "java/lang/Object"
abbrev wsJ00 : List Cond := u_ws RJ0 TJ0 5
theorem nmJ0 : ∀ a, a < 5 → ∀ b, b < 5 → a ≠ b → (TJ0 a).2.1 ≠ (TJ0 b).2.1 := by decide +kernel
theorem tyJ0_ok : ∀ k, k < 5 → parseFieldDescriptor (TJ0 k).2.2.1 = some (tyJ0 k) := by decide +kernel
abbrev cJ0_init : ByteArray := prog_23_method_2_code
def yJ0_init : MethodName := ⟨RJ0, "<init>", "(Ljava/lang/String;)V"⟩
def dkwJ0_init_1 : List UInt8 := [182, 0, 27, 87, 42, 43, 181, 0, 31, 177]
abbrev dktJ0_init_1 : List UInt8 := dkwJ0_init_1 ++ []
def dkwJ0_init_0 : List UInt8 := [42, 183, 0, 1, 42, 42, 181, 0, 7, 42, 178, 0, 13, 181, 0, 17, 42, 178, 0, 20, 181, 0, 24, 42]
abbrev dktJ0_init_0 : List UInt8 := dkwJ0_init_0 ++ dktJ0_init_1
theorem dksJ0_init_0 : cJ0_init.data.toList.drop 0 = dktJ0_init_0 := by decide +kernel
theorem dksJ0_init_1 : cJ0_init.data.toList.drop 24 = dktJ0_init_1 := dk_seg dksJ0_init_0 24 rfl rfl
theorem dJ0_init_0 : decode cJ0_init 0 = .ok (.aload_n 0, 1) := dk_42 (dk_at dksJ0_init_0 0 rfl rfl)
theorem dJ0_init_1 : decode cJ0_init 1 = .ok (.invokespecial 1, 3) := dk_183 0 1 (dk_at dksJ0_init_0 1 rfl rfl)
theorem dJ0_init_4 : decode cJ0_init 4 = .ok (.aload_n 0, 1) := dk_42 (dk_at dksJ0_init_0 4 rfl rfl)
theorem dJ0_init_5 : decode cJ0_init 5 = .ok (.aload_n 0, 1) := dk_42 (dk_at dksJ0_init_0 5 rfl rfl)
theorem dJ0_init_6 : decode cJ0_init 6 = .ok (.putfield 7, 3) := dk_181 0 7 (dk_at dksJ0_init_0 6 rfl rfl)
theorem dJ0_init_9 : decode cJ0_init 9 = .ok (.aload_n 0, 1) := dk_42 (dk_at dksJ0_init_0 9 rfl rfl)
theorem dJ0_init_10 : decode cJ0_init 10 = .ok (.getstatic 13, 3) := dk_178 0 13 (dk_at dksJ0_init_0 10 rfl rfl)
theorem dJ0_init_13 : decode cJ0_init 13 = .ok (.putfield 17, 3) := dk_181 0 17 (dk_at dksJ0_init_0 13 rfl rfl)
theorem dJ0_init_16 : decode cJ0_init 16 = .ok (.aload_n 0, 1) := dk_42 (dk_at dksJ0_init_0 16 rfl rfl)
theorem dJ0_init_17 : decode cJ0_init 17 = .ok (.getstatic 20, 3) := dk_178 0 20 (dk_at dksJ0_init_0 17 rfl rfl)
theorem dJ0_init_20 : decode cJ0_init 20 = .ok (.putfield 24, 3) := dk_181 0 24 (dk_at dksJ0_init_0 20 rfl rfl)
theorem dJ0_init_23 : decode cJ0_init 23 = .ok (.aload_n 0, 1) := dk_42 (dk_at dksJ0_init_0 23 rfl rfl)
theorem dJ0_init_24 : decode cJ0_init 24 = .ok (.invokevirtual 27, 3) := dk_182 0 27 (dk_at dksJ0_init_1 0 rfl rfl)
theorem dJ0_init_27 : decode cJ0_init 27 = .ok (.pop, 1) := dk_87 (dk_at dksJ0_init_1 3 rfl rfl)
theorem dJ0_init_28 : decode cJ0_init 28 = .ok (.aload_n 0, 1) := dk_42 (dk_at dksJ0_init_1 4 rfl rfl)
theorem dJ0_init_29 : decode cJ0_init 29 = .ok (.aload_n 1, 1) := dk_43 (dk_at dksJ0_init_1 5 rfl rfl)
theorem dJ0_init_30 : decode cJ0_init 30 = .ok (.putfield 31, 3) := dk_181 0 31 (dk_at dksJ0_init_1 6 rfl rfl)
theorem dJ0_init_33 : decode cJ0_init 33 = .ok (.return_, 1) := dk_177 (dk_at dksJ0_init_1 9 rfl rfl)
abbrev cJ0_init_2 : ByteArray := prog_23_method_1_code
def yJ0_init_2 : MethodName := ⟨RJ0, "<init>", "()V"⟩
def dkwJ0_init_2_1 : List UInt8 := [182, 0, 27, 87, 177]
abbrev dktJ0_init_2_1 : List UInt8 := dkwJ0_init_2_1 ++ []
def dkwJ0_init_2_0 : List UInt8 := [42, 183, 0, 1, 42, 42, 181, 0, 7, 42, 178, 0, 13, 181, 0, 17, 42, 178, 0, 20, 181, 0, 24, 42]
abbrev dktJ0_init_2_0 : List UInt8 := dkwJ0_init_2_0 ++ dktJ0_init_2_1
theorem dksJ0_init_2_0 : cJ0_init_2.data.toList.drop 0 = dktJ0_init_2_0 := by decide +kernel
theorem dksJ0_init_2_1 : cJ0_init_2.data.toList.drop 24 = dktJ0_init_2_1 := dk_seg dksJ0_init_2_0 24 rfl rfl
theorem dJ0_init_2_0 : decode cJ0_init_2 0 = .ok (.aload_n 0, 1) := dk_42 (dk_at dksJ0_init_2_0 0 rfl rfl)
theorem dJ0_init_2_1 : decode cJ0_init_2 1 = .ok (.invokespecial 1, 3) := dk_183 0 1 (dk_at dksJ0_init_2_0 1 rfl rfl)
theorem dJ0_init_2_4 : decode cJ0_init_2 4 = .ok (.aload_n 0, 1) := dk_42 (dk_at dksJ0_init_2_0 4 rfl rfl)
theorem dJ0_init_2_5 : decode cJ0_init_2 5 = .ok (.aload_n 0, 1) := dk_42 (dk_at dksJ0_init_2_0 5 rfl rfl)
theorem dJ0_init_2_6 : decode cJ0_init_2 6 = .ok (.putfield 7, 3) := dk_181 0 7 (dk_at dksJ0_init_2_0 6 rfl rfl)
theorem dJ0_init_2_9 : decode cJ0_init_2 9 = .ok (.aload_n 0, 1) := dk_42 (dk_at dksJ0_init_2_0 9 rfl rfl)
theorem dJ0_init_2_10 : decode cJ0_init_2 10 = .ok (.getstatic 13, 3) := dk_178 0 13 (dk_at dksJ0_init_2_0 10 rfl rfl)
theorem dJ0_init_2_13 : decode cJ0_init_2 13 = .ok (.putfield 17, 3) := dk_181 0 17 (dk_at dksJ0_init_2_0 13 rfl rfl)
theorem dJ0_init_2_16 : decode cJ0_init_2 16 = .ok (.aload_n 0, 1) := dk_42 (dk_at dksJ0_init_2_0 16 rfl rfl)
theorem dJ0_init_2_17 : decode cJ0_init_2 17 = .ok (.getstatic 20, 3) := dk_178 0 20 (dk_at dksJ0_init_2_0 17 rfl rfl)
theorem dJ0_init_2_20 : decode cJ0_init_2 20 = .ok (.putfield 24, 3) := dk_181 0 24 (dk_at dksJ0_init_2_0 20 rfl rfl)
theorem dJ0_init_2_23 : decode cJ0_init_2 23 = .ok (.aload_n 0, 1) := dk_42 (dk_at dksJ0_init_2_0 23 rfl rfl)
theorem dJ0_init_2_24 : decode cJ0_init_2 24 = .ok (.invokevirtual 27, 3) := dk_182 0 27 (dk_at dksJ0_init_2_1 0 rfl rfl)
theorem dJ0_init_2_27 : decode cJ0_init_2 27 = .ok (.pop, 1) := dk_87 (dk_at dksJ0_init_2_1 3 rfl rfl)
theorem dJ0_init_2_28 : decode cJ0_init_2 28 = .ok (.return_, 1) := dk_177 (dk_at dksJ0_init_2_1 4 rfl rfl)
theorem q76 : (Jvm.Cond.initialized "java/lang/Throwable") ∈ lw_all := lw_g (lw_at lw_m1 3 rfl) rfl
theorem q220 : (Jvm.Cond.instanceMethod ({ cls := "java/lang/Throwable", name := "<init>", desc := "(Ljava/lang/String;)V" } : Jvm.MethodName)) ∈ lw_all := lw_g (lw_at lw_m1 147 rfl) rfl
theorem q221 : (Jvm.Cond.code ({ cls := "java/lang/Throwable", name := "<init>", desc := "(Ljava/lang/String;)V" } : Jvm.MethodName) prog_23_method_2_code (2 : Nat) (Option.none : Option Jvm.ClassFile.FieldType)) ∈ lw_all := lw_g (lw_at lw_m1 148 rfl) rfl
theorem q222 : (Jvm.Cond.methodLink "java/lang/Throwable" (1 : Nat) ({ cls := "java/lang/Object", name := "<init>", desc := "()V" } : Jvm.MethodName)) ∈ lw_all := lw_g (lw_at lw_m1 149 rfl) rfl
theorem q223 : (Jvm.Cond.fieldLink "java/lang/Throwable" (13 : Nat) "java/lang/Throwable" "UNASSIGNED_STACK" "[Ljava/lang/StackTraceElement;") ∈ lw_all := lw_g (lw_at lw_m1 150 rfl) rfl
theorem q224 : (Jvm.Cond.laysStatic "java/lang/Throwable" "UNASSIGNED_STACK" "[Ljava/lang/StackTraceElement;") ∈ lw_tbl := lw_at lw_m1 151 rfl
theorem q225 : (Jvm.Cond.fieldLink "java/lang/Throwable" (20 : Nat) "java/lang/Throwable" "SUPPRESSED_SENTINEL" "Ljava/util/List;") ∈ lw_all := lw_g (lw_at lw_m1 152 rfl) rfl
theorem q226 : (Jvm.Cond.laysStatic "java/lang/Throwable" "SUPPRESSED_SENTINEL" "Ljava/util/List;") ∈ lw_tbl := lw_at lw_m1 153 rfl
theorem q227 : (Jvm.Cond.methodLink "java/lang/Throwable" (27 : Nat) ({ cls := "java/lang/Throwable", name := "fillInStackTrace", desc := "()Ljava/lang/Throwable;" } : Jvm.MethodName)) ∈ lw_all := lw_g (lw_at lw_m1 154 rfl) rfl
theorem q228 : (Jvm.Cond.instanceMethod ({ cls := "java/lang/Throwable", name := "fillInStackTrace", desc := "()Ljava/lang/Throwable;" } : Jvm.MethodName)) ∈ lw_all := lw_g (lw_at lw_m1 155 rfl) rfl
theorem q229 : (Jvm.Cond.sameMethod "java/lang/Throwable" "java/lang/Throwable" "fillInStackTrace" "()Ljava/lang/Throwable;") ∈ lw_all := lw_g (lw_at lw_m1 156 rfl) rfl
theorem q244 : (Jvm.Cond.declares ({ cls := "java/lang/Throwable", name := "fillInStackTrace", desc := "()Ljava/lang/Throwable;" } : Jvm.MethodName)) ∈ lw_tbl := lw_at lw_m1 171 rfl
theorem q248 : (Jvm.Cond.codeSync ({ cls := "java/lang/Throwable", name := "fillInStackTrace", desc := "()Ljava/lang/Throwable;" } : Jvm.MethodName) prog_23_method_18_code (1 : Nat) (Option.some (Jvm.ClassFile.FieldType.object "java/lang/Throwable"))) ∈ lw_all := lw_g (lw_at lw_m1 175 rfl) rfl
theorem q249 : (Jvm.Cond.methodLink "java/lang/Throwable" (202 : Nat) ({ cls := "java/lang/Throwable", name := "fillInStackTrace", desc := "(I)Ljava/lang/Throwable;" } : Jvm.MethodName)) ∈ lw_all := lw_g (lw_at lw_m1 176 rfl) rfl
theorem q250 : (Jvm.Cond.privateMethod ({ cls := "java/lang/Throwable", name := "fillInStackTrace", desc := "(I)Ljava/lang/Throwable;" } : Jvm.MethodName)) ∈ lw_tbl := lw_at lw_m1 177 rfl
theorem q251 : (Jvm.Cond.instanceMethod ({ cls := "java/lang/Throwable", name := "fillInStackTrace", desc := "(I)Ljava/lang/Throwable;" } : Jvm.MethodName)) ∈ lw_all := lw_g (lw_at lw_m1 178 rfl) rfl
theorem q252 : (Jvm.Cond.instantiable "java/lang/Throwable" (6 : Nat)) ∈ lw_all := lw_g (lw_at lw_m1 179 rfl) rfl
theorem q253 : (Jvm.Cond.native ({ cls := "java/lang/Throwable", name := "fillInStackTrace", desc := "(I)Ljava/lang/Throwable;" } : Jvm.MethodName)) ∈ lw_all := lw_g (lw_at lw_m1 180 rfl) rfl
theorem q254 : (Jvm.Cond.fieldLink "java/lang/Throwable" (198 : Nat) "java/lang/Throwable" "backtrace" "Ljava/lang/Object;") ∈ lw_all := lw_g (lw_at lw_m1 181 rfl) rfl
theorem q255 : (Jvm.Cond.fieldLink "java/lang/Throwable" (31 : Nat) "java/lang/Throwable" "detailMessage" "Ljava/lang/String;") ∈ lw_all := lw_g (lw_at lw_m1 182 rfl) rfl
theorem q256 : (Jvm.Cond.fieldLink "java/lang/Throwable" (7 : Nat) "java/lang/Throwable" "cause" "Ljava/lang/Throwable;") ∈ lw_all := lw_g (lw_at lw_m1 183 rfl) rfl
theorem q257 : (Jvm.Cond.fieldLink "java/lang/Throwable" (17 : Nat) "java/lang/Throwable" "stackTrace" "[Ljava/lang/StackTraceElement;") ∈ lw_all := lw_g (lw_at lw_m1 184 rfl) rfl
theorem q258 : (Jvm.Cond.fieldLink "java/lang/Throwable" (24 : Nat) "java/lang/Throwable" "suppressedExceptions" "Ljava/util/List;") ∈ lw_all := lw_g (lw_at lw_m1 185 rfl) rfl
theorem q260 : (Jvm.Cond.soleField "java/lang/Throwable" "backtrace") ∈ lw_all := lw_g (lw_at lw_m1 187 rfl) rfl
theorem q262 : (Jvm.Cond.soleField "java/lang/Throwable" "detailMessage") ∈ lw_all := lw_g (lw_at lw_m1 189 rfl) rfl
theorem q264 : (Jvm.Cond.soleField "java/lang/Throwable" "cause") ∈ lw_all := lw_g (lw_at lw_m1 191 rfl) rfl
theorem q266 : (Jvm.Cond.soleField "java/lang/Throwable" "stackTrace") ∈ lw_all := lw_g (lw_at lw_m1 193 rfl) rfl
theorem q268 : (Jvm.Cond.soleField "java/lang/Throwable" "depth") ∈ lw_all := lw_g (lw_at lw_m1 195 rfl) rfl
theorem q270 : (Jvm.Cond.soleField "java/lang/Throwable" "suppressedExceptions") ∈ lw_all := lw_g (lw_at lw_m1 197 rfl) rfl
theorem q277 : (Jvm.Cond.declares ({ cls := "java/lang/Throwable", name := "<init>", desc := "()V" } : Jvm.MethodName)) ∈ lw_tbl := lw_at lw_m1 204 rfl
theorem q278 : (Jvm.Cond.declares ({ cls := "java/lang/Throwable", name := "<init>", desc := "(Ljava/lang/String;)V" } : Jvm.MethodName)) ∈ lw_tbl := lw_at lw_m1 205 rfl
theorem q280 : (Jvm.Cond.lays "java/lang/Throwable" "java/lang/Throwable" "cause" "Ljava/lang/Throwable;") ∈ lw_all := lw_g (lw_at lw_m1 207 rfl) rfl
theorem q281 : (Jvm.Cond.lays "java/lang/Throwable" "java/lang/Throwable" "stackTrace" "[Ljava/lang/StackTraceElement;") ∈ lw_all := lw_g (lw_at lw_m1 208 rfl) rfl
theorem q282 : (Jvm.Cond.lays "java/lang/Throwable" "java/lang/Throwable" "suppressedExceptions" "Ljava/util/List;") ∈ lw_all := lw_g (lw_at lw_m1 209 rfl) rfl
theorem q283 : (Jvm.Cond.lays "java/lang/Throwable" "java/lang/Throwable" "detailMessage" "Ljava/lang/String;") ∈ lw_all := lw_g (lw_at lw_m1 210 rfl) rfl
theorem q284 : (Jvm.Cond.lays "java/lang/Throwable" "java/lang/Throwable" "backtrace" "Ljava/lang/Object;") ∈ lw_all := lw_g (lw_at lw_m1 211 rfl) rfl
theorem q285 : (Jvm.Cond.fieldLink "java/lang/Throwable" (198 : Nat) "java/lang/Throwable" "backtrace" "Ljava/lang/Object;") ∈ lw_all := lw_g (lw_at lw_m1 212 rfl) rfl
theorem q286 : (Jvm.Cond.superclass "java/lang/Throwable" "java/lang/Object") ∈ lw_all := lw_g (lw_at lw_m1 213 rfl) rfl
theorem q287 : (Jvm.Cond.instanceMethod ({ cls := "java/lang/Throwable", name := "<init>", desc := "()V" } : Jvm.MethodName)) ∈ lw_all := lw_g (lw_at lw_m1 214 rfl) rfl
theorem q288 : (Jvm.Cond.code ({ cls := "java/lang/Throwable", name := "<init>", desc := "()V" } : Jvm.MethodName) prog_23_method_1_code (1 : Nat) (Option.none : Option Jvm.ClassFile.FieldType)) ∈ lw_all := lw_g (lw_at lw_m1 215 rfl) rfl
theorem q1433 : (Jvm.Cond.sameMethod "java/lang/Throwable" "java/lang/Throwable" "fillInStackTrace" "(I)Ljava/lang/Throwable;") ∈ lw_all := lw_g (lw_at lw_m6 160 rfl) rfl
theorem in_J0 : ∀ w ∈ wsJ00, w ∈ lw_all := lw_in wsJ00 [280, 281, 282, 283, 284] (by decide +kernel) (by decide +kernel)
/-! java/lang/Exception -/
set_option maxRecDepth 100000
def RJ1 : String := "java/lang/Exception"
abbrev cJ1_init : ByteArray := prog_14_method_2_code
def yJ1_init : MethodName := ⟨RJ1, "<init>", "(Ljava/lang/String;)V"⟩
def dkwJ1_init_0 : List UInt8 := [42, 43, 183, 0, 7, 177]
abbrev dktJ1_init_0 : List UInt8 := dkwJ1_init_0 ++ []
theorem dksJ1_init_0 : cJ1_init.data.toList.drop 0 = dktJ1_init_0 := by decide +kernel
theorem dJ1_init_0 : decode cJ1_init 0 = .ok (.aload_n 0, 1) := dk_42 (dk_at dksJ1_init_0 0 rfl rfl)
theorem dJ1_init_1 : decode cJ1_init 1 = .ok (.aload_n 1, 1) := dk_43 (dk_at dksJ1_init_0 1 rfl rfl)
theorem dJ1_init_2 : decode cJ1_init 2 = .ok (.invokespecial 7, 3) := dk_183 0 7 (dk_at dksJ1_init_0 2 rfl rfl)
theorem dJ1_init_5 : decode cJ1_init 5 = .ok (.return_, 1) := dk_177 (dk_at dksJ1_init_0 5 rfl rfl)
abbrev cJ1_init_2 : ByteArray := prog_14_method_1_code
def yJ1_init_2 : MethodName := ⟨RJ1, "<init>", "()V"⟩
theorem dJ1_init_2_0 : decode cJ1_init_2 0 = .ok (.aload_n 0, 1) := by decide +kernel
theorem dJ1_init_2_1 : decode cJ1_init_2 1 = .ok (.invokespecial 1, 3) := by decide +kernel
theorem dJ1_init_2_4 : decode cJ1_init_2 4 = .ok (.return_, 1) := by decide +kernel
theorem q77 : (Jvm.Cond.initialized "java/lang/Exception") ∈ lw_all := lw_g (lw_at lw_m1 4 rfl) rfl
theorem q217 : (Jvm.Cond.instanceMethod ({ cls := "java/lang/Exception", name := "<init>", desc := "(Ljava/lang/String;)V" } : Jvm.MethodName)) ∈ lw_all := lw_g (lw_at lw_m1 144 rfl) rfl
theorem q218 : (Jvm.Cond.code ({ cls := "java/lang/Exception", name := "<init>", desc := "(Ljava/lang/String;)V" } : Jvm.MethodName) prog_14_method_2_code (2 : Nat) (Option.none : Option Jvm.ClassFile.FieldType)) ∈ lw_all := lw_g (lw_at lw_m1 145 rfl) rfl
theorem q219 : (Jvm.Cond.methodLink "java/lang/Exception" (7 : Nat) ({ cls := "java/lang/Throwable", name := "<init>", desc := "(Ljava/lang/String;)V" } : Jvm.MethodName)) ∈ lw_all := lw_g (lw_at lw_m1 146 rfl) rfl
theorem q247 : (Jvm.Cond.superclass "java/lang/Exception" "java/lang/Throwable") ∈ lw_all := lw_g (lw_at lw_m1 174 rfl) rfl
theorem q275 : (Jvm.Cond.declares ({ cls := "java/lang/Exception", name := "<init>", desc := "()V" } : Jvm.MethodName)) ∈ lw_tbl := lw_at lw_m1 202 rfl
theorem q276 : (Jvm.Cond.declares ({ cls := "java/lang/Exception", name := "<init>", desc := "(Ljava/lang/String;)V" } : Jvm.MethodName)) ∈ lw_tbl := lw_at lw_m1 203 rfl
theorem q320 : (Jvm.Cond.instanceMethod ({ cls := "java/lang/Exception", name := "<init>", desc := "()V" } : Jvm.MethodName)) ∈ lw_all := lw_g (lw_at lw_m2 7 rfl) rfl
theorem q321 : (Jvm.Cond.code ({ cls := "java/lang/Exception", name := "<init>", desc := "()V" } : Jvm.MethodName) prog_14_method_1_code (1 : Nat) (Option.none : Option Jvm.ClassFile.FieldType)) ∈ lw_all := lw_g (lw_at lw_m2 8 rfl) rfl
theorem q322 : (Jvm.Cond.methodLink "java/lang/Exception" (1 : Nat) ({ cls := "java/lang/Throwable", name := "<init>", desc := "()V" } : Jvm.MethodName)) ∈ lw_all := lw_g (lw_at lw_m2 9 rfl) rfl
/-! java/lang/RuntimeException -/
set_option maxRecDepth 100000
def RJ2 : String := "java/lang/RuntimeException"
abbrev cJ2_init : ByteArray := prog_20_method_2_code
def yJ2_init : MethodName := ⟨RJ2, "<init>", "(Ljava/lang/String;)V"⟩
def dkwJ2_init_0 : List UInt8 := [42, 43, 183, 0, 7, 177]
abbrev dktJ2_init_0 : List UInt8 := dkwJ2_init_0 ++ []
theorem dksJ2_init_0 : cJ2_init.data.toList.drop 0 = dktJ2_init_0 := by decide +kernel
theorem dJ2_init_0 : decode cJ2_init 0 = .ok (.aload_n 0, 1) := dk_42 (dk_at dksJ2_init_0 0 rfl rfl)
theorem dJ2_init_1 : decode cJ2_init 1 = .ok (.aload_n 1, 1) := dk_43 (dk_at dksJ2_init_0 1 rfl rfl)
theorem dJ2_init_2 : decode cJ2_init 2 = .ok (.invokespecial 7, 3) := dk_183 0 7 (dk_at dksJ2_init_0 2 rfl rfl)
theorem dJ2_init_5 : decode cJ2_init 5 = .ok (.return_, 1) := dk_177 (dk_at dksJ2_init_0 5 rfl rfl)
abbrev cJ2_init_2 : ByteArray := prog_20_method_1_code
def yJ2_init_2 : MethodName := ⟨RJ2, "<init>", "()V"⟩
theorem dJ2_init_2_0 : decode cJ2_init_2 0 = .ok (.aload_n 0, 1) := by decide +kernel
theorem dJ2_init_2_1 : decode cJ2_init_2 1 = .ok (.invokespecial 1, 3) := by decide +kernel
theorem dJ2_init_2_4 : decode cJ2_init_2 4 = .ok (.return_, 1) := by decide +kernel
theorem q78 : (Jvm.Cond.initialized "java/lang/RuntimeException") ∈ lw_all := lw_g (lw_at lw_m1 5 rfl) rfl
theorem q214 : (Jvm.Cond.instanceMethod ({ cls := "java/lang/RuntimeException", name := "<init>", desc := "(Ljava/lang/String;)V" } : Jvm.MethodName)) ∈ lw_all := lw_g (lw_at lw_m1 141 rfl) rfl
theorem q215 : (Jvm.Cond.code ({ cls := "java/lang/RuntimeException", name := "<init>", desc := "(Ljava/lang/String;)V" } : Jvm.MethodName) prog_20_method_2_code (2 : Nat) (Option.none : Option Jvm.ClassFile.FieldType)) ∈ lw_all := lw_g (lw_at lw_m1 142 rfl) rfl
theorem q216 : (Jvm.Cond.methodLink "java/lang/RuntimeException" (7 : Nat) ({ cls := "java/lang/Exception", name := "<init>", desc := "(Ljava/lang/String;)V" } : Jvm.MethodName)) ∈ lw_all := lw_g (lw_at lw_m1 143 rfl) rfl
theorem q243 : (Jvm.Cond.sameMethod "java/lang/RuntimeException" "java/lang/Throwable" "fillInStackTrace" "()Ljava/lang/Throwable;") ∈ lw_all := lw_g (lw_at lw_m1 170 rfl) rfl
theorem q246 : (Jvm.Cond.superclass "java/lang/RuntimeException" "java/lang/Exception") ∈ lw_all := lw_g (lw_at lw_m1 173 rfl) rfl
theorem q273 : (Jvm.Cond.declares ({ cls := "java/lang/RuntimeException", name := "<init>", desc := "()V" } : Jvm.MethodName)) ∈ lw_tbl := lw_at lw_m1 200 rfl
theorem q274 : (Jvm.Cond.declares ({ cls := "java/lang/RuntimeException", name := "<init>", desc := "(Ljava/lang/String;)V" } : Jvm.MethodName)) ∈ lw_tbl := lw_at lw_m1 201 rfl
theorem q317 : (Jvm.Cond.instanceMethod ({ cls := "java/lang/RuntimeException", name := "<init>", desc := "()V" } : Jvm.MethodName)) ∈ lw_all := lw_g (lw_at lw_m2 4 rfl) rfl
theorem q318 : (Jvm.Cond.code ({ cls := "java/lang/RuntimeException", name := "<init>", desc := "()V" } : Jvm.MethodName) prog_20_method_1_code (1 : Nat) (Option.none : Option Jvm.ClassFile.FieldType)) ∈ lw_all := lw_g (lw_at lw_m2 5 rfl) rfl
theorem q319 : (Jvm.Cond.methodLink "java/lang/RuntimeException" (1 : Nat) ({ cls := "java/lang/Exception", name := "<init>", desc := "()V" } : Jvm.MethodName)) ∈ lw_all := lw_g (lw_at lw_m2 6 rfl) rfl
theorem q337 : (Jvm.Cond.castable "java/lang/RuntimeException" "java/lang/Throwable") ∈ lw_tbl := lw_at lw_m2 24 rfl
/-! java/lang/NegativeArraySizeException -/
set_option maxRecDepth 100000
def RJ3 : String := "java/lang/NegativeArraySizeException"
def TJ3 : u_T := fun k => match k with
  | 0 => ("java/lang/Throwable", "backtrace", "Ljava/lang/Object;", false)
  | 1 => ("java/lang/Throwable", "detailMessage", "Ljava/lang/String;", false)
  | 2 => ("java/lang/Throwable", "cause", "Ljava/lang/Throwable;", false)
  | 3 => ("java/lang/Throwable", "stackTrace", "[Ljava/lang/StackTraceElement;", false)
  | 4 => ("java/lang/Throwable", "depth", "I", false)
  | _ => ("java/lang/Throwable", "suppressedExceptions", "Ljava/util/List;", false)
def tyJ3 : Nat → FieldType := fun k => match k with
  | 0 => .object "java/lang/Object"
  | 1 => .object "java/lang/String"
  | 2 => .object "java/lang/Throwable"
  | 3 => .array (.object "java/lang/StackTraceElement")
  | 4 => .int
  | _ => .object "java/util/List"
abbrev wsJ30 : List Cond := u_ws RJ3 TJ3 6
theorem nmJ3 : ∀ a, a < 6 → ∀ b, b < 6 → a ≠ b → (TJ3 a).2.1 ≠ (TJ3 b).2.1 := by decide +kernel
theorem tyJ3_ok : ∀ k, k < 6 → parseFieldDescriptor (TJ3 k).2.2.1 = some (tyJ3 k) := by decide +kernel
abbrev cJ3_init : ByteArray := prog_18_method_2_code
def yJ3_init : MethodName := ⟨RJ3, "<init>", "(Ljava/lang/String;)V"⟩
def dkwJ3_init_0 : List UInt8 := [42, 43, 183, 0, 7, 177]
abbrev dktJ3_init_0 : List UInt8 := dkwJ3_init_0 ++ []
theorem dksJ3_init_0 : cJ3_init.data.toList.drop 0 = dktJ3_init_0 := by decide +kernel
theorem dJ3_init_0 : decode cJ3_init 0 = .ok (.aload_n 0, 1) := dk_42 (dk_at dksJ3_init_0 0 rfl rfl)
theorem dJ3_init_1 : decode cJ3_init 1 = .ok (.aload_n 1, 1) := dk_43 (dk_at dksJ3_init_0 1 rfl rfl)
theorem dJ3_init_2 : decode cJ3_init 2 = .ok (.invokespecial 7, 3) := dk_183 0 7 (dk_at dksJ3_init_0 2 rfl rfl)
theorem dJ3_init_5 : decode cJ3_init 5 = .ok (.return_, 1) := dk_177 (dk_at dksJ3_init_0 5 rfl rfl)
theorem q79 : (Jvm.Cond.initialized "java/lang/NegativeArraySizeException") ∈ lw_all := lw_g (lw_at lw_m1 6 rfl) rfl
theorem q210 : (Jvm.Cond.instantiable "java/lang/NegativeArraySizeException" (6 : Nat)) ∈ lw_all := lw_g (lw_at lw_m1 137 rfl) rfl
theorem q211 : (Jvm.Cond.instanceMethod ({ cls := "java/lang/NegativeArraySizeException", name := "<init>", desc := "(Ljava/lang/String;)V" } : Jvm.MethodName)) ∈ lw_all := lw_g (lw_at lw_m1 138 rfl) rfl
theorem q212 : (Jvm.Cond.code ({ cls := "java/lang/NegativeArraySizeException", name := "<init>", desc := "(Ljava/lang/String;)V" } : Jvm.MethodName) prog_18_method_2_code (2 : Nat) (Option.none : Option Jvm.ClassFile.FieldType)) ∈ lw_all := lw_g (lw_at lw_m1 139 rfl) rfl
theorem q213 : (Jvm.Cond.methodLink "java/lang/NegativeArraySizeException" (7 : Nat) ({ cls := "java/lang/RuntimeException", name := "<init>", desc := "(Ljava/lang/String;)V" } : Jvm.MethodName)) ∈ lw_all := lw_g (lw_at lw_m1 140 rfl) rfl
theorem q233 : (Jvm.Cond.selects "java/lang/NegativeArraySizeException" ({ cls := "java/lang/Throwable", name := "fillInStackTrace", desc := "()Ljava/lang/Throwable;" } : Jvm.MethodName) ({ cls := "java/lang/Throwable", name := "fillInStackTrace", desc := "()Ljava/lang/Throwable;" } : Jvm.MethodName)) ∈ lw_all := lw_g (lw_at lw_m1 160 rfl) rfl
theorem q259 : (Jvm.Cond.lays "java/lang/NegativeArraySizeException" "java/lang/Throwable" "backtrace" "Ljava/lang/Object;") ∈ lw_all := lw_g (lw_at lw_m1 186 rfl) rfl
theorem q261 : (Jvm.Cond.lays "java/lang/NegativeArraySizeException" "java/lang/Throwable" "detailMessage" "Ljava/lang/String;") ∈ lw_all := lw_g (lw_at lw_m1 188 rfl) rfl
theorem q263 : (Jvm.Cond.lays "java/lang/NegativeArraySizeException" "java/lang/Throwable" "cause" "Ljava/lang/Throwable;") ∈ lw_all := lw_g (lw_at lw_m1 190 rfl) rfl
theorem q265 : (Jvm.Cond.lays "java/lang/NegativeArraySizeException" "java/lang/Throwable" "stackTrace" "[Ljava/lang/StackTraceElement;") ∈ lw_all := lw_g (lw_at lw_m1 192 rfl) rfl
theorem q267 : (Jvm.Cond.lays "java/lang/NegativeArraySizeException" "java/lang/Throwable" "depth" "I") ∈ lw_all := lw_g (lw_at lw_m1 194 rfl) rfl
theorem q269 : (Jvm.Cond.lays "java/lang/NegativeArraySizeException" "java/lang/Throwable" "suppressedExceptions" "Ljava/util/List;") ∈ lw_all := lw_g (lw_at lw_m1 196 rfl) rfl
theorem q271 : (Jvm.Cond.superclass "java/lang/NegativeArraySizeException" "java/lang/RuntimeException") ∈ lw_all := lw_g (lw_at lw_m1 198 rfl) rfl
theorem q272 : (Jvm.Cond.castable "java/lang/NegativeArraySizeException" "java/lang/NegativeArraySizeException") ∈ lw_tbl := lw_at lw_m1 199 rfl
theorem q279 : (Jvm.Cond.selects "java/lang/NegativeArraySizeException" ({ cls := "java/lang/Throwable", name := "fillInStackTrace", desc := "(I)Ljava/lang/Throwable;" } : Jvm.MethodName) ({ cls := "java/lang/Throwable", name := "fillInStackTrace", desc := "(I)Ljava/lang/Throwable;" } : Jvm.MethodName)) ∈ lw_all := lw_g (lw_at lw_m1 206 rfl) rfl
theorem in_J3 : ∀ w ∈ wsJ30, w ∈ lw_all := lw_in wsJ30 [259, 261, 263, 265, 267, 269] (by decide +kernel) (by decide +kernel)
/-! java/lang/String -/
set_option maxRecDepth 100000
def RJ4 : String := "java/lang/String"
def TJ4 : u_T := fun k => match k with
  | 0 => ("java/lang/String", "value", "[B", true)
  | _ => ("java/lang/String", "coder", "B", true)
def tyJ4 : Nat → FieldType := fun k => match k with
  | 0 => .array .byte
  | _ => .byte
abbrev wsJ40 : List Cond := u_ws RJ4 TJ4 2
theorem nmJ4 : ∀ a, a < 2 → ∀ b, b < 2 → a ≠ b → (TJ4 a).2.1 ≠ (TJ4 b).2.1 := by decide +kernel
theorem tyJ4_ok : ∀ k, k < 2 → parseFieldDescriptor (TJ4 k).2.2.1 = some (tyJ4 k) := by decide +kernel
theorem q80 : (Jvm.Cond.initialized "java/lang/String") ∈ lw_all := lw_g (lw_at lw_m1 7 rfl) rfl
theorem q289 : (Jvm.Cond.instantiable "java/lang/String" (4 : Nat)) ∈ lw_all := lw_g (lw_at lw_m1 216 rfl) rfl
theorem q291 : (Jvm.Cond.laysFinal "java/lang/String" "java/lang/String" "value" "[B") ∈ lw_all := lw_g (lw_at lw_m1 218 rfl) rfl
theorem q292 : (Jvm.Cond.soleField "java/lang/String" "value") ∈ lw_all := lw_g (lw_at lw_m1 219 rfl) rfl
theorem q293 : (Jvm.Cond.laysFinal "java/lang/String" "java/lang/String" "coder" "B") ∈ lw_all := lw_g (lw_at lw_m1 220 rfl) rfl
theorem q294 : (Jvm.Cond.soleField "java/lang/String" "coder") ∈ lw_all := lw_g (lw_at lw_m1 221 rfl) rfl
theorem in_J4 : ∀ w ∈ wsJ40, w ∈ lw_all := lw_in wsJ40 [291, 293] (by decide +kernel) (by decide +kernel)
/-! java/lang/NullPointerException -/
set_option maxRecDepth 100000
def RJ5 : String := "java/lang/NullPointerException"
def TJ5 : u_T := fun k => match k with
  | 0 => ("java/lang/Throwable", "backtrace", "Ljava/lang/Object;", false)
  | 1 => ("java/lang/Throwable", "detailMessage", "Ljava/lang/String;", false)
  | 2 => ("java/lang/Throwable", "cause", "Ljava/lang/Throwable;", false)
  | 3 => ("java/lang/Throwable", "stackTrace", "[Ljava/lang/StackTraceElement;", false)
  | 4 => ("java/lang/Throwable", "depth", "I", false)
  | 5 => ("java/lang/Throwable", "suppressedExceptions", "Ljava/util/List;", false)
  | 6 => ("java/lang/NullPointerException", "extendedMessageState", "I", false)
  | _ => ("java/lang/NullPointerException", "extendedMessage", "Ljava/lang/String;", false)
def tyJ5 : Nat → FieldType := fun k => match k with
  | 0 => .object "java/lang/Object"
  | 1 => .object "java/lang/String"
  | 2 => .object "java/lang/Throwable"
  | 3 => .array (.object "java/lang/StackTraceElement")
  | 4 => .int
  | 5 => .object "java/util/List"
  | 6 => .int
  | _ => .object "java/lang/String"
abbrev wsJ50 : List Cond := u_ws RJ5 TJ5 8
theorem nmJ5 : ∀ a, a < 8 → ∀ b, b < 8 → a ≠ b → (TJ5 a).2.1 ≠ (TJ5 b).2.1 := by decide +kernel
theorem tyJ5_ok : ∀ k, k < 8 → parseFieldDescriptor (TJ5 k).2.2.1 = some (tyJ5 k) := by decide +kernel
abbrev cJ5_init : ByteArray := prog_19_method_1_code
def yJ5_init : MethodName := ⟨RJ5, "<init>", "()V"⟩
theorem dJ5_init_0 : decode cJ5_init 0 = .ok (.aload_n 0, 1) := by decide +kernel
theorem dJ5_init_1 : decode cJ5_init 1 = .ok (.invokespecial 1, 3) := by decide +kernel
theorem dJ5_init_4 : decode cJ5_init 4 = .ok (.return_, 1) := by decide +kernel
theorem q81 : (Jvm.Cond.initialized "java/lang/NullPointerException") ∈ lw_all := lw_g (lw_at lw_m1 8 rfl) rfl
theorem q234 : (Jvm.Cond.selects "java/lang/NullPointerException" ({ cls := "java/lang/Throwable", name := "fillInStackTrace", desc := "()Ljava/lang/Throwable;" } : Jvm.MethodName) ({ cls := "java/lang/NullPointerException", name := "fillInStackTrace", desc := "()Ljava/lang/Throwable;" } : Jvm.MethodName)) ∈ lw_all := lw_g (lw_at lw_m1 161 rfl) rfl
theorem q235 : (Jvm.Cond.instanceMethod ({ cls := "java/lang/NullPointerException", name := "fillInStackTrace", desc := "()Ljava/lang/Throwable;" } : Jvm.MethodName)) ∈ lw_all := lw_g (lw_at lw_m1 162 rfl) rfl
theorem q236 : (Jvm.Cond.codeSync ({ cls := "java/lang/NullPointerException", name := "fillInStackTrace", desc := "()Ljava/lang/Throwable;" } : Jvm.MethodName) prog_19_method_3_code (1 : Nat) (Option.some (Jvm.ClassFile.FieldType.object "java/lang/Throwable"))) ∈ lw_all := lw_g (lw_at lw_m1 163 rfl) rfl
theorem q237 : (Jvm.Cond.methodLink "java/lang/NullPointerException" (16 : Nat) ({ cls := "java/lang/NullPointerException", name := "getExtendedNPEMessage", desc := "()Ljava/lang/String;" } : Jvm.MethodName)) ∈ lw_all := lw_g (lw_at lw_m1 164 rfl) rfl
theorem q238 : (Jvm.Cond.privateMethod ({ cls := "java/lang/NullPointerException", name := "getExtendedNPEMessage", desc := "()Ljava/lang/String;" } : Jvm.MethodName)) ∈ lw_tbl := lw_at lw_m1 165 rfl
theorem q239 : (Jvm.Cond.instanceMethod ({ cls := "java/lang/NullPointerException", name := "getExtendedNPEMessage", desc := "()Ljava/lang/String;" } : Jvm.MethodName)) ∈ lw_all := lw_g (lw_at lw_m1 166 rfl) rfl
theorem q240 : (Jvm.Cond.instantiable "java/lang/NullPointerException" (8 : Nat)) ∈ lw_all := lw_g (lw_at lw_m1 167 rfl) rfl
theorem q241 : (Jvm.Cond.native ({ cls := "java/lang/NullPointerException", name := "getExtendedNPEMessage", desc := "()Ljava/lang/String;" } : Jvm.MethodName)) ∈ lw_all := lw_g (lw_at lw_m1 168 rfl) rfl
theorem q242 : (Jvm.Cond.methodLink "java/lang/NullPointerException" (24 : Nat) ({ cls := "java/lang/RuntimeException", name := "fillInStackTrace", desc := "()Ljava/lang/Throwable;" } : Jvm.MethodName)) ∈ lw_all := lw_g (lw_at lw_m1 169 rfl) rfl
theorem q245 : (Jvm.Cond.superclass "java/lang/NullPointerException" "java/lang/RuntimeException") ∈ lw_all := lw_g (lw_at lw_m1 172 rfl) rfl
theorem q314 : (Jvm.Cond.instanceMethod ({ cls := "java/lang/NullPointerException", name := "<init>", desc := "()V" } : Jvm.MethodName)) ∈ lw_all := lw_g (lw_at lw_m2 1 rfl) rfl
theorem q315 : (Jvm.Cond.code ({ cls := "java/lang/NullPointerException", name := "<init>", desc := "()V" } : Jvm.MethodName) prog_19_method_1_code (1 : Nat) (Option.none : Option Jvm.ClassFile.FieldType)) ∈ lw_all := lw_g (lw_at lw_m2 2 rfl) rfl
theorem q316 : (Jvm.Cond.methodLink "java/lang/NullPointerException" (1 : Nat) ({ cls := "java/lang/RuntimeException", name := "<init>", desc := "()V" } : Jvm.MethodName)) ∈ lw_all := lw_g (lw_at lw_m2 3 rfl) rfl
theorem q323 : (Jvm.Cond.fieldLink "java/lang/NullPointerException" (10 : Nat) "java/lang/NullPointerException" "extendedMessageState" "I") ∈ lw_all := lw_g (lw_at lw_m2 10 rfl) rfl
theorem q324 : (Jvm.Cond.fieldLink "java/lang/NullPointerException" (20 : Nat) "java/lang/NullPointerException" "extendedMessage" "Ljava/lang/String;") ∈ lw_all := lw_g (lw_at lw_m2 11 rfl) rfl
theorem q325 : (Jvm.Cond.lays "java/lang/NullPointerException" "java/lang/NullPointerException" "extendedMessageState" "I") ∈ lw_all := lw_g (lw_at lw_m2 12 rfl) rfl
theorem q326 : (Jvm.Cond.soleField "java/lang/NullPointerException" "extendedMessageState") ∈ lw_all := lw_g (lw_at lw_m2 13 rfl) rfl
theorem q327 : (Jvm.Cond.lays "java/lang/NullPointerException" "java/lang/NullPointerException" "extendedMessage" "Ljava/lang/String;") ∈ lw_all := lw_g (lw_at lw_m2 14 rfl) rfl
theorem q328 : (Jvm.Cond.soleField "java/lang/NullPointerException" "extendedMessage") ∈ lw_all := lw_g (lw_at lw_m2 15 rfl) rfl
theorem q329 : (Jvm.Cond.lays "java/lang/NullPointerException" "java/lang/Throwable" "backtrace" "Ljava/lang/Object;") ∈ lw_all := lw_g (lw_at lw_m2 16 rfl) rfl
theorem q330 : (Jvm.Cond.lays "java/lang/NullPointerException" "java/lang/Throwable" "detailMessage" "Ljava/lang/String;") ∈ lw_all := lw_g (lw_at lw_m2 17 rfl) rfl
theorem q331 : (Jvm.Cond.lays "java/lang/NullPointerException" "java/lang/Throwable" "cause" "Ljava/lang/Throwable;") ∈ lw_all := lw_g (lw_at lw_m2 18 rfl) rfl
theorem q332 : (Jvm.Cond.lays "java/lang/NullPointerException" "java/lang/Throwable" "stackTrace" "[Ljava/lang/StackTraceElement;") ∈ lw_all := lw_g (lw_at lw_m2 19 rfl) rfl
theorem q333 : (Jvm.Cond.lays "java/lang/NullPointerException" "java/lang/Throwable" "depth" "I") ∈ lw_all := lw_g (lw_at lw_m2 20 rfl) rfl
theorem q334 : (Jvm.Cond.lays "java/lang/NullPointerException" "java/lang/Throwable" "suppressedExceptions" "Ljava/util/List;") ∈ lw_all := lw_g (lw_at lw_m2 21 rfl) rfl
theorem q335 : (Jvm.Cond.castable "java/lang/NullPointerException" "java/lang/NullPointerException") ∈ lw_tbl := lw_at lw_m2 22 rfl
theorem q336 : (Jvm.Cond.selects "java/lang/NullPointerException" ({ cls := "java/lang/Throwable", name := "fillInStackTrace", desc := "(I)Ljava/lang/Throwable;" } : Jvm.MethodName) ({ cls := "java/lang/Throwable", name := "fillInStackTrace", desc := "(I)Ljava/lang/Throwable;" } : Jvm.MethodName)) ∈ lw_all := lw_g (lw_at lw_m2 23 rfl) rfl
theorem in_J5 : ∀ w ∈ wsJ50, w ∈ lw_all := lw_in wsJ50 [329, 330, 331, 332, 333, 334, 325, 327] (by decide +kernel) (by decide +kernel)
/-! java/lang/IndexOutOfBoundsException -/
set_option maxRecDepth 100000
def RJ6 : String := "java/lang/IndexOutOfBoundsException"
abbrev cJ6_init : ByteArray := prog_15_method_2_code
def yJ6_init : MethodName := ⟨RJ6, "<init>", "(Ljava/lang/String;)V"⟩
def dkwJ6_init_0 : List UInt8 := [42, 43, 183, 0, 7, 177]
abbrev dktJ6_init_0 : List UInt8 := dkwJ6_init_0 ++ []
theorem dksJ6_init_0 : cJ6_init.data.toList.drop 0 = dktJ6_init_0 := by decide +kernel
theorem dJ6_init_0 : decode cJ6_init 0 = .ok (.aload_n 0, 1) := dk_42 (dk_at dksJ6_init_0 0 rfl rfl)
theorem dJ6_init_1 : decode cJ6_init 1 = .ok (.aload_n 1, 1) := dk_43 (dk_at dksJ6_init_0 1 rfl rfl)
theorem dJ6_init_2 : decode cJ6_init 2 = .ok (.invokespecial 7, 3) := dk_183 0 7 (dk_at dksJ6_init_0 2 rfl rfl)
theorem dJ6_init_5 : decode cJ6_init 5 = .ok (.return_, 1) := dk_177 (dk_at dksJ6_init_0 5 rfl rfl)
theorem q82 : (Jvm.Cond.initialized "java/lang/IndexOutOfBoundsException") ∈ lw_all := lw_g (lw_at lw_m1 9 rfl) rfl
theorem q343 : (Jvm.Cond.instanceMethod ({ cls := "java/lang/IndexOutOfBoundsException", name := "<init>", desc := "(Ljava/lang/String;)V" } : Jvm.MethodName)) ∈ lw_all := lw_g (lw_at lw_m2 30 rfl) rfl
theorem q344 : (Jvm.Cond.code ({ cls := "java/lang/IndexOutOfBoundsException", name := "<init>", desc := "(Ljava/lang/String;)V" } : Jvm.MethodName) prog_15_method_2_code (2 : Nat) (Option.none : Option Jvm.ClassFile.FieldType)) ∈ lw_all := lw_g (lw_at lw_m2 31 rfl) rfl
theorem q345 : (Jvm.Cond.methodLink "java/lang/IndexOutOfBoundsException" (7 : Nat) ({ cls := "java/lang/RuntimeException", name := "<init>", desc := "(Ljava/lang/String;)V" } : Jvm.MethodName)) ∈ lw_all := lw_g (lw_at lw_m2 32 rfl) rfl
theorem q354 : (Jvm.Cond.declares ({ cls := "java/lang/IndexOutOfBoundsException", name := "<init>", desc := "()V" } : Jvm.MethodName)) ∈ lw_tbl := lw_at lw_m2 41 rfl
theorem q355 : (Jvm.Cond.declares ({ cls := "java/lang/IndexOutOfBoundsException", name := "<init>", desc := "(Ljava/lang/String;)V" } : Jvm.MethodName)) ∈ lw_tbl := lw_at lw_m2 42 rfl
/-! java/lang/ArrayIndexOutOfBoundsException -/
set_option maxRecDepth 100000
def RJ7 : String := "java/lang/ArrayIndexOutOfBoundsException"
def TJ7 : u_T := fun k => match k with
  | 0 => ("java/lang/Throwable", "backtrace", "Ljava/lang/Object;", false)
  | 1 => ("java/lang/Throwable", "detailMessage", "Ljava/lang/String;", false)
  | 2 => ("java/lang/Throwable", "cause", "Ljava/lang/Throwable;", false)
  | 3 => ("java/lang/Throwable", "stackTrace", "[Ljava/lang/StackTraceElement;", false)
  | 4 => ("java/lang/Throwable", "depth", "I", false)
  | _ => ("java/lang/Throwable", "suppressedExceptions", "Ljava/util/List;", false)
def tyJ7 : Nat → FieldType := fun k => match k with
  | 0 => .object "java/lang/Object"
  | 1 => .object "java/lang/String"
  | 2 => .object "java/lang/Throwable"
  | 3 => .array (.object "java/lang/StackTraceElement")
  | 4 => .int
  | _ => .object "java/util/List"
abbrev wsJ70 : List Cond := u_ws RJ7 TJ7 6
theorem nmJ7 : ∀ a, a < 6 → ∀ b, b < 6 → a ≠ b → (TJ7 a).2.1 ≠ (TJ7 b).2.1 := by decide +kernel
theorem tyJ7_ok : ∀ k, k < 6 → parseFieldDescriptor (TJ7 k).2.2.1 = some (tyJ7 k) := by decide +kernel
abbrev cJ7_init : ByteArray := prog_12_method_2_code
def yJ7_init : MethodName := ⟨RJ7, "<init>", "(Ljava/lang/String;)V"⟩
def dkwJ7_init_0 : List UInt8 := [42, 43, 183, 0, 7, 177]
abbrev dktJ7_init_0 : List UInt8 := dkwJ7_init_0 ++ []
theorem dksJ7_init_0 : cJ7_init.data.toList.drop 0 = dktJ7_init_0 := by decide +kernel
theorem dJ7_init_0 : decode cJ7_init 0 = .ok (.aload_n 0, 1) := dk_42 (dk_at dksJ7_init_0 0 rfl rfl)
theorem dJ7_init_1 : decode cJ7_init 1 = .ok (.aload_n 1, 1) := dk_43 (dk_at dksJ7_init_0 1 rfl rfl)
theorem dJ7_init_2 : decode cJ7_init 2 = .ok (.invokespecial 7, 3) := dk_183 0 7 (dk_at dksJ7_init_0 2 rfl rfl)
theorem dJ7_init_5 : decode cJ7_init 5 = .ok (.return_, 1) := dk_177 (dk_at dksJ7_init_0 5 rfl rfl)
theorem q83 : (Jvm.Cond.initialized "java/lang/ArrayIndexOutOfBoundsException") ∈ lw_all := lw_g (lw_at lw_m1 10 rfl) rfl
theorem q231 : (Jvm.Cond.selects "java/lang/ArrayIndexOutOfBoundsException" ({ cls := "java/lang/Throwable", name := "fillInStackTrace", desc := "()Ljava/lang/Throwable;" } : Jvm.MethodName) ({ cls := "java/lang/Throwable", name := "fillInStackTrace", desc := "()Ljava/lang/Throwable;" } : Jvm.MethodName)) ∈ lw_all := lw_g (lw_at lw_m1 158 rfl) rfl
theorem q339 : (Jvm.Cond.instantiable "java/lang/ArrayIndexOutOfBoundsException" (6 : Nat)) ∈ lw_all := lw_g (lw_at lw_m2 26 rfl) rfl
theorem q340 : (Jvm.Cond.instanceMethod ({ cls := "java/lang/ArrayIndexOutOfBoundsException", name := "<init>", desc := "(Ljava/lang/String;)V" } : Jvm.MethodName)) ∈ lw_all := lw_g (lw_at lw_m2 27 rfl) rfl
theorem q341 : (Jvm.Cond.code ({ cls := "java/lang/ArrayIndexOutOfBoundsException", name := "<init>", desc := "(Ljava/lang/String;)V" } : Jvm.MethodName) prog_12_method_2_code (2 : Nat) (Option.none : Option Jvm.ClassFile.FieldType)) ∈ lw_all := lw_g (lw_at lw_m2 28 rfl) rfl
theorem q342 : (Jvm.Cond.methodLink "java/lang/ArrayIndexOutOfBoundsException" (7 : Nat) ({ cls := "java/lang/IndexOutOfBoundsException", name := "<init>", desc := "(Ljava/lang/String;)V" } : Jvm.MethodName)) ∈ lw_all := lw_g (lw_at lw_m2 29 rfl) rfl
theorem q346 : (Jvm.Cond.lays "java/lang/ArrayIndexOutOfBoundsException" "java/lang/Throwable" "backtrace" "Ljava/lang/Object;") ∈ lw_all := lw_g (lw_at lw_m2 33 rfl) rfl
theorem q347 : (Jvm.Cond.lays "java/lang/ArrayIndexOutOfBoundsException" "java/lang/Throwable" "detailMessage" "Ljava/lang/String;") ∈ lw_all := lw_g (lw_at lw_m2 34 rfl) rfl
theorem q348 : (Jvm.Cond.lays "java/lang/ArrayIndexOutOfBoundsException" "java/lang/Throwable" "cause" "Ljava/lang/Throwable;") ∈ lw_all := lw_g (lw_at lw_m2 35 rfl) rfl
theorem q349 : (Jvm.Cond.lays "java/lang/ArrayIndexOutOfBoundsException" "java/lang/Throwable" "stackTrace" "[Ljava/lang/StackTraceElement;") ∈ lw_all := lw_g (lw_at lw_m2 36 rfl) rfl
theorem q350 : (Jvm.Cond.lays "java/lang/ArrayIndexOutOfBoundsException" "java/lang/Throwable" "depth" "I") ∈ lw_all := lw_g (lw_at lw_m2 37 rfl) rfl
theorem q351 : (Jvm.Cond.lays "java/lang/ArrayIndexOutOfBoundsException" "java/lang/Throwable" "suppressedExceptions" "Ljava/util/List;") ∈ lw_all := lw_g (lw_at lw_m2 38 rfl) rfl
theorem q352 : (Jvm.Cond.superclass "java/lang/ArrayIndexOutOfBoundsException" "java/lang/IndexOutOfBoundsException") ∈ lw_all := lw_g (lw_at lw_m2 39 rfl) rfl
theorem q353 : (Jvm.Cond.castable "java/lang/ArrayIndexOutOfBoundsException" "java/lang/ArrayIndexOutOfBoundsException") ∈ lw_tbl := lw_at lw_m2 40 rfl
theorem q356 : (Jvm.Cond.selects "java/lang/ArrayIndexOutOfBoundsException" ({ cls := "java/lang/Throwable", name := "fillInStackTrace", desc := "(I)Ljava/lang/Throwable;" } : Jvm.MethodName) ({ cls := "java/lang/Throwable", name := "fillInStackTrace", desc := "(I)Ljava/lang/Throwable;" } : Jvm.MethodName)) ∈ lw_all := lw_g (lw_at lw_m2 43 rfl) rfl
theorem q1441 : (Jvm.Cond.castable "java/lang/ArrayIndexOutOfBoundsException" "java/lang/IndexOutOfBoundsException") ∈ lw_tbl := lw_at lw_m6 168 rfl
theorem in_J7 : ∀ w ∈ wsJ70, w ∈ lw_all := lw_in wsJ70 [346, 347, 348, 349, 350, 351] (by decide +kernel) (by decide +kernel)
/-! java/lang/ArithmeticException -/
set_option maxRecDepth 100000
def RJ8 : String := "java/lang/ArithmeticException"
def TJ8 : u_T := fun k => match k with
  | 0 => ("java/lang/Throwable", "backtrace", "Ljava/lang/Object;", false)
  | 1 => ("java/lang/Throwable", "detailMessage", "Ljava/lang/String;", false)
  | 2 => ("java/lang/Throwable", "cause", "Ljava/lang/Throwable;", false)
  | 3 => ("java/lang/Throwable", "stackTrace", "[Ljava/lang/StackTraceElement;", false)
  | 4 => ("java/lang/Throwable", "depth", "I", false)
  | _ => ("java/lang/Throwable", "suppressedExceptions", "Ljava/util/List;", false)
def tyJ8 : Nat → FieldType := fun k => match k with
  | 0 => .object "java/lang/Object"
  | 1 => .object "java/lang/String"
  | 2 => .object "java/lang/Throwable"
  | 3 => .array (.object "java/lang/StackTraceElement")
  | 4 => .int
  | _ => .object "java/util/List"
abbrev wsJ80 : List Cond := u_ws RJ8 TJ8 6
theorem nmJ8 : ∀ a, a < 6 → ∀ b, b < 6 → a ≠ b → (TJ8 a).2.1 ≠ (TJ8 b).2.1 := by decide +kernel
theorem tyJ8_ok : ∀ k, k < 6 → parseFieldDescriptor (TJ8 k).2.2.1 = some (tyJ8 k) := by decide +kernel
abbrev cJ8_init : ByteArray := prog_11_method_2_code
def yJ8_init : MethodName := ⟨RJ8, "<init>", "(Ljava/lang/String;)V"⟩
def dkwJ8_init_0 : List UInt8 := [42, 43, 183, 0, 7, 177]
abbrev dktJ8_init_0 : List UInt8 := dkwJ8_init_0 ++ []
theorem dksJ8_init_0 : cJ8_init.data.toList.drop 0 = dktJ8_init_0 := by decide +kernel
theorem dJ8_init_0 : decode cJ8_init 0 = .ok (.aload_n 0, 1) := dk_42 (dk_at dksJ8_init_0 0 rfl rfl)
theorem dJ8_init_1 : decode cJ8_init 1 = .ok (.aload_n 1, 1) := dk_43 (dk_at dksJ8_init_0 1 rfl rfl)
theorem dJ8_init_2 : decode cJ8_init 2 = .ok (.invokespecial 7, 3) := dk_183 0 7 (dk_at dksJ8_init_0 2 rfl rfl)
theorem dJ8_init_5 : decode cJ8_init 5 = .ok (.return_, 1) := dk_177 (dk_at dksJ8_init_0 5 rfl rfl)
theorem q85 : (Jvm.Cond.initialized "java/lang/ArithmeticException") ∈ lw_all := lw_g (lw_at lw_m1 12 rfl) rfl
theorem q230 : (Jvm.Cond.selects "java/lang/ArithmeticException" ({ cls := "java/lang/Throwable", name := "fillInStackTrace", desc := "()Ljava/lang/Throwable;" } : Jvm.MethodName) ({ cls := "java/lang/Throwable", name := "fillInStackTrace", desc := "()Ljava/lang/Throwable;" } : Jvm.MethodName)) ∈ lw_all := lw_g (lw_at lw_m1 157 rfl) rfl
theorem q379 : (Jvm.Cond.instantiable "java/lang/ArithmeticException" (6 : Nat)) ∈ lw_all := lw_g (lw_at lw_m2 66 rfl) rfl
theorem q380 : (Jvm.Cond.instanceMethod ({ cls := "java/lang/ArithmeticException", name := "<init>", desc := "(Ljava/lang/String;)V" } : Jvm.MethodName)) ∈ lw_all := lw_g (lw_at lw_m2 67 rfl) rfl
theorem q381 : (Jvm.Cond.code ({ cls := "java/lang/ArithmeticException", name := "<init>", desc := "(Ljava/lang/String;)V" } : Jvm.MethodName) prog_11_method_2_code (2 : Nat) (Option.none : Option Jvm.ClassFile.FieldType)) ∈ lw_all := lw_g (lw_at lw_m2 68 rfl) rfl
theorem q382 : (Jvm.Cond.methodLink "java/lang/ArithmeticException" (7 : Nat) ({ cls := "java/lang/RuntimeException", name := "<init>", desc := "(Ljava/lang/String;)V" } : Jvm.MethodName)) ∈ lw_all := lw_g (lw_at lw_m2 69 rfl) rfl
theorem q383 : (Jvm.Cond.lays "java/lang/ArithmeticException" "java/lang/Throwable" "backtrace" "Ljava/lang/Object;") ∈ lw_all := lw_g (lw_at lw_m2 70 rfl) rfl
theorem q384 : (Jvm.Cond.lays "java/lang/ArithmeticException" "java/lang/Throwable" "detailMessage" "Ljava/lang/String;") ∈ lw_all := lw_g (lw_at lw_m2 71 rfl) rfl
theorem q385 : (Jvm.Cond.lays "java/lang/ArithmeticException" "java/lang/Throwable" "cause" "Ljava/lang/Throwable;") ∈ lw_all := lw_g (lw_at lw_m2 72 rfl) rfl
theorem q386 : (Jvm.Cond.lays "java/lang/ArithmeticException" "java/lang/Throwable" "stackTrace" "[Ljava/lang/StackTraceElement;") ∈ lw_all := lw_g (lw_at lw_m2 73 rfl) rfl
theorem q387 : (Jvm.Cond.lays "java/lang/ArithmeticException" "java/lang/Throwable" "depth" "I") ∈ lw_all := lw_g (lw_at lw_m2 74 rfl) rfl
theorem q388 : (Jvm.Cond.lays "java/lang/ArithmeticException" "java/lang/Throwable" "suppressedExceptions" "Ljava/util/List;") ∈ lw_all := lw_g (lw_at lw_m2 75 rfl) rfl
theorem q389 : (Jvm.Cond.superclass "java/lang/ArithmeticException" "java/lang/RuntimeException") ∈ lw_all := lw_g (lw_at lw_m2 76 rfl) rfl
theorem q390 : (Jvm.Cond.castable "java/lang/ArithmeticException" "java/lang/ArithmeticException") ∈ lw_tbl := lw_at lw_m2 77 rfl
theorem q391 : (Jvm.Cond.selects "java/lang/ArithmeticException" ({ cls := "java/lang/Throwable", name := "fillInStackTrace", desc := "(I)Ljava/lang/Throwable;" } : Jvm.MethodName) ({ cls := "java/lang/Throwable", name := "fillInStackTrace", desc := "(I)Ljava/lang/Throwable;" } : Jvm.MethodName)) ∈ lw_all := lw_g (lw_at lw_m2 78 rfl) rfl
theorem in_J8 : ∀ w ∈ wsJ80, w ∈ lw_all := lw_in wsJ80 [383, 384, 385, 386, 387, 388] (by decide +kernel) (by decide +kernel)
/-! java/lang/ClassCastException -/
set_option maxRecDepth 100000
def RJ9 : String := "java/lang/ClassCastException"
def TJ9 : u_T := fun k => match k with
  | 0 => ("java/lang/Throwable", "backtrace", "Ljava/lang/Object;", false)
  | 1 => ("java/lang/Throwable", "detailMessage", "Ljava/lang/String;", false)
  | 2 => ("java/lang/Throwable", "cause", "Ljava/lang/Throwable;", false)
  | 3 => ("java/lang/Throwable", "stackTrace", "[Ljava/lang/StackTraceElement;", false)
  | 4 => ("java/lang/Throwable", "depth", "I", false)
  | _ => ("java/lang/Throwable", "suppressedExceptions", "Ljava/util/List;", false)
def tyJ9 : Nat → FieldType := fun k => match k with
  | 0 => .object "java/lang/Object"
  | 1 => .object "java/lang/String"
  | 2 => .object "java/lang/Throwable"
  | 3 => .array (.object "java/lang/StackTraceElement")
  | 4 => .int
  | _ => .object "java/util/List"
abbrev wsJ90 : List Cond := u_ws RJ9 TJ9 6
theorem nmJ9 : ∀ a, a < 6 → ∀ b, b < 6 → a ≠ b → (TJ9 a).2.1 ≠ (TJ9 b).2.1 := by decide +kernel
theorem tyJ9_ok : ∀ k, k < 6 → parseFieldDescriptor (TJ9 k).2.2.1 = some (tyJ9 k) := by decide +kernel
abbrev cJ9_init : ByteArray := prog_13_method_2_code
def yJ9_init : MethodName := ⟨RJ9, "<init>", "(Ljava/lang/String;)V"⟩
def dkwJ9_init_0 : List UInt8 := [42, 43, 183, 0, 7, 177]
abbrev dktJ9_init_0 : List UInt8 := dkwJ9_init_0 ++ []
theorem dksJ9_init_0 : cJ9_init.data.toList.drop 0 = dktJ9_init_0 := by decide +kernel
theorem dJ9_init_0 : decode cJ9_init 0 = .ok (.aload_n 0, 1) := dk_42 (dk_at dksJ9_init_0 0 rfl rfl)
theorem dJ9_init_1 : decode cJ9_init 1 = .ok (.aload_n 1, 1) := dk_43 (dk_at dksJ9_init_0 1 rfl rfl)
theorem dJ9_init_2 : decode cJ9_init 2 = .ok (.invokespecial 7, 3) := dk_183 0 7 (dk_at dksJ9_init_0 2 rfl rfl)
theorem dJ9_init_5 : decode cJ9_init 5 = .ok (.return_, 1) := dk_177 (dk_at dksJ9_init_0 5 rfl rfl)
theorem q92 : (Jvm.Cond.initialized "java/lang/ClassCastException") ∈ lw_all := lw_g (lw_at lw_m1 19 rfl) rfl
theorem q232 : (Jvm.Cond.selects "java/lang/ClassCastException" ({ cls := "java/lang/Throwable", name := "fillInStackTrace", desc := "()Ljava/lang/Throwable;" } : Jvm.MethodName) ({ cls := "java/lang/Throwable", name := "fillInStackTrace", desc := "()Ljava/lang/Throwable;" } : Jvm.MethodName)) ∈ lw_all := lw_g (lw_at lw_m1 159 rfl) rfl
theorem q609 : (Jvm.Cond.instantiable "java/lang/ClassCastException" (6 : Nat)) ∈ lw_all := lw_g (lw_at lw_m3 56 rfl) rfl
theorem q610 : (Jvm.Cond.instanceMethod ({ cls := "java/lang/ClassCastException", name := "<init>", desc := "(Ljava/lang/String;)V" } : Jvm.MethodName)) ∈ lw_all := lw_g (lw_at lw_m3 57 rfl) rfl
theorem q611 : (Jvm.Cond.code ({ cls := "java/lang/ClassCastException", name := "<init>", desc := "(Ljava/lang/String;)V" } : Jvm.MethodName) prog_13_method_2_code (2 : Nat) (Option.none : Option Jvm.ClassFile.FieldType)) ∈ lw_all := lw_g (lw_at lw_m3 58 rfl) rfl
theorem q612 : (Jvm.Cond.methodLink "java/lang/ClassCastException" (7 : Nat) ({ cls := "java/lang/RuntimeException", name := "<init>", desc := "(Ljava/lang/String;)V" } : Jvm.MethodName)) ∈ lw_all := lw_g (lw_at lw_m3 59 rfl) rfl
theorem q613 : (Jvm.Cond.lays "java/lang/ClassCastException" "java/lang/Throwable" "backtrace" "Ljava/lang/Object;") ∈ lw_all := lw_g (lw_at lw_m3 60 rfl) rfl
theorem q614 : (Jvm.Cond.lays "java/lang/ClassCastException" "java/lang/Throwable" "detailMessage" "Ljava/lang/String;") ∈ lw_all := lw_g (lw_at lw_m3 61 rfl) rfl
theorem q615 : (Jvm.Cond.lays "java/lang/ClassCastException" "java/lang/Throwable" "cause" "Ljava/lang/Throwable;") ∈ lw_all := lw_g (lw_at lw_m3 62 rfl) rfl
theorem q616 : (Jvm.Cond.lays "java/lang/ClassCastException" "java/lang/Throwable" "stackTrace" "[Ljava/lang/StackTraceElement;") ∈ lw_all := lw_g (lw_at lw_m3 63 rfl) rfl
theorem q617 : (Jvm.Cond.lays "java/lang/ClassCastException" "java/lang/Throwable" "depth" "I") ∈ lw_all := lw_g (lw_at lw_m3 64 rfl) rfl
theorem q618 : (Jvm.Cond.lays "java/lang/ClassCastException" "java/lang/Throwable" "suppressedExceptions" "Ljava/util/List;") ∈ lw_all := lw_g (lw_at lw_m3 65 rfl) rfl
theorem q619 : (Jvm.Cond.superclass "java/lang/ClassCastException" "java/lang/RuntimeException") ∈ lw_all := lw_g (lw_at lw_m3 66 rfl) rfl
theorem q620 : (Jvm.Cond.castable "java/lang/ClassCastException" "java/lang/ClassCastException") ∈ lw_tbl := lw_at lw_m3 67 rfl
theorem q621 : (Jvm.Cond.selects "java/lang/ClassCastException" ({ cls := "java/lang/Throwable", name := "fillInStackTrace", desc := "(I)Ljava/lang/Throwable;" } : Jvm.MethodName) ({ cls := "java/lang/Throwable", name := "fillInStackTrace", desc := "(I)Ljava/lang/Throwable;" } : Jvm.MethodName)) ∈ lw_all := lw_g (lw_at lw_m3 68 rfl) rfl
theorem in_J9 : ∀ w ∈ wsJ90, w ∈ lw_all := lw_in wsJ90 [613, 614, 615, 616, 617, 618] (by decide +kernel) (by decide +kernel)
/-! java/lang/Math -/
set_option maxRecDepth 100000
def RJ10 : String := "java/lang/Math"
abbrev cJ10_max : ByteArray := prog_17_method_65_code
def yJ10_max : MethodName := ⟨RJ10, "max", "(II)I"⟩
def dkwJ10_max_0 : List UInt8 := [26, 27, 161, 0, 7, 26, 167, 0, 4, 27, 172]
abbrev dktJ10_max_0 : List UInt8 := dkwJ10_max_0 ++ []
theorem dksJ10_max_0 : cJ10_max.data.toList.drop 0 = dktJ10_max_0 := by decide +kernel
theorem dJ10_max_0 : decode cJ10_max 0 = .ok (.iload_n 0, 1) := dk_26 (dk_at dksJ10_max_0 0 rfl rfl)
theorem dJ10_max_1 : decode cJ10_max 1 = .ok (.iload_n 1, 1) := dk_27 (dk_at dksJ10_max_0 1 rfl rfl)
theorem dJ10_max_2 : decode cJ10_max 2 = .ok (.if_icmp .lt 7, 3) := dk_161 0 7 (dk_at dksJ10_max_0 2 rfl rfl)
theorem dJ10_max_5 : decode cJ10_max 5 = .ok (.iload_n 0, 1) := dk_26 (dk_at dksJ10_max_0 5 rfl rfl)
theorem dJ10_max_6 : decode cJ10_max 6 = .ok (.goto 4, 3) := dk_167 0 4 (dk_at dksJ10_max_0 6 rfl rfl)
theorem dJ10_max_9 : decode cJ10_max 9 = .ok (.iload_n 1, 1) := dk_27 (dk_at dksJ10_max_0 9 rfl rfl)
theorem dJ10_max_10 : decode cJ10_max 10 = .ok (.ireturn, 1) := dk_172 (dk_at dksJ10_max_0 10 rfl rfl)
abbrev cJ10_min : ByteArray := prog_17_method_69_code
def yJ10_min : MethodName := ⟨RJ10, "min", "(II)I"⟩
def dkwJ10_min_0 : List UInt8 := [26, 27, 163, 0, 7, 26, 167, 0, 4, 27, 172]
abbrev dktJ10_min_0 : List UInt8 := dkwJ10_min_0 ++ []
theorem dksJ10_min_0 : cJ10_min.data.toList.drop 0 = dktJ10_min_0 := by decide +kernel
theorem dJ10_min_0 : decode cJ10_min 0 = .ok (.iload_n 0, 1) := dk_26 (dk_at dksJ10_min_0 0 rfl rfl)
theorem dJ10_min_1 : decode cJ10_min 1 = .ok (.iload_n 1, 1) := dk_27 (dk_at dksJ10_min_0 1 rfl rfl)
theorem dJ10_min_2 : decode cJ10_min 2 = .ok (.if_icmp .gt 7, 3) := dk_163 0 7 (dk_at dksJ10_min_0 2 rfl rfl)
theorem dJ10_min_5 : decode cJ10_min 5 = .ok (.iload_n 0, 1) := dk_26 (dk_at dksJ10_min_0 5 rfl rfl)
theorem dJ10_min_6 : decode cJ10_min 6 = .ok (.goto 4, 3) := dk_167 0 4 (dk_at dksJ10_min_0 6 rfl rfl)
theorem dJ10_min_9 : decode cJ10_min 9 = .ok (.iload_n 1, 1) := dk_27 (dk_at dksJ10_min_0 9 rfl rfl)
theorem dJ10_min_10 : decode cJ10_min 10 = .ok (.ireturn, 1) := dk_172 (dk_at dksJ10_min_0 10 rfl rfl)
theorem q94 : (Jvm.Cond.initialized "java/lang/Math") ∈ lw_all := lw_g (lw_at lw_m1 21 rfl) rfl
theorem q860 : (Jvm.Cond.static ({ cls := "java/lang/Math", name := "max", desc := "(II)I" } : Jvm.MethodName)) ∈ lw_all := lw_g (lw_at lw_m4 67 rfl) rfl
theorem q861 : (Jvm.Cond.code ({ cls := "java/lang/Math", name := "max", desc := "(II)I" } : Jvm.MethodName) prog_17_method_65_code (2 : Nat) (Option.some Jvm.ClassFile.FieldType.int)) ∈ lw_all := lw_g (lw_at lw_m4 68 rfl) rfl
theorem q921 : (Jvm.Cond.static ({ cls := "java/lang/Math", name := "min", desc := "(II)I" } : Jvm.MethodName)) ∈ lw_all := lw_g (lw_at lw_m4 128 rfl) rfl
theorem q922 : (Jvm.Cond.code ({ cls := "java/lang/Math", name := "min", desc := "(II)I" } : Jvm.MethodName) prog_17_method_69_code (2 : Nat) (Option.some Jvm.ClassFile.FieldType.int)) ∈ lw_all := lw_g (lw_at lw_m4 129 rfl) rfl
/-! java/lang/Integer -/
set_option maxRecDepth 100000
def RJ11 : String := "java/lang/Integer"
abbrev cJ11_bitCount : ByteArray := prog_16_method_49_code
def yJ11_bitCount : MethodName := ⟨RJ11, "bitCount", "(I)I"⟩
def dkwJ11_bitCount_2 : List UInt8 := [26, 16, 63, 126, 172]
abbrev dktJ11_bitCount_2 : List UInt8 := dkwJ11_bitCount_2 ++ []
def dkwJ11_bitCount_1 : List UInt8 := [26, 26, 7, 124, 96, 19, 1, 11, 126, 59, 26, 26, 16, 8, 124, 96, 59, 26, 26, 16, 16, 124, 96, 59]
abbrev dktJ11_bitCount_1 : List UInt8 := dkwJ11_bitCount_1 ++ dktJ11_bitCount_2
def dkwJ11_bitCount_0 : List UInt8 := [26, 26, 4, 124, 19, 1, 9, 126, 100, 59, 26, 19, 1, 10, 126, 26, 5, 124, 19, 1, 10, 126, 96, 59]
abbrev dktJ11_bitCount_0 : List UInt8 := dkwJ11_bitCount_0 ++ dktJ11_bitCount_1
theorem dksJ11_bitCount_0 : cJ11_bitCount.data.toList.drop 0 = dktJ11_bitCount_0 := by decide +kernel
theorem dksJ11_bitCount_1 : cJ11_bitCount.data.toList.drop 24 = dktJ11_bitCount_1 := dk_seg dksJ11_bitCount_0 24 rfl rfl
theorem dksJ11_bitCount_2 : cJ11_bitCount.data.toList.drop 48 = dktJ11_bitCount_2 := dk_seg dksJ11_bitCount_1 24 rfl rfl
theorem dJ11_bitCount_0 : decode cJ11_bitCount 0 = .ok (.iload_n 0, 1) := dk_26 (dk_at dksJ11_bitCount_0 0 rfl rfl)
theorem dJ11_bitCount_1 : decode cJ11_bitCount 1 = .ok (.iload_n 0, 1) := dk_26 (dk_at dksJ11_bitCount_0 1 rfl rfl)
theorem dJ11_bitCount_2 : decode cJ11_bitCount 2 = .ok (.iconst 1, 1) := dk_4 (dk_at dksJ11_bitCount_0 2 rfl rfl)
theorem dJ11_bitCount_3 : decode cJ11_bitCount 3 = .ok (.iushr, 1) := dk_124 (dk_at dksJ11_bitCount_0 3 rfl rfl)
theorem dJ11_bitCount_4 : decode cJ11_bitCount 4 = .ok (.ldc_w 265, 3) := dk_19 1 9 (dk_at dksJ11_bitCount_0 4 rfl rfl)
theorem dJ11_bitCount_7 : decode cJ11_bitCount 7 = .ok (.iand, 1) := dk_126 (dk_at dksJ11_bitCount_0 7 rfl rfl)
theorem dJ11_bitCount_8 : decode cJ11_bitCount 8 = .ok (.isub, 1) := dk_100 (dk_at dksJ11_bitCount_0 8 rfl rfl)
theorem dJ11_bitCount_9 : decode cJ11_bitCount 9 = .ok (.istore_n 0, 1) := dk_59 (dk_at dksJ11_bitCount_0 9 rfl rfl)
theorem dJ11_bitCount_10 : decode cJ11_bitCount 10 = .ok (.iload_n 0, 1) := dk_26 (dk_at dksJ11_bitCount_0 10 rfl rfl)
theorem dJ11_bitCount_11 : decode cJ11_bitCount 11 = .ok (.ldc_w 266, 3) := dk_19 1 10 (dk_at dksJ11_bitCount_0 11 rfl rfl)
theorem dJ11_bitCount_14 : decode cJ11_bitCount 14 = .ok (.iand, 1) := dk_126 (dk_at dksJ11_bitCount_0 14 rfl rfl)
theorem dJ11_bitCount_15 : decode cJ11_bitCount 15 = .ok (.iload_n 0, 1) := dk_26 (dk_at dksJ11_bitCount_0 15 rfl rfl)
theorem dJ11_bitCount_16 : decode cJ11_bitCount 16 = .ok (.iconst 2, 1) := dk_5 (dk_at dksJ11_bitCount_0 16 rfl rfl)
theorem dJ11_bitCount_17 : decode cJ11_bitCount 17 = .ok (.iushr, 1) := dk_124 (dk_at dksJ11_bitCount_0 17 rfl rfl)
theorem dJ11_bitCount_18 : decode cJ11_bitCount 18 = .ok (.ldc_w 266, 3) := dk_19 1 10 (dk_at dksJ11_bitCount_0 18 rfl rfl)
theorem dJ11_bitCount_21 : decode cJ11_bitCount 21 = .ok (.iand, 1) := dk_126 (dk_at dksJ11_bitCount_0 21 rfl rfl)
theorem dJ11_bitCount_22 : decode cJ11_bitCount 22 = .ok (.iadd, 1) := dk_96 (dk_at dksJ11_bitCount_0 22 rfl rfl)
theorem dJ11_bitCount_23 : decode cJ11_bitCount 23 = .ok (.istore_n 0, 1) := dk_59 (dk_at dksJ11_bitCount_0 23 rfl rfl)
theorem dJ11_bitCount_24 : decode cJ11_bitCount 24 = .ok (.iload_n 0, 1) := dk_26 (dk_at dksJ11_bitCount_1 0 rfl rfl)
theorem dJ11_bitCount_25 : decode cJ11_bitCount 25 = .ok (.iload_n 0, 1) := dk_26 (dk_at dksJ11_bitCount_1 1 rfl rfl)
theorem dJ11_bitCount_26 : decode cJ11_bitCount 26 = .ok (.iconst 4, 1) := dk_7 (dk_at dksJ11_bitCount_1 2 rfl rfl)
theorem dJ11_bitCount_27 : decode cJ11_bitCount 27 = .ok (.iushr, 1) := dk_124 (dk_at dksJ11_bitCount_1 3 rfl rfl)
theorem dJ11_bitCount_28 : decode cJ11_bitCount 28 = .ok (.iadd, 1) := dk_96 (dk_at dksJ11_bitCount_1 4 rfl rfl)
theorem dJ11_bitCount_29 : decode cJ11_bitCount 29 = .ok (.ldc_w 267, 3) := dk_19 1 11 (dk_at dksJ11_bitCount_1 5 rfl rfl)
theorem dJ11_bitCount_32 : decode cJ11_bitCount 32 = .ok (.iand, 1) := dk_126 (dk_at dksJ11_bitCount_1 8 rfl rfl)
theorem dJ11_bitCount_33 : decode cJ11_bitCount 33 = .ok (.istore_n 0, 1) := dk_59 (dk_at dksJ11_bitCount_1 9 rfl rfl)
theorem dJ11_bitCount_34 : decode cJ11_bitCount 34 = .ok (.iload_n 0, 1) := dk_26 (dk_at dksJ11_bitCount_1 10 rfl rfl)
theorem dJ11_bitCount_35 : decode cJ11_bitCount 35 = .ok (.iload_n 0, 1) := dk_26 (dk_at dksJ11_bitCount_1 11 rfl rfl)
theorem dJ11_bitCount_36 : decode cJ11_bitCount 36 = .ok (.bipush 8, 2) := dk_16 8 (dk_at dksJ11_bitCount_1 12 rfl rfl)
theorem dJ11_bitCount_38 : decode cJ11_bitCount 38 = .ok (.iushr, 1) := dk_124 (dk_at dksJ11_bitCount_1 14 rfl rfl)
theorem dJ11_bitCount_39 : decode cJ11_bitCount 39 = .ok (.iadd, 1) := dk_96 (dk_at dksJ11_bitCount_1 15 rfl rfl)
theorem dJ11_bitCount_40 : decode cJ11_bitCount 40 = .ok (.istore_n 0, 1) := dk_59 (dk_at dksJ11_bitCount_1 16 rfl rfl)
theorem dJ11_bitCount_41 : decode cJ11_bitCount 41 = .ok (.iload_n 0, 1) := dk_26 (dk_at dksJ11_bitCount_1 17 rfl rfl)
theorem dJ11_bitCount_42 : decode cJ11_bitCount 42 = .ok (.iload_n 0, 1) := dk_26 (dk_at dksJ11_bitCount_1 18 rfl rfl)
theorem dJ11_bitCount_43 : decode cJ11_bitCount 43 = .ok (.bipush 16, 2) := dk_16 16 (dk_at dksJ11_bitCount_1 19 rfl rfl)
theorem dJ11_bitCount_45 : decode cJ11_bitCount 45 = .ok (.iushr, 1) := dk_124 (dk_at dksJ11_bitCount_1 21 rfl rfl)
theorem dJ11_bitCount_46 : decode cJ11_bitCount 46 = .ok (.iadd, 1) := dk_96 (dk_at dksJ11_bitCount_1 22 rfl rfl)
theorem dJ11_bitCount_47 : decode cJ11_bitCount 47 = .ok (.istore_n 0, 1) := dk_59 (dk_at dksJ11_bitCount_1 23 rfl rfl)
theorem dJ11_bitCount_48 : decode cJ11_bitCount 48 = .ok (.iload_n 0, 1) := dk_26 (dk_at dksJ11_bitCount_2 0 rfl rfl)
theorem dJ11_bitCount_49 : decode cJ11_bitCount 49 = .ok (.bipush 63, 2) := dk_16 63 (dk_at dksJ11_bitCount_2 1 rfl rfl)
theorem dJ11_bitCount_51 : decode cJ11_bitCount 51 = .ok (.iand, 1) := dk_126 (dk_at dksJ11_bitCount_2 3 rfl rfl)
theorem dJ11_bitCount_52 : decode cJ11_bitCount 52 = .ok (.ireturn, 1) := dk_172 (dk_at dksJ11_bitCount_2 4 rfl rfl)
abbrev cJ11_numberOfTrailingZeros : ByteArray := prog_16_method_48_code
def yJ11_numberOfTrailingZeros : MethodName := ⟨RJ11, "numberOfTrailingZeros", "(I)I"⟩
def dkwJ11_numberOfTrailingZeros_3 : List UInt8 := [5, 124, 59, 27, 26, 4, 124, 96, 172]
abbrev dktJ11_numberOfTrailingZeros_3 : List UInt8 := dkwJ11_numberOfTrailingZeros_3 ++ []
def dkwJ11_numberOfTrailingZeros_2 : List UInt8 := [124, 59, 26, 16, 16, 164, 0, 10, 132, 1, 4, 26, 7, 124, 59, 26, 7, 164, 0, 10, 132, 1, 2, 26]
abbrev dktJ11_numberOfTrailingZeros_2 : List UInt8 := dkwJ11_numberOfTrailingZeros_2 ++ dktJ11_numberOfTrailingZeros_3
def dkwJ11_numberOfTrailingZeros_1 : List UInt8 := [164, 0, 11, 132, 1, 16, 26, 16, 16, 124, 59, 26, 17, 1, 0, 164, 0, 11, 132, 1, 8, 26, 16, 8]
abbrev dktJ11_numberOfTrailingZeros_1 : List UInt8 := dkwJ11_numberOfTrailingZeros_1 ++ dktJ11_numberOfTrailingZeros_2
def dkwJ11_numberOfTrailingZeros_0 : List UInt8 := [26, 2, 130, 26, 4, 100, 126, 59, 26, 157, 0, 8, 26, 16, 32, 126, 172, 4, 60, 26, 19, 1, 8]
abbrev dktJ11_numberOfTrailingZeros_0 : List UInt8 := dkwJ11_numberOfTrailingZeros_0 ++ dktJ11_numberOfTrailingZeros_1
theorem dksJ11_numberOfTrailingZeros_0 : cJ11_numberOfTrailingZeros.data.toList.drop 0 = dktJ11_numberOfTrailingZeros_0 := by decide +kernel
theorem dksJ11_numberOfTrailingZeros_1 : cJ11_numberOfTrailingZeros.data.toList.drop 23 = dktJ11_numberOfTrailingZeros_1 := dk_seg dksJ11_numberOfTrailingZeros_0 23 rfl rfl
theorem dksJ11_numberOfTrailingZeros_2 : cJ11_numberOfTrailingZeros.data.toList.drop 47 = dktJ11_numberOfTrailingZeros_2 := dk_seg dksJ11_numberOfTrailingZeros_1 24 rfl rfl
theorem dksJ11_numberOfTrailingZeros_3 : cJ11_numberOfTrailingZeros.data.toList.drop 71 = dktJ11_numberOfTrailingZeros_3 := dk_seg dksJ11_numberOfTrailingZeros_2 24 rfl rfl
theorem dJ11_numberOfTrailingZeros_0 : decode cJ11_numberOfTrailingZeros 0 = .ok (.iload_n 0, 1) := dk_26 (dk_at dksJ11_numberOfTrailingZeros_0 0 rfl rfl)
theorem dJ11_numberOfTrailingZeros_1 : decode cJ11_numberOfTrailingZeros 1 = .ok (.iconst (-1), 1) := dk_2 (dk_at dksJ11_numberOfTrailingZeros_0 1 rfl rfl)
theorem dJ11_numberOfTrailingZeros_2 : decode cJ11_numberOfTrailingZeros 2 = .ok (.ixor, 1) := dk_130 (dk_at dksJ11_numberOfTrailingZeros_0 2 rfl rfl)
theorem dJ11_numberOfTrailingZeros_3 : decode cJ11_numberOfTrailingZeros 3 = .ok (.iload_n 0, 1) := dk_26 (dk_at dksJ11_numberOfTrailingZeros_0 3 rfl rfl)
theorem dJ11_numberOfTrailingZeros_4 : decode cJ11_numberOfTrailingZeros 4 = .ok (.iconst 1, 1) := dk_4 (dk_at dksJ11_numberOfTrailingZeros_0 4 rfl rfl)
theorem dJ11_numberOfTrailingZeros_5 : decode cJ11_numberOfTrailingZeros 5 = .ok (.isub, 1) := dk_100 (dk_at dksJ11_numberOfTrailingZeros_0 5 rfl rfl)
theorem dJ11_numberOfTrailingZeros_6 : decode cJ11_numberOfTrailingZeros 6 = .ok (.iand, 1) := dk_126 (dk_at dksJ11_numberOfTrailingZeros_0 6 rfl rfl)
theorem dJ11_numberOfTrailingZeros_7 : decode cJ11_numberOfTrailingZeros 7 = .ok (.istore_n 0, 1) := dk_59 (dk_at dksJ11_numberOfTrailingZeros_0 7 rfl rfl)
theorem dJ11_numberOfTrailingZeros_8 : decode cJ11_numberOfTrailingZeros 8 = .ok (.iload_n 0, 1) := dk_26 (dk_at dksJ11_numberOfTrailingZeros_0 8 rfl rfl)
theorem dJ11_numberOfTrailingZeros_9 : decode cJ11_numberOfTrailingZeros 9 = .ok (.ifCond .gt 8, 3) := dk_157 0 8 (dk_at dksJ11_numberOfTrailingZeros_0 9 rfl rfl)
theorem dJ11_numberOfTrailingZeros_12 : decode cJ11_numberOfTrailingZeros 12 = .ok (.iload_n 0, 1) := dk_26 (dk_at dksJ11_numberOfTrailingZeros_0 12 rfl rfl)
theorem dJ11_numberOfTrailingZeros_13 : decode cJ11_numberOfTrailingZeros 13 = .ok (.bipush 32, 2) := dk_16 32 (dk_at dksJ11_numberOfTrailingZeros_0 13 rfl rfl)
theorem dJ11_numberOfTrailingZeros_15 : decode cJ11_numberOfTrailingZeros 15 = .ok (.iand, 1) := dk_126 (dk_at dksJ11_numberOfTrailingZeros_0 15 rfl rfl)
theorem dJ11_numberOfTrailingZeros_16 : decode cJ11_numberOfTrailingZeros 16 = .ok (.ireturn, 1) := dk_172 (dk_at dksJ11_numberOfTrailingZeros_0 16 rfl rfl)
theorem dJ11_numberOfTrailingZeros_17 : decode cJ11_numberOfTrailingZeros 17 = .ok (.iconst 1, 1) := dk_4 (dk_at dksJ11_numberOfTrailingZeros_0 17 rfl rfl)
theorem dJ11_numberOfTrailingZeros_18 : decode cJ11_numberOfTrailingZeros 18 = .ok (.istore_n 1, 1) := dk_60 (dk_at dksJ11_numberOfTrailingZeros_0 18 rfl rfl)
theorem dJ11_numberOfTrailingZeros_19 : decode cJ11_numberOfTrailingZeros 19 = .ok (.iload_n 0, 1) := dk_26 (dk_at dksJ11_numberOfTrailingZeros_0 19 rfl rfl)
theorem dJ11_numberOfTrailingZeros_20 : decode cJ11_numberOfTrailingZeros 20 = .ok (.ldc_w 264, 3) := dk_19 1 8 (dk_at dksJ11_numberOfTrailingZeros_0 20 rfl rfl)
theorem dJ11_numberOfTrailingZeros_23 : decode cJ11_numberOfTrailingZeros 23 = .ok (.if_icmp .le 11, 3) := dk_164 0 11 (dk_at dksJ11_numberOfTrailingZeros_1 0 rfl rfl)
theorem dJ11_numberOfTrailingZeros_26 : decode cJ11_numberOfTrailingZeros 26 = .ok (.iinc 1 16, 3) := dk_132 1 16 (dk_at dksJ11_numberOfTrailingZeros_1 3 rfl rfl)
theorem dJ11_numberOfTrailingZeros_29 : decode cJ11_numberOfTrailingZeros 29 = .ok (.iload_n 0, 1) := dk_26 (dk_at dksJ11_numberOfTrailingZeros_1 6 rfl rfl)
theorem dJ11_numberOfTrailingZeros_30 : decode cJ11_numberOfTrailingZeros 30 = .ok (.bipush 16, 2) := dk_16 16 (dk_at dksJ11_numberOfTrailingZeros_1 7 rfl rfl)
theorem dJ11_numberOfTrailingZeros_32 : decode cJ11_numberOfTrailingZeros 32 = .ok (.iushr, 1) := dk_124 (dk_at dksJ11_numberOfTrailingZeros_1 9 rfl rfl)
theorem dJ11_numberOfTrailingZeros_33 : decode cJ11_numberOfTrailingZeros 33 = .ok (.istore_n 0, 1) := dk_59 (dk_at dksJ11_numberOfTrailingZeros_1 10 rfl rfl)
theorem dJ11_numberOfTrailingZeros_34 : decode cJ11_numberOfTrailingZeros 34 = .ok (.iload_n 0, 1) := dk_26 (dk_at dksJ11_numberOfTrailingZeros_1 11 rfl rfl)
theorem dJ11_numberOfTrailingZeros_35 : decode cJ11_numberOfTrailingZeros 35 = .ok (.sipush 256, 3) := dk_17 1 0 (dk_at dksJ11_numberOfTrailingZeros_1 12 rfl rfl)
theorem dJ11_numberOfTrailingZeros_38 : decode cJ11_numberOfTrailingZeros 38 = .ok (.if_icmp .le 11, 3) := dk_164 0 11 (dk_at dksJ11_numberOfTrailingZeros_1 15 rfl rfl)
theorem dJ11_numberOfTrailingZeros_41 : decode cJ11_numberOfTrailingZeros 41 = .ok (.iinc 1 8, 3) := dk_132 1 8 (dk_at dksJ11_numberOfTrailingZeros_1 18 rfl rfl)
theorem dJ11_numberOfTrailingZeros_44 : decode cJ11_numberOfTrailingZeros 44 = .ok (.iload_n 0, 1) := dk_26 (dk_at dksJ11_numberOfTrailingZeros_1 21 rfl rfl)
theorem dJ11_numberOfTrailingZeros_45 : decode cJ11_numberOfTrailingZeros 45 = .ok (.bipush 8, 2) := dk_16 8 (dk_at dksJ11_numberOfTrailingZeros_1 22 rfl rfl)
theorem dJ11_numberOfTrailingZeros_47 : decode cJ11_numberOfTrailingZeros 47 = .ok (.iushr, 1) := dk_124 (dk_at dksJ11_numberOfTrailingZeros_2 0 rfl rfl)
theorem dJ11_numberOfTrailingZeros_48 : decode cJ11_numberOfTrailingZeros 48 = .ok (.istore_n 0, 1) := dk_59 (dk_at dksJ11_numberOfTrailingZeros_2 1 rfl rfl)
theorem dJ11_numberOfTrailingZeros_49 : decode cJ11_numberOfTrailingZeros 49 = .ok (.iload_n 0, 1) := dk_26 (dk_at dksJ11_numberOfTrailingZeros_2 2 rfl rfl)
theorem dJ11_numberOfTrailingZeros_50 : decode cJ11_numberOfTrailingZeros 50 = .ok (.bipush 16, 2) := dk_16 16 (dk_at dksJ11_numberOfTrailingZeros_2 3 rfl rfl)
theorem dJ11_numberOfTrailingZeros_52 : decode cJ11_numberOfTrailingZeros 52 = .ok (.if_icmp .le 10, 3) := dk_164 0 10 (dk_at dksJ11_numberOfTrailingZeros_2 5 rfl rfl)
theorem dJ11_numberOfTrailingZeros_55 : decode cJ11_numberOfTrailingZeros 55 = .ok (.iinc 1 4, 3) := dk_132 1 4 (dk_at dksJ11_numberOfTrailingZeros_2 8 rfl rfl)
theorem dJ11_numberOfTrailingZeros_58 : decode cJ11_numberOfTrailingZeros 58 = .ok (.iload_n 0, 1) := dk_26 (dk_at dksJ11_numberOfTrailingZeros_2 11 rfl rfl)
theorem dJ11_numberOfTrailingZeros_59 : decode cJ11_numberOfTrailingZeros 59 = .ok (.iconst 4, 1) := dk_7 (dk_at dksJ11_numberOfTrailingZeros_2 12 rfl rfl)
theorem dJ11_numberOfTrailingZeros_60 : decode cJ11_numberOfTrailingZeros 60 = .ok (.iushr, 1) := dk_124 (dk_at dksJ11_numberOfTrailingZeros_2 13 rfl rfl)
theorem dJ11_numberOfTrailingZeros_61 : decode cJ11_numberOfTrailingZeros 61 = .ok (.istore_n 0, 1) := dk_59 (dk_at dksJ11_numberOfTrailingZeros_2 14 rfl rfl)
theorem dJ11_numberOfTrailingZeros_62 : decode cJ11_numberOfTrailingZeros 62 = .ok (.iload_n 0, 1) := dk_26 (dk_at dksJ11_numberOfTrailingZeros_2 15 rfl rfl)
theorem dJ11_numberOfTrailingZeros_63 : decode cJ11_numberOfTrailingZeros 63 = .ok (.iconst 4, 1) := dk_7 (dk_at dksJ11_numberOfTrailingZeros_2 16 rfl rfl)
theorem dJ11_numberOfTrailingZeros_64 : decode cJ11_numberOfTrailingZeros 64 = .ok (.if_icmp .le 10, 3) := dk_164 0 10 (dk_at dksJ11_numberOfTrailingZeros_2 17 rfl rfl)
theorem dJ11_numberOfTrailingZeros_67 : decode cJ11_numberOfTrailingZeros 67 = .ok (.iinc 1 2, 3) := dk_132 1 2 (dk_at dksJ11_numberOfTrailingZeros_2 20 rfl rfl)
theorem dJ11_numberOfTrailingZeros_70 : decode cJ11_numberOfTrailingZeros 70 = .ok (.iload_n 0, 1) := dk_26 (dk_at dksJ11_numberOfTrailingZeros_2 23 rfl rfl)
theorem dJ11_numberOfTrailingZeros_71 : decode cJ11_numberOfTrailingZeros 71 = .ok (.iconst 2, 1) := dk_5 (dk_at dksJ11_numberOfTrailingZeros_3 0 rfl rfl)
theorem dJ11_numberOfTrailingZeros_72 : decode cJ11_numberOfTrailingZeros 72 = .ok (.iushr, 1) := dk_124 (dk_at dksJ11_numberOfTrailingZeros_3 1 rfl rfl)
theorem dJ11_numberOfTrailingZeros_73 : decode cJ11_numberOfTrailingZeros 73 = .ok (.istore_n 0, 1) := dk_59 (dk_at dksJ11_numberOfTrailingZeros_3 2 rfl rfl)
theorem dJ11_numberOfTrailingZeros_74 : decode cJ11_numberOfTrailingZeros 74 = .ok (.iload_n 1, 1) := dk_27 (dk_at dksJ11_numberOfTrailingZeros_3 3 rfl rfl)
theorem dJ11_numberOfTrailingZeros_75 : decode cJ11_numberOfTrailingZeros 75 = .ok (.iload_n 0, 1) := dk_26 (dk_at dksJ11_numberOfTrailingZeros_3 4 rfl rfl)
theorem dJ11_numberOfTrailingZeros_76 : decode cJ11_numberOfTrailingZeros 76 = .ok (.iconst 1, 1) := dk_4 (dk_at dksJ11_numberOfTrailingZeros_3 5 rfl rfl)
theorem dJ11_numberOfTrailingZeros_77 : decode cJ11_numberOfTrailingZeros 77 = .ok (.iushr, 1) := dk_124 (dk_at dksJ11_numberOfTrailingZeros_3 6 rfl rfl)
theorem dJ11_numberOfTrailingZeros_78 : decode cJ11_numberOfTrailingZeros 78 = .ok (.iadd, 1) := dk_96 (dk_at dksJ11_numberOfTrailingZeros_3 7 rfl rfl)
theorem dJ11_numberOfTrailingZeros_79 : decode cJ11_numberOfTrailingZeros 79 = .ok (.ireturn, 1) := dk_172 (dk_at dksJ11_numberOfTrailingZeros_3 8 rfl rfl)
theorem q95 : (Jvm.Cond.initialized "java/lang/Integer") ∈ lw_all := lw_g (lw_at lw_m1 22 rfl) rfl
theorem q890 : (Jvm.Cond.static ({ cls := "java/lang/Integer", name := "bitCount", desc := "(I)I" } : Jvm.MethodName)) ∈ lw_all := lw_g (lw_at lw_m4 97 rfl) rfl
theorem q891 : (Jvm.Cond.code ({ cls := "java/lang/Integer", name := "bitCount", desc := "(I)I" } : Jvm.MethodName) prog_16_method_49_code (1 : Nat) (Option.some Jvm.ClassFile.FieldType.int)) ∈ lw_all := lw_g (lw_at lw_m4 98 rfl) rfl
theorem q892 : (Jvm.Cond.constant "java/lang/Integer" (265 : Nat) (1431655765 : Int32)) ∈ lw_all := lw_g (lw_at lw_m4 99 rfl) rfl
theorem q893 : (Jvm.Cond.constant "java/lang/Integer" (266 : Nat) (858993459 : Int32)) ∈ lw_all := lw_g (lw_at lw_m4 100 rfl) rfl
theorem q894 : (Jvm.Cond.constant "java/lang/Integer" (267 : Nat) (252645135 : Int32)) ∈ lw_all := lw_g (lw_at lw_m4 101 rfl) rfl
theorem q957 : (Jvm.Cond.static ({ cls := "java/lang/Integer", name := "numberOfTrailingZeros", desc := "(I)I" } : Jvm.MethodName)) ∈ lw_all := lw_g (lw_at lw_m4 164 rfl) rfl
theorem q958 : (Jvm.Cond.code ({ cls := "java/lang/Integer", name := "numberOfTrailingZeros", desc := "(I)I" } : Jvm.MethodName) prog_16_method_48_code (2 : Nat) (Option.some Jvm.ClassFile.FieldType.int)) ∈ lw_all := lw_g (lw_at lw_m4 165 rfl) rfl
theorem q959 : (Jvm.Cond.constant "java/lang/Integer" (264 : Nat) (65536 : Int32)) ∈ lw_all := lw_g (lw_at lw_m4 166 rfl) rfl
/-! LostQuestions$Card -/
set_option maxRecDepth 100000
def RX2 : String := "LostQuestions$Card"
def TX2 : u_T := fun k => match k with
  | 0 => ("LostQuestions$Card", "number", "I", true)
  | 1 => ("LostQuestions$Card", "says", "I", true)
  | 2 => ("LostQuestions$Card", "shelf", "I", false)
  | _ => ("LostQuestions$Card", "age", "I", false)
def tyX2 : Nat → FieldType := fun k => match k with
  | 0 => .int
  | 1 => .int
  | 2 => .int
  | _ => .int
abbrev wsX20 : List Cond := u_ws RX2 TX2 4
theorem nmX2 : ∀ a, a < 4 → ∀ b, b < 4 → a ≠ b → (TX2 a).2.1 ≠ (TX2 b).2.1 := by decide +kernel
theorem tyX2_ok : ∀ k, k < 4 → parseFieldDescriptor (TX2 k).2.2.1 = some (tyX2 k) := by decide +kernel
abbrev cX2_init : ByteArray := prog_3_method_1_code
def yX2_init : MethodName := ⟨RX2, "<init>", "(IIII)V"⟩
def dkwX2_init_1 : List UInt8 := [181, 0, 19, 177]
abbrev dktX2_init_1 : List UInt8 := dkwX2_init_1 ++ []
def dkwX2_init_0 : List UInt8 := [42, 183, 0, 1, 42, 27, 181, 0, 7, 42, 28, 181, 0, 13, 42, 29, 181, 0, 16, 42, 21, 4]
abbrev dktX2_init_0 : List UInt8 := dkwX2_init_0 ++ dktX2_init_1
theorem dksX2_init_0 : cX2_init.data.toList.drop 0 = dktX2_init_0 := by decide +kernel
theorem dksX2_init_1 : cX2_init.data.toList.drop 22 = dktX2_init_1 := dk_seg dksX2_init_0 22 rfl rfl
theorem dX2_init_0 : decode cX2_init 0 = .ok (.aload_n 0, 1) := dk_42 (dk_at dksX2_init_0 0 rfl rfl)
theorem dX2_init_1 : decode cX2_init 1 = .ok (.invokespecial 1, 3) := dk_183 0 1 (dk_at dksX2_init_0 1 rfl rfl)
theorem dX2_init_4 : decode cX2_init 4 = .ok (.aload_n 0, 1) := dk_42 (dk_at dksX2_init_0 4 rfl rfl)
theorem dX2_init_5 : decode cX2_init 5 = .ok (.iload_n 1, 1) := dk_27 (dk_at dksX2_init_0 5 rfl rfl)
theorem dX2_init_6 : decode cX2_init 6 = .ok (.putfield 7, 3) := dk_181 0 7 (dk_at dksX2_init_0 6 rfl rfl)
theorem dX2_init_9 : decode cX2_init 9 = .ok (.aload_n 0, 1) := dk_42 (dk_at dksX2_init_0 9 rfl rfl)
theorem dX2_init_10 : decode cX2_init 10 = .ok (.iload_n 2, 1) := dk_28 (dk_at dksX2_init_0 10 rfl rfl)
theorem dX2_init_11 : decode cX2_init 11 = .ok (.putfield 13, 3) := dk_181 0 13 (dk_at dksX2_init_0 11 rfl rfl)
theorem dX2_init_14 : decode cX2_init 14 = .ok (.aload_n 0, 1) := dk_42 (dk_at dksX2_init_0 14 rfl rfl)
theorem dX2_init_15 : decode cX2_init 15 = .ok (.iload_n 3, 1) := dk_29 (dk_at dksX2_init_0 15 rfl rfl)
theorem dX2_init_16 : decode cX2_init 16 = .ok (.putfield 16, 3) := dk_181 0 16 (dk_at dksX2_init_0 16 rfl rfl)
theorem dX2_init_19 : decode cX2_init 19 = .ok (.aload_n 0, 1) := dk_42 (dk_at dksX2_init_0 19 rfl rfl)
theorem dX2_init_20 : decode cX2_init 20 = .ok (.iload 4, 2) := dk_21 4 (dk_at dksX2_init_0 20 rfl rfl)
theorem dX2_init_22 : decode cX2_init 22 = .ok (.putfield 19, 3) := dk_181 0 19 (dk_at dksX2_init_1 0 rfl rfl)
theorem dX2_init_25 : decode cX2_init 25 = .ok (.return_, 1) := dk_177 (dk_at dksX2_init_1 3 rfl rfl)
abbrev cX2_kind : ByteArray := prog_3_method_2_code
def yX2_kind : MethodName := ⟨RX2, "kind", "()I"⟩
theorem dX2_kind_0 : decode cX2_kind 0 = .ok (.iconst 0, 1) := by decide +kernel
theorem dX2_kind_1 : decode cX2_kind 1 = .ok (.ireturn, 1) := by decide +kernel
abbrev cX2_says : ByteArray := prog_3_method_6_code
def yX2_says : MethodName := ⟨RX2, "says", "()I"⟩
theorem dX2_says_0 : decode cX2_says 0 = .ok (.aload_n 0, 1) := by decide +kernel
theorem dX2_says_1 : decode cX2_says 1 = .ok (.getfield 13, 3) := by decide +kernel
theorem dX2_says_4 : decode cX2_says 4 = .ok (.ireturn, 1) := by decide +kernel
abbrev cX2_age : ByteArray := prog_3_method_7_code
def yX2_age : MethodName := ⟨RX2, "age", "()I"⟩
theorem dX2_age_0 : decode cX2_age 0 = .ok (.aload_n 0, 1) := by decide +kernel
theorem dX2_age_1 : decode cX2_age 1 = .ok (.getfield 19, 3) := by decide +kernel
theorem dX2_age_4 : decode cX2_age 4 = .ok (.ireturn, 1) := by decide +kernel
abbrev cX2_means : ByteArray := prog_3_method_4_code
def yX2_means : MethodName := ⟨RX2, "means", "()I"⟩
theorem dX2_means_0 : decode cX2_means 0 = .ok (.aload_n 0, 1) := by decide +kernel
theorem dX2_means_1 : decode cX2_means 1 = .ok (.getfield 13, 3) := by decide +kernel
theorem dX2_means_4 : decode cX2_means 4 = .ok (.ireturn, 1) := by decide +kernel
abbrev cX2_is : ByteArray := prog_3_method_3_code
def yX2_is : MethodName := ⟨RX2, "is", "(I)Z"⟩
def dkwX2_is_0 : List UInt8 := [27, 154, 0, 7, 4, 167, 0, 4, 3, 172]
abbrev dktX2_is_0 : List UInt8 := dkwX2_is_0 ++ []
theorem dksX2_is_0 : cX2_is.data.toList.drop 0 = dktX2_is_0 := by decide +kernel
theorem dX2_is_0 : decode cX2_is 0 = .ok (.iload_n 1, 1) := dk_27 (dk_at dksX2_is_0 0 rfl rfl)
theorem dX2_is_1 : decode cX2_is 1 = .ok (.ifCond .ne 7, 3) := dk_154 0 7 (dk_at dksX2_is_0 1 rfl rfl)
theorem dX2_is_4 : decode cX2_is 4 = .ok (.iconst 1, 1) := dk_4 (dk_at dksX2_is_0 4 rfl rfl)
theorem dX2_is_5 : decode cX2_is 5 = .ok (.goto 4, 3) := dk_167 0 4 (dk_at dksX2_is_0 5 rfl rfl)
theorem dX2_is_8 : decode cX2_is 8 = .ok (.iconst 0, 1) := dk_3 (dk_at dksX2_is_0 8 rfl rfl)
theorem dX2_is_9 : decode cX2_is 9 = .ok (.ireturn, 1) := dk_172 (dk_at dksX2_is_0 9 rfl rfl)
abbrev cX2_number : ByteArray := prog_3_method_5_code
def yX2_number : MethodName := ⟨RX2, "number", "()I"⟩
theorem dX2_number_0 : decode cX2_number 0 = .ok (.aload_n 0, 1) := by decide +kernel
theorem dX2_number_1 : decode cX2_number 1 = .ok (.getfield 7, 3) := by decide +kernel
theorem dX2_number_4 : decode cX2_number 4 = .ok (.ireturn, 1) := by decide +kernel
theorem q86 : (Jvm.Cond.initialized "LostQuestions$Card") ∈ lw_all := lw_g (lw_at lw_m1 13 rfl) rfl
theorem q443 : (Jvm.Cond.instanceMethod ({ cls := "LostQuestions$Card", name := "<init>", desc := "(IIII)V" } : Jvm.MethodName)) ∈ lw_all := lw_g (lw_at lw_m2 130 rfl) rfl
theorem q444 : (Jvm.Cond.code ({ cls := "LostQuestions$Card", name := "<init>", desc := "(IIII)V" } : Jvm.MethodName) prog_3_method_1_code (5 : Nat) (Option.none : Option Jvm.ClassFile.FieldType)) ∈ lw_all := lw_g (lw_at lw_m2 131 rfl) rfl
theorem q445 : (Jvm.Cond.methodLink "LostQuestions$Card" (1 : Nat) ({ cls := "java/lang/Object", name := "<init>", desc := "()V" } : Jvm.MethodName)) ∈ lw_all := lw_g (lw_at lw_m2 132 rfl) rfl
theorem q446 : (Jvm.Cond.fieldLink "LostQuestions$Card" (7 : Nat) "LostQuestions$Card" "number" "I") ∈ lw_all := lw_g (lw_at lw_m2 133 rfl) rfl
theorem q447 : (Jvm.Cond.fieldLink "LostQuestions$Card" (13 : Nat) "LostQuestions$Card" "says" "I") ∈ lw_all := lw_g (lw_at lw_m2 134 rfl) rfl
theorem q448 : (Jvm.Cond.fieldLink "LostQuestions$Card" (16 : Nat) "LostQuestions$Card" "shelf" "I") ∈ lw_all := lw_g (lw_at lw_m2 135 rfl) rfl
theorem q451 : (Jvm.Cond.fieldLink "LostQuestions$Card" (19 : Nat) "LostQuestions$Card" "age" "I") ∈ lw_all := lw_g (lw_at lw_m2 138 rfl) rfl
theorem q454 : (Jvm.Cond.soleField "LostQuestions$Card" "number") ∈ lw_all := lw_g (lw_at lw_m2 141 rfl) rfl
theorem q456 : (Jvm.Cond.soleField "LostQuestions$Card" "says") ∈ lw_all := lw_g (lw_at lw_m2 143 rfl) rfl
theorem q458 : (Jvm.Cond.soleField "LostQuestions$Card" "shelf") ∈ lw_all := lw_g (lw_at lw_m2 145 rfl) rfl
theorem q460 : (Jvm.Cond.soleField "LostQuestions$Card" "age") ∈ lw_all := lw_g (lw_at lw_m2 147 rfl) rfl
theorem q506 : (Jvm.Cond.instantiable "LostQuestions$Card" (4 : Nat)) ∈ lw_all := lw_g (lw_at lw_m2 193 rfl) rfl
theorem q508 : (Jvm.Cond.laysFinal "LostQuestions$Card" "LostQuestions$Card" "number" "I") ∈ lw_all := lw_g (lw_at lw_m2 195 rfl) rfl
theorem q509 : (Jvm.Cond.laysFinal "LostQuestions$Card" "LostQuestions$Card" "says" "I") ∈ lw_all := lw_g (lw_at lw_m2 196 rfl) rfl
theorem q510 : (Jvm.Cond.lays "LostQuestions$Card" "LostQuestions$Card" "shelf" "I") ∈ lw_all := lw_g (lw_at lw_m2 197 rfl) rfl
theorem q511 : (Jvm.Cond.lays "LostQuestions$Card" "LostQuestions$Card" "age" "I") ∈ lw_all := lw_g (lw_at lw_m2 198 rfl) rfl
theorem q512 : (Jvm.Cond.superclass "LostQuestions$Card" "java/lang/Object") ∈ lw_all := lw_g (lw_at lw_m2 199 rfl) rfl
theorem q526 : (Jvm.Cond.instanceMethod ({ cls := "LostQuestions$Card", name := "kind", desc := "()I" } : Jvm.MethodName)) ∈ lw_all := lw_g (lw_at lw_m2 213 rfl) rfl
theorem q527 : (Jvm.Cond.selects "LostQuestions$Card" ({ cls := "LostQuestions$Card", name := "kind", desc := "()I" } : Jvm.MethodName) ({ cls := "LostQuestions$Card", name := "kind", desc := "()I" } : Jvm.MethodName)) ∈ lw_all := lw_g (lw_at lw_m2 214 rfl) rfl
theorem q528 : (Jvm.Cond.sameMethod "LostQuestions$Card" "LostQuestions$Card" "kind" "()I") ∈ lw_all := lw_g (lw_at lw_m2 215 rfl) rfl
theorem q544 : (Jvm.Cond.code ({ cls := "LostQuestions$Card", name := "kind", desc := "()I" } : Jvm.MethodName) prog_3_method_2_code (1 : Nat) (Option.some Jvm.ClassFile.FieldType.int)) ∈ lw_all := lw_g (lw_at lw_m2 231 rfl) rfl
theorem q546 : (Jvm.Cond.instanceMethod ({ cls := "LostQuestions$Card", name := "says", desc := "()I" } : Jvm.MethodName)) ∈ lw_all := lw_g (lw_at lw_m2 233 rfl) rfl
theorem q547 : (Jvm.Cond.selects "LostQuestions$Card" ({ cls := "LostQuestions$Card", name := "says", desc := "()I" } : Jvm.MethodName) ({ cls := "LostQuestions$Card", name := "says", desc := "()I" } : Jvm.MethodName)) ∈ lw_all := lw_g (lw_at lw_m2 234 rfl) rfl
theorem q548 : (Jvm.Cond.sameMethod "LostQuestions$Card" "LostQuestions$Card" "says" "()I") ∈ lw_all := lw_g (lw_at lw_m2 235 rfl) rfl
theorem q554 : (Jvm.Cond.code ({ cls := "LostQuestions$Card", name := "says", desc := "()I" } : Jvm.MethodName) prog_3_method_6_code (1 : Nat) (Option.some Jvm.ClassFile.FieldType.int)) ∈ lw_all := lw_g (lw_at lw_m3 1 rfl) rfl
theorem q556 : (Jvm.Cond.instanceMethod ({ cls := "LostQuestions$Card", name := "means", desc := "()I" } : Jvm.MethodName)) ∈ lw_all := lw_g (lw_at lw_m3 3 rfl) rfl
theorem q557 : (Jvm.Cond.selects "LostQuestions$Card" ({ cls := "LostQuestions$Card", name := "means", desc := "()I" } : Jvm.MethodName) ({ cls := "LostQuestions$Card", name := "means", desc := "()I" } : Jvm.MethodName)) ∈ lw_all := lw_g (lw_at lw_m3 4 rfl) rfl
theorem q558 : (Jvm.Cond.sameMethod "LostQuestions$Card" "LostQuestions$Card" "means" "()I") ∈ lw_all := lw_g (lw_at lw_m3 5 rfl) rfl
theorem q564 : (Jvm.Cond.declares ({ cls := "LostQuestions$Card", name := "means", desc := "()I" } : Jvm.MethodName)) ∈ lw_tbl := lw_at lw_m3 11 rfl
theorem q575 : (Jvm.Cond.declares ({ cls := "LostQuestions$Card", name := "age", desc := "()I" } : Jvm.MethodName)) ∈ lw_tbl := lw_at lw_m3 22 rfl
theorem q577 : (Jvm.Cond.instanceMethod ({ cls := "LostQuestions$Card", name := "age", desc := "()I" } : Jvm.MethodName)) ∈ lw_all := lw_g (lw_at lw_m3 24 rfl) rfl
theorem q578 : (Jvm.Cond.code ({ cls := "LostQuestions$Card", name := "age", desc := "()I" } : Jvm.MethodName) prog_3_method_7_code (1 : Nat) (Option.some Jvm.ClassFile.FieldType.int)) ∈ lw_all := lw_g (lw_at lw_m3 25 rfl) rfl
theorem q583 : (Jvm.Cond.code ({ cls := "LostQuestions$Card", name := "means", desc := "()I" } : Jvm.MethodName) prog_3_method_4_code (1 : Nat) (Option.some Jvm.ClassFile.FieldType.int)) ∈ lw_all := lw_g (lw_at lw_m3 30 rfl) rfl
theorem q634 : (Jvm.Cond.instanceMethod ({ cls := "LostQuestions$Card", name := "is", desc := "(I)Z" } : Jvm.MethodName)) ∈ lw_all := lw_g (lw_at lw_m3 81 rfl) rfl
theorem q635 : (Jvm.Cond.selects "LostQuestions$Card" ({ cls := "LostQuestions$Card", name := "is", desc := "(I)Z" } : Jvm.MethodName) ({ cls := "LostQuestions$Card", name := "is", desc := "(I)Z" } : Jvm.MethodName)) ∈ lw_all := lw_g (lw_at lw_m3 82 rfl) rfl
theorem q636 : (Jvm.Cond.sameMethod "LostQuestions$Card" "LostQuestions$Card" "is" "(I)Z") ∈ lw_all := lw_g (lw_at lw_m3 83 rfl) rfl
theorem q657 : (Jvm.Cond.code ({ cls := "LostQuestions$Card", name := "is", desc := "(I)Z" } : Jvm.MethodName) prog_3_method_3_code (2 : Nat) (Option.some Jvm.ClassFile.FieldType.boolean)) ∈ lw_all := lw_g (lw_at lw_m3 104 rfl) rfl
theorem q666 : (Jvm.Cond.declares ({ cls := "LostQuestions$Card", name := "number", desc := "()I" } : Jvm.MethodName)) ∈ lw_tbl := lw_at lw_m3 113 rfl
theorem q669 : (Jvm.Cond.instanceMethod ({ cls := "LostQuestions$Card", name := "number", desc := "()I" } : Jvm.MethodName)) ∈ lw_all := lw_g (lw_at lw_m3 116 rfl) rfl
theorem q670 : (Jvm.Cond.code ({ cls := "LostQuestions$Card", name := "number", desc := "()I" } : Jvm.MethodName) prog_3_method_5_code (1 : Nat) (Option.some Jvm.ClassFile.FieldType.int)) ∈ lw_all := lw_g (lw_at lw_m3 117 rfl) rfl
theorem q700 : (Jvm.Cond.declares ({ cls := "LostQuestions$Card", name := "says", desc := "()I" } : Jvm.MethodName)) ∈ lw_tbl := lw_at lw_m3 147 rfl
theorem in_X2 : ∀ w ∈ wsX20, w ∈ lw_all := lw_in wsX20 [508, 509, 510, 511] (by decide +kernel) (by decide +kernel)
/-! LostQuestions$Yes -/
set_option maxRecDepth 100000
def RX3 : String := "LostQuestions$Yes"
def TX3 : u_T := fun k => match k with
  | 0 => ("LostQuestions$Card", "number", "I", true)
  | 1 => ("LostQuestions$Card", "says", "I", true)
  | 2 => ("LostQuestions$Card", "shelf", "I", false)
  | _ => ("LostQuestions$Card", "age", "I", false)
def tyX3 : Nat → FieldType := fun k => match k with
  | 0 => .int
  | 1 => .int
  | 2 => .int
  | _ => .int
abbrev wsX30 : List Cond := u_ws RX3 TX3 4
theorem nmX3 : ∀ a, a < 4 → ∀ b, b < 4 → a ≠ b → (TX3 a).2.1 ≠ (TX3 b).2.1 := by decide +kernel
theorem tyX3_ok : ∀ k, k < 4 → parseFieldDescriptor (TX3 k).2.2.1 = some (tyX3 k) := by decide +kernel
abbrev cX3_init : ByteArray := prog_8_method_1_code
def yX3_init : MethodName := ⟨RX3, "<init>", "(IIII)V"⟩
def dkwX3_init_0 : List UInt8 := [42, 27, 28, 29, 21, 4, 183, 0, 3, 177]
abbrev dktX3_init_0 : List UInt8 := dkwX3_init_0 ++ []
theorem dksX3_init_0 : cX3_init.data.toList.drop 0 = dktX3_init_0 := by decide +kernel
theorem dX3_init_0 : decode cX3_init 0 = .ok (.aload_n 0, 1) := dk_42 (dk_at dksX3_init_0 0 rfl rfl)
theorem dX3_init_1 : decode cX3_init 1 = .ok (.iload_n 1, 1) := dk_27 (dk_at dksX3_init_0 1 rfl rfl)
theorem dX3_init_2 : decode cX3_init 2 = .ok (.iload_n 2, 1) := dk_28 (dk_at dksX3_init_0 2 rfl rfl)
theorem dX3_init_3 : decode cX3_init 3 = .ok (.iload_n 3, 1) := dk_29 (dk_at dksX3_init_0 3 rfl rfl)
theorem dX3_init_4 : decode cX3_init 4 = .ok (.iload 4, 2) := dk_21 4 (dk_at dksX3_init_0 4 rfl rfl)
theorem dX3_init_6 : decode cX3_init 6 = .ok (.invokespecial 3, 3) := dk_183 0 3 (dk_at dksX3_init_0 6 rfl rfl)
theorem dX3_init_9 : decode cX3_init 9 = .ok (.return_, 1) := dk_177 (dk_at dksX3_init_0 9 rfl rfl)
abbrev cX3_kind : ByteArray := prog_8_method_2_code
def yX3_kind : MethodName := ⟨RX3, "kind", "()I"⟩
theorem dX3_kind_0 : decode cX3_kind 0 = .ok (.iconst 1, 1) := by decide +kernel
theorem dX3_kind_1 : decode cX3_kind 1 = .ok (.ireturn, 1) := by decide +kernel
abbrev cX3_means : ByteArray := prog_8_method_4_code
def yX3_means : MethodName := ⟨RX3, "means", "()I"⟩
def dkwX3_means_0 : List UInt8 := [42, 183, 0, 13, 8, 161, 0, 7, 4, 167, 0, 4, 3, 172]
abbrev dktX3_means_0 : List UInt8 := dkwX3_means_0 ++ []
theorem dksX3_means_0 : cX3_means.data.toList.drop 0 = dktX3_means_0 := by decide +kernel
theorem dX3_means_0 : decode cX3_means 0 = .ok (.aload_n 0, 1) := dk_42 (dk_at dksX3_means_0 0 rfl rfl)
theorem dX3_means_1 : decode cX3_means 1 = .ok (.invokespecial 13, 3) := dk_183 0 13 (dk_at dksX3_means_0 1 rfl rfl)
theorem dX3_means_4 : decode cX3_means 4 = .ok (.iconst 5, 1) := dk_8 (dk_at dksX3_means_0 4 rfl rfl)
theorem dX3_means_5 : decode cX3_means 5 = .ok (.if_icmp .lt 7, 3) := dk_161 0 7 (dk_at dksX3_means_0 5 rfl rfl)
theorem dX3_means_8 : decode cX3_means 8 = .ok (.iconst 1, 1) := dk_4 (dk_at dksX3_means_0 8 rfl rfl)
theorem dX3_means_9 : decode cX3_means 9 = .ok (.goto 4, 3) := dk_167 0 4 (dk_at dksX3_means_0 9 rfl rfl)
theorem dX3_means_12 : decode cX3_means 12 = .ok (.iconst 0, 1) := dk_3 (dk_at dksX3_means_0 12 rfl rfl)
theorem dX3_means_13 : decode cX3_means 13 = .ok (.ireturn, 1) := dk_172 (dk_at dksX3_means_0 13 rfl rfl)
abbrev cX3_likes : ByteArray := prog_8_method_5_code
def yX3_likes : MethodName := ⟨RX3, "likes", "(LLostQuestions;)I"⟩
def dkwX3_likes_0 : List UInt8 := [43, 4, 42, 182, 0, 17, 182, 0, 20, 172]
abbrev dktX3_likes_0 : List UInt8 := dkwX3_likes_0 ++ []
theorem dksX3_likes_0 : cX3_likes.data.toList.drop 0 = dktX3_likes_0 := by decide +kernel
theorem dX3_likes_0 : decode cX3_likes 0 = .ok (.aload_n 1, 1) := dk_43 (dk_at dksX3_likes_0 0 rfl rfl)
theorem dX3_likes_1 : decode cX3_likes 1 = .ok (.iconst 1, 1) := dk_4 (dk_at dksX3_likes_0 1 rfl rfl)
theorem dX3_likes_2 : decode cX3_likes 2 = .ok (.aload_n 0, 1) := dk_42 (dk_at dksX3_likes_0 2 rfl rfl)
theorem dX3_likes_3 : decode cX3_likes 3 = .ok (.invokevirtual 17, 3) := dk_182 0 17 (dk_at dksX3_likes_0 3 rfl rfl)
theorem dX3_likes_6 : decode cX3_likes 6 = .ok (.invokevirtual 20, 3) := dk_182 0 20 (dk_at dksX3_likes_0 6 rfl rfl)
theorem dX3_likes_9 : decode cX3_likes 9 = .ok (.ireturn, 1) := dk_172 (dk_at dksX3_likes_0 9 rfl rfl)
abbrev cX3_is : ByteArray := prog_8_method_3_code
def yX3_is : MethodName := ⟨RX3, "is", "(I)Z"⟩
def dkwX3_is_0 : List UInt8 := [27, 4, 159, 0, 11, 42, 27, 183, 0, 9, 153, 0, 7, 4, 167, 0, 4, 3, 172]
abbrev dktX3_is_0 : List UInt8 := dkwX3_is_0 ++ []
theorem dksX3_is_0 : cX3_is.data.toList.drop 0 = dktX3_is_0 := by decide +kernel
theorem dX3_is_0 : decode cX3_is 0 = .ok (.iload_n 1, 1) := dk_27 (dk_at dksX3_is_0 0 rfl rfl)
theorem dX3_is_1 : decode cX3_is 1 = .ok (.iconst 1, 1) := dk_4 (dk_at dksX3_is_0 1 rfl rfl)
theorem dX3_is_2 : decode cX3_is 2 = .ok (.if_icmp .eq 11, 3) := dk_159 0 11 (dk_at dksX3_is_0 2 rfl rfl)
theorem dX3_is_5 : decode cX3_is 5 = .ok (.aload_n 0, 1) := dk_42 (dk_at dksX3_is_0 5 rfl rfl)
theorem dX3_is_6 : decode cX3_is 6 = .ok (.iload_n 1, 1) := dk_27 (dk_at dksX3_is_0 6 rfl rfl)
theorem dX3_is_7 : decode cX3_is 7 = .ok (.invokespecial 9, 3) := dk_183 0 9 (dk_at dksX3_is_0 7 rfl rfl)
theorem dX3_is_10 : decode cX3_is 10 = .ok (.ifCond .eq 7, 3) := dk_153 0 7 (dk_at dksX3_is_0 10 rfl rfl)
theorem dX3_is_13 : decode cX3_is 13 = .ok (.iconst 1, 1) := dk_4 (dk_at dksX3_is_0 13 rfl rfl)
theorem dX3_is_14 : decode cX3_is 14 = .ok (.goto 4, 3) := dk_167 0 4 (dk_at dksX3_is_0 14 rfl rfl)
theorem dX3_is_17 : decode cX3_is 17 = .ok (.iconst 0, 1) := dk_3 (dk_at dksX3_is_0 17 rfl rfl)
theorem dX3_is_18 : decode cX3_is 18 = .ok (.ireturn, 1) := dk_172 (dk_at dksX3_is_0 18 rfl rfl)
theorem q87 : (Jvm.Cond.initialized "LostQuestions$Yes") ∈ lw_all := lw_g (lw_at lw_m1 14 rfl) rfl
theorem q438 : (Jvm.Cond.instantiable "LostQuestions$Yes" (4 : Nat)) ∈ lw_all := lw_g (lw_at lw_m2 125 rfl) rfl
theorem q440 : (Jvm.Cond.instanceMethod ({ cls := "LostQuestions$Yes", name := "<init>", desc := "(IIII)V" } : Jvm.MethodName)) ∈ lw_all := lw_g (lw_at lw_m2 127 rfl) rfl
theorem q441 : (Jvm.Cond.code ({ cls := "LostQuestions$Yes", name := "<init>", desc := "(IIII)V" } : Jvm.MethodName) prog_8_method_1_code (5 : Nat) (Option.none : Option Jvm.ClassFile.FieldType)) ∈ lw_all := lw_g (lw_at lw_m2 128 rfl) rfl
theorem q442 : (Jvm.Cond.methodLink "LostQuestions$Yes" (3 : Nat) ({ cls := "LostQuestions$Card", name := "<init>", desc := "(IIII)V" } : Jvm.MethodName)) ∈ lw_all := lw_g (lw_at lw_m2 129 rfl) rfl
theorem q453 : (Jvm.Cond.laysFinal "LostQuestions$Yes" "LostQuestions$Card" "number" "I") ∈ lw_all := lw_g (lw_at lw_m2 140 rfl) rfl
theorem q455 : (Jvm.Cond.laysFinal "LostQuestions$Yes" "LostQuestions$Card" "says" "I") ∈ lw_all := lw_g (lw_at lw_m2 142 rfl) rfl
theorem q457 : (Jvm.Cond.lays "LostQuestions$Yes" "LostQuestions$Card" "shelf" "I") ∈ lw_all := lw_g (lw_at lw_m2 144 rfl) rfl
theorem q459 : (Jvm.Cond.lays "LostQuestions$Yes" "LostQuestions$Card" "age" "I") ∈ lw_all := lw_g (lw_at lw_m2 146 rfl) rfl
theorem q461 : (Jvm.Cond.superclass "LostQuestions$Yes" "LostQuestions$Card") ∈ lw_all := lw_g (lw_at lw_m2 148 rfl) rfl
theorem q541 : (Jvm.Cond.selects "LostQuestions$Yes" ({ cls := "LostQuestions$Card", name := "kind", desc := "()I" } : Jvm.MethodName) ({ cls := "LostQuestions$Yes", name := "kind", desc := "()I" } : Jvm.MethodName)) ∈ lw_all := lw_g (lw_at lw_m2 228 rfl) rfl
theorem q542 : (Jvm.Cond.instanceMethod ({ cls := "LostQuestions$Yes", name := "kind", desc := "()I" } : Jvm.MethodName)) ∈ lw_all := lw_g (lw_at lw_m2 229 rfl) rfl
theorem q543 : (Jvm.Cond.code ({ cls := "LostQuestions$Yes", name := "kind", desc := "()I" } : Jvm.MethodName) prog_8_method_2_code (1 : Nat) (Option.some Jvm.ClassFile.FieldType.int)) ∈ lw_all := lw_g (lw_at lw_m2 230 rfl) rfl
theorem q553 : (Jvm.Cond.selects "LostQuestions$Yes" ({ cls := "LostQuestions$Card", name := "says", desc := "()I" } : Jvm.MethodName) ({ cls := "LostQuestions$Card", name := "says", desc := "()I" } : Jvm.MethodName)) ∈ lw_all := lw_g (lw_at lw_m3 0 rfl) rfl
theorem q579 : (Jvm.Cond.selects "LostQuestions$Yes" ({ cls := "LostQuestions$Card", name := "means", desc := "()I" } : Jvm.MethodName) ({ cls := "LostQuestions$Yes", name := "means", desc := "()I" } : Jvm.MethodName)) ∈ lw_all := lw_g (lw_at lw_m3 26 rfl) rfl
theorem q580 : (Jvm.Cond.instanceMethod ({ cls := "LostQuestions$Yes", name := "means", desc := "()I" } : Jvm.MethodName)) ∈ lw_all := lw_g (lw_at lw_m3 27 rfl) rfl
theorem q581 : (Jvm.Cond.code ({ cls := "LostQuestions$Yes", name := "means", desc := "()I" } : Jvm.MethodName) prog_8_method_4_code (1 : Nat) (Option.some Jvm.ClassFile.FieldType.int)) ∈ lw_all := lw_g (lw_at lw_m3 28 rfl) rfl
theorem q582 : (Jvm.Cond.methodLink "LostQuestions$Yes" (13 : Nat) ({ cls := "LostQuestions$Card", name := "means", desc := "()I" } : Jvm.MethodName)) ∈ lw_all := lw_g (lw_at lw_m3 29 rfl) rfl
theorem q623 : (Jvm.Cond.instanceMethod ({ cls := "LostQuestions$Yes", name := "likes", desc := "(LLostQuestions;)I" } : Jvm.MethodName)) ∈ lw_all := lw_g (lw_at lw_m3 70 rfl) rfl
theorem q624 : (Jvm.Cond.selects "LostQuestions$Yes" ({ cls := "LostQuestions$Yes", name := "likes", desc := "(LLostQuestions;)I" } : Jvm.MethodName) ({ cls := "LostQuestions$Yes", name := "likes", desc := "(LLostQuestions;)I" } : Jvm.MethodName)) ∈ lw_all := lw_g (lw_at lw_m3 71 rfl) rfl
theorem q625 : (Jvm.Cond.sameMethod "LostQuestions$Yes" "LostQuestions$Yes" "likes" "(LLostQuestions;)I") ∈ lw_all := lw_g (lw_at lw_m3 72 rfl) rfl
theorem q627 : (Jvm.Cond.code ({ cls := "LostQuestions$Yes", name := "likes", desc := "(LLostQuestions;)I" } : Jvm.MethodName) prog_8_method_5_code (2 : Nat) (Option.some Jvm.ClassFile.FieldType.int)) ∈ lw_all := lw_g (lw_at lw_m3 74 rfl) rfl
theorem q628 : (Jvm.Cond.methodLink "LostQuestions$Yes" (17 : Nat) ({ cls := "LostQuestions$Yes", name := "means", desc := "()I" } : Jvm.MethodName)) ∈ lw_all := lw_g (lw_at lw_m3 75 rfl) rfl
theorem q629 : (Jvm.Cond.methodLinkNest "LostQuestions$Yes" (20 : Nat) ({ cls := "LostQuestions", name := "meaning", desc := "(II)I" } : Jvm.MethodName) "LostQuestions") ∈ lw_tbl := lw_at lw_m3 76 rfl
theorem q648 : (Jvm.Cond.instanceMethod ({ cls := "LostQuestions$Yes", name := "is", desc := "(I)Z" } : Jvm.MethodName)) ∈ lw_all := lw_g (lw_at lw_m3 95 rfl) rfl
theorem q649 : (Jvm.Cond.code ({ cls := "LostQuestions$Yes", name := "is", desc := "(I)Z" } : Jvm.MethodName) prog_8_method_3_code (2 : Nat) (Option.some Jvm.ClassFile.FieldType.boolean)) ∈ lw_all := lw_g (lw_at lw_m3 96 rfl) rfl
theorem q650 : (Jvm.Cond.methodLink "LostQuestions$Yes" (9 : Nat) ({ cls := "LostQuestions$Card", name := "is", desc := "(I)Z" } : Jvm.MethodName)) ∈ lw_all := lw_g (lw_at lw_m3 97 rfl) rfl
theorem q656 : (Jvm.Cond.selects "LostQuestions$Yes" ({ cls := "LostQuestions$Card", name := "is", desc := "(I)Z" } : Jvm.MethodName) ({ cls := "LostQuestions$Yes", name := "is", desc := "(I)Z" } : Jvm.MethodName)) ∈ lw_all := lw_g (lw_at lw_m3 103 rfl) rfl
theorem q1434 : (Jvm.Cond.sameMethod "LostQuestions$Yes" "LostQuestions$Yes" "means" "()I") ∈ lw_all := lw_g (lw_at lw_m6 161 rfl) rfl
theorem q1436 : (Jvm.Cond.selects "LostQuestions$Yes" ({ cls := "LostQuestions$Yes", name := "means", desc := "()I" } : Jvm.MethodName) ({ cls := "LostQuestions$Yes", name := "means", desc := "()I" } : Jvm.MethodName)) ∈ lw_all := lw_g (lw_at lw_m6 163 rfl) rfl
theorem q1438 : (Jvm.Cond.sameMethod "LostQuestions$Yes" "LostQuestions$Yes" "is" "(I)Z") ∈ lw_all := lw_g (lw_at lw_m6 165 rfl) rfl
theorem q1444 : (Jvm.Cond.castable "LostQuestions$Yes" "LostQuestions$Card") ∈ lw_tbl := lw_at lw_m6 171 rfl
theorem in_X3 : ∀ w ∈ wsX30, w ∈ lw_all := lw_in wsX30 [453, 455, 457, 459] (by decide +kernel) (by decide +kernel)
/-! LostQuestions$Place -/
set_option maxRecDepth 100000
def RX4 : String := "LostQuestions$Place"
def TX4 : u_T := fun k => match k with
  | 0 => ("LostQuestions$Card", "number", "I", true)
  | 1 => ("LostQuestions$Card", "says", "I", true)
  | 2 => ("LostQuestions$Card", "shelf", "I", false)
  | _ => ("LostQuestions$Card", "age", "I", false)
def tyX4 : Nat → FieldType := fun k => match k with
  | 0 => .int
  | 1 => .int
  | 2 => .int
  | _ => .int
abbrev wsX40 : List Cond := u_ws RX4 TX4 4
theorem nmX4 : ∀ a, a < 4 → ∀ b, b < 4 → a ≠ b → (TX4 a).2.1 ≠ (TX4 b).2.1 := by decide +kernel
theorem tyX4_ok : ∀ k, k < 4 → parseFieldDescriptor (TX4 k).2.2.1 = some (tyX4 k) := by decide +kernel
abbrev cX4_init : ByteArray := prog_6_method_1_code
def yX4_init : MethodName := ⟨RX4, "<init>", "(IIII)V"⟩
def dkwX4_init_0 : List UInt8 := [42, 27, 28, 29, 21, 4, 183, 0, 3, 177]
abbrev dktX4_init_0 : List UInt8 := dkwX4_init_0 ++ []
theorem dksX4_init_0 : cX4_init.data.toList.drop 0 = dktX4_init_0 := by decide +kernel
theorem dX4_init_0 : decode cX4_init 0 = .ok (.aload_n 0, 1) := dk_42 (dk_at dksX4_init_0 0 rfl rfl)
theorem dX4_init_1 : decode cX4_init 1 = .ok (.iload_n 1, 1) := dk_27 (dk_at dksX4_init_0 1 rfl rfl)
theorem dX4_init_2 : decode cX4_init 2 = .ok (.iload_n 2, 1) := dk_28 (dk_at dksX4_init_0 2 rfl rfl)
theorem dX4_init_3 : decode cX4_init 3 = .ok (.iload_n 3, 1) := dk_29 (dk_at dksX4_init_0 3 rfl rfl)
theorem dX4_init_4 : decode cX4_init 4 = .ok (.iload 4, 2) := dk_21 4 (dk_at dksX4_init_0 4 rfl rfl)
theorem dX4_init_6 : decode cX4_init 6 = .ok (.invokespecial 3, 3) := dk_183 0 3 (dk_at dksX4_init_0 6 rfl rfl)
theorem dX4_init_9 : decode cX4_init 9 = .ok (.return_, 1) := dk_177 (dk_at dksX4_init_0 9 rfl rfl)
abbrev cX4_kind : ByteArray := prog_6_method_2_code
def yX4_kind : MethodName := ⟨RX4, "kind", "()I"⟩
theorem dX4_kind_0 : decode cX4_kind 0 = .ok (.iconst 2, 1) := by decide +kernel
theorem dX4_kind_1 : decode cX4_kind 1 = .ok (.ireturn, 1) := by decide +kernel
abbrev cX4_is : ByteArray := prog_6_method_3_code
def yX4_is : MethodName := ⟨RX4, "is", "(I)Z"⟩
def dkwX4_is_0 : List UInt8 := [27, 5, 159, 0, 11, 42, 27, 183, 0, 9, 153, 0, 7, 4, 167, 0, 4, 3, 172]
abbrev dktX4_is_0 : List UInt8 := dkwX4_is_0 ++ []
theorem dksX4_is_0 : cX4_is.data.toList.drop 0 = dktX4_is_0 := by decide +kernel
theorem dX4_is_0 : decode cX4_is 0 = .ok (.iload_n 1, 1) := dk_27 (dk_at dksX4_is_0 0 rfl rfl)
theorem dX4_is_1 : decode cX4_is 1 = .ok (.iconst 2, 1) := dk_5 (dk_at dksX4_is_0 1 rfl rfl)
theorem dX4_is_2 : decode cX4_is 2 = .ok (.if_icmp .eq 11, 3) := dk_159 0 11 (dk_at dksX4_is_0 2 rfl rfl)
theorem dX4_is_5 : decode cX4_is 5 = .ok (.aload_n 0, 1) := dk_42 (dk_at dksX4_is_0 5 rfl rfl)
theorem dX4_is_6 : decode cX4_is 6 = .ok (.iload_n 1, 1) := dk_27 (dk_at dksX4_is_0 6 rfl rfl)
theorem dX4_is_7 : decode cX4_is 7 = .ok (.invokespecial 9, 3) := dk_183 0 9 (dk_at dksX4_is_0 7 rfl rfl)
theorem dX4_is_10 : decode cX4_is 10 = .ok (.ifCond .eq 7, 3) := dk_153 0 7 (dk_at dksX4_is_0 10 rfl rfl)
theorem dX4_is_13 : decode cX4_is 13 = .ok (.iconst 1, 1) := dk_4 (dk_at dksX4_is_0 13 rfl rfl)
theorem dX4_is_14 : decode cX4_is 14 = .ok (.goto 4, 3) := dk_167 0 4 (dk_at dksX4_is_0 14 rfl rfl)
theorem dX4_is_17 : decode cX4_is 17 = .ok (.iconst 0, 1) := dk_3 (dk_at dksX4_is_0 17 rfl rfl)
theorem dX4_is_18 : decode cX4_is 18 = .ok (.ireturn, 1) := dk_172 (dk_at dksX4_is_0 18 rfl rfl)
abbrev cX4_besides : ByteArray := prog_6_method_4_code
def yX4_besides : MethodName := ⟨RX4, "besides", "(LLostQuestions;)I"⟩
def dkwX4_besides_0 : List UInt8 := [43, 43, 180, 0, 13, 42, 182, 0, 17, 50, 180, 0, 23, 182, 0, 27, 4, 100, 172]
abbrev dktX4_besides_0 : List UInt8 := dkwX4_besides_0 ++ []
theorem dksX4_besides_0 : cX4_besides.data.toList.drop 0 = dktX4_besides_0 := by decide +kernel
theorem dX4_besides_0 : decode cX4_besides 0 = .ok (.aload_n 1, 1) := dk_43 (dk_at dksX4_besides_0 0 rfl rfl)
theorem dX4_besides_1 : decode cX4_besides 1 = .ok (.aload_n 1, 1) := dk_43 (dk_at dksX4_besides_0 1 rfl rfl)
theorem dX4_besides_2 : decode cX4_besides 2 = .ok (.getfield 13, 3) := dk_180 0 13 (dk_at dksX4_besides_0 2 rfl rfl)
theorem dX4_besides_5 : decode cX4_besides 5 = .ok (.aload_n 0, 1) := dk_42 (dk_at dksX4_besides_0 5 rfl rfl)
theorem dX4_besides_6 : decode cX4_besides 6 = .ok (.invokevirtual 17, 3) := dk_182 0 17 (dk_at dksX4_besides_0 6 rfl rfl)
theorem dX4_besides_9 : decode cX4_besides 9 = .ok (.aaload, 1) := dk_50 (dk_at dksX4_besides_0 9 rfl rfl)
theorem dX4_besides_10 : decode cX4_besides 10 = .ok (.getfield 23, 3) := dk_180 0 23 (dk_at dksX4_besides_0 10 rfl rfl)
theorem dX4_besides_13 : decode cX4_besides 13 = .ok (.invokevirtual 27, 3) := dk_182 0 27 (dk_at dksX4_besides_0 13 rfl rfl)
theorem dX4_besides_16 : decode cX4_besides 16 = .ok (.iconst 1, 1) := dk_4 (dk_at dksX4_besides_0 16 rfl rfl)
theorem dX4_besides_17 : decode cX4_besides 17 = .ok (.isub, 1) := dk_100 (dk_at dksX4_besides_0 17 rfl rfl)
theorem dX4_besides_18 : decode cX4_besides 18 = .ok (.ireturn, 1) := dk_172 (dk_at dksX4_besides_0 18 rfl rfl)
theorem q88 : (Jvm.Cond.initialized "LostQuestions$Place") ∈ lw_all := lw_g (lw_at lw_m1 15 rfl) rfl
theorem q120 : (Jvm.Cond.fieldLinkNest "LostQuestions$Place" (13 : Nat) "LostQuestions" "cards" "[LLostQuestions$Card;" "LostQuestions") ∈ lw_tbl := lw_at lw_m1 47 rfl
theorem q449 : (Jvm.Cond.fieldLinkNest "LostQuestions$Place" (23 : Nat) "LostQuestions$Card" "shelf" "I" "LostQuestions") ∈ lw_tbl := lw_at lw_m2 136 rfl
theorem q463 : (Jvm.Cond.instantiable "LostQuestions$Place" (4 : Nat)) ∈ lw_all := lw_g (lw_at lw_m2 150 rfl) rfl
theorem q465 : (Jvm.Cond.instanceMethod ({ cls := "LostQuestions$Place", name := "<init>", desc := "(IIII)V" } : Jvm.MethodName)) ∈ lw_all := lw_g (lw_at lw_m2 152 rfl) rfl
theorem q466 : (Jvm.Cond.code ({ cls := "LostQuestions$Place", name := "<init>", desc := "(IIII)V" } : Jvm.MethodName) prog_6_method_1_code (5 : Nat) (Option.none : Option Jvm.ClassFile.FieldType)) ∈ lw_all := lw_g (lw_at lw_m2 153 rfl) rfl
theorem q467 : (Jvm.Cond.methodLink "LostQuestions$Place" (3 : Nat) ({ cls := "LostQuestions$Card", name := "<init>", desc := "(IIII)V" } : Jvm.MethodName)) ∈ lw_all := lw_g (lw_at lw_m2 154 rfl) rfl
theorem q468 : (Jvm.Cond.laysFinal "LostQuestions$Place" "LostQuestions$Card" "number" "I") ∈ lw_all := lw_g (lw_at lw_m2 155 rfl) rfl
theorem q469 : (Jvm.Cond.laysFinal "LostQuestions$Place" "LostQuestions$Card" "says" "I") ∈ lw_all := lw_g (lw_at lw_m2 156 rfl) rfl
theorem q470 : (Jvm.Cond.lays "LostQuestions$Place" "LostQuestions$Card" "shelf" "I") ∈ lw_all := lw_g (lw_at lw_m2 157 rfl) rfl
theorem q471 : (Jvm.Cond.lays "LostQuestions$Place" "LostQuestions$Card" "age" "I") ∈ lw_all := lw_g (lw_at lw_m2 158 rfl) rfl
theorem q472 : (Jvm.Cond.superclass "LostQuestions$Place" "LostQuestions$Card") ∈ lw_all := lw_g (lw_at lw_m2 159 rfl) rfl
theorem q535 : (Jvm.Cond.selects "LostQuestions$Place" ({ cls := "LostQuestions$Card", name := "kind", desc := "()I" } : Jvm.MethodName) ({ cls := "LostQuestions$Place", name := "kind", desc := "()I" } : Jvm.MethodName)) ∈ lw_all := lw_g (lw_at lw_m2 222 rfl) rfl
theorem q536 : (Jvm.Cond.instanceMethod ({ cls := "LostQuestions$Place", name := "kind", desc := "()I" } : Jvm.MethodName)) ∈ lw_all := lw_g (lw_at lw_m2 223 rfl) rfl
theorem q537 : (Jvm.Cond.code ({ cls := "LostQuestions$Place", name := "kind", desc := "()I" } : Jvm.MethodName) prog_6_method_2_code (1 : Nat) (Option.some Jvm.ClassFile.FieldType.int)) ∈ lw_all := lw_g (lw_at lw_m2 224 rfl) rfl
theorem q551 : (Jvm.Cond.selects "LostQuestions$Place" ({ cls := "LostQuestions$Card", name := "says", desc := "()I" } : Jvm.MethodName) ({ cls := "LostQuestions$Card", name := "says", desc := "()I" } : Jvm.MethodName)) ∈ lw_all := lw_g (lw_at lw_m2 238 rfl) rfl
theorem q563 : (Jvm.Cond.sameMethod "LostQuestions$Place" "LostQuestions$Card" "means" "()I") ∈ lw_all := lw_g (lw_at lw_m3 10 rfl) rfl
theorem q568 : (Jvm.Cond.selects "LostQuestions$Place" ({ cls := "LostQuestions$Card", name := "means", desc := "()I" } : Jvm.MethodName) ({ cls := "LostQuestions$Card", name := "means", desc := "()I" } : Jvm.MethodName)) ∈ lw_all := lw_g (lw_at lw_m3 15 rfl) rfl
theorem q641 : (Jvm.Cond.instanceMethod ({ cls := "LostQuestions$Place", name := "is", desc := "(I)Z" } : Jvm.MethodName)) ∈ lw_all := lw_g (lw_at lw_m3 88 rfl) rfl
theorem q642 : (Jvm.Cond.code ({ cls := "LostQuestions$Place", name := "is", desc := "(I)Z" } : Jvm.MethodName) prog_6_method_3_code (2 : Nat) (Option.some Jvm.ClassFile.FieldType.boolean)) ∈ lw_all := lw_g (lw_at lw_m3 89 rfl) rfl
theorem q643 : (Jvm.Cond.methodLink "LostQuestions$Place" (9 : Nat) ({ cls := "LostQuestions$Card", name := "is", desc := "(I)Z" } : Jvm.MethodName)) ∈ lw_all := lw_g (lw_at lw_m3 90 rfl) rfl
theorem q651 : (Jvm.Cond.selects "LostQuestions$Place" ({ cls := "LostQuestions$Card", name := "is", desc := "(I)Z" } : Jvm.MethodName) ({ cls := "LostQuestions$Place", name := "is", desc := "(I)Z" } : Jvm.MethodName)) ∈ lw_all := lw_g (lw_at lw_m3 98 rfl) rfl
theorem q659 : (Jvm.Cond.instanceMethod ({ cls := "LostQuestions$Place", name := "besides", desc := "(LLostQuestions;)I" } : Jvm.MethodName)) ∈ lw_all := lw_g (lw_at lw_m3 106 rfl) rfl
theorem q660 : (Jvm.Cond.selects "LostQuestions$Place" ({ cls := "LostQuestions$Place", name := "besides", desc := "(LLostQuestions;)I" } : Jvm.MethodName) ({ cls := "LostQuestions$Place", name := "besides", desc := "(LLostQuestions;)I" } : Jvm.MethodName)) ∈ lw_all := lw_g (lw_at lw_m3 107 rfl) rfl
theorem q661 : (Jvm.Cond.sameMethod "LostQuestions$Place" "LostQuestions$Place" "besides" "(LLostQuestions;)I") ∈ lw_all := lw_g (lw_at lw_m3 108 rfl) rfl
theorem q663 : (Jvm.Cond.code ({ cls := "LostQuestions$Place", name := "besides", desc := "(LLostQuestions;)I" } : Jvm.MethodName) prog_6_method_4_code (2 : Nat) (Option.some Jvm.ClassFile.FieldType.int)) ∈ lw_all := lw_g (lw_at lw_m3 110 rfl) rfl
theorem q664 : (Jvm.Cond.methodLink "LostQuestions$Place" (17 : Nat) ({ cls := "LostQuestions$Place", name := "number", desc := "()I" } : Jvm.MethodName)) ∈ lw_all := lw_g (lw_at lw_m3 111 rfl) rfl
theorem q665 : (Jvm.Cond.sameMethod "LostQuestions$Place" "LostQuestions$Card" "number" "()I") ∈ lw_all := lw_g (lw_at lw_m3 112 rfl) rfl
theorem q668 : (Jvm.Cond.selects "LostQuestions$Place" ({ cls := "LostQuestions$Place", name := "number", desc := "()I" } : Jvm.MethodName) ({ cls := "LostQuestions$Card", name := "number", desc := "()I" } : Jvm.MethodName)) ∈ lw_all := lw_g (lw_at lw_m3 115 rfl) rfl
theorem q671 : (Jvm.Cond.methodLinkNest "LostQuestions$Place" (27 : Nat) ({ cls := "LostQuestions", name := "onShelf", desc := "(I)I" } : Jvm.MethodName) "LostQuestions") ∈ lw_tbl := lw_at lw_m3 118 rfl
theorem q1437 : (Jvm.Cond.sameMethod "LostQuestions$Place" "LostQuestions$Place" "is" "(I)Z") ∈ lw_all := lw_g (lw_at lw_m6 164 rfl) rfl
theorem q1445 : (Jvm.Cond.castable "LostQuestions$Place" "LostQuestions$Card") ∈ lw_tbl := lw_at lw_m6 172 rfl
theorem in_X4 : ∀ w ∈ wsX40, w ∈ lw_all := lw_in wsX40 [468, 469, 470, 471] (by decide +kernel) (by decide +kernel)
/-! LostQuestions$Never -/
set_option maxRecDepth 100000
def RX5 : String := "LostQuestions$Never"
def TX5 : u_T := fun k => match k with
  | 0 => ("LostQuestions$Card", "number", "I", true)
  | 1 => ("LostQuestions$Card", "says", "I", true)
  | 2 => ("LostQuestions$Card", "shelf", "I", false)
  | _ => ("LostQuestions$Card", "age", "I", false)
def tyX5 : Nat → FieldType := fun k => match k with
  | 0 => .int
  | 1 => .int
  | 2 => .int
  | _ => .int
abbrev wsX50 : List Cond := u_ws RX5 TX5 4
theorem nmX5 : ∀ a, a < 4 → ∀ b, b < 4 → a ≠ b → (TX5 a).2.1 ≠ (TX5 b).2.1 := by decide +kernel
theorem tyX5_ok : ∀ k, k < 4 → parseFieldDescriptor (TX5 k).2.2.1 = some (tyX5 k) := by decide +kernel
abbrev cX5_init : ByteArray := prog_5_method_1_code
def yX5_init : MethodName := ⟨RX5, "<init>", "(IIII)V"⟩
def dkwX5_init_0 : List UInt8 := [42, 27, 28, 29, 21, 4, 183, 0, 3, 177]
abbrev dktX5_init_0 : List UInt8 := dkwX5_init_0 ++ []
theorem dksX5_init_0 : cX5_init.data.toList.drop 0 = dktX5_init_0 := by decide +kernel
theorem dX5_init_0 : decode cX5_init 0 = .ok (.aload_n 0, 1) := dk_42 (dk_at dksX5_init_0 0 rfl rfl)
theorem dX5_init_1 : decode cX5_init 1 = .ok (.iload_n 1, 1) := dk_27 (dk_at dksX5_init_0 1 rfl rfl)
theorem dX5_init_2 : decode cX5_init 2 = .ok (.iload_n 2, 1) := dk_28 (dk_at dksX5_init_0 2 rfl rfl)
theorem dX5_init_3 : decode cX5_init 3 = .ok (.iload_n 3, 1) := dk_29 (dk_at dksX5_init_0 3 rfl rfl)
theorem dX5_init_4 : decode cX5_init 4 = .ok (.iload 4, 2) := dk_21 4 (dk_at dksX5_init_0 4 rfl rfl)
theorem dX5_init_6 : decode cX5_init 6 = .ok (.invokespecial 3, 3) := dk_183 0 3 (dk_at dksX5_init_0 6 rfl rfl)
theorem dX5_init_9 : decode cX5_init 9 = .ok (.return_, 1) := dk_177 (dk_at dksX5_init_0 9 rfl rfl)
abbrev cX5_kind : ByteArray := prog_5_method_2_code
def yX5_kind : MethodName := ⟨RX5, "kind", "()I"⟩
theorem dX5_kind_0 : decode cX5_kind 0 = .ok (.iconst 3, 1) := by decide +kernel
theorem dX5_kind_1 : decode cX5_kind 1 = .ok (.ireturn, 1) := by decide +kernel
abbrev cX5_means : ByteArray := prog_5_method_4_code
def yX5_means : MethodName := ⟨RX5, "means", "()I"⟩
theorem dX5_means_0 : decode cX5_means 0 = .ok (.iconst 0, 1) := by decide +kernel
theorem dX5_means_1 : decode cX5_means 1 = .ok (.ireturn, 1) := by decide +kernel
abbrev cX5_is : ByteArray := prog_5_method_3_code
def yX5_is : MethodName := ⟨RX5, "is", "(I)Z"⟩
def dkwX5_is_0 : List UInt8 := [27, 6, 159, 0, 11, 42, 27, 183, 0, 9, 153, 0, 7, 4, 167, 0, 4, 3, 172]
abbrev dktX5_is_0 : List UInt8 := dkwX5_is_0 ++ []
theorem dksX5_is_0 : cX5_is.data.toList.drop 0 = dktX5_is_0 := by decide +kernel
theorem dX5_is_0 : decode cX5_is 0 = .ok (.iload_n 1, 1) := dk_27 (dk_at dksX5_is_0 0 rfl rfl)
theorem dX5_is_1 : decode cX5_is 1 = .ok (.iconst 3, 1) := dk_6 (dk_at dksX5_is_0 1 rfl rfl)
theorem dX5_is_2 : decode cX5_is 2 = .ok (.if_icmp .eq 11, 3) := dk_159 0 11 (dk_at dksX5_is_0 2 rfl rfl)
theorem dX5_is_5 : decode cX5_is 5 = .ok (.aload_n 0, 1) := dk_42 (dk_at dksX5_is_0 5 rfl rfl)
theorem dX5_is_6 : decode cX5_is 6 = .ok (.iload_n 1, 1) := dk_27 (dk_at dksX5_is_0 6 rfl rfl)
theorem dX5_is_7 : decode cX5_is 7 = .ok (.invokespecial 9, 3) := dk_183 0 9 (dk_at dksX5_is_0 7 rfl rfl)
theorem dX5_is_10 : decode cX5_is 10 = .ok (.ifCond .eq 7, 3) := dk_153 0 7 (dk_at dksX5_is_0 10 rfl rfl)
theorem dX5_is_13 : decode cX5_is 13 = .ok (.iconst 1, 1) := dk_4 (dk_at dksX5_is_0 13 rfl rfl)
theorem dX5_is_14 : decode cX5_is 14 = .ok (.goto 4, 3) := dk_167 0 4 (dk_at dksX5_is_0 14 rfl rfl)
theorem dX5_is_17 : decode cX5_is 17 = .ok (.iconst 0, 1) := dk_3 (dk_at dksX5_is_0 17 rfl rfl)
theorem dX5_is_18 : decode cX5_is 18 = .ok (.ireturn, 1) := dk_172 (dk_at dksX5_is_0 18 rfl rfl)
abbrev cX5_asks : ByteArray := prog_5_method_5_code
def yX5_asks : MethodName := ⟨RX5, "asks", "(LLostQuestions;)I"⟩
def dkwX5_asks_0 : List UInt8 := [43, 42, 182, 0, 13, 182, 0, 19, 172]
abbrev dktX5_asks_0 : List UInt8 := dkwX5_asks_0 ++ []
theorem dksX5_asks_0 : cX5_asks.data.toList.drop 0 = dktX5_asks_0 := by decide +kernel
theorem dX5_asks_0 : decode cX5_asks 0 = .ok (.aload_n 1, 1) := dk_43 (dk_at dksX5_asks_0 0 rfl rfl)
theorem dX5_asks_1 : decode cX5_asks 1 = .ok (.aload_n 0, 1) := dk_42 (dk_at dksX5_asks_0 1 rfl rfl)
theorem dX5_asks_2 : decode cX5_asks 2 = .ok (.invokevirtual 13, 3) := dk_182 0 13 (dk_at dksX5_asks_0 2 rfl rfl)
theorem dX5_asks_5 : decode cX5_asks 5 = .ok (.invokevirtual 19, 3) := dk_182 0 19 (dk_at dksX5_asks_0 5 rfl rfl)
theorem dX5_asks_8 : decode cX5_asks 8 = .ok (.ireturn, 1) := dk_172 (dk_at dksX5_asks_0 8 rfl rfl)
theorem q89 : (Jvm.Cond.initialized "LostQuestions$Never") ∈ lw_all := lw_g (lw_at lw_m1 16 rfl) rfl
theorem q474 : (Jvm.Cond.instantiable "LostQuestions$Never" (4 : Nat)) ∈ lw_all := lw_g (lw_at lw_m2 161 rfl) rfl
theorem q476 : (Jvm.Cond.instanceMethod ({ cls := "LostQuestions$Never", name := "<init>", desc := "(IIII)V" } : Jvm.MethodName)) ∈ lw_all := lw_g (lw_at lw_m2 163 rfl) rfl
theorem q477 : (Jvm.Cond.code ({ cls := "LostQuestions$Never", name := "<init>", desc := "(IIII)V" } : Jvm.MethodName) prog_5_method_1_code (5 : Nat) (Option.none : Option Jvm.ClassFile.FieldType)) ∈ lw_all := lw_g (lw_at lw_m2 164 rfl) rfl
theorem q478 : (Jvm.Cond.methodLink "LostQuestions$Never" (3 : Nat) ({ cls := "LostQuestions$Yes", name := "<init>", desc := "(IIII)V" } : Jvm.MethodName)) ∈ lw_all := lw_g (lw_at lw_m2 165 rfl) rfl
theorem q479 : (Jvm.Cond.laysFinal "LostQuestions$Never" "LostQuestions$Card" "number" "I") ∈ lw_all := lw_g (lw_at lw_m2 166 rfl) rfl
theorem q480 : (Jvm.Cond.laysFinal "LostQuestions$Never" "LostQuestions$Card" "says" "I") ∈ lw_all := lw_g (lw_at lw_m2 167 rfl) rfl
theorem q481 : (Jvm.Cond.lays "LostQuestions$Never" "LostQuestions$Card" "shelf" "I") ∈ lw_all := lw_g (lw_at lw_m2 168 rfl) rfl
theorem q482 : (Jvm.Cond.lays "LostQuestions$Never" "LostQuestions$Card" "age" "I") ∈ lw_all := lw_g (lw_at lw_m2 169 rfl) rfl
theorem q483 : (Jvm.Cond.superclass "LostQuestions$Never" "LostQuestions$Yes") ∈ lw_all := lw_g (lw_at lw_m2 170 rfl) rfl
theorem q532 : (Jvm.Cond.selects "LostQuestions$Never" ({ cls := "LostQuestions$Card", name := "kind", desc := "()I" } : Jvm.MethodName) ({ cls := "LostQuestions$Never", name := "kind", desc := "()I" } : Jvm.MethodName)) ∈ lw_all := lw_g (lw_at lw_m2 219 rfl) rfl
theorem q533 : (Jvm.Cond.instanceMethod ({ cls := "LostQuestions$Never", name := "kind", desc := "()I" } : Jvm.MethodName)) ∈ lw_all := lw_g (lw_at lw_m2 220 rfl) rfl
theorem q534 : (Jvm.Cond.code ({ cls := "LostQuestions$Never", name := "kind", desc := "()I" } : Jvm.MethodName) prog_5_method_2_code (1 : Nat) (Option.some Jvm.ClassFile.FieldType.int)) ∈ lw_all := lw_g (lw_at lw_m2 221 rfl) rfl
theorem q550 : (Jvm.Cond.selects "LostQuestions$Never" ({ cls := "LostQuestions$Card", name := "says", desc := "()I" } : Jvm.MethodName) ({ cls := "LostQuestions$Card", name := "says", desc := "()I" } : Jvm.MethodName)) ∈ lw_all := lw_g (lw_at lw_m2 237 rfl) rfl
theorem q565 : (Jvm.Cond.selects "LostQuestions$Never" ({ cls := "LostQuestions$Card", name := "means", desc := "()I" } : Jvm.MethodName) ({ cls := "LostQuestions$Never", name := "means", desc := "()I" } : Jvm.MethodName)) ∈ lw_all := lw_g (lw_at lw_m3 12 rfl) rfl
theorem q566 : (Jvm.Cond.instanceMethod ({ cls := "LostQuestions$Never", name := "means", desc := "()I" } : Jvm.MethodName)) ∈ lw_all := lw_g (lw_at lw_m3 13 rfl) rfl
theorem q567 : (Jvm.Cond.code ({ cls := "LostQuestions$Never", name := "means", desc := "()I" } : Jvm.MethodName) prog_5_method_4_code (1 : Nat) (Option.some Jvm.ClassFile.FieldType.int)) ∈ lw_all := lw_g (lw_at lw_m3 14 rfl) rfl
theorem q626 : (Jvm.Cond.selects "LostQuestions$Never" ({ cls := "LostQuestions$Yes", name := "likes", desc := "(LLostQuestions;)I" } : Jvm.MethodName) ({ cls := "LostQuestions$Yes", name := "likes", desc := "(LLostQuestions;)I" } : Jvm.MethodName)) ∈ lw_all := lw_g (lw_at lw_m3 73 rfl) rfl
theorem q644 : (Jvm.Cond.selects "LostQuestions$Never" ({ cls := "LostQuestions$Card", name := "is", desc := "(I)Z" } : Jvm.MethodName) ({ cls := "LostQuestions$Never", name := "is", desc := "(I)Z" } : Jvm.MethodName)) ∈ lw_all := lw_g (lw_at lw_m3 91 rfl) rfl
theorem q645 : (Jvm.Cond.instanceMethod ({ cls := "LostQuestions$Never", name := "is", desc := "(I)Z" } : Jvm.MethodName)) ∈ lw_all := lw_g (lw_at lw_m3 92 rfl) rfl
theorem q646 : (Jvm.Cond.code ({ cls := "LostQuestions$Never", name := "is", desc := "(I)Z" } : Jvm.MethodName) prog_5_method_3_code (2 : Nat) (Option.some Jvm.ClassFile.FieldType.boolean)) ∈ lw_all := lw_g (lw_at lw_m3 93 rfl) rfl
theorem q647 : (Jvm.Cond.methodLink "LostQuestions$Never" (9 : Nat) ({ cls := "LostQuestions$Yes", name := "is", desc := "(I)Z" } : Jvm.MethodName)) ∈ lw_all := lw_g (lw_at lw_m3 94 rfl) rfl
theorem q676 : (Jvm.Cond.instanceMethod ({ cls := "LostQuestions$Never", name := "asks", desc := "(LLostQuestions;)I" } : Jvm.MethodName)) ∈ lw_all := lw_g (lw_at lw_m3 123 rfl) rfl
theorem q677 : (Jvm.Cond.selects "LostQuestions$Never" ({ cls := "LostQuestions$Never", name := "asks", desc := "(LLostQuestions;)I" } : Jvm.MethodName) ({ cls := "LostQuestions$Never", name := "asks", desc := "(LLostQuestions;)I" } : Jvm.MethodName)) ∈ lw_all := lw_g (lw_at lw_m3 124 rfl) rfl
theorem q678 : (Jvm.Cond.code ({ cls := "LostQuestions$Never", name := "asks", desc := "(LLostQuestions;)I" } : Jvm.MethodName) prog_5_method_5_code (2 : Nat) (Option.some Jvm.ClassFile.FieldType.int)) ∈ lw_all := lw_g (lw_at lw_m3 125 rfl) rfl
theorem q679 : (Jvm.Cond.methodLink "LostQuestions$Never" (13 : Nat) ({ cls := "LostQuestions$Never", name := "number", desc := "()I" } : Jvm.MethodName)) ∈ lw_all := lw_g (lw_at lw_m3 126 rfl) rfl
theorem q680 : (Jvm.Cond.sameMethod "LostQuestions$Never" "LostQuestions$Card" "number" "()I") ∈ lw_all := lw_g (lw_at lw_m3 127 rfl) rfl
theorem q681 : (Jvm.Cond.selects "LostQuestions$Never" ({ cls := "LostQuestions$Never", name := "number", desc := "()I" } : Jvm.MethodName) ({ cls := "LostQuestions$Card", name := "number", desc := "()I" } : Jvm.MethodName)) ∈ lw_all := lw_g (lw_at lw_m3 128 rfl) rfl
theorem q682 : (Jvm.Cond.methodLinkNest "LostQuestions$Never" (19 : Nat) ({ cls := "LostQuestions", name := "fitted", desc := "(I)I" } : Jvm.MethodName) "LostQuestions") ∈ lw_tbl := lw_at lw_m3 129 rfl
theorem q1435 : (Jvm.Cond.selects "LostQuestions$Never" ({ cls := "LostQuestions$Yes", name := "means", desc := "()I" } : Jvm.MethodName) ({ cls := "LostQuestions$Never", name := "means", desc := "()I" } : Jvm.MethodName)) ∈ lw_all := lw_g (lw_at lw_m6 162 rfl) rfl
theorem q1442 : (Jvm.Cond.castable "LostQuestions$Never" "LostQuestions$Yes") ∈ lw_tbl := lw_at lw_m6 169 rfl
theorem q1446 : (Jvm.Cond.castable "LostQuestions$Never" "LostQuestions$Card") ∈ lw_tbl := lw_at lw_m6 173 rfl
theorem in_X5 : ∀ w ∈ wsX50, w ∈ lw_all := lw_in wsX50 [479, 480, 481, 482] (by decide +kernel) (by decide +kernel)
/-! LostQuestions$Time -/
set_option maxRecDepth 100000
def RX6 : String := "LostQuestions$Time"
def TX6 : u_T := fun k => match k with
  | 0 => ("LostQuestions$Card", "number", "I", true)
  | 1 => ("LostQuestions$Card", "says", "I", true)
  | 2 => ("LostQuestions$Card", "shelf", "I", false)
  | _ => ("LostQuestions$Card", "age", "I", false)
def tyX6 : Nat → FieldType := fun k => match k with
  | 0 => .int
  | 1 => .int
  | 2 => .int
  | _ => .int
abbrev wsX60 : List Cond := u_ws RX6 TX6 4
theorem nmX6 : ∀ a, a < 4 → ∀ b, b < 4 → a ≠ b → (TX6 a).2.1 ≠ (TX6 b).2.1 := by decide +kernel
theorem tyX6_ok : ∀ k, k < 4 → parseFieldDescriptor (TX6 k).2.2.1 = some (tyX6 k) := by decide +kernel
abbrev cX6_init : ByteArray := prog_7_method_1_code
def yX6_init : MethodName := ⟨RX6, "<init>", "(IIII)V"⟩
def dkwX6_init_0 : List UInt8 := [42, 27, 28, 29, 21, 4, 183, 0, 3, 177]
abbrev dktX6_init_0 : List UInt8 := dkwX6_init_0 ++ []
theorem dksX6_init_0 : cX6_init.data.toList.drop 0 = dktX6_init_0 := by decide +kernel
theorem dX6_init_0 : decode cX6_init 0 = .ok (.aload_n 0, 1) := dk_42 (dk_at dksX6_init_0 0 rfl rfl)
theorem dX6_init_1 : decode cX6_init 1 = .ok (.iload_n 1, 1) := dk_27 (dk_at dksX6_init_0 1 rfl rfl)
theorem dX6_init_2 : decode cX6_init 2 = .ok (.iload_n 2, 1) := dk_28 (dk_at dksX6_init_0 2 rfl rfl)
theorem dX6_init_3 : decode cX6_init 3 = .ok (.iload_n 3, 1) := dk_29 (dk_at dksX6_init_0 3 rfl rfl)
theorem dX6_init_4 : decode cX6_init 4 = .ok (.iload 4, 2) := dk_21 4 (dk_at dksX6_init_0 4 rfl rfl)
theorem dX6_init_6 : decode cX6_init 6 = .ok (.invokespecial 3, 3) := dk_183 0 3 (dk_at dksX6_init_0 6 rfl rfl)
theorem dX6_init_9 : decode cX6_init 9 = .ok (.return_, 1) := dk_177 (dk_at dksX6_init_0 9 rfl rfl)
abbrev cX6_kind : ByteArray := prog_7_method_2_code
def yX6_kind : MethodName := ⟨RX6, "kind", "()I"⟩
theorem dX6_kind_0 : decode cX6_kind 0 = .ok (.iconst 4, 1) := by decide +kernel
theorem dX6_kind_1 : decode cX6_kind 1 = .ok (.ireturn, 1) := by decide +kernel
abbrev cX6_means : ByteArray := prog_7_method_4_code
def yX6_means : MethodName := ⟨RX6, "means", "()I"⟩
def dkwX6_means_0 : List UInt8 := [42, 183, 0, 13, 42, 182, 0, 17, 96, 16, 10, 112, 172]
abbrev dktX6_means_0 : List UInt8 := dkwX6_means_0 ++ []
theorem dksX6_means_0 : cX6_means.data.toList.drop 0 = dktX6_means_0 := by decide +kernel
theorem dX6_means_0 : decode cX6_means 0 = .ok (.aload_n 0, 1) := dk_42 (dk_at dksX6_means_0 0 rfl rfl)
theorem dX6_means_1 : decode cX6_means 1 = .ok (.invokespecial 13, 3) := dk_183 0 13 (dk_at dksX6_means_0 1 rfl rfl)
theorem dX6_means_4 : decode cX6_means 4 = .ok (.aload_n 0, 1) := dk_42 (dk_at dksX6_means_0 4 rfl rfl)
theorem dX6_means_5 : decode cX6_means 5 = .ok (.invokevirtual 17, 3) := dk_182 0 17 (dk_at dksX6_means_0 5 rfl rfl)
theorem dX6_means_8 : decode cX6_means 8 = .ok (.iadd, 1) := dk_96 (dk_at dksX6_means_0 8 rfl rfl)
theorem dX6_means_9 : decode cX6_means 9 = .ok (.bipush 10, 2) := dk_16 10 (dk_at dksX6_means_0 9 rfl rfl)
theorem dX6_means_11 : decode cX6_means 11 = .ok (.irem, 1) := dk_112 (dk_at dksX6_means_0 11 rfl rfl)
theorem dX6_means_12 : decode cX6_means 12 = .ok (.ireturn, 1) := dk_172 (dk_at dksX6_means_0 12 rfl rfl)
abbrev cX6_is : ByteArray := prog_7_method_3_code
def yX6_is : MethodName := ⟨RX6, "is", "(I)Z"⟩
def dkwX6_is_0 : List UInt8 := [27, 7, 159, 0, 11, 42, 27, 183, 0, 9, 153, 0, 7, 4, 167, 0, 4, 3, 172]
abbrev dktX6_is_0 : List UInt8 := dkwX6_is_0 ++ []
theorem dksX6_is_0 : cX6_is.data.toList.drop 0 = dktX6_is_0 := by decide +kernel
theorem dX6_is_0 : decode cX6_is 0 = .ok (.iload_n 1, 1) := dk_27 (dk_at dksX6_is_0 0 rfl rfl)
theorem dX6_is_1 : decode cX6_is 1 = .ok (.iconst 4, 1) := dk_7 (dk_at dksX6_is_0 1 rfl rfl)
theorem dX6_is_2 : decode cX6_is 2 = .ok (.if_icmp .eq 11, 3) := dk_159 0 11 (dk_at dksX6_is_0 2 rfl rfl)
theorem dX6_is_5 : decode cX6_is 5 = .ok (.aload_n 0, 1) := dk_42 (dk_at dksX6_is_0 5 rfl rfl)
theorem dX6_is_6 : decode cX6_is 6 = .ok (.iload_n 1, 1) := dk_27 (dk_at dksX6_is_0 6 rfl rfl)
theorem dX6_is_7 : decode cX6_is 7 = .ok (.invokespecial 9, 3) := dk_183 0 9 (dk_at dksX6_is_0 7 rfl rfl)
theorem dX6_is_10 : decode cX6_is 10 = .ok (.ifCond .eq 7, 3) := dk_153 0 7 (dk_at dksX6_is_0 10 rfl rfl)
theorem dX6_is_13 : decode cX6_is 13 = .ok (.iconst 1, 1) := dk_4 (dk_at dksX6_is_0 13 rfl rfl)
theorem dX6_is_14 : decode cX6_is 14 = .ok (.goto 4, 3) := dk_167 0 4 (dk_at dksX6_is_0 14 rfl rfl)
theorem dX6_is_17 : decode cX6_is 17 = .ok (.iconst 0, 1) := dk_3 (dk_at dksX6_is_0 17 rfl rfl)
theorem dX6_is_18 : decode cX6_is 18 = .ok (.ireturn, 1) := dk_172 (dk_at dksX6_is_0 18 rfl rfl)
abbrev cX6_goneBy : ByteArray := prog_7_method_5_code
def yX6_goneBy : MethodName := ⟨RX6, "goneBy", "()I"⟩
def dkwX6_goneBy_0 : List UInt8 := [42, 182, 0, 22, 42, 182, 0, 23, 100, 16, 10, 96, 172]
abbrev dktX6_goneBy_0 : List UInt8 := dkwX6_goneBy_0 ++ []
theorem dksX6_goneBy_0 : cX6_goneBy.data.toList.drop 0 = dktX6_goneBy_0 := by decide +kernel
theorem dX6_goneBy_0 : decode cX6_goneBy 0 = .ok (.aload_n 0, 1) := dk_42 (dk_at dksX6_goneBy_0 0 rfl rfl)
theorem dX6_goneBy_1 : decode cX6_goneBy 1 = .ok (.invokevirtual 22, 3) := dk_182 0 22 (dk_at dksX6_goneBy_0 1 rfl rfl)
theorem dX6_goneBy_4 : decode cX6_goneBy 4 = .ok (.aload_n 0, 1) := dk_42 (dk_at dksX6_goneBy_0 4 rfl rfl)
theorem dX6_goneBy_5 : decode cX6_goneBy 5 = .ok (.invokevirtual 23, 3) := dk_182 0 23 (dk_at dksX6_goneBy_0 5 rfl rfl)
theorem dX6_goneBy_8 : decode cX6_goneBy 8 = .ok (.isub, 1) := dk_100 (dk_at dksX6_goneBy_0 8 rfl rfl)
theorem dX6_goneBy_9 : decode cX6_goneBy 9 = .ok (.bipush 10, 2) := dk_16 10 (dk_at dksX6_goneBy_0 9 rfl rfl)
theorem dX6_goneBy_11 : decode cX6_goneBy 11 = .ok (.iadd, 1) := dk_96 (dk_at dksX6_goneBy_0 11 rfl rfl)
theorem dX6_goneBy_12 : decode cX6_goneBy 12 = .ok (.ireturn, 1) := dk_172 (dk_at dksX6_goneBy_0 12 rfl rfl)
theorem q90 : (Jvm.Cond.initialized "LostQuestions$Time") ∈ lw_all := lw_g (lw_at lw_m1 17 rfl) rfl
theorem q485 : (Jvm.Cond.instantiable "LostQuestions$Time" (4 : Nat)) ∈ lw_all := lw_g (lw_at lw_m2 172 rfl) rfl
theorem q487 : (Jvm.Cond.instanceMethod ({ cls := "LostQuestions$Time", name := "<init>", desc := "(IIII)V" } : Jvm.MethodName)) ∈ lw_all := lw_g (lw_at lw_m2 174 rfl) rfl
theorem q488 : (Jvm.Cond.code ({ cls := "LostQuestions$Time", name := "<init>", desc := "(IIII)V" } : Jvm.MethodName) prog_7_method_1_code (5 : Nat) (Option.none : Option Jvm.ClassFile.FieldType)) ∈ lw_all := lw_g (lw_at lw_m2 175 rfl) rfl
theorem q489 : (Jvm.Cond.methodLink "LostQuestions$Time" (3 : Nat) ({ cls := "LostQuestions$Card", name := "<init>", desc := "(IIII)V" } : Jvm.MethodName)) ∈ lw_all := lw_g (lw_at lw_m2 176 rfl) rfl
theorem q490 : (Jvm.Cond.laysFinal "LostQuestions$Time" "LostQuestions$Card" "number" "I") ∈ lw_all := lw_g (lw_at lw_m2 177 rfl) rfl
theorem q491 : (Jvm.Cond.laysFinal "LostQuestions$Time" "LostQuestions$Card" "says" "I") ∈ lw_all := lw_g (lw_at lw_m2 178 rfl) rfl
theorem q492 : (Jvm.Cond.lays "LostQuestions$Time" "LostQuestions$Card" "shelf" "I") ∈ lw_all := lw_g (lw_at lw_m2 179 rfl) rfl
theorem q493 : (Jvm.Cond.lays "LostQuestions$Time" "LostQuestions$Card" "age" "I") ∈ lw_all := lw_g (lw_at lw_m2 180 rfl) rfl
theorem q494 : (Jvm.Cond.superclass "LostQuestions$Time" "LostQuestions$Card") ∈ lw_all := lw_g (lw_at lw_m2 181 rfl) rfl
theorem q538 : (Jvm.Cond.selects "LostQuestions$Time" ({ cls := "LostQuestions$Card", name := "kind", desc := "()I" } : Jvm.MethodName) ({ cls := "LostQuestions$Time", name := "kind", desc := "()I" } : Jvm.MethodName)) ∈ lw_all := lw_g (lw_at lw_m2 225 rfl) rfl
theorem q539 : (Jvm.Cond.instanceMethod ({ cls := "LostQuestions$Time", name := "kind", desc := "()I" } : Jvm.MethodName)) ∈ lw_all := lw_g (lw_at lw_m2 226 rfl) rfl
theorem q540 : (Jvm.Cond.code ({ cls := "LostQuestions$Time", name := "kind", desc := "()I" } : Jvm.MethodName) prog_7_method_2_code (1 : Nat) (Option.some Jvm.ClassFile.FieldType.int)) ∈ lw_all := lw_g (lw_at lw_m2 227 rfl) rfl
theorem q552 : (Jvm.Cond.selects "LostQuestions$Time" ({ cls := "LostQuestions$Card", name := "says", desc := "()I" } : Jvm.MethodName) ({ cls := "LostQuestions$Card", name := "says", desc := "()I" } : Jvm.MethodName)) ∈ lw_all := lw_g (lw_at lw_m2 239 rfl) rfl
theorem q569 : (Jvm.Cond.selects "LostQuestions$Time" ({ cls := "LostQuestions$Card", name := "means", desc := "()I" } : Jvm.MethodName) ({ cls := "LostQuestions$Time", name := "means", desc := "()I" } : Jvm.MethodName)) ∈ lw_all := lw_g (lw_at lw_m3 16 rfl) rfl
theorem q570 : (Jvm.Cond.instanceMethod ({ cls := "LostQuestions$Time", name := "means", desc := "()I" } : Jvm.MethodName)) ∈ lw_all := lw_g (lw_at lw_m3 17 rfl) rfl
theorem q571 : (Jvm.Cond.code ({ cls := "LostQuestions$Time", name := "means", desc := "()I" } : Jvm.MethodName) prog_7_method_4_code (1 : Nat) (Option.some Jvm.ClassFile.FieldType.int)) ∈ lw_all := lw_g (lw_at lw_m3 18 rfl) rfl
theorem q572 : (Jvm.Cond.methodLink "LostQuestions$Time" (13 : Nat) ({ cls := "LostQuestions$Card", name := "means", desc := "()I" } : Jvm.MethodName)) ∈ lw_all := lw_g (lw_at lw_m3 19 rfl) rfl
theorem q573 : (Jvm.Cond.methodLink "LostQuestions$Time" (17 : Nat) ({ cls := "LostQuestions$Time", name := "age", desc := "()I" } : Jvm.MethodName)) ∈ lw_all := lw_g (lw_at lw_m3 20 rfl) rfl
theorem q574 : (Jvm.Cond.sameMethod "LostQuestions$Time" "LostQuestions$Card" "age" "()I") ∈ lw_all := lw_g (lw_at lw_m3 21 rfl) rfl
theorem q576 : (Jvm.Cond.selects "LostQuestions$Time" ({ cls := "LostQuestions$Time", name := "age", desc := "()I" } : Jvm.MethodName) ({ cls := "LostQuestions$Card", name := "age", desc := "()I" } : Jvm.MethodName)) ∈ lw_all := lw_g (lw_at lw_m3 23 rfl) rfl
theorem q652 : (Jvm.Cond.selects "LostQuestions$Time" ({ cls := "LostQuestions$Card", name := "is", desc := "(I)Z" } : Jvm.MethodName) ({ cls := "LostQuestions$Time", name := "is", desc := "(I)Z" } : Jvm.MethodName)) ∈ lw_all := lw_g (lw_at lw_m3 99 rfl) rfl
theorem q653 : (Jvm.Cond.instanceMethod ({ cls := "LostQuestions$Time", name := "is", desc := "(I)Z" } : Jvm.MethodName)) ∈ lw_all := lw_g (lw_at lw_m3 100 rfl) rfl
theorem q654 : (Jvm.Cond.code ({ cls := "LostQuestions$Time", name := "is", desc := "(I)Z" } : Jvm.MethodName) prog_7_method_3_code (2 : Nat) (Option.some Jvm.ClassFile.FieldType.boolean)) ∈ lw_all := lw_g (lw_at lw_m3 101 rfl) rfl
theorem q655 : (Jvm.Cond.methodLink "LostQuestions$Time" (9 : Nat) ({ cls := "LostQuestions$Card", name := "is", desc := "(I)Z" } : Jvm.MethodName)) ∈ lw_all := lw_g (lw_at lw_m3 102 rfl) rfl
theorem q694 : (Jvm.Cond.instanceMethod ({ cls := "LostQuestions$Time", name := "goneBy", desc := "()I" } : Jvm.MethodName)) ∈ lw_all := lw_g (lw_at lw_m3 141 rfl) rfl
theorem q695 : (Jvm.Cond.selects "LostQuestions$Time" ({ cls := "LostQuestions$Time", name := "goneBy", desc := "()I" } : Jvm.MethodName) ({ cls := "LostQuestions$Time", name := "goneBy", desc := "()I" } : Jvm.MethodName)) ∈ lw_all := lw_g (lw_at lw_m3 142 rfl) rfl
theorem q696 : (Jvm.Cond.code ({ cls := "LostQuestions$Time", name := "goneBy", desc := "()I" } : Jvm.MethodName) prog_7_method_5_code (1 : Nat) (Option.some Jvm.ClassFile.FieldType.int)) ∈ lw_all := lw_g (lw_at lw_m3 143 rfl) rfl
theorem q697 : (Jvm.Cond.methodLink "LostQuestions$Time" (22 : Nat) ({ cls := "LostQuestions$Time", name := "means", desc := "()I" } : Jvm.MethodName)) ∈ lw_all := lw_g (lw_at lw_m3 144 rfl) rfl
theorem q698 : (Jvm.Cond.methodLink "LostQuestions$Time" (23 : Nat) ({ cls := "LostQuestions$Time", name := "says", desc := "()I" } : Jvm.MethodName)) ∈ lw_all := lw_g (lw_at lw_m3 145 rfl) rfl
theorem q699 : (Jvm.Cond.sameMethod "LostQuestions$Time" "LostQuestions$Card" "says" "()I") ∈ lw_all := lw_g (lw_at lw_m3 146 rfl) rfl
theorem q701 : (Jvm.Cond.selects "LostQuestions$Time" ({ cls := "LostQuestions$Time", name := "says", desc := "()I" } : Jvm.MethodName) ({ cls := "LostQuestions$Card", name := "says", desc := "()I" } : Jvm.MethodName)) ∈ lw_all := lw_g (lw_at lw_m3 148 rfl) rfl
theorem q1439 : (Jvm.Cond.selects "LostQuestions$Time" ({ cls := "LostQuestions$Time", name := "means", desc := "()I" } : Jvm.MethodName) ({ cls := "LostQuestions$Time", name := "means", desc := "()I" } : Jvm.MethodName)) ∈ lw_all := lw_g (lw_at lw_m6 166 rfl) rfl
theorem q1447 : (Jvm.Cond.castable "LostQuestions$Time" "LostQuestions$Card") ∈ lw_tbl := lw_at lw_m6 174 rfl
theorem in_X6 : ∀ w ∈ wsX60, w ∈ lw_all := lw_in wsX60 [490, 491, 492, 493] (by decide +kernel) (by decide +kernel)
/-! LostQuestions$Behind -/
set_option maxRecDepth 100000
def RX7 : String := "LostQuestions$Behind"
def TX7 : u_T := fun k => match k with
  | 0 => ("LostQuestions$Card", "number", "I", true)
  | 1 => ("LostQuestions$Card", "says", "I", true)
  | 2 => ("LostQuestions$Card", "shelf", "I", false)
  | _ => ("LostQuestions$Card", "age", "I", false)
def tyX7 : Nat → FieldType := fun k => match k with
  | 0 => .int
  | 1 => .int
  | 2 => .int
  | _ => .int
abbrev wsX70 : List Cond := u_ws RX7 TX7 4
theorem nmX7 : ∀ a, a < 4 → ∀ b, b < 4 → a ≠ b → (TX7 a).2.1 ≠ (TX7 b).2.1 := by decide +kernel
theorem tyX7_ok : ∀ k, k < 4 → parseFieldDescriptor (TX7 k).2.2.1 = some (tyX7 k) := by decide +kernel
abbrev cX7_init : ByteArray := prog_2_method_1_code
def yX7_init : MethodName := ⟨RX7, "<init>", "(IIII)V"⟩
def dkwX7_init_0 : List UInt8 := [42, 27, 28, 29, 21, 4, 183, 0, 3, 177]
abbrev dktX7_init_0 : List UInt8 := dkwX7_init_0 ++ []
theorem dksX7_init_0 : cX7_init.data.toList.drop 0 = dktX7_init_0 := by decide +kernel
theorem dX7_init_0 : decode cX7_init 0 = .ok (.aload_n 0, 1) := dk_42 (dk_at dksX7_init_0 0 rfl rfl)
theorem dX7_init_1 : decode cX7_init 1 = .ok (.iload_n 1, 1) := dk_27 (dk_at dksX7_init_0 1 rfl rfl)
theorem dX7_init_2 : decode cX7_init 2 = .ok (.iload_n 2, 1) := dk_28 (dk_at dksX7_init_0 2 rfl rfl)
theorem dX7_init_3 : decode cX7_init 3 = .ok (.iload_n 3, 1) := dk_29 (dk_at dksX7_init_0 3 rfl rfl)
theorem dX7_init_4 : decode cX7_init 4 = .ok (.iload 4, 2) := dk_21 4 (dk_at dksX7_init_0 4 rfl rfl)
theorem dX7_init_6 : decode cX7_init 6 = .ok (.invokespecial 3, 3) := dk_183 0 3 (dk_at dksX7_init_0 6 rfl rfl)
theorem dX7_init_9 : decode cX7_init 9 = .ok (.return_, 1) := dk_177 (dk_at dksX7_init_0 9 rfl rfl)
abbrev cX7_kind : ByteArray := prog_2_method_2_code
def yX7_kind : MethodName := ⟨RX7, "kind", "()I"⟩
theorem dX7_kind_0 : decode cX7_kind 0 = .ok (.iconst 5, 1) := by decide +kernel
theorem dX7_kind_1 : decode cX7_kind 1 = .ok (.ireturn, 1) := by decide +kernel
abbrev cX7_means : ByteArray := prog_2_method_4_code
def yX7_means : MethodName := ⟨RX7, "means", "()I"⟩
def dkwX7_means_0 : List UInt8 := [4, 42, 183, 0, 13, 96, 16, 10, 112, 172]
abbrev dktX7_means_0 : List UInt8 := dkwX7_means_0 ++ []
theorem dksX7_means_0 : cX7_means.data.toList.drop 0 = dktX7_means_0 := by decide +kernel
theorem dX7_means_0 : decode cX7_means 0 = .ok (.iconst 1, 1) := dk_4 (dk_at dksX7_means_0 0 rfl rfl)
theorem dX7_means_1 : decode cX7_means 1 = .ok (.aload_n 0, 1) := dk_42 (dk_at dksX7_means_0 1 rfl rfl)
theorem dX7_means_2 : decode cX7_means 2 = .ok (.invokespecial 13, 3) := dk_183 0 13 (dk_at dksX7_means_0 2 rfl rfl)
theorem dX7_means_5 : decode cX7_means 5 = .ok (.iadd, 1) := dk_96 (dk_at dksX7_means_0 5 rfl rfl)
theorem dX7_means_6 : decode cX7_means 6 = .ok (.bipush 10, 2) := dk_16 10 (dk_at dksX7_means_0 6 rfl rfl)
theorem dX7_means_8 : decode cX7_means 8 = .ok (.irem, 1) := dk_112 (dk_at dksX7_means_0 8 rfl rfl)
theorem dX7_means_9 : decode cX7_means 9 = .ok (.ireturn, 1) := dk_172 (dk_at dksX7_means_0 9 rfl rfl)
abbrev cX7_is : ByteArray := prog_2_method_3_code
def yX7_is : MethodName := ⟨RX7, "is", "(I)Z"⟩
def dkwX7_is_0 : List UInt8 := [27, 8, 159, 0, 11, 42, 27, 183, 0, 9, 153, 0, 7, 4, 167, 0, 4, 3, 172]
abbrev dktX7_is_0 : List UInt8 := dkwX7_is_0 ++ []
theorem dksX7_is_0 : cX7_is.data.toList.drop 0 = dktX7_is_0 := by decide +kernel
theorem dX7_is_0 : decode cX7_is 0 = .ok (.iload_n 1, 1) := dk_27 (dk_at dksX7_is_0 0 rfl rfl)
theorem dX7_is_1 : decode cX7_is 1 = .ok (.iconst 5, 1) := dk_8 (dk_at dksX7_is_0 1 rfl rfl)
theorem dX7_is_2 : decode cX7_is 2 = .ok (.if_icmp .eq 11, 3) := dk_159 0 11 (dk_at dksX7_is_0 2 rfl rfl)
theorem dX7_is_5 : decode cX7_is 5 = .ok (.aload_n 0, 1) := dk_42 (dk_at dksX7_is_0 5 rfl rfl)
theorem dX7_is_6 : decode cX7_is 6 = .ok (.iload_n 1, 1) := dk_27 (dk_at dksX7_is_0 6 rfl rfl)
theorem dX7_is_7 : decode cX7_is 7 = .ok (.invokespecial 9, 3) := dk_183 0 9 (dk_at dksX7_is_0 7 rfl rfl)
theorem dX7_is_10 : decode cX7_is 10 = .ok (.ifCond .eq 7, 3) := dk_153 0 7 (dk_at dksX7_is_0 10 rfl rfl)
theorem dX7_is_13 : decode cX7_is 13 = .ok (.iconst 1, 1) := dk_4 (dk_at dksX7_is_0 13 rfl rfl)
theorem dX7_is_14 : decode cX7_is 14 = .ok (.goto 4, 3) := dk_167 0 4 (dk_at dksX7_is_0 14 rfl rfl)
theorem dX7_is_17 : decode cX7_is 17 = .ok (.iconst 0, 1) := dk_3 (dk_at dksX7_is_0 17 rfl rfl)
theorem dX7_is_18 : decode cX7_is 18 = .ok (.ireturn, 1) := dk_172 (dk_at dksX7_is_0 18 rfl rfl)
abbrev cX7_before : ByteArray := prog_2_method_5_code
def yX7_before : MethodName := ⟨RX7, "before", "(LLostQuestions;)I"⟩
def dkwX7_before_0 : List UInt8 := [43, 5, 42, 182, 0, 17, 182, 0, 20, 172]
abbrev dktX7_before_0 : List UInt8 := dkwX7_before_0 ++ []
theorem dksX7_before_0 : cX7_before.data.toList.drop 0 = dktX7_before_0 := by decide +kernel
theorem dX7_before_0 : decode cX7_before 0 = .ok (.aload_n 1, 1) := dk_43 (dk_at dksX7_before_0 0 rfl rfl)
theorem dX7_before_1 : decode cX7_before 1 = .ok (.iconst 2, 1) := dk_5 (dk_at dksX7_before_0 1 rfl rfl)
theorem dX7_before_2 : decode cX7_before 2 = .ok (.aload_n 0, 1) := dk_42 (dk_at dksX7_before_0 2 rfl rfl)
theorem dX7_before_3 : decode cX7_before 3 = .ok (.invokevirtual 17, 3) := dk_182 0 17 (dk_at dksX7_before_0 3 rfl rfl)
theorem dX7_before_6 : decode cX7_before 6 = .ok (.invokevirtual 20, 3) := dk_182 0 20 (dk_at dksX7_before_0 6 rfl rfl)
theorem dX7_before_9 : decode cX7_before 9 = .ok (.ireturn, 1) := dk_172 (dk_at dksX7_before_0 9 rfl rfl)
theorem q91 : (Jvm.Cond.initialized "LostQuestions$Behind") ∈ lw_all := lw_g (lw_at lw_m1 18 rfl) rfl
theorem q496 : (Jvm.Cond.instantiable "LostQuestions$Behind" (4 : Nat)) ∈ lw_all := lw_g (lw_at lw_m2 183 rfl) rfl
theorem q498 : (Jvm.Cond.instanceMethod ({ cls := "LostQuestions$Behind", name := "<init>", desc := "(IIII)V" } : Jvm.MethodName)) ∈ lw_all := lw_g (lw_at lw_m2 185 rfl) rfl
theorem q499 : (Jvm.Cond.code ({ cls := "LostQuestions$Behind", name := "<init>", desc := "(IIII)V" } : Jvm.MethodName) prog_2_method_1_code (5 : Nat) (Option.none : Option Jvm.ClassFile.FieldType)) ∈ lw_all := lw_g (lw_at lw_m2 186 rfl) rfl
theorem q500 : (Jvm.Cond.methodLink "LostQuestions$Behind" (3 : Nat) ({ cls := "LostQuestions$Place", name := "<init>", desc := "(IIII)V" } : Jvm.MethodName)) ∈ lw_all := lw_g (lw_at lw_m2 187 rfl) rfl
theorem q501 : (Jvm.Cond.laysFinal "LostQuestions$Behind" "LostQuestions$Card" "number" "I") ∈ lw_all := lw_g (lw_at lw_m2 188 rfl) rfl
theorem q502 : (Jvm.Cond.laysFinal "LostQuestions$Behind" "LostQuestions$Card" "says" "I") ∈ lw_all := lw_g (lw_at lw_m2 189 rfl) rfl
theorem q503 : (Jvm.Cond.lays "LostQuestions$Behind" "LostQuestions$Card" "shelf" "I") ∈ lw_all := lw_g (lw_at lw_m2 190 rfl) rfl
theorem q504 : (Jvm.Cond.lays "LostQuestions$Behind" "LostQuestions$Card" "age" "I") ∈ lw_all := lw_g (lw_at lw_m2 191 rfl) rfl
theorem q505 : (Jvm.Cond.superclass "LostQuestions$Behind" "LostQuestions$Place") ∈ lw_all := lw_g (lw_at lw_m2 192 rfl) rfl
theorem q529 : (Jvm.Cond.selects "LostQuestions$Behind" ({ cls := "LostQuestions$Card", name := "kind", desc := "()I" } : Jvm.MethodName) ({ cls := "LostQuestions$Behind", name := "kind", desc := "()I" } : Jvm.MethodName)) ∈ lw_all := lw_g (lw_at lw_m2 216 rfl) rfl
theorem q530 : (Jvm.Cond.instanceMethod ({ cls := "LostQuestions$Behind", name := "kind", desc := "()I" } : Jvm.MethodName)) ∈ lw_all := lw_g (lw_at lw_m2 217 rfl) rfl
theorem q531 : (Jvm.Cond.code ({ cls := "LostQuestions$Behind", name := "kind", desc := "()I" } : Jvm.MethodName) prog_2_method_2_code (1 : Nat) (Option.some Jvm.ClassFile.FieldType.int)) ∈ lw_all := lw_g (lw_at lw_m2 218 rfl) rfl
theorem q549 : (Jvm.Cond.selects "LostQuestions$Behind" ({ cls := "LostQuestions$Card", name := "says", desc := "()I" } : Jvm.MethodName) ({ cls := "LostQuestions$Card", name := "says", desc := "()I" } : Jvm.MethodName)) ∈ lw_all := lw_g (lw_at lw_m2 236 rfl) rfl
theorem q559 : (Jvm.Cond.selects "LostQuestions$Behind" ({ cls := "LostQuestions$Card", name := "means", desc := "()I" } : Jvm.MethodName) ({ cls := "LostQuestions$Behind", name := "means", desc := "()I" } : Jvm.MethodName)) ∈ lw_all := lw_g (lw_at lw_m3 6 rfl) rfl
theorem q560 : (Jvm.Cond.instanceMethod ({ cls := "LostQuestions$Behind", name := "means", desc := "()I" } : Jvm.MethodName)) ∈ lw_all := lw_g (lw_at lw_m3 7 rfl) rfl
theorem q561 : (Jvm.Cond.code ({ cls := "LostQuestions$Behind", name := "means", desc := "()I" } : Jvm.MethodName) prog_2_method_4_code (1 : Nat) (Option.some Jvm.ClassFile.FieldType.int)) ∈ lw_all := lw_g (lw_at lw_m3 8 rfl) rfl
theorem q562 : (Jvm.Cond.methodLink "LostQuestions$Behind" (13 : Nat) ({ cls := "LostQuestions$Place", name := "means", desc := "()I" } : Jvm.MethodName)) ∈ lw_all := lw_g (lw_at lw_m3 9 rfl) rfl
theorem q637 : (Jvm.Cond.selects "LostQuestions$Behind" ({ cls := "LostQuestions$Card", name := "is", desc := "(I)Z" } : Jvm.MethodName) ({ cls := "LostQuestions$Behind", name := "is", desc := "(I)Z" } : Jvm.MethodName)) ∈ lw_all := lw_g (lw_at lw_m3 84 rfl) rfl
theorem q638 : (Jvm.Cond.instanceMethod ({ cls := "LostQuestions$Behind", name := "is", desc := "(I)Z" } : Jvm.MethodName)) ∈ lw_all := lw_g (lw_at lw_m3 85 rfl) rfl
theorem q639 : (Jvm.Cond.code ({ cls := "LostQuestions$Behind", name := "is", desc := "(I)Z" } : Jvm.MethodName) prog_2_method_3_code (2 : Nat) (Option.some Jvm.ClassFile.FieldType.boolean)) ∈ lw_all := lw_g (lw_at lw_m3 86 rfl) rfl
theorem q640 : (Jvm.Cond.methodLink "LostQuestions$Behind" (9 : Nat) ({ cls := "LostQuestions$Place", name := "is", desc := "(I)Z" } : Jvm.MethodName)) ∈ lw_all := lw_g (lw_at lw_m3 87 rfl) rfl
theorem q662 : (Jvm.Cond.selects "LostQuestions$Behind" ({ cls := "LostQuestions$Place", name := "besides", desc := "(LLostQuestions;)I" } : Jvm.MethodName) ({ cls := "LostQuestions$Place", name := "besides", desc := "(LLostQuestions;)I" } : Jvm.MethodName)) ∈ lw_all := lw_g (lw_at lw_m3 109 rfl) rfl
theorem q667 : (Jvm.Cond.selects "LostQuestions$Behind" ({ cls := "LostQuestions$Place", name := "number", desc := "()I" } : Jvm.MethodName) ({ cls := "LostQuestions$Card", name := "number", desc := "()I" } : Jvm.MethodName)) ∈ lw_all := lw_g (lw_at lw_m3 114 rfl) rfl
theorem q703 : (Jvm.Cond.instanceMethod ({ cls := "LostQuestions$Behind", name := "before", desc := "(LLostQuestions;)I" } : Jvm.MethodName)) ∈ lw_all := lw_g (lw_at lw_m3 150 rfl) rfl
theorem q704 : (Jvm.Cond.selects "LostQuestions$Behind" ({ cls := "LostQuestions$Behind", name := "before", desc := "(LLostQuestions;)I" } : Jvm.MethodName) ({ cls := "LostQuestions$Behind", name := "before", desc := "(LLostQuestions;)I" } : Jvm.MethodName)) ∈ lw_all := lw_g (lw_at lw_m3 151 rfl) rfl
theorem q705 : (Jvm.Cond.code ({ cls := "LostQuestions$Behind", name := "before", desc := "(LLostQuestions;)I" } : Jvm.MethodName) prog_2_method_5_code (2 : Nat) (Option.some Jvm.ClassFile.FieldType.int)) ∈ lw_all := lw_g (lw_at lw_m3 152 rfl) rfl
theorem q706 : (Jvm.Cond.methodLink "LostQuestions$Behind" (17 : Nat) ({ cls := "LostQuestions$Behind", name := "means", desc := "()I" } : Jvm.MethodName)) ∈ lw_all := lw_g (lw_at lw_m3 153 rfl) rfl
theorem q707 : (Jvm.Cond.methodLinkNest "LostQuestions$Behind" (20 : Nat) ({ cls := "LostQuestions", name := "saying", desc := "(II)I" } : Jvm.MethodName) "LostQuestions") ∈ lw_tbl := lw_at lw_m3 154 rfl
theorem q1440 : (Jvm.Cond.selects "LostQuestions$Behind" ({ cls := "LostQuestions$Behind", name := "means", desc := "()I" } : Jvm.MethodName) ({ cls := "LostQuestions$Behind", name := "means", desc := "()I" } : Jvm.MethodName)) ∈ lw_all := lw_g (lw_at lw_m6 167 rfl) rfl
theorem q1443 : (Jvm.Cond.castable "LostQuestions$Behind" "LostQuestions$Place") ∈ lw_tbl := lw_at lw_m6 170 rfl
theorem q1448 : (Jvm.Cond.castable "LostQuestions$Behind" "LostQuestions$Card") ∈ lw_tbl := lw_at lw_m6 175 rfl
theorem in_X7 : ∀ w ∈ wsX70, w ∈ lw_all := lw_in wsX70 [501, 502, 503, 504] (by decide +kernel) (by decide +kernel)
/-! LostQuestions$Kept -/
set_option maxRecDepth 100000
def RX8 : String := "LostQuestions$Kept"
def TX8 : u_T := fun k => match k with
  | 0 => ("LostQuestions$Kept", "takingMany", "I", false)
  | 1 => ("LostQuestions$Kept", "takings", "[I", true)
  | 2 => ("LostQuestions$Kept", "ahead", "[I", true)
  | 3 => ("LostQuestions$Kept", "by", "[I", true)
  | 4 => ("LostQuestions$Kept", "truths", "[I", true)
  | 5 => ("LostQuestions$Kept", "shelves", "[I", true)
  | _ => ("LostQuestions$Kept", "ages", "[I", true)
def tyX8 : Nat → FieldType := fun k => match k with
  | 0 => .int
  | 1 => .array .int
  | 2 => .array .int
  | 3 => .array .int
  | 4 => .array .int
  | 5 => .array .int
  | _ => .array .int
abbrev wsX80 : List Cond := u_ws RX8 TX8 7
theorem nmX8 : ∀ a, a < 7 → ∀ b, b < 7 → a ≠ b → (TX8 a).2.1 ≠ (TX8 b).2.1 := by decide +kernel
theorem tyX8_ok : ∀ k, k < 7 → parseFieldDescriptor (TX8 k).2.2.1 = some (tyX8 k) := by decide +kernel
abbrev cX8_init : ByteArray := prog_4_method_1_code
def yX8_init : MethodName := ⟨RX8, "<init>", "()V"⟩
def dkwX8_init_2 : List UInt8 := [188, 10, 181, 0, 27, 177]
abbrev dktX8_init_2 : List UInt8 := dkwX8_init_2 ++ []
def dkwX8_init_1 : List UInt8 := [188, 10, 181, 0, 18, 42, 16, 7, 188, 10, 181, 0, 21, 42, 16, 7, 188, 10, 181, 0, 24, 42, 16, 7]
abbrev dktX8_init_1 : List UInt8 := dkwX8_init_1 ++ dktX8_init_2
def dkwX8_init_0 : List UInt8 := [42, 183, 0, 3, 42, 16, 40, 188, 10, 181, 0, 9, 42, 17, 1, 24, 188, 10, 181, 0, 15, 42, 16, 7]
abbrev dktX8_init_0 : List UInt8 := dkwX8_init_0 ++ dktX8_init_1
theorem dksX8_init_0 : cX8_init.data.toList.drop 0 = dktX8_init_0 := by decide +kernel
theorem dksX8_init_1 : cX8_init.data.toList.drop 24 = dktX8_init_1 := dk_seg dksX8_init_0 24 rfl rfl
theorem dksX8_init_2 : cX8_init.data.toList.drop 48 = dktX8_init_2 := dk_seg dksX8_init_1 24 rfl rfl
theorem dX8_init_0 : decode cX8_init 0 = .ok (.aload_n 0, 1) := dk_42 (dk_at dksX8_init_0 0 rfl rfl)
theorem dX8_init_1 : decode cX8_init 1 = .ok (.invokespecial 3, 3) := dk_183 0 3 (dk_at dksX8_init_0 1 rfl rfl)
theorem dX8_init_4 : decode cX8_init 4 = .ok (.aload_n 0, 1) := dk_42 (dk_at dksX8_init_0 4 rfl rfl)
theorem dX8_init_5 : decode cX8_init 5 = .ok (.bipush 40, 2) := dk_16 40 (dk_at dksX8_init_0 5 rfl rfl)
theorem dX8_init_7 : decode cX8_init 7 = .ok (.newarray .int, 2) := dk_188_10 (dk_at dksX8_init_0 7 rfl rfl)
theorem dX8_init_9 : decode cX8_init 9 = .ok (.putfield 9, 3) := dk_181 0 9 (dk_at dksX8_init_0 9 rfl rfl)
theorem dX8_init_12 : decode cX8_init 12 = .ok (.aload_n 0, 1) := dk_42 (dk_at dksX8_init_0 12 rfl rfl)
theorem dX8_init_13 : decode cX8_init 13 = .ok (.sipush 280, 3) := dk_17 1 24 (dk_at dksX8_init_0 13 rfl rfl)
theorem dX8_init_16 : decode cX8_init 16 = .ok (.newarray .int, 2) := dk_188_10 (dk_at dksX8_init_0 16 rfl rfl)
theorem dX8_init_18 : decode cX8_init 18 = .ok (.putfield 15, 3) := dk_181 0 15 (dk_at dksX8_init_0 18 rfl rfl)
theorem dX8_init_21 : decode cX8_init 21 = .ok (.aload_n 0, 1) := dk_42 (dk_at dksX8_init_0 21 rfl rfl)
theorem dX8_init_22 : decode cX8_init 22 = .ok (.bipush 7, 2) := dk_16 7 (dk_at dksX8_init_0 22 rfl rfl)
theorem dX8_init_24 : decode cX8_init 24 = .ok (.newarray .int, 2) := dk_188_10 (dk_at dksX8_init_1 0 rfl rfl)
theorem dX8_init_26 : decode cX8_init 26 = .ok (.putfield 18, 3) := dk_181 0 18 (dk_at dksX8_init_1 2 rfl rfl)
theorem dX8_init_29 : decode cX8_init 29 = .ok (.aload_n 0, 1) := dk_42 (dk_at dksX8_init_1 5 rfl rfl)
theorem dX8_init_30 : decode cX8_init 30 = .ok (.bipush 7, 2) := dk_16 7 (dk_at dksX8_init_1 6 rfl rfl)
theorem dX8_init_32 : decode cX8_init 32 = .ok (.newarray .int, 2) := dk_188_10 (dk_at dksX8_init_1 8 rfl rfl)
theorem dX8_init_34 : decode cX8_init 34 = .ok (.putfield 21, 3) := dk_181 0 21 (dk_at dksX8_init_1 10 rfl rfl)
theorem dX8_init_37 : decode cX8_init 37 = .ok (.aload_n 0, 1) := dk_42 (dk_at dksX8_init_1 13 rfl rfl)
theorem dX8_init_38 : decode cX8_init 38 = .ok (.bipush 7, 2) := dk_16 7 (dk_at dksX8_init_1 14 rfl rfl)
theorem dX8_init_40 : decode cX8_init 40 = .ok (.newarray .int, 2) := dk_188_10 (dk_at dksX8_init_1 16 rfl rfl)
theorem dX8_init_42 : decode cX8_init 42 = .ok (.putfield 24, 3) := dk_181 0 24 (dk_at dksX8_init_1 18 rfl rfl)
theorem dX8_init_45 : decode cX8_init 45 = .ok (.aload_n 0, 1) := dk_42 (dk_at dksX8_init_1 21 rfl rfl)
theorem dX8_init_46 : decode cX8_init 46 = .ok (.bipush 7, 2) := dk_16 7 (dk_at dksX8_init_1 22 rfl rfl)
theorem dX8_init_48 : decode cX8_init 48 = .ok (.newarray .int, 2) := dk_188_10 (dk_at dksX8_init_2 0 rfl rfl)
theorem dX8_init_50 : decode cX8_init 50 = .ok (.putfield 27, 3) := dk_181 0 27 (dk_at dksX8_init_2 2 rfl rfl)
theorem dX8_init_53 : decode cX8_init 53 = .ok (.return_, 1) := dk_177 (dk_at dksX8_init_2 5 rfl rfl)
theorem q93 : (Jvm.Cond.initialized "LostQuestions$Kept") ∈ lw_all := lw_g (lw_at lw_m1 20 rfl) rfl
theorem q770 : (Jvm.Cond.instantiable "LostQuestions$Kept" (7 : Nat)) ∈ lw_all := lw_g (lw_at lw_m3 217 rfl) rfl
theorem q772 : (Jvm.Cond.instanceMethod ({ cls := "LostQuestions$Kept", name := "<init>", desc := "()V" } : Jvm.MethodName)) ∈ lw_all := lw_g (lw_at lw_m3 219 rfl) rfl
theorem q773 : (Jvm.Cond.code ({ cls := "LostQuestions$Kept", name := "<init>", desc := "()V" } : Jvm.MethodName) prog_4_method_1_code (1 : Nat) (Option.none : Option Jvm.ClassFile.FieldType)) ∈ lw_all := lw_g (lw_at lw_m3 220 rfl) rfl
theorem q774 : (Jvm.Cond.methodLink "LostQuestions$Kept" (3 : Nat) ({ cls := "java/lang/Object", name := "<init>", desc := "()V" } : Jvm.MethodName)) ∈ lw_all := lw_g (lw_at lw_m3 221 rfl) rfl
theorem q776 : (Jvm.Cond.fieldLink "LostQuestions$Kept" (9 : Nat) "LostQuestions$Kept" "takings" "[I") ∈ lw_all := lw_g (lw_at lw_m3 223 rfl) rfl
theorem q778 : (Jvm.Cond.fieldLink "LostQuestions$Kept" (15 : Nat) "LostQuestions$Kept" "ahead" "[I") ∈ lw_all := lw_g (lw_at lw_m3 225 rfl) rfl
theorem q780 : (Jvm.Cond.fieldLink "LostQuestions$Kept" (18 : Nat) "LostQuestions$Kept" "by" "[I") ∈ lw_all := lw_g (lw_at lw_m3 227 rfl) rfl
theorem q782 : (Jvm.Cond.fieldLink "LostQuestions$Kept" (21 : Nat) "LostQuestions$Kept" "truths" "[I") ∈ lw_all := lw_g (lw_at lw_m3 229 rfl) rfl
theorem q784 : (Jvm.Cond.fieldLink "LostQuestions$Kept" (24 : Nat) "LostQuestions$Kept" "shelves" "[I") ∈ lw_all := lw_g (lw_at lw_m3 231 rfl) rfl
theorem q786 : (Jvm.Cond.fieldLink "LostQuestions$Kept" (27 : Nat) "LostQuestions$Kept" "ages" "[I") ∈ lw_all := lw_g (lw_at lw_m3 233 rfl) rfl
theorem q788 : (Jvm.Cond.lays "LostQuestions$Kept" "LostQuestions$Kept" "takingMany" "I") ∈ lw_all := lw_g (lw_at lw_m3 235 rfl) rfl
theorem q789 : (Jvm.Cond.soleField "LostQuestions$Kept" "takingMany") ∈ lw_all := lw_g (lw_at lw_m3 236 rfl) rfl
theorem q790 : (Jvm.Cond.laysFinal "LostQuestions$Kept" "LostQuestions$Kept" "takings" "[I") ∈ lw_all := lw_g (lw_at lw_m3 237 rfl) rfl
theorem q791 : (Jvm.Cond.soleField "LostQuestions$Kept" "takings") ∈ lw_all := lw_g (lw_at lw_m3 238 rfl) rfl
theorem q792 : (Jvm.Cond.laysFinal "LostQuestions$Kept" "LostQuestions$Kept" "ahead" "[I") ∈ lw_all := lw_g (lw_at lw_m3 239 rfl) rfl
theorem q793 : (Jvm.Cond.soleField "LostQuestions$Kept" "ahead") ∈ lw_all := lw_g (lw_at lw_m4 0 rfl) rfl
theorem q794 : (Jvm.Cond.laysFinal "LostQuestions$Kept" "LostQuestions$Kept" "by" "[I") ∈ lw_all := lw_g (lw_at lw_m4 1 rfl) rfl
theorem q795 : (Jvm.Cond.soleField "LostQuestions$Kept" "by") ∈ lw_all := lw_g (lw_at lw_m4 2 rfl) rfl
theorem q796 : (Jvm.Cond.laysFinal "LostQuestions$Kept" "LostQuestions$Kept" "truths" "[I") ∈ lw_all := lw_g (lw_at lw_m4 3 rfl) rfl
theorem q797 : (Jvm.Cond.soleField "LostQuestions$Kept" "truths") ∈ lw_all := lw_g (lw_at lw_m4 4 rfl) rfl
theorem q798 : (Jvm.Cond.laysFinal "LostQuestions$Kept" "LostQuestions$Kept" "shelves" "[I") ∈ lw_all := lw_g (lw_at lw_m4 5 rfl) rfl
theorem q799 : (Jvm.Cond.soleField "LostQuestions$Kept" "shelves") ∈ lw_all := lw_g (lw_at lw_m4 6 rfl) rfl
theorem q800 : (Jvm.Cond.laysFinal "LostQuestions$Kept" "LostQuestions$Kept" "ages" "[I") ∈ lw_all := lw_g (lw_at lw_m4 7 rfl) rfl
theorem q801 : (Jvm.Cond.soleField "LostQuestions$Kept" "ages") ∈ lw_all := lw_g (lw_at lw_m4 8 rfl) rfl
theorem q802 : (Jvm.Cond.superclass "LostQuestions$Kept" "java/lang/Object") ∈ lw_all := lw_g (lw_at lw_m4 9 rfl) rfl
theorem in_X8 : ∀ w ∈ wsX80, w ∈ lw_all := lw_in wsX80 [788, 790, 792, 794, 796, 798, 800] (by decide +kernel) (by decide +kernel)
theorem q105 : (Jvm.Cond.arrayOver (Jvm.ClassFile.FieldType.array Jvm.ClassFile.FieldType.int)) ∈ lw_tbl := lw_at lw_m1 32 rfl
set_option maxRecDepth 100000
theorem q107 : (Jvm.Cond.arrayOver (Jvm.ClassFile.FieldType.array Jvm.ClassFile.FieldType.byte)) ∈ lw_tbl := lw_at lw_m1 34 rfl
theorem q109 : (Jvm.Cond.arrayOver (Jvm.ClassFile.FieldType.object "LostQuestions$Card")) ∈ lw_tbl := lw_at lw_m1 36 rfl
theorem q111 : (Jvm.Cond.arrayOver (Jvm.ClassFile.FieldType.object "LostQuestions$Kept")) ∈ lw_tbl := lw_at lw_m1 38 rfl
theorem q204 : (Jvm.Cond.arrayClass Jvm.ClassFile.FieldType.int) ∈ lw_all := lw_g (lw_at lw_m1 131 rfl) rfl
theorem q290 : (Jvm.Cond.arrayClass Jvm.ClassFile.FieldType.byte) ∈ lw_all := lw_g (lw_at lw_m1 217 rfl) rfl
theorem q1084 : (Jvm.Cond.arrayClass Jvm.ClassFile.FieldType.boolean) ∈ lw_all := lw_g (lw_at lw_m5 51 rfl) rfl
theorem q84 : (Jvm.Cond.initialized "java/lang/System") ∈ lw_all := lw_g (lw_at lw_m1 11 rfl) rfl
set_option maxRecDepth 100000
theorem q372 : (Jvm.Cond.static ({ cls := "java/lang/System", name := "arraycopy", desc := "(Ljava/lang/Object;ILjava/lang/Object;II)V" } : Jvm.MethodName)) ∈ lw_all := lw_g (lw_at lw_m2 59 rfl) rfl
theorem q373 : (Jvm.Cond.native ({ cls := "java/lang/System", name := "arraycopy", desc := "(Ljava/lang/Object;ILjava/lang/Object;II)V" } : Jvm.MethodName)) ∈ lw_all := lw_g (lw_at lw_m2 60 rfl) rfl
theorem q73 : (Jvm.Cond.initialized "LostQuestionsLaw") ∈ lw_all := lw_g (lw_at lw_m1 0 rfl) rfl
set_option maxRecDepth 100000
theorem q96 : (Jvm.Cond.classLink "LostQuestionsLaw" (7 : Nat) "LostQuestions") ∈ lw_all := lw_g (lw_at lw_m1 23 rfl) rfl
theorem q98 : (Jvm.Cond.methodLink "LostQuestionsLaw" (9 : Nat) ({ cls := "LostQuestions", name := "<init>", desc := "()V" } : Jvm.MethodName)) ∈ lw_all := lw_g (lw_at lw_m1 25 rfl) rfl
theorem q205 : (Jvm.Cond.methodLink "LostQuestionsLaw" (13 : Nat) ({ cls := "LostQuestions", name := "row", desc := "(II)I" } : Jvm.MethodName)) ∈ lw_all := lw_g (lw_at lw_m1 132 rfl) rfl
theorem q305 : (Jvm.Cond.methodLink "LostQuestionsLaw" (18 : Nat) ({ cls := "LostQuestions", name := "lay", desc := "(III)I" } : Jvm.MethodName)) ∈ lw_all := lw_g (lw_at lw_m1 232 rfl) rfl
theorem q361 : (Jvm.Cond.methodLink "LostQuestionsLaw" (23 : Nat) ({ cls := "LostQuestions", name := "at", desc := "(II)I" } : Jvm.MethodName)) ∈ lw_all := lw_g (lw_at lw_m2 48 rfl) rfl
theorem q362 : (Jvm.Cond.methodLink "LostQuestionsLaw" (27 : Nat) ({ cls := "LostQuestions", name := "tear", desc := "(I)I" } : Jvm.MethodName)) ∈ lw_all := lw_g (lw_at lw_m2 49 rfl) rfl
theorem q366 : (Jvm.Cond.methodLink "LostQuestionsLaw" (32 : Nat) ({ cls := "LostQuestions", name := "copy", desc := "(IIIII)I" } : Jvm.MethodName)) ∈ lw_all := lw_g (lw_at lw_m2 53 rfl) rfl
theorem q374 : (Jvm.Cond.methodLink "LostQuestionsLaw" (37 : Nat) ({ cls := "LostQuestions", name := "mean", desc := "(I)I" } : Jvm.MethodName)) ∈ lw_all := lw_g (lw_at lw_m2 61 rfl) rfl
theorem q392 : (Jvm.Cond.methodLink "LostQuestionsLaw" (41 : Nat) ({ cls := "LostQuestions", name := "text", desc := "(II)I" } : Jvm.MethodName)) ∈ lw_all := lw_g (lw_at lw_m2 79 rfl) rfl
theorem q399 : (Jvm.Cond.methodLink "LostQuestionsLaw" (45 : Nat) ({ cls := "LostQuestions", name := "put", desc := "(III)I" } : Jvm.MethodName)) ∈ lw_all := lw_g (lw_at lw_m2 86 rfl) rfl
theorem q403 : (Jvm.Cond.methodLink "LostQuestionsLaw" (49 : Nat) ({ cls := "LostQuestions", name := "fault", desc := "(I)I" } : Jvm.MethodName)) ∈ lw_all := lw_g (lw_at lw_m2 90 rfl) rfl
theorem q430 : (Jvm.Cond.methodLink "LostQuestionsLaw" (53 : Nat) ({ cls := "LostQuestions", name := "library", desc := "(I)I" } : Jvm.MethodName)) ∈ lw_all := lw_g (lw_at lw_m2 117 rfl) rfl
theorem q513 : (Jvm.Cond.methodLink "LostQuestionsLaw" (57 : Nat) ({ cls := "LostQuestions", name := "card", desc := "(II)I" } : Jvm.MethodName)) ∈ lw_all := lw_g (lw_at lw_m2 200 rfl) rfl
theorem q588 : (Jvm.Cond.methodLink "LostQuestionsLaw" (61 : Nat) ({ cls := "LostQuestions", name := "question", desc := "(II)I" } : Jvm.MethodName)) ∈ lw_all := lw_g (lw_at lw_m3 35 rfl) rfl
theorem q604 : (Jvm.Cond.methodLink "LostQuestionsLaw" (65 : Nat) ({ cls := "LostQuestions", name := "mark", desc := "(II)I" } : Jvm.MethodName)) ∈ lw_all := lw_g (lw_at lw_m3 51 rfl) rfl
theorem q711 : (Jvm.Cond.methodLink "LostQuestionsLaw" (69 : Nat) ({ cls := "LostQuestions", name := "shelve", desc := "(II)I" } : Jvm.MethodName)) ∈ lw_all := lw_g (lw_at lw_m3 158 rfl) rfl
theorem q715 : (Jvm.Cond.methodLink "LostQuestionsLaw" (73 : Nat) ({ cls := "LostQuestions", name := "age", desc := "(II)I" } : Jvm.MethodName)) ∈ lw_all := lw_g (lw_at lw_m3 162 rfl) rfl
theorem q719 : (Jvm.Cond.methodLink "LostQuestionsLaw" (77 : Nat) ({ cls := "LostQuestions", name := "truth", desc := "(II)I" } : Jvm.MethodName)) ∈ lw_all := lw_g (lw_at lw_m3 166 rfl) rfl
theorem q723 : (Jvm.Cond.methodLink "LostQuestionsLaw" (81 : Nat) ({ cls := "LostQuestions", name := "fits", desc := "(I)I" } : Jvm.MethodName)) ∈ lw_all := lw_g (lw_at lw_m3 170 rfl) rfl
theorem q731 : (Jvm.Cond.methodLink "LostQuestionsLaw" (85 : Nat) ({ cls := "LostQuestions", name := "take", desc := "(II)I" } : Jvm.MethodName)) ∈ lw_all := lw_g (lw_at lw_m3 178 rfl) rfl
theorem q747 : (Jvm.Cond.methodLink "LostQuestionsLaw" (89 : Nat) ({ cls := "LostQuestions", name := "bring", desc := "(I)I" } : Jvm.MethodName)) ∈ lw_all := lw_g (lw_at lw_m3 194 rfl) rfl
theorem q751 : (Jvm.Cond.methodLink "LostQuestionsLaw" (93 : Nat) ({ cls := "LostQuestions", name := "undo", desc := "(I)I" } : Jvm.MethodName)) ∈ lw_all := lw_g (lw_at lw_m3 198 rfl) rfl
theorem q755 : (Jvm.Cond.methodLink "LostQuestionsLaw" (97 : Nat) ({ cls := "LostQuestions", name := "right", desc := "()I" } : Jvm.MethodName)) ∈ lw_all := lw_g (lw_at lw_m3 202 rfl) rfl
theorem q763 : (Jvm.Cond.methodLink "LostQuestionsLaw" (102 : Nat) ({ cls := "LostQuestions", name := "keep", desc := "(I)I" } : Jvm.MethodName)) ∈ lw_all := lw_g (lw_at lw_m3 210 rfl) rfl
theorem q803 : (Jvm.Cond.methodLink "LostQuestionsLaw" (106 : Nat) ({ cls := "LostQuestions", name := "on", desc := "(I)I" } : Jvm.MethodName)) ∈ lw_all := lw_g (lw_at lw_m4 10 rfl) rfl
theorem q807 : (Jvm.Cond.methodLink "LostQuestionsLaw" (110 : Nat) ({ cls := "LostQuestions", name := "match", desc := "(I)I" } : Jvm.MethodName)) ∈ lw_all := lw_g (lw_at lw_m4 14 rfl) rfl
theorem q830 : (Jvm.Cond.methodLink "LostQuestionsLaw" (114 : Nat) ({ cls := "LostQuestions", name := "wished", desc := "(I)I" } : Jvm.MethodName)) ∈ lw_all := lw_g (lw_at lw_m4 37 rfl) rfl
theorem q834 : (Jvm.Cond.methodLink "LostQuestionsLaw" (118 : Nat) ({ cls := "LostQuestions", name := "fullest", desc := "()I" } : Jvm.MethodName)) ∈ lw_all := lw_g (lw_at lw_m4 41 rfl) rfl
theorem q846 : (Jvm.Cond.methodLink "LostQuestionsLaw" (122 : Nat) ({ cls := "LostQuestions", name := "may", desc := "(I)I" } : Jvm.MethodName)) ∈ lw_all := lw_g (lw_at lw_m4 53 rfl) rfl
theorem q850 : (Jvm.Cond.methodLink "LostQuestionsLaw" (126 : Nat) ({ cls := "LostQuestions", name := "sure", desc := "(I)I" } : Jvm.MethodName)) ∈ lw_all := lw_g (lw_at lw_m4 57 rfl) rfl
theorem q854 : (Jvm.Cond.methodLink "LostQuestionsLaw" (130 : Nat) ({ cls := "LostQuestions", name := "test", desc := "()I" } : Jvm.MethodName)) ∈ lw_all := lw_g (lw_at lw_m4 61 rfl) rfl
theorem q862 : (Jvm.Cond.methodLink "LostQuestionsLaw" (134 : Nat) ({ cls := "LostQuestions", name := "odds", desc := "(II)I" } : Jvm.MethodName)) ∈ lw_all := lw_g (lw_at lw_m4 69 rfl) rfl
theorem q870 : (Jvm.Cond.methodLink "LostQuestionsLaw" (138 : Nat) ({ cls := "LostQuestions", name := "worlds", desc := "()I" } : Jvm.MethodName)) ∈ lw_all := lw_g (lw_at lw_m4 77 rfl) rfl
theorem q874 : (Jvm.Cond.methodLink "LostQuestionsLaw" (142 : Nat) ({ cls := "LostQuestions", name := "never", desc := "()I" } : Jvm.MethodName)) ∈ lw_all := lw_g (lw_at lw_m4 81 rfl) rfl
theorem q878 : (Jvm.Cond.methodLink "LostQuestionsLaw" (146 : Nat) ({ cls := "LostQuestions", name := "parts", desc := "()I" } : Jvm.MethodName)) ∈ lw_all := lw_g (lw_at lw_m4 85 rfl) rfl
theorem q885 : (Jvm.Cond.methodLink "LostQuestionsLaw" (150 : Nat) ({ cls := "LostQuestions", name := "finds", desc := "(I)I" } : Jvm.MethodName)) ∈ lw_all := lw_g (lw_at lw_m4 92 rfl) rfl
theorem q899 : (Jvm.Cond.methodLink "LostQuestionsLaw" (154 : Nat) ({ cls := "LostQuestions", name := "left", desc := "(I)I" } : Jvm.MethodName)) ∈ lw_all := lw_g (lw_at lw_m4 106 rfl) rfl
theorem q907 : (Jvm.Cond.methodLink "LostQuestionsLaw" (158 : Nat) ({ cls := "LostQuestions", name := "forged", desc := "()I" } : Jvm.MethodName)) ∈ lw_all := lw_g (lw_at lw_m4 114 rfl) rfl
theorem q912 : (Jvm.Cond.methodLink "LostQuestionsLaw" (162 : Nat) ({ cls := "LostQuestions", name := "beside", desc := "(I)I" } : Jvm.MethodName)) ∈ lw_all := lw_g (lw_at lw_m4 119 rfl) rfl
theorem q923 : (Jvm.Cond.methodLink "LostQuestionsLaw" (166 : Nat) ({ cls := "LostQuestions", name := "habit", desc := "()I" } : Jvm.MethodName)) ∈ lw_all := lw_g (lw_at lw_m4 130 rfl) rfl
theorem q935 : (Jvm.Cond.methodLink "LostQuestionsLaw" (170 : Nat) ({ cls := "LostQuestions", name := "order", desc := "()I" } : Jvm.MethodName)) ∈ lw_all := lw_g (lw_at lw_m4 142 rfl) rfl
theorem q944 : (Jvm.Cond.methodLink "LostQuestionsLaw" (174 : Nat) ({ cls := "LostQuestions", name := "byAge", desc := "(I)I" } : Jvm.MethodName)) ∈ lw_all := lw_g (lw_at lw_m4 151 rfl) rfl
theorem q948 : (Jvm.Cond.methodLink "LostQuestionsLaw" (178 : Nat) ({ cls := "LostQuestions", name := "lots", desc := "(II)I" } : Jvm.MethodName)) ∈ lw_all := lw_g (lw_at lw_m4 155 rfl) rfl
theorem q960 : (Jvm.Cond.methodLink "LostQuestionsLaw" (182 : Nat) ({ cls := "LostQuestions", name := "asked", desc := "()I" } : Jvm.MethodName)) ∈ lw_all := lw_g (lw_at lw_m4 167 rfl) rfl
theorem q964 : (Jvm.Cond.methodLink "LostQuestionsLaw" (186 : Nat) ({ cls := "LostQuestions", name := "upper", desc := "()J" } : Jvm.MethodName)) ∈ lw_all := lw_g (lw_at lw_m4 171 rfl) rfl
theorem q968 : (Jvm.Cond.methodLink "LostQuestionsLaw" (191 : Nat) ({ cls := "LostQuestions", name := "lower", desc := "()J" } : Jvm.MethodName)) ∈ lw_all := lw_g (lw_at lw_m4 175 rfl) rfl
theorem q972 : (Jvm.Cond.methodLink "LostQuestionsLaw" (195 : Nat) ({ cls := "LostQuestions", name := "count", desc := "(I)I" } : Jvm.MethodName)) ∈ lw_all := lw_g (lw_at lw_m4 179 rfl) rfl
theorem q992 : (Jvm.Cond.methodLink "LostQuestionsLaw" (199 : Nat) ({ cls := "LostQuestions", name := "finding", desc := "()I" } : Jvm.MethodName)) ∈ lw_all := lw_g (lw_at lw_m4 199 rfl) rfl
theorem q996 : (Jvm.Cond.methodLink "LostQuestionsLaw" (203 : Nat) ({ cls := "LostQuestions", name := "findings", desc := "(I)I" } : Jvm.MethodName)) ∈ lw_all := lw_g (lw_at lw_m4 203 rfl) rfl
theorem q1000 : (Jvm.Cond.methodLink "LostQuestionsLaw" (207 : Nat) ({ cls := "LostQuestions", name := "digest", desc := "()J" } : Jvm.MethodName)) ∈ lw_all := lw_g (lw_at lw_m4 207 rfl) rfl
theorem q1014 : (Jvm.Cond.classLink "LostQuestionsLaw" (10 : Nat) "LostQuestionsModel") ∈ lw_all := lw_g (lw_at lw_m4 221 rfl) rfl
theorem q1016 : (Jvm.Cond.methodLink "LostQuestionsLaw" (12 : Nat) ({ cls := "LostQuestionsModel", name := "<init>", desc := "()V" } : Jvm.MethodName)) ∈ lw_all := lw_g (lw_at lw_m4 223 rfl) rfl
theorem q1085 : (Jvm.Cond.methodLink "LostQuestionsLaw" (17 : Nat) ({ cls := "LostQuestionsModel", name := "row", desc := "(II)I" } : Jvm.MethodName)) ∈ lw_all := lw_g (lw_at lw_m5 52 rfl) rfl
theorem q1100 : (Jvm.Cond.methodLink "LostQuestionsLaw" (22 : Nat) ({ cls := "LostQuestionsModel", name := "lay", desc := "(III)I" } : Jvm.MethodName)) ∈ lw_all := lw_g (lw_at lw_m5 67 rfl) rfl
theorem q1108 : (Jvm.Cond.methodLink "LostQuestionsLaw" (26 : Nat) ({ cls := "LostQuestionsModel", name := "at", desc := "(II)I" } : Jvm.MethodName)) ∈ lw_all := lw_g (lw_at lw_m5 75 rfl) rfl
theorem q1112 : (Jvm.Cond.methodLink "LostQuestionsLaw" (31 : Nat) ({ cls := "LostQuestionsModel", name := "tear", desc := "(I)I" } : Jvm.MethodName)) ∈ lw_all := lw_g (lw_at lw_m5 79 rfl) rfl
theorem q1116 : (Jvm.Cond.methodLink "LostQuestionsLaw" (36 : Nat) ({ cls := "LostQuestionsModel", name := "copy", desc := "(IIIII)I" } : Jvm.MethodName)) ∈ lw_all := lw_g (lw_at lw_m5 83 rfl) rfl
theorem q1120 : (Jvm.Cond.methodLink "LostQuestionsLaw" (40 : Nat) ({ cls := "LostQuestionsModel", name := "mean", desc := "(I)I" } : Jvm.MethodName)) ∈ lw_all := lw_g (lw_at lw_m5 87 rfl) rfl
theorem q1124 : (Jvm.Cond.methodLink "LostQuestionsLaw" (44 : Nat) ({ cls := "LostQuestionsModel", name := "text", desc := "(II)I" } : Jvm.MethodName)) ∈ lw_all := lw_g (lw_at lw_m5 91 rfl) rfl
theorem q1132 : (Jvm.Cond.methodLink "LostQuestionsLaw" (48 : Nat) ({ cls := "LostQuestionsModel", name := "put", desc := "(III)I" } : Jvm.MethodName)) ∈ lw_all := lw_g (lw_at lw_m5 99 rfl) rfl
theorem q1136 : (Jvm.Cond.methodLink "LostQuestionsLaw" (52 : Nat) ({ cls := "LostQuestionsModel", name := "fault", desc := "(I)I" } : Jvm.MethodName)) ∈ lw_all := lw_g (lw_at lw_m5 103 rfl) rfl
theorem q1165 : (Jvm.Cond.methodLink "LostQuestionsLaw" (56 : Nat) ({ cls := "LostQuestionsModel", name := "library", desc := "(I)I" } : Jvm.MethodName)) ∈ lw_all := lw_g (lw_at lw_m5 132 rfl) rfl
theorem q1172 : (Jvm.Cond.methodLink "LostQuestionsLaw" (60 : Nat) ({ cls := "LostQuestionsModel", name := "card", desc := "(II)I" } : Jvm.MethodName)) ∈ lw_all := lw_g (lw_at lw_m5 139 rfl) rfl
theorem q1192 : (Jvm.Cond.methodLink "LostQuestionsLaw" (64 : Nat) ({ cls := "LostQuestionsModel", name := "question", desc := "(II)I" } : Jvm.MethodName)) ∈ lw_all := lw_g (lw_at lw_m5 159 rfl) rfl
theorem q1200 : (Jvm.Cond.methodLink "LostQuestionsLaw" (68 : Nat) ({ cls := "LostQuestionsModel", name := "mark", desc := "(II)I" } : Jvm.MethodName)) ∈ lw_all := lw_g (lw_at lw_m5 167 rfl) rfl
theorem q1215 : (Jvm.Cond.methodLink "LostQuestionsLaw" (72 : Nat) ({ cls := "LostQuestionsModel", name := "shelve", desc := "(II)I" } : Jvm.MethodName)) ∈ lw_all := lw_g (lw_at lw_m5 182 rfl) rfl
theorem q1223 : (Jvm.Cond.methodLink "LostQuestionsLaw" (76 : Nat) ({ cls := "LostQuestionsModel", name := "age", desc := "(II)I" } : Jvm.MethodName)) ∈ lw_all := lw_g (lw_at lw_m5 190 rfl) rfl
theorem q1228 : (Jvm.Cond.methodLink "LostQuestionsLaw" (80 : Nat) ({ cls := "LostQuestionsModel", name := "truth", desc := "(II)I" } : Jvm.MethodName)) ∈ lw_all := lw_g (lw_at lw_m5 195 rfl) rfl
theorem q1232 : (Jvm.Cond.methodLink "LostQuestionsLaw" (84 : Nat) ({ cls := "LostQuestionsModel", name := "fits", desc := "(I)I" } : Jvm.MethodName)) ∈ lw_all := lw_g (lw_at lw_m5 199 rfl) rfl
theorem q1236 : (Jvm.Cond.methodLink "LostQuestionsLaw" (88 : Nat) ({ cls := "LostQuestionsModel", name := "take", desc := "(II)I" } : Jvm.MethodName)) ∈ lw_all := lw_g (lw_at lw_m5 203 rfl) rfl
theorem q1256 : (Jvm.Cond.methodLink "LostQuestionsLaw" (92 : Nat) ({ cls := "LostQuestionsModel", name := "bring", desc := "(I)I" } : Jvm.MethodName)) ∈ lw_all := lw_g (lw_at lw_m5 223 rfl) rfl
theorem q1260 : (Jvm.Cond.methodLink "LostQuestionsLaw" (96 : Nat) ({ cls := "LostQuestionsModel", name := "undo", desc := "(I)I" } : Jvm.MethodName)) ∈ lw_all := lw_g (lw_at lw_m5 227 rfl) rfl
theorem q1264 : (Jvm.Cond.methodLink "LostQuestionsLaw" (101 : Nat) ({ cls := "LostQuestionsModel", name := "right", desc := "()I" } : Jvm.MethodName)) ∈ lw_all := lw_g (lw_at lw_m5 231 rfl) rfl
theorem q1272 : (Jvm.Cond.methodLink "LostQuestionsLaw" (105 : Nat) ({ cls := "LostQuestionsModel", name := "keep", desc := "(I)I" } : Jvm.MethodName)) ∈ lw_all := lw_g (lw_at lw_m5 239 rfl) rfl
theorem q1277 : (Jvm.Cond.methodLink "LostQuestionsLaw" (109 : Nat) ({ cls := "LostQuestionsModel", name := "on", desc := "(I)I" } : Jvm.MethodName)) ∈ lw_all := lw_g (lw_at lw_m6 4 rfl) rfl
theorem q1281 : (Jvm.Cond.methodLink "LostQuestionsLaw" (113 : Nat) ({ cls := "LostQuestionsModel", name := "match", desc := "(I)I" } : Jvm.MethodName)) ∈ lw_all := lw_g (lw_at lw_m6 8 rfl) rfl
theorem q1302 : (Jvm.Cond.methodLink "LostQuestionsLaw" (117 : Nat) ({ cls := "LostQuestionsModel", name := "wished", desc := "(I)I" } : Jvm.MethodName)) ∈ lw_all := lw_g (lw_at lw_m6 29 rfl) rfl
theorem q1306 : (Jvm.Cond.methodLink "LostQuestionsLaw" (121 : Nat) ({ cls := "LostQuestionsModel", name := "fullest", desc := "()I" } : Jvm.MethodName)) ∈ lw_all := lw_g (lw_at lw_m6 33 rfl) rfl
theorem q1310 : (Jvm.Cond.methodLink "LostQuestionsLaw" (125 : Nat) ({ cls := "LostQuestionsModel", name := "may", desc := "(I)I" } : Jvm.MethodName)) ∈ lw_all := lw_g (lw_at lw_m6 37 rfl) rfl
theorem q1314 : (Jvm.Cond.methodLink "LostQuestionsLaw" (129 : Nat) ({ cls := "LostQuestionsModel", name := "sure", desc := "(I)I" } : Jvm.MethodName)) ∈ lw_all := lw_g (lw_at lw_m6 41 rfl) rfl
theorem q1318 : (Jvm.Cond.methodLink "LostQuestionsLaw" (133 : Nat) ({ cls := "LostQuestionsModel", name := "test", desc := "()I" } : Jvm.MethodName)) ∈ lw_all := lw_g (lw_at lw_m6 45 rfl) rfl
theorem q1322 : (Jvm.Cond.methodLink "LostQuestionsLaw" (137 : Nat) ({ cls := "LostQuestionsModel", name := "odds", desc := "(II)I" } : Jvm.MethodName)) ∈ lw_all := lw_g (lw_at lw_m6 49 rfl) rfl
theorem q1326 : (Jvm.Cond.methodLink "LostQuestionsLaw" (141 : Nat) ({ cls := "LostQuestionsModel", name := "worlds", desc := "()I" } : Jvm.MethodName)) ∈ lw_all := lw_g (lw_at lw_m6 53 rfl) rfl
theorem q1330 : (Jvm.Cond.methodLink "LostQuestionsLaw" (145 : Nat) ({ cls := "LostQuestionsModel", name := "never", desc := "()I" } : Jvm.MethodName)) ∈ lw_all := lw_g (lw_at lw_m6 57 rfl) rfl
theorem q1334 : (Jvm.Cond.methodLink "LostQuestionsLaw" (149 : Nat) ({ cls := "LostQuestionsModel", name := "parts", desc := "()I" } : Jvm.MethodName)) ∈ lw_all := lw_g (lw_at lw_m6 61 rfl) rfl
theorem q1342 : (Jvm.Cond.methodLink "LostQuestionsLaw" (153 : Nat) ({ cls := "LostQuestionsModel", name := "finds", desc := "(I)I" } : Jvm.MethodName)) ∈ lw_all := lw_g (lw_at lw_m6 69 rfl) rfl
theorem q1350 : (Jvm.Cond.methodLink "LostQuestionsLaw" (157 : Nat) ({ cls := "LostQuestionsModel", name := "left", desc := "(I)I" } : Jvm.MethodName)) ∈ lw_all := lw_g (lw_at lw_m6 77 rfl) rfl
theorem q1354 : (Jvm.Cond.methodLink "LostQuestionsLaw" (161 : Nat) ({ cls := "LostQuestionsModel", name := "forged", desc := "()I" } : Jvm.MethodName)) ∈ lw_all := lw_g (lw_at lw_m6 81 rfl) rfl
theorem q1358 : (Jvm.Cond.methodLink "LostQuestionsLaw" (165 : Nat) ({ cls := "LostQuestionsModel", name := "beside", desc := "(I)I" } : Jvm.MethodName)) ∈ lw_all := lw_g (lw_at lw_m6 85 rfl) rfl
theorem q1373 : (Jvm.Cond.methodLink "LostQuestionsLaw" (169 : Nat) ({ cls := "LostQuestionsModel", name := "habit", desc := "()I" } : Jvm.MethodName)) ∈ lw_all := lw_g (lw_at lw_m6 100 rfl) rfl
theorem q1381 : (Jvm.Cond.methodLink "LostQuestionsLaw" (173 : Nat) ({ cls := "LostQuestionsModel", name := "order", desc := "()I" } : Jvm.MethodName)) ∈ lw_all := lw_g (lw_at lw_m6 108 rfl) rfl
theorem q1385 : (Jvm.Cond.methodLink "LostQuestionsLaw" (177 : Nat) ({ cls := "LostQuestionsModel", name := "byAge", desc := "(I)I" } : Jvm.MethodName)) ∈ lw_all := lw_g (lw_at lw_m6 112 rfl) rfl
theorem q1389 : (Jvm.Cond.methodLink "LostQuestionsLaw" (181 : Nat) ({ cls := "LostQuestionsModel", name := "lots", desc := "(II)I" } : Jvm.MethodName)) ∈ lw_all := lw_g (lw_at lw_m6 116 rfl) rfl
theorem q1398 : (Jvm.Cond.methodLink "LostQuestionsLaw" (185 : Nat) ({ cls := "LostQuestionsModel", name := "asked", desc := "()I" } : Jvm.MethodName)) ∈ lw_all := lw_g (lw_at lw_m6 125 rfl) rfl
theorem q1402 : (Jvm.Cond.methodLink "LostQuestionsLaw" (190 : Nat) ({ cls := "LostQuestionsModel", name := "upper", desc := "()J" } : Jvm.MethodName)) ∈ lw_all := lw_g (lw_at lw_m6 129 rfl) rfl
theorem q1406 : (Jvm.Cond.methodLink "LostQuestionsLaw" (194 : Nat) ({ cls := "LostQuestionsModel", name := "lower", desc := "()J" } : Jvm.MethodName)) ∈ lw_all := lw_g (lw_at lw_m6 133 rfl) rfl
theorem q1410 : (Jvm.Cond.methodLink "LostQuestionsLaw" (198 : Nat) ({ cls := "LostQuestionsModel", name := "count", desc := "(I)I" } : Jvm.MethodName)) ∈ lw_all := lw_g (lw_at lw_m6 137 rfl) rfl
theorem q1419 : (Jvm.Cond.methodLink "LostQuestionsLaw" (202 : Nat) ({ cls := "LostQuestionsModel", name := "finding", desc := "()I" } : Jvm.MethodName)) ∈ lw_all := lw_g (lw_at lw_m6 146 rfl) rfl
theorem q1423 : (Jvm.Cond.methodLink "LostQuestionsLaw" (206 : Nat) ({ cls := "LostQuestionsModel", name := "findings", desc := "(I)I" } : Jvm.MethodName)) ∈ lw_all := lw_g (lw_at lw_m6 150 rfl) rfl
theorem q1427 : (Jvm.Cond.methodLink "LostQuestionsLaw" (210 : Nat) ({ cls := "LostQuestionsModel", name := "digest", desc := "()J" } : Jvm.MethodName)) ∈ lw_all := lw_g (lw_at lw_m6 154 rfl) rfl
/-! the law's own entry -/
set_option maxRecDepth 100000
abbrev cL_law : ByteArray := code
def dkwL_law_52 : List UInt8 := [182, 0, 210, 148, 153, 0, 5, 3, 172, 132, 3, 6, 167, 250, 144, 4, 172]
abbrev dktL_law_52 : List UInt8 := dkwL_law_52 ++ []
def dkwL_law_51 : List UInt8 := [182, 0, 203, 44, 42, 29, 4, 96, 46, 182, 0, 206, 159, 0, 19, 3, 172, 43, 182, 0, 207, 44]
abbrev dktL_law_51 : List UInt8 := dkwL_law_51 ++ dktL_law_52
def dkwL_law_50 : List UInt8 := [159, 0, 55, 3, 172, 43, 182, 0, 199, 44, 182, 0, 202, 159, 0, 42, 3, 172, 43, 42, 29, 4, 96, 46]
abbrev dktL_law_50 : List UInt8 := dkwL_law_50 ++ dktL_law_51
def dkwL_law_49 : List UInt8 := [153, 0, 78, 3, 172, 43, 42, 29, 4, 96, 46, 182, 0, 195, 44, 42, 29, 4, 96, 46, 182, 0, 198]
abbrev dktL_law_49 : List UInt8 := dkwL_law_49 ++ dktL_law_50
def dkwL_law_48 : List UInt8 := [182, 0, 186, 44, 182, 0, 190, 148, 153, 0, 92, 3, 172, 43, 182, 0, 191, 44, 182, 0, 194, 148]
abbrev dktL_law_48 : List UInt8 := dkwL_law_48 ++ dktL_law_49
def dkwL_law_47 : List UInt8 := [46, 182, 0, 181, 159, 0, 119, 3, 172, 43, 182, 0, 182, 44, 182, 0, 185, 159, 0, 106, 3, 172, 43]
abbrev dktL_law_47 : List UInt8 := dkwL_law_47 ++ dktL_law_48
def dkwL_law_46 : List UInt8 := [43, 42, 29, 4, 96, 46, 42, 29, 5, 96, 46, 182, 0, 178, 44, 42, 29, 4, 96, 46, 42, 29, 5, 96]
abbrev dktL_law_46 : List UInt8 := dkwL_law_46 ++ dktL_law_47
def dkwL_law_45 : List UInt8 := [172, 43, 42, 29, 4, 96, 46, 182, 0, 174, 44, 42, 29, 4, 96, 46, 182, 0, 177, 159, 0, 152, 3, 172]
abbrev dktL_law_45 : List UInt8 := dkwL_law_45 ++ dktL_law_46
def dkwL_law_44 : List UInt8 := [182, 0, 166, 44, 182, 0, 169, 159, 0, 188, 3, 172, 43, 182, 0, 170, 44, 182, 0, 173, 159, 0, 175, 3]
abbrev dktL_law_44 : List UInt8 := dkwL_law_44 ++ dktL_law_45
def dkwL_law_43 : List UInt8 := [42, 29, 4, 96, 46, 182, 0, 162, 44, 42, 29, 4, 96, 46, 182, 0, 165, 159, 0, 201, 3, 172, 43]
abbrev dktL_law_43 : List UInt8 := dkwL_law_43 ++ dktL_law_44
def dkwL_law_42 : List UInt8 := [96, 46, 182, 0, 157, 159, 0, 237, 3, 172, 43, 182, 0, 158, 44, 182, 0, 161, 159, 0, 224, 3, 172, 43]
abbrev dktL_law_42 : List UInt8 := dkwL_law_42 ++ dktL_law_43
def dkwL_law_41 : List UInt8 := [4, 96, 46, 182, 0, 153, 159, 1, 4, 3, 172, 43, 42, 29, 4, 96, 46, 182, 0, 154, 44, 42, 29, 4]
abbrev dktL_law_41 : List UInt8 := dkwL_law_41 ++ dktL_law_42
def dkwL_law_40 : List UInt8 := [182, 0, 146, 44, 182, 0, 149, 159, 1, 27, 3, 172, 43, 42, 29, 4, 96, 46, 182, 0, 150, 44, 42, 29]
abbrev dktL_law_40 : List UInt8 := dkwL_law_40 ++ dktL_law_41
def dkwL_law_39 : List UInt8 := [182, 0, 141, 159, 1, 53, 3, 172, 43, 182, 0, 142, 44, 182, 0, 145, 159, 1, 40, 3, 172, 43]
abbrev dktL_law_39 : List UInt8 := dkwL_law_39 ++ dktL_law_40
def dkwL_law_38 : List UInt8 := [42, 29, 4, 96, 46, 42, 29, 5, 96, 46, 182, 0, 137, 159, 1, 66, 3, 172, 43, 182, 0, 138, 44]
abbrev dktL_law_38 : List UInt8 := dkwL_law_38 ++ dktL_law_39
def dkwL_law_37 : List UInt8 := [44, 182, 0, 133, 159, 1, 99, 3, 172, 43, 42, 29, 4, 96, 46, 42, 29, 5, 96, 46, 182, 0, 134, 44]
abbrev dktL_law_37 : List UInt8 := dkwL_law_37 ++ dktL_law_38
def dkwL_law_36 : List UInt8 := [4, 96, 46, 182, 0, 126, 44, 42, 29, 4, 96, 46, 182, 0, 129, 159, 1, 112, 3, 172, 43, 182, 0, 130]
abbrev dktL_law_36 : List UInt8 := dkwL_law_36 ++ dktL_law_37
def dkwL_law_35 : List UInt8 := [29, 4, 96, 46, 182, 0, 122, 44, 42, 29, 4, 96, 46, 182, 0, 125, 159, 1, 135, 3, 172, 43, 42, 29]
abbrev dktL_law_35 : List UInt8 := dkwL_law_35 ++ dktL_law_36
def dkwL_law_34 : List UInt8 := [46, 182, 0, 117, 159, 1, 171, 3, 172, 43, 182, 0, 118, 44, 182, 0, 121, 159, 1, 158, 3, 172, 43, 42]
abbrev dktL_law_34 : List UInt8 := dkwL_law_34 ++ dktL_law_35
def dkwL_law_33 : List UInt8 := [96, 46, 182, 0, 113, 159, 1, 194, 3, 172, 43, 42, 29, 4, 96, 46, 182, 0, 114, 44, 42, 29, 4, 96]
abbrev dktL_law_33 : List UInt8 := dkwL_law_33 ++ dktL_law_34
def dkwL_law_32 : List UInt8 := [4, 96, 46, 182, 0, 109, 159, 1, 217, 3, 172, 43, 42, 29, 4, 96, 46, 182, 0, 110, 44, 42, 29, 4]
abbrev dktL_law_32 : List UInt8 := dkwL_law_32 ++ dktL_law_33
def dkwL_law_31 : List UInt8 := [29, 4, 96, 46, 182, 0, 105, 159, 1, 240, 3, 172, 43, 42, 29, 4, 96, 46, 182, 0, 106, 44, 42, 29]
abbrev dktL_law_31 : List UInt8 := dkwL_law_31 ++ dktL_law_32
def dkwL_law_30 : List UInt8 := [43, 182, 0, 97, 44, 182, 0, 101, 159, 2, 7, 3, 172, 43, 42, 29, 4, 96, 46, 182, 0, 102, 44, 42]
abbrev dktL_law_30 : List UInt8 := dkwL_law_30 ++ dktL_law_31
def dkwL_law_29 : List UInt8 := [172, 43, 42, 29, 4, 96, 46, 182, 0, 93, 44, 42, 29, 4, 96, 46, 182, 0, 96, 159, 2, 20, 3, 172]
abbrev dktL_law_29 : List UInt8 := dkwL_law_29 ++ dktL_law_30
def dkwL_law_28 : List UInt8 := [3, 172, 43, 42, 29, 4, 96, 46, 182, 0, 89, 44, 42, 29, 4, 96, 46, 182, 0, 92, 159, 2, 43, 3]
abbrev dktL_law_28 : List UInt8 := dkwL_law_28 ++ dktL_law_29
def dkwL_law_27 : List UInt8 := [29, 5, 96, 46, 182, 0, 85, 44, 42, 29, 4, 96, 46, 42, 29, 5, 96, 46, 182, 0, 88, 159, 2, 66]
abbrev dktL_law_27 : List UInt8 := dkwL_law_27 ++ dktL_law_28
def dkwL_law_26 : List UInt8 := [182, 0, 81, 44, 42, 29, 4, 96, 46, 182, 0, 84, 159, 2, 99, 3, 172, 43, 42, 29, 4, 96, 46, 42]
abbrev dktL_law_26 : List UInt8 := dkwL_law_26 ++ dktL_law_27
def dkwL_law_25 : List UInt8 := [29, 4, 96, 46, 42, 29, 5, 96, 46, 182, 0, 80, 159, 2, 122, 3, 172, 43, 42, 29, 4, 96, 46]
abbrev dktL_law_25 : List UInt8 := dkwL_law_25 ++ dktL_law_26
def dkwL_law_24 : List UInt8 := [182, 0, 76, 159, 2, 155, 3, 172, 43, 42, 29, 4, 96, 46, 42, 29, 5, 96, 46, 182, 0, 77, 44, 42]
abbrev dktL_law_24 : List UInt8 := dkwL_law_24 ++ dktL_law_25
def dkwL_law_23 : List UInt8 := [29, 4, 96, 46, 42, 29, 5, 96, 46, 182, 0, 73, 44, 42, 29, 4, 96, 46, 42, 29, 5, 96, 46]
abbrev dktL_law_23 : List UInt8 := dkwL_law_23 ++ dktL_law_24
def dkwL_law_22 : List UInt8 := [182, 0, 69, 44, 42, 29, 4, 96, 46, 42, 29, 5, 96, 46, 182, 0, 72, 159, 2, 188, 3, 172, 43, 42]
abbrev dktL_law_22 : List UInt8 := dkwL_law_22 ++ dktL_law_23
def dkwL_law_21 : List UInt8 := [5, 96, 46, 182, 0, 68, 159, 2, 221, 3, 172, 43, 42, 29, 4, 96, 46, 42, 29, 5, 96, 46]
abbrev dktL_law_21 : List UInt8 := dkwL_law_21 ++ dktL_law_22
def dkwL_law_20 : List UInt8 := [3, 172, 43, 42, 29, 4, 96, 46, 42, 29, 5, 96, 46, 182, 0, 65, 44, 42, 29, 4, 96, 46, 42, 29]
abbrev dktL_law_20 : List UInt8 := dkwL_law_20 ++ dktL_law_21
def dkwL_law_19 : List UInt8 := [29, 5, 96, 46, 182, 0, 61, 44, 42, 29, 4, 96, 46, 42, 29, 5, 96, 46, 182, 0, 64, 159, 2, 254]
abbrev dktL_law_19 : List UInt8 := dkwL_law_19 ++ dktL_law_20
def dkwL_law_18 : List UInt8 := [29, 4, 96, 46, 42, 29, 5, 96, 46, 182, 0, 60, 159, 3, 31, 3, 172, 43, 42, 29, 4, 96, 46, 42]
abbrev dktL_law_18 : List UInt8 := dkwL_law_18 ++ dktL_law_19
def dkwL_law_17 : List UInt8 := [182, 0, 56, 159, 3, 64, 3, 172, 43, 42, 29, 4, 96, 46, 42, 29, 5, 96, 46, 182, 0, 57, 44, 42]
abbrev dktL_law_17 : List UInt8 := dkwL_law_17 ++ dktL_law_18
def dkwL_law_16 : List UInt8 := [182, 0, 52, 159, 3, 87, 3, 172, 43, 42, 29, 4, 96, 46, 182, 0, 53, 44, 42, 29, 4, 96, 46]
abbrev dktL_law_16 : List UInt8 := dkwL_law_16 ++ dktL_law_17
def dkwL_law_15 : List UInt8 := [46, 182, 0, 48, 159, 3, 110, 3, 172, 43, 42, 29, 4, 96, 46, 182, 0, 49, 44, 42, 29, 4, 96, 46]
abbrev dktL_law_15 : List UInt8 := dkwL_law_15 ++ dktL_law_16
def dkwL_law_14 : List UInt8 := [46, 42, 29, 6, 96, 46, 182, 0, 45, 44, 42, 29, 4, 96, 46, 42, 29, 5, 96, 46, 42, 29, 6, 96]
abbrev dktL_law_14 : List UInt8 := dkwL_law_14 ++ dktL_law_15
def dkwL_law_13 : List UInt8 := [46, 42, 29, 5, 96, 46, 182, 0, 44, 159, 3, 153, 3, 172, 43, 42, 29, 4, 96, 46, 42, 29, 5, 96]
abbrev dktL_law_13 : List UInt8 := dkwL_law_13 ++ dktL_law_14
def dkwL_law_12 : List UInt8 := [159, 3, 186, 3, 172, 43, 42, 29, 4, 96, 46, 42, 29, 5, 96, 46, 182, 0, 41, 44, 42, 29, 4, 96]
abbrev dktL_law_12 : List UInt8 := dkwL_law_12 ++ dktL_law_13
def dkwL_law_11 : List UInt8 := [159, 3, 209, 3, 172, 43, 42, 29, 4, 96, 46, 182, 0, 37, 44, 42, 29, 4, 96, 46, 182, 0, 40]
abbrev dktL_law_11 : List UInt8 := dkwL_law_11 ++ dktL_law_12
def dkwL_law_10 : List UInt8 := [42, 29, 5, 96, 46, 42, 29, 6, 96, 46, 42, 29, 7, 96, 46, 42, 29, 8, 96, 46, 182, 0, 36]
abbrev dktL_law_10 : List UInt8 := dkwL_law_10 ++ dktL_law_11
def dkwL_law_9 : List UInt8 := [42, 29, 6, 96, 46, 42, 29, 7, 96, 46, 42, 29, 8, 96, 46, 182, 0, 32, 44, 42, 29, 4, 96, 46]
abbrev dktL_law_9 : List UInt8 := dkwL_law_9 ++ dktL_law_10
def dkwL_law_8 : List UInt8 := [42, 29, 4, 96, 46, 182, 0, 31, 159, 4, 16, 3, 172, 43, 42, 29, 4, 96, 46, 42, 29, 5, 96, 46]
abbrev dktL_law_8 : List UInt8 := dkwL_law_8 ++ dktL_law_9
def dkwL_law_7 : List UInt8 := [46, 42, 29, 5, 96, 46, 182, 0, 26, 159, 4, 39, 3, 172, 43, 42, 29, 4, 96, 46, 182, 0, 27, 44]
abbrev dktL_law_7 : List UInt8 := dkwL_law_7 ++ dktL_law_8
def dkwL_law_6 : List UInt8 := [159, 4, 72, 3, 172, 43, 42, 29, 4, 96, 46, 42, 29, 5, 96, 46, 182, 0, 23, 44, 42, 29, 4, 96]
abbrev dktL_law_6 : List UInt8 := dkwL_law_6 ++ dktL_law_7
def dkwL_law_5 : List UInt8 := [46, 182, 0, 18, 44, 42, 29, 4, 96, 46, 42, 29, 5, 96, 46, 42, 29, 6, 96, 46, 182, 0, 22]
abbrev dktL_law_5 : List UInt8 := dkwL_law_5 ++ dktL_law_6
def dkwL_law_4 : List UInt8 := [46, 182, 0, 17, 159, 4, 115, 3, 172, 43, 42, 29, 4, 96, 46, 42, 29, 5, 96, 46, 42, 29, 6, 96]
abbrev dktL_law_4 : List UInt8 := dkwL_law_4 ++ dktL_law_5
def dkwL_law_3 : List UInt8 := [43, 42, 29, 4, 96, 46, 42, 29, 5, 96, 46, 182, 0, 13, 44, 42, 29, 4, 96, 46, 42, 29, 5, 96]
abbrev dktL_law_3 : List UInt8 := dkwL_law_3 ++ dktL_law_4
def dkwL_law_2 : List UInt8 := [170, 0, 0, 0, 0, 5, 94, 0, 0, 0, 0, 0, 0, 0, 47, 0, 0, 0, 207, 0, 0, 0, 240, 0, 0, 1, 27, 0, 0, 1, 60, 0, 0, 1, 83, 0, 0, 1, 146, 0, 0, 1, 169, 0, 0, 1, 202, 0, 0, 1, 245, 0, 0, 2, 12, 0, 0, 2, 35, 0, 0, 2, 68, 0, 0, 2, 101, 0, 0, 2, 134, 0, 0, 2, 167, 0, 0, 2, 200, 0, 0, 2, 233, 0, 0, 3, 0, 0, 0, 3, 33, 0, 0, 3, 56, 0, 0, 3, 79, 0, 0, 3, 92, 0, 0, 3, 115, 0, 0, 3, 138, 0, 0, 3, 161, 0, 0, 3, 184, 0, 0, 3, 197, 0, 0, 3, 220, 0, 0, 3, 243, 0, 0, 4, 0, 0, 0, 4, 33, 0, 0, 4, 46, 0, 0, 4, 59, 0, 0, 4, 72, 0, 0, 4, 95, 0, 0, 4, 118, 0, 0, 4, 131, 0, 0, 4, 154, 0, 0, 4, 167, 0, 0, 4, 180, 0, 0, 4, 203, 0, 0, 4, 236, 0, 0, 4, 249, 0, 0, 5, 7, 0, 0, 5, 21, 0, 0, 5, 44, 0, 0, 5, 57, 0, 0, 5, 80]
abbrev dktL_law_2 : List UInt8 := dkwL_law_2 ++ dktL_law_3
def dkwL_law_1 : List UInt8 := [163, 5, 109, 42, 29, 46, 16, 63, 126]
abbrev dktL_law_1 : List UInt8 := dkwL_law_1 ++ dktL_law_2
def dkwL_law_0 : List UInt8 := [187, 0, 7, 89, 183, 0, 9, 76, 187, 0, 10, 89, 183, 0, 12, 77, 3, 62, 29, 42, 190, 16, 6, 100]
abbrev dktL_law_0 : List UInt8 := dkwL_law_0 ++ dktL_law_1
theorem dksL_law_0 : cL_law.data.toList.drop 0 = dktL_law_0 := by decide +kernel
theorem dksL_law_1 : cL_law.data.toList.drop 24 = dktL_law_1 := dk_seg dksL_law_0 24 rfl rfl
theorem dksL_law_2 : cL_law.data.toList.drop 33 = dktL_law_2 := dk_seg dksL_law_1 9 rfl rfl
theorem dksL_law_3 : cL_law.data.toList.drop 240 = dktL_law_3 := dk_seg dksL_law_2 207 rfl rfl
theorem dksL_law_4 : cL_law.data.toList.drop 264 = dktL_law_4 := dk_seg dksL_law_3 24 rfl rfl
theorem dksL_law_5 : cL_law.data.toList.drop 288 = dktL_law_5 := dk_seg dksL_law_4 24 rfl rfl
theorem dksL_law_6 : cL_law.data.toList.drop 311 = dktL_law_6 := dk_seg dksL_law_5 23 rfl rfl
theorem dksL_law_7 : cL_law.data.toList.drop 335 = dktL_law_7 := dk_seg dksL_law_6 24 rfl rfl
theorem dksL_law_8 : cL_law.data.toList.drop 359 = dktL_law_8 := dk_seg dksL_law_7 24 rfl rfl
theorem dksL_law_9 : cL_law.data.toList.drop 383 = dktL_law_9 := dk_seg dksL_law_8 24 rfl rfl
theorem dksL_law_10 : cL_law.data.toList.drop 407 = dktL_law_10 := dk_seg dksL_law_9 24 rfl rfl
theorem dksL_law_11 : cL_law.data.toList.drop 430 = dktL_law_11 := dk_seg dksL_law_10 23 rfl rfl
theorem dksL_law_12 : cL_law.data.toList.drop 453 = dktL_law_12 := dk_seg dksL_law_11 23 rfl rfl
theorem dksL_law_13 : cL_law.data.toList.drop 477 = dktL_law_13 := dk_seg dksL_law_12 24 rfl rfl
theorem dksL_law_14 : cL_law.data.toList.drop 501 = dktL_law_14 := dk_seg dksL_law_13 24 rfl rfl
theorem dksL_law_15 : cL_law.data.toList.drop 525 = dktL_law_15 := dk_seg dksL_law_14 24 rfl rfl
theorem dksL_law_16 : cL_law.data.toList.drop 549 = dktL_law_16 := dk_seg dksL_law_15 24 rfl rfl
theorem dksL_law_17 : cL_law.data.toList.drop 572 = dktL_law_17 := dk_seg dksL_law_16 23 rfl rfl
theorem dksL_law_18 : cL_law.data.toList.drop 596 = dktL_law_18 := dk_seg dksL_law_17 24 rfl rfl
theorem dksL_law_19 : cL_law.data.toList.drop 620 = dktL_law_19 := dk_seg dksL_law_18 24 rfl rfl
theorem dksL_law_20 : cL_law.data.toList.drop 644 = dktL_law_20 := dk_seg dksL_law_19 24 rfl rfl
theorem dksL_law_21 : cL_law.data.toList.drop 668 = dktL_law_21 := dk_seg dksL_law_20 24 rfl rfl
theorem dksL_law_22 : cL_law.data.toList.drop 690 = dktL_law_22 := dk_seg dksL_law_21 22 rfl rfl
theorem dksL_law_23 : cL_law.data.toList.drop 714 = dktL_law_23 := dk_seg dksL_law_22 24 rfl rfl
theorem dksL_law_24 : cL_law.data.toList.drop 737 = dktL_law_24 := dk_seg dksL_law_23 23 rfl rfl
theorem dksL_law_25 : cL_law.data.toList.drop 761 = dktL_law_25 := dk_seg dksL_law_24 24 rfl rfl
theorem dksL_law_26 : cL_law.data.toList.drop 784 = dktL_law_26 := dk_seg dksL_law_25 23 rfl rfl
theorem dksL_law_27 : cL_law.data.toList.drop 808 = dktL_law_27 := dk_seg dksL_law_26 24 rfl rfl
theorem dksL_law_28 : cL_law.data.toList.drop 832 = dktL_law_28 := dk_seg dksL_law_27 24 rfl rfl
theorem dksL_law_29 : cL_law.data.toList.drop 856 = dktL_law_29 := dk_seg dksL_law_28 24 rfl rfl
theorem dksL_law_30 : cL_law.data.toList.drop 880 = dktL_law_30 := dk_seg dksL_law_29 24 rfl rfl
theorem dksL_law_31 : cL_law.data.toList.drop 904 = dktL_law_31 := dk_seg dksL_law_30 24 rfl rfl
theorem dksL_law_32 : cL_law.data.toList.drop 928 = dktL_law_32 := dk_seg dksL_law_31 24 rfl rfl
theorem dksL_law_33 : cL_law.data.toList.drop 952 = dktL_law_33 := dk_seg dksL_law_32 24 rfl rfl
theorem dksL_law_34 : cL_law.data.toList.drop 976 = dktL_law_34 := dk_seg dksL_law_33 24 rfl rfl
theorem dksL_law_35 : cL_law.data.toList.drop 1000 = dktL_law_35 := dk_seg dksL_law_34 24 rfl rfl
theorem dksL_law_36 : cL_law.data.toList.drop 1024 = dktL_law_36 := dk_seg dksL_law_35 24 rfl rfl
theorem dksL_law_37 : cL_law.data.toList.drop 1048 = dktL_law_37 := dk_seg dksL_law_36 24 rfl rfl
theorem dksL_law_38 : cL_law.data.toList.drop 1072 = dktL_law_38 := dk_seg dksL_law_37 24 rfl rfl
theorem dksL_law_39 : cL_law.data.toList.drop 1095 = dktL_law_39 := dk_seg dksL_law_38 23 rfl rfl
theorem dksL_law_40 : cL_law.data.toList.drop 1117 = dktL_law_40 := dk_seg dksL_law_39 22 rfl rfl
theorem dksL_law_41 : cL_law.data.toList.drop 1141 = dktL_law_41 := dk_seg dksL_law_40 24 rfl rfl
theorem dksL_law_42 : cL_law.data.toList.drop 1165 = dktL_law_42 := dk_seg dksL_law_41 24 rfl rfl
theorem dksL_law_43 : cL_law.data.toList.drop 1189 = dktL_law_43 := dk_seg dksL_law_42 24 rfl rfl
theorem dksL_law_44 : cL_law.data.toList.drop 1212 = dktL_law_44 := dk_seg dksL_law_43 23 rfl rfl
theorem dksL_law_45 : cL_law.data.toList.drop 1236 = dktL_law_45 := dk_seg dksL_law_44 24 rfl rfl
theorem dksL_law_46 : cL_law.data.toList.drop 1260 = dktL_law_46 := dk_seg dksL_law_45 24 rfl rfl
theorem dksL_law_47 : cL_law.data.toList.drop 1284 = dktL_law_47 := dk_seg dksL_law_46 24 rfl rfl
theorem dksL_law_48 : cL_law.data.toList.drop 1307 = dktL_law_48 := dk_seg dksL_law_47 23 rfl rfl
theorem dksL_law_49 : cL_law.data.toList.drop 1329 = dktL_law_49 := dk_seg dksL_law_48 22 rfl rfl
theorem dksL_law_50 : cL_law.data.toList.drop 1352 = dktL_law_50 := dk_seg dksL_law_49 23 rfl rfl
theorem dksL_law_51 : cL_law.data.toList.drop 1376 = dktL_law_51 := dk_seg dksL_law_50 24 rfl rfl
theorem dksL_law_52 : cL_law.data.toList.drop 1398 = dktL_law_52 := dk_seg dksL_law_51 22 rfl rfl
theorem dL_law_0 : decode cL_law 0 = .ok (.new 7, 3) := dk_187 0 7 (dk_at dksL_law_0 0 rfl rfl)
theorem dL_law_3 : decode cL_law 3 = .ok (.dup, 1) := dk_89 (dk_at dksL_law_0 3 rfl rfl)
theorem dL_law_4 : decode cL_law 4 = .ok (.invokespecial 9, 3) := dk_183 0 9 (dk_at dksL_law_0 4 rfl rfl)
theorem dL_law_7 : decode cL_law 7 = .ok (.astore_n 1, 1) := dk_76 (dk_at dksL_law_0 7 rfl rfl)
theorem dL_law_8 : decode cL_law 8 = .ok (.new 10, 3) := dk_187 0 10 (dk_at dksL_law_0 8 rfl rfl)
theorem dL_law_11 : decode cL_law 11 = .ok (.dup, 1) := dk_89 (dk_at dksL_law_0 11 rfl rfl)
theorem dL_law_12 : decode cL_law 12 = .ok (.invokespecial 12, 3) := dk_183 0 12 (dk_at dksL_law_0 12 rfl rfl)
theorem dL_law_15 : decode cL_law 15 = .ok (.astore_n 2, 1) := dk_77 (dk_at dksL_law_0 15 rfl rfl)
theorem dL_law_16 : decode cL_law 16 = .ok (.iconst 0, 1) := dk_3 (dk_at dksL_law_0 16 rfl rfl)
theorem dL_law_17 : decode cL_law 17 = .ok (.istore_n 3, 1) := dk_62 (dk_at dksL_law_0 17 rfl rfl)
theorem dL_law_18 : decode cL_law 18 = .ok (.iload_n 3, 1) := dk_29 (dk_at dksL_law_0 18 rfl rfl)
theorem dL_law_19 : decode cL_law 19 = .ok (.aload_n 0, 1) := dk_42 (dk_at dksL_law_0 19 rfl rfl)
theorem dL_law_20 : decode cL_law 20 = .ok (.arraylength, 1) := dk_190 (dk_at dksL_law_0 20 rfl rfl)
theorem dL_law_21 : decode cL_law 21 = .ok (.bipush 6, 2) := dk_16 6 (dk_at dksL_law_0 21 rfl rfl)
theorem dL_law_23 : decode cL_law 23 = .ok (.isub, 1) := dk_100 (dk_at dksL_law_0 23 rfl rfl)
theorem dL_law_24 : decode cL_law 24 = .ok (.if_icmp .gt 1389, 3) := dk_163 5 109 (dk_at dksL_law_1 0 rfl rfl)
theorem dL_law_27 : decode cL_law 27 = .ok (.aload_n 0, 1) := dk_42 (dk_at dksL_law_1 3 rfl rfl)
theorem dL_law_28 : decode cL_law 28 = .ok (.iload_n 3, 1) := dk_29 (dk_at dksL_law_1 4 rfl rfl)
theorem dL_law_29 : decode cL_law 29 = .ok (.iaload, 1) := dk_46 (dk_at dksL_law_1 5 rfl rfl)
theorem dL_law_30 : decode cL_law 30 = .ok (.bipush 63, 2) := dk_16 63 (dk_at dksL_law_1 6 rfl rfl)
theorem dL_law_32 : decode cL_law 32 = .ok (.iand, 1) := dk_126 (dk_at dksL_law_1 8 rfl rfl)
theorem dL_law_33 : decode cL_law 33 = .ok (.tableswitch 1374 0 47 #[207, 240, 283, 316, 339, 402, 425, 458, 501, 524, 547, 580, 613, 646, 679, 712, 745, 768, 801, 824, 847, 860, 883, 906, 929, 952, 965, 988, 1011, 1024, 1057, 1070, 1083, 1096, 1119, 1142, 1155, 1178, 1191, 1204, 1227, 1260, 1273, 1287, 1301, 1324, 1337, 1360], 207) := by decide +kernel
theorem dL_law_240 : decode cL_law 240 = .ok (.aload_n 1, 1) := dk_43 (dk_at dksL_law_3 0 rfl rfl)
theorem dL_law_241 : decode cL_law 241 = .ok (.aload_n 0, 1) := dk_42 (dk_at dksL_law_3 1 rfl rfl)
theorem dL_law_242 : decode cL_law 242 = .ok (.iload_n 3, 1) := dk_29 (dk_at dksL_law_3 2 rfl rfl)
theorem dL_law_243 : decode cL_law 243 = .ok (.iconst 1, 1) := dk_4 (dk_at dksL_law_3 3 rfl rfl)
theorem dL_law_244 : decode cL_law 244 = .ok (.iadd, 1) := dk_96 (dk_at dksL_law_3 4 rfl rfl)
theorem dL_law_245 : decode cL_law 245 = .ok (.iaload, 1) := dk_46 (dk_at dksL_law_3 5 rfl rfl)
theorem dL_law_246 : decode cL_law 246 = .ok (.aload_n 0, 1) := dk_42 (dk_at dksL_law_3 6 rfl rfl)
theorem dL_law_247 : decode cL_law 247 = .ok (.iload_n 3, 1) := dk_29 (dk_at dksL_law_3 7 rfl rfl)
theorem dL_law_248 : decode cL_law 248 = .ok (.iconst 2, 1) := dk_5 (dk_at dksL_law_3 8 rfl rfl)
theorem dL_law_249 : decode cL_law 249 = .ok (.iadd, 1) := dk_96 (dk_at dksL_law_3 9 rfl rfl)
theorem dL_law_250 : decode cL_law 250 = .ok (.iaload, 1) := dk_46 (dk_at dksL_law_3 10 rfl rfl)
theorem dL_law_251 : decode cL_law 251 = .ok (.invokevirtual 13, 3) := dk_182 0 13 (dk_at dksL_law_3 11 rfl rfl)
theorem dL_law_254 : decode cL_law 254 = .ok (.aload_n 2, 1) := dk_44 (dk_at dksL_law_3 14 rfl rfl)
theorem dL_law_255 : decode cL_law 255 = .ok (.aload_n 0, 1) := dk_42 (dk_at dksL_law_3 15 rfl rfl)
theorem dL_law_256 : decode cL_law 256 = .ok (.iload_n 3, 1) := dk_29 (dk_at dksL_law_3 16 rfl rfl)
theorem dL_law_257 : decode cL_law 257 = .ok (.iconst 1, 1) := dk_4 (dk_at dksL_law_3 17 rfl rfl)
theorem dL_law_258 : decode cL_law 258 = .ok (.iadd, 1) := dk_96 (dk_at dksL_law_3 18 rfl rfl)
theorem dL_law_259 : decode cL_law 259 = .ok (.iaload, 1) := dk_46 (dk_at dksL_law_3 19 rfl rfl)
theorem dL_law_260 : decode cL_law 260 = .ok (.aload_n 0, 1) := dk_42 (dk_at dksL_law_3 20 rfl rfl)
theorem dL_law_261 : decode cL_law 261 = .ok (.iload_n 3, 1) := dk_29 (dk_at dksL_law_3 21 rfl rfl)
theorem dL_law_262 : decode cL_law 262 = .ok (.iconst 2, 1) := dk_5 (dk_at dksL_law_3 22 rfl rfl)
theorem dL_law_263 : decode cL_law 263 = .ok (.iadd, 1) := dk_96 (dk_at dksL_law_3 23 rfl rfl)
theorem dL_law_264 : decode cL_law 264 = .ok (.iaload, 1) := dk_46 (dk_at dksL_law_4 0 rfl rfl)
theorem dL_law_265 : decode cL_law 265 = .ok (.invokevirtual 17, 3) := dk_182 0 17 (dk_at dksL_law_4 1 rfl rfl)
theorem dL_law_268 : decode cL_law 268 = .ok (.if_icmp .eq 1139, 3) := dk_159 4 115 (dk_at dksL_law_4 4 rfl rfl)
theorem dL_law_271 : decode cL_law 271 = .ok (.iconst 0, 1) := dk_3 (dk_at dksL_law_4 7 rfl rfl)
theorem dL_law_272 : decode cL_law 272 = .ok (.ireturn, 1) := dk_172 (dk_at dksL_law_4 8 rfl rfl)
theorem dL_law_273 : decode cL_law 273 = .ok (.aload_n 1, 1) := dk_43 (dk_at dksL_law_4 9 rfl rfl)
theorem dL_law_274 : decode cL_law 274 = .ok (.aload_n 0, 1) := dk_42 (dk_at dksL_law_4 10 rfl rfl)
theorem dL_law_275 : decode cL_law 275 = .ok (.iload_n 3, 1) := dk_29 (dk_at dksL_law_4 11 rfl rfl)
theorem dL_law_276 : decode cL_law 276 = .ok (.iconst 1, 1) := dk_4 (dk_at dksL_law_4 12 rfl rfl)
theorem dL_law_277 : decode cL_law 277 = .ok (.iadd, 1) := dk_96 (dk_at dksL_law_4 13 rfl rfl)
theorem dL_law_278 : decode cL_law 278 = .ok (.iaload, 1) := dk_46 (dk_at dksL_law_4 14 rfl rfl)
theorem dL_law_279 : decode cL_law 279 = .ok (.aload_n 0, 1) := dk_42 (dk_at dksL_law_4 15 rfl rfl)
theorem dL_law_280 : decode cL_law 280 = .ok (.iload_n 3, 1) := dk_29 (dk_at dksL_law_4 16 rfl rfl)
theorem dL_law_281 : decode cL_law 281 = .ok (.iconst 2, 1) := dk_5 (dk_at dksL_law_4 17 rfl rfl)
theorem dL_law_282 : decode cL_law 282 = .ok (.iadd, 1) := dk_96 (dk_at dksL_law_4 18 rfl rfl)
theorem dL_law_283 : decode cL_law 283 = .ok (.iaload, 1) := dk_46 (dk_at dksL_law_4 19 rfl rfl)
theorem dL_law_284 : decode cL_law 284 = .ok (.aload_n 0, 1) := dk_42 (dk_at dksL_law_4 20 rfl rfl)
theorem dL_law_285 : decode cL_law 285 = .ok (.iload_n 3, 1) := dk_29 (dk_at dksL_law_4 21 rfl rfl)
theorem dL_law_286 : decode cL_law 286 = .ok (.iconst 3, 1) := dk_6 (dk_at dksL_law_4 22 rfl rfl)
theorem dL_law_287 : decode cL_law 287 = .ok (.iadd, 1) := dk_96 (dk_at dksL_law_4 23 rfl rfl)
theorem dL_law_288 : decode cL_law 288 = .ok (.iaload, 1) := dk_46 (dk_at dksL_law_5 0 rfl rfl)
theorem dL_law_289 : decode cL_law 289 = .ok (.invokevirtual 18, 3) := dk_182 0 18 (dk_at dksL_law_5 1 rfl rfl)
theorem dL_law_292 : decode cL_law 292 = .ok (.aload_n 2, 1) := dk_44 (dk_at dksL_law_5 4 rfl rfl)
theorem dL_law_293 : decode cL_law 293 = .ok (.aload_n 0, 1) := dk_42 (dk_at dksL_law_5 5 rfl rfl)
theorem dL_law_294 : decode cL_law 294 = .ok (.iload_n 3, 1) := dk_29 (dk_at dksL_law_5 6 rfl rfl)
theorem dL_law_295 : decode cL_law 295 = .ok (.iconst 1, 1) := dk_4 (dk_at dksL_law_5 7 rfl rfl)
theorem dL_law_296 : decode cL_law 296 = .ok (.iadd, 1) := dk_96 (dk_at dksL_law_5 8 rfl rfl)
theorem dL_law_297 : decode cL_law 297 = .ok (.iaload, 1) := dk_46 (dk_at dksL_law_5 9 rfl rfl)
theorem dL_law_298 : decode cL_law 298 = .ok (.aload_n 0, 1) := dk_42 (dk_at dksL_law_5 10 rfl rfl)
theorem dL_law_299 : decode cL_law 299 = .ok (.iload_n 3, 1) := dk_29 (dk_at dksL_law_5 11 rfl rfl)
theorem dL_law_300 : decode cL_law 300 = .ok (.iconst 2, 1) := dk_5 (dk_at dksL_law_5 12 rfl rfl)
theorem dL_law_301 : decode cL_law 301 = .ok (.iadd, 1) := dk_96 (dk_at dksL_law_5 13 rfl rfl)
theorem dL_law_302 : decode cL_law 302 = .ok (.iaload, 1) := dk_46 (dk_at dksL_law_5 14 rfl rfl)
theorem dL_law_303 : decode cL_law 303 = .ok (.aload_n 0, 1) := dk_42 (dk_at dksL_law_5 15 rfl rfl)
theorem dL_law_304 : decode cL_law 304 = .ok (.iload_n 3, 1) := dk_29 (dk_at dksL_law_5 16 rfl rfl)
theorem dL_law_305 : decode cL_law 305 = .ok (.iconst 3, 1) := dk_6 (dk_at dksL_law_5 17 rfl rfl)
theorem dL_law_306 : decode cL_law 306 = .ok (.iadd, 1) := dk_96 (dk_at dksL_law_5 18 rfl rfl)
theorem dL_law_307 : decode cL_law 307 = .ok (.iaload, 1) := dk_46 (dk_at dksL_law_5 19 rfl rfl)
theorem dL_law_308 : decode cL_law 308 = .ok (.invokevirtual 22, 3) := dk_182 0 22 (dk_at dksL_law_5 20 rfl rfl)
theorem dL_law_311 : decode cL_law 311 = .ok (.if_icmp .eq 1096, 3) := dk_159 4 72 (dk_at dksL_law_6 0 rfl rfl)
theorem dL_law_314 : decode cL_law 314 = .ok (.iconst 0, 1) := dk_3 (dk_at dksL_law_6 3 rfl rfl)
theorem dL_law_315 : decode cL_law 315 = .ok (.ireturn, 1) := dk_172 (dk_at dksL_law_6 4 rfl rfl)
theorem dL_law_316 : decode cL_law 316 = .ok (.aload_n 1, 1) := dk_43 (dk_at dksL_law_6 5 rfl rfl)
theorem dL_law_317 : decode cL_law 317 = .ok (.aload_n 0, 1) := dk_42 (dk_at dksL_law_6 6 rfl rfl)
theorem dL_law_318 : decode cL_law 318 = .ok (.iload_n 3, 1) := dk_29 (dk_at dksL_law_6 7 rfl rfl)
theorem dL_law_319 : decode cL_law 319 = .ok (.iconst 1, 1) := dk_4 (dk_at dksL_law_6 8 rfl rfl)
theorem dL_law_320 : decode cL_law 320 = .ok (.iadd, 1) := dk_96 (dk_at dksL_law_6 9 rfl rfl)
theorem dL_law_321 : decode cL_law 321 = .ok (.iaload, 1) := dk_46 (dk_at dksL_law_6 10 rfl rfl)
theorem dL_law_322 : decode cL_law 322 = .ok (.aload_n 0, 1) := dk_42 (dk_at dksL_law_6 11 rfl rfl)
theorem dL_law_323 : decode cL_law 323 = .ok (.iload_n 3, 1) := dk_29 (dk_at dksL_law_6 12 rfl rfl)
theorem dL_law_324 : decode cL_law 324 = .ok (.iconst 2, 1) := dk_5 (dk_at dksL_law_6 13 rfl rfl)
theorem dL_law_325 : decode cL_law 325 = .ok (.iadd, 1) := dk_96 (dk_at dksL_law_6 14 rfl rfl)
theorem dL_law_326 : decode cL_law 326 = .ok (.iaload, 1) := dk_46 (dk_at dksL_law_6 15 rfl rfl)
theorem dL_law_327 : decode cL_law 327 = .ok (.invokevirtual 23, 3) := dk_182 0 23 (dk_at dksL_law_6 16 rfl rfl)
theorem dL_law_330 : decode cL_law 330 = .ok (.aload_n 2, 1) := dk_44 (dk_at dksL_law_6 19 rfl rfl)
theorem dL_law_331 : decode cL_law 331 = .ok (.aload_n 0, 1) := dk_42 (dk_at dksL_law_6 20 rfl rfl)
theorem dL_law_332 : decode cL_law 332 = .ok (.iload_n 3, 1) := dk_29 (dk_at dksL_law_6 21 rfl rfl)
theorem dL_law_333 : decode cL_law 333 = .ok (.iconst 1, 1) := dk_4 (dk_at dksL_law_6 22 rfl rfl)
theorem dL_law_334 : decode cL_law 334 = .ok (.iadd, 1) := dk_96 (dk_at dksL_law_6 23 rfl rfl)
theorem dL_law_335 : decode cL_law 335 = .ok (.iaload, 1) := dk_46 (dk_at dksL_law_7 0 rfl rfl)
theorem dL_law_336 : decode cL_law 336 = .ok (.aload_n 0, 1) := dk_42 (dk_at dksL_law_7 1 rfl rfl)
theorem dL_law_337 : decode cL_law 337 = .ok (.iload_n 3, 1) := dk_29 (dk_at dksL_law_7 2 rfl rfl)
theorem dL_law_338 : decode cL_law 338 = .ok (.iconst 2, 1) := dk_5 (dk_at dksL_law_7 3 rfl rfl)
theorem dL_law_339 : decode cL_law 339 = .ok (.iadd, 1) := dk_96 (dk_at dksL_law_7 4 rfl rfl)
theorem dL_law_340 : decode cL_law 340 = .ok (.iaload, 1) := dk_46 (dk_at dksL_law_7 5 rfl rfl)
theorem dL_law_341 : decode cL_law 341 = .ok (.invokevirtual 26, 3) := dk_182 0 26 (dk_at dksL_law_7 6 rfl rfl)
theorem dL_law_344 : decode cL_law 344 = .ok (.if_icmp .eq 1063, 3) := dk_159 4 39 (dk_at dksL_law_7 9 rfl rfl)
theorem dL_law_347 : decode cL_law 347 = .ok (.iconst 0, 1) := dk_3 (dk_at dksL_law_7 12 rfl rfl)
theorem dL_law_348 : decode cL_law 348 = .ok (.ireturn, 1) := dk_172 (dk_at dksL_law_7 13 rfl rfl)
theorem dL_law_349 : decode cL_law 349 = .ok (.aload_n 1, 1) := dk_43 (dk_at dksL_law_7 14 rfl rfl)
theorem dL_law_350 : decode cL_law 350 = .ok (.aload_n 0, 1) := dk_42 (dk_at dksL_law_7 15 rfl rfl)
theorem dL_law_351 : decode cL_law 351 = .ok (.iload_n 3, 1) := dk_29 (dk_at dksL_law_7 16 rfl rfl)
theorem dL_law_352 : decode cL_law 352 = .ok (.iconst 1, 1) := dk_4 (dk_at dksL_law_7 17 rfl rfl)
theorem dL_law_353 : decode cL_law 353 = .ok (.iadd, 1) := dk_96 (dk_at dksL_law_7 18 rfl rfl)
theorem dL_law_354 : decode cL_law 354 = .ok (.iaload, 1) := dk_46 (dk_at dksL_law_7 19 rfl rfl)
theorem dL_law_355 : decode cL_law 355 = .ok (.invokevirtual 27, 3) := dk_182 0 27 (dk_at dksL_law_7 20 rfl rfl)
theorem dL_law_358 : decode cL_law 358 = .ok (.aload_n 2, 1) := dk_44 (dk_at dksL_law_7 23 rfl rfl)
theorem dL_law_359 : decode cL_law 359 = .ok (.aload_n 0, 1) := dk_42 (dk_at dksL_law_8 0 rfl rfl)
theorem dL_law_360 : decode cL_law 360 = .ok (.iload_n 3, 1) := dk_29 (dk_at dksL_law_8 1 rfl rfl)
theorem dL_law_361 : decode cL_law 361 = .ok (.iconst 1, 1) := dk_4 (dk_at dksL_law_8 2 rfl rfl)
theorem dL_law_362 : decode cL_law 362 = .ok (.iadd, 1) := dk_96 (dk_at dksL_law_8 3 rfl rfl)
theorem dL_law_363 : decode cL_law 363 = .ok (.iaload, 1) := dk_46 (dk_at dksL_law_8 4 rfl rfl)
theorem dL_law_364 : decode cL_law 364 = .ok (.invokevirtual 31, 3) := dk_182 0 31 (dk_at dksL_law_8 5 rfl rfl)
theorem dL_law_367 : decode cL_law 367 = .ok (.if_icmp .eq 1040, 3) := dk_159 4 16 (dk_at dksL_law_8 8 rfl rfl)
theorem dL_law_370 : decode cL_law 370 = .ok (.iconst 0, 1) := dk_3 (dk_at dksL_law_8 11 rfl rfl)
theorem dL_law_371 : decode cL_law 371 = .ok (.ireturn, 1) := dk_172 (dk_at dksL_law_8 12 rfl rfl)
theorem dL_law_372 : decode cL_law 372 = .ok (.aload_n 1, 1) := dk_43 (dk_at dksL_law_8 13 rfl rfl)
theorem dL_law_373 : decode cL_law 373 = .ok (.aload_n 0, 1) := dk_42 (dk_at dksL_law_8 14 rfl rfl)
theorem dL_law_374 : decode cL_law 374 = .ok (.iload_n 3, 1) := dk_29 (dk_at dksL_law_8 15 rfl rfl)
theorem dL_law_375 : decode cL_law 375 = .ok (.iconst 1, 1) := dk_4 (dk_at dksL_law_8 16 rfl rfl)
theorem dL_law_376 : decode cL_law 376 = .ok (.iadd, 1) := dk_96 (dk_at dksL_law_8 17 rfl rfl)
theorem dL_law_377 : decode cL_law 377 = .ok (.iaload, 1) := dk_46 (dk_at dksL_law_8 18 rfl rfl)
theorem dL_law_378 : decode cL_law 378 = .ok (.aload_n 0, 1) := dk_42 (dk_at dksL_law_8 19 rfl rfl)
theorem dL_law_379 : decode cL_law 379 = .ok (.iload_n 3, 1) := dk_29 (dk_at dksL_law_8 20 rfl rfl)
theorem dL_law_380 : decode cL_law 380 = .ok (.iconst 2, 1) := dk_5 (dk_at dksL_law_8 21 rfl rfl)
theorem dL_law_381 : decode cL_law 381 = .ok (.iadd, 1) := dk_96 (dk_at dksL_law_8 22 rfl rfl)
theorem dL_law_382 : decode cL_law 382 = .ok (.iaload, 1) := dk_46 (dk_at dksL_law_8 23 rfl rfl)
theorem dL_law_383 : decode cL_law 383 = .ok (.aload_n 0, 1) := dk_42 (dk_at dksL_law_9 0 rfl rfl)
theorem dL_law_384 : decode cL_law 384 = .ok (.iload_n 3, 1) := dk_29 (dk_at dksL_law_9 1 rfl rfl)
theorem dL_law_385 : decode cL_law 385 = .ok (.iconst 3, 1) := dk_6 (dk_at dksL_law_9 2 rfl rfl)
theorem dL_law_386 : decode cL_law 386 = .ok (.iadd, 1) := dk_96 (dk_at dksL_law_9 3 rfl rfl)
theorem dL_law_387 : decode cL_law 387 = .ok (.iaload, 1) := dk_46 (dk_at dksL_law_9 4 rfl rfl)
theorem dL_law_388 : decode cL_law 388 = .ok (.aload_n 0, 1) := dk_42 (dk_at dksL_law_9 5 rfl rfl)
theorem dL_law_389 : decode cL_law 389 = .ok (.iload_n 3, 1) := dk_29 (dk_at dksL_law_9 6 rfl rfl)
theorem dL_law_390 : decode cL_law 390 = .ok (.iconst 4, 1) := dk_7 (dk_at dksL_law_9 7 rfl rfl)
theorem dL_law_391 : decode cL_law 391 = .ok (.iadd, 1) := dk_96 (dk_at dksL_law_9 8 rfl rfl)
theorem dL_law_392 : decode cL_law 392 = .ok (.iaload, 1) := dk_46 (dk_at dksL_law_9 9 rfl rfl)
theorem dL_law_393 : decode cL_law 393 = .ok (.aload_n 0, 1) := dk_42 (dk_at dksL_law_9 10 rfl rfl)
theorem dL_law_394 : decode cL_law 394 = .ok (.iload_n 3, 1) := dk_29 (dk_at dksL_law_9 11 rfl rfl)
theorem dL_law_395 : decode cL_law 395 = .ok (.iconst 5, 1) := dk_8 (dk_at dksL_law_9 12 rfl rfl)
theorem dL_law_396 : decode cL_law 396 = .ok (.iadd, 1) := dk_96 (dk_at dksL_law_9 13 rfl rfl)
theorem dL_law_397 : decode cL_law 397 = .ok (.iaload, 1) := dk_46 (dk_at dksL_law_9 14 rfl rfl)
theorem dL_law_398 : decode cL_law 398 = .ok (.invokevirtual 32, 3) := dk_182 0 32 (dk_at dksL_law_9 15 rfl rfl)
theorem dL_law_401 : decode cL_law 401 = .ok (.aload_n 2, 1) := dk_44 (dk_at dksL_law_9 18 rfl rfl)
theorem dL_law_402 : decode cL_law 402 = .ok (.aload_n 0, 1) := dk_42 (dk_at dksL_law_9 19 rfl rfl)
theorem dL_law_403 : decode cL_law 403 = .ok (.iload_n 3, 1) := dk_29 (dk_at dksL_law_9 20 rfl rfl)
theorem dL_law_404 : decode cL_law 404 = .ok (.iconst 1, 1) := dk_4 (dk_at dksL_law_9 21 rfl rfl)
theorem dL_law_405 : decode cL_law 405 = .ok (.iadd, 1) := dk_96 (dk_at dksL_law_9 22 rfl rfl)
theorem dL_law_406 : decode cL_law 406 = .ok (.iaload, 1) := dk_46 (dk_at dksL_law_9 23 rfl rfl)
theorem dL_law_407 : decode cL_law 407 = .ok (.aload_n 0, 1) := dk_42 (dk_at dksL_law_10 0 rfl rfl)
theorem dL_law_408 : decode cL_law 408 = .ok (.iload_n 3, 1) := dk_29 (dk_at dksL_law_10 1 rfl rfl)
theorem dL_law_409 : decode cL_law 409 = .ok (.iconst 2, 1) := dk_5 (dk_at dksL_law_10 2 rfl rfl)
theorem dL_law_410 : decode cL_law 410 = .ok (.iadd, 1) := dk_96 (dk_at dksL_law_10 3 rfl rfl)
theorem dL_law_411 : decode cL_law 411 = .ok (.iaload, 1) := dk_46 (dk_at dksL_law_10 4 rfl rfl)
theorem dL_law_412 : decode cL_law 412 = .ok (.aload_n 0, 1) := dk_42 (dk_at dksL_law_10 5 rfl rfl)
theorem dL_law_413 : decode cL_law 413 = .ok (.iload_n 3, 1) := dk_29 (dk_at dksL_law_10 6 rfl rfl)
theorem dL_law_414 : decode cL_law 414 = .ok (.iconst 3, 1) := dk_6 (dk_at dksL_law_10 7 rfl rfl)
theorem dL_law_415 : decode cL_law 415 = .ok (.iadd, 1) := dk_96 (dk_at dksL_law_10 8 rfl rfl)
theorem dL_law_416 : decode cL_law 416 = .ok (.iaload, 1) := dk_46 (dk_at dksL_law_10 9 rfl rfl)
theorem dL_law_417 : decode cL_law 417 = .ok (.aload_n 0, 1) := dk_42 (dk_at dksL_law_10 10 rfl rfl)
theorem dL_law_418 : decode cL_law 418 = .ok (.iload_n 3, 1) := dk_29 (dk_at dksL_law_10 11 rfl rfl)
theorem dL_law_419 : decode cL_law 419 = .ok (.iconst 4, 1) := dk_7 (dk_at dksL_law_10 12 rfl rfl)
theorem dL_law_420 : decode cL_law 420 = .ok (.iadd, 1) := dk_96 (dk_at dksL_law_10 13 rfl rfl)
theorem dL_law_421 : decode cL_law 421 = .ok (.iaload, 1) := dk_46 (dk_at dksL_law_10 14 rfl rfl)
theorem dL_law_422 : decode cL_law 422 = .ok (.aload_n 0, 1) := dk_42 (dk_at dksL_law_10 15 rfl rfl)
theorem dL_law_423 : decode cL_law 423 = .ok (.iload_n 3, 1) := dk_29 (dk_at dksL_law_10 16 rfl rfl)
theorem dL_law_424 : decode cL_law 424 = .ok (.iconst 5, 1) := dk_8 (dk_at dksL_law_10 17 rfl rfl)
theorem dL_law_425 : decode cL_law 425 = .ok (.iadd, 1) := dk_96 (dk_at dksL_law_10 18 rfl rfl)
theorem dL_law_426 : decode cL_law 426 = .ok (.iaload, 1) := dk_46 (dk_at dksL_law_10 19 rfl rfl)
theorem dL_law_427 : decode cL_law 427 = .ok (.invokevirtual 36, 3) := dk_182 0 36 (dk_at dksL_law_10 20 rfl rfl)
theorem dL_law_430 : decode cL_law 430 = .ok (.if_icmp .eq 977, 3) := dk_159 3 209 (dk_at dksL_law_11 0 rfl rfl)
theorem dL_law_433 : decode cL_law 433 = .ok (.iconst 0, 1) := dk_3 (dk_at dksL_law_11 3 rfl rfl)
theorem dL_law_434 : decode cL_law 434 = .ok (.ireturn, 1) := dk_172 (dk_at dksL_law_11 4 rfl rfl)
theorem dL_law_435 : decode cL_law 435 = .ok (.aload_n 1, 1) := dk_43 (dk_at dksL_law_11 5 rfl rfl)
theorem dL_law_436 : decode cL_law 436 = .ok (.aload_n 0, 1) := dk_42 (dk_at dksL_law_11 6 rfl rfl)
theorem dL_law_437 : decode cL_law 437 = .ok (.iload_n 3, 1) := dk_29 (dk_at dksL_law_11 7 rfl rfl)
theorem dL_law_438 : decode cL_law 438 = .ok (.iconst 1, 1) := dk_4 (dk_at dksL_law_11 8 rfl rfl)
theorem dL_law_439 : decode cL_law 439 = .ok (.iadd, 1) := dk_96 (dk_at dksL_law_11 9 rfl rfl)
theorem dL_law_440 : decode cL_law 440 = .ok (.iaload, 1) := dk_46 (dk_at dksL_law_11 10 rfl rfl)
theorem dL_law_441 : decode cL_law 441 = .ok (.invokevirtual 37, 3) := dk_182 0 37 (dk_at dksL_law_11 11 rfl rfl)
theorem dL_law_444 : decode cL_law 444 = .ok (.aload_n 2, 1) := dk_44 (dk_at dksL_law_11 14 rfl rfl)
theorem dL_law_445 : decode cL_law 445 = .ok (.aload_n 0, 1) := dk_42 (dk_at dksL_law_11 15 rfl rfl)
theorem dL_law_446 : decode cL_law 446 = .ok (.iload_n 3, 1) := dk_29 (dk_at dksL_law_11 16 rfl rfl)
theorem dL_law_447 : decode cL_law 447 = .ok (.iconst 1, 1) := dk_4 (dk_at dksL_law_11 17 rfl rfl)
theorem dL_law_448 : decode cL_law 448 = .ok (.iadd, 1) := dk_96 (dk_at dksL_law_11 18 rfl rfl)
theorem dL_law_449 : decode cL_law 449 = .ok (.iaload, 1) := dk_46 (dk_at dksL_law_11 19 rfl rfl)
theorem dL_law_450 : decode cL_law 450 = .ok (.invokevirtual 40, 3) := dk_182 0 40 (dk_at dksL_law_11 20 rfl rfl)
theorem dL_law_453 : decode cL_law 453 = .ok (.if_icmp .eq 954, 3) := dk_159 3 186 (dk_at dksL_law_12 0 rfl rfl)
theorem dL_law_456 : decode cL_law 456 = .ok (.iconst 0, 1) := dk_3 (dk_at dksL_law_12 3 rfl rfl)
theorem dL_law_457 : decode cL_law 457 = .ok (.ireturn, 1) := dk_172 (dk_at dksL_law_12 4 rfl rfl)
theorem dL_law_458 : decode cL_law 458 = .ok (.aload_n 1, 1) := dk_43 (dk_at dksL_law_12 5 rfl rfl)
theorem dL_law_459 : decode cL_law 459 = .ok (.aload_n 0, 1) := dk_42 (dk_at dksL_law_12 6 rfl rfl)
theorem dL_law_460 : decode cL_law 460 = .ok (.iload_n 3, 1) := dk_29 (dk_at dksL_law_12 7 rfl rfl)
theorem dL_law_461 : decode cL_law 461 = .ok (.iconst 1, 1) := dk_4 (dk_at dksL_law_12 8 rfl rfl)
theorem dL_law_462 : decode cL_law 462 = .ok (.iadd, 1) := dk_96 (dk_at dksL_law_12 9 rfl rfl)
theorem dL_law_463 : decode cL_law 463 = .ok (.iaload, 1) := dk_46 (dk_at dksL_law_12 10 rfl rfl)
theorem dL_law_464 : decode cL_law 464 = .ok (.aload_n 0, 1) := dk_42 (dk_at dksL_law_12 11 rfl rfl)
theorem dL_law_465 : decode cL_law 465 = .ok (.iload_n 3, 1) := dk_29 (dk_at dksL_law_12 12 rfl rfl)
theorem dL_law_466 : decode cL_law 466 = .ok (.iconst 2, 1) := dk_5 (dk_at dksL_law_12 13 rfl rfl)
theorem dL_law_467 : decode cL_law 467 = .ok (.iadd, 1) := dk_96 (dk_at dksL_law_12 14 rfl rfl)
theorem dL_law_468 : decode cL_law 468 = .ok (.iaload, 1) := dk_46 (dk_at dksL_law_12 15 rfl rfl)
theorem dL_law_469 : decode cL_law 469 = .ok (.invokevirtual 41, 3) := dk_182 0 41 (dk_at dksL_law_12 16 rfl rfl)
theorem dL_law_472 : decode cL_law 472 = .ok (.aload_n 2, 1) := dk_44 (dk_at dksL_law_12 19 rfl rfl)
theorem dL_law_473 : decode cL_law 473 = .ok (.aload_n 0, 1) := dk_42 (dk_at dksL_law_12 20 rfl rfl)
theorem dL_law_474 : decode cL_law 474 = .ok (.iload_n 3, 1) := dk_29 (dk_at dksL_law_12 21 rfl rfl)
theorem dL_law_475 : decode cL_law 475 = .ok (.iconst 1, 1) := dk_4 (dk_at dksL_law_12 22 rfl rfl)
theorem dL_law_476 : decode cL_law 476 = .ok (.iadd, 1) := dk_96 (dk_at dksL_law_12 23 rfl rfl)
theorem dL_law_477 : decode cL_law 477 = .ok (.iaload, 1) := dk_46 (dk_at dksL_law_13 0 rfl rfl)
theorem dL_law_478 : decode cL_law 478 = .ok (.aload_n 0, 1) := dk_42 (dk_at dksL_law_13 1 rfl rfl)
theorem dL_law_479 : decode cL_law 479 = .ok (.iload_n 3, 1) := dk_29 (dk_at dksL_law_13 2 rfl rfl)
theorem dL_law_480 : decode cL_law 480 = .ok (.iconst 2, 1) := dk_5 (dk_at dksL_law_13 3 rfl rfl)
theorem dL_law_481 : decode cL_law 481 = .ok (.iadd, 1) := dk_96 (dk_at dksL_law_13 4 rfl rfl)
theorem dL_law_482 : decode cL_law 482 = .ok (.iaload, 1) := dk_46 (dk_at dksL_law_13 5 rfl rfl)
theorem dL_law_483 : decode cL_law 483 = .ok (.invokevirtual 44, 3) := dk_182 0 44 (dk_at dksL_law_13 6 rfl rfl)
theorem dL_law_486 : decode cL_law 486 = .ok (.if_icmp .eq 921, 3) := dk_159 3 153 (dk_at dksL_law_13 9 rfl rfl)
theorem dL_law_489 : decode cL_law 489 = .ok (.iconst 0, 1) := dk_3 (dk_at dksL_law_13 12 rfl rfl)
theorem dL_law_490 : decode cL_law 490 = .ok (.ireturn, 1) := dk_172 (dk_at dksL_law_13 13 rfl rfl)
theorem dL_law_491 : decode cL_law 491 = .ok (.aload_n 1, 1) := dk_43 (dk_at dksL_law_13 14 rfl rfl)
theorem dL_law_492 : decode cL_law 492 = .ok (.aload_n 0, 1) := dk_42 (dk_at dksL_law_13 15 rfl rfl)
theorem dL_law_493 : decode cL_law 493 = .ok (.iload_n 3, 1) := dk_29 (dk_at dksL_law_13 16 rfl rfl)
theorem dL_law_494 : decode cL_law 494 = .ok (.iconst 1, 1) := dk_4 (dk_at dksL_law_13 17 rfl rfl)
theorem dL_law_495 : decode cL_law 495 = .ok (.iadd, 1) := dk_96 (dk_at dksL_law_13 18 rfl rfl)
theorem dL_law_496 : decode cL_law 496 = .ok (.iaload, 1) := dk_46 (dk_at dksL_law_13 19 rfl rfl)
theorem dL_law_497 : decode cL_law 497 = .ok (.aload_n 0, 1) := dk_42 (dk_at dksL_law_13 20 rfl rfl)
theorem dL_law_498 : decode cL_law 498 = .ok (.iload_n 3, 1) := dk_29 (dk_at dksL_law_13 21 rfl rfl)
theorem dL_law_499 : decode cL_law 499 = .ok (.iconst 2, 1) := dk_5 (dk_at dksL_law_13 22 rfl rfl)
theorem dL_law_500 : decode cL_law 500 = .ok (.iadd, 1) := dk_96 (dk_at dksL_law_13 23 rfl rfl)
theorem dL_law_501 : decode cL_law 501 = .ok (.iaload, 1) := dk_46 (dk_at dksL_law_14 0 rfl rfl)
theorem dL_law_502 : decode cL_law 502 = .ok (.aload_n 0, 1) := dk_42 (dk_at dksL_law_14 1 rfl rfl)
theorem dL_law_503 : decode cL_law 503 = .ok (.iload_n 3, 1) := dk_29 (dk_at dksL_law_14 2 rfl rfl)
theorem dL_law_504 : decode cL_law 504 = .ok (.iconst 3, 1) := dk_6 (dk_at dksL_law_14 3 rfl rfl)
theorem dL_law_505 : decode cL_law 505 = .ok (.iadd, 1) := dk_96 (dk_at dksL_law_14 4 rfl rfl)
theorem dL_law_506 : decode cL_law 506 = .ok (.iaload, 1) := dk_46 (dk_at dksL_law_14 5 rfl rfl)
theorem dL_law_507 : decode cL_law 507 = .ok (.invokevirtual 45, 3) := dk_182 0 45 (dk_at dksL_law_14 6 rfl rfl)
theorem dL_law_510 : decode cL_law 510 = .ok (.aload_n 2, 1) := dk_44 (dk_at dksL_law_14 9 rfl rfl)
theorem dL_law_511 : decode cL_law 511 = .ok (.aload_n 0, 1) := dk_42 (dk_at dksL_law_14 10 rfl rfl)
theorem dL_law_512 : decode cL_law 512 = .ok (.iload_n 3, 1) := dk_29 (dk_at dksL_law_14 11 rfl rfl)
theorem dL_law_513 : decode cL_law 513 = .ok (.iconst 1, 1) := dk_4 (dk_at dksL_law_14 12 rfl rfl)
theorem dL_law_514 : decode cL_law 514 = .ok (.iadd, 1) := dk_96 (dk_at dksL_law_14 13 rfl rfl)
theorem dL_law_515 : decode cL_law 515 = .ok (.iaload, 1) := dk_46 (dk_at dksL_law_14 14 rfl rfl)
theorem dL_law_516 : decode cL_law 516 = .ok (.aload_n 0, 1) := dk_42 (dk_at dksL_law_14 15 rfl rfl)
theorem dL_law_517 : decode cL_law 517 = .ok (.iload_n 3, 1) := dk_29 (dk_at dksL_law_14 16 rfl rfl)
theorem dL_law_518 : decode cL_law 518 = .ok (.iconst 2, 1) := dk_5 (dk_at dksL_law_14 17 rfl rfl)
theorem dL_law_519 : decode cL_law 519 = .ok (.iadd, 1) := dk_96 (dk_at dksL_law_14 18 rfl rfl)
theorem dL_law_520 : decode cL_law 520 = .ok (.iaload, 1) := dk_46 (dk_at dksL_law_14 19 rfl rfl)
theorem dL_law_521 : decode cL_law 521 = .ok (.aload_n 0, 1) := dk_42 (dk_at dksL_law_14 20 rfl rfl)
theorem dL_law_522 : decode cL_law 522 = .ok (.iload_n 3, 1) := dk_29 (dk_at dksL_law_14 21 rfl rfl)
theorem dL_law_523 : decode cL_law 523 = .ok (.iconst 3, 1) := dk_6 (dk_at dksL_law_14 22 rfl rfl)
theorem dL_law_524 : decode cL_law 524 = .ok (.iadd, 1) := dk_96 (dk_at dksL_law_14 23 rfl rfl)
theorem dL_law_525 : decode cL_law 525 = .ok (.iaload, 1) := dk_46 (dk_at dksL_law_15 0 rfl rfl)
theorem dL_law_526 : decode cL_law 526 = .ok (.invokevirtual 48, 3) := dk_182 0 48 (dk_at dksL_law_15 1 rfl rfl)
theorem dL_law_529 : decode cL_law 529 = .ok (.if_icmp .eq 878, 3) := dk_159 3 110 (dk_at dksL_law_15 4 rfl rfl)
theorem dL_law_532 : decode cL_law 532 = .ok (.iconst 0, 1) := dk_3 (dk_at dksL_law_15 7 rfl rfl)
theorem dL_law_533 : decode cL_law 533 = .ok (.ireturn, 1) := dk_172 (dk_at dksL_law_15 8 rfl rfl)
theorem dL_law_534 : decode cL_law 534 = .ok (.aload_n 1, 1) := dk_43 (dk_at dksL_law_15 9 rfl rfl)
theorem dL_law_535 : decode cL_law 535 = .ok (.aload_n 0, 1) := dk_42 (dk_at dksL_law_15 10 rfl rfl)
theorem dL_law_536 : decode cL_law 536 = .ok (.iload_n 3, 1) := dk_29 (dk_at dksL_law_15 11 rfl rfl)
theorem dL_law_537 : decode cL_law 537 = .ok (.iconst 1, 1) := dk_4 (dk_at dksL_law_15 12 rfl rfl)
theorem dL_law_538 : decode cL_law 538 = .ok (.iadd, 1) := dk_96 (dk_at dksL_law_15 13 rfl rfl)
theorem dL_law_539 : decode cL_law 539 = .ok (.iaload, 1) := dk_46 (dk_at dksL_law_15 14 rfl rfl)
theorem dL_law_540 : decode cL_law 540 = .ok (.invokevirtual 49, 3) := dk_182 0 49 (dk_at dksL_law_15 15 rfl rfl)
theorem dL_law_543 : decode cL_law 543 = .ok (.aload_n 2, 1) := dk_44 (dk_at dksL_law_15 18 rfl rfl)
theorem dL_law_544 : decode cL_law 544 = .ok (.aload_n 0, 1) := dk_42 (dk_at dksL_law_15 19 rfl rfl)
theorem dL_law_545 : decode cL_law 545 = .ok (.iload_n 3, 1) := dk_29 (dk_at dksL_law_15 20 rfl rfl)
theorem dL_law_546 : decode cL_law 546 = .ok (.iconst 1, 1) := dk_4 (dk_at dksL_law_15 21 rfl rfl)
theorem dL_law_547 : decode cL_law 547 = .ok (.iadd, 1) := dk_96 (dk_at dksL_law_15 22 rfl rfl)
theorem dL_law_548 : decode cL_law 548 = .ok (.iaload, 1) := dk_46 (dk_at dksL_law_15 23 rfl rfl)
theorem dL_law_549 : decode cL_law 549 = .ok (.invokevirtual 52, 3) := dk_182 0 52 (dk_at dksL_law_16 0 rfl rfl)
theorem dL_law_552 : decode cL_law 552 = .ok (.if_icmp .eq 855, 3) := dk_159 3 87 (dk_at dksL_law_16 3 rfl rfl)
theorem dL_law_555 : decode cL_law 555 = .ok (.iconst 0, 1) := dk_3 (dk_at dksL_law_16 6 rfl rfl)
theorem dL_law_556 : decode cL_law 556 = .ok (.ireturn, 1) := dk_172 (dk_at dksL_law_16 7 rfl rfl)
theorem dL_law_557 : decode cL_law 557 = .ok (.aload_n 1, 1) := dk_43 (dk_at dksL_law_16 8 rfl rfl)
theorem dL_law_558 : decode cL_law 558 = .ok (.aload_n 0, 1) := dk_42 (dk_at dksL_law_16 9 rfl rfl)
theorem dL_law_559 : decode cL_law 559 = .ok (.iload_n 3, 1) := dk_29 (dk_at dksL_law_16 10 rfl rfl)
theorem dL_law_560 : decode cL_law 560 = .ok (.iconst 1, 1) := dk_4 (dk_at dksL_law_16 11 rfl rfl)
theorem dL_law_561 : decode cL_law 561 = .ok (.iadd, 1) := dk_96 (dk_at dksL_law_16 12 rfl rfl)
theorem dL_law_562 : decode cL_law 562 = .ok (.iaload, 1) := dk_46 (dk_at dksL_law_16 13 rfl rfl)
theorem dL_law_563 : decode cL_law 563 = .ok (.invokevirtual 53, 3) := dk_182 0 53 (dk_at dksL_law_16 14 rfl rfl)
theorem dL_law_566 : decode cL_law 566 = .ok (.aload_n 2, 1) := dk_44 (dk_at dksL_law_16 17 rfl rfl)
theorem dL_law_567 : decode cL_law 567 = .ok (.aload_n 0, 1) := dk_42 (dk_at dksL_law_16 18 rfl rfl)
theorem dL_law_568 : decode cL_law 568 = .ok (.iload_n 3, 1) := dk_29 (dk_at dksL_law_16 19 rfl rfl)
theorem dL_law_569 : decode cL_law 569 = .ok (.iconst 1, 1) := dk_4 (dk_at dksL_law_16 20 rfl rfl)
theorem dL_law_570 : decode cL_law 570 = .ok (.iadd, 1) := dk_96 (dk_at dksL_law_16 21 rfl rfl)
theorem dL_law_571 : decode cL_law 571 = .ok (.iaload, 1) := dk_46 (dk_at dksL_law_16 22 rfl rfl)
theorem dL_law_572 : decode cL_law 572 = .ok (.invokevirtual 56, 3) := dk_182 0 56 (dk_at dksL_law_17 0 rfl rfl)
theorem dL_law_575 : decode cL_law 575 = .ok (.if_icmp .eq 832, 3) := dk_159 3 64 (dk_at dksL_law_17 3 rfl rfl)
theorem dL_law_578 : decode cL_law 578 = .ok (.iconst 0, 1) := dk_3 (dk_at dksL_law_17 6 rfl rfl)
theorem dL_law_579 : decode cL_law 579 = .ok (.ireturn, 1) := dk_172 (dk_at dksL_law_17 7 rfl rfl)
theorem dL_law_580 : decode cL_law 580 = .ok (.aload_n 1, 1) := dk_43 (dk_at dksL_law_17 8 rfl rfl)
theorem dL_law_581 : decode cL_law 581 = .ok (.aload_n 0, 1) := dk_42 (dk_at dksL_law_17 9 rfl rfl)
theorem dL_law_582 : decode cL_law 582 = .ok (.iload_n 3, 1) := dk_29 (dk_at dksL_law_17 10 rfl rfl)
theorem dL_law_583 : decode cL_law 583 = .ok (.iconst 1, 1) := dk_4 (dk_at dksL_law_17 11 rfl rfl)
theorem dL_law_584 : decode cL_law 584 = .ok (.iadd, 1) := dk_96 (dk_at dksL_law_17 12 rfl rfl)
theorem dL_law_585 : decode cL_law 585 = .ok (.iaload, 1) := dk_46 (dk_at dksL_law_17 13 rfl rfl)
theorem dL_law_586 : decode cL_law 586 = .ok (.aload_n 0, 1) := dk_42 (dk_at dksL_law_17 14 rfl rfl)
theorem dL_law_587 : decode cL_law 587 = .ok (.iload_n 3, 1) := dk_29 (dk_at dksL_law_17 15 rfl rfl)
theorem dL_law_588 : decode cL_law 588 = .ok (.iconst 2, 1) := dk_5 (dk_at dksL_law_17 16 rfl rfl)
theorem dL_law_589 : decode cL_law 589 = .ok (.iadd, 1) := dk_96 (dk_at dksL_law_17 17 rfl rfl)
theorem dL_law_590 : decode cL_law 590 = .ok (.iaload, 1) := dk_46 (dk_at dksL_law_17 18 rfl rfl)
theorem dL_law_591 : decode cL_law 591 = .ok (.invokevirtual 57, 3) := dk_182 0 57 (dk_at dksL_law_17 19 rfl rfl)
theorem dL_law_594 : decode cL_law 594 = .ok (.aload_n 2, 1) := dk_44 (dk_at dksL_law_17 22 rfl rfl)
theorem dL_law_595 : decode cL_law 595 = .ok (.aload_n 0, 1) := dk_42 (dk_at dksL_law_17 23 rfl rfl)
theorem dL_law_596 : decode cL_law 596 = .ok (.iload_n 3, 1) := dk_29 (dk_at dksL_law_18 0 rfl rfl)
theorem dL_law_597 : decode cL_law 597 = .ok (.iconst 1, 1) := dk_4 (dk_at dksL_law_18 1 rfl rfl)
theorem dL_law_598 : decode cL_law 598 = .ok (.iadd, 1) := dk_96 (dk_at dksL_law_18 2 rfl rfl)
theorem dL_law_599 : decode cL_law 599 = .ok (.iaload, 1) := dk_46 (dk_at dksL_law_18 3 rfl rfl)
theorem dL_law_600 : decode cL_law 600 = .ok (.aload_n 0, 1) := dk_42 (dk_at dksL_law_18 4 rfl rfl)
theorem dL_law_601 : decode cL_law 601 = .ok (.iload_n 3, 1) := dk_29 (dk_at dksL_law_18 5 rfl rfl)
theorem dL_law_602 : decode cL_law 602 = .ok (.iconst 2, 1) := dk_5 (dk_at dksL_law_18 6 rfl rfl)
theorem dL_law_603 : decode cL_law 603 = .ok (.iadd, 1) := dk_96 (dk_at dksL_law_18 7 rfl rfl)
theorem dL_law_604 : decode cL_law 604 = .ok (.iaload, 1) := dk_46 (dk_at dksL_law_18 8 rfl rfl)
theorem dL_law_605 : decode cL_law 605 = .ok (.invokevirtual 60, 3) := dk_182 0 60 (dk_at dksL_law_18 9 rfl rfl)
theorem dL_law_608 : decode cL_law 608 = .ok (.if_icmp .eq 799, 3) := dk_159 3 31 (dk_at dksL_law_18 12 rfl rfl)
theorem dL_law_611 : decode cL_law 611 = .ok (.iconst 0, 1) := dk_3 (dk_at dksL_law_18 15 rfl rfl)
theorem dL_law_612 : decode cL_law 612 = .ok (.ireturn, 1) := dk_172 (dk_at dksL_law_18 16 rfl rfl)
theorem dL_law_613 : decode cL_law 613 = .ok (.aload_n 1, 1) := dk_43 (dk_at dksL_law_18 17 rfl rfl)
theorem dL_law_614 : decode cL_law 614 = .ok (.aload_n 0, 1) := dk_42 (dk_at dksL_law_18 18 rfl rfl)
theorem dL_law_615 : decode cL_law 615 = .ok (.iload_n 3, 1) := dk_29 (dk_at dksL_law_18 19 rfl rfl)
theorem dL_law_616 : decode cL_law 616 = .ok (.iconst 1, 1) := dk_4 (dk_at dksL_law_18 20 rfl rfl)
theorem dL_law_617 : decode cL_law 617 = .ok (.iadd, 1) := dk_96 (dk_at dksL_law_18 21 rfl rfl)
theorem dL_law_618 : decode cL_law 618 = .ok (.iaload, 1) := dk_46 (dk_at dksL_law_18 22 rfl rfl)
theorem dL_law_619 : decode cL_law 619 = .ok (.aload_n 0, 1) := dk_42 (dk_at dksL_law_18 23 rfl rfl)
theorem dL_law_620 : decode cL_law 620 = .ok (.iload_n 3, 1) := dk_29 (dk_at dksL_law_19 0 rfl rfl)
theorem dL_law_621 : decode cL_law 621 = .ok (.iconst 2, 1) := dk_5 (dk_at dksL_law_19 1 rfl rfl)
theorem dL_law_622 : decode cL_law 622 = .ok (.iadd, 1) := dk_96 (dk_at dksL_law_19 2 rfl rfl)
theorem dL_law_623 : decode cL_law 623 = .ok (.iaload, 1) := dk_46 (dk_at dksL_law_19 3 rfl rfl)
theorem dL_law_624 : decode cL_law 624 = .ok (.invokevirtual 61, 3) := dk_182 0 61 (dk_at dksL_law_19 4 rfl rfl)
theorem dL_law_627 : decode cL_law 627 = .ok (.aload_n 2, 1) := dk_44 (dk_at dksL_law_19 7 rfl rfl)
theorem dL_law_628 : decode cL_law 628 = .ok (.aload_n 0, 1) := dk_42 (dk_at dksL_law_19 8 rfl rfl)
theorem dL_law_629 : decode cL_law 629 = .ok (.iload_n 3, 1) := dk_29 (dk_at dksL_law_19 9 rfl rfl)
theorem dL_law_630 : decode cL_law 630 = .ok (.iconst 1, 1) := dk_4 (dk_at dksL_law_19 10 rfl rfl)
theorem dL_law_631 : decode cL_law 631 = .ok (.iadd, 1) := dk_96 (dk_at dksL_law_19 11 rfl rfl)
theorem dL_law_632 : decode cL_law 632 = .ok (.iaload, 1) := dk_46 (dk_at dksL_law_19 12 rfl rfl)
theorem dL_law_633 : decode cL_law 633 = .ok (.aload_n 0, 1) := dk_42 (dk_at dksL_law_19 13 rfl rfl)
theorem dL_law_634 : decode cL_law 634 = .ok (.iload_n 3, 1) := dk_29 (dk_at dksL_law_19 14 rfl rfl)
theorem dL_law_635 : decode cL_law 635 = .ok (.iconst 2, 1) := dk_5 (dk_at dksL_law_19 15 rfl rfl)
theorem dL_law_636 : decode cL_law 636 = .ok (.iadd, 1) := dk_96 (dk_at dksL_law_19 16 rfl rfl)
theorem dL_law_637 : decode cL_law 637 = .ok (.iaload, 1) := dk_46 (dk_at dksL_law_19 17 rfl rfl)
theorem dL_law_638 : decode cL_law 638 = .ok (.invokevirtual 64, 3) := dk_182 0 64 (dk_at dksL_law_19 18 rfl rfl)
theorem dL_law_641 : decode cL_law 641 = .ok (.if_icmp .eq 766, 3) := dk_159 2 254 (dk_at dksL_law_19 21 rfl rfl)
theorem dL_law_644 : decode cL_law 644 = .ok (.iconst 0, 1) := dk_3 (dk_at dksL_law_20 0 rfl rfl)
theorem dL_law_645 : decode cL_law 645 = .ok (.ireturn, 1) := dk_172 (dk_at dksL_law_20 1 rfl rfl)
theorem dL_law_646 : decode cL_law 646 = .ok (.aload_n 1, 1) := dk_43 (dk_at dksL_law_20 2 rfl rfl)
theorem dL_law_647 : decode cL_law 647 = .ok (.aload_n 0, 1) := dk_42 (dk_at dksL_law_20 3 rfl rfl)
theorem dL_law_648 : decode cL_law 648 = .ok (.iload_n 3, 1) := dk_29 (dk_at dksL_law_20 4 rfl rfl)
theorem dL_law_649 : decode cL_law 649 = .ok (.iconst 1, 1) := dk_4 (dk_at dksL_law_20 5 rfl rfl)
theorem dL_law_650 : decode cL_law 650 = .ok (.iadd, 1) := dk_96 (dk_at dksL_law_20 6 rfl rfl)
theorem dL_law_651 : decode cL_law 651 = .ok (.iaload, 1) := dk_46 (dk_at dksL_law_20 7 rfl rfl)
theorem dL_law_652 : decode cL_law 652 = .ok (.aload_n 0, 1) := dk_42 (dk_at dksL_law_20 8 rfl rfl)
theorem dL_law_653 : decode cL_law 653 = .ok (.iload_n 3, 1) := dk_29 (dk_at dksL_law_20 9 rfl rfl)
theorem dL_law_654 : decode cL_law 654 = .ok (.iconst 2, 1) := dk_5 (dk_at dksL_law_20 10 rfl rfl)
theorem dL_law_655 : decode cL_law 655 = .ok (.iadd, 1) := dk_96 (dk_at dksL_law_20 11 rfl rfl)
theorem dL_law_656 : decode cL_law 656 = .ok (.iaload, 1) := dk_46 (dk_at dksL_law_20 12 rfl rfl)
theorem dL_law_657 : decode cL_law 657 = .ok (.invokevirtual 65, 3) := dk_182 0 65 (dk_at dksL_law_20 13 rfl rfl)
theorem dL_law_660 : decode cL_law 660 = .ok (.aload_n 2, 1) := dk_44 (dk_at dksL_law_20 16 rfl rfl)
theorem dL_law_661 : decode cL_law 661 = .ok (.aload_n 0, 1) := dk_42 (dk_at dksL_law_20 17 rfl rfl)
theorem dL_law_662 : decode cL_law 662 = .ok (.iload_n 3, 1) := dk_29 (dk_at dksL_law_20 18 rfl rfl)
theorem dL_law_663 : decode cL_law 663 = .ok (.iconst 1, 1) := dk_4 (dk_at dksL_law_20 19 rfl rfl)
theorem dL_law_664 : decode cL_law 664 = .ok (.iadd, 1) := dk_96 (dk_at dksL_law_20 20 rfl rfl)
theorem dL_law_665 : decode cL_law 665 = .ok (.iaload, 1) := dk_46 (dk_at dksL_law_20 21 rfl rfl)
theorem dL_law_666 : decode cL_law 666 = .ok (.aload_n 0, 1) := dk_42 (dk_at dksL_law_20 22 rfl rfl)
theorem dL_law_667 : decode cL_law 667 = .ok (.iload_n 3, 1) := dk_29 (dk_at dksL_law_20 23 rfl rfl)
theorem dL_law_668 : decode cL_law 668 = .ok (.iconst 2, 1) := dk_5 (dk_at dksL_law_21 0 rfl rfl)
theorem dL_law_669 : decode cL_law 669 = .ok (.iadd, 1) := dk_96 (dk_at dksL_law_21 1 rfl rfl)
theorem dL_law_670 : decode cL_law 670 = .ok (.iaload, 1) := dk_46 (dk_at dksL_law_21 2 rfl rfl)
theorem dL_law_671 : decode cL_law 671 = .ok (.invokevirtual 68, 3) := dk_182 0 68 (dk_at dksL_law_21 3 rfl rfl)
theorem dL_law_674 : decode cL_law 674 = .ok (.if_icmp .eq 733, 3) := dk_159 2 221 (dk_at dksL_law_21 6 rfl rfl)
theorem dL_law_677 : decode cL_law 677 = .ok (.iconst 0, 1) := dk_3 (dk_at dksL_law_21 9 rfl rfl)
theorem dL_law_678 : decode cL_law 678 = .ok (.ireturn, 1) := dk_172 (dk_at dksL_law_21 10 rfl rfl)
theorem dL_law_679 : decode cL_law 679 = .ok (.aload_n 1, 1) := dk_43 (dk_at dksL_law_21 11 rfl rfl)
theorem dL_law_680 : decode cL_law 680 = .ok (.aload_n 0, 1) := dk_42 (dk_at dksL_law_21 12 rfl rfl)
theorem dL_law_681 : decode cL_law 681 = .ok (.iload_n 3, 1) := dk_29 (dk_at dksL_law_21 13 rfl rfl)
theorem dL_law_682 : decode cL_law 682 = .ok (.iconst 1, 1) := dk_4 (dk_at dksL_law_21 14 rfl rfl)
theorem dL_law_683 : decode cL_law 683 = .ok (.iadd, 1) := dk_96 (dk_at dksL_law_21 15 rfl rfl)
theorem dL_law_684 : decode cL_law 684 = .ok (.iaload, 1) := dk_46 (dk_at dksL_law_21 16 rfl rfl)
theorem dL_law_685 : decode cL_law 685 = .ok (.aload_n 0, 1) := dk_42 (dk_at dksL_law_21 17 rfl rfl)
theorem dL_law_686 : decode cL_law 686 = .ok (.iload_n 3, 1) := dk_29 (dk_at dksL_law_21 18 rfl rfl)
theorem dL_law_687 : decode cL_law 687 = .ok (.iconst 2, 1) := dk_5 (dk_at dksL_law_21 19 rfl rfl)
theorem dL_law_688 : decode cL_law 688 = .ok (.iadd, 1) := dk_96 (dk_at dksL_law_21 20 rfl rfl)
theorem dL_law_689 : decode cL_law 689 = .ok (.iaload, 1) := dk_46 (dk_at dksL_law_21 21 rfl rfl)
theorem dL_law_690 : decode cL_law 690 = .ok (.invokevirtual 69, 3) := dk_182 0 69 (dk_at dksL_law_22 0 rfl rfl)
theorem dL_law_693 : decode cL_law 693 = .ok (.aload_n 2, 1) := dk_44 (dk_at dksL_law_22 3 rfl rfl)
theorem dL_law_694 : decode cL_law 694 = .ok (.aload_n 0, 1) := dk_42 (dk_at dksL_law_22 4 rfl rfl)
theorem dL_law_695 : decode cL_law 695 = .ok (.iload_n 3, 1) := dk_29 (dk_at dksL_law_22 5 rfl rfl)
theorem dL_law_696 : decode cL_law 696 = .ok (.iconst 1, 1) := dk_4 (dk_at dksL_law_22 6 rfl rfl)
theorem dL_law_697 : decode cL_law 697 = .ok (.iadd, 1) := dk_96 (dk_at dksL_law_22 7 rfl rfl)
theorem dL_law_698 : decode cL_law 698 = .ok (.iaload, 1) := dk_46 (dk_at dksL_law_22 8 rfl rfl)
theorem dL_law_699 : decode cL_law 699 = .ok (.aload_n 0, 1) := dk_42 (dk_at dksL_law_22 9 rfl rfl)
theorem dL_law_700 : decode cL_law 700 = .ok (.iload_n 3, 1) := dk_29 (dk_at dksL_law_22 10 rfl rfl)
theorem dL_law_701 : decode cL_law 701 = .ok (.iconst 2, 1) := dk_5 (dk_at dksL_law_22 11 rfl rfl)
theorem dL_law_702 : decode cL_law 702 = .ok (.iadd, 1) := dk_96 (dk_at dksL_law_22 12 rfl rfl)
theorem dL_law_703 : decode cL_law 703 = .ok (.iaload, 1) := dk_46 (dk_at dksL_law_22 13 rfl rfl)
theorem dL_law_704 : decode cL_law 704 = .ok (.invokevirtual 72, 3) := dk_182 0 72 (dk_at dksL_law_22 14 rfl rfl)
theorem dL_law_707 : decode cL_law 707 = .ok (.if_icmp .eq 700, 3) := dk_159 2 188 (dk_at dksL_law_22 17 rfl rfl)
theorem dL_law_710 : decode cL_law 710 = .ok (.iconst 0, 1) := dk_3 (dk_at dksL_law_22 20 rfl rfl)
theorem dL_law_711 : decode cL_law 711 = .ok (.ireturn, 1) := dk_172 (dk_at dksL_law_22 21 rfl rfl)
theorem dL_law_712 : decode cL_law 712 = .ok (.aload_n 1, 1) := dk_43 (dk_at dksL_law_22 22 rfl rfl)
theorem dL_law_713 : decode cL_law 713 = .ok (.aload_n 0, 1) := dk_42 (dk_at dksL_law_22 23 rfl rfl)
theorem dL_law_714 : decode cL_law 714 = .ok (.iload_n 3, 1) := dk_29 (dk_at dksL_law_23 0 rfl rfl)
theorem dL_law_715 : decode cL_law 715 = .ok (.iconst 1, 1) := dk_4 (dk_at dksL_law_23 1 rfl rfl)
theorem dL_law_716 : decode cL_law 716 = .ok (.iadd, 1) := dk_96 (dk_at dksL_law_23 2 rfl rfl)
theorem dL_law_717 : decode cL_law 717 = .ok (.iaload, 1) := dk_46 (dk_at dksL_law_23 3 rfl rfl)
theorem dL_law_718 : decode cL_law 718 = .ok (.aload_n 0, 1) := dk_42 (dk_at dksL_law_23 4 rfl rfl)
theorem dL_law_719 : decode cL_law 719 = .ok (.iload_n 3, 1) := dk_29 (dk_at dksL_law_23 5 rfl rfl)
theorem dL_law_720 : decode cL_law 720 = .ok (.iconst 2, 1) := dk_5 (dk_at dksL_law_23 6 rfl rfl)
theorem dL_law_721 : decode cL_law 721 = .ok (.iadd, 1) := dk_96 (dk_at dksL_law_23 7 rfl rfl)
theorem dL_law_722 : decode cL_law 722 = .ok (.iaload, 1) := dk_46 (dk_at dksL_law_23 8 rfl rfl)
theorem dL_law_723 : decode cL_law 723 = .ok (.invokevirtual 73, 3) := dk_182 0 73 (dk_at dksL_law_23 9 rfl rfl)
theorem dL_law_726 : decode cL_law 726 = .ok (.aload_n 2, 1) := dk_44 (dk_at dksL_law_23 12 rfl rfl)
theorem dL_law_727 : decode cL_law 727 = .ok (.aload_n 0, 1) := dk_42 (dk_at dksL_law_23 13 rfl rfl)
theorem dL_law_728 : decode cL_law 728 = .ok (.iload_n 3, 1) := dk_29 (dk_at dksL_law_23 14 rfl rfl)
theorem dL_law_729 : decode cL_law 729 = .ok (.iconst 1, 1) := dk_4 (dk_at dksL_law_23 15 rfl rfl)
theorem dL_law_730 : decode cL_law 730 = .ok (.iadd, 1) := dk_96 (dk_at dksL_law_23 16 rfl rfl)
theorem dL_law_731 : decode cL_law 731 = .ok (.iaload, 1) := dk_46 (dk_at dksL_law_23 17 rfl rfl)
theorem dL_law_732 : decode cL_law 732 = .ok (.aload_n 0, 1) := dk_42 (dk_at dksL_law_23 18 rfl rfl)
theorem dL_law_733 : decode cL_law 733 = .ok (.iload_n 3, 1) := dk_29 (dk_at dksL_law_23 19 rfl rfl)
theorem dL_law_734 : decode cL_law 734 = .ok (.iconst 2, 1) := dk_5 (dk_at dksL_law_23 20 rfl rfl)
theorem dL_law_735 : decode cL_law 735 = .ok (.iadd, 1) := dk_96 (dk_at dksL_law_23 21 rfl rfl)
theorem dL_law_736 : decode cL_law 736 = .ok (.iaload, 1) := dk_46 (dk_at dksL_law_23 22 rfl rfl)
theorem dL_law_737 : decode cL_law 737 = .ok (.invokevirtual 76, 3) := dk_182 0 76 (dk_at dksL_law_24 0 rfl rfl)
theorem dL_law_740 : decode cL_law 740 = .ok (.if_icmp .eq 667, 3) := dk_159 2 155 (dk_at dksL_law_24 3 rfl rfl)
theorem dL_law_743 : decode cL_law 743 = .ok (.iconst 0, 1) := dk_3 (dk_at dksL_law_24 6 rfl rfl)
theorem dL_law_744 : decode cL_law 744 = .ok (.ireturn, 1) := dk_172 (dk_at dksL_law_24 7 rfl rfl)
theorem dL_law_745 : decode cL_law 745 = .ok (.aload_n 1, 1) := dk_43 (dk_at dksL_law_24 8 rfl rfl)
theorem dL_law_746 : decode cL_law 746 = .ok (.aload_n 0, 1) := dk_42 (dk_at dksL_law_24 9 rfl rfl)
theorem dL_law_747 : decode cL_law 747 = .ok (.iload_n 3, 1) := dk_29 (dk_at dksL_law_24 10 rfl rfl)
theorem dL_law_748 : decode cL_law 748 = .ok (.iconst 1, 1) := dk_4 (dk_at dksL_law_24 11 rfl rfl)
theorem dL_law_749 : decode cL_law 749 = .ok (.iadd, 1) := dk_96 (dk_at dksL_law_24 12 rfl rfl)
theorem dL_law_750 : decode cL_law 750 = .ok (.iaload, 1) := dk_46 (dk_at dksL_law_24 13 rfl rfl)
theorem dL_law_751 : decode cL_law 751 = .ok (.aload_n 0, 1) := dk_42 (dk_at dksL_law_24 14 rfl rfl)
theorem dL_law_752 : decode cL_law 752 = .ok (.iload_n 3, 1) := dk_29 (dk_at dksL_law_24 15 rfl rfl)
theorem dL_law_753 : decode cL_law 753 = .ok (.iconst 2, 1) := dk_5 (dk_at dksL_law_24 16 rfl rfl)
theorem dL_law_754 : decode cL_law 754 = .ok (.iadd, 1) := dk_96 (dk_at dksL_law_24 17 rfl rfl)
theorem dL_law_755 : decode cL_law 755 = .ok (.iaload, 1) := dk_46 (dk_at dksL_law_24 18 rfl rfl)
theorem dL_law_756 : decode cL_law 756 = .ok (.invokevirtual 77, 3) := dk_182 0 77 (dk_at dksL_law_24 19 rfl rfl)
theorem dL_law_759 : decode cL_law 759 = .ok (.aload_n 2, 1) := dk_44 (dk_at dksL_law_24 22 rfl rfl)
theorem dL_law_760 : decode cL_law 760 = .ok (.aload_n 0, 1) := dk_42 (dk_at dksL_law_24 23 rfl rfl)
theorem dL_law_761 : decode cL_law 761 = .ok (.iload_n 3, 1) := dk_29 (dk_at dksL_law_25 0 rfl rfl)
theorem dL_law_762 : decode cL_law 762 = .ok (.iconst 1, 1) := dk_4 (dk_at dksL_law_25 1 rfl rfl)
theorem dL_law_763 : decode cL_law 763 = .ok (.iadd, 1) := dk_96 (dk_at dksL_law_25 2 rfl rfl)
theorem dL_law_764 : decode cL_law 764 = .ok (.iaload, 1) := dk_46 (dk_at dksL_law_25 3 rfl rfl)
theorem dL_law_765 : decode cL_law 765 = .ok (.aload_n 0, 1) := dk_42 (dk_at dksL_law_25 4 rfl rfl)
theorem dL_law_766 : decode cL_law 766 = .ok (.iload_n 3, 1) := dk_29 (dk_at dksL_law_25 5 rfl rfl)
theorem dL_law_767 : decode cL_law 767 = .ok (.iconst 2, 1) := dk_5 (dk_at dksL_law_25 6 rfl rfl)
theorem dL_law_768 : decode cL_law 768 = .ok (.iadd, 1) := dk_96 (dk_at dksL_law_25 7 rfl rfl)
theorem dL_law_769 : decode cL_law 769 = .ok (.iaload, 1) := dk_46 (dk_at dksL_law_25 8 rfl rfl)
theorem dL_law_770 : decode cL_law 770 = .ok (.invokevirtual 80, 3) := dk_182 0 80 (dk_at dksL_law_25 9 rfl rfl)
theorem dL_law_773 : decode cL_law 773 = .ok (.if_icmp .eq 634, 3) := dk_159 2 122 (dk_at dksL_law_25 12 rfl rfl)
theorem dL_law_776 : decode cL_law 776 = .ok (.iconst 0, 1) := dk_3 (dk_at dksL_law_25 15 rfl rfl)
theorem dL_law_777 : decode cL_law 777 = .ok (.ireturn, 1) := dk_172 (dk_at dksL_law_25 16 rfl rfl)
theorem dL_law_778 : decode cL_law 778 = .ok (.aload_n 1, 1) := dk_43 (dk_at dksL_law_25 17 rfl rfl)
theorem dL_law_779 : decode cL_law 779 = .ok (.aload_n 0, 1) := dk_42 (dk_at dksL_law_25 18 rfl rfl)
theorem dL_law_780 : decode cL_law 780 = .ok (.iload_n 3, 1) := dk_29 (dk_at dksL_law_25 19 rfl rfl)
theorem dL_law_781 : decode cL_law 781 = .ok (.iconst 1, 1) := dk_4 (dk_at dksL_law_25 20 rfl rfl)
theorem dL_law_782 : decode cL_law 782 = .ok (.iadd, 1) := dk_96 (dk_at dksL_law_25 21 rfl rfl)
theorem dL_law_783 : decode cL_law 783 = .ok (.iaload, 1) := dk_46 (dk_at dksL_law_25 22 rfl rfl)
theorem dL_law_784 : decode cL_law 784 = .ok (.invokevirtual 81, 3) := dk_182 0 81 (dk_at dksL_law_26 0 rfl rfl)
theorem dL_law_787 : decode cL_law 787 = .ok (.aload_n 2, 1) := dk_44 (dk_at dksL_law_26 3 rfl rfl)
theorem dL_law_788 : decode cL_law 788 = .ok (.aload_n 0, 1) := dk_42 (dk_at dksL_law_26 4 rfl rfl)
theorem dL_law_789 : decode cL_law 789 = .ok (.iload_n 3, 1) := dk_29 (dk_at dksL_law_26 5 rfl rfl)
theorem dL_law_790 : decode cL_law 790 = .ok (.iconst 1, 1) := dk_4 (dk_at dksL_law_26 6 rfl rfl)
theorem dL_law_791 : decode cL_law 791 = .ok (.iadd, 1) := dk_96 (dk_at dksL_law_26 7 rfl rfl)
theorem dL_law_792 : decode cL_law 792 = .ok (.iaload, 1) := dk_46 (dk_at dksL_law_26 8 rfl rfl)
theorem dL_law_793 : decode cL_law 793 = .ok (.invokevirtual 84, 3) := dk_182 0 84 (dk_at dksL_law_26 9 rfl rfl)
theorem dL_law_796 : decode cL_law 796 = .ok (.if_icmp .eq 611, 3) := dk_159 2 99 (dk_at dksL_law_26 12 rfl rfl)
theorem dL_law_799 : decode cL_law 799 = .ok (.iconst 0, 1) := dk_3 (dk_at dksL_law_26 15 rfl rfl)
theorem dL_law_800 : decode cL_law 800 = .ok (.ireturn, 1) := dk_172 (dk_at dksL_law_26 16 rfl rfl)
theorem dL_law_801 : decode cL_law 801 = .ok (.aload_n 1, 1) := dk_43 (dk_at dksL_law_26 17 rfl rfl)
theorem dL_law_802 : decode cL_law 802 = .ok (.aload_n 0, 1) := dk_42 (dk_at dksL_law_26 18 rfl rfl)
theorem dL_law_803 : decode cL_law 803 = .ok (.iload_n 3, 1) := dk_29 (dk_at dksL_law_26 19 rfl rfl)
theorem dL_law_804 : decode cL_law 804 = .ok (.iconst 1, 1) := dk_4 (dk_at dksL_law_26 20 rfl rfl)
theorem dL_law_805 : decode cL_law 805 = .ok (.iadd, 1) := dk_96 (dk_at dksL_law_26 21 rfl rfl)
theorem dL_law_806 : decode cL_law 806 = .ok (.iaload, 1) := dk_46 (dk_at dksL_law_26 22 rfl rfl)
theorem dL_law_807 : decode cL_law 807 = .ok (.aload_n 0, 1) := dk_42 (dk_at dksL_law_26 23 rfl rfl)
theorem dL_law_808 : decode cL_law 808 = .ok (.iload_n 3, 1) := dk_29 (dk_at dksL_law_27 0 rfl rfl)
theorem dL_law_809 : decode cL_law 809 = .ok (.iconst 2, 1) := dk_5 (dk_at dksL_law_27 1 rfl rfl)
theorem dL_law_810 : decode cL_law 810 = .ok (.iadd, 1) := dk_96 (dk_at dksL_law_27 2 rfl rfl)
theorem dL_law_811 : decode cL_law 811 = .ok (.iaload, 1) := dk_46 (dk_at dksL_law_27 3 rfl rfl)
theorem dL_law_812 : decode cL_law 812 = .ok (.invokevirtual 85, 3) := dk_182 0 85 (dk_at dksL_law_27 4 rfl rfl)
theorem dL_law_815 : decode cL_law 815 = .ok (.aload_n 2, 1) := dk_44 (dk_at dksL_law_27 7 rfl rfl)
theorem dL_law_816 : decode cL_law 816 = .ok (.aload_n 0, 1) := dk_42 (dk_at dksL_law_27 8 rfl rfl)
theorem dL_law_817 : decode cL_law 817 = .ok (.iload_n 3, 1) := dk_29 (dk_at dksL_law_27 9 rfl rfl)
theorem dL_law_818 : decode cL_law 818 = .ok (.iconst 1, 1) := dk_4 (dk_at dksL_law_27 10 rfl rfl)
theorem dL_law_819 : decode cL_law 819 = .ok (.iadd, 1) := dk_96 (dk_at dksL_law_27 11 rfl rfl)
theorem dL_law_820 : decode cL_law 820 = .ok (.iaload, 1) := dk_46 (dk_at dksL_law_27 12 rfl rfl)
theorem dL_law_821 : decode cL_law 821 = .ok (.aload_n 0, 1) := dk_42 (dk_at dksL_law_27 13 rfl rfl)
theorem dL_law_822 : decode cL_law 822 = .ok (.iload_n 3, 1) := dk_29 (dk_at dksL_law_27 14 rfl rfl)
theorem dL_law_823 : decode cL_law 823 = .ok (.iconst 2, 1) := dk_5 (dk_at dksL_law_27 15 rfl rfl)
theorem dL_law_824 : decode cL_law 824 = .ok (.iadd, 1) := dk_96 (dk_at dksL_law_27 16 rfl rfl)
theorem dL_law_825 : decode cL_law 825 = .ok (.iaload, 1) := dk_46 (dk_at dksL_law_27 17 rfl rfl)
theorem dL_law_826 : decode cL_law 826 = .ok (.invokevirtual 88, 3) := dk_182 0 88 (dk_at dksL_law_27 18 rfl rfl)
theorem dL_law_829 : decode cL_law 829 = .ok (.if_icmp .eq 578, 3) := dk_159 2 66 (dk_at dksL_law_27 21 rfl rfl)
theorem dL_law_832 : decode cL_law 832 = .ok (.iconst 0, 1) := dk_3 (dk_at dksL_law_28 0 rfl rfl)
theorem dL_law_833 : decode cL_law 833 = .ok (.ireturn, 1) := dk_172 (dk_at dksL_law_28 1 rfl rfl)
theorem dL_law_834 : decode cL_law 834 = .ok (.aload_n 1, 1) := dk_43 (dk_at dksL_law_28 2 rfl rfl)
theorem dL_law_835 : decode cL_law 835 = .ok (.aload_n 0, 1) := dk_42 (dk_at dksL_law_28 3 rfl rfl)
theorem dL_law_836 : decode cL_law 836 = .ok (.iload_n 3, 1) := dk_29 (dk_at dksL_law_28 4 rfl rfl)
theorem dL_law_837 : decode cL_law 837 = .ok (.iconst 1, 1) := dk_4 (dk_at dksL_law_28 5 rfl rfl)
theorem dL_law_838 : decode cL_law 838 = .ok (.iadd, 1) := dk_96 (dk_at dksL_law_28 6 rfl rfl)
theorem dL_law_839 : decode cL_law 839 = .ok (.iaload, 1) := dk_46 (dk_at dksL_law_28 7 rfl rfl)
theorem dL_law_840 : decode cL_law 840 = .ok (.invokevirtual 89, 3) := dk_182 0 89 (dk_at dksL_law_28 8 rfl rfl)
theorem dL_law_843 : decode cL_law 843 = .ok (.aload_n 2, 1) := dk_44 (dk_at dksL_law_28 11 rfl rfl)
theorem dL_law_844 : decode cL_law 844 = .ok (.aload_n 0, 1) := dk_42 (dk_at dksL_law_28 12 rfl rfl)
theorem dL_law_845 : decode cL_law 845 = .ok (.iload_n 3, 1) := dk_29 (dk_at dksL_law_28 13 rfl rfl)
theorem dL_law_846 : decode cL_law 846 = .ok (.iconst 1, 1) := dk_4 (dk_at dksL_law_28 14 rfl rfl)
theorem dL_law_847 : decode cL_law 847 = .ok (.iadd, 1) := dk_96 (dk_at dksL_law_28 15 rfl rfl)
theorem dL_law_848 : decode cL_law 848 = .ok (.iaload, 1) := dk_46 (dk_at dksL_law_28 16 rfl rfl)
theorem dL_law_849 : decode cL_law 849 = .ok (.invokevirtual 92, 3) := dk_182 0 92 (dk_at dksL_law_28 17 rfl rfl)
theorem dL_law_852 : decode cL_law 852 = .ok (.if_icmp .eq 555, 3) := dk_159 2 43 (dk_at dksL_law_28 20 rfl rfl)
theorem dL_law_855 : decode cL_law 855 = .ok (.iconst 0, 1) := dk_3 (dk_at dksL_law_28 23 rfl rfl)
theorem dL_law_856 : decode cL_law 856 = .ok (.ireturn, 1) := dk_172 (dk_at dksL_law_29 0 rfl rfl)
theorem dL_law_857 : decode cL_law 857 = .ok (.aload_n 1, 1) := dk_43 (dk_at dksL_law_29 1 rfl rfl)
theorem dL_law_858 : decode cL_law 858 = .ok (.aload_n 0, 1) := dk_42 (dk_at dksL_law_29 2 rfl rfl)
theorem dL_law_859 : decode cL_law 859 = .ok (.iload_n 3, 1) := dk_29 (dk_at dksL_law_29 3 rfl rfl)
theorem dL_law_860 : decode cL_law 860 = .ok (.iconst 1, 1) := dk_4 (dk_at dksL_law_29 4 rfl rfl)
theorem dL_law_861 : decode cL_law 861 = .ok (.iadd, 1) := dk_96 (dk_at dksL_law_29 5 rfl rfl)
theorem dL_law_862 : decode cL_law 862 = .ok (.iaload, 1) := dk_46 (dk_at dksL_law_29 6 rfl rfl)
theorem dL_law_863 : decode cL_law 863 = .ok (.invokevirtual 93, 3) := dk_182 0 93 (dk_at dksL_law_29 7 rfl rfl)
theorem dL_law_866 : decode cL_law 866 = .ok (.aload_n 2, 1) := dk_44 (dk_at dksL_law_29 10 rfl rfl)
theorem dL_law_867 : decode cL_law 867 = .ok (.aload_n 0, 1) := dk_42 (dk_at dksL_law_29 11 rfl rfl)
theorem dL_law_868 : decode cL_law 868 = .ok (.iload_n 3, 1) := dk_29 (dk_at dksL_law_29 12 rfl rfl)
theorem dL_law_869 : decode cL_law 869 = .ok (.iconst 1, 1) := dk_4 (dk_at dksL_law_29 13 rfl rfl)
theorem dL_law_870 : decode cL_law 870 = .ok (.iadd, 1) := dk_96 (dk_at dksL_law_29 14 rfl rfl)
theorem dL_law_871 : decode cL_law 871 = .ok (.iaload, 1) := dk_46 (dk_at dksL_law_29 15 rfl rfl)
theorem dL_law_872 : decode cL_law 872 = .ok (.invokevirtual 96, 3) := dk_182 0 96 (dk_at dksL_law_29 16 rfl rfl)
theorem dL_law_875 : decode cL_law 875 = .ok (.if_icmp .eq 532, 3) := dk_159 2 20 (dk_at dksL_law_29 19 rfl rfl)
theorem dL_law_878 : decode cL_law 878 = .ok (.iconst 0, 1) := dk_3 (dk_at dksL_law_29 22 rfl rfl)
theorem dL_law_879 : decode cL_law 879 = .ok (.ireturn, 1) := dk_172 (dk_at dksL_law_29 23 rfl rfl)
theorem dL_law_880 : decode cL_law 880 = .ok (.aload_n 1, 1) := dk_43 (dk_at dksL_law_30 0 rfl rfl)
theorem dL_law_881 : decode cL_law 881 = .ok (.invokevirtual 97, 3) := dk_182 0 97 (dk_at dksL_law_30 1 rfl rfl)
theorem dL_law_884 : decode cL_law 884 = .ok (.aload_n 2, 1) := dk_44 (dk_at dksL_law_30 4 rfl rfl)
theorem dL_law_885 : decode cL_law 885 = .ok (.invokevirtual 101, 3) := dk_182 0 101 (dk_at dksL_law_30 5 rfl rfl)
theorem dL_law_888 : decode cL_law 888 = .ok (.if_icmp .eq 519, 3) := dk_159 2 7 (dk_at dksL_law_30 8 rfl rfl)
theorem dL_law_891 : decode cL_law 891 = .ok (.iconst 0, 1) := dk_3 (dk_at dksL_law_30 11 rfl rfl)
theorem dL_law_892 : decode cL_law 892 = .ok (.ireturn, 1) := dk_172 (dk_at dksL_law_30 12 rfl rfl)
theorem dL_law_893 : decode cL_law 893 = .ok (.aload_n 1, 1) := dk_43 (dk_at dksL_law_30 13 rfl rfl)
theorem dL_law_894 : decode cL_law 894 = .ok (.aload_n 0, 1) := dk_42 (dk_at dksL_law_30 14 rfl rfl)
theorem dL_law_895 : decode cL_law 895 = .ok (.iload_n 3, 1) := dk_29 (dk_at dksL_law_30 15 rfl rfl)
theorem dL_law_896 : decode cL_law 896 = .ok (.iconst 1, 1) := dk_4 (dk_at dksL_law_30 16 rfl rfl)
theorem dL_law_897 : decode cL_law 897 = .ok (.iadd, 1) := dk_96 (dk_at dksL_law_30 17 rfl rfl)
theorem dL_law_898 : decode cL_law 898 = .ok (.iaload, 1) := dk_46 (dk_at dksL_law_30 18 rfl rfl)
theorem dL_law_899 : decode cL_law 899 = .ok (.invokevirtual 102, 3) := dk_182 0 102 (dk_at dksL_law_30 19 rfl rfl)
theorem dL_law_902 : decode cL_law 902 = .ok (.aload_n 2, 1) := dk_44 (dk_at dksL_law_30 22 rfl rfl)
theorem dL_law_903 : decode cL_law 903 = .ok (.aload_n 0, 1) := dk_42 (dk_at dksL_law_30 23 rfl rfl)
theorem dL_law_904 : decode cL_law 904 = .ok (.iload_n 3, 1) := dk_29 (dk_at dksL_law_31 0 rfl rfl)
theorem dL_law_905 : decode cL_law 905 = .ok (.iconst 1, 1) := dk_4 (dk_at dksL_law_31 1 rfl rfl)
theorem dL_law_906 : decode cL_law 906 = .ok (.iadd, 1) := dk_96 (dk_at dksL_law_31 2 rfl rfl)
theorem dL_law_907 : decode cL_law 907 = .ok (.iaload, 1) := dk_46 (dk_at dksL_law_31 3 rfl rfl)
theorem dL_law_908 : decode cL_law 908 = .ok (.invokevirtual 105, 3) := dk_182 0 105 (dk_at dksL_law_31 4 rfl rfl)
theorem dL_law_911 : decode cL_law 911 = .ok (.if_icmp .eq 496, 3) := dk_159 1 240 (dk_at dksL_law_31 7 rfl rfl)
theorem dL_law_914 : decode cL_law 914 = .ok (.iconst 0, 1) := dk_3 (dk_at dksL_law_31 10 rfl rfl)
theorem dL_law_915 : decode cL_law 915 = .ok (.ireturn, 1) := dk_172 (dk_at dksL_law_31 11 rfl rfl)
theorem dL_law_916 : decode cL_law 916 = .ok (.aload_n 1, 1) := dk_43 (dk_at dksL_law_31 12 rfl rfl)
theorem dL_law_917 : decode cL_law 917 = .ok (.aload_n 0, 1) := dk_42 (dk_at dksL_law_31 13 rfl rfl)
theorem dL_law_918 : decode cL_law 918 = .ok (.iload_n 3, 1) := dk_29 (dk_at dksL_law_31 14 rfl rfl)
theorem dL_law_919 : decode cL_law 919 = .ok (.iconst 1, 1) := dk_4 (dk_at dksL_law_31 15 rfl rfl)
theorem dL_law_920 : decode cL_law 920 = .ok (.iadd, 1) := dk_96 (dk_at dksL_law_31 16 rfl rfl)
theorem dL_law_921 : decode cL_law 921 = .ok (.iaload, 1) := dk_46 (dk_at dksL_law_31 17 rfl rfl)
theorem dL_law_922 : decode cL_law 922 = .ok (.invokevirtual 106, 3) := dk_182 0 106 (dk_at dksL_law_31 18 rfl rfl)
theorem dL_law_925 : decode cL_law 925 = .ok (.aload_n 2, 1) := dk_44 (dk_at dksL_law_31 21 rfl rfl)
theorem dL_law_926 : decode cL_law 926 = .ok (.aload_n 0, 1) := dk_42 (dk_at dksL_law_31 22 rfl rfl)
theorem dL_law_927 : decode cL_law 927 = .ok (.iload_n 3, 1) := dk_29 (dk_at dksL_law_31 23 rfl rfl)
theorem dL_law_928 : decode cL_law 928 = .ok (.iconst 1, 1) := dk_4 (dk_at dksL_law_32 0 rfl rfl)
theorem dL_law_929 : decode cL_law 929 = .ok (.iadd, 1) := dk_96 (dk_at dksL_law_32 1 rfl rfl)
theorem dL_law_930 : decode cL_law 930 = .ok (.iaload, 1) := dk_46 (dk_at dksL_law_32 2 rfl rfl)
theorem dL_law_931 : decode cL_law 931 = .ok (.invokevirtual 109, 3) := dk_182 0 109 (dk_at dksL_law_32 3 rfl rfl)
theorem dL_law_934 : decode cL_law 934 = .ok (.if_icmp .eq 473, 3) := dk_159 1 217 (dk_at dksL_law_32 6 rfl rfl)
theorem dL_law_937 : decode cL_law 937 = .ok (.iconst 0, 1) := dk_3 (dk_at dksL_law_32 9 rfl rfl)
theorem dL_law_938 : decode cL_law 938 = .ok (.ireturn, 1) := dk_172 (dk_at dksL_law_32 10 rfl rfl)
theorem dL_law_939 : decode cL_law 939 = .ok (.aload_n 1, 1) := dk_43 (dk_at dksL_law_32 11 rfl rfl)
theorem dL_law_940 : decode cL_law 940 = .ok (.aload_n 0, 1) := dk_42 (dk_at dksL_law_32 12 rfl rfl)
theorem dL_law_941 : decode cL_law 941 = .ok (.iload_n 3, 1) := dk_29 (dk_at dksL_law_32 13 rfl rfl)
theorem dL_law_942 : decode cL_law 942 = .ok (.iconst 1, 1) := dk_4 (dk_at dksL_law_32 14 rfl rfl)
theorem dL_law_943 : decode cL_law 943 = .ok (.iadd, 1) := dk_96 (dk_at dksL_law_32 15 rfl rfl)
theorem dL_law_944 : decode cL_law 944 = .ok (.iaload, 1) := dk_46 (dk_at dksL_law_32 16 rfl rfl)
theorem dL_law_945 : decode cL_law 945 = .ok (.invokevirtual 110, 3) := dk_182 0 110 (dk_at dksL_law_32 17 rfl rfl)
theorem dL_law_948 : decode cL_law 948 = .ok (.aload_n 2, 1) := dk_44 (dk_at dksL_law_32 20 rfl rfl)
theorem dL_law_949 : decode cL_law 949 = .ok (.aload_n 0, 1) := dk_42 (dk_at dksL_law_32 21 rfl rfl)
theorem dL_law_950 : decode cL_law 950 = .ok (.iload_n 3, 1) := dk_29 (dk_at dksL_law_32 22 rfl rfl)
theorem dL_law_951 : decode cL_law 951 = .ok (.iconst 1, 1) := dk_4 (dk_at dksL_law_32 23 rfl rfl)
theorem dL_law_952 : decode cL_law 952 = .ok (.iadd, 1) := dk_96 (dk_at dksL_law_33 0 rfl rfl)
theorem dL_law_953 : decode cL_law 953 = .ok (.iaload, 1) := dk_46 (dk_at dksL_law_33 1 rfl rfl)
theorem dL_law_954 : decode cL_law 954 = .ok (.invokevirtual 113, 3) := dk_182 0 113 (dk_at dksL_law_33 2 rfl rfl)
theorem dL_law_957 : decode cL_law 957 = .ok (.if_icmp .eq 450, 3) := dk_159 1 194 (dk_at dksL_law_33 5 rfl rfl)
theorem dL_law_960 : decode cL_law 960 = .ok (.iconst 0, 1) := dk_3 (dk_at dksL_law_33 8 rfl rfl)
theorem dL_law_961 : decode cL_law 961 = .ok (.ireturn, 1) := dk_172 (dk_at dksL_law_33 9 rfl rfl)
theorem dL_law_962 : decode cL_law 962 = .ok (.aload_n 1, 1) := dk_43 (dk_at dksL_law_33 10 rfl rfl)
theorem dL_law_963 : decode cL_law 963 = .ok (.aload_n 0, 1) := dk_42 (dk_at dksL_law_33 11 rfl rfl)
theorem dL_law_964 : decode cL_law 964 = .ok (.iload_n 3, 1) := dk_29 (dk_at dksL_law_33 12 rfl rfl)
theorem dL_law_965 : decode cL_law 965 = .ok (.iconst 1, 1) := dk_4 (dk_at dksL_law_33 13 rfl rfl)
theorem dL_law_966 : decode cL_law 966 = .ok (.iadd, 1) := dk_96 (dk_at dksL_law_33 14 rfl rfl)
theorem dL_law_967 : decode cL_law 967 = .ok (.iaload, 1) := dk_46 (dk_at dksL_law_33 15 rfl rfl)
theorem dL_law_968 : decode cL_law 968 = .ok (.invokevirtual 114, 3) := dk_182 0 114 (dk_at dksL_law_33 16 rfl rfl)
theorem dL_law_971 : decode cL_law 971 = .ok (.aload_n 2, 1) := dk_44 (dk_at dksL_law_33 19 rfl rfl)
theorem dL_law_972 : decode cL_law 972 = .ok (.aload_n 0, 1) := dk_42 (dk_at dksL_law_33 20 rfl rfl)
theorem dL_law_973 : decode cL_law 973 = .ok (.iload_n 3, 1) := dk_29 (dk_at dksL_law_33 21 rfl rfl)
theorem dL_law_974 : decode cL_law 974 = .ok (.iconst 1, 1) := dk_4 (dk_at dksL_law_33 22 rfl rfl)
theorem dL_law_975 : decode cL_law 975 = .ok (.iadd, 1) := dk_96 (dk_at dksL_law_33 23 rfl rfl)
theorem dL_law_976 : decode cL_law 976 = .ok (.iaload, 1) := dk_46 (dk_at dksL_law_34 0 rfl rfl)
theorem dL_law_977 : decode cL_law 977 = .ok (.invokevirtual 117, 3) := dk_182 0 117 (dk_at dksL_law_34 1 rfl rfl)
theorem dL_law_980 : decode cL_law 980 = .ok (.if_icmp .eq 427, 3) := dk_159 1 171 (dk_at dksL_law_34 4 rfl rfl)
theorem dL_law_983 : decode cL_law 983 = .ok (.iconst 0, 1) := dk_3 (dk_at dksL_law_34 7 rfl rfl)
theorem dL_law_984 : decode cL_law 984 = .ok (.ireturn, 1) := dk_172 (dk_at dksL_law_34 8 rfl rfl)
theorem dL_law_985 : decode cL_law 985 = .ok (.aload_n 1, 1) := dk_43 (dk_at dksL_law_34 9 rfl rfl)
theorem dL_law_986 : decode cL_law 986 = .ok (.invokevirtual 118, 3) := dk_182 0 118 (dk_at dksL_law_34 10 rfl rfl)
theorem dL_law_989 : decode cL_law 989 = .ok (.aload_n 2, 1) := dk_44 (dk_at dksL_law_34 13 rfl rfl)
theorem dL_law_990 : decode cL_law 990 = .ok (.invokevirtual 121, 3) := dk_182 0 121 (dk_at dksL_law_34 14 rfl rfl)
theorem dL_law_993 : decode cL_law 993 = .ok (.if_icmp .eq 414, 3) := dk_159 1 158 (dk_at dksL_law_34 17 rfl rfl)
theorem dL_law_996 : decode cL_law 996 = .ok (.iconst 0, 1) := dk_3 (dk_at dksL_law_34 20 rfl rfl)
theorem dL_law_997 : decode cL_law 997 = .ok (.ireturn, 1) := dk_172 (dk_at dksL_law_34 21 rfl rfl)
theorem dL_law_998 : decode cL_law 998 = .ok (.aload_n 1, 1) := dk_43 (dk_at dksL_law_34 22 rfl rfl)
theorem dL_law_999 : decode cL_law 999 = .ok (.aload_n 0, 1) := dk_42 (dk_at dksL_law_34 23 rfl rfl)
theorem dL_law_1000 : decode cL_law 1000 = .ok (.iload_n 3, 1) := dk_29 (dk_at dksL_law_35 0 rfl rfl)
theorem dL_law_1001 : decode cL_law 1001 = .ok (.iconst 1, 1) := dk_4 (dk_at dksL_law_35 1 rfl rfl)
theorem dL_law_1002 : decode cL_law 1002 = .ok (.iadd, 1) := dk_96 (dk_at dksL_law_35 2 rfl rfl)
theorem dL_law_1003 : decode cL_law 1003 = .ok (.iaload, 1) := dk_46 (dk_at dksL_law_35 3 rfl rfl)
theorem dL_law_1004 : decode cL_law 1004 = .ok (.invokevirtual 122, 3) := dk_182 0 122 (dk_at dksL_law_35 4 rfl rfl)
theorem dL_law_1007 : decode cL_law 1007 = .ok (.aload_n 2, 1) := dk_44 (dk_at dksL_law_35 7 rfl rfl)
theorem dL_law_1008 : decode cL_law 1008 = .ok (.aload_n 0, 1) := dk_42 (dk_at dksL_law_35 8 rfl rfl)
theorem dL_law_1009 : decode cL_law 1009 = .ok (.iload_n 3, 1) := dk_29 (dk_at dksL_law_35 9 rfl rfl)
theorem dL_law_1010 : decode cL_law 1010 = .ok (.iconst 1, 1) := dk_4 (dk_at dksL_law_35 10 rfl rfl)
theorem dL_law_1011 : decode cL_law 1011 = .ok (.iadd, 1) := dk_96 (dk_at dksL_law_35 11 rfl rfl)
theorem dL_law_1012 : decode cL_law 1012 = .ok (.iaload, 1) := dk_46 (dk_at dksL_law_35 12 rfl rfl)
theorem dL_law_1013 : decode cL_law 1013 = .ok (.invokevirtual 125, 3) := dk_182 0 125 (dk_at dksL_law_35 13 rfl rfl)
theorem dL_law_1016 : decode cL_law 1016 = .ok (.if_icmp .eq 391, 3) := dk_159 1 135 (dk_at dksL_law_35 16 rfl rfl)
theorem dL_law_1019 : decode cL_law 1019 = .ok (.iconst 0, 1) := dk_3 (dk_at dksL_law_35 19 rfl rfl)
theorem dL_law_1020 : decode cL_law 1020 = .ok (.ireturn, 1) := dk_172 (dk_at dksL_law_35 20 rfl rfl)
theorem dL_law_1021 : decode cL_law 1021 = .ok (.aload_n 1, 1) := dk_43 (dk_at dksL_law_35 21 rfl rfl)
theorem dL_law_1022 : decode cL_law 1022 = .ok (.aload_n 0, 1) := dk_42 (dk_at dksL_law_35 22 rfl rfl)
theorem dL_law_1023 : decode cL_law 1023 = .ok (.iload_n 3, 1) := dk_29 (dk_at dksL_law_35 23 rfl rfl)
theorem dL_law_1024 : decode cL_law 1024 = .ok (.iconst 1, 1) := dk_4 (dk_at dksL_law_36 0 rfl rfl)
theorem dL_law_1025 : decode cL_law 1025 = .ok (.iadd, 1) := dk_96 (dk_at dksL_law_36 1 rfl rfl)
theorem dL_law_1026 : decode cL_law 1026 = .ok (.iaload, 1) := dk_46 (dk_at dksL_law_36 2 rfl rfl)
theorem dL_law_1027 : decode cL_law 1027 = .ok (.invokevirtual 126, 3) := dk_182 0 126 (dk_at dksL_law_36 3 rfl rfl)
theorem dL_law_1030 : decode cL_law 1030 = .ok (.aload_n 2, 1) := dk_44 (dk_at dksL_law_36 6 rfl rfl)
theorem dL_law_1031 : decode cL_law 1031 = .ok (.aload_n 0, 1) := dk_42 (dk_at dksL_law_36 7 rfl rfl)
theorem dL_law_1032 : decode cL_law 1032 = .ok (.iload_n 3, 1) := dk_29 (dk_at dksL_law_36 8 rfl rfl)
theorem dL_law_1033 : decode cL_law 1033 = .ok (.iconst 1, 1) := dk_4 (dk_at dksL_law_36 9 rfl rfl)
theorem dL_law_1034 : decode cL_law 1034 = .ok (.iadd, 1) := dk_96 (dk_at dksL_law_36 10 rfl rfl)
theorem dL_law_1035 : decode cL_law 1035 = .ok (.iaload, 1) := dk_46 (dk_at dksL_law_36 11 rfl rfl)
theorem dL_law_1036 : decode cL_law 1036 = .ok (.invokevirtual 129, 3) := dk_182 0 129 (dk_at dksL_law_36 12 rfl rfl)
theorem dL_law_1039 : decode cL_law 1039 = .ok (.if_icmp .eq 368, 3) := dk_159 1 112 (dk_at dksL_law_36 15 rfl rfl)
theorem dL_law_1042 : decode cL_law 1042 = .ok (.iconst 0, 1) := dk_3 (dk_at dksL_law_36 18 rfl rfl)
theorem dL_law_1043 : decode cL_law 1043 = .ok (.ireturn, 1) := dk_172 (dk_at dksL_law_36 19 rfl rfl)
theorem dL_law_1044 : decode cL_law 1044 = .ok (.aload_n 1, 1) := dk_43 (dk_at dksL_law_36 20 rfl rfl)
theorem dL_law_1045 : decode cL_law 1045 = .ok (.invokevirtual 130, 3) := dk_182 0 130 (dk_at dksL_law_36 21 rfl rfl)
theorem dL_law_1048 : decode cL_law 1048 = .ok (.aload_n 2, 1) := dk_44 (dk_at dksL_law_37 0 rfl rfl)
theorem dL_law_1049 : decode cL_law 1049 = .ok (.invokevirtual 133, 3) := dk_182 0 133 (dk_at dksL_law_37 1 rfl rfl)
theorem dL_law_1052 : decode cL_law 1052 = .ok (.if_icmp .eq 355, 3) := dk_159 1 99 (dk_at dksL_law_37 4 rfl rfl)
theorem dL_law_1055 : decode cL_law 1055 = .ok (.iconst 0, 1) := dk_3 (dk_at dksL_law_37 7 rfl rfl)
theorem dL_law_1056 : decode cL_law 1056 = .ok (.ireturn, 1) := dk_172 (dk_at dksL_law_37 8 rfl rfl)
theorem dL_law_1057 : decode cL_law 1057 = .ok (.aload_n 1, 1) := dk_43 (dk_at dksL_law_37 9 rfl rfl)
theorem dL_law_1058 : decode cL_law 1058 = .ok (.aload_n 0, 1) := dk_42 (dk_at dksL_law_37 10 rfl rfl)
theorem dL_law_1059 : decode cL_law 1059 = .ok (.iload_n 3, 1) := dk_29 (dk_at dksL_law_37 11 rfl rfl)
theorem dL_law_1060 : decode cL_law 1060 = .ok (.iconst 1, 1) := dk_4 (dk_at dksL_law_37 12 rfl rfl)
theorem dL_law_1061 : decode cL_law 1061 = .ok (.iadd, 1) := dk_96 (dk_at dksL_law_37 13 rfl rfl)
theorem dL_law_1062 : decode cL_law 1062 = .ok (.iaload, 1) := dk_46 (dk_at dksL_law_37 14 rfl rfl)
theorem dL_law_1063 : decode cL_law 1063 = .ok (.aload_n 0, 1) := dk_42 (dk_at dksL_law_37 15 rfl rfl)
theorem dL_law_1064 : decode cL_law 1064 = .ok (.iload_n 3, 1) := dk_29 (dk_at dksL_law_37 16 rfl rfl)
theorem dL_law_1065 : decode cL_law 1065 = .ok (.iconst 2, 1) := dk_5 (dk_at dksL_law_37 17 rfl rfl)
theorem dL_law_1066 : decode cL_law 1066 = .ok (.iadd, 1) := dk_96 (dk_at dksL_law_37 18 rfl rfl)
theorem dL_law_1067 : decode cL_law 1067 = .ok (.iaload, 1) := dk_46 (dk_at dksL_law_37 19 rfl rfl)
theorem dL_law_1068 : decode cL_law 1068 = .ok (.invokevirtual 134, 3) := dk_182 0 134 (dk_at dksL_law_37 20 rfl rfl)
theorem dL_law_1071 : decode cL_law 1071 = .ok (.aload_n 2, 1) := dk_44 (dk_at dksL_law_37 23 rfl rfl)
theorem dL_law_1072 : decode cL_law 1072 = .ok (.aload_n 0, 1) := dk_42 (dk_at dksL_law_38 0 rfl rfl)
theorem dL_law_1073 : decode cL_law 1073 = .ok (.iload_n 3, 1) := dk_29 (dk_at dksL_law_38 1 rfl rfl)
theorem dL_law_1074 : decode cL_law 1074 = .ok (.iconst 1, 1) := dk_4 (dk_at dksL_law_38 2 rfl rfl)
theorem dL_law_1075 : decode cL_law 1075 = .ok (.iadd, 1) := dk_96 (dk_at dksL_law_38 3 rfl rfl)
theorem dL_law_1076 : decode cL_law 1076 = .ok (.iaload, 1) := dk_46 (dk_at dksL_law_38 4 rfl rfl)
theorem dL_law_1077 : decode cL_law 1077 = .ok (.aload_n 0, 1) := dk_42 (dk_at dksL_law_38 5 rfl rfl)
theorem dL_law_1078 : decode cL_law 1078 = .ok (.iload_n 3, 1) := dk_29 (dk_at dksL_law_38 6 rfl rfl)
theorem dL_law_1079 : decode cL_law 1079 = .ok (.iconst 2, 1) := dk_5 (dk_at dksL_law_38 7 rfl rfl)
theorem dL_law_1080 : decode cL_law 1080 = .ok (.iadd, 1) := dk_96 (dk_at dksL_law_38 8 rfl rfl)
theorem dL_law_1081 : decode cL_law 1081 = .ok (.iaload, 1) := dk_46 (dk_at dksL_law_38 9 rfl rfl)
theorem dL_law_1082 : decode cL_law 1082 = .ok (.invokevirtual 137, 3) := dk_182 0 137 (dk_at dksL_law_38 10 rfl rfl)
theorem dL_law_1085 : decode cL_law 1085 = .ok (.if_icmp .eq 322, 3) := dk_159 1 66 (dk_at dksL_law_38 13 rfl rfl)
theorem dL_law_1088 : decode cL_law 1088 = .ok (.iconst 0, 1) := dk_3 (dk_at dksL_law_38 16 rfl rfl)
theorem dL_law_1089 : decode cL_law 1089 = .ok (.ireturn, 1) := dk_172 (dk_at dksL_law_38 17 rfl rfl)
theorem dL_law_1090 : decode cL_law 1090 = .ok (.aload_n 1, 1) := dk_43 (dk_at dksL_law_38 18 rfl rfl)
theorem dL_law_1091 : decode cL_law 1091 = .ok (.invokevirtual 138, 3) := dk_182 0 138 (dk_at dksL_law_38 19 rfl rfl)
theorem dL_law_1094 : decode cL_law 1094 = .ok (.aload_n 2, 1) := dk_44 (dk_at dksL_law_38 22 rfl rfl)
theorem dL_law_1095 : decode cL_law 1095 = .ok (.invokevirtual 141, 3) := dk_182 0 141 (dk_at dksL_law_39 0 rfl rfl)
theorem dL_law_1098 : decode cL_law 1098 = .ok (.if_icmp .eq 309, 3) := dk_159 1 53 (dk_at dksL_law_39 3 rfl rfl)
theorem dL_law_1101 : decode cL_law 1101 = .ok (.iconst 0, 1) := dk_3 (dk_at dksL_law_39 6 rfl rfl)
theorem dL_law_1102 : decode cL_law 1102 = .ok (.ireturn, 1) := dk_172 (dk_at dksL_law_39 7 rfl rfl)
theorem dL_law_1103 : decode cL_law 1103 = .ok (.aload_n 1, 1) := dk_43 (dk_at dksL_law_39 8 rfl rfl)
theorem dL_law_1104 : decode cL_law 1104 = .ok (.invokevirtual 142, 3) := dk_182 0 142 (dk_at dksL_law_39 9 rfl rfl)
theorem dL_law_1107 : decode cL_law 1107 = .ok (.aload_n 2, 1) := dk_44 (dk_at dksL_law_39 12 rfl rfl)
theorem dL_law_1108 : decode cL_law 1108 = .ok (.invokevirtual 145, 3) := dk_182 0 145 (dk_at dksL_law_39 13 rfl rfl)
theorem dL_law_1111 : decode cL_law 1111 = .ok (.if_icmp .eq 296, 3) := dk_159 1 40 (dk_at dksL_law_39 16 rfl rfl)
theorem dL_law_1114 : decode cL_law 1114 = .ok (.iconst 0, 1) := dk_3 (dk_at dksL_law_39 19 rfl rfl)
theorem dL_law_1115 : decode cL_law 1115 = .ok (.ireturn, 1) := dk_172 (dk_at dksL_law_39 20 rfl rfl)
theorem dL_law_1116 : decode cL_law 1116 = .ok (.aload_n 1, 1) := dk_43 (dk_at dksL_law_39 21 rfl rfl)
theorem dL_law_1117 : decode cL_law 1117 = .ok (.invokevirtual 146, 3) := dk_182 0 146 (dk_at dksL_law_40 0 rfl rfl)
theorem dL_law_1120 : decode cL_law 1120 = .ok (.aload_n 2, 1) := dk_44 (dk_at dksL_law_40 3 rfl rfl)
theorem dL_law_1121 : decode cL_law 1121 = .ok (.invokevirtual 149, 3) := dk_182 0 149 (dk_at dksL_law_40 4 rfl rfl)
theorem dL_law_1124 : decode cL_law 1124 = .ok (.if_icmp .eq 283, 3) := dk_159 1 27 (dk_at dksL_law_40 7 rfl rfl)
theorem dL_law_1127 : decode cL_law 1127 = .ok (.iconst 0, 1) := dk_3 (dk_at dksL_law_40 10 rfl rfl)
theorem dL_law_1128 : decode cL_law 1128 = .ok (.ireturn, 1) := dk_172 (dk_at dksL_law_40 11 rfl rfl)
theorem dL_law_1129 : decode cL_law 1129 = .ok (.aload_n 1, 1) := dk_43 (dk_at dksL_law_40 12 rfl rfl)
theorem dL_law_1130 : decode cL_law 1130 = .ok (.aload_n 0, 1) := dk_42 (dk_at dksL_law_40 13 rfl rfl)
theorem dL_law_1131 : decode cL_law 1131 = .ok (.iload_n 3, 1) := dk_29 (dk_at dksL_law_40 14 rfl rfl)
theorem dL_law_1132 : decode cL_law 1132 = .ok (.iconst 1, 1) := dk_4 (dk_at dksL_law_40 15 rfl rfl)
theorem dL_law_1133 : decode cL_law 1133 = .ok (.iadd, 1) := dk_96 (dk_at dksL_law_40 16 rfl rfl)
theorem dL_law_1134 : decode cL_law 1134 = .ok (.iaload, 1) := dk_46 (dk_at dksL_law_40 17 rfl rfl)
theorem dL_law_1135 : decode cL_law 1135 = .ok (.invokevirtual 150, 3) := dk_182 0 150 (dk_at dksL_law_40 18 rfl rfl)
theorem dL_law_1138 : decode cL_law 1138 = .ok (.aload_n 2, 1) := dk_44 (dk_at dksL_law_40 21 rfl rfl)
theorem dL_law_1139 : decode cL_law 1139 = .ok (.aload_n 0, 1) := dk_42 (dk_at dksL_law_40 22 rfl rfl)
theorem dL_law_1140 : decode cL_law 1140 = .ok (.iload_n 3, 1) := dk_29 (dk_at dksL_law_40 23 rfl rfl)
theorem dL_law_1141 : decode cL_law 1141 = .ok (.iconst 1, 1) := dk_4 (dk_at dksL_law_41 0 rfl rfl)
theorem dL_law_1142 : decode cL_law 1142 = .ok (.iadd, 1) := dk_96 (dk_at dksL_law_41 1 rfl rfl)
theorem dL_law_1143 : decode cL_law 1143 = .ok (.iaload, 1) := dk_46 (dk_at dksL_law_41 2 rfl rfl)
theorem dL_law_1144 : decode cL_law 1144 = .ok (.invokevirtual 153, 3) := dk_182 0 153 (dk_at dksL_law_41 3 rfl rfl)
theorem dL_law_1147 : decode cL_law 1147 = .ok (.if_icmp .eq 260, 3) := dk_159 1 4 (dk_at dksL_law_41 6 rfl rfl)
theorem dL_law_1150 : decode cL_law 1150 = .ok (.iconst 0, 1) := dk_3 (dk_at dksL_law_41 9 rfl rfl)
theorem dL_law_1151 : decode cL_law 1151 = .ok (.ireturn, 1) := dk_172 (dk_at dksL_law_41 10 rfl rfl)
theorem dL_law_1152 : decode cL_law 1152 = .ok (.aload_n 1, 1) := dk_43 (dk_at dksL_law_41 11 rfl rfl)
theorem dL_law_1153 : decode cL_law 1153 = .ok (.aload_n 0, 1) := dk_42 (dk_at dksL_law_41 12 rfl rfl)
theorem dL_law_1154 : decode cL_law 1154 = .ok (.iload_n 3, 1) := dk_29 (dk_at dksL_law_41 13 rfl rfl)
theorem dL_law_1155 : decode cL_law 1155 = .ok (.iconst 1, 1) := dk_4 (dk_at dksL_law_41 14 rfl rfl)
theorem dL_law_1156 : decode cL_law 1156 = .ok (.iadd, 1) := dk_96 (dk_at dksL_law_41 15 rfl rfl)
theorem dL_law_1157 : decode cL_law 1157 = .ok (.iaload, 1) := dk_46 (dk_at dksL_law_41 16 rfl rfl)
theorem dL_law_1158 : decode cL_law 1158 = .ok (.invokevirtual 154, 3) := dk_182 0 154 (dk_at dksL_law_41 17 rfl rfl)
theorem dL_law_1161 : decode cL_law 1161 = .ok (.aload_n 2, 1) := dk_44 (dk_at dksL_law_41 20 rfl rfl)
theorem dL_law_1162 : decode cL_law 1162 = .ok (.aload_n 0, 1) := dk_42 (dk_at dksL_law_41 21 rfl rfl)
theorem dL_law_1163 : decode cL_law 1163 = .ok (.iload_n 3, 1) := dk_29 (dk_at dksL_law_41 22 rfl rfl)
theorem dL_law_1164 : decode cL_law 1164 = .ok (.iconst 1, 1) := dk_4 (dk_at dksL_law_41 23 rfl rfl)
theorem dL_law_1165 : decode cL_law 1165 = .ok (.iadd, 1) := dk_96 (dk_at dksL_law_42 0 rfl rfl)
theorem dL_law_1166 : decode cL_law 1166 = .ok (.iaload, 1) := dk_46 (dk_at dksL_law_42 1 rfl rfl)
theorem dL_law_1167 : decode cL_law 1167 = .ok (.invokevirtual 157, 3) := dk_182 0 157 (dk_at dksL_law_42 2 rfl rfl)
theorem dL_law_1170 : decode cL_law 1170 = .ok (.if_icmp .eq 237, 3) := dk_159 0 237 (dk_at dksL_law_42 5 rfl rfl)
theorem dL_law_1173 : decode cL_law 1173 = .ok (.iconst 0, 1) := dk_3 (dk_at dksL_law_42 8 rfl rfl)
theorem dL_law_1174 : decode cL_law 1174 = .ok (.ireturn, 1) := dk_172 (dk_at dksL_law_42 9 rfl rfl)
theorem dL_law_1175 : decode cL_law 1175 = .ok (.aload_n 1, 1) := dk_43 (dk_at dksL_law_42 10 rfl rfl)
theorem dL_law_1176 : decode cL_law 1176 = .ok (.invokevirtual 158, 3) := dk_182 0 158 (dk_at dksL_law_42 11 rfl rfl)
theorem dL_law_1179 : decode cL_law 1179 = .ok (.aload_n 2, 1) := dk_44 (dk_at dksL_law_42 14 rfl rfl)
theorem dL_law_1180 : decode cL_law 1180 = .ok (.invokevirtual 161, 3) := dk_182 0 161 (dk_at dksL_law_42 15 rfl rfl)
theorem dL_law_1183 : decode cL_law 1183 = .ok (.if_icmp .eq 224, 3) := dk_159 0 224 (dk_at dksL_law_42 18 rfl rfl)
theorem dL_law_1186 : decode cL_law 1186 = .ok (.iconst 0, 1) := dk_3 (dk_at dksL_law_42 21 rfl rfl)
theorem dL_law_1187 : decode cL_law 1187 = .ok (.ireturn, 1) := dk_172 (dk_at dksL_law_42 22 rfl rfl)
theorem dL_law_1188 : decode cL_law 1188 = .ok (.aload_n 1, 1) := dk_43 (dk_at dksL_law_42 23 rfl rfl)
theorem dL_law_1189 : decode cL_law 1189 = .ok (.aload_n 0, 1) := dk_42 (dk_at dksL_law_43 0 rfl rfl)
theorem dL_law_1190 : decode cL_law 1190 = .ok (.iload_n 3, 1) := dk_29 (dk_at dksL_law_43 1 rfl rfl)
theorem dL_law_1191 : decode cL_law 1191 = .ok (.iconst 1, 1) := dk_4 (dk_at dksL_law_43 2 rfl rfl)
theorem dL_law_1192 : decode cL_law 1192 = .ok (.iadd, 1) := dk_96 (dk_at dksL_law_43 3 rfl rfl)
theorem dL_law_1193 : decode cL_law 1193 = .ok (.iaload, 1) := dk_46 (dk_at dksL_law_43 4 rfl rfl)
theorem dL_law_1194 : decode cL_law 1194 = .ok (.invokevirtual 162, 3) := dk_182 0 162 (dk_at dksL_law_43 5 rfl rfl)
theorem dL_law_1197 : decode cL_law 1197 = .ok (.aload_n 2, 1) := dk_44 (dk_at dksL_law_43 8 rfl rfl)
theorem dL_law_1198 : decode cL_law 1198 = .ok (.aload_n 0, 1) := dk_42 (dk_at dksL_law_43 9 rfl rfl)
theorem dL_law_1199 : decode cL_law 1199 = .ok (.iload_n 3, 1) := dk_29 (dk_at dksL_law_43 10 rfl rfl)
theorem dL_law_1200 : decode cL_law 1200 = .ok (.iconst 1, 1) := dk_4 (dk_at dksL_law_43 11 rfl rfl)
theorem dL_law_1201 : decode cL_law 1201 = .ok (.iadd, 1) := dk_96 (dk_at dksL_law_43 12 rfl rfl)
theorem dL_law_1202 : decode cL_law 1202 = .ok (.iaload, 1) := dk_46 (dk_at dksL_law_43 13 rfl rfl)
theorem dL_law_1203 : decode cL_law 1203 = .ok (.invokevirtual 165, 3) := dk_182 0 165 (dk_at dksL_law_43 14 rfl rfl)
theorem dL_law_1206 : decode cL_law 1206 = .ok (.if_icmp .eq 201, 3) := dk_159 0 201 (dk_at dksL_law_43 17 rfl rfl)
theorem dL_law_1209 : decode cL_law 1209 = .ok (.iconst 0, 1) := dk_3 (dk_at dksL_law_43 20 rfl rfl)
theorem dL_law_1210 : decode cL_law 1210 = .ok (.ireturn, 1) := dk_172 (dk_at dksL_law_43 21 rfl rfl)
theorem dL_law_1211 : decode cL_law 1211 = .ok (.aload_n 1, 1) := dk_43 (dk_at dksL_law_43 22 rfl rfl)
theorem dL_law_1212 : decode cL_law 1212 = .ok (.invokevirtual 166, 3) := dk_182 0 166 (dk_at dksL_law_44 0 rfl rfl)
theorem dL_law_1215 : decode cL_law 1215 = .ok (.aload_n 2, 1) := dk_44 (dk_at dksL_law_44 3 rfl rfl)
theorem dL_law_1216 : decode cL_law 1216 = .ok (.invokevirtual 169, 3) := dk_182 0 169 (dk_at dksL_law_44 4 rfl rfl)
theorem dL_law_1219 : decode cL_law 1219 = .ok (.if_icmp .eq 188, 3) := dk_159 0 188 (dk_at dksL_law_44 7 rfl rfl)
theorem dL_law_1222 : decode cL_law 1222 = .ok (.iconst 0, 1) := dk_3 (dk_at dksL_law_44 10 rfl rfl)
theorem dL_law_1223 : decode cL_law 1223 = .ok (.ireturn, 1) := dk_172 (dk_at dksL_law_44 11 rfl rfl)
theorem dL_law_1224 : decode cL_law 1224 = .ok (.aload_n 1, 1) := dk_43 (dk_at dksL_law_44 12 rfl rfl)
theorem dL_law_1225 : decode cL_law 1225 = .ok (.invokevirtual 170, 3) := dk_182 0 170 (dk_at dksL_law_44 13 rfl rfl)
theorem dL_law_1228 : decode cL_law 1228 = .ok (.aload_n 2, 1) := dk_44 (dk_at dksL_law_44 16 rfl rfl)
theorem dL_law_1229 : decode cL_law 1229 = .ok (.invokevirtual 173, 3) := dk_182 0 173 (dk_at dksL_law_44 17 rfl rfl)
theorem dL_law_1232 : decode cL_law 1232 = .ok (.if_icmp .eq 175, 3) := dk_159 0 175 (dk_at dksL_law_44 20 rfl rfl)
theorem dL_law_1235 : decode cL_law 1235 = .ok (.iconst 0, 1) := dk_3 (dk_at dksL_law_44 23 rfl rfl)
theorem dL_law_1236 : decode cL_law 1236 = .ok (.ireturn, 1) := dk_172 (dk_at dksL_law_45 0 rfl rfl)
theorem dL_law_1237 : decode cL_law 1237 = .ok (.aload_n 1, 1) := dk_43 (dk_at dksL_law_45 1 rfl rfl)
theorem dL_law_1238 : decode cL_law 1238 = .ok (.aload_n 0, 1) := dk_42 (dk_at dksL_law_45 2 rfl rfl)
theorem dL_law_1239 : decode cL_law 1239 = .ok (.iload_n 3, 1) := dk_29 (dk_at dksL_law_45 3 rfl rfl)
theorem dL_law_1240 : decode cL_law 1240 = .ok (.iconst 1, 1) := dk_4 (dk_at dksL_law_45 4 rfl rfl)
theorem dL_law_1241 : decode cL_law 1241 = .ok (.iadd, 1) := dk_96 (dk_at dksL_law_45 5 rfl rfl)
theorem dL_law_1242 : decode cL_law 1242 = .ok (.iaload, 1) := dk_46 (dk_at dksL_law_45 6 rfl rfl)
theorem dL_law_1243 : decode cL_law 1243 = .ok (.invokevirtual 174, 3) := dk_182 0 174 (dk_at dksL_law_45 7 rfl rfl)
theorem dL_law_1246 : decode cL_law 1246 = .ok (.aload_n 2, 1) := dk_44 (dk_at dksL_law_45 10 rfl rfl)
theorem dL_law_1247 : decode cL_law 1247 = .ok (.aload_n 0, 1) := dk_42 (dk_at dksL_law_45 11 rfl rfl)
theorem dL_law_1248 : decode cL_law 1248 = .ok (.iload_n 3, 1) := dk_29 (dk_at dksL_law_45 12 rfl rfl)
theorem dL_law_1249 : decode cL_law 1249 = .ok (.iconst 1, 1) := dk_4 (dk_at dksL_law_45 13 rfl rfl)
theorem dL_law_1250 : decode cL_law 1250 = .ok (.iadd, 1) := dk_96 (dk_at dksL_law_45 14 rfl rfl)
theorem dL_law_1251 : decode cL_law 1251 = .ok (.iaload, 1) := dk_46 (dk_at dksL_law_45 15 rfl rfl)
theorem dL_law_1252 : decode cL_law 1252 = .ok (.invokevirtual 177, 3) := dk_182 0 177 (dk_at dksL_law_45 16 rfl rfl)
theorem dL_law_1255 : decode cL_law 1255 = .ok (.if_icmp .eq 152, 3) := dk_159 0 152 (dk_at dksL_law_45 19 rfl rfl)
theorem dL_law_1258 : decode cL_law 1258 = .ok (.iconst 0, 1) := dk_3 (dk_at dksL_law_45 22 rfl rfl)
theorem dL_law_1259 : decode cL_law 1259 = .ok (.ireturn, 1) := dk_172 (dk_at dksL_law_45 23 rfl rfl)
theorem dL_law_1260 : decode cL_law 1260 = .ok (.aload_n 1, 1) := dk_43 (dk_at dksL_law_46 0 rfl rfl)
theorem dL_law_1261 : decode cL_law 1261 = .ok (.aload_n 0, 1) := dk_42 (dk_at dksL_law_46 1 rfl rfl)
theorem dL_law_1262 : decode cL_law 1262 = .ok (.iload_n 3, 1) := dk_29 (dk_at dksL_law_46 2 rfl rfl)
theorem dL_law_1263 : decode cL_law 1263 = .ok (.iconst 1, 1) := dk_4 (dk_at dksL_law_46 3 rfl rfl)
theorem dL_law_1264 : decode cL_law 1264 = .ok (.iadd, 1) := dk_96 (dk_at dksL_law_46 4 rfl rfl)
theorem dL_law_1265 : decode cL_law 1265 = .ok (.iaload, 1) := dk_46 (dk_at dksL_law_46 5 rfl rfl)
theorem dL_law_1266 : decode cL_law 1266 = .ok (.aload_n 0, 1) := dk_42 (dk_at dksL_law_46 6 rfl rfl)
theorem dL_law_1267 : decode cL_law 1267 = .ok (.iload_n 3, 1) := dk_29 (dk_at dksL_law_46 7 rfl rfl)
theorem dL_law_1268 : decode cL_law 1268 = .ok (.iconst 2, 1) := dk_5 (dk_at dksL_law_46 8 rfl rfl)
theorem dL_law_1269 : decode cL_law 1269 = .ok (.iadd, 1) := dk_96 (dk_at dksL_law_46 9 rfl rfl)
theorem dL_law_1270 : decode cL_law 1270 = .ok (.iaload, 1) := dk_46 (dk_at dksL_law_46 10 rfl rfl)
theorem dL_law_1271 : decode cL_law 1271 = .ok (.invokevirtual 178, 3) := dk_182 0 178 (dk_at dksL_law_46 11 rfl rfl)
theorem dL_law_1274 : decode cL_law 1274 = .ok (.aload_n 2, 1) := dk_44 (dk_at dksL_law_46 14 rfl rfl)
theorem dL_law_1275 : decode cL_law 1275 = .ok (.aload_n 0, 1) := dk_42 (dk_at dksL_law_46 15 rfl rfl)
theorem dL_law_1276 : decode cL_law 1276 = .ok (.iload_n 3, 1) := dk_29 (dk_at dksL_law_46 16 rfl rfl)
theorem dL_law_1277 : decode cL_law 1277 = .ok (.iconst 1, 1) := dk_4 (dk_at dksL_law_46 17 rfl rfl)
theorem dL_law_1278 : decode cL_law 1278 = .ok (.iadd, 1) := dk_96 (dk_at dksL_law_46 18 rfl rfl)
theorem dL_law_1279 : decode cL_law 1279 = .ok (.iaload, 1) := dk_46 (dk_at dksL_law_46 19 rfl rfl)
theorem dL_law_1280 : decode cL_law 1280 = .ok (.aload_n 0, 1) := dk_42 (dk_at dksL_law_46 20 rfl rfl)
theorem dL_law_1281 : decode cL_law 1281 = .ok (.iload_n 3, 1) := dk_29 (dk_at dksL_law_46 21 rfl rfl)
theorem dL_law_1282 : decode cL_law 1282 = .ok (.iconst 2, 1) := dk_5 (dk_at dksL_law_46 22 rfl rfl)
theorem dL_law_1283 : decode cL_law 1283 = .ok (.iadd, 1) := dk_96 (dk_at dksL_law_46 23 rfl rfl)
theorem dL_law_1284 : decode cL_law 1284 = .ok (.iaload, 1) := dk_46 (dk_at dksL_law_47 0 rfl rfl)
theorem dL_law_1285 : decode cL_law 1285 = .ok (.invokevirtual 181, 3) := dk_182 0 181 (dk_at dksL_law_47 1 rfl rfl)
theorem dL_law_1288 : decode cL_law 1288 = .ok (.if_icmp .eq 119, 3) := dk_159 0 119 (dk_at dksL_law_47 4 rfl rfl)
theorem dL_law_1291 : decode cL_law 1291 = .ok (.iconst 0, 1) := dk_3 (dk_at dksL_law_47 7 rfl rfl)
theorem dL_law_1292 : decode cL_law 1292 = .ok (.ireturn, 1) := dk_172 (dk_at dksL_law_47 8 rfl rfl)
theorem dL_law_1293 : decode cL_law 1293 = .ok (.aload_n 1, 1) := dk_43 (dk_at dksL_law_47 9 rfl rfl)
theorem dL_law_1294 : decode cL_law 1294 = .ok (.invokevirtual 182, 3) := dk_182 0 182 (dk_at dksL_law_47 10 rfl rfl)
theorem dL_law_1297 : decode cL_law 1297 = .ok (.aload_n 2, 1) := dk_44 (dk_at dksL_law_47 13 rfl rfl)
theorem dL_law_1298 : decode cL_law 1298 = .ok (.invokevirtual 185, 3) := dk_182 0 185 (dk_at dksL_law_47 14 rfl rfl)
theorem dL_law_1301 : decode cL_law 1301 = .ok (.if_icmp .eq 106, 3) := dk_159 0 106 (dk_at dksL_law_47 17 rfl rfl)
theorem dL_law_1304 : decode cL_law 1304 = .ok (.iconst 0, 1) := dk_3 (dk_at dksL_law_47 20 rfl rfl)
theorem dL_law_1305 : decode cL_law 1305 = .ok (.ireturn, 1) := dk_172 (dk_at dksL_law_47 21 rfl rfl)
theorem dL_law_1306 : decode cL_law 1306 = .ok (.aload_n 1, 1) := dk_43 (dk_at dksL_law_47 22 rfl rfl)
theorem dL_law_1307 : decode cL_law 1307 = .ok (.invokevirtual 186, 3) := dk_182 0 186 (dk_at dksL_law_48 0 rfl rfl)
theorem dL_law_1310 : decode cL_law 1310 = .ok (.aload_n 2, 1) := dk_44 (dk_at dksL_law_48 3 rfl rfl)
theorem dL_law_1311 : decode cL_law 1311 = .ok (.invokevirtual 190, 3) := dk_182 0 190 (dk_at dksL_law_48 4 rfl rfl)
theorem dL_law_1314 : decode cL_law 1314 = .ok (.lcmp, 1) := dk_148 (dk_at dksL_law_48 7 rfl rfl)
theorem dL_law_1315 : decode cL_law 1315 = .ok (.ifCond .eq 92, 3) := dk_153 0 92 (dk_at dksL_law_48 8 rfl rfl)
theorem dL_law_1318 : decode cL_law 1318 = .ok (.iconst 0, 1) := dk_3 (dk_at dksL_law_48 11 rfl rfl)
theorem dL_law_1319 : decode cL_law 1319 = .ok (.ireturn, 1) := dk_172 (dk_at dksL_law_48 12 rfl rfl)
theorem dL_law_1320 : decode cL_law 1320 = .ok (.aload_n 1, 1) := dk_43 (dk_at dksL_law_48 13 rfl rfl)
theorem dL_law_1321 : decode cL_law 1321 = .ok (.invokevirtual 191, 3) := dk_182 0 191 (dk_at dksL_law_48 14 rfl rfl)
theorem dL_law_1324 : decode cL_law 1324 = .ok (.aload_n 2, 1) := dk_44 (dk_at dksL_law_48 17 rfl rfl)
theorem dL_law_1325 : decode cL_law 1325 = .ok (.invokevirtual 194, 3) := dk_182 0 194 (dk_at dksL_law_48 18 rfl rfl)
theorem dL_law_1328 : decode cL_law 1328 = .ok (.lcmp, 1) := dk_148 (dk_at dksL_law_48 21 rfl rfl)
theorem dL_law_1329 : decode cL_law 1329 = .ok (.ifCond .eq 78, 3) := dk_153 0 78 (dk_at dksL_law_49 0 rfl rfl)
theorem dL_law_1332 : decode cL_law 1332 = .ok (.iconst 0, 1) := dk_3 (dk_at dksL_law_49 3 rfl rfl)
theorem dL_law_1333 : decode cL_law 1333 = .ok (.ireturn, 1) := dk_172 (dk_at dksL_law_49 4 rfl rfl)
theorem dL_law_1334 : decode cL_law 1334 = .ok (.aload_n 1, 1) := dk_43 (dk_at dksL_law_49 5 rfl rfl)
theorem dL_law_1335 : decode cL_law 1335 = .ok (.aload_n 0, 1) := dk_42 (dk_at dksL_law_49 6 rfl rfl)
theorem dL_law_1336 : decode cL_law 1336 = .ok (.iload_n 3, 1) := dk_29 (dk_at dksL_law_49 7 rfl rfl)
theorem dL_law_1337 : decode cL_law 1337 = .ok (.iconst 1, 1) := dk_4 (dk_at dksL_law_49 8 rfl rfl)
theorem dL_law_1338 : decode cL_law 1338 = .ok (.iadd, 1) := dk_96 (dk_at dksL_law_49 9 rfl rfl)
theorem dL_law_1339 : decode cL_law 1339 = .ok (.iaload, 1) := dk_46 (dk_at dksL_law_49 10 rfl rfl)
theorem dL_law_1340 : decode cL_law 1340 = .ok (.invokevirtual 195, 3) := dk_182 0 195 (dk_at dksL_law_49 11 rfl rfl)
theorem dL_law_1343 : decode cL_law 1343 = .ok (.aload_n 2, 1) := dk_44 (dk_at dksL_law_49 14 rfl rfl)
theorem dL_law_1344 : decode cL_law 1344 = .ok (.aload_n 0, 1) := dk_42 (dk_at dksL_law_49 15 rfl rfl)
theorem dL_law_1345 : decode cL_law 1345 = .ok (.iload_n 3, 1) := dk_29 (dk_at dksL_law_49 16 rfl rfl)
theorem dL_law_1346 : decode cL_law 1346 = .ok (.iconst 1, 1) := dk_4 (dk_at dksL_law_49 17 rfl rfl)
theorem dL_law_1347 : decode cL_law 1347 = .ok (.iadd, 1) := dk_96 (dk_at dksL_law_49 18 rfl rfl)
theorem dL_law_1348 : decode cL_law 1348 = .ok (.iaload, 1) := dk_46 (dk_at dksL_law_49 19 rfl rfl)
theorem dL_law_1349 : decode cL_law 1349 = .ok (.invokevirtual 198, 3) := dk_182 0 198 (dk_at dksL_law_49 20 rfl rfl)
theorem dL_law_1352 : decode cL_law 1352 = .ok (.if_icmp .eq 55, 3) := dk_159 0 55 (dk_at dksL_law_50 0 rfl rfl)
theorem dL_law_1355 : decode cL_law 1355 = .ok (.iconst 0, 1) := dk_3 (dk_at dksL_law_50 3 rfl rfl)
theorem dL_law_1356 : decode cL_law 1356 = .ok (.ireturn, 1) := dk_172 (dk_at dksL_law_50 4 rfl rfl)
theorem dL_law_1357 : decode cL_law 1357 = .ok (.aload_n 1, 1) := dk_43 (dk_at dksL_law_50 5 rfl rfl)
theorem dL_law_1358 : decode cL_law 1358 = .ok (.invokevirtual 199, 3) := dk_182 0 199 (dk_at dksL_law_50 6 rfl rfl)
theorem dL_law_1361 : decode cL_law 1361 = .ok (.aload_n 2, 1) := dk_44 (dk_at dksL_law_50 9 rfl rfl)
theorem dL_law_1362 : decode cL_law 1362 = .ok (.invokevirtual 202, 3) := dk_182 0 202 (dk_at dksL_law_50 10 rfl rfl)
theorem dL_law_1365 : decode cL_law 1365 = .ok (.if_icmp .eq 42, 3) := dk_159 0 42 (dk_at dksL_law_50 13 rfl rfl)
theorem dL_law_1368 : decode cL_law 1368 = .ok (.iconst 0, 1) := dk_3 (dk_at dksL_law_50 16 rfl rfl)
theorem dL_law_1369 : decode cL_law 1369 = .ok (.ireturn, 1) := dk_172 (dk_at dksL_law_50 17 rfl rfl)
theorem dL_law_1370 : decode cL_law 1370 = .ok (.aload_n 1, 1) := dk_43 (dk_at dksL_law_50 18 rfl rfl)
theorem dL_law_1371 : decode cL_law 1371 = .ok (.aload_n 0, 1) := dk_42 (dk_at dksL_law_50 19 rfl rfl)
theorem dL_law_1372 : decode cL_law 1372 = .ok (.iload_n 3, 1) := dk_29 (dk_at dksL_law_50 20 rfl rfl)
theorem dL_law_1373 : decode cL_law 1373 = .ok (.iconst 1, 1) := dk_4 (dk_at dksL_law_50 21 rfl rfl)
theorem dL_law_1374 : decode cL_law 1374 = .ok (.iadd, 1) := dk_96 (dk_at dksL_law_50 22 rfl rfl)
theorem dL_law_1375 : decode cL_law 1375 = .ok (.iaload, 1) := dk_46 (dk_at dksL_law_50 23 rfl rfl)
theorem dL_law_1376 : decode cL_law 1376 = .ok (.invokevirtual 203, 3) := dk_182 0 203 (dk_at dksL_law_51 0 rfl rfl)
theorem dL_law_1379 : decode cL_law 1379 = .ok (.aload_n 2, 1) := dk_44 (dk_at dksL_law_51 3 rfl rfl)
theorem dL_law_1380 : decode cL_law 1380 = .ok (.aload_n 0, 1) := dk_42 (dk_at dksL_law_51 4 rfl rfl)
theorem dL_law_1381 : decode cL_law 1381 = .ok (.iload_n 3, 1) := dk_29 (dk_at dksL_law_51 5 rfl rfl)
theorem dL_law_1382 : decode cL_law 1382 = .ok (.iconst 1, 1) := dk_4 (dk_at dksL_law_51 6 rfl rfl)
theorem dL_law_1383 : decode cL_law 1383 = .ok (.iadd, 1) := dk_96 (dk_at dksL_law_51 7 rfl rfl)
theorem dL_law_1384 : decode cL_law 1384 = .ok (.iaload, 1) := dk_46 (dk_at dksL_law_51 8 rfl rfl)
theorem dL_law_1385 : decode cL_law 1385 = .ok (.invokevirtual 206, 3) := dk_182 0 206 (dk_at dksL_law_51 9 rfl rfl)
theorem dL_law_1388 : decode cL_law 1388 = .ok (.if_icmp .eq 19, 3) := dk_159 0 19 (dk_at dksL_law_51 12 rfl rfl)
theorem dL_law_1391 : decode cL_law 1391 = .ok (.iconst 0, 1) := dk_3 (dk_at dksL_law_51 15 rfl rfl)
theorem dL_law_1392 : decode cL_law 1392 = .ok (.ireturn, 1) := dk_172 (dk_at dksL_law_51 16 rfl rfl)
theorem dL_law_1393 : decode cL_law 1393 = .ok (.aload_n 1, 1) := dk_43 (dk_at dksL_law_51 17 rfl rfl)
theorem dL_law_1394 : decode cL_law 1394 = .ok (.invokevirtual 207, 3) := dk_182 0 207 (dk_at dksL_law_51 18 rfl rfl)
theorem dL_law_1397 : decode cL_law 1397 = .ok (.aload_n 2, 1) := dk_44 (dk_at dksL_law_51 21 rfl rfl)
theorem dL_law_1398 : decode cL_law 1398 = .ok (.invokevirtual 210, 3) := dk_182 0 210 (dk_at dksL_law_52 0 rfl rfl)
theorem dL_law_1401 : decode cL_law 1401 = .ok (.lcmp, 1) := dk_148 (dk_at dksL_law_52 3 rfl rfl)
theorem dL_law_1402 : decode cL_law 1402 = .ok (.ifCond .eq 5, 3) := dk_153 0 5 (dk_at dksL_law_52 4 rfl rfl)
theorem dL_law_1405 : decode cL_law 1405 = .ok (.iconst 0, 1) := dk_3 (dk_at dksL_law_52 7 rfl rfl)
theorem dL_law_1406 : decode cL_law 1406 = .ok (.ireturn, 1) := dk_172 (dk_at dksL_law_52 8 rfl rfl)
theorem dL_law_1407 : decode cL_law 1407 = .ok (.iinc 3 6, 3) := dk_132 3 6 (dk_at dksL_law_52 9 rfl rfl)
theorem dL_law_1410 : decode cL_law 1410 = .ok (.goto (-1392), 3) := dk_167 250 144 (dk_at dksL_law_52 12 rfl rfl)
theorem dL_law_1413 : decode cL_law 1413 = .ok (.iconst 1, 1) := dk_4 (dk_at dksL_law_52 15 rfl rfl)
theorem dL_law_1414 : decode cL_law 1414 = .ok (.ireturn, 1) := dk_172 (dk_at dksL_law_52 16 rfl rfl)
