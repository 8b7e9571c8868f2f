/-! EXCEPTIONS, third part: the words that the four kinds ask, and the rules of the layer -/
set_option maxRecDepth 100000
def armI : List Nat := [76, 77, 78, 79, 80, 81, 82, 83, 84, 85, 92, 94, 95, 102, 103, 204, 210, 211, 212, 213, 214, 215, 216, 217, 218, 219, 220, 221, 222, 223, 224, 225, 226, 227, 228, 229, 230, 231, 232, 233, 234, 235, 236, 237, 239, 240, 241, 242, 243, 244, 245, 246, 247, 248, 249, 251, 252, 253, 254, 255, 256, 257, 258, 259, 260, 261, 262, 263, 264, 265, 266, 267, 268, 269, 270, 271, 272, 273, 274, 275, 276, 277, 278, 279, 280, 281, 282, 283, 284, 285, 286, 287, 288, 289, 290, 291, 292, 293, 294, 314, 315, 316, 317, 318, 319, 320, 321, 322, 323, 324, 325, 326, 327, 328, 329, 330, 331, 332, 333, 334, 335, 336, 337, 339, 340, 341, 342, 343, 344, 345, 346, 347, 348, 349, 350, 351, 352, 353, 354, 355, 356, 372, 373, 379, 380, 381, 382, 383, 384, 385, 386, 387, 388, 389, 390, 391, 609, 610, 611, 612, 613, 614, 615, 616, 617, 618, 619, 620, 621, 860, 861, 890, 891, 892, 893, 894, 921, 922, 957, 958, 959, 1084, 1433, 1441]
def armL : List Cond := (armI.filterMap (fun i => lw_tbl[i]?)).filter goodWord
theorem armL_all : ∀ w ∈ armL, w ∈ lw_all := by
  intro w h
  obtain ⟨h1, h2⟩ := List.mem_filter.mp h
  obtain ⟨i, -, hi⟩ := List.mem_filterMap.mp h1
  exact List.mem_filter.mpr ⟨List.mem_of_getElem? hi, h2⟩
abbrev arm_x : List Cond := [.laysStatic "java/lang/Throwable" "UNASSIGNED_STACK" tStk, .laysStatic "java/lang/Throwable" "SUPPRESSED_SENTINEL" "Ljava/util/List;", .isRef (.static "java/lang/Throwable" "UNASSIGNED_STACK" tStk), .isRef (.static "java/lang/Throwable" "SUPPRESSED_SENTINEL" "Ljava/util/List;")]
def armOk (l : List Cond) : Bool := l.all (fun a => decide (a ∈ armL) || decide (a ∈ nwL) || decide (a ∈ arm_x))
abbrev rEx : List String := ["java/lang/RuntimeException", "java/lang/Exception"]
theorem arm_NASE : armOk (Bundle.messageArmAtoms "java/lang/NegativeArraySizeException" rEx) = true := by decide +kernel
theorem arm_AE : armOk (Bundle.messageArmAtoms "java/lang/ArithmeticException" rEx) = true := by decide +kernel
theorem arm_CCE : armOk (Bundle.messageArmAtoms "java/lang/ClassCastException" rEx) = true := by decide +kernel
theorem arm_AIOOBE : armOk (Bundle.messageArmAtoms "java/lang/ArrayIndexOutOfBoundsException" ("java/lang/IndexOutOfBoundsException" :: rEx)) = true := by decide +kernel
theorem arm_NPE : armOk (Bundle.npeArmAtoms 8) = true := by decide +kernel
theorem arm_use {γ : GG} {D : va_G} {b base : Nat} {p : Program} {l : Launch} {s : State} {m : MethodId} {args : Array Value} {meth : Method} {c : Code} (X : GX γ D b base p l s m args meth c) {l0 : List Cond} (h : armOk l0 = true) : ∀ a ∈ l0, a.before args s = true := by
  intro a ha
  have h1 := List.all_eq_true.mp h a ha
  simp only [Bool.or_eq_true, decide_eq_true_eq] at h1
  rcases h1 with (h1 | h1) | h1
  · exact X.hts _ (armL_all a h1)
  · have h2 := X.nx.1 a h1
    have h3 : ∀ (s : State), va_Nw a s → a.before args s = true := nwL_use a h1 args
    exact h3 s h2
  · simp only [List.mem_cons, List.not_mem_nil, or_false] at h1
    rcases h1 with rfl | rfl | rfl | rfl
    · exact X.nx.2.2.1.lays args
    · exact X.nx.2.2.2.1.lays args
    · exact X.nx.2.2.1.isRef args
    · exact X.nx.2.2.2.1.isRef args

