-- ===== PART A: goes FIRST, ahead of the names: the tables' words, and 'selects' of the private methods out of them =====
/-- a private method of a class that the tables say can be made, by its rows of tables_1 -/
def lw_okq (q : MethodName × Nat) : Prop := (q.1.cls ≠ "java/lang/invoke/MethodHandle" ∧ q.1.cls ≠ "java/lang/invoke/VarHandle") ∧ Cond.instantiable q.1.cls q.2 ∈ tables_1 ∧ Cond.privateMethod q.1 ∈ tables_1 ∧ Cond.instanceMethod q.1 ∈ tables_1
set_option maxRecDepth 100000
theorem lw_t1 {w : Cond} (h : w ∈ tables_1_1) : w ∈ tables_1 := List.mem_append_left _ h
theorem lw_t2 {w : Cond} (h : w ∈ tables_1_2) : w ∈ tables_1 := List.mem_append_right _ (List.mem_append_left _ h)
theorem lw_t3 {w : Cond} (h : w ∈ tables_1_3) : w ∈ tables_1 := List.mem_append_right _ (List.mem_append_right _ (List.mem_append_left _ h))
theorem lw_t4 {w : Cond} (h : w ∈ tables_1_4) : w ∈ tables_1 := List.mem_append_right _ (List.mem_append_right _ (List.mem_append_right _ (List.mem_append_left _ h)))
theorem lw_t5 {w : Cond} (h : w ∈ tables_1_5) : w ∈ tables_1 := List.mem_append_right _ (List.mem_append_right _ (List.mem_append_right _ (List.mem_append_right _ (List.mem_append_left _ h))))
theorem lw_t6 {w : Cond} (h : w ∈ tables_1_6) : w ∈ tables_1 := List.mem_append_right _ (List.mem_append_right _ (List.mem_append_right _ (List.mem_append_right _ (List.mem_append_right _ h))))
theorem lw_p0 : lw_okq (⟨"java/lang/NullPointerException", "getExtendedNPEMessage", "()Ljava/lang/String;"⟩, 8) := ⟨⟨by decide +kernel, by decide +kernel⟩, lw_t1 (List.mem_of_getElem? (i := 167) rfl), lw_t1 (List.mem_of_getElem? (i := 165) rfl), lw_t1 (List.mem_of_getElem? (i := 166) rfl)⟩
theorem lw_p1 : lw_okq (⟨"java/lang/Throwable", "fillInStackTrace", "(I)Ljava/lang/Throwable;"⟩, 6) := ⟨⟨by decide +kernel, by decide +kernel⟩, lw_t1 (List.mem_of_getElem? (i := 179) rfl), lw_t1 (List.mem_of_getElem? (i := 177) rfl), lw_t1 (List.mem_of_getElem? (i := 178) rfl)⟩
theorem lw_p2 : lw_okq (⟨"LostQuestions", "found", "(I)I"⟩, 30) := ⟨⟨by decide +kernel, by decide +kernel⟩, lw_t1 (List.mem_of_getElem? (i := 24) rfl), lw_t1 (List.mem_of_getElem? (i := 229) rfl), lw_t1 (List.mem_of_getElem? (i := 230) rfl)⟩
theorem lw_p3 : lw_okq (⟨"LostQuestions", "ask", "(II)I"⟩, 30) := ⟨⟨by decide +kernel, by decide +kernel⟩, lw_t1 (List.mem_of_getElem? (i := 24) rfl), lw_t2 (List.mem_of_getElem? (i := 45) rfl), lw_t2 (List.mem_of_getElem? (i := 46) rfl)⟩
theorem lw_p4 : lw_okq (⟨"LostQuestions", "goesOn", "([B)I"⟩, 30) := ⟨⟨by decide +kernel, by decide +kernel⟩, lw_t1 (List.mem_of_getElem? (i := 24) rfl), lw_t2 (List.mem_of_getElem? (i := 95) rfl), lw_t2 (List.mem_of_getElem? (i := 96) rfl)⟩
theorem lw_p5 : lw_okq (⟨"LostQuestions", "sign", "()I"⟩, 30) := ⟨⟨by decide +kernel, by decide +kernel⟩, lw_t1 (List.mem_of_getElem? (i := 24) rfl), lw_t2 (List.mem_of_getElem? (i := 99) rfl), lw_t2 (List.mem_of_getElem? (i := 100) rfl)⟩
theorem lw_p6 : lw_okq (⟨"LostQuestions", "readsQuestion", "()Z"⟩, 30) := ⟨⟨by decide +kernel, by decide +kernel⟩, lw_t1 (List.mem_of_getElem? (i := 24) rfl), lw_t2 (List.mem_of_getElem? (i := 103) rfl), lw_t2 (List.mem_of_getElem? (i := 104) rfl)⟩
theorem lw_p7 : lw_okq (⟨"LostQuestions", "readsFigure", "(II)I"⟩, 30) := ⟨⟨by decide +kernel, by decide +kernel⟩, lw_t1 (List.mem_of_getElem? (i := 24) rfl), lw_t2 (List.mem_of_getElem? (i := 107) rfl), lw_t2 (List.mem_of_getElem? (i := 108) rfl)⟩
theorem lw_p8 : lw_okq (⟨"LostQuestions", "readsCard", "()Z"⟩, 30) := ⟨⟨by decide +kernel, by decide +kernel⟩, lw_t1 (List.mem_of_getElem? (i := 24) rfl), lw_t2 (List.mem_of_getElem? (i := 111) rfl), lw_t2 (List.mem_of_getElem? (i := 112) rfl)⟩
theorem lw_p9 : lw_okq (⟨"LostQuestions", "isCard", "(I)Z"⟩, 30) := ⟨⟨by decide +kernel, by decide +kernel⟩, lw_t1 (List.mem_of_getElem? (i := 24) rfl), lw_t2 (List.mem_of_getElem? (i := 205) rfl), lw_t2 (List.mem_of_getElem? (i := 206) rfl)⟩
theorem lw_p10 : lw_okq (⟨"LostQuestions", "cardTells", "(II)I"⟩, 30) := ⟨⟨by decide +kernel, by decide +kernel⟩, lw_t1 (List.mem_of_getElem? (i := 24) rfl), lw_t2 (List.mem_of_getElem? (i := 209) rfl), lw_t2 (List.mem_of_getElem? (i := 210) rfl)⟩
theorem lw_p11 : lw_okq (⟨"LostQuestions", "answers", "(I)I"⟩, 30) := ⟨⟨by decide +kernel, by decide +kernel⟩, lw_t1 (List.mem_of_getElem? (i := 24) rfl), lw_t3 (List.mem_of_getElem? (i := 32) rfl), lw_t3 (List.mem_of_getElem? (i := 33) rfl)⟩
theorem lw_p12 : lw_okq (⟨"LostQuestions", "isQuestion", "(I)Z"⟩, 30) := ⟨⟨by decide +kernel, by decide +kernel⟩, lw_t1 (List.mem_of_getElem? (i := 24) rfl), lw_t3 (List.mem_of_getElem? (i := 40) rfl), lw_t3 (List.mem_of_getElem? (i := 41) rfl)⟩
theorem lw_p13 : lw_okq (⟨"LostQuestions", "questionTells", "(II)I"⟩, 30) := ⟨⟨by decide +kernel, by decide +kernel⟩, lw_t1 (List.mem_of_getElem? (i := 24) rfl), lw_t3 (List.mem_of_getElem? (i := 44) rfl), lw_t3 (List.mem_of_getElem? (i := 45) rfl)⟩
theorem lw_p14 : lw_okq (⟨"LostQuestions", "askOf", "(II)I"⟩, 30) := ⟨⟨by decide +kernel, by decide +kernel⟩, lw_t1 (List.mem_of_getElem? (i := 24) rfl), lw_t3 (List.mem_of_getElem? (i := 48) rfl), lw_t3 (List.mem_of_getElem? (i := 49) rfl)⟩
theorem lw_p15 : lw_okq (⟨"LostQuestions", "meaning", "(II)I"⟩, 30) := ⟨⟨by decide +kernel, by decide +kernel⟩, lw_t1 (List.mem_of_getElem? (i := 24) rfl), lw_t3 (List.mem_of_getElem? (i := 77) rfl), lw_t3 (List.mem_of_getElem? (i := 78) rfl)⟩
def lw_privs_1 : List (MethodName × Nat) := [(⟨"java/lang/NullPointerException", "getExtendedNPEMessage", "()Ljava/lang/String;"⟩, 8), (⟨"java/lang/Throwable", "fillInStackTrace", "(I)Ljava/lang/Throwable;"⟩, 6), (⟨"LostQuestions", "found", "(I)I"⟩, 30), (⟨"LostQuestions", "ask", "(II)I"⟩, 30), (⟨"LostQuestions", "goesOn", "([B)I"⟩, 30), (⟨"LostQuestions", "sign", "()I"⟩, 30), (⟨"LostQuestions", "readsQuestion", "()Z"⟩, 30), (⟨"LostQuestions", "readsFigure", "(II)I"⟩, 30), (⟨"LostQuestions", "readsCard", "()Z"⟩, 30), (⟨"LostQuestions", "isCard", "(I)Z"⟩, 30), (⟨"LostQuestions", "cardTells", "(II)I"⟩, 30), (⟨"LostQuestions", "answers", "(I)I"⟩, 30), (⟨"LostQuestions", "isQuestion", "(I)Z"⟩, 30), (⟨"LostQuestions", "questionTells", "(II)I"⟩, 30), (⟨"LostQuestions", "askOf", "(II)I"⟩, 30), (⟨"LostQuestions", "meaning", "(II)I"⟩, 30)]
theorem lw_r1 : ∀ q ∈ lw_privs_1, lw_okq q := List.forall_mem_cons.mpr ⟨lw_p0, List.forall_mem_cons.mpr ⟨lw_p1, List.forall_mem_cons.mpr ⟨lw_p2, List.forall_mem_cons.mpr ⟨lw_p3, List.forall_mem_cons.mpr ⟨lw_p4, List.forall_mem_cons.mpr ⟨lw_p5, List.forall_mem_cons.mpr ⟨lw_p6, List.forall_mem_cons.mpr ⟨lw_p7, List.forall_mem_cons.mpr ⟨lw_p8, List.forall_mem_cons.mpr ⟨lw_p9, List.forall_mem_cons.mpr ⟨lw_p10, List.forall_mem_cons.mpr ⟨lw_p11, List.forall_mem_cons.mpr ⟨lw_p12, List.forall_mem_cons.mpr ⟨lw_p13, List.forall_mem_cons.mpr ⟨lw_p14, List.forall_mem_cons.mpr ⟨lw_p15, fun _ h => absurd h List.not_mem_nil⟩⟩⟩⟩⟩⟩⟩⟩⟩⟩⟩⟩⟩⟩⟩⟩
theorem lw_p16 : lw_okq (⟨"LostQuestions", "onShelf", "(I)I"⟩, 30) := ⟨⟨by decide +kernel, by decide +kernel⟩, lw_t1 (List.mem_of_getElem? (i := 24) rfl), lw_t3 (List.mem_of_getElem? (i := 119) rfl), lw_t3 (List.mem_of_getElem? (i := 120) rfl)⟩
theorem lw_p17 : lw_okq (⟨"LostQuestions", "fitted", "(I)I"⟩, 30) := ⟨⟨by decide +kernel, by decide +kernel⟩, lw_t1 (List.mem_of_getElem? (i := 24) rfl), lw_t3 (List.mem_of_getElem? (i := 130) rfl), lw_t3 (List.mem_of_getElem? (i := 131) rfl)⟩
theorem lw_p18 : lw_okq (⟨"LostQuestions", "doesFit", "(II)Z"⟩, 30) := ⟨⟨by decide +kernel, by decide +kernel⟩, lw_t1 (List.mem_of_getElem? (i := 24) rfl), lw_t3 (List.mem_of_getElem? (i := 134) rfl), lw_t3 (List.mem_of_getElem? (i := 135) rfl)⟩
theorem lw_p19 : lw_okq (⟨"LostQuestions", "saying", "(II)I"⟩, 30) := ⟨⟨by decide +kernel, by decide +kernel⟩, lw_t1 (List.mem_of_getElem? (i := 24) rfl), lw_t3 (List.mem_of_getElem? (i := 155) rfl), lw_t3 (List.mem_of_getElem? (i := 156) rfl)⟩
theorem lw_p20 : lw_okq (⟨"LostQuestions", "fitSet", "(I)I"⟩, 30) := ⟨⟨by decide +kernel, by decide +kernel⟩, lw_t1 (List.mem_of_getElem? (i := 24) rfl), lw_t3 (List.mem_of_getElem? (i := 175) rfl), lw_t3 (List.mem_of_getElem? (i := 176) rfl)⟩
theorem lw_p21 : lw_okq (⟨"LostQuestions", "mayTake", "(II)Z"⟩, 30) := ⟨⟨by decide +kernel, by decide +kernel⟩, lw_t1 (List.mem_of_getElem? (i := 24) rfl), lw_t3 (List.mem_of_getElem? (i := 183) rfl), lw_t3 (List.mem_of_getElem? (i := 184) rfl)⟩
theorem lw_p22 : lw_okq (⟨"LostQuestions", "takeTruly", "(II)I"⟩, 30) := ⟨⟨by decide +kernel, by decide +kernel⟩, lw_t1 (List.mem_of_getElem? (i := 24) rfl), lw_t3 (List.mem_of_getElem? (i := 187) rfl), lw_t3 (List.mem_of_getElem? (i := 188) rfl)⟩
theorem lw_p23 : lw_okq (⟨"LostQuestions", "isRight", "(I)I"⟩, 30) := ⟨⟨by decide +kernel, by decide +kernel⟩, lw_t1 (List.mem_of_getElem? (i := 24) rfl), lw_t3 (List.mem_of_getElem? (i := 191) rfl), lw_t3 (List.mem_of_getElem? (i := 192) rfl)⟩
theorem lw_p24 : lw_okq (⟨"LostQuestions", "rightMany", "(I)I"⟩, 30) := ⟨⟨by decide +kernel, by decide +kernel⟩, lw_t1 (List.mem_of_getElem? (i := 24) rfl), lw_t3 (List.mem_of_getElem? (i := 207) rfl), lw_t3 (List.mem_of_getElem? (i := 208) rfl)⟩
theorem lw_p25 : lw_okq (⟨"LostQuestions", "matchTo", "(IZ)I"⟩, 30) := ⟨⟨by decide +kernel, by decide +kernel⟩, lw_t1 (List.mem_of_getElem? (i := 24) rfl), lw_t4 (List.mem_of_getElem? (i := 19) rfl), lw_t4 (List.mem_of_getElem? (i := 20) rfl)⟩
theorem lw_p26 : lw_okq (⟨"LostQuestions", "freeCards", "()I"⟩, 30) := ⟨⟨by decide +kernel, by decide +kernel⟩, lw_t1 (List.mem_of_getElem? (i := 24) rfl), lw_t4 (List.mem_of_getElem? (i := 23) rfl), lw_t4 (List.mem_of_getElem? (i := 24) rfl)⟩
theorem lw_p27 : lw_okq (⟨"LostQuestions", "bestOn", "(IIIZ)V"⟩, 30) := ⟨⟨by decide +kernel, by decide +kernel⟩, lw_t1 (List.mem_of_getElem? (i := 24) rfl), lw_t4 (List.mem_of_getElem? (i := 27) rfl), lw_t4 (List.mem_of_getElem? (i := 28) rfl)⟩
theorem lw_p28 : lw_okq (⟨"LostQuestions", "mayAnswer", "(II)I"⟩, 30) := ⟨⟨by decide +kernel, by decide +kernel⟩, lw_t1 (List.mem_of_getElem? (i := 24) rfl), lw_t4 (List.mem_of_getElem? (i := 31) rfl), lw_t4 (List.mem_of_getElem? (i := 32) rfl)⟩
theorem lw_p29 : lw_okq (⟨"LostQuestions", "setFullest", "()V"⟩, 30) := ⟨⟨by decide +kernel, by decide +kernel⟩, lw_t1 (List.mem_of_getElem? (i := 24) rfl), lw_t4 (List.mem_of_getElem? (i := 46) rfl), lw_t4 (List.mem_of_getElem? (i := 47) rfl)⟩
theorem lw_p30 : lw_okq (⟨"LostQuestions", "fullOn", "(III)V"⟩, 30) := ⟨⟨by decide +kernel, by decide +kernel⟩, lw_t1 (List.mem_of_getElem? (i := 24) rfl), lw_t4 (List.mem_of_getElem? (i := 50) rfl), lw_t4 (List.mem_of_getElem? (i := 51) rfl)⟩
theorem lw_p31 : lw_okq (⟨"LostQuestions", "chances", "(II)I"⟩, 30) := ⟨⟨by decide +kernel, by decide +kernel⟩, lw_t1 (List.mem_of_getElem? (i := 24) rfl), lw_t4 (List.mem_of_getElem? (i := 74) rfl), lw_t4 (List.mem_of_getElem? (i := 75) rfl)⟩
def lw_privs_2 : List (MethodName × Nat) := [(⟨"LostQuestions", "onShelf", "(I)I"⟩, 30), (⟨"LostQuestions", "fitted", "(I)I"⟩, 30), (⟨"LostQuestions", "doesFit", "(II)Z"⟩, 30), (⟨"LostQuestions", "saying", "(II)I"⟩, 30), (⟨"LostQuestions", "fitSet", "(I)I"⟩, 30), (⟨"LostQuestions", "mayTake", "(II)Z"⟩, 30), (⟨"LostQuestions", "takeTruly", "(II)I"⟩, 30), (⟨"LostQuestions", "isRight", "(I)I"⟩, 30), (⟨"LostQuestions", "rightMany", "(I)I"⟩, 30), (⟨"LostQuestions", "matchTo", "(IZ)I"⟩, 30), (⟨"LostQuestions", "freeCards", "()I"⟩, 30), (⟨"LostQuestions", "bestOn", "(IIIZ)V"⟩, 30), (⟨"LostQuestions", "mayAnswer", "(II)I"⟩, 30), (⟨"LostQuestions", "setFullest", "()V"⟩, 30), (⟨"LostQuestions", "fullOn", "(III)V"⟩, 30), (⟨"LostQuestions", "chances", "(II)I"⟩, 30)]
theorem lw_r2 : ∀ q ∈ lw_privs_2, lw_okq q := List.forall_mem_cons.mpr ⟨lw_p16, List.forall_mem_cons.mpr ⟨lw_p17, List.forall_mem_cons.mpr ⟨lw_p18, List.forall_mem_cons.mpr ⟨lw_p19, List.forall_mem_cons.mpr ⟨lw_p20, List.forall_mem_cons.mpr ⟨lw_p21, List.forall_mem_cons.mpr ⟨lw_p22, List.forall_mem_cons.mpr ⟨lw_p23, List.forall_mem_cons.mpr ⟨lw_p24, List.forall_mem_cons.mpr ⟨lw_p25, List.forall_mem_cons.mpr ⟨lw_p26, List.forall_mem_cons.mpr ⟨lw_p27, List.forall_mem_cons.mpr ⟨lw_p28, List.forall_mem_cons.mpr ⟨lw_p29, List.forall_mem_cons.mpr ⟨lw_p30, List.forall_mem_cons.mpr ⟨lw_p31, fun _ h => absurd h List.not_mem_nil⟩⟩⟩⟩⟩⟩⟩⟩⟩⟩⟩⟩⟩⟩⟩⟩
theorem lw_p32 : lw_okq (⟨"LostQuestions", "partOf", "(II)I"⟩, 30) := ⟨⟨by decide +kernel, by decide +kernel⟩, lw_t1 (List.mem_of_getElem? (i := 24) rfl), lw_t4 (List.mem_of_getElem? (i := 103) rfl), lw_t4 (List.mem_of_getElem? (i := 104) rfl)⟩
theorem lw_p33 : lw_okq (⟨"LostQuestions", "askedAnswers", "(I)I"⟩, 30) := ⟨⟨by decide +kernel, by decide +kernel⟩, lw_t1 (List.mem_of_getElem? (i := 24) rfl), lw_t4 (List.mem_of_getElem? (i := 111) rfl), lw_t4 (List.mem_of_getElem? (i := 112) rfl)⟩
theorem lw_p34 : lw_okq (⟨"LostQuestions", "pairsWith", "([IZ)I"⟩, 30) := ⟨⟨by decide +kernel, by decide +kernel⟩, lw_t1 (List.mem_of_getElem? (i := 24) rfl), lw_t4 (List.mem_of_getElem? (i := 124) rfl), lw_t4 (List.mem_of_getElem? (i := 125) rfl)⟩
theorem lw_p35 : lw_okq (⟨"LostQuestions", "homeOf", "(I)I"⟩, 30) := ⟨⟨by decide +kernel, by decide +kernel⟩, lw_t1 (List.mem_of_getElem? (i := 24) rfl), lw_t4 (List.mem_of_getElem? (i := 135) rfl), lw_t4 (List.mem_of_getElem? (i := 136) rfl)⟩
theorem lw_p36 : lw_okq (⟨"LostQuestions", "kindOn", "(II)I"⟩, 30) := ⟨⟨by decide +kernel, by decide +kernel⟩, lw_t1 (List.mem_of_getElem? (i := 24) rfl), lw_t4 (List.mem_of_getElem? (i := 139) rfl), lw_t4 (List.mem_of_getElem? (i := 140) rfl)⟩
theorem lw_p37 : lw_okq (⟨"LostQuestions", "staysOn", "(II)I"⟩, 30) := ⟨⟨by decide +kernel, by decide +kernel⟩, lw_t1 (List.mem_of_getElem? (i := 24) rfl), lw_t4 (List.mem_of_getElem? (i := 147) rfl), lw_t4 (List.mem_of_getElem? (i := 148) rfl)⟩
theorem lw_p38 : lw_okq (⟨"LostQuestions", "countOf", "(I)I"⟩, 30) := ⟨⟨by decide +kernel, by decide +kernel⟩, lw_t1 (List.mem_of_getElem? (i := 24) rfl), lw_t4 (List.mem_of_getElem? (i := 184) rfl), lw_t4 (List.mem_of_getElem? (i := 185) rfl)⟩
theorem lw_p39 : lw_okq (⟨"LostQuestions", "freeQuestions", "()I"⟩, 30) := ⟨⟨by decide +kernel, by decide +kernel⟩, lw_t1 (List.mem_of_getElem? (i := 24) rfl), lw_t4 (List.mem_of_getElem? (i := 188) rfl), lw_t4 (List.mem_of_getElem? (i := 189) rfl)⟩
theorem lw_p40 : lw_okq (⟨"LostQuestions", "cardsOf", "(I)I"⟩, 30) := ⟨⟨by decide +kernel, by decide +kernel⟩, lw_t1 (List.mem_of_getElem? (i := 24) rfl), lw_t4 (List.mem_of_getElem? (i := 192) rfl), lw_t4 (List.mem_of_getElem? (i := 193) rfl)⟩
theorem lw_p41 : lw_okq (⟨"LostQuestions", "thereOf", "(I)I"⟩, 30) := ⟨⟨by decide +kernel, by decide +kernel⟩, lw_t1 (List.mem_of_getElem? (i := 24) rfl), lw_t4 (List.mem_of_getElem? (i := 196) rfl), lw_t4 (List.mem_of_getElem? (i := 197) rfl)⟩
theorem lw_p42 : lw_okq (⟨"LostQuestions", "mix", "(I)V"⟩, 30) := ⟨⟨by decide +kernel, by decide +kernel⟩, lw_t1 (List.mem_of_getElem? (i := 24) rfl), lw_t4 (List.mem_of_getElem? (i := 213) rfl), lw_t4 (List.mem_of_getElem? (i := 214) rfl)⟩
theorem lw_p43 : lw_okq (⟨"LostQuestions", "mixLibrary", "()V"⟩, 30) := ⟨⟨by decide +kernel, by decide +kernel⟩, lw_t1 (List.mem_of_getElem? (i := 24) rfl), lw_t4 (List.mem_of_getElem? (i := 218) rfl), lw_t4 (List.mem_of_getElem? (i := 219) rfl)⟩
theorem lw_p44 : lw_okq (⟨"LostQuestionsModel", "found", "(I)I"⟩, 21) := ⟨⟨by decide +kernel, by decide +kernel⟩, lw_t4 (List.mem_of_getElem? (i := 222) rfl), lw_t5 (List.mem_of_getElem? (i := 64) rfl), lw_t5 (List.mem_of_getElem? (i := 65) rfl)⟩
theorem lw_p45 : lw_okq (⟨"LostQuestionsModel", "tell", "(I)I"⟩, 21) := ⟨⟨by decide +kernel, by decide +kernel⟩, lw_t4 (List.mem_of_getElem? (i := 222) rfl), lw_t5 (List.mem_of_getElem? (i := 72) rfl), lw_t5 (List.mem_of_getElem? (i := 73) rfl)⟩
theorem lw_p46 : lw_okq (⟨"LostQuestionsModel", "reads", "(I)I"⟩, 21) := ⟨⟨by decide +kernel, by decide +kernel⟩, lw_t4 (List.mem_of_getElem? (i := 222) rfl), lw_t5 (List.mem_of_getElem? (i := 108) rfl), lw_t5 (List.mem_of_getElem? (i := 109) rfl)⟩
theorem lw_p47 : lw_okq (⟨"LostQuestionsModel", "byteAt", "(I)I"⟩, 21) := ⟨⟨by decide +kernel, by decide +kernel⟩, lw_t4 (List.mem_of_getElem? (i := 222) rfl), lw_t5 (List.mem_of_getElem? (i := 114) rfl), lw_t5 (List.mem_of_getElem? (i := 115) rfl)⟩
def lw_privs_3 : List (MethodName × Nat) := [(⟨"LostQuestions", "partOf", "(II)I"⟩, 30), (⟨"LostQuestions", "askedAnswers", "(I)I"⟩, 30), (⟨"LostQuestions", "pairsWith", "([IZ)I"⟩, 30), (⟨"LostQuestions", "homeOf", "(I)I"⟩, 30), (⟨"LostQuestions", "kindOn", "(II)I"⟩, 30), (⟨"LostQuestions", "staysOn", "(II)I"⟩, 30), (⟨"LostQuestions", "countOf", "(I)I"⟩, 30), (⟨"LostQuestions", "freeQuestions", "()I"⟩, 30), (⟨"LostQuestions", "cardsOf", "(I)I"⟩, 30), (⟨"LostQuestions", "thereOf", "(I)I"⟩, 30), (⟨"LostQuestions", "mix", "(I)V"⟩, 30), (⟨"LostQuestions", "mixLibrary", "()V"⟩, 30), (⟨"LostQuestionsModel", "found", "(I)I"⟩, 21), (⟨"LostQuestionsModel", "tell", "(I)I"⟩, 21), (⟨"LostQuestionsModel", "reads", "(I)I"⟩, 21), (⟨"LostQuestionsModel", "byteAt", "(I)I"⟩, 21)]
theorem lw_r3 : ∀ q ∈ lw_privs_3, lw_okq q := List.forall_mem_cons.mpr ⟨lw_p32, List.forall_mem_cons.mpr ⟨lw_p33, List.forall_mem_cons.mpr ⟨lw_p34, List.forall_mem_cons.mpr ⟨lw_p35, List.forall_mem_cons.mpr ⟨lw_p36, List.forall_mem_cons.mpr ⟨lw_p37, List.forall_mem_cons.mpr ⟨lw_p38, List.forall_mem_cons.mpr ⟨lw_p39, List.forall_mem_cons.mpr ⟨lw_p40, List.forall_mem_cons.mpr ⟨lw_p41, List.forall_mem_cons.mpr ⟨lw_p42, List.forall_mem_cons.mpr ⟨lw_p43, List.forall_mem_cons.mpr ⟨lw_p44, List.forall_mem_cons.mpr ⟨lw_p45, List.forall_mem_cons.mpr ⟨lw_p46, List.forall_mem_cons.mpr ⟨lw_p47, fun _ h => absurd h List.not_mem_nil⟩⟩⟩⟩⟩⟩⟩⟩⟩⟩⟩⟩⟩⟩⟩⟩
theorem lw_p48 : lw_okq (⟨"LostQuestionsModel", "takesQuestion", "(I)Z"⟩, 21) := ⟨⟨by decide +kernel, by decide +kernel⟩, lw_t4 (List.mem_of_getElem? (i := 222) rfl), lw_t5 (List.mem_of_getElem? (i := 118) rfl), lw_t5 (List.mem_of_getElem? (i := 119) rfl)⟩
theorem lw_p49 : lw_okq (⟨"LostQuestionsModel", "takes", "(IIII)Z"⟩, 21) := ⟨⟨by decide +kernel, by decide +kernel⟩, lw_t4 (List.mem_of_getElem? (i := 222) rfl), lw_t5 (List.mem_of_getElem? (i := 122) rfl), lw_t5 (List.mem_of_getElem? (i := 123) rfl)⟩
theorem lw_p50 : lw_okq (⟨"LostQuestionsModel", "takesCard", "(I)Z"⟩, 21) := ⟨⟨by decide +kernel, by decide +kernel⟩, lw_t4 (List.mem_of_getElem? (i := 222) rfl), lw_t5 (List.mem_of_getElem? (i := 126) rfl), lw_t5 (List.mem_of_getElem? (i := 127) rfl)⟩
theorem lw_p51 : lw_okq (⟨"LostQuestionsModel", "isCard", "(I)Z"⟩, 21) := ⟨⟨by decide +kernel, by decide +kernel⟩, lw_t4 (List.mem_of_getElem? (i := 222) rfl), lw_t5 (List.mem_of_getElem? (i := 144) rfl), lw_t5 (List.mem_of_getElem? (i := 145) rfl)⟩
theorem lw_p52 : lw_okq (⟨"LostQuestionsModel", "toldCard", "(II)I"⟩, 21) := ⟨⟨by decide +kernel, by decide +kernel⟩, lw_t4 (List.mem_of_getElem? (i := 222) rfl), lw_t5 (List.mem_of_getElem? (i := 148) rfl), lw_t5 (List.mem_of_getElem? (i := 149) rfl)⟩
theorem lw_p53 : lw_okq (⟨"LostQuestionsModel", "means", "(I)I"⟩, 21) := ⟨⟨by decide +kernel, by decide +kernel⟩, lw_t4 (List.mem_of_getElem? (i := 222) rfl), lw_t5 (List.mem_of_getElem? (i := 152) rfl), lw_t5 (List.mem_of_getElem? (i := 153) rfl)⟩
theorem lw_p54 : lw_okq (⟨"LostQuestionsModel", "answers", "(I)I"⟩, 21) := ⟨⟨by decide +kernel, by decide +kernel⟩, lw_t4 (List.mem_of_getElem? (i := 222) rfl), lw_t5 (List.mem_of_getElem? (i := 156) rfl), lw_t5 (List.mem_of_getElem? (i := 157) rfl)⟩
theorem lw_p55 : lw_okq (⟨"LostQuestionsModel", "isQuestion", "(I)Z"⟩, 21) := ⟨⟨by decide +kernel, by decide +kernel⟩, lw_t4 (List.mem_of_getElem? (i := 222) rfl), lw_t5 (List.mem_of_getElem? (i := 164) rfl), lw_t5 (List.mem_of_getElem? (i := 165) rfl)⟩
theorem lw_p56 : lw_okq (⟨"LostQuestionsModel", "isFit", "(II)Z"⟩, 21) := ⟨⟨by decide +kernel, by decide +kernel⟩, lw_t4 (List.mem_of_getElem? (i := 222) rfl), lw_t5 (List.mem_of_getElem? (i := 175) rfl), lw_t5 (List.mem_of_getElem? (i := 176) rfl)⟩
theorem lw_p57 : lw_okq (⟨"LostQuestionsModel", "suits", "(IIII)Z"⟩, 21) := ⟨⟨by decide +kernel, by decide +kernel⟩, lw_t4 (List.mem_of_getElem? (i := 222) rfl), lw_t5 (List.mem_of_getElem? (i := 179) rfl), lw_t5 (List.mem_of_getElem? (i := 180) rfl)⟩
theorem lw_p58 : lw_okq (⟨"LostQuestionsModel", "puts", "(II)I"⟩, 21) := ⟨⟨by decide +kernel, by decide +kernel⟩, lw_t4 (List.mem_of_getElem? (i := 222) rfl), lw_t5 (List.mem_of_getElem? (i := 187) rfl), lw_t5 (List.mem_of_getElem? (i := 188) rfl)⟩
theorem lw_p59 : lw_okq (⟨"LostQuestionsModel", "isFree", "(I)Z"⟩, 21) := ⟨⟨by decide +kernel, by decide +kernel⟩, lw_t4 (List.mem_of_getElem? (i := 222) rfl), lw_t5 (List.mem_of_getElem? (i := 208) rfl), lw_t5 (List.mem_of_getElem? (i := 209) rfl)⟩
theorem lw_p60 : lw_okq (⟨"LostQuestionsModel", "isFreeCard", "(I)Z"⟩, 21) := ⟨⟨by decide +kernel, by decide +kernel⟩, lw_t4 (List.mem_of_getElem? (i := 222) rfl), lw_t5 (List.mem_of_getElem? (i := 212) rfl), lw_t5 (List.mem_of_getElem? (i := 213) rfl)⟩
theorem lw_p61 : lw_okq (⟨"LostQuestionsModel", "takesIt", "(II)V"⟩, 21) := ⟨⟨by decide +kernel, by decide +kernel⟩, lw_t4 (List.mem_of_getElem? (i := 222) rfl), lw_t5 (List.mem_of_getElem? (i := 216) rfl), lw_t5 (List.mem_of_getElem? (i := 217) rfl)⟩
theorem lw_p62 : lw_okq (⟨"LostQuestionsModel", "stands", "(I)I"⟩, 21) := ⟨⟨by decide +kernel, by decide +kernel⟩, lw_t4 (List.mem_of_getElem? (i := 222) rfl), lw_t5 (List.mem_of_getElem? (i := 220) rfl), lw_t5 (List.mem_of_getElem? (i := 221) rfl)⟩
theorem lw_p63 : lw_okq (⟨"LostQuestionsModel", "standing", "(I)I"⟩, 21) := ⟨⟨by decide +kernel, by decide +kernel⟩, lw_t4 (List.mem_of_getElem? (i := 222) rfl), lw_t5 (List.mem_of_getElem? (i := 236) rfl), lw_t5 (List.mem_of_getElem? (i := 237) rfl)⟩
def lw_privs_4 : List (MethodName × Nat) := [(⟨"LostQuestionsModel", "takesQuestion", "(I)Z"⟩, 21), (⟨"LostQuestionsModel", "takes", "(IIII)Z"⟩, 21), (⟨"LostQuestionsModel", "takesCard", "(I)Z"⟩, 21), (⟨"LostQuestionsModel", "isCard", "(I)Z"⟩, 21), (⟨"LostQuestionsModel", "toldCard", "(II)I"⟩, 21), (⟨"LostQuestionsModel", "means", "(I)I"⟩, 21), (⟨"LostQuestionsModel", "answers", "(I)I"⟩, 21), (⟨"LostQuestionsModel", "isQuestion", "(I)Z"⟩, 21), (⟨"LostQuestionsModel", "isFit", "(II)Z"⟩, 21), (⟨"LostQuestionsModel", "suits", "(IIII)Z"⟩, 21), (⟨"LostQuestionsModel", "puts", "(II)I"⟩, 21), (⟨"LostQuestionsModel", "isFree", "(I)Z"⟩, 21), (⟨"LostQuestionsModel", "isFreeCard", "(I)Z"⟩, 21), (⟨"LostQuestionsModel", "takesIt", "(II)V"⟩, 21), (⟨"LostQuestionsModel", "stands", "(I)I"⟩, 21), (⟨"LostQuestionsModel", "standing", "(I)I"⟩, 21)]
theorem lw_r4 : ∀ q ∈ lw_privs_4, lw_okq q := List.forall_mem_cons.mpr ⟨lw_p48, List.forall_mem_cons.mpr ⟨lw_p49, List.forall_mem_cons.mpr ⟨lw_p50, List.forall_mem_cons.mpr ⟨lw_p51, List.forall_mem_cons.mpr ⟨lw_p52, List.forall_mem_cons.mpr ⟨lw_p53, List.forall_mem_cons.mpr ⟨lw_p54, List.forall_mem_cons.mpr ⟨lw_p55, List.forall_mem_cons.mpr ⟨lw_p56, List.forall_mem_cons.mpr ⟨lw_p57, List.forall_mem_cons.mpr ⟨lw_p58, List.forall_mem_cons.mpr ⟨lw_p59, List.forall_mem_cons.mpr ⟨lw_p60, List.forall_mem_cons.mpr ⟨lw_p61, List.forall_mem_cons.mpr ⟨lw_p62, List.forall_mem_cons.mpr ⟨lw_p63, fun _ h => absurd h List.not_mem_nil⟩⟩⟩⟩⟩⟩⟩⟩⟩⟩⟩⟩⟩⟩⟩⟩
theorem lw_p64 : lw_okq (⟨"LostQuestionsModel", "layMatchings", "(Z)V"⟩, 21) := ⟨⟨by decide +kernel, by decide +kernel⟩, lw_t4 (List.mem_of_getElem? (i := 222) rfl), lw_t6 (List.mem_of_getElem? (i := 13) rfl), lw_t6 (List.mem_of_getElem? (i := 14) rfl)⟩
theorem lw_p65 : lw_okq (⟨"LostQuestionsModel", "counts", "(I)V"⟩, 21) := ⟨⟨by decide +kernel, by decide +kernel⟩, lw_t4 (List.mem_of_getElem? (i := 222) rfl), lw_t6 (List.mem_of_getElem? (i := 17) rfl), lw_t6 (List.mem_of_getElem? (i := 18) rfl)⟩
theorem lw_p66 : lw_okq (⟨"LostQuestionsModel", "mayMatch", "(II)Z"⟩, 21) := ⟨⟨by decide +kernel, by decide +kernel⟩, lw_t4 (List.mem_of_getElem? (i := 222) rfl), lw_t6 (List.mem_of_getElem? (i := 21) rfl), lw_t6 (List.mem_of_getElem? (i := 22) rfl)⟩
theorem lw_p67 : lw_okq (⟨"LostQuestionsModel", "laid", "(I)I"⟩, 21) := ⟨⟨by decide +kernel, by decide +kernel⟩, lw_t4 (List.mem_of_getElem? (i := 222) rfl), lw_t6 (List.mem_of_getElem? (i := 25) rfl), lw_t6 (List.mem_of_getElem? (i := 26) rfl)⟩
theorem lw_p68 : lw_okq (⟨"LostQuestionsModel", "manyFit", "(III)I"⟩, 21) := ⟨⟨by decide +kernel, by decide +kernel⟩, lw_t4 (List.mem_of_getElem? (i := 222) rfl), lw_t6 (List.mem_of_getElem? (i := 66) rfl), lw_t6 (List.mem_of_getElem? (i := 67) rfl)⟩
theorem lw_p69 : lw_okq (⟨"LostQuestionsModel", "manyThere", "(III)I"⟩, 21) := ⟨⟨by decide +kernel, by decide +kernel⟩, lw_t4 (List.mem_of_getElem? (i := 222) rfl), lw_t6 (List.mem_of_getElem? (i := 90) rfl), lw_t6 (List.mem_of_getElem? (i := 91) rfl)⟩
theorem lw_p70 : lw_okq (⟨"LostQuestionsModel", "manyHere", "(II)I"⟩, 21) := ⟨⟨by decide +kernel, by decide +kernel⟩, lw_t4 (List.mem_of_getElem? (i := 222) rfl), lw_t6 (List.mem_of_getElem? (i := 94) rfl), lw_t6 (List.mem_of_getElem? (i := 95) rfl)⟩
theorem lw_p71 : lw_okq (⟨"LostQuestionsModel", "lying", "(II)I"⟩, 21) := ⟨⟨by decide +kernel, by decide +kernel⟩, lw_t4 (List.mem_of_getElem? (i := 222) rfl), lw_t6 (List.mem_of_getElem? (i := 105) rfl), lw_t6 (List.mem_of_getElem? (i := 106) rfl)⟩
theorem lw_p72 : lw_okq (⟨"LostQuestionsModel", "counted", "(I)I"⟩, 21) := ⟨⟨by decide +kernel, by decide +kernel⟩, lw_t4 (List.mem_of_getElem? (i := 222) rfl), lw_t6 (List.mem_of_getElem? (i := 143) rfl), lw_t6 (List.mem_of_getElem? (i := 144) rfl)⟩
def lw_privs_5 : List (MethodName × Nat) := [(⟨"LostQuestionsModel", "layMatchings", "(Z)V"⟩, 21), (⟨"LostQuestionsModel", "counts", "(I)V"⟩, 21), (⟨"LostQuestionsModel", "mayMatch", "(II)Z"⟩, 21), (⟨"LostQuestionsModel", "laid", "(I)I"⟩, 21), (⟨"LostQuestionsModel", "manyFit", "(III)I"⟩, 21), (⟨"LostQuestionsModel", "manyThere", "(III)I"⟩, 21), (⟨"LostQuestionsModel", "manyHere", "(II)I"⟩, 21), (⟨"LostQuestionsModel", "lying", "(II)I"⟩, 21), (⟨"LostQuestionsModel", "counted", "(I)I"⟩, 21)]
theorem lw_r5 : ∀ q ∈ lw_privs_5, lw_okq q := List.forall_mem_cons.mpr ⟨lw_p64, List.forall_mem_cons.mpr ⟨lw_p65, List.forall_mem_cons.mpr ⟨lw_p66, List.forall_mem_cons.mpr ⟨lw_p67, List.forall_mem_cons.mpr ⟨lw_p68, List.forall_mem_cons.mpr ⟨lw_p69, List.forall_mem_cons.mpr ⟨lw_p70, List.forall_mem_cons.mpr ⟨lw_p71, List.forall_mem_cons.mpr ⟨lw_p72, fun _ h => absurd h List.not_mem_nil⟩⟩⟩⟩⟩⟩⟩⟩⟩
def lw_privs : List (MethodName × Nat) := lw_privs_1 ++ (lw_privs_2 ++ (lw_privs_3 ++ (lw_privs_4 ++ (lw_privs_5))))
def lw_tbl : List Cond := k2_sels lw_privs ++ tables_1
theorem lw_privs_ok : ∀ q ∈ lw_privs, lw_okq q := by
  show ∀ q ∈ lw_privs_1 ++ (lw_privs_2 ++ (lw_privs_3 ++ (lw_privs_4 ++ (lw_privs_5)))), lw_okq q
  exact List.forall_mem_append.mpr ⟨lw_r1, List.forall_mem_append.mpr ⟨lw_r2, List.forall_mem_append.mpr ⟨lw_r3, List.forall_mem_append.mpr ⟨lw_r4, lw_r5⟩⟩⟩⟩
-- ===== ONE list of words for every method: the tables' words that hold all through a run =====
def lw_all : List Cond := lw_tbl.filter goodWord
/-- a word of the tables by its place: claim/WORDS.tsv -/
theorem lw_w {w : Cond} (i : Nat) (h : lw_tbl[i]? = some w) (g : goodWord w = true) : w ∈ lw_all := List.mem_filter.mpr ⟨List.mem_of_getElem? h, g⟩
theorem lw_all_tbl {w : Cond} (h : w ∈ lw_all) : w ∈ lw_tbl := (List.mem_filter.mp h).1
theorem lw_self : GoodIn lw_all lw_all := fun w h => ⟨h, good_of_word (List.mem_filter.mp h).2⟩
/-- a class's field words, by their places -/
theorem lw_in (ws : List Cond) (ps : List Nat) (hp : ws = ps.filterMap (fun i => lw_tbl[i]?)) (hg : ws.all goodWord = true) : ∀ w ∈ ws, w ∈ lw_all := by
  intro w h
  have h1 := List.all_eq_true.mp hg w h
  rw [hp] at h
  obtain ⟨i, -, hi⟩ := List.mem_filterMap.mp h
  exact lw_w i hi h1
/-- the words of a contract for the method y with code b, L locals, answer r -/
abbrev ws_ (y : MethodName) (b : ByteArray) (L : Nat) (r : Option FieldType) : List Cond := Cond.code y b L r :: lw_all
theorem lw_meth {y : MethodName} {b : ByteArray} {L : Nat} {r : Option FieldType} (h : Cond.code y b L r ∈ lw_all) : GoodIn lw_all (ws_ y b L r) := by
  intro w hw
  rcases List.mem_cons.mp hw with e | e
  · rw [e]
    exact lw_self _ h
  · exact lw_self _ e
theorem lw_app {a c : List Cond} (ha : ∀ w ∈ a, w ∈ lw_all) (hc : GoodIn lw_all c) : GoodIn lw_all (a ++ c) := by
  intro w hw
  rcases List.mem_append.mp hw with e | e
  · exact lw_self w (ha w e)
  · exact hc w e
/-- what a call through an object asks: cwV n hts (lw_V ..) -/
theorem lw_V {own : String} {idx : Nat} {C : String} {y : MethodName} {b : ByteArray} {L : Nat} {r : Option FieldType} (h1 : Cond.methodLink own idx y ∈ lw_all) (h2 : Cond.instanceMethod y ∈ lw_all) (h3 : Cond.selects C y y ∈ lw_all) (h4 : Cond.initialized C ∈ lw_all) (h5 : Cond.code y b L r ∈ lw_all) : GoodIn lw_all (wsV own idx C y (ws_ y b L r)) := by
  refine lw_app ?_ (lw_meth h5)
  intro w hw
  simp only [List.mem_cons, List.not_mem_nil, or_false] at hw
  rcases hw with e | e | e | e
  · rw [e]; exact h1
  · rw [e]; exact h2
  · rw [e]; exact h3
  · rw [e]; exact h4
/-- what a static call asks: va_cwS n hts (lw_S ..) -/
theorem lw_S {own : String} {idx : Nat} {y : MethodName} {b : ByteArray} {L : Nat} {r : Option FieldType} (h1 : Cond.methodLink own idx y ∈ lw_all) (h2 : Cond.static y ∈ lw_all) (h3 : Cond.initialized y.cls ∈ lw_all) (h4 : Cond.code y b L r ∈ lw_all) : GoodIn lw_all (va_wsS own idx y (ws_ y b L r)) := by
  refine lw_app ?_ (lw_meth h4)
  intro w hw
  simp only [List.mem_cons, List.not_mem_nil, or_false] at hw
  rcases hw with e | e | e
  · rw [e]; exact h1
  · rw [e]; exact h2
  · rw [e]; exact h3
/-- the words of a contract for a method WITH HANDLERS (hh: its table) -/
abbrev wsW_ (y : MethodName) (b : ByteArray) (L : Nat) (r : Option FieldType) (hh : List (Nat × Nat × Nat × Nat)) : List Cond := Cond.codeWith y b L r hh :: lw_all
theorem lw_methW {y : MethodName} {b : ByteArray} {L : Nat} {r : Option FieldType} {hh : List (Nat × Nat × Nat × Nat)} (h : Cond.codeWith y b L r hh ∈ lw_all) : GoodIn lw_all (wsW_ y b L r hh) := by
  intro w hw
  rcases List.mem_cons.mp hw with e | e
  · rw [e]
    exact lw_self _ h
  · exact lw_self _ e
/-- any list of words by their places (lw_in), good -/
theorem lw_good {ws : List Cond} (h : ∀ w ∈ ws, w ∈ lw_all) : GoodIn lw_all ws := fun w hw => lw_self w (h w hw)
/-- what a call of a method with handlers asks: vx_cwVW n hts (lw_VW ..), vx_cwSW n hts (lw_SW ..) -/
theorem lw_VW {own : String} {idx : Nat} {C : String} {y : MethodName} {b : ByteArray} {L : Nat} {r : Option FieldType} {hh : List (Nat × Nat × Nat × Nat)} (h1 : Cond.methodLink own idx y ∈ lw_all) (h2 : Cond.instanceMethod y ∈ lw_all) (h3 : Cond.selects C y y ∈ lw_all) (h4 : Cond.initialized C ∈ lw_all) (h5 : Cond.codeWith y b L r hh ∈ lw_all) : GoodIn lw_all (wsV own idx C y (wsW_ y b L r hh)) := by
  refine lw_app ?_ (lw_methW h5)
  intro w hw
  simp only [List.mem_cons, List.not_mem_nil, or_false] at hw
  rcases hw with e | e | e | e
  · rw [e]; exact h1
  · rw [e]; exact h2
  · rw [e]; exact h3
  · rw [e]; exact h4
theorem lw_SW {own : String} {idx : Nat} {y : MethodName} {b : ByteArray} {L : Nat} {r : Option FieldType} {hh : List (Nat × Nat × Nat × Nat)} (h1 : Cond.methodLink own idx y ∈ lw_all) (h2 : Cond.static y ∈ lw_all) (h3 : Cond.initialized y.cls ∈ lw_all) (h4 : Cond.codeWith y b L r hh ∈ lw_all) : GoodIn lw_all (va_wsS own idx y (wsW_ y b L r hh)) := by
  refine lw_app ?_ (lw_methW h4)
  intro w hw
  simp only [List.mem_cons, List.not_mem_nil, or_false] at hw
  rcases hw with e | e | e
  · rw [e]; exact h1
  · rw [e]; exact h2
  · rw [e]; exact h3
/-- a word by its place in its run of the tables -/
theorem lw_at {r : List Cond} (hr : ∀ w ∈ r, w ∈ lw_tbl) {w : Cond} (i : Nat) (h : r[i]? = some w) : w ∈ lw_tbl := hr w (List.mem_of_getElem? h)
theorem lw_g {w : Cond} (h : w ∈ lw_tbl) (g : goodWord w = true) : w ∈ lw_all := List.mem_filter.mpr ⟨h, g⟩
theorem lw_ms : ∀ w ∈ k2_sels lw_privs, w ∈ lw_tbl := fun w h => show w ∈ k2_sels lw_privs ++ tables_1 from List.mem_append_left _ h
theorem lw_m1 : ∀ w ∈ tables_1_1, w ∈ lw_tbl := fun w h => show w ∈ k2_sels lw_privs ++ tables_1 from List.mem_append_right (k2_sels lw_privs) (show w ∈ tables_1 from List.mem_append_left _ h)
theorem lw_m2 : ∀ w ∈ tables_1_2, w ∈ lw_tbl := fun w h => show w ∈ k2_sels lw_privs ++ tables_1 from List.mem_append_right (k2_sels lw_privs) (show w ∈ tables_1 from List.mem_append_right _ (List.mem_append_left _ h))
theorem lw_m3 : ∀ w ∈ tables_1_3, w ∈ lw_tbl := fun w h => show w ∈ k2_sels lw_privs ++ tables_1 from List.mem_append_right (k2_sels lw_privs) (show w ∈ tables_1 from List.mem_append_right _ (List.mem_append_right _ (List.mem_append_left _ h)))
theorem lw_m4 : ∀ w ∈ tables_1_4, w ∈ lw_tbl := fun w h => show w ∈ k2_sels lw_privs ++ tables_1 from List.mem_append_right (k2_sels lw_privs) (show w ∈ tables_1 from List.mem_append_right _ (List.mem_append_right _ (List.mem_append_right _ (List.mem_append_left _ h))))
theorem lw_m5 : ∀ w ∈ tables_1_5, w ∈ lw_tbl := fun w h => show w ∈ k2_sels lw_privs ++ tables_1 from List.mem_append_right (k2_sels lw_privs) (show w ∈ tables_1 from List.mem_append_right _ (List.mem_append_right _ (List.mem_append_right _ (List.mem_append_right _ (List.mem_append_left _ h)))))
theorem lw_m6 : ∀ w ∈ tables_1_6, w ∈ lw_tbl := fun w h => show w ∈ k2_sels lw_privs ++ tables_1 from List.mem_append_right (k2_sels lw_privs) (show w ∈ tables_1 from List.mem_append_right _ (List.mem_append_right _ (List.mem_append_right _ (List.mem_append_right _ (List.mem_append_right _ h)))))
theorem qs0 : (Cond.selects "java/lang/NullPointerException" ⟨"java/lang/NullPointerException", "getExtendedNPEMessage", "()Ljava/lang/String;"⟩ ⟨"java/lang/NullPointerException", "getExtendedNPEMessage", "()Ljava/lang/String;"⟩) ∈ lw_all := lw_g (lw_at lw_ms 0 rfl) rfl
theorem qs1 : (Cond.selects "java/lang/Throwable" ⟨"java/lang/Throwable", "fillInStackTrace", "(I)Ljava/lang/Throwable;"⟩ ⟨"java/lang/Throwable", "fillInStackTrace", "(I)Ljava/lang/Throwable;"⟩) ∈ lw_all := lw_g (lw_at lw_ms 1 rfl) rfl
theorem qs2 : (Cond.selects "LostQuestions" ⟨"LostQuestions", "found", "(I)I"⟩ ⟨"LostQuestions", "found", "(I)I"⟩) ∈ lw_all := lw_g (lw_at lw_ms 2 rfl) rfl
theorem qs3 : (Cond.selects "LostQuestions" ⟨"LostQuestions", "ask", "(II)I"⟩ ⟨"LostQuestions", "ask", "(II)I"⟩) ∈ lw_all := lw_g (lw_at lw_ms 3 rfl) rfl
theorem qs4 : (Cond.selects "LostQuestions" ⟨"LostQuestions", "goesOn", "([B)I"⟩ ⟨"LostQuestions", "goesOn", "([B)I"⟩) ∈ lw_all := lw_g (lw_at lw_ms 4 rfl) rfl
theorem qs5 : (Cond.selects "LostQuestions" ⟨"LostQuestions", "sign", "()I"⟩ ⟨"LostQuestions", "sign", "()I"⟩) ∈ lw_all := lw_g (lw_at lw_ms 5 rfl) rfl
theorem qs6 : (Cond.selects "LostQuestions" ⟨"LostQuestions", "readsQuestion", "()Z"⟩ ⟨"LostQuestions", "readsQuestion", "()Z"⟩) ∈ lw_all := lw_g (lw_at lw_ms 6 rfl) rfl
theorem qs7 : (Cond.selects "LostQuestions" ⟨"LostQuestions", "readsFigure", "(II)I"⟩ ⟨"LostQuestions", "readsFigure", "(II)I"⟩) ∈ lw_all := lw_g (lw_at lw_ms 7 rfl) rfl
theorem qs8 : (Cond.selects "LostQuestions" ⟨"LostQuestions", "readsCard", "()Z"⟩ ⟨"LostQuestions", "readsCard", "()Z"⟩) ∈ lw_all := lw_g (lw_at lw_ms 8 rfl) rfl
theorem qs9 : (Cond.selects "LostQuestions" ⟨"LostQuestions", "isCard", "(I)Z"⟩ ⟨"LostQuestions", "isCard", "(I)Z"⟩) ∈ lw_all := lw_g (lw_at lw_ms 9 rfl) rfl
theorem qs10 : (Cond.selects "LostQuestions" ⟨"LostQuestions", "cardTells", "(II)I"⟩ ⟨"LostQuestions", "cardTells", "(II)I"⟩) ∈ lw_all := lw_g (lw_at lw_ms 10 rfl) rfl
theorem qs11 : (Cond.selects "LostQuestions" ⟨"LostQuestions", "answers", "(I)I"⟩ ⟨"LostQuestions", "answers", "(I)I"⟩) ∈ lw_all := lw_g (lw_at lw_ms 11 rfl) rfl
theorem qs12 : (Cond.selects "LostQuestions" ⟨"LostQuestions", "isQuestion", "(I)Z"⟩ ⟨"LostQuestions", "isQuestion", "(I)Z"⟩) ∈ lw_all := lw_g (lw_at lw_ms 12 rfl) rfl
theorem qs13 : (Cond.selects "LostQuestions" ⟨"LostQuestions", "questionTells", "(II)I"⟩ ⟨"LostQuestions", "questionTells", "(II)I"⟩) ∈ lw_all := lw_g (lw_at lw_ms 13 rfl) rfl
theorem qs14 : (Cond.selects "LostQuestions" ⟨"LostQuestions", "askOf", "(II)I"⟩ ⟨"LostQuestions", "askOf", "(II)I"⟩) ∈ lw_all := lw_g (lw_at lw_ms 14 rfl) rfl
theorem qs15 : (Cond.selects "LostQuestions" ⟨"LostQuestions", "meaning", "(II)I"⟩ ⟨"LostQuestions", "meaning", "(II)I"⟩) ∈ lw_all := lw_g (lw_at lw_ms 15 rfl) rfl
theorem qs16 : (Cond.selects "LostQuestions" ⟨"LostQuestions", "onShelf", "(I)I"⟩ ⟨"LostQuestions", "onShelf", "(I)I"⟩) ∈ lw_all := lw_g (lw_at lw_ms 16 rfl) rfl
theorem qs17 : (Cond.selects "LostQuestions" ⟨"LostQuestions", "fitted", "(I)I"⟩ ⟨"LostQuestions", "fitted", "(I)I"⟩) ∈ lw_all := lw_g (lw_at lw_ms 17 rfl) rfl
theorem qs18 : (Cond.selects "LostQuestions" ⟨"LostQuestions", "doesFit", "(II)Z"⟩ ⟨"LostQuestions", "doesFit", "(II)Z"⟩) ∈ lw_all := lw_g (lw_at lw_ms 18 rfl) rfl
theorem qs19 : (Cond.selects "LostQuestions" ⟨"LostQuestions", "saying", "(II)I"⟩ ⟨"LostQuestions", "saying", "(II)I"⟩) ∈ lw_all := lw_g (lw_at lw_ms 19 rfl) rfl
theorem qs20 : (Cond.selects "LostQuestions" ⟨"LostQuestions", "fitSet", "(I)I"⟩ ⟨"LostQuestions", "fitSet", "(I)I"⟩) ∈ lw_all := lw_g (lw_at lw_ms 20 rfl) rfl
theorem qs21 : (Cond.selects "LostQuestions" ⟨"LostQuestions", "mayTake", "(II)Z"⟩ ⟨"LostQuestions", "mayTake", "(II)Z"⟩) ∈ lw_all := lw_g (lw_at lw_ms 21 rfl) rfl
theorem qs22 : (Cond.selects "LostQuestions" ⟨"LostQuestions", "takeTruly", "(II)I"⟩ ⟨"LostQuestions", "takeTruly", "(II)I"⟩) ∈ lw_all := lw_g (lw_at lw_ms 22 rfl) rfl
theorem qs23 : (Cond.selects "LostQuestions" ⟨"LostQuestions", "isRight", "(I)I"⟩ ⟨"LostQuestions", "isRight", "(I)I"⟩) ∈ lw_all := lw_g (lw_at lw_ms 23 rfl) rfl
theorem qs24 : (Cond.selects "LostQuestions" ⟨"LostQuestions", "rightMany", "(I)I"⟩ ⟨"LostQuestions", "rightMany", "(I)I"⟩) ∈ lw_all := lw_g (lw_at lw_ms 24 rfl) rfl
theorem qs25 : (Cond.selects "LostQuestions" ⟨"LostQuestions", "matchTo", "(IZ)I"⟩ ⟨"LostQuestions", "matchTo", "(IZ)I"⟩) ∈ lw_all := lw_g (lw_at lw_ms 25 rfl) rfl
theorem qs26 : (Cond.selects "LostQuestions" ⟨"LostQuestions", "freeCards", "()I"⟩ ⟨"LostQuestions", "freeCards", "()I"⟩) ∈ lw_all := lw_g (lw_at lw_ms 26 rfl) rfl
theorem qs27 : (Cond.selects "LostQuestions" ⟨"LostQuestions", "bestOn", "(IIIZ)V"⟩ ⟨"LostQuestions", "bestOn", "(IIIZ)V"⟩) ∈ lw_all := lw_g (lw_at lw_ms 27 rfl) rfl
theorem qs28 : (Cond.selects "LostQuestions" ⟨"LostQuestions", "mayAnswer", "(II)I"⟩ ⟨"LostQuestions", "mayAnswer", "(II)I"⟩) ∈ lw_all := lw_g (lw_at lw_ms 28 rfl) rfl
theorem qs29 : (Cond.selects "LostQuestions" ⟨"LostQuestions", "setFullest", "()V"⟩ ⟨"LostQuestions", "setFullest", "()V"⟩) ∈ lw_all := lw_g (lw_at lw_ms 29 rfl) rfl
theorem qs30 : (Cond.selects "LostQuestions" ⟨"LostQuestions", "fullOn", "(III)V"⟩ ⟨"LostQuestions", "fullOn", "(III)V"⟩) ∈ lw_all := lw_g (lw_at lw_ms 30 rfl) rfl
theorem qs31 : (Cond.selects "LostQuestions" ⟨"LostQuestions", "chances", "(II)I"⟩ ⟨"LostQuestions", "chances", "(II)I"⟩) ∈ lw_all := lw_g (lw_at lw_ms 31 rfl) rfl
theorem qs32 : (Cond.selects "LostQuestions" ⟨"LostQuestions", "partOf", "(II)I"⟩ ⟨"LostQuestions", "partOf", "(II)I"⟩) ∈ lw_all := lw_g (lw_at lw_ms 32 rfl) rfl
theorem qs33 : (Cond.selects "LostQuestions" ⟨"LostQuestions", "askedAnswers", "(I)I"⟩ ⟨"LostQuestions", "askedAnswers", "(I)I"⟩) ∈ lw_all := lw_g (lw_at lw_ms 33 rfl) rfl
theorem qs34 : (Cond.selects "LostQuestions" ⟨"LostQuestions", "pairsWith", "([IZ)I"⟩ ⟨"LostQuestions", "pairsWith", "([IZ)I"⟩) ∈ lw_all := lw_g (lw_at lw_ms 34 rfl) rfl
theorem qs35 : (Cond.selects "LostQuestions" ⟨"LostQuestions", "homeOf", "(I)I"⟩ ⟨"LostQuestions", "homeOf", "(I)I"⟩) ∈ lw_all := lw_g (lw_at lw_ms 35 rfl) rfl
theorem qs36 : (Cond.selects "LostQuestions" ⟨"LostQuestions", "kindOn", "(II)I"⟩ ⟨"LostQuestions", "kindOn", "(II)I"⟩) ∈ lw_all := lw_g (lw_at lw_ms 36 rfl) rfl
theorem qs37 : (Cond.selects "LostQuestions" ⟨"LostQuestions", "staysOn", "(II)I"⟩ ⟨"LostQuestions", "staysOn", "(II)I"⟩) ∈ lw_all := lw_g (lw_at lw_ms 37 rfl) rfl
theorem qs38 : (Cond.selects "LostQuestions" ⟨"LostQuestions", "countOf", "(I)I"⟩ ⟨"LostQuestions", "countOf", "(I)I"⟩) ∈ lw_all := lw_g (lw_at lw_ms 38 rfl) rfl
theorem qs39 : (Cond.selects "LostQuestions" ⟨"LostQuestions", "freeQuestions", "()I"⟩ ⟨"LostQuestions", "freeQuestions", "()I"⟩) ∈ lw_all := lw_g (lw_at lw_ms 39 rfl) rfl
theorem qs40 : (Cond.selects "LostQuestions" ⟨"LostQuestions", "cardsOf", "(I)I"⟩ ⟨"LostQuestions", "cardsOf", "(I)I"⟩) ∈ lw_all := lw_g (lw_at lw_ms 40 rfl) rfl
theorem qs41 : (Cond.selects "LostQuestions" ⟨"LostQuestions", "thereOf", "(I)I"⟩ ⟨"LostQuestions", "thereOf", "(I)I"⟩) ∈ lw_all := lw_g (lw_at lw_ms 41 rfl) rfl
theorem qs42 : (Cond.selects "LostQuestions" ⟨"LostQuestions", "mix", "(I)V"⟩ ⟨"LostQuestions", "mix", "(I)V"⟩) ∈ lw_all := lw_g (lw_at lw_ms 42 rfl) rfl
theorem qs43 : (Cond.selects "LostQuestions" ⟨"LostQuestions", "mixLibrary", "()V"⟩ ⟨"LostQuestions", "mixLibrary", "()V"⟩) ∈ lw_all := lw_g (lw_at lw_ms 43 rfl) rfl
theorem qs44 : (Cond.selects "LostQuestionsModel" ⟨"LostQuestionsModel", "found", "(I)I"⟩ ⟨"LostQuestionsModel", "found", "(I)I"⟩) ∈ lw_all := lw_g (lw_at lw_ms 44 rfl) rfl
theorem qs45 : (Cond.selects "LostQuestionsModel" ⟨"LostQuestionsModel", "tell", "(I)I"⟩ ⟨"LostQuestionsModel", "tell", "(I)I"⟩) ∈ lw_all := lw_g (lw_at lw_ms 45 rfl) rfl
theorem qs46 : (Cond.selects "LostQuestionsModel" ⟨"LostQuestionsModel", "reads", "(I)I"⟩ ⟨"LostQuestionsModel", "reads", "(I)I"⟩) ∈ lw_all := lw_g (lw_at lw_ms 46 rfl) rfl
theorem qs47 : (Cond.selects "LostQuestionsModel" ⟨"LostQuestionsModel", "byteAt", "(I)I"⟩ ⟨"LostQuestionsModel", "byteAt", "(I)I"⟩) ∈ lw_all := lw_g (lw_at lw_ms 47 rfl) rfl
theorem qs48 : (Cond.selects "LostQuestionsModel" ⟨"LostQuestionsModel", "takesQuestion", "(I)Z"⟩ ⟨"LostQuestionsModel", "takesQuestion", "(I)Z"⟩) ∈ lw_all := lw_g (lw_at lw_ms 48 rfl) rfl
theorem qs49 : (Cond.selects "LostQuestionsModel" ⟨"LostQuestionsModel", "takes", "(IIII)Z"⟩ ⟨"LostQuestionsModel", "takes", "(IIII)Z"⟩) ∈ lw_all := lw_g (lw_at lw_ms 49 rfl) rfl
theorem qs50 : (Cond.selects "LostQuestionsModel" ⟨"LostQuestionsModel", "takesCard", "(I)Z"⟩ ⟨"LostQuestionsModel", "takesCard", "(I)Z"⟩) ∈ lw_all := lw_g (lw_at lw_ms 50 rfl) rfl
theorem qs51 : (Cond.selects "LostQuestionsModel" ⟨"LostQuestionsModel", "isCard", "(I)Z"⟩ ⟨"LostQuestionsModel", "isCard", "(I)Z"⟩) ∈ lw_all := lw_g (lw_at lw_ms 51 rfl) rfl
theorem qs52 : (Cond.selects "LostQuestionsModel" ⟨"LostQuestionsModel", "toldCard", "(II)I"⟩ ⟨"LostQuestionsModel", "toldCard", "(II)I"⟩) ∈ lw_all := lw_g (lw_at lw_ms 52 rfl) rfl
theorem qs53 : (Cond.selects "LostQuestionsModel" ⟨"LostQuestionsModel", "means", "(I)I"⟩ ⟨"LostQuestionsModel", "means", "(I)I"⟩) ∈ lw_all := lw_g (lw_at lw_ms 53 rfl) rfl
theorem qs54 : (Cond.selects "LostQuestionsModel" ⟨"LostQuestionsModel", "answers", "(I)I"⟩ ⟨"LostQuestionsModel", "answers", "(I)I"⟩) ∈ lw_all := lw_g (lw_at lw_ms 54 rfl) rfl
theorem qs55 : (Cond.selects "LostQuestionsModel" ⟨"LostQuestionsModel", "isQuestion", "(I)Z"⟩ ⟨"LostQuestionsModel", "isQuestion", "(I)Z"⟩) ∈ lw_all := lw_g (lw_at lw_ms 55 rfl) rfl
theorem qs56 : (Cond.selects "LostQuestionsModel" ⟨"LostQuestionsModel", "isFit", "(II)Z"⟩ ⟨"LostQuestionsModel", "isFit", "(II)Z"⟩) ∈ lw_all := lw_g (lw_at lw_ms 56 rfl) rfl
theorem qs57 : (Cond.selects "LostQuestionsModel" ⟨"LostQuestionsModel", "suits", "(IIII)Z"⟩ ⟨"LostQuestionsModel", "suits", "(IIII)Z"⟩) ∈ lw_all := lw_g (lw_at lw_ms 57 rfl) rfl
theorem qs58 : (Cond.selects "LostQuestionsModel" ⟨"LostQuestionsModel", "puts", "(II)I"⟩ ⟨"LostQuestionsModel", "puts", "(II)I"⟩) ∈ lw_all := lw_g (lw_at lw_ms 58 rfl) rfl
theorem qs59 : (Cond.selects "LostQuestionsModel" ⟨"LostQuestionsModel", "isFree", "(I)Z"⟩ ⟨"LostQuestionsModel", "isFree", "(I)Z"⟩) ∈ lw_all := lw_g (lw_at lw_ms 59 rfl) rfl
theorem qs60 : (Cond.selects "LostQuestionsModel" ⟨"LostQuestionsModel", "isFreeCard", "(I)Z"⟩ ⟨"LostQuestionsModel", "isFreeCard", "(I)Z"⟩) ∈ lw_all := lw_g (lw_at lw_ms 60 rfl) rfl
theorem qs61 : (Cond.selects "LostQuestionsModel" ⟨"LostQuestionsModel", "takesIt", "(II)V"⟩ ⟨"LostQuestionsModel", "takesIt", "(II)V"⟩) ∈ lw_all := lw_g (lw_at lw_ms 61 rfl) rfl
theorem qs62 : (Cond.selects "LostQuestionsModel" ⟨"LostQuestionsModel", "stands", "(I)I"⟩ ⟨"LostQuestionsModel", "stands", "(I)I"⟩) ∈ lw_all := lw_g (lw_at lw_ms 62 rfl) rfl
theorem qs63 : (Cond.selects "LostQuestionsModel" ⟨"LostQuestionsModel", "standing", "(I)I"⟩ ⟨"LostQuestionsModel", "standing", "(I)I"⟩) ∈ lw_all := lw_g (lw_at lw_ms 63 rfl) rfl
theorem qs64 : (Cond.selects "LostQuestionsModel" ⟨"LostQuestionsModel", "layMatchings", "(Z)V"⟩ ⟨"LostQuestionsModel", "layMatchings", "(Z)V"⟩) ∈ lw_all := lw_g (lw_at lw_ms 64 rfl) rfl
theorem qs65 : (Cond.selects "LostQuestionsModel" ⟨"LostQuestionsModel", "counts", "(I)V"⟩ ⟨"LostQuestionsModel", "counts", "(I)V"⟩) ∈ lw_all := lw_g (lw_at lw_ms 65 rfl) rfl
theorem qs66 : (Cond.selects "LostQuestionsModel" ⟨"LostQuestionsModel", "mayMatch", "(II)Z"⟩ ⟨"LostQuestionsModel", "mayMatch", "(II)Z"⟩) ∈ lw_all := lw_g (lw_at lw_ms 66 rfl) rfl
theorem qs67 : (Cond.selects "LostQuestionsModel" ⟨"LostQuestionsModel", "laid", "(I)I"⟩ ⟨"LostQuestionsModel", "laid", "(I)I"⟩) ∈ lw_all := lw_g (lw_at lw_ms 67 rfl) rfl
theorem qs68 : (Cond.selects "LostQuestionsModel" ⟨"LostQuestionsModel", "manyFit", "(III)I"⟩ ⟨"LostQuestionsModel", "manyFit", "(III)I"⟩) ∈ lw_all := lw_g (lw_at lw_ms 68 rfl) rfl
theorem qs69 : (Cond.selects "LostQuestionsModel" ⟨"LostQuestionsModel", "manyThere", "(III)I"⟩ ⟨"LostQuestionsModel", "manyThere", "(III)I"⟩) ∈ lw_all := lw_g (lw_at lw_ms 69 rfl) rfl
theorem qs70 : (Cond.selects "LostQuestionsModel" ⟨"LostQuestionsModel", "manyHere", "(II)I"⟩ ⟨"LostQuestionsModel", "manyHere", "(II)I"⟩) ∈ lw_all := lw_g (lw_at lw_ms 70 rfl) rfl
theorem qs71 : (Cond.selects "LostQuestionsModel" ⟨"LostQuestionsModel", "lying", "(II)I"⟩ ⟨"LostQuestionsModel", "lying", "(II)I"⟩) ∈ lw_all := lw_g (lw_at lw_ms 71 rfl) rfl
theorem qs72 : (Cond.selects "LostQuestionsModel" ⟨"LostQuestionsModel", "counted", "(I)I"⟩ ⟨"LostQuestionsModel", "counted", "(I)I"⟩) ∈ lw_all := lw_g (lw_at lw_ms 72 rfl) rfl
-- ===== end of PART A; then your names; then what follows =====
