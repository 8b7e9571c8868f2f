/-! THE LAYER GL: a method's machine over a small heap of named cells (names: 0 the script, 1..17 LostQuestions and its arrays, 18..32 the model's, from 33 on what is made later); one rule an instruction -/
set_option maxRecDepth 100000
abbrev MC : Type := (Nat × Nat × (Nat → Int32)) ⊕ ((Nat × Nat × (Nat → Option Nat)) ⊕ (Nat × List Value))
/-- next name, the script, LostQuestions' cells, the model's cells, the rest -/
abbrev Mem : Type := Nat × (Nat × (Nat → Int32)) × List MC × List MC × (Nat → Option MC)
def pty : Nat → FieldType
  | 0 => .int
  | 1 => .byte
  | _ => .boolean
def rty : Nat → FieldType
  | 0 => .array .int
  | 1 => .array .byte
  | 2 => .object "LostQuestions$Card"
  | _ => .object "LostQuestions$Kept"
def rnm : Nat → String
  | 0 => "[I"
  | 1 => "[B"
  | 2 => "LostQuestions$Card"
  | _ => "LostQuestions$Kept"
def lk (μ : Mem) : Nat → Option MC
  | 0 => none
  | n + 1 => if n < 17 then μ.2.2.1[n]? else if n < 32 then μ.2.2.2.1[n - 17]? else μ.2.2.2.2 (n + 1)
def up (μ : Mem) : Nat → MC → Mem
  | 0, _ => μ
  | n + 1, c => if n < 17 then (μ.1, μ.2.1, μ.2.2.1.set n c, μ.2.2.2.1, μ.2.2.2.2) else if n < 32 then (μ.1, μ.2.1, μ.2.2.1, μ.2.2.2.1.set (n - 17) c, μ.2.2.2.2) else (μ.1, μ.2.1, μ.2.2.1, μ.2.2.2.1, va_up μ.2.2.2.2 (n + 1) (some c))
/-- a new cell gets the next name -/
def psh (μ : Mem) (c : MC) : Mem := if μ.1 ≤ 17 then (μ.1 + 1, μ.2.1, μ.2.2.1 ++ [c], μ.2.2.2.1, μ.2.2.2.2) else if μ.1 ≤ 32 then (μ.1 + 1, μ.2.1, μ.2.2.1, μ.2.2.2.1 ++ [c], μ.2.2.2.2) else (μ.1 + 1, μ.2.1, μ.2.2.1, μ.2.2.2.1, va_up μ.2.2.2.2 μ.1 (some c))
def pok (μ : Mem) : Prop := 1 ≤ μ.1 ∧ (μ.1 ≤ 17 → μ.2.2.1.length + 1 = μ.1) ∧ (18 ≤ μ.1 → μ.1 ≤ 32 → μ.2.2.2.1.length + 18 = μ.1)
theorem pok_hi {μ : Mem} (h : 33 ≤ μ.1) : pok μ := ⟨by omega, fun q => by omega, fun _ q => by omega⟩
theorem lk_up {μ : Mem} {n : Nat} {c0 c : MC} (h : lk μ n = some c0) (k : Nat) : lk (up μ n c) k = if k = n then some c else lk μ k := by
  cases n with
  | zero => cases h
  | succ n =>
    simp only [lk] at h
    simp only [up]
    by_cases h1 : n < 17
    · rw [if_pos h1] at h
      rw [if_pos h1]
      have hl := (List.getElem?_eq_some_iff.mp h).1
      cases k with
      | zero => simp [lk]
      | succ k =>
        by_cases hk : k = n
        · subst hk
          simp [lk, h1, hl]
        · have hk' : ¬ k + 1 = n + 1 := by omega
          simp [lk, hk, List.getElem?_set_ne (Ne.symm hk)]
    · rw [if_neg h1] at h
      rw [if_neg h1]
      by_cases h2 : n < 32
      · rw [if_pos h2] at h
        rw [if_pos h2]
        have hl := (List.getElem?_eq_some_iff.mp h).1
        cases k with
        | zero => simp [lk]
        | succ k =>
          by_cases hk : k = n
          · subst hk
            simp [lk, h1, h2, hl]
          · have hk' : ¬ k + 1 = n + 1 := by omega
            by_cases k1 : k < 17
            · simp [lk, hk, k1]
            · have hne : n - 17 ≠ k - 17 := by omega
              simp [lk, hk, k1, List.getElem?_set_ne hne]
      · rw [if_neg h2]
        cases k with
        | zero => simp [lk]
        | succ k =>
          by_cases hk : k = n
          · subst hk
            simp [lk, h1, h2, va_up]
          · have hk' : ¬ k + 1 = n + 1 := by omega
            simp [lk, hk, va_up]
theorem lk_psh {μ : Mem} {c : MC} (h : pok μ) (k : Nat) : lk (psh μ c) k = if k = μ.1 then some c else lk μ k := by
  obtain ⟨h0, h1, h2⟩ := h
  obtain ⟨nx, scr, fx, fm, pl⟩ := μ
  dsimp only at h0 h1 h2 ⊢
  unfold psh
  dsimp only
  cases k with
  | zero => rw [if_neg (show ¬ (0 = nx) by omega)]; rfl
  | succ k =>
    by_cases a1 : nx ≤ 17
    · rw [if_pos a1]
      have := h1 a1
      by_cases hk : k + 1 = nx
      · have e : k = fx.length := by omega
        rw [if_pos hk]
        simp only [lk]
        rw [if_pos (by omega), e]
        simp
      · rw [if_neg hk]
        simp only [lk]
        by_cases b1 : k < 17
        · rw [if_pos b1, if_pos b1]
          by_cases b2 : k < fx.length
          · rw [List.getElem?_append_left b2]
          · rw [List.getElem?_append_right (by omega), List.getElem?_eq_none (by simp; omega), List.getElem?_eq_none (by omega)]
        · rw [if_neg b1, if_neg b1]
    · rw [if_neg a1]
      by_cases a2 : nx ≤ 32
      · rw [if_pos a2]
        have := h2 (by omega) a2
        by_cases hk : k + 1 = nx
        · have e : k - 17 = fm.length := by omega
          rw [if_pos hk]
          simp only [lk]
          rw [if_neg (by omega), if_pos (by omega), e]
          simp
        · rw [if_neg hk]
          simp only [lk]
          by_cases b1 : k < 17
          · rw [if_pos b1, if_pos b1]
          · rw [if_neg b1, if_neg b1]
            by_cases b3 : k < 32
            · rw [if_pos b3, if_pos b3]
              by_cases b2 : k - 17 < fm.length
              · rw [List.getElem?_append_left b2]
              · rw [List.getElem?_append_right (by omega), List.getElem?_eq_none (by simp; omega), List.getElem?_eq_none (by omega)]
            · rw [if_neg b3, if_neg b3]
      · rw [if_neg a2]
        by_cases hk : k + 1 = nx
        · rw [if_pos hk]
          simp only [lk]
          rw [if_neg (by omega), if_neg (by omega), hk, va_up_self]
        · rw [if_neg hk]
          simp only [lk]
          by_cases b1 : k < 17
          · rw [if_pos b1, if_pos b1]
          · rw [if_neg b1, if_neg b1]
            by_cases b3 : k < 32
            · rw [if_pos b3, if_pos b3]
            · rw [if_neg b3, if_neg b3, va_up_ne _ _ hk]
def ad (b base : Nat) : Nat → Nat
  | 0 => b
  | n + 1 => base + n
theorem ad_inj {b base i j : Nat} (h : b < base) (e : ad b base i = ad b base j) : i = j := by
  cases i <;> cases j <;> simp only [ad] at e <;> omega
def rv (b base : Nat) : Value → Value
  | .ref n => .ref (ad b base n)
  | v => v
theorem rv_cat (b base : Nat) (v : Value) : (rv b base v).category = v.category := by cases v <;> rfl
theorem rv_cats (b base : Nat) (st : List Value) : ((st.map (rv b base)).map fun v => v.category).sum = (st.map fun v => v.category).sum := by
  rw [List.map_map]
  congr 2
  funext v
  exact rv_cat b base v
theorem rv_rf (b base : Nat) (r : Option Nat) : rv b base (va_rf r) = va_rf (r.map (ad b base)) := by cases r <;> rfl
abbrev vwCl : List vw_C := [(RX0, TX0, 30), (RX1, TX1, 21), (RX2, TX2, 4), (RX3, TX3, 4), (RX4, TX4, 4), (RX5, TX5, 4), (RX6, TX6, 4), (RX7, TX7, 4), (RX8, TX8, 7)]
def rRA (U : State) (cA : ClassId) (t : Nat) : Prop := ∃ (kA : Class) (comp : ClassId), U.vm.classes[cA]? = some kA ∧ kA.kind = .array comp (rty t) ∧ U.vm.findClass (rnm t) = some comp
def cOk (U : State) (D : va_G) (b base q : Nat) (c : MC) (H : Heap) : Prop := match c with
  | .inl a => ∃ cA : ClassId, H[q]? = some (arrV cA a.2.1 (fun j => .int (a.2.2 j))) ∧ ArrOfT U cA (pty a.1) ∧ va_RA U cA (pty a.1)
  | .inr (.inl a) => ∃ cA : ClassId, H[q]? = some (arrV cA a.2.1 (fun j => va_rf ((a.2.2 j).map (ad b base)))) ∧ ArrOfT U cA (rty a.1) ∧ rRA U cA a.1
  | .inr (.inr o) => ∃ r : vw_C, vwCl[o.1]? = some r ∧ t_OB q (D.1 o.1) r.2.2 (D.2 o.1) H (vp_V (o.2.map (rv b base)))
theorem rRA.moved {u U : State} (hvm : u.vm.Alike U.vm) {cA : ClassId} {t : Nat} (h : rRA u cA t) : rRA U cA t := by
  obtain ⟨kA, comp, h1, h2, h3⟩ := h
  obtain ⟨k', hk', he⟩ := hvm.2.2 _ _ h1
  exact ⟨k', comp, hk', by rw [he]; exact h2, by rw [hvm.findClass]; exact h3⟩
theorem cOk.moved {u U : State} {D : va_G} {b base q : Nat} {c : MC} {H : Heap} (hvm : u.vm.Alike U.vm) (h : cOk u D b base q c H) : cOk U D b base q c H := by
  rcases c with a | a | o
  · obtain ⟨cA, h1, h2, h3⟩ := h
    exact ⟨cA, h1, arrOfT_moved hvm h2, h3.moved hvm⟩
  · obtain ⟨cA, h1, h2, h3⟩ := h
    exact ⟨cA, h1, arrOfT_moved hvm h2, h3.moved hvm⟩
  · exact h
theorem cOk.kept {u : State} {D : va_G} {b base q : Nat} {c : MC} {H H1 : Heap} (h : cOk u D b base q c H) (hq : H1[q]? = H[q]?) : cOk u D b base q c H1 := by
  rcases c with a | a | o
  · obtain ⟨cA, h1, h2⟩ := h
    exact ⟨cA, hq.trans h1, h2⟩
  · obtain ⟨cA, h1, h2⟩ := h
    exact ⟨cA, hq.trans h1, h2⟩
  · obtain ⟨r, h1, h2⟩ := h
    exact ⟨r, h1, h2.kept hq⟩
theorem cOk.lt {u : State} {D : va_G} {b base q : Nat} {c : MC} {H : Heap} (h : cOk u D b base q c H) : q < H.size := by
  rcases c with a | a | o
  · obtain ⟨cA, h1, h2⟩ := h
    exact (Array.getElem?_eq_some_iff.mp h1).1
  · obtain ⟨cA, h1, h2⟩ := h
    exact (Array.getElem?_eq_some_iff.mp h1).1
  · obtain ⟨r, h1, cell, h2, -⟩ := h
    exact (Array.getElem?_eq_some_iff.mp h2).1
/-- the heap holds the memory -/
def RP (U : State) (D : va_G) (b base : Nat) (μ : Mem) (H : Heap) : Prop :=
  b < base ∧ H.size + 1 = base + μ.1 ∧ va_X b μ.2.1.1 μ.2.1.2 U H ∧ ∀ (n : Nat) (c : MC), lk μ n = some c → cOk U D b base (ad b base n) c H
theorem RP.moved {u U : State} {D : va_G} {b base : Nat} {μ : Mem} {H : Heap} (hvm : u.vm.Alike U.vm) (h : RP u D b base μ H) : RP U D b base μ H :=
  ⟨h.1, h.2.1, h.2.2.1.moved hvm, fun n c e => (h.2.2.2 n c e).moved hvm⟩
theorem up_1 (μ : Mem) (n : Nat) (c : MC) : (up μ n c).1 = μ.1 ∧ (up μ n c).2.1 = μ.2.1 := by
  cases n with
  | zero => exact ⟨rfl, rfl⟩
  | succ n =>
    simp only [up]
    by_cases h1 : n < 17
    · rw [if_pos h1]; exact ⟨rfl, rfl⟩
    · rw [if_neg h1]
      by_cases h2 : n < 32
      · rw [if_pos h2]; exact ⟨rfl, rfl⟩
      · rw [if_neg h2]; exact ⟨rfl, rfl⟩
theorem psh_1 (μ : Mem) (c : MC) : (psh μ c).1 = μ.1 + 1 ∧ (psh μ c).2.1 = μ.2.1 := by
  unfold psh
  by_cases h1 : μ.1 ≤ 17
  · rw [if_pos h1]; exact ⟨rfl, rfl⟩
  · rw [if_neg h1]
    by_cases h2 : μ.1 ≤ 32
    · rw [if_pos h2]; exact ⟨rfl, rfl⟩
    · rw [if_neg h2]; exact ⟨rfl, rfl⟩
theorem lk_pos {μ : Mem} {n : Nat} {c : MC} (h : lk μ n = some c) : ∃ k, n = k + 1 := by
  cases n with
  | zero => cases h
  | succ k => exact ⟨k, rfl⟩
theorem RP.up {U : State} {D : va_G} {b base : Nat} {μ : Mem} {H H1 : Heap} {n : Nat} {c0 c : MC} (h : RP U D b base μ H) (hn : lk μ n = some c0) (hc : cOk U D b base (ad b base n) c H1) (hz : H1.size = H.size) (oq : ∀ q : Nat, q ≠ ad b base n → H1[q]? = H[q]?) : RP U D b base (up μ n c) H1 := by
  obtain ⟨k, rfl⟩ := lk_pos hn
  obtain ⟨h1, h2, h3, h4⟩ := h
  obtain ⟨e1, e2⟩ := up_1 μ (k + 1) c
  refine ⟨h1, by rw [hz, e1]; exact h2, ?_, fun j c' e => ?_⟩
  · rw [e2]; exact h3.kept (oq b (by simp only [ad]; omega))
  · rw [lk_up hn] at e
    by_cases hj : j = k + 1
    · rw [if_pos hj] at e
      cases e
      rw [hj]; exact hc
    · rw [if_neg hj] at e
      exact (h4 j c' e).kept (oq _ (fun z => hj (ad_inj h1 z)))
theorem RP.psh {U : State} {D : va_G} {b base : Nat} {μ : Mem} {H H1 : Heap} {c : MC} (h : RP U D b base μ H) (hp : pok μ) (hc : cOk U D b base H.size c H1) (hz : H1.size = H.size + 1) (oq : ∀ q : Nat, q < H.size → H1[q]? = H[q]?) : RP U D b base (psh μ c) H1 ∧ ad b base μ.1 = H.size := by
  obtain ⟨h1, h2, h3, h4⟩ := h
  obtain ⟨e1, e2⟩ := psh_1 μ c
  have hn : ad b base μ.1 = H.size := by
    obtain ⟨k, hk⟩ : ∃ k, μ.1 = k + 1 := ⟨μ.1 - 1, by have := hp.1; omega⟩
    rw [hk]; rw [hk] at h2; simp only [ad]; omega
  refine ⟨⟨h1, by rw [hz, e1]; omega, ?_, fun j c' e => ?_⟩, hn⟩
  · rw [e2]
    obtain ⟨scr, q1, -⟩ := id h3
    exact h3.kept (oq b (Array.getElem?_eq_some_iff.mp q1).1)
  · rw [lk_psh hp] at e
    by_cases hj : j = μ.1
    · rw [if_pos hj] at e
      cases e
      rw [hj, hn]; exact hc
    · rw [if_neg hj] at e
      exact (h4 j c' e).kept (oq _ (h4 j c' e).lt)

/-- the words that hold all through a run but do not ride in the lists -/
def nwL : List Cond := [(Jvm.Cond.arrayOver (Jvm.ClassFile.FieldType.array Jvm.ClassFile.FieldType.int)), (Jvm.Cond.arrayOver (Jvm.ClassFile.FieldType.array Jvm.ClassFile.FieldType.byte)), (Jvm.Cond.arrayOver (Jvm.ClassFile.FieldType.object "LostQuestions$Card")), (Jvm.Cond.arrayOver (Jvm.ClassFile.FieldType.object "LostQuestions$Kept")), (Jvm.Cond.fieldLinkNest "LostQuestions$Place" (13 : Nat) "LostQuestions" "cards" "[LLostQuestions$Card;" "LostQuestions"), (Jvm.Cond.declares ({ cls := "java/lang/Throwable", name := "fillInStackTrace", desc := "()Ljava/lang/Throwable;" } : Jvm.MethodName)), (Jvm.Cond.castable "java/lang/NegativeArraySizeException" "java/lang/NegativeArraySizeException"), (Jvm.Cond.declares ({ cls := "java/lang/RuntimeException", name := "<init>", desc := "()V" } : Jvm.MethodName)), (Jvm.Cond.declares ({ cls := "java/lang/RuntimeException", name := "<init>", desc := "(Ljava/lang/String;)V" } : Jvm.MethodName)), (Jvm.Cond.declares ({ cls := "java/lang/Exception", name := "<init>", desc := "()V" } : Jvm.MethodName)), (Jvm.Cond.declares ({ cls := "java/lang/Exception", name := "<init>", desc := "(Ljava/lang/String;)V" } : Jvm.MethodName)), (Jvm.Cond.declares ({ cls := "java/lang/Throwable", name := "<init>", desc := "()V" } : Jvm.MethodName)), (Jvm.Cond.declares ({ cls := "java/lang/Throwable", name := "<init>", desc := "(Ljava/lang/String;)V" } : Jvm.MethodName)), (Jvm.Cond.castable "java/lang/NullPointerException" "java/lang/NullPointerException"), (Jvm.Cond.castable "java/lang/RuntimeException" "java/lang/Throwable"), (Jvm.Cond.castable "java/lang/ArrayIndexOutOfBoundsException" "java/lang/ArrayIndexOutOfBoundsException"), (Jvm.Cond.declares ({ cls := "java/lang/IndexOutOfBoundsException", name := "<init>", desc := "()V" } : Jvm.MethodName)), (Jvm.Cond.declares ({ cls := "java/lang/IndexOutOfBoundsException", name := "<init>", desc := "(Ljava/lang/String;)V" } : Jvm.MethodName)), (Jvm.Cond.castable "java/lang/ArithmeticException" "java/lang/ArithmeticException"), (Jvm.Cond.fieldLinkNest "LostQuestions$Place" (23 : Nat) "LostQuestions$Card" "shelf" "I" "LostQuestions"), (Jvm.Cond.fieldLinkNest "LostQuestions" (205 : Nat) "LostQuestions$Card" "shelf" "I" "LostQuestions"), (Jvm.Cond.fieldLinkNest "LostQuestions" (211 : Nat) "LostQuestions$Card" "age" "I" "LostQuestions"), (Jvm.Cond.declares ({ cls := "LostQuestions$Card", name := "means", desc := "()I" } : Jvm.MethodName)), (Jvm.Cond.declares ({ cls := "LostQuestions$Card", name := "age", desc := "()I" } : Jvm.MethodName)), (Jvm.Cond.castable "java/lang/ClassCastException" "java/lang/ClassCastException"), (Jvm.Cond.methodLinkNest "LostQuestions$Yes" (20 : Nat) ({ cls := "LostQuestions", name := "meaning", desc := "(II)I" } : Jvm.MethodName) "LostQuestions"), (Jvm.Cond.declares ({ cls := "LostQuestions$Card", name := "number", desc := "()I" } : Jvm.MethodName)), (Jvm.Cond.methodLinkNest "LostQuestions$Place" (27 : Nat) ({ cls := "LostQuestions", name := "onShelf", desc := "(I)I" } : Jvm.MethodName) "LostQuestions"), (Jvm.Cond.methodLinkNest "LostQuestions$Never" (19 : Nat) ({ cls := "LostQuestions", name := "fitted", desc := "(I)I" } : Jvm.MethodName) "LostQuestions"), (Jvm.Cond.declares ({ cls := "LostQuestions$Card", name := "says", desc := "()I" } : Jvm.MethodName)), (Jvm.Cond.methodLinkNest "LostQuestions$Behind" (20 : Nat) ({ cls := "LostQuestions", name := "saying", desc := "(II)I" } : Jvm.MethodName) "LostQuestions"), (Jvm.Cond.methodLinkNest "LostQuestions" (264 : Nat) ({ cls := "LostQuestions$Kept", name := "<init>", desc := "()V" } : Jvm.MethodName) "LostQuestions"), (Jvm.Cond.fieldLinkNest "LostQuestions" (265 : Nat) "LostQuestions$Kept" "takingMany" "I" "LostQuestions"), (Jvm.Cond.fieldLinkNest "LostQuestions" (266 : Nat) "LostQuestions$Kept" "takings" "[I" "LostQuestions"), (Jvm.Cond.fieldLinkNest "LostQuestions" (267 : Nat) "LostQuestions$Kept" "ahead" "[I" "LostQuestions"), (Jvm.Cond.fieldLinkNest "LostQuestions" (268 : Nat) "LostQuestions$Kept" "by" "[I" "LostQuestions"), (Jvm.Cond.fieldLinkNest "LostQuestions" (269 : Nat) "LostQuestions$Kept" "truths" "[I" "LostQuestions"), (Jvm.Cond.fieldLinkNest "LostQuestions" (270 : Nat) "LostQuestions$Kept" "shelves" "[I" "LostQuestions"), (Jvm.Cond.fieldLinkNest "LostQuestions" (273 : Nat) "LostQuestions$Kept" "ages" "[I" "LostQuestions"), (Jvm.Cond.castable "java/lang/ArrayIndexOutOfBoundsException" "java/lang/IndexOutOfBoundsException"), (Jvm.Cond.castable "LostQuestions$Never" "LostQuestions$Yes"), (Jvm.Cond.castable "LostQuestions$Behind" "LostQuestions$Place"), (Jvm.Cond.castable "LostQuestions$Yes" "LostQuestions$Card"), (Jvm.Cond.castable "LostQuestions$Place" "LostQuestions$Card"), (Jvm.Cond.castable "LostQuestions$Never" "LostQuestions$Card"), (Jvm.Cond.castable "LostQuestions$Time" "LostQuestions$Card"), (Jvm.Cond.castable "LostQuestions$Behind" "LostQuestions$Card")]
theorem ao_moved {t : FieldType} {u U : State} (hvm : u.vm.Alike U.vm) (h : va_Nw (.arrayOver (.array t)) u) : va_Nw (.arrayOver (.array t)) U := by
  obtain ⟨comp, c, k, h1, h2, h3, h4, h5⟩ := arrayOverA_spec h
  obtain ⟨k', hk', he⟩ := hvm.2.2 _ _ h3
  have hi : (U.vm.classes.findIdx? fun (x : Class) => match x.kind with | .array component _ => component == comp | _ => false) = some c := by
    rw [hvm.findIdx?_eq _ (fun _ => rfl)]
    exact h2
  have hkind : k'.kind = .array comp (.array t) := by rw [he]; exact h4
  have f1 : U.vm.findClass (FieldType.array t).toString = some comp := by rw [hvm.findClass]; exact h1
  have f2 : U.vm.findClass ("[" ++ (FieldType.array t).toString) = some c := by rw [hvm.findClass]; exact h5
  unfold va_Nw Cond.before Cond.holds
  simp only [Cond.value]
  rw [f1, Option.bind_some]
  refine (congrArg (fun o : Option Nat => (o.bind (fun c => (U.vm.classes[c]?).map fun (k : Class) => match k.kind with | .array _ ty => decide (ty = FieldType.array t) && decide (U.vm.findClass ("[" ++ (FieldType.array t).toString) = some c) | _ => false) == some true)) hi).trans ?_
  simp [hk', hkind, f2]
def nwP (w : Cond) : Prop := ∀ (s U : State), s.WarmedH U.vm → va_Nw w s → va_Nw w U
theorem nwL_ok : ∀ w ∈ nwL, nwP w := List.forall_mem_cons.mpr ⟨fun _ _ hW h => ao_moved hW.alike h, List.forall_mem_cons.mpr ⟨fun _ _ hW h => ao_moved hW.alike h, List.forall_mem_cons.mpr ⟨fun _ _ hW h => va_AO.moved hW.alike h, List.forall_mem_cons.mpr ⟨fun _ _ hW h => va_AO.moved hW.alike h, List.forall_mem_cons.mpr ⟨fun _ _ hW h => va_Nw.warmF hW h, List.forall_mem_cons.mpr ⟨fun _ _ hW h => va_Nw.warmD hW h, List.forall_mem_cons.mpr ⟨fun _ _ hW h => va_Nw.warmC hW h, List.forall_mem_cons.mpr ⟨fun _ _ hW h => va_Nw.warmD hW h, List.forall_mem_cons.mpr ⟨fun _ _ hW h => va_Nw.warmD hW h, List.forall_mem_cons.mpr ⟨fun _ _ hW h => va_Nw.warmD hW h, List.forall_mem_cons.mpr ⟨fun _ _ hW h => va_Nw.warmD hW h, List.forall_mem_cons.mpr ⟨fun _ _ hW h => va_Nw.warmD hW h, List.forall_mem_cons.mpr ⟨fun _ _ hW h => va_Nw.warmD hW h, List.forall_mem_cons.mpr ⟨fun _ _ hW h => va_Nw.warmC hW h, List.forall_mem_cons.mpr ⟨fun _ _ hW h => va_Nw.warmC hW h, List.forall_mem_cons.mpr ⟨fun _ _ hW h => va_Nw.warmC hW h, List.forall_mem_cons.mpr ⟨fun _ _ hW h => va_Nw.warmD hW h, List.forall_mem_cons.mpr ⟨fun _ _ hW h => va_Nw.warmD hW h, List.forall_mem_cons.mpr ⟨fun _ _ hW h => va_Nw.warmC hW h, List.forall_mem_cons.mpr ⟨fun _ _ hW h => va_Nw.warmF hW h, List.forall_mem_cons.mpr ⟨fun _ _ hW h => va_Nw.warmF hW h, List.forall_mem_cons.mpr ⟨fun _ _ hW h => va_Nw.warmF hW h, List.forall_mem_cons.mpr ⟨fun _ _ hW h => va_Nw.warmD hW h, List.forall_mem_cons.mpr ⟨fun _ _ hW h => va_Nw.warmD hW h, List.forall_mem_cons.mpr ⟨fun _ _ hW h => va_Nw.warmC hW h, List.forall_mem_cons.mpr ⟨fun _ _ hW h => va_Nw.warmM hW h, List.forall_mem_cons.mpr ⟨fun _ _ hW h => va_Nw.warmD hW h, List.forall_mem_cons.mpr ⟨fun _ _ hW h => va_Nw.warmM hW h, List.forall_mem_cons.mpr ⟨fun _ _ hW h => va_Nw.warmM hW h, List.forall_mem_cons.mpr ⟨fun _ _ hW h => va_Nw.warmD hW h, List.forall_mem_cons.mpr ⟨fun _ _ hW h => va_Nw.warmM hW h, List.forall_mem_cons.mpr ⟨fun _ _ hW h => va_Nw.warmM hW h, List.forall_mem_cons.mpr ⟨fun _ _ hW h => va_Nw.warmF hW h, List.forall_mem_cons.mpr ⟨fun _ _ hW h => va_Nw.warmF hW h, List.forall_mem_cons.mpr ⟨fun _ _ hW h => va_Nw.warmF hW h, List.forall_mem_cons.mpr ⟨fun _ _ hW h => va_Nw.warmF hW h, List.forall_mem_cons.mpr ⟨fun _ _ hW h => va_Nw.warmF hW h, List.forall_mem_cons.mpr ⟨fun _ _ hW h => va_Nw.warmF hW h, List.forall_mem_cons.mpr ⟨fun _ _ hW h => va_Nw.warmF hW h, List.forall_mem_cons.mpr ⟨fun _ _ hW h => va_Nw.warmC hW h, List.forall_mem_cons.mpr ⟨fun _ _ hW h => va_Nw.warmC hW h, List.forall_mem_cons.mpr ⟨fun _ _ hW h => va_Nw.warmC hW h, List.forall_mem_cons.mpr ⟨fun _ _ hW h => va_Nw.warmC hW h, List.forall_mem_cons.mpr ⟨fun _ _ hW h => va_Nw.warmC hW h, List.forall_mem_cons.mpr ⟨fun _ _ hW h => va_Nw.warmC hW h, List.forall_mem_cons.mpr ⟨fun _ _ hW h => va_Nw.warmC hW h, List.forall_mem_cons.mpr ⟨fun _ _ hW h => va_Nw.warmC hW h, fun _ h => absurd h List.not_mem_nil⟩⟩⟩⟩⟩⟩⟩⟩⟩⟩⟩⟩⟩⟩⟩⟩⟩⟩⟩⟩⟩⟩⟩⟩⟩⟩⟩⟩⟩⟩⟩⟩⟩⟩⟩⟩⟩⟩⟩⟩⟩⟩⟩⟩⟩⟩⟩
theorem nwL_tbl : ∀ w ∈ nwL, w ∈ lw_tbl := List.forall_mem_cons.mpr ⟨q105, List.forall_mem_cons.mpr ⟨q107, List.forall_mem_cons.mpr ⟨q109, List.forall_mem_cons.mpr ⟨q111, List.forall_mem_cons.mpr ⟨q120, List.forall_mem_cons.mpr ⟨q244, List.forall_mem_cons.mpr ⟨q272, List.forall_mem_cons.mpr ⟨q273, List.forall_mem_cons.mpr ⟨q274, List.forall_mem_cons.mpr ⟨q275, List.forall_mem_cons.mpr ⟨q276, List.forall_mem_cons.mpr ⟨q277, List.forall_mem_cons.mpr ⟨q278, List.forall_mem_cons.mpr ⟨q335, List.forall_mem_cons.mpr ⟨q337, List.forall_mem_cons.mpr ⟨q353, List.forall_mem_cons.mpr ⟨q354, List.forall_mem_cons.mpr ⟨q355, List.forall_mem_cons.mpr ⟨q390, List.forall_mem_cons.mpr ⟨q449, List.forall_mem_cons.mpr ⟨q450, List.forall_mem_cons.mpr ⟨q452, List.forall_mem_cons.mpr ⟨q564, List.forall_mem_cons.mpr ⟨q575, List.forall_mem_cons.mpr ⟨q620, List.forall_mem_cons.mpr ⟨q629, List.forall_mem_cons.mpr ⟨q666, List.forall_mem_cons.mpr ⟨q671, List.forall_mem_cons.mpr ⟨q682, List.forall_mem_cons.mpr ⟨q700, List.forall_mem_cons.mpr ⟨q707, List.forall_mem_cons.mpr ⟨q771, List.forall_mem_cons.mpr ⟨q775, List.forall_mem_cons.mpr ⟨q777, List.forall_mem_cons.mpr ⟨q779, List.forall_mem_cons.mpr ⟨q781, List.forall_mem_cons.mpr ⟨q783, List.forall_mem_cons.mpr ⟨q785, List.forall_mem_cons.mpr ⟨q787, List.forall_mem_cons.mpr ⟨q1441, List.forall_mem_cons.mpr ⟨q1442, List.forall_mem_cons.mpr ⟨q1443, List.forall_mem_cons.mpr ⟨q1444, List.forall_mem_cons.mpr ⟨q1445, List.forall_mem_cons.mpr ⟨q1446, List.forall_mem_cons.mpr ⟨q1447, List.forall_mem_cons.mpr ⟨q1448, fun _ h => absurd h List.not_mem_nil⟩⟩⟩⟩⟩⟩⟩⟩⟩⟩⟩⟩⟩⟩⟩⟩⟩⟩⟩⟩⟩⟩⟩⟩⟩⟩⟩⟩⟩⟩⟩⟩⟩⟩⟩⟩⟩⟩⟩⟩⟩⟩⟩⟩⟩⟩⟩
theorem nwL_of : ∀ w ∈ nwL, ∀ (args : Array Value) (s : State), w.before args s = true → va_Nw w s := List.forall_mem_cons.mpr ⟨fun _ _ h => h, List.forall_mem_cons.mpr ⟨fun _ _ h => h, List.forall_mem_cons.mpr ⟨fun _ _ h => h, List.forall_mem_cons.mpr ⟨fun _ _ h => h, List.forall_mem_cons.mpr ⟨fun _ _ h => va_Nw.of rfl h, List.forall_mem_cons.mpr ⟨fun _ _ h => va_Nw.of rfl h, List.forall_mem_cons.mpr ⟨fun _ _ h => va_Nw.of rfl h, List.forall_mem_cons.mpr ⟨fun _ _ h => va_Nw.of rfl h, List.forall_mem_cons.mpr ⟨fun _ _ h => va_Nw.of rfl h, List.forall_mem_cons.mpr ⟨fun _ _ h => va_Nw.of rfl h, List.forall_mem_cons.mpr ⟨fun _ _ h => va_Nw.of rfl h, List.forall_mem_cons.mpr ⟨fun _ _ h => va_Nw.of rfl h, List.forall_mem_cons.mpr ⟨fun _ _ h => va_Nw.of rfl h, List.forall_mem_cons.mpr ⟨fun _ _ h => va_Nw.of rfl h, List.forall_mem_cons.mpr ⟨fun _ _ h => va_Nw.of rfl h, List.forall_mem_cons.mpr ⟨fun _ _ h => va_Nw.of rfl h, List.forall_mem_cons.mpr ⟨fun _ _ h => va_Nw.of rfl h, List.forall_mem_cons.mpr ⟨fun _ _ h => va_Nw.of rfl h, List.forall_mem_cons.mpr ⟨fun _ _ h => va_Nw.of rfl h, List.forall_mem_cons.mpr ⟨fun _ _ h => va_Nw.of rfl h, List.forall_mem_cons.mpr ⟨fun _ _ h => va_Nw.of rfl h, List.forall_mem_cons.mpr ⟨fun _ _ h => va_Nw.of rfl h, List.forall_mem_cons.mpr ⟨fun _ _ h => va_Nw.of rfl h, List.forall_mem_cons.mpr ⟨fun _ _ h => va_Nw.of rfl h, List.forall_mem_cons.mpr ⟨fun _ _ h => va_Nw.of rfl h, List.forall_mem_cons.mpr ⟨fun _ _ h => va_Nw.of rfl h, List.forall_mem_cons.mpr ⟨fun _ _ h => va_Nw.of rfl h, List.forall_mem_cons.mpr ⟨fun _ _ h => va_Nw.of rfl h, List.forall_mem_cons.mpr ⟨fun _ _ h => va_Nw.of rfl h, List.forall_mem_cons.mpr ⟨fun _ _ h => va_Nw.of rfl h, List.forall_mem_cons.mpr ⟨fun _ _ h => va_Nw.of rfl h, List.forall_mem_cons.mpr ⟨fun _ _ h => va_Nw.of rfl h, List.forall_mem_cons.mpr ⟨fun _ _ h => va_Nw.of rfl h, List.forall_mem_cons.mpr ⟨fun _ _ h => va_Nw.of rfl h, List.forall_mem_cons.mpr ⟨fun _ _ h => va_Nw.of rfl h, List.forall_mem_cons.mpr ⟨fun _ _ h => va_Nw.of rfl h, List.forall_mem_cons.mpr ⟨fun _ _ h => va_Nw.of rfl h, List.forall_mem_cons.mpr ⟨fun _ _ h => va_Nw.of rfl h, List.forall_mem_cons.mpr ⟨fun _ _ h => va_Nw.of rfl h, List.forall_mem_cons.mpr ⟨fun _ _ h => va_Nw.of rfl h, List.forall_mem_cons.mpr ⟨fun _ _ h => va_Nw.of rfl h, List.forall_mem_cons.mpr ⟨fun _ _ h => va_Nw.of rfl h, List.forall_mem_cons.mpr ⟨fun _ _ h => va_Nw.of rfl h, List.forall_mem_cons.mpr ⟨fun _ _ h => va_Nw.of rfl h, List.forall_mem_cons.mpr ⟨fun _ _ h => va_Nw.of rfl h, List.forall_mem_cons.mpr ⟨fun _ _ h => va_Nw.of rfl h, List.forall_mem_cons.mpr ⟨fun _ _ h => va_Nw.of rfl h, fun _ h => absurd h List.not_mem_nil⟩⟩⟩⟩⟩⟩⟩⟩⟩⟩⟩⟩⟩⟩⟩⟩⟩⟩⟩⟩⟩⟩⟩⟩⟩⟩⟩⟩⟩⟩⟩⟩⟩⟩⟩⟩⟩⟩⟩⟩⟩⟩⟩⟩⟩⟩⟩
theorem nwL_use : ∀ w ∈ nwL, ∀ (args : Array Value) (s : State), va_Nw w s → w.before args s = true := List.forall_mem_cons.mpr ⟨fun _ _ h => h, List.forall_mem_cons.mpr ⟨fun _ _ h => h, List.forall_mem_cons.mpr ⟨fun _ _ h => h, List.forall_mem_cons.mpr ⟨fun _ _ h => h, List.forall_mem_cons.mpr ⟨fun _ _ h => va_Nw.use rfl h, List.forall_mem_cons.mpr ⟨fun _ _ h => va_Nw.use rfl h, List.forall_mem_cons.mpr ⟨fun _ _ h => va_Nw.use rfl h, List.forall_mem_cons.mpr ⟨fun _ _ h => va_Nw.use rfl h, List.forall_mem_cons.mpr ⟨fun _ _ h => va_Nw.use rfl h, List.forall_mem_cons.mpr ⟨fun _ _ h => va_Nw.use rfl h, List.forall_mem_cons.mpr ⟨fun _ _ h => va_Nw.use rfl h, List.forall_mem_cons.mpr ⟨fun _ _ h => va_Nw.use rfl h, List.forall_mem_cons.mpr ⟨fun _ _ h => va_Nw.use rfl h, List.forall_mem_cons.mpr ⟨fun _ _ h => va_Nw.use rfl h, List.forall_mem_cons.mpr ⟨fun _ _ h => va_Nw.use rfl h, List.forall_mem_cons.mpr ⟨fun _ _ h => va_Nw.use rfl h, List.forall_mem_cons.mpr ⟨fun _ _ h => va_Nw.use rfl h, List.forall_mem_cons.mpr ⟨fun _ _ h => va_Nw.use rfl h, List.forall_mem_cons.mpr ⟨fun _ _ h => va_Nw.use rfl h, List.forall_mem_cons.mpr ⟨fun _ _ h => va_Nw.use rfl h, List.forall_mem_cons.mpr ⟨fun _ _ h => va_Nw.use rfl h, List.forall_mem_cons.mpr ⟨fun _ _ h => va_Nw.use rfl h, List.forall_mem_cons.mpr ⟨fun _ _ h => va_Nw.use rfl h, List.forall_mem_cons.mpr ⟨fun _ _ h => va_Nw.use rfl h, List.forall_mem_cons.mpr ⟨fun _ _ h => va_Nw.use rfl h, List.forall_mem_cons.mpr ⟨fun _ _ h => va_Nw.use rfl h, List.forall_mem_cons.mpr ⟨fun _ _ h => va_Nw.use rfl h, List.forall_mem_cons.mpr ⟨fun _ _ h => va_Nw.use rfl h, List.forall_mem_cons.mpr ⟨fun _ _ h => va_Nw.use rfl h, List.forall_mem_cons.mpr ⟨fun _ _ h => va_Nw.use rfl h, List.forall_mem_cons.mpr ⟨fun _ _ h => va_Nw.use rfl h, List.forall_mem_cons.mpr ⟨fun _ _ h => va_Nw.use rfl h, List.forall_mem_cons.mpr ⟨fun _ _ h => va_Nw.use rfl h, List.forall_mem_cons.mpr ⟨fun _ _ h => va_Nw.use rfl h, List.forall_mem_cons.mpr ⟨fun _ _ h => va_Nw.use rfl h, List.forall_mem_cons.mpr ⟨fun _ _ h => va_Nw.use rfl h, List.forall_mem_cons.mpr ⟨fun _ _ h => va_Nw.use rfl h, List.forall_mem_cons.mpr ⟨fun _ _ h => va_Nw.use rfl h, List.forall_mem_cons.mpr ⟨fun _ _ h => va_Nw.use rfl h, List.forall_mem_cons.mpr ⟨fun _ _ h => va_Nw.use rfl h, List.forall_mem_cons.mpr ⟨fun _ _ h => va_Nw.use rfl h, List.forall_mem_cons.mpr ⟨fun _ _ h => va_Nw.use rfl h, List.forall_mem_cons.mpr ⟨fun _ _ h => va_Nw.use rfl h, List.forall_mem_cons.mpr ⟨fun _ _ h => va_Nw.use rfl h, List.forall_mem_cons.mpr ⟨fun _ _ h => va_Nw.use rfl h, List.forall_mem_cons.mpr ⟨fun _ _ h => va_Nw.use rfl h, List.forall_mem_cons.mpr ⟨fun _ _ h => va_Nw.use rfl h, fun _ h => absurd h List.not_mem_nil⟩⟩⟩⟩⟩⟩⟩⟩⟩⟩⟩⟩⟩⟩⟩⟩⟩⟩⟩⟩⟩⟩⟩⟩⟩⟩⟩⟩⟩⟩⟩⟩⟩⟩⟩⟩⟩⟩⟩⟩⟩⟩⟩⟩⟩⟩⟩
def ncL : List (String × String) := [("LostQuestions$Card", "LostQuestions$Yes"), ("LostQuestions$Card", "LostQuestions$Place"), ("LostQuestions$Card", "LostQuestions$Never"), ("LostQuestions$Card", "LostQuestions$Time"), ("LostQuestions$Card", "LostQuestions$Behind"), ("LostQuestions$Yes", "LostQuestions$Place"), ("LostQuestions$Yes", "LostQuestions$Never"), ("LostQuestions$Yes", "LostQuestions$Time"), ("LostQuestions$Yes", "LostQuestions$Behind"), ("LostQuestions$Place", "LostQuestions$Yes"), ("LostQuestions$Place", "LostQuestions$Never"), ("LostQuestions$Place", "LostQuestions$Time"), ("LostQuestions$Place", "LostQuestions$Behind"), ("LostQuestions$Never", "LostQuestions$Place"), ("LostQuestions$Never", "LostQuestions$Time"), ("LostQuestions$Never", "LostQuestions$Behind"), ("LostQuestions$Time", "LostQuestions$Yes"), ("LostQuestions$Time", "LostQuestions$Place"), ("LostQuestions$Time", "LostQuestions$Never"), ("LostQuestions$Time", "LostQuestions$Behind"), ("LostQuestions$Behind", "LostQuestions$Yes"), ("LostQuestions$Behind", "LostQuestions$Never"), ("LostQuestions$Behind", "LostQuestions$Time"), ("java/lang/ArrayIndexOutOfBoundsException", "java/lang/NullPointerException"), ("java/lang/ArithmeticException", "java/lang/NullPointerException")]
abbrev tStk : String := "[Ljava/lang/StackTraceElement;"
/-- a static of Throwable: where it lies, that it holds a reference or null; below base -/
def SF (base : Nat) (n d : String) (U : State) : Prop := ∃ (c : ClassId) (k : Class) (i : Nat) (f : Field) (a : Nat) (cell : Cell) (v : Value), U.vm.findClass "java/lang/Throwable" = some c ∧ U.fieldFound? "java/lang/Throwable" n d = some (c, k, i, f) ∧ f.isStatic = true ∧ k.statics = some a ∧ U.heap[a]? = some cell ∧ cell.vm.isStatics = true ∧ cell.cls = c ∧ f.slot < cell.slots.size ∧ k.staticTypes[f.slot]? = some f.type ∧ cell.slots[f.slot]? = some v ∧ v.isRef = true ∧ a < base
theorem SF.moved {base : Nat} {n d : String} {s U : State} (h : SF base n d s) (hW : s.vm.Alike U.vm) (hq : ∀ a : Nat, a < s.heap.size → ¬ base ≤ a → U.heap[a]? = s.heap[a]?) : SF base n d U := by
  obtain ⟨c, k, i, f, a, cell, v, h1, h2, h3, h4, h5, h6, h7, h8, h9, h10, h11, h12⟩ := h
  obtain ⟨k', hi', he⟩ := State.fieldFound?_setVm hW h2
  exact ⟨c, k', i, f, a, cell, v, by rw [hW.findClass]; exact h1, hi', h3, by rw [he]; exact h4, by rw [hq a (Array.getElem?_eq_some_iff.mp h5).1 (by omega)]; exact h5, h6, h7, h8, by rw [he]; exact h9, h10, h11, h12⟩
theorem SF.lays {base : Nat} {n d : String} {s : State} (h : SF base n d s) (args : Array Value) : (Cond.laysStatic "java/lang/Throwable" n d).before args s = true := by
  obtain ⟨c, k, i, f, a, cell, v, h1, h2, h3, h4, h5, h6, h7, h8, h9, h10, h11, h12⟩ := h
  simp [Cond.before, Cond.holds, Cond.value, h1, h2, h3, h4, h5, h6, h7, h8, h9]
theorem SF.isRef {base : Nat} {n d : String} {s : State} (h : SF base n d s) (args : Array Value) : (Cond.isRef (.static "java/lang/Throwable" n d)).before args s = true := by
  obtain ⟨c, k, i, f, a, cell, v, h1, h2, h3, h4, h5, h6, h7, h8, h9, h10, h11, h12⟩ := h
  have he : (Term.static "java/lang/Throwable" n d).eval args s none [] s = some v := by
    simp [Term.eval, State.fieldNamed?, h2, h3, h4, h5, h6, h10]
  simp only [Cond.before, Cond.holds, Cond.value]
  rw [he]
  cases v <;> first | rfl | (simp [Value.isRef] at h11; done)
theorem SF.of {base : Nat} {n d : String} {args : Array Value} {s : State} (h1 : (Cond.laysStatic "java/lang/Throwable" n d).before args s = true) (h2 : (Cond.isRef (.static "java/lang/Throwable" n d)).before args s = true) (hb : s.heap.size ≤ base) : SF base n d s := by
  obtain ⟨c, k, i, f, a, cell, g1, g2, g3, g4, g5, g6, g7, g8, g9⟩ := Cond.laysStatic_spec h1
  obtain ⟨u, hu⟩ := Cond.staticRefV g2 g3 g4 g5 g6 h2
  exact ⟨c, k, i, f, a, cell, u.v, g1, g2, g3, g4, g5, g6, g7, g8, g9, hu, u.2, Nat.lt_of_lt_of_le (Array.getElem?_eq_some_iff.mp g5).1 hb⟩
/-- what holds at every start of a method in a run, beside the words that ride -/
def NX (base : Nat) (U : State) : Prop := (∀ w ∈ nwL, va_Nw w U) ∧ (∀ q ∈ ncL, va_Nc q.1 q.2 U) ∧ SF base "UNASSIGNED_STACK" tStk U ∧ SF base "SUPPRESSED_SENTINEL" "Ljava/util/List;" U ∧ modulesRight_1 U = true
theorem NX.moved {base : Nat} {s U : State} (h : NX base s) (hW : s.WarmedH U.vm) (hq : ∀ a : Nat, a < s.heap.size → ¬ base ≤ a → U.heap[a]? = s.heap[a]?) : NX base U := by
  obtain ⟨h1, h2, h3, h4, h5⟩ := h
  refine ⟨fun w hw => nwL_ok w hw _ _ hW (h1 w hw), fun q hq => (h2 q hq).moved hW.alike, h3.moved hW.alike hq, h4.moved hW.alike hq, ?_⟩
  have e : U.vm.modules = s.vm.modules := by
    have := congrArg Vm.modules hW.alike.bare_eq
    first | exact this | exact this.symm
  unfold modulesRight_1 at h5 ⊢
  rw [e]
  exact h5
/-- a method: its class, its code, its locals, its answer, its name, its handlers -/
abbrev GG : Type := String × ByteArray × Nat × Option FieldType × String × List (Nat × Nat × Nat × Nat)
def GX (γ : GG) (D : va_G) (b base : Nat) (p : Program) (l : Launch) (s : State) (m : MethodId) (args : Array Value) (meth : Method) (c : Code) : Prop :=
  p.tables.exec = Jvm.exec ∧ c.code = γ.2.1 ∧ c.maxLocals = γ.2.2.1 ∧ meth.sig.returnType = γ.2.2.2.1 ∧ meth.locks = false ∧ meth.name = γ.2.2.2.2.1 ∧
  s.vm.findClass γ.1 = some m.cls ∧ (∀ w ∈ lw_all, w.before args s = true) ∧ va_K D vwCl [] s ∧ NX base s ∧ base ≤ s.heap.size ∧ l.flags = flags0 ∧
  (γ.2.2.2.2.2 = [] ∨ c.exceptionTable.toList.map (fun h => (h.startPc, h.endPc, h.handlerPc, h.catchType)) = γ.2.2.2.2.2)
section GXs
variable {γ : GG} {D : va_G} {b base : Nat} {p : Program} {l : Launch} {s : State} {m : MethodId} {args : Array Value} {meth : Method} {c : Code}
theorem GX.hx (h : GX γ D b base p l s m args meth c) : p.tables.exec = Jvm.exec := h.1
theorem GX.hb (h : GX γ D b base p l s m args meth c) : c.code = γ.2.1 := h.2.1
theorem GX.ml (h : GX γ D b base p l s m args meth c) : c.maxLocals = γ.2.2.1 := h.2.2.1
theorem GX.hr (h : GX γ D b base p l s m args meth c) : meth.sig.returnType = γ.2.2.2.1 := h.2.2.2.1
theorem GX.lks (h : GX γ D b base p l s m args meth c) : meth.locks = false := h.2.2.2.2.1
theorem GX.nm (h : GX γ D b base p l s m args meth c) : meth.name = γ.2.2.2.2.1 := h.2.2.2.2.2.1
theorem GX.own (h : GX γ D b base p l s m args meth c) : s.vm.findClass γ.1 = some m.cls := h.2.2.2.2.2.2.1
theorem GX.hts (h : GX γ D b base p l s m args meth c) : ∀ w ∈ lw_all, w.before args s = true := h.2.2.2.2.2.2.2.1
theorem GX.K (h : GX γ D b base p l s m args meth c) : va_K D vwCl [] s := h.2.2.2.2.2.2.2.2.1
theorem GX.nx (h : GX γ D b base p l s m args meth c) : NX base s := h.2.2.2.2.2.2.2.2.2.1
theorem GX.bs (h : GX γ D b base p l s m args meth c) : base ≤ s.heap.size := h.2.2.2.2.2.2.2.2.2.2.1
theorem GX.fl (h : GX γ D b base p l s m args meth c) : l.flags = flags0 := h.2.2.2.2.2.2.2.2.2.2.2.1
theorem GX.exc (h : GX γ D b base p l s m args meth c) : γ.2.2.2.2.2 = [] ∨ c.exceptionTable.toList.map (fun h => (h.startPc, h.endPc, h.handlerPc, h.catchType)) = γ.2.2.2.2.2 := h.2.2.2.2.2.2.2.2.2.2.2.2
theorem GX.fix (h : GX γ D b base p l s m args meth c) : CallFix p m c γ.2.1 γ.2.2.1 s args lw_all γ.1 := ⟨h.hx, h.hb, h.ml, h.own, h.hts⟩
end GXs
def lcOk (ls : Array Slot) (nL : Nat) (f : Value → Value) (lc : List (Option Value)) : Prop := ls.size = nL ∧ lv_wf ls ∧ ∀ (i : Nat) (v : Value), lc[i]? = some (some v) → ls[i]? = some (.val (f v))
def lcL (f : Value → Value) (lc : List (Option Value)) : List (Nat × Value) := lc.zipIdx.filterMap (fun q => q.1.map (fun v => (q.2, f v)))
theorem lcL_mem {f : Value → Value} {lc : List (Option Value)} {i : Nat} {w : Value} : (i, w) ∈ lcL f lc ↔ ∃ v, lc[i]? = some (some v) ∧ w = f v := by
  unfold lcL
  rw [List.mem_filterMap]
  constructor
  · rintro ⟨⟨o, j⟩, h1, h2⟩
    rw [List.mem_zipIdx_iff_getElem?] at h1
    cases o with
    | none => cases h2
    | some v =>
      have h3 : (j, f v) = (i, w) := Option.some.inj h2
      cases h3
      exact ⟨v, h1, rfl⟩
  · rintro ⟨v, h1, rfl⟩
    exact ⟨(some v, i), List.mem_zipIdx_iff_getElem?.mpr h1, rfl⟩
theorem lcOk.has {ls : Array Slot} {nL : Nat} {f : Value → Value} {lc : List (Option Value)} (h : lcOk ls nL f lc) : lv_has ls nL (lcL f lc) := ⟨h.1, h.2.1, fun q hq => by
  obtain ⟨v, h1, h2⟩ := lcL_mem.mp (show (q.1, q.2) ∈ lcL f lc from hq)
  rw [h2]; exact h.2.2 _ _ h1⟩
def okPut (lc : List (Option Value)) : Nat → Bool
  | 0 => true
  | j + 1 => match lc[j]? with
    | some (some w) => w.category == 1
    | _ => true
theorem lc_back1 {ls : Array Slot} {nL : Nat} {f : Value → Value} (hf : ∀ v, (f v).category = v.category) {lc : List (Option Value)} {i : Nat} {v : Value} (hk : okPut lc i = true) (h : lv_has ls nL ((i, f v) :: (lcL f lc).filter (fun q => !(q.1 == i) && !(q.1 + 1 == i && q.2.category == 2)))) : lcOk ls nL f (lc.set i (some v)) := by
  refine ⟨h.1, h.2.1, fun j w hw => ?_⟩
  by_cases hj : j = i
  · subst hj
    have hl : j < lc.length := by
      have := (List.getElem?_eq_some_iff.mp hw).1
      simpa using this
    rw [List.getElem?_set_self hl] at hw
    cases hw
    exact h.2.2 (j, f v) List.mem_cons_self
  · rw [List.getElem?_set_ne (Ne.symm hj)] at hw
    refine h.2.2 (j, f w) (List.mem_cons_of_mem _ (List.mem_filter.mpr ⟨lcL_mem.mpr ⟨w, hw, rfl⟩, ?_⟩))
    have h1 : (j == i) = false := by simpa using hj
    simp only [h1, hf]
    by_cases h2 : j + 1 = i
    · subst h2
      simp only [okPut, hw] at hk
      have hk' : w.category = 1 := by simpa using hk
      simp [hk']
    · simp [h2]
theorem lc_back2 {ls : Array Slot} {nL : Nat} {f : Value → Value} (hf : ∀ v, (f v).category = v.category) {lc : List (Option Value)} {i : Nat} {v : Value} (hk : okPut lc i = true) (h : lv_has ls nL ((i, f v) :: (lcL f lc).filter (fun q => !(q.1 == i) && (!(q.1 == i + 1) && !(q.1 + 1 == i && q.2.category == 2))))) : lcOk ls nL f ((lc.set i (some v)).set (i + 1) none) := by
  refine ⟨h.1, h.2.1, fun j w hw => ?_⟩
  have hj1 : j ≠ i + 1 := by
    intro e
    subst e
    have hl := (List.getElem?_eq_some_iff.mp hw).1
    rw [List.getElem?_set_self (by simpa using hl)] at hw
    cases hw
  rw [List.getElem?_set_ne (Ne.symm hj1)] at hw
  by_cases hj : j = i
  · subst hj
    have hl : j < lc.length := by
      have := (List.getElem?_eq_some_iff.mp hw).1
      simpa using this
    rw [List.getElem?_set_self hl] at hw
    cases hw
    exact h.2.2 (j, f v) List.mem_cons_self
  · rw [List.getElem?_set_ne (Ne.symm hj)] at hw
    refine h.2.2 (j, f w) (List.mem_cons_of_mem _ (List.mem_filter.mpr ⟨lcL_mem.mpr ⟨w, hw, rfl⟩, ?_⟩))
    have h1 : (j == i) = false := by simpa using hj
    have h1' : (j == i + 1) = false := by simpa using hj1
    simp only [h1, h1', hf]
    by_cases h2 : j + 1 = i
    · subst h2
      simp only [okPut, hw] at hk
      have hk' : w.category = 1 := by simpa using hk
      simp [hk']
    · simp [h2]
/-- a method's end: its answer and the memory behind it -/
def KQ (D : va_G) (b base : Nat) (K : Option Value → Mem → Prop) : Array Value → State → Outcome → State → Prop := fun _ st oc t => (∃ (v : Option Value) (μ : Mem), oc = .returned (v.map (rv b base)) ∧ K v μ ∧ RP t D b base μ t.heap) ∧ va_F (fun q => base ≤ q) st t
def GL (γ : GG) (R : Room) (K : Option Value → Mem → Prop) (cells slots pc : Nat) (lc : List (Option Value)) (st : List Value) (μ : Mem) : Prop :=
  ∀ (p : Program) (l : Launch) (e : Env) (s : State) (m : MethodId) (args : Array Value) (below : List Frame) (meth : Method) (c : Code) (D : va_G) (b base : Nat) (H : Heap) (locs : List Loc) (ls : Array Slot),
    GX γ D b base p l s m args meth c → RP s D b base μ H → va_S (fun q => base ≤ q) s.heap H locs → lcOk ls γ.2.2.1 (rv b base) lc →
    W p l e R s m args below meth c H locs cells slots (MQ below (KQ D b base K) args s R.cells R.slots (fun q => base ≤ q)) (F0 m pc ls (st.map (rv b base)))
section GLs
variable {γ : GG} {R : Room} {K : Option Value → Mem → Prop} {cells slots pc : Nat} {lc : List (Option Value)} {st : List Value} {μ : Mem}
theorem gl_iconst {n : Int} {v : Int32} (hd : decode γ.2.1 pc = .ok (.iconst n, 1)) (hv : Int32.ofInt n = v) (kk : GL γ R K cells slots (pc + 1) lc (.int v :: st) μ) : GL γ R K cells slots (pc) lc (st) μ := fun p l e s m args below meth c D b base H locs ls X P S L => lv_iconst X.hx X.hb hd hv (kk p l e s m args below meth c D b base H locs ls X P S L)
theorem gl_bipush {n : Int} {v : Int32} (hd : decode γ.2.1 pc = .ok (.bipush n, 2)) (hv : (Int8.ofInt n).toInt32 = v) (kk : GL γ R K cells slots (pc + 2) lc (.int v :: st) μ) : GL γ R K cells slots (pc) lc (st) μ := fun p l e s m args below meth c D b base H locs ls X P S L => lv_bipush X.hx X.hb hd hv (kk p l e s m args below meth c D b base H locs ls X P S L)
theorem gl_sipush {n : Int} {v : Int32} (hd : decode γ.2.1 pc = .ok (.sipush n, 3)) (hv : (Int16.ofInt n).toInt32 = v) (kk : GL γ R K cells slots (pc + 3) lc (.int v :: st) μ) : GL γ R K cells slots (pc) lc (st) μ := fun p l e s m args below meth c D b base H locs ls X P S L => lv_sipush X.hx X.hb hd hv (kk p l e s m args below meth c D b base H locs ls X P S L)
theorem gl_lconst {n : Fin 2} {v : Int64} (hd : decode γ.2.1 pc = .ok (.lconst n, 1)) (hv : Int64.ofNat (n : Nat) = v) (kk : GL γ R K cells slots (pc + 1) lc (.long v :: st) μ) : GL γ R K cells slots (pc) lc (st) μ := fun p l e s m args below meth c D b base H locs ls X P S L => lv_lconst X.hx X.hb hd hv (kk p l e s m args below meth c D b base H locs ls X P S L)
theorem gl_null (hd : decode γ.2.1 pc = .ok (.aconst_null, 1)) (kk : GL γ R K cells slots (pc + 1) lc (.null :: st) μ) : GL γ R K cells slots (pc) lc (st) μ := fun p l e s m args below meth c D b base H locs ls X P S L => lv_null X.hx X.hb hd (kk p l e s m args below meth c D b base H locs ls X P S L)
theorem gl_ldc2 {index : Nat} {v : Int64} (hc : Cond.constantLong γ.1 index v ∈ lw_all) (hd : decode γ.2.1 pc = .ok (.ldc2_w index, 3)) (kk : GL γ R K cells slots (pc + 3) lc (.long v :: st) μ) : GL γ R K cells slots (pc) lc (st) μ := fun p l e s m args below meth c D b base H locs ls X P S L => lv_ldc2 X.hx X.hb X.own (X.hts _ hc) hd (kk p l e s m args below meth c D b base H locs ls X P S L)
theorem gl_iload_n {k : Fin 4} {x : Int32} (hd : decode γ.2.1 pc = .ok (.iload_n k, 1)) (hl : lc[(k : Nat)]? = some (some (.int x))) (kk : GL γ R K cells slots (pc + 1) lc (.int x :: st) μ) : GL γ R K cells slots (pc) lc (st) μ := fun p l e s m args below meth c D b base H locs ls X P S L => lv_iload_n X.hx X.hb hd rfl (L.2.2 _ _ hl) (kk p l e s m args below meth c D b base H locs ls X P S L)
theorem gl_iload {i : Nat} {x : Int32} (hd : decode γ.2.1 pc = .ok (.iload i, 2)) (hl : lc[i]? = some (some (.int x))) (kk : GL γ R K cells slots (pc + 2) lc (.int x :: st) μ) : GL γ R K cells slots (pc) lc (st) μ := fun p l e s m args below meth c D b base H locs ls X P S L => lv_iload X.hx X.hb hd (L.2.2 _ _ hl) (kk p l e s m args below meth c D b base H locs ls X P S L)
theorem gl_lload_n {k : Fin 4} {x : Int64} (hd : decode γ.2.1 pc = .ok (.lload_n k, 1)) (hl : lc[(k : Nat)]? = some (some (.long x))) (kk : GL γ R K cells slots (pc + 1) lc (.long x :: st) μ) : GL γ R K cells slots (pc) lc (st) μ := fun p l e s m args below meth c D b base H locs ls X P S L => lv_lload_n X.hx X.hb hd rfl (L.2.2 _ _ hl) (kk p l e s m args below meth c D b base H locs ls X P S L)
theorem gl_lload {i : Nat} {x : Int64} (hd : decode γ.2.1 pc = .ok (.lload i, 2)) (hl : lc[i]? = some (some (.long x))) (kk : GL γ R K cells slots (pc + 2) lc (.long x :: st) μ) : GL γ R K cells slots (pc) lc (st) μ := fun p l e s m args below meth c D b base H locs ls X P S L => lv_lload X.hx X.hb hd (L.2.2 _ _ hl) (kk p l e s m args below meth c D b base H locs ls X P S L)
theorem gl_aload_n {k : Fin 4} {x : Nat} (hd : decode γ.2.1 pc = .ok (.aload_n k, 1)) (hl : lc[(k : Nat)]? = some (some (.ref x))) (kk : GL γ R K cells slots (pc + 1) lc (.ref x :: st) μ) : GL γ R K cells slots (pc) lc (st) μ := fun p l e s m args below meth c D b base H locs ls X P S L => lv_aload_n X.hx X.hb hd rfl (L.2.2 _ _ hl) (kk p l e s m args below meth c D b base H locs ls X P S L)
theorem gl_aload {i : Nat} {x : Nat} (hd : decode γ.2.1 pc = .ok (.aload i, 2)) (hl : lc[i]? = some (some (.ref x))) (kk : GL γ R K cells slots (pc + 2) lc (.ref x :: st) μ) : GL γ R K cells slots (pc) lc (st) μ := fun p l e s m args below meth c D b base H locs ls X P S L => lv_aload X.hx X.hb hd (L.2.2 _ _ hl) (kk p l e s m args below meth c D b base H locs ls X P S L)
theorem gl_istore_n {k : Fin 4} {x : Int32} (hd : decode γ.2.1 pc = .ok (.istore_n k, 1)) (hn : Nat.ble ((k : Nat) + 1) γ.2.2.1 = true) (hk : okPut lc (k : Nat) = true) (kk : GL γ R K cells slots (pc + 1) (lc.set (k : Nat) (some (.int x))) (st) μ) : GL γ R K cells slots (pc) lc (.int x :: st) μ := fun p l e s m args below meth c D b base H locs ls X P S L => lv_istore_n X.hx X.hb hd rfl L.has (Nat.le_of_ble_eq_true hn) rfl (fun ls' h' => kk p l e s m args below meth c D b base H locs ls' X P S (lc_back1 (rv_cat b base) hk h'))
theorem gl_istore {i : Nat} {x : Int32} (hd : decode γ.2.1 pc = .ok (.istore i, 2)) (hn : Nat.ble (i + 1) γ.2.2.1 = true) (hk : okPut lc i = true) (kk : GL γ R K cells slots (pc + 2) (lc.set i (some (.int x))) (st) μ) : GL γ R K cells slots (pc) lc (.int x :: st) μ := fun p l e s m args below meth c D b base H locs ls X P S L => lv_istore X.hx X.hb hd L.has (Nat.le_of_ble_eq_true hn) rfl (fun ls' h' => kk p l e s m args below meth c D b base H locs ls' X P S (lc_back1 (rv_cat b base) hk h'))
theorem gl_astore_n {k : Fin 4} {x : Nat} (hd : decode γ.2.1 pc = .ok (.astore_n k, 1)) (hn : Nat.ble ((k : Nat) + 1) γ.2.2.1 = true) (hk : okPut lc (k : Nat) = true) (kk : GL γ R K cells slots (pc + 1) (lc.set (k : Nat) (some (.ref x))) (st) μ) : GL γ R K cells slots (pc) lc (.ref x :: st) μ := fun p l e s m args below meth c D b base H locs ls X P S L => lv_astore_n X.hx X.hb hd rfl L.has (Nat.le_of_ble_eq_true hn) rfl (fun ls' h' => kk p l e s m args below meth c D b base H locs ls' X P S (lc_back1 (rv_cat b base) hk h'))
theorem gl_astore {i : Nat} {x : Nat} (hd : decode γ.2.1 pc = .ok (.astore i, 2)) (hn : Nat.ble (i + 1) γ.2.2.1 = true) (hk : okPut lc i = true) (kk : GL γ R K cells slots (pc + 2) (lc.set i (some (.ref x))) (st) μ) : GL γ R K cells slots (pc) lc (.ref x :: st) μ := fun p l e s m args below meth c D b base H locs ls X P S L => lv_astore X.hx X.hb hd L.has (Nat.le_of_ble_eq_true hn) rfl (fun ls' h' => kk p l e s m args below meth c D b base H locs ls' X P S (lc_back1 (rv_cat b base) hk h'))
theorem gl_lstore_n {k : Fin 4} {x : Int64} (hd : decode γ.2.1 pc = .ok (.lstore_n k, 1)) (hn : Nat.ble ((k : Nat) + 2) γ.2.2.1 = true) (hk : okPut lc (k : Nat) = true) (kk : GL γ R K cells slots (pc + 1) ((lc.set (k : Nat) (some (.long x))).set ((k : Nat) + 1) none) (st) μ) : GL γ R K cells slots (pc) lc (.long x :: st) μ := fun p l e s m args below meth c D b base H locs ls X P S L => lv_lstore_n X.hx X.hb hd rfl L.has (Nat.le_of_ble_eq_true hn) rfl (fun ls' h' => kk p l e s m args below meth c D b base H locs ls' X P S (lc_back2 (rv_cat b base) hk h'))
theorem gl_lstore {i : Nat} {x : Int64} (hd : decode γ.2.1 pc = .ok (.lstore i, 2)) (hn : Nat.ble (i + 2) γ.2.2.1 = true) (hk : okPut lc i = true) (kk : GL γ R K cells slots (pc + 2) ((lc.set i (some (.long x))).set (i + 1) none) (st) μ) : GL γ R K cells slots (pc) lc (.long x :: st) μ := fun p l e s m args below meth c D b base H locs ls X P S L => lv_lstore X.hx X.hb hd L.has (Nat.le_of_ble_eq_true hn) rfl (fun ls' h' => kk p l e s m args below meth c D b base H locs ls' X P S (lc_back2 (rv_cat b base) hk h'))
theorem gl_iinc {i : Nat} {n : Int} {x v : Int32} (hd : decode γ.2.1 pc = .ok (.iinc i n, 3)) (hl : lc[i]? = some (some (.int x))) (hv : x + Int32.ofInt n = v) (hn : Nat.ble (i + 1) γ.2.2.1 = true) (hk : okPut lc i = true) (kk : GL γ R K cells slots (pc + 3) (lc.set i (some (.int v))) (st) μ) : GL γ R K cells slots (pc) lc (st) μ := fun p l e s m args below meth c D b base H locs ls X P S L => by
  obtain ⟨k, hk2⟩ := List.getElem?_of_mem (lcL_mem.mpr ⟨.int x, hl, rfl⟩ : (i, rv b base (.int x)) ∈ lcL (rv b base) lc)
  exact lv_iinc X.hx X.hb hd L.has hk2 hv (Nat.le_of_ble_eq_true hn) rfl (fun ls' h' => kk p l e s m args below meth c D b base H locs ls' X P S (lc_back1 (rv_cat b base) hk h'))
theorem gl_iadd {x y : Int32} (hd : decode γ.2.1 pc = .ok (.iadd, 1)) (kk : GL γ R K cells slots (pc + 1) lc (.int (x + y) :: st) μ) : GL γ R K cells slots (pc) lc (.int y :: .int x :: st) μ := fun p l e s m args below meth c D b base H locs ls X P S L => lv_iadd X.hx X.hb hd (kk p l e s m args below meth c D b base H locs ls X P S L)
theorem gl_isub {x y : Int32} (hd : decode γ.2.1 pc = .ok (.isub, 1)) (kk : GL γ R K cells slots (pc + 1) lc (.int (x - y) :: st) μ) : GL γ R K cells slots (pc) lc (.int y :: .int x :: st) μ := fun p l e s m args below meth c D b base H locs ls X P S L => lv_isub X.hx X.hb hd (kk p l e s m args below meth c D b base H locs ls X P S L)
theorem gl_imul {x y : Int32} (hd : decode γ.2.1 pc = .ok (.imul, 1)) (kk : GL γ R K cells slots (pc + 1) lc (.int (x * y) :: st) μ) : GL γ R K cells slots (pc) lc (.int y :: .int x :: st) μ := fun p l e s m args below meth c D b base H locs ls X P S L => lv_imul X.hx X.hb hd (kk p l e s m args below meth c D b base H locs ls X P S L)
theorem gl_iand {x y : Int32} (hd : decode γ.2.1 pc = .ok (.iand, 1)) (kk : GL γ R K cells slots (pc + 1) lc (.int (x &&& y) :: st) μ) : GL γ R K cells slots (pc) lc (.int y :: .int x :: st) μ := fun p l e s m args below meth c D b base H locs ls X P S L => lv_iand X.hx X.hb hd (kk p l e s m args below meth c D b base H locs ls X P S L)
theorem gl_ior {x y : Int32} (hd : decode γ.2.1 pc = .ok (.ior, 1)) (kk : GL γ R K cells slots (pc + 1) lc (.int (x ||| y) :: st) μ) : GL γ R K cells slots (pc) lc (.int y :: .int x :: st) μ := fun p l e s m args below meth c D b base H locs ls X P S L => lv_ior X.hx X.hb hd (kk p l e s m args below meth c D b base H locs ls X P S L)
theorem gl_ixor {x y : Int32} (hd : decode γ.2.1 pc = .ok (.ixor, 1)) (kk : GL γ R K cells slots (pc + 1) lc (.int (x ^^^ y) :: st) μ) : GL γ R K cells slots (pc) lc (.int y :: .int x :: st) μ := fun p l e s m args below meth c D b base H locs ls X P S L => lv_ixor X.hx X.hb hd (kk p l e s m args below meth c D b base H locs ls X P S L)
theorem gl_ladd {x y : Int64} (hd : decode γ.2.1 pc = .ok (.ladd, 1)) (kk : GL γ R K cells slots (pc + 1) lc (.long (x + y) :: st) μ) : GL γ R K cells slots (pc) lc (.long y :: .long x :: st) μ := fun p l e s m args below meth c D b base H locs ls X P S L => lv_ladd X.hx X.hb hd (kk p l e s m args below meth c D b base H locs ls X P S L)
theorem gl_lsub {x y : Int64} (hd : decode γ.2.1 pc = .ok (.lsub, 1)) (kk : GL γ R K cells slots (pc + 1) lc (.long (x - y) :: st) μ) : GL γ R K cells slots (pc) lc (.long y :: .long x :: st) μ := fun p l e s m args below meth c D b base H locs ls X P S L => lv_lsub X.hx X.hb hd (kk p l e s m args below meth c D b base H locs ls X P S L)
theorem gl_lmul {x y : Int64} (hd : decode γ.2.1 pc = .ok (.lmul, 1)) (kk : GL γ R K cells slots (pc + 1) lc (.long (x * y) :: st) μ) : GL γ R K cells slots (pc) lc (.long y :: .long x :: st) μ := fun p l e s m args below meth c D b base H locs ls X P S L => lv_lmul X.hx X.hb hd (kk p l e s m args below meth c D b base H locs ls X P S L)
theorem gl_ishl {x y : Int32} (hd : decode γ.2.1 pc = .ok (.ishl, 1)) (kk : GL γ R K cells slots (pc + 1) lc (.int (x <<< (y &&& 31)) :: st) μ) : GL γ R K cells slots (pc) lc (.int y :: .int x :: st) μ := fun p l e s m args below meth c D b base H locs ls X P S L => lv_ishl X.hx X.hb hd (kk p l e s m args below meth c D b base H locs ls X P S L)
theorem gl_ishr {x y : Int32} (hd : decode γ.2.1 pc = .ok (.ishr, 1)) (kk : GL γ R K cells slots (pc + 1) lc (.int (x >>> (y &&& 31)) :: st) μ) : GL γ R K cells slots (pc) lc (.int y :: .int x :: st) μ := fun p l e s m args below meth c D b base H locs ls X P S L => lv_ishr X.hx X.hb hd (kk p l e s m args below meth c D b base H locs ls X P S L)
theorem gl_iushr {x y v : Int32} (hd : decode γ.2.1 pc = .ok (.iushr, 1)) (hv : (x.toUInt32 >>> (y.toUInt32 &&& Int32.toUInt32 31)).toInt32 = v) (kk : GL γ R K cells slots (pc + 1) lc (.int v :: st) μ) : GL γ R K cells slots (pc) lc (.int y :: .int x :: st) μ := fun p l e s m args below meth c D b base H locs ls X P S L => lv_iushr X.hx X.hb hd hv (kk p l e s m args below meth c D b base H locs ls X P S L)
theorem gl_idiv {x y : Int32} (hd : decode γ.2.1 pc = .ok (.idiv, 1)) (hne : ¬ y = 0) (kk : GL γ R K cells slots (pc + 1) lc (.int (x / y) :: st) μ) : GL γ R K cells slots (pc) lc (.int y :: .int x :: st) μ := fun p l e s m args below meth c D b base H locs ls X P S L => lv_idiv X.hx X.hb hd hne (kk p l e s m args below meth c D b base H locs ls X P S L)
theorem gl_ldiv {x y : Int64} (hd : decode γ.2.1 pc = .ok (.ldiv, 1)) (hne : ¬ y = 0) (kk : GL γ R K cells slots (pc + 1) lc (.long (x / y) :: st) μ) : GL γ R K cells slots (pc) lc (.long y :: .long x :: st) μ := fun p l e s m args below meth c D b base H locs ls X P S L => lv_ldiv X.hx X.hb hd hne (kk p l e s m args below meth c D b base H locs ls X P S L)
theorem lrem_eq_mod (x y : Int64) : x - x / y * y = x % y := by
  apply Int64.toInt_inj.mp
  have h1 := Int64.le_toInt (x % y)
  have h2 := Int64.toInt_lt (x % y)
  rw [Int64.toInt_sub, Int64.toInt_mul, Int64.toInt_div, Int.bmod_mul_bmod, Int.sub_bmod_bmod, Int.mul_comm (x.toInt.tdiv y.toInt), ← Int.tmod_def, ← Int64.toInt_mod]
  exact Int.bmod_eq_of_le_mul_two (by omega) (by omega)
theorem gl_irem {x y : Int32} (hd : decode γ.2.1 pc = .ok (.irem, 1)) (hne : ¬ y = 0) (kk : GL γ R K cells slots (pc + 1) lc (.int (x % y) :: st) μ) : GL γ R K cells slots (pc) lc (.int y :: .int x :: st) μ := fun p l e s m args below meth c D b base H locs ls X P S L => lv_irem X.hx X.hb hd hne (by rw [irem_eq_mod]; exact (kk p l e s m args below meth c D b base H locs ls X P S L))
theorem gl_lrem {x y : Int64} (hd : decode γ.2.1 pc = .ok (.lrem, 1)) (hne : ¬ y = 0) (kk : GL γ R K cells slots (pc + 1) lc (.long (x % y) :: st) μ) : GL γ R K cells slots (pc) lc (.long y :: .long x :: st) μ := fun p l e s m args below meth c D b base H locs ls X P S L => lv_lrem X.hx X.hb hd hne (by rw [lrem_eq_mod]; exact (kk p l e s m args below meth c D b base H locs ls X P S L))
theorem gl_ineg {x : Int32} (hd : decode γ.2.1 pc = .ok (.ineg, 1)) (kk : GL γ R K cells slots (pc + 1) lc (.int (-x) :: st) μ) : GL γ R K cells slots (pc) lc (.int x :: st) μ := fun p l e s m args below meth c D b base H locs ls X P S L => lv_ineg X.hx X.hb hd (kk p l e s m args below meth c D b base H locs ls X P S L)
theorem gl_i2l {x : Int32} (hd : decode γ.2.1 pc = .ok (.i2l, 1)) (kk : GL γ R K cells slots (pc + 1) lc (.long (x.toInt64) :: st) μ) : GL γ R K cells slots (pc) lc (.int x :: st) μ := fun p l e s m args below meth c D b base H locs ls X P S L => lv_i2l X.hx X.hb hd rfl (kk p l e s m args below meth c D b base H locs ls X P S L)
theorem gl_l2i {x : Int64} (hd : decode γ.2.1 pc = .ok (.l2i, 1)) (kk : GL γ R K cells slots (pc + 1) lc (.int (x.toInt32) :: st) μ) : GL γ R K cells slots (pc) lc (.long x :: st) μ := fun p l e s m args below meth c D b base H locs ls X P S L => lv_l2i X.hx X.hb hd rfl (kk p l e s m args below meth c D b base H locs ls X P S L)
theorem gl_i2b {x : Int32} (hd : decode γ.2.1 pc = .ok (.i2b, 1)) (kk : GL γ R K cells slots (pc + 1) lc (.int (x.toInt8.toInt32) :: st) μ) : GL γ R K cells slots (pc) lc (.int x :: st) μ := fun p l e s m args below meth c D b base H locs ls X P S L => lv_i2b X.hx X.hb hd rfl (kk p l e s m args below meth c D b base H locs ls X P S L)
theorem gl_dup {v : Value} (hd : decode γ.2.1 pc = .ok (.dup, 1)) (hv : v.category = 1) (kk : GL γ R K cells slots (pc + 1) lc (v :: v :: st) μ) : GL γ R K cells slots (pc) lc (v :: st) μ := fun p l e s m args below meth c D b base H locs ls X P S L => lv_dup X.hx X.hb hd (by rw [rv_cat]; exact hv) (kk p l e s m args below meth c D b base H locs ls X P S L)
theorem gl_pop {v : Value} (hd : decode γ.2.1 pc = .ok (.pop, 1)) (hv : v.category = 1) (kk : GL γ R K cells slots (pc + 1) lc (st) μ) : GL γ R K cells slots (pc) lc (v :: st) μ := fun p l e s m args below meth c D b base H locs ls X P S L => lv_pop X.hx X.hb hd (by rw [rv_cat]; exact hv) (kk p l e s m args below meth c D b base H locs ls X P S L)
theorem gl_dup2 {v w : Value} (hd : decode γ.2.1 pc = .ok (.dup2, 1)) (hv : v.category = 1) (hw : w.category = 1) (kk : GL γ R K cells slots (pc + 1) lc (v :: w :: v :: w :: st) μ) : GL γ R K cells slots (pc) lc (v :: w :: st) μ := fun p l e s m args below meth c D b base H locs ls X P S L => lv_dup2_11 X.hx X.hb hd (by rw [rv_cat]; exact hv) (by rw [rv_cat]; exact hw) (kk p l e s m args below meth c D b base H locs ls X P S L)
theorem gl_lcmp {x y : Int64} (hd : decode γ.2.1 pc = .ok (.lcmp, 1)) (kk : GL γ R K cells slots (pc + 1) lc (.int (lg_cmp x y) :: st) μ) : GL γ R K cells slots (pc) lc (.long y :: .long x :: st) μ := fun p l e s m args below meth c D b base H locs ls X P S L => W.lcmp X.hx X.hb hd (kk p l e s m args below meth c D b base H locs ls X P S L)
theorem gl_if_eq {x : Int32} {off : Int} {tgt : Nat} (hd : decode γ.2.1 pc = .ok (.ifCond .eq off, 3)) (ht : (pc : Int) + off = (tgt : Int)) (kt : x = 0 → GL γ R K cells slots (tgt) lc (st) μ) (kf : ¬ x = 0 → GL γ R K cells slots (pc + 3) lc (st) μ) : GL γ R K cells slots (pc) lc (.int x :: st) μ := fun p l e s m args below meth c D b base H locs ls X P S L => lv_if_eq X.hx X.hb hd ht (fun h => kt h p l e s m args below meth c D b base H locs ls X P S L) (fun h => kf h p l e s m args below meth c D b base H locs ls X P S L)
theorem gl_if_ne {x : Int32} {off : Int} {tgt : Nat} (hd : decode γ.2.1 pc = .ok (.ifCond .ne off, 3)) (ht : (pc : Int) + off = (tgt : Int)) (kt : ¬ x = 0 → GL γ R K cells slots (tgt) lc (st) μ) (kf : x = 0 → GL γ R K cells slots (pc + 3) lc (st) μ) : GL γ R K cells slots (pc) lc (.int x :: st) μ := fun p l e s m args below meth c D b base H locs ls X P S L => lv_if_ne X.hx X.hb hd ht (fun h => kt h p l e s m args below meth c D b base H locs ls X P S L) (fun h => kf h p l e s m args below meth c D b base H locs ls X P S L)
theorem gl_if_lt {x : Int32} {off : Int} {tgt : Nat} (hd : decode γ.2.1 pc = .ok (.ifCond .lt off, 3)) (ht : (pc : Int) + off = (tgt : Int)) (kt : x < 0 → GL γ R K cells slots (tgt) lc (st) μ) (kf : ¬ x < 0 → GL γ R K cells slots (pc + 3) lc (st) μ) : GL γ R K cells slots (pc) lc (.int x :: st) μ := fun p l e s m args below meth c D b base H locs ls X P S L => lv_if_lt X.hx X.hb hd ht (fun h => kt h p l e s m args below meth c D b base H locs ls X P S L) (fun h => kf h p l e s m args below meth c D b base H locs ls X P S L)
theorem gl_if_ge {x : Int32} {off : Int} {tgt : Nat} (hd : decode γ.2.1 pc = .ok (.ifCond .ge off, 3)) (ht : (pc : Int) + off = (tgt : Int)) (kt : 0 ≤ x → GL γ R K cells slots (tgt) lc (st) μ) (kf : ¬ 0 ≤ x → GL γ R K cells slots (pc + 3) lc (st) μ) : GL γ R K cells slots (pc) lc (.int x :: st) μ := fun p l e s m args below meth c D b base H locs ls X P S L => lv_if_ge X.hx X.hb hd ht (fun h => kt h p l e s m args below meth c D b base H locs ls X P S L) (fun h => kf h p l e s m args below meth c D b base H locs ls X P S L)
theorem gl_if_gt {x : Int32} {off : Int} {tgt : Nat} (hd : decode γ.2.1 pc = .ok (.ifCond .gt off, 3)) (ht : (pc : Int) + off = (tgt : Int)) (kt : 0 < x → GL γ R K cells slots (tgt) lc (st) μ) (kf : ¬ 0 < x → GL γ R K cells slots (pc + 3) lc (st) μ) : GL γ R K cells slots (pc) lc (.int x :: st) μ := fun p l e s m args below meth c D b base H locs ls X P S L => lv_if_gt X.hx X.hb hd ht (fun h => kt h p l e s m args below meth c D b base H locs ls X P S L) (fun h => kf h p l e s m args below meth c D b base H locs ls X P S L)
theorem gl_if_le {x : Int32} {off : Int} {tgt : Nat} (hd : decode γ.2.1 pc = .ok (.ifCond .le off, 3)) (ht : (pc : Int) + off = (tgt : Int)) (kt : x ≤ 0 → GL γ R K cells slots (tgt) lc (st) μ) (kf : ¬ x ≤ 0 → GL γ R K cells slots (pc + 3) lc (st) μ) : GL γ R K cells slots (pc) lc (.int x :: st) μ := fun p l e s m args below meth c D b base H locs ls X P S L => lv_if_le X.hx X.hb hd ht (fun h => kt h p l e s m args below meth c D b base H locs ls X P S L) (fun h => kf h p l e s m args below meth c D b base H locs ls X P S L)
theorem gl_icmp_eq {x y : Int32} {off : Int} {tgt : Nat} (hd : decode γ.2.1 pc = .ok (.if_icmp .eq off, 3)) (ht : (pc : Int) + off = (tgt : Int)) (kt : x = y → GL γ R K cells slots (tgt) lc (st) μ) (kf : ¬ x = y → GL γ R K cells slots (pc + 3) lc (st) μ) : GL γ R K cells slots (pc) lc (.int y :: .int x :: st) μ := fun p l e s m args below meth c D b base H locs ls X P S L => lv_icmp_eq X.hx X.hb hd ht (fun h => kt h p l e s m args below meth c D b base H locs ls X P S L) (fun h => kf h p l e s m args below meth c D b base H locs ls X P S L)
theorem gl_icmp_ne {x y : Int32} {off : Int} {tgt : Nat} (hd : decode γ.2.1 pc = .ok (.if_icmp .ne off, 3)) (ht : (pc : Int) + off = (tgt : Int)) (kt : ¬ x = y → GL γ R K cells slots (tgt) lc (st) μ) (kf : x = y → GL γ R K cells slots (pc + 3) lc (st) μ) : GL γ R K cells slots (pc) lc (.int y :: .int x :: st) μ := fun p l e s m args below meth c D b base H locs ls X P S L => lv_icmp_ne X.hx X.hb hd ht (fun h => kt h p l e s m args below meth c D b base H locs ls X P S L) (fun h => kf h p l e s m args below meth c D b base H locs ls X P S L)
theorem gl_icmp_lt {x y : Int32} {off : Int} {tgt : Nat} (hd : decode γ.2.1 pc = .ok (.if_icmp .lt off, 3)) (ht : (pc : Int) + off = (tgt : Int)) (kt : x < y → GL γ R K cells slots (tgt) lc (st) μ) (kf : ¬ x < y → GL γ R K cells slots (pc + 3) lc (st) μ) : GL γ R K cells slots (pc) lc (.int y :: .int x :: st) μ := fun p l e s m args below meth c D b base H locs ls X P S L => lv_icmp_lt X.hx X.hb hd ht (fun h => kt h p l e s m args below meth c D b base H locs ls X P S L) (fun h => kf h p l e s m args below meth c D b base H locs ls X P S L)
theorem gl_icmp_ge {x y : Int32} {off : Int} {tgt : Nat} (hd : decode γ.2.1 pc = .ok (.if_icmp .ge off, 3)) (ht : (pc : Int) + off = (tgt : Int)) (kt : y ≤ x → GL γ R K cells slots (tgt) lc (st) μ) (kf : ¬ y ≤ x → GL γ R K cells slots (pc + 3) lc (st) μ) : GL γ R K cells slots (pc) lc (.int y :: .int x :: st) μ := fun p l e s m args below meth c D b base H locs ls X P S L => lv_icmp_ge X.hx X.hb hd ht (fun h => kt h p l e s m args below meth c D b base H locs ls X P S L) (fun h => kf h p l e s m args below meth c D b base H locs ls X P S L)
theorem gl_icmp_gt {x y : Int32} {off : Int} {tgt : Nat} (hd : decode γ.2.1 pc = .ok (.if_icmp .gt off, 3)) (ht : (pc : Int) + off = (tgt : Int)) (kt : y < x → GL γ R K cells slots (tgt) lc (st) μ) (kf : ¬ y < x → GL γ R K cells slots (pc + 3) lc (st) μ) : GL γ R K cells slots (pc) lc (.int y :: .int x :: st) μ := fun p l e s m args below meth c D b base H locs ls X P S L => lv_icmp_gt X.hx X.hb hd ht (fun h => kt h p l e s m args below meth c D b base H locs ls X P S L) (fun h => kf h p l e s m args below meth c D b base H locs ls X P S L)
theorem gl_icmp_le {x y : Int32} {off : Int} {tgt : Nat} (hd : decode γ.2.1 pc = .ok (.if_icmp .le off, 3)) (ht : (pc : Int) + off = (tgt : Int)) (kt : x ≤ y → GL γ R K cells slots (tgt) lc (st) μ) (kf : ¬ x ≤ y → GL γ R K cells slots (pc + 3) lc (st) μ) : GL γ R K cells slots (pc) lc (.int y :: .int x :: st) μ := fun p l e s m args below meth c D b base H locs ls X P S L => lv_icmp_le X.hx X.hb hd ht (fun h => kt h p l e s m args below meth c D b base H locs ls X P S L) (fun h => kf h p l e s m args below meth c D b base H locs ls X P S L)
theorem gl_goto {off : Int} {tgt : Nat} (hd : decode γ.2.1 pc = .ok (.goto off, 3)) (ht : (pc : Int) + off = (tgt : Int)) (kk : GL γ R K cells slots (tgt) lc (st) μ) : GL γ R K cells slots (pc) lc (st) μ := fun p l e s m args below meth c D b base H locs ls X P S L => lv_goto X.hx X.hb hd ht (kk p l e s m args below meth c D b base H locs ls X P S L)
theorem gl_ifnonnull {x : Nat} {off : Int} {tgt : Nat} (hd : decode γ.2.1 pc = .ok (.ifnonnull off, 3)) (ht : (pc : Int) + off = (tgt : Int)) (kk : GL γ R K cells slots (tgt) lc (st) μ) : GL γ R K cells slots (pc) lc (.ref x :: st) μ := fun p l e s m args below meth c D b base H locs ls X P S L => lv_ifnonnull X.hx X.hb hd ht (kk p l e s m args below meth c D b base H locs ls X P S L)
theorem gl_ifnonnullN {off : Int} (hd : decode γ.2.1 pc = .ok (.ifnonnull off, 3)) (kk : GL γ R K cells slots (pc + 3) lc (st) μ) : GL γ R K cells slots (pc) lc (.null :: st) μ := fun p l e s m args below meth c D b base H locs ls X P S L => lv_ifnonnullN X.hx X.hb hd (kk p l e s m args below meth c D b base H locs ls X P S L)
theorem gl_ifnull {x : Nat} {off : Int} (hd : decode γ.2.1 pc = .ok (.ifnull off, 3)) (kk : GL γ R K cells slots (pc + 3) lc (st) μ) : GL γ R K cells slots (pc) lc (.ref x :: st) μ := fun p l e s m args below meth c D b base H locs ls X P S L => lv_ifnull X.hx X.hb hd (kk p l e s m args below meth c D b base H locs ls X P S L)
theorem gl_ifnullN {off : Int} {tgt : Nat} (hd : decode γ.2.1 pc = .ok (.ifnull off, 3)) (ht : (pc : Int) + off = (tgt : Int)) (kk : GL γ R K cells slots (tgt) lc (st) μ) : GL γ R K cells slots (pc) lc (.null :: st) μ := fun p l e s m args below meth c D b base H locs ls X P S L => lv_ifnullN X.hx X.hb hd ht (kk p l e s m args below meth c D b base H locs ls X P S L)
end GLs
