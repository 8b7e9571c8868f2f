/-! EXCEPTIONS, fourth part: the rules of the layer GL -/
set_option maxRecDepth 100000
theorem noTrace {l : Launch} {e : Env} (h : l.admits e) (hf : l.flags = flags0) : e.platform.stackTraces = false := by
  rw [h.platform]
  show l.stackTraces = false
  unfold Launch.stackTraces
  rw [hf]
  decide +kernel
/-- the instruction at pc, with the stack sts, comes to the making of an exception of the class cls -/
def Rz (γ : GG) (pc : Nat) (sts rest : List Value) (μ : Mem) (cls : String) (msg : Option String) : Prop :=
  ∀ (p : Program) (l : Launch) (e : Env) (R : Room) (s : State) (m : MethodId) (args : Array Value) (below : List Frame) (meth : Method) (c : Code) (D : va_G) (b base : Nat) (H : Heap) (locs : List Loc) (cells slots : Nat) (ls : Array Slot) (T : State),
    GX γ D b base p l s m args meth c → RP s D b base μ H → ls.size = c.maxLocals → T.heap = H → Stand p l e R s m args below meth c T locs cells slots →
    ∃ vm', Stand p l e R s m args below meth c (T.setVm vm') locs cells slots ∧ ∀ target, Steps p.tables e below (((T.setVm vm').setTop (F0 m pc ls (rest.map (rv b base)))).pushFrame (.throwNew cls msg none)) target → Steps p.tables e below (T.setTop (F0 m pc ls (sts.map (rv b base)))) target
/-- the table's row for cls at pc, by the words -/
def Sr (γ : GG) (cls : String) (pc h : Nat) : Prop := ∀ (D : va_G) (b base : Nat) (p : Program) (l : Launch) (s : State) (m : MethodId) (args : Array Value) (meth : Method) (c : Code), GX γ D b base p l s m args meth c → srch args s γ.1 cls pc h γ.2.2.2.2.2
theorem RP.skip {U : State} {D : va_G} {b base k : Nat} {μ : Mem} {H H1 : Heap} (h : RP U D b base μ H) (hz : H1.size = H.size + k) (oq : ∀ q : Nat, q < H.size → H1[q]? = H[q]?) : RP U D b base (μ.1 + k, μ.2) H1 := by
  obtain ⟨h1, h2, h3, h4⟩ := h
  refine ⟨h1, by rw [hz]; show _ = base + (μ.1 + k); omega, ?_, fun n c e => ?_⟩
  · obtain ⟨scr, q1, -⟩ := id h3
    exact h3.kept (oq b (Array.getElem?_eq_some_iff.mp q1).1)
  · have e' : lk μ n = some c := by
      cases n with
      | zero => cases e
      | succ n => exact e
    exact (h4 n c e').kept (oq _ (h4 n c e').lt)
section GLx
variable {γ : GG} {R : Room} {K : Option Value → Mem → Prop} {cells slots pc : Nat} {lc : List (Option Value)} {st sts rest : List Value} {μ : Mem}
theorem gl_exM {cls text : String} {names : List String} {h k : Nat} (hz : Rz γ pc sts rest μ cls (some text)) (hcls : Bundle.fit cls = true) (hnames : ∀ n ∈ names, Bundle.fit n = true) (hsoe : (cls == "java/lang/StackOverflowError") = false) (hoom : (cls == "java/lang/OutOfMemoryError") = false) (harm : armOk (Bundle.messageArmAtoms cls names) = true) (htext : (text == notModelled) = false) (hlen : (stringBytes (stringToUtf16 text)).size ≤ k) (hk : k ≤ 100000) (hroom : Nat.ble (rest.map fun v => v.category).sum 8 = true) (hn10 : names.length ≤ 5) (hR : 10 ≤ R.frames ∧ 10248 ≤ R.locals) (hc : cells + 3 ≤ R.cells) (hs : slots + (k + 10) ≤ R.slots) (hpos : 1 ≤ μ.1) (hex : γ.2.2.2.2.2 ≠ []) (hsr : Sr γ cls pc h) (kk : GL γ R K (cells + 3) (slots + (k + 10)) h lc [.ref (μ.1 + 2)] (μ.1 + 3, μ.2)) : GL γ R K cells slots pc lc sts μ := fun p l e s m args below meth c D b base H locs ls X P S L => by
  intro T hT X0
  have hls : ls.size = c.maxLocals := L.1.trans X.ml.symm
  obtain ⟨vm1, X1, st1⟩ := hz p l e R s m args below meth c D b base H locs cells slots ls T X P hls hT X0
  have hr8 : ((rest.map (rv b base)).map fun v => v.category).sum ≤ 8 := by rw [rv_cats]; exact Nat.le_of_ble_eq_true hroom
  obtain ⟨T2, L2, ce, X2, hL2, hz2, ho2, hce, hcl, hvm, st2⟩ := ex_msg X1 X.hx (noTrace X0.admits X.fl) hcls hnames hsoe hoom (arm_use X harm) X.nx.2.2.1 S.2.2 htext
    (by rw [Launch.admits_arrayLengthLimit X0.admits]; omega) (by rw [Launch.admits_maxHeapBytes X0.admits]; show ¬ _ * 1 > _; omega) (g := F0 m pc ls (rest.map (rv b base))) rfl hls (by have := hR.1; omega) (by show 2 * 0 + _ + 10240 ≤ _; have := hR.2; show 2 * 0 + ((rest.map (rv b base)).map fun v => v.category).sum + 10240 ≤ _; omega) (by omega) hc (by omega) X.lks
  have hTs : (T.setVm vm1).heap = H := hT
  rw [hTs] at hL2 hz2 ho2 hce st2
  have hX := X.exc.resolve_left hex
  obtain ⟨vm2, X3, st3⟩ := ex_catch X2 (g := F0 m pc ls (rest.map (rv b base))) rfl X.own hce hcl hvm hX (hsr D b base p l s m args meth c X)
  have hsz : H.size + 1 = base + μ.1 := P.2.1
  have had : ad b base (μ.1 + 2) = H.size + 2 := by simp only [ad]; omega
  have hS' : va_S (fun q => base ≤ q) s.heap T2.heap (locs ++ L2) := ⟨Nat.le_trans S.1 (by omega), fun q h1 h2 => by rw [ho2 q (Nat.lt_of_lt_of_le h1 S.1)]; exact S.2.1 q h1 h2, fun q hq => by
    rcases List.mem_append.mp hq with h1 | h1
    · exact S.2.2 q h1
    · exact Nat.le_trans X.bs (Nat.le_trans S.1 (hL2 q h1))⟩
  have hw := W.widen (Nat.le_refl (cells + 3)) (show slots + ((stringBytes (stringToUtf16 text)).size + 4 + 6) ≤ slots + (k + 10) by omega) (kk p l e s m args below meth c D b base T2.heap (locs ++ L2) ls X (P.skip hz2 ho2) hS' L)
  obtain ⟨t, a1, b1⟩ := hw (T2.setVm vm2) rfl X3
  refine ⟨t, st1 _ (st2 _ (st3 _ ?_)), b1⟩
  rw [List.map_cons, show rv b base (.ref (μ.1 + 2)) = .ref (ad b base (μ.1 + 2)) from rfl, had] at a1
  exact a1
theorem gl_exN {h : Nat} (hz : Rz γ pc sts rest μ "java/lang/NullPointerException" none) (hroom : Nat.ble (rest.map fun v => v.category).sum 8 = true) (hR : 10 ≤ R.frames ∧ 10248 ≤ R.locals) (hc : cells + 1 ≤ R.cells) (hs : slots + 8 ≤ R.slots) (hpos : 1 ≤ μ.1) (hex : γ.2.2.2.2.2 ≠ []) (hsr : Sr γ "java/lang/NullPointerException" pc h) (kk : GL γ R K (cells + 1) (slots + 8) h lc [.ref μ.1] (μ.1 + 1, μ.2)) : GL γ R K cells slots pc lc sts μ := fun p l e s m args below meth c D b base H locs ls X P S L => by
  intro T hT X0
  have hls : ls.size = c.maxLocals := L.1.trans X.ml.symm
  obtain ⟨vm1, X1, st1⟩ := hz p l e R s m args below meth c D b base H locs cells slots ls T X P hls hT X0
  have hr8 : ((rest.map (rv b base)).map fun v => v.category).sum ≤ 8 := by rw [rv_cats]; exact Nat.le_of_ble_eq_true hroom
  obtain ⟨T2, L2, ce, X2, hL2, hz2, ho2, hce, hcl, hvm, st2⟩ := ex_npe X1 X.hx (noTrace X0.admits X.fl) (n := 8) (arm_use X arm_NPE) X.nx.2.2.1 S.2.2
    (g := F0 m pc ls (rest.map (rv b base))) rfl hls (by have := hR.1; omega) (by show 2 * 0 + _ + 10240 ≤ _; have := hR.2; show 2 * 0 + ((rest.map (rv b base)).map fun v => v.category).sum + 10240 ≤ _; omega) hc hs X.lks
  have hTs : (T.setVm vm1).heap = H := hT
  rw [hTs] at hL2 hz2 ho2 hce st2
  have hX := X.exc.resolve_left hex
  obtain ⟨vm2, X3, st3⟩ := ex_catch X2 (g := F0 m pc ls (rest.map (rv b base))) rfl X.own hce hcl hvm hX (hsr D b base p l s m args meth c X)
  have hsz : H.size + 1 = base + μ.1 := P.2.1
  have had : ad b base μ.1 = H.size := by
    obtain ⟨j, hj⟩ : ∃ j, μ.1 = j + 1 := ⟨μ.1 - 1, by omega⟩
    rw [hj]; rw [hj] at hsz; simp only [ad]; omega
  have hS' : va_S (fun q => base ≤ q) s.heap T2.heap (locs ++ L2) := ⟨Nat.le_trans S.1 (by omega), fun q h1 h2 => by rw [ho2 q (Nat.lt_of_lt_of_le h1 S.1)]; exact S.2.1 q h1 h2, fun q hq => by
    rcases List.mem_append.mp hq with h1 | h1
    · exact S.2.2 q h1
    · exact Nat.le_trans X.bs (Nat.le_trans S.1 (hL2 q h1))⟩
  obtain ⟨t, a1, b1⟩ := kk p l e s m args below meth c D b base T2.heap (locs ++ L2) ls X (P.skip hz2 ho2) hS' L (T2.setVm vm2) rfl X3
  refine ⟨t, st1 _ (st2 _ (st3 _ ?_)), b1⟩
  rw [List.map_cons, show rv b base (.ref μ.1) = .ref (ad b base μ.1) from rfl, had] at a1
  exact a1
end GLx
def ixT (i : Int32) (k : Nat) : String := toString "Index " ++ toString i ++ toString " out of bounds for length " ++ toString k
theorem ixT_b (i : Int32) {n : Nat} (h : n < 2 ^ 31) : (stringBytes (stringToUtf16 (ixT i n))).size ≤ 212 := index_text_bytes i h
theorem ixT_m (i : Int32) (n : Nat) : (ixT i n == notModelled) = false := index_text_modelled i n
section RZs
variable {γ : GG} {pc : Nat} {st : List Value} {μ : Mem}
theorem rz_newa {atype : ArrayType} {i : Int32} (hd : decode γ.2.1 pc = .ok (.newarray atype, 2)) (hi : i < 0) : Rz γ pc (.int i :: st) st μ "java/lang/NegativeArraySizeException" (some (toString i)) := fun p l e R s m args below meth c D b base H locs cells slots ls T X P hls hT X0 => by
  refine ⟨T.vm, X0, fun target a => ?_⟩
  show Steps p.tables e below (T.setTop (F0 m pc ls (.int i :: st.map (rv b base)))) target
  jvm_step X0.here [X0.here.top, X.hx, X.hb, hd, hi, newarray.sem]
  exact a
theorem rz_iald {i : Int32} (hd : decode γ.2.1 pc = .ok (.iaload, 1)) : Rz γ pc (.int i :: .null :: st) st μ "java/lang/NullPointerException" none := fun p l e R s m args below meth c D b base H locs cells slots ls T X P hls hT X0 => by
  refine ⟨T.vm, X0, fun target a => ?_⟩
  show Steps p.tables e below (T.setTop (F0 m pc ls (.int i :: .null :: st.map (rv b base)))) target
  jvm_step X0.here [X0.here.top, X.hx, X.hb, hd]
  exact a
theorem rz_bald {i : Int32} (hd : decode γ.2.1 pc = .ok (.baload, 1)) : Rz γ pc (.int i :: .null :: st) st μ "java/lang/NullPointerException" none := fun p l e R s m args below meth c D b base H locs cells slots ls T X P hls hT X0 => by
  refine ⟨T.vm, X0, fun target a => ?_⟩
  show Steps p.tables e below (T.setTop (F0 m pc ls (.int i :: .null :: st.map (rv b base)))) target
  jvm_step X0.here [X0.here.top, X.hx, X.hb, hd]
  exact fun _ => a
theorem rz_alen (hd : decode γ.2.1 pc = .ok (.arraylength, 1)) : Rz γ pc (.null :: st) st μ "java/lang/NullPointerException" none := fun p l e R s m args below meth c D b base H locs cells slots ls T X P hls hT X0 => by
  refine ⟨T.vm, X0, fun target a => ?_⟩
  show Steps p.tables e below (T.setTop (F0 m pc ls (.null :: st.map (rv b base)))) target
  jvm_step X0.here [X0.here.top, X.hx, X.hb, hd]
  exact fun _ => a
theorem rz_ldiv {x : Int64} (hd : decode γ.2.1 pc = .ok (.ldiv, 1)) : Rz γ pc (.long 0 :: .long x :: st) st μ "java/lang/ArithmeticException" (some "/ by zero") := fun p l e R s m args below meth c D b base H locs cells slots ls T X P hls hT X0 => by
  refine ⟨T.vm, X0, fun target a => ?_⟩
  show Steps p.tables e below (T.setTop (F0 m pc ls (.long 0 :: .long x :: st.map (rv b base)))) target
  jvm_step X0.here [X0.here.top, X.hx, X.hb, hd]
  exact a
theorem rz_ialdB {i : Int32} {n k : Nat} {f : Nat → Int32} (hd : decode γ.2.1 pc = .ok (.iaload, 1)) (hl : lk μ n = some (.inl (0, k, f))) (hi : i < 0 ∨ k ≤ i.toNatClampNeg) : Rz γ pc (.int i :: .ref n :: st) st μ "java/lang/ArrayIndexOutOfBoundsException" (some (ixT i k)) := fun p l e R s m args below meth c D b base H locs cells slots ls T X P hls hT X0 => by
  obtain ⟨cA, h1, h2, h3⟩ := P.2.2.2 _ _ hl
  refine ⟨T.vm, X0, fun target a => ?_⟩
  have hc : T.heap[ad b base n]? = some (arrV cA k (fun j => .int (f j))) := by rw [hT]; exact h1
  have hA := State.isArrayOf_alike X0.warmed.alike (h2 k (fun j => .int (f j)))
  obtain ⟨-, kA0, hkA0, comp0, hkind0⟩ := id hA
  have hsz := arrV_size cA k (fun j => .int (f j))
  show Steps p.tables e below (T.setTop (F0 m pc ls (.int i :: .ref (ad b base n) :: st.map (rv b base)))) target
  jvm_step X0.here [X0.here.top, X.hx, X.hb, hd]
  refine ⟨_, hc, ⟨hA.1, kA0, hkA0, comp0, .int, hkind0⟩, ?_⟩
  rw [if_pos (by rw [hsz]; exact hi), hsz]
  exact a
theorem rz_baldB {i : Int32} {n k : Nat} {f : Nat → Int32} (hd : decode γ.2.1 pc = .ok (.baload, 1)) (hl : lk μ n = some (.inl (1, k, f))) (hi : i < 0 ∨ k ≤ i.toNatClampNeg) : Rz γ pc (.int i :: .ref n :: st) st μ "java/lang/ArrayIndexOutOfBoundsException" (some (ixT i k)) := fun p l e R s m args below meth c D b base H locs cells slots ls T X P hls hT X0 => by
  obtain ⟨cA, h1, h2, h3⟩ := P.2.2.2 _ _ hl
  refine ⟨T.vm, X0, fun target a => ?_⟩
  have hc : T.heap[ad b base n]? = some (arrV cA k (fun j => .int (f j))) := by rw [hT]; exact h1
  have hA := State.isArrayOf_alike X0.warmed.alike (h2 k (fun j => .int (f j)))
  have hsz := arrV_size cA k (fun j => .int (f j))
  show Steps p.tables e below (T.setTop (F0 m pc ls (.int i :: .ref (ad b base n) :: st.map (rv b base)))) target
  jvm_step X0.here [X0.here.top, X.hx, X.hb, hd]
  obtain ⟨-, kA0, hkA0, comp0, hkind0⟩ := id hA
  refine ⟨_, hc, ⟨hA.1, kA0, hkA0, comp0, .byte, hkind0⟩, ?_⟩
  rw [if_pos (by rw [hsz]; exact hi), hsz]
  exact fun _ => a
end RZs

