/-! AN EXCEPTION OF A NATIVE, second part: arraycopy's, in the layer GL -/
set_option maxRecDepth 100000
section NTa
theorem nat_thr {tb : Tables} {e : Env} {below : List Frame} {s target : State} {g : JFrame} {c : Code} (h : At s g.method c below) {m : MethodId} {meth : Method} {k : Class} {row : NativeRow} {args : Array Value} (acts : List Action)
    (hk : s.vm.classes[m.cls]? = some k) (hx : k.methods[m.idx]? = some meth) (hboot : k.loader = none) (hnat : meth.isNative = true) (hc : meth.code = none) (hl : meth.locks = false) (hrow : NativeRow.find? tb.natives k.name meth.name meth.desc = some row)
    (hroom : e.platform.stackFull (((s.setTop g).threads[(s.setTop g).cur]?).getD { frames := [] }) (s.setTop g).frames (nativeFrameWords k.name meth.name (operandWords args.toList)) = false)
    {cls : String} {msg : Option String} (hw : ∀ (u : State), u.heap = s.heap → u.vm = s.vm → ∀ E : CtlPost, (∀ acts', E (.throwNew cls msg) acts' u) → wp (row.sem (seenByNative meth args)) (fun _ _ _ _ => False) E e false [] u)
    (hrest : Steps tb e below (((s.setTop g).pushFrame (.native { method := m, args := seenByNative meth args, locked := none })).pushFrame (.throwNew cls msg none)) target) :
    Steps tb e below (doInvoke e (s.setTop g) acts m args).1 target := by
  have hm : (s.setTop g).vm.method? m = some meth := by
    show s.vm.method? m = some meth
    simp [Vm.method?, hk, hx]
  have hn : (((s.setTop g).vm.classes[m.cls]?).map (·.name)).getD "" = k.name := by
    show ((s.vm.classes[m.cls]?).map (·.name)).getD "" = k.name
    simp [hk]
  rw [(Fast.doInvoke_native (s := s.setTop g) (e := e) (acts := acts) (args := args) hm hnat hc hl (by rw [hn]; exact hroom)).1]
  have hfe := frames_entered (g := g) h.top (.native { method := m, args := seenByNative meth args, locked := none })
  obtain ⟨mid, hmid⟩ := h.above
  refine Steps.head ⟨h.running, by simpa using h.runnable, by simpa using h.alone⟩ ⟨.native { method := m, args := seenByNative meth args, locked := none } :: .java g :: mid, by rw [hfe, hmid]; rfl, by simp, by simp⟩ ?_
  rw [stepThread_native (f := { method := m, args := seenByNative meth args, locked := none }) (k := k) (x := meth) (row := row) hfe hk hx hboot hrow rfl]
  have key := (wpRun_iff_run _ _ _ _ _).mp (show wpRun (row.sem (seenByNative meth args)) (fun _ _ _ => False) (fun x u _ => x = .throwNew cls msg ∧ u = ((s.setTop g).pushFrame (.native { method := m, args := seenByNative meth args, locked := none }))) e ((s.setTop g).pushFrame (.native { method := m, args := seenByNative meth args, locked := none })) from hw ((s.setTop g).pushFrame (.native { method := m, args := seenByNative meth args, locked := none })) rfl rfl _ (fun _ => ⟨rfl, rfl⟩))
  cases hr : (row.sem (seenByNative meth args)).run e ((s.setTop g).pushFrame (.native { method := m, args := seenByNative meth args, locked := none })) with
  | ok v u a => rw [hr] at key; exact key.elim
  | ctl x u a =>
    rw [hr] at key
    cases x <;> first
      | exact key.elim
      | (obtain ⟨h1, h2⟩ := key; cases h1; subst h2; exact hrest)
      | (obtain ⟨h1, -⟩ := key; cases h1)
theorem nat_pop {tb : Tables} {e : Env} {below : List Frame} {u target : State} {a : Addr} {f : NFrame} {r : List Frame} (h : Ov u (.native f :: r) below) (hr : ∃ mid, r = mid ++ below) (haw : f.awaiting = false) (hl : f.locked = none)
    (hrest : Steps tb e below (u.setFrames (.throwing a :: r)) target) : Steps tb e below (u.setFrames (.throwing a :: .native f :: r)) target := by
  obtain ⟨hgo, hcur, -⟩ := h
  obtain ⟨mid, hmid⟩ := hr
  have hf : (u.setFrames (.throwing a :: .native f :: r)).frames = .throwing a :: .native f :: r := State.frames_setFrames _ hcur
  refine Steps.head ⟨hgo.1, by simpa using hgo.2.1, by simpa using hgo.2.2⟩ ⟨.throwing a :: .native f :: mid, by rw [hf, hmid]; rfl, by simp, by simp⟩ ?_
  have key : (stepThread tb e (u.setFrames (.throwing a :: .native f :: r))).1 = (u.setFrames (.throwing a :: .native f :: r)).setFrames (.throwing a :: r) := by
    generalize u.setFrames (.throwing a :: .native f :: r) = s at hf
    unfold stepThread
    simp only [hf]
    unfold stepThrowing
    simp only [haw, Bool.false_eq_true, if_false, hl]
    unfold vmDo
    generalize hg : Sem.go _ e false _ s = res
    obtain ⟨as, rfl, -⟩ := Sem.eq_ok_of hg (a := true) (s' := s) (acts' := []) (by simp [leaveIfLocked, unmarked, Action.isMark])
    rfl
  rw [key, State.setFrames_setFrames]
  exact hrest
end NTa
/-- the native called at pc, with the stack sts, comes to the making of an exception of the class cls -/
def RzN (γ : GG) (pc : Nat) (sts rest : List Value) (μ : Mem) (cls : String) (msg : Option String) : Prop :=
  ∀ (p : Program) (l : Launch) (e : Env) (R : Room) (s : State) (m : MethodId) (args : Array Value) (below : List Frame) (meth : Method) (c : Code) (D : va_G) (b base : Nat) (H : Heap) (locs : List Loc) (cells slots : Nat) (ls : Array Slot) (T : State),
    1 ≤ R.frames ∧ 8 + (nativeFrameWords "java/lang/System" "arraycopy" 5 + 11) ≤ R.locals → ((rest.map (rv b base)).map fun v => v.category).sum ≤ 8 → GX γ D b base p l s m args meth c → RP s D b base μ H → ls.size = c.maxLocals → T.heap = H → Stand p l e R s m args below meth c T locs cells slots →
    ∃ (vm' : Vm) (nf : NFrame), nf.words = 0 ∧ nf.awaiting = false ∧ nf.locked = none ∧ Stand p l e R s m args below meth c (T.setVm vm') locs cells slots ∧ ∀ target, Steps p.tables e below ((T.setVm vm').setFrames (.throwNew cls msg none :: .native nf :: .java (F0 m pc ls (rest.map (rv b base))) :: below)) target → Steps p.tables e below (T.setTop (F0 m pc ls (sts.map (rv b base)))) target
section GLn
variable {γ : GG} {R : Room} {K : Option Value → Mem → Prop} {cells slots pc : Nat} {lc : List (Option Value)} {st sts rest : List Value} {μ : Mem}
theorem top_fr {p : Program} {l : Launch} {e : Env} {s : State} {m : MethodId} {args : Array Value} {below : List Frame} {meth : Method} {c : Code} {T : State} {locs : List Loc} (X : Stand p l e R s m args below meth c T locs cells slots) (g : JFrame) (f : Frame) : (T.setTop g).pushFrame f = T.setFrames (f :: .java g :: below) := by
  obtain ⟨g₀, hfr⟩ := X.frames_eq
  rw [State.pushFrame, State.frames_setTop _ hfr, State.setTop_of_frames _ hfr, State.setFrames_setFrames]
theorem gl_exMN {cls text : String} {names : List String} {h k : Nat} (hz : RzN γ pc sts rest μ cls (some text)) (hcls : Bundle.fit cls = true) (hnames : ∀ n ∈ names, Bundle.fit n = true) (hsoe : (cls == "java/lang/StackOverflowError") = false) (hoom : (cls == "java/lang/OutOfMemoryError") = false) (harm : armOk (Bundle.messageArmAtoms cls names) = true) (htext : (text == notModelled) = false) (hlen : (stringBytes (stringToUtf16 text)).size ≤ k) (hk : k ≤ 100000) (hroom : Nat.ble (rest.map fun v => v.category).sum 8 = true) (hn10 : names.length ≤ 4) (hR : 10 ≤ R.frames ∧ 10248 ≤ R.locals) (hc : cells + 3 ≤ R.cells) (hs : slots + (k + 10) ≤ R.slots) (hpos : 1 ≤ μ.1) (hex : γ.2.2.2.2.2 ≠ []) (hsr : Sr γ cls pc h) (kk : GL γ R K (cells + 3) (slots + (k + 10)) h lc [.ref (μ.1 + 2)] (μ.1 + 3, μ.2)) : GL γ R K cells slots pc lc sts μ := fun p l e s m args below meth c D b base H locs ls X P S L => by
  intro T hT X0
  have hls : ls.size = c.maxLocals := L.1.trans X.ml.symm
  have hr8 : ((rest.map (rv b base)).map fun v => v.category).sum ≤ 8 := by rw [rv_cats]; exact Nat.le_of_ble_eq_true hroom
  have hw18 : nativeFrameWords "java/lang/System" "arraycopy" 5 = 7 := by decide
  obtain ⟨vm1, nf, n1, n2, n3, X1, st1⟩ := hz p l e R s m args below meth c D b base H locs cells slots ls T ⟨by omega, by rw [hw18]; omega⟩ hr8 X P hls hT X0
  obtain ⟨T2, L2, ce, X2, hL2, hz2, ho2, hce, hcl, hvm, st2⟩ := ex_msgN X1 X.hx (noTrace X0.admits X.fl) hcls hnames hsoe hoom (arm_use X harm) X.nx.2.2.1 S.2.2 htext
    (by rw [Launch.admits_arrayLengthLimit X0.admits]; omega) (by rw [Launch.admits_maxHeapBytes X0.admits]; show ¬ _ * 1 > _; omega) (g := F0 m pc ls (rest.map (rv b base))) rfl hls n1 (by have := hR.1; omega) (by show 2 * 0 + _ + 10240 ≤ _; have := hR.2; show 2 * 0 + ((rest.map (rv b base)).map fun v => v.category).sum + 10240 ≤ _; omega) (by omega) hc (by omega) X.lks
  have hTs : (T.setVm vm1).heap = H := hT
  rw [hTs] at hL2 hz2 ho2 hce st2
  have hX := X.exc.resolve_left hex
  obtain ⟨vm2, X3, st3⟩ := ex_catch X2 (g := F0 m pc ls (rest.map (rv b base))) rfl X.own hce hcl hvm hX (hsr D b base p l s m args meth c X)
  have hsz : H.size + 1 = base + μ.1 := P.2.1
  have had : ad b base (μ.1 + 2) = H.size + 2 := by simp only [ad]; omega
  have hS' : va_S (fun q => base ≤ q) s.heap T2.heap (locs ++ L2) := ⟨Nat.le_trans S.1 (by omega), fun q h1 h2 => by rw [ho2 q (Nat.lt_of_lt_of_le h1 S.1)]; exact S.2.1 q h1 h2, fun q hq => by
    rcases List.mem_append.mp hq with h1 | h1
    · exact S.2.2 q h1
    · exact Nat.le_trans X.bs (Nat.le_trans S.1 (hL2 q h1))⟩
  have hw := W.widen (Nat.le_refl (cells + 3)) (show slots + ((stringBytes (stringToUtf16 text)).size + 4 + 6) ≤ slots + (k + 10) by omega) (kk p l e s m args below meth c D b base T2.heap (locs ++ L2) ls X (P.skip hz2 ho2) hS' L)
  obtain ⟨t, a1, b1⟩ := hw (T2.setVm vm2) rfl X3
  refine ⟨t, st1 _ (st2 _ (nat_pop (ov_at X2 _ nf) ⟨[.java _], rfl⟩ n2 n3 ?_)), b1⟩
  rw [← top_fr X2]
  refine st3 _ ?_
  rw [List.map_cons, show rv b base (.ref (μ.1 + 2)) = .ref (ad b base (μ.1 + 2)) from rfl, had] at a1
  exact a1
theorem gl_exNN {h : Nat} (hz : RzN γ pc sts rest μ "java/lang/NullPointerException" none) (hroom : Nat.ble (rest.map fun v => v.category).sum 8 = true) (hR : 10 ≤ R.frames ∧ 10248 ≤ R.locals) (hc : cells + 1 ≤ R.cells) (hs : slots + 8 ≤ R.slots) (hpos : 1 ≤ μ.1) (hex : γ.2.2.2.2.2 ≠ []) (hsr : Sr γ "java/lang/NullPointerException" pc h) (kk : GL γ R K (cells + 1) (slots + 8) h lc [.ref μ.1] (μ.1 + 1, μ.2)) : GL γ R K cells slots pc lc sts μ := fun p l e s m args below meth c D b base H locs ls X P S L => by
  intro T hT X0
  have hls : ls.size = c.maxLocals := L.1.trans X.ml.symm
  have hr8 : ((rest.map (rv b base)).map fun v => v.category).sum ≤ 8 := by rw [rv_cats]; exact Nat.le_of_ble_eq_true hroom
  have hw18 : nativeFrameWords "java/lang/System" "arraycopy" 5 = 7 := by decide
  obtain ⟨vm1, nf, n1, n2, n3, X1, st1⟩ := hz p l e R s m args below meth c D b base H locs cells slots ls T ⟨by omega, by rw [hw18]; omega⟩ hr8 X P hls hT X0
  obtain ⟨T2, L2, ce, X2, hL2, hz2, ho2, hce, hcl, hvm, st2⟩ := ex_npeN X1 X.hx (noTrace X0.admits X.fl) (n := 8) (arm_use X arm_NPE) X.nx.2.2.1 S.2.2
    (g := F0 m pc ls (rest.map (rv b base))) rfl hls n1 (by have := hR.1; omega) (by show 2 * 0 + _ + 10240 ≤ _; have := hR.2; show 2 * 0 + ((rest.map (rv b base)).map fun v => v.category).sum + 10240 ≤ _; omega) hc hs X.lks
  have hTs : (T.setVm vm1).heap = H := hT
  rw [hTs] at hL2 hz2 ho2 hce st2
  have hX := X.exc.resolve_left hex
  obtain ⟨vm2, X3, st3⟩ := ex_catch X2 (g := F0 m pc ls (rest.map (rv b base))) rfl X.own hce hcl hvm hX (hsr D b base p l s m args meth c X)
  have hsz : H.size + 1 = base + μ.1 := P.2.1
  have had : ad b base μ.1 = H.size := by
    obtain ⟨j, hj⟩ : ∃ j, μ.1 = j + 1 := ⟨μ.1 - 1, by omega⟩
    rw [hj]; rw [hj] at hsz; simp only [ad]; omega
  have hS' : va_S (fun q => base ≤ q) s.heap T2.heap (locs ++ L2) := ⟨Nat.le_trans S.1 (by omega), fun q h1 h2 => by rw [ho2 q (Nat.lt_of_lt_of_le h1 S.1)]; exact S.2.1 q h1 h2, fun q hq => by
    rcases List.mem_append.mp hq with h1 | h1
    · exact S.2.2 q h1
    · exact Nat.le_trans X.bs (Nat.le_trans S.1 (hL2 q h1))⟩
  obtain ⟨t, a1, b1⟩ := kk p l e s m args below meth c D b base T2.heap (locs ++ L2) ls X (P.skip hz2 ho2) hS' L (T2.setVm vm2) rfl X3
  refine ⟨t, st1 _ (st2 _ (nat_pop (ov_at X2 _ nf) ⟨[.java _], rfl⟩ n2 n3 ?_)), b1⟩
  rw [← top_fr X2]
  refine st3 _ ?_
  rw [List.map_cons, show rv b base (.ref μ.1) = .ref (ad b base μ.1) from rfl, had] at a1
  exact a1
end GLn
/-- what arraycopy says of two arrays of ints, if it refuses -/
def cpF (sl dl : Nat) (sp dp n : Int32) : Option String :=
  if sp < 0 then some (toString "source index " ++ toString sp ++ toString " out of bounds for " ++ toString (toString (Native.java_lang_System.arraycopy.kindName .int) ++ toString "[" ++ toString sl ++ toString "]"))
  else if dp < 0 then some (toString "destination index " ++ toString dp ++ toString " out of bounds for " ++ toString (toString (Native.java_lang_System.arraycopy.kindName .int) ++ toString "[" ++ toString dl ++ toString "]"))
  else if n < 0 then some (toString "length " ++ toString n ++ toString " is negative")
  else if sp.toInt + n.toInt > sl then some (toString "last source index " ++ toString (sp.toInt + n.toInt) ++ toString " out of bounds for " ++ toString (toString (Native.java_lang_System.arraycopy.kindName .int) ++ toString "[" ++ toString sl ++ toString "]"))
  else if dp.toInt + n.toInt > dl then some (toString "last destination index " ++ toString (dp.toInt + n.toInt) ++ toString " out of bounds for " ++ toString (toString (Native.java_lang_System.arraycopy.kindName .int) ++ toString "[" ++ toString dl ++ toString "]"))
  else none
theorem cpF_len {sl dl : Nat} {sp dp n : Int32} {w : String} (hs : sl < 2 ^ 31) (hd : dl < 2 ^ 31) (h : cpF sl dl sp dp n = some w) : w.toList.length ≤ 68 := by
  have k0 : (Native.java_lang_System.arraycopy.kindName .int) = "int" := rfl
  have a3 := int32_print sp
  have a4 := int32_print dp
  have a5 := int32_print n
  have a6 := nat_print (n := sl) (by omega)
  have a7 := nat_print (n := dl) (by omega)
  have i1 := Int32.toInt_lt sp
  have i2 := Int32.toInt_lt dp
  have i3 := Int32.toInt_lt n
  have key : ∀ (A : String) (B : String) (k : Nat), A.toList.length ≤ 23 → B.toList.length ≤ 11 → (toString k).toList.length ≤ 10 → (A ++ B ++ " out of bounds for " ++ ("int" ++ "[" ++ toString k ++ "]")).toList.length ≤ 68 := fun A B k h1 h2 h3 => by
    simp only [String.toList_append, List.length_append]
    have b1 : " out of bounds for ".toList.length = 19 := by decide
    have b2 : "int".toList.length = 3 := by decide
    have b3 : "[".toList.length = 1 := by decide
    have b4 : "]".toList.length = 1 := by decide
    have b5 : "".toList.length = 0 := by decide
    omega
  have sum : ∀ z v : Int32, ¬ z < 0 → ¬ v < 0 → (toString (z.toInt + v.toInt)).toList.length ≤ 11 := fun z v hz hv => by
    have hz' : 0 ≤ z.toInt := by
      have : ¬ z.toInt < (0 : Int32).toInt := fun w => hz (Int32.lt_iff_toInt_lt.mpr w)
      simpa using this
    have hv' : 0 ≤ v.toInt := by
      have : ¬ v.toInt < (0 : Int32).toInt := fun w => hv (Int32.lt_iff_toInt_lt.mpr w)
      simpa using this
    have u1 := Int32.toInt_lt z
    have u2 := Int32.toInt_lt v
    obtain ⟨q, hq⟩ : ∃ q : Nat, z.toInt + v.toInt = (q : Int) := ⟨(z.toInt + v.toInt).toNat, by omega⟩
    rw [hq]
    show (toString q).toList.length ≤ 11
    have := nat_print (n := q) (by omega)
    omega
  unfold cpF at h
  rw [k0] at h
  split at h
  · cases h; exact key "source index " _ _ (by decide) a3 a6
  split at h
  · cases h; exact key "destination index " _ _ (by decide) a4 a7
  split at h
  · cases h
    show (toString "length " ++ toString n ++ toString " is negative").toList.length ≤ 68
    simp only [String.toList_append, List.length_append]
    have b1 : (toString "length ").toList.length = 7 := by decide
    have b2 : (toString " is negative").toList.length = 12 := by decide
    omega
  split at h
  · rename_i z1 z2 z3 z4
    cases h; exact key "last source index " _ _ (by decide) (sum _ _ z1 z3) a6
  split at h
  · rename_i z1 z2 z3 z4 z5
    cases h; exact key "last destination index " _ _ (by decide) (sum _ _ z2 z3) a7
  · cases h
theorem cpT_b {sl dl : Nat} {sp dp n : Int32} {w : String} (hs : sl < 2 ^ 31) (hd : dl < 2 ^ 31) (h : cpF sl dl sp dp n = some w) : (stringBytes (stringToUtf16 ("arraycopy: " ++ w))).size ≤ 316 := by
  have b1 := stringBytes_size_le (stringToUtf16 ("arraycopy: " ++ w))
  have b2 := utf16_size_le ("arraycopy: " ++ w)
  have b3 := cpF_len hs hd h
  rw [String.toList_append, List.length_append] at b2
  have b4 : "arraycopy: ".toList.length = 11 := by decide
  omega
theorem cpT_m (w : String) : (("arraycopy: " ++ w) == notModelled) = false := by
  rw [beq_eq_false_iff_ne]
  intro h
  have h2 := congrArg String.toList h
  rw [String.toList_append] at h2
  have h3 : "arraycopy: ".toList = 'a' :: "rraycopy: ".toList := by decide
  have h4 : notModelled.toList = '\u0000' :: " a message that is not modelled".toList := by decide
  rw [h3, h4] at h2
  simp at h2
section NTw
variable {Q : Option Value → Pre} {E : CtlPost} {e : Env} {d : Bool} {acts : List Action} {s : State}
theorem cp_n1 (sp dp n : Int32) (v : Value) (hE : E (.throwNew "java/lang/NullPointerException" none) acts s) : wp (Native.java_lang_System.arraycopy.sem #[.null, .int sp, v, .int dp, .int n]) Q E e d acts s := by
  show wp (do Jvm.mark "nat.java_lang_System.arraycopy/null"; Jvm.throwNew "java/lang/NullPointerException") Q E e d acts s
  simp only [wp_bind', W.mark, W.throwNew]
  exact hE
theorem cp_n2 (a : Addr) (sp dp n : Int32) (hE : E (.throwNew "java/lang/NullPointerException" none) acts s) : wp (Native.java_lang_System.arraycopy.sem #[.ref a, .int sp, .null, .int dp, .int n]) Q E e d acts s := by
  show wp (do Jvm.mark "nat.java_lang_System.arraycopy/null"; Jvm.throwNew "java/lang/NullPointerException") Q E e d acts s
  simp only [wp_bind', W.mark, W.throwNew]
  exact hE
theorem cp_b {a b : Addr} {sp dp n : Int32} {cs cd : Cell} {ks kd : Class} {k0 k1 : ClassId} {w : String} (hs : s.heap[a]? = some cs) (hd : s.heap[b]? = some cd) (ho : ∀ k, cs.vm ≠ .statics k) (hp : ∀ k, cd.vm ≠ .statics k)
    (hks : s.vm.classes[cs.cls]? = some ks) (hkd : s.vm.classes[cd.cls]? = some kd) (h0 : ks.kind = .array k0 .int) (h1 : kd.kind = .array k1 .int) (hf : cpF cs.slots.size cd.slots.size sp dp n = some w)
    (hE : E (.throwNew "java/lang/ArrayIndexOutOfBoundsException" (some ("arraycopy: " ++ w))) acts s) : wp (Native.java_lang_System.arraycopy.sem #[.ref a, .int sp, .ref b, .int dp, .int n]) Q E e d acts s := by
  rw [Native.java_lang_System.arraycopy.sem_refs]
  unfold Native.java_lang_System.arraycopy.behind
  simp only [wp_bind', W.classOf, W.theClass, hs, hd, hks, hkd, Option.some.injEq, exists_eq_left', h0, h1]
  refine ⟨ho, hp, ?_⟩
  simp only [bne_self_eq_false, Bool.and_false, Bool.or_false, Bool.false_eq_true, if_false]
  simp only [wp_bind', W.sizeOf, hs, hd, Option.some.injEq, exists_eq_left']
  unfold cpF at hf
  rw [hf]
  simp only [wp_bind', W.mark, W.throwNew]
  exact hE
end NTw
section NTz
variable {γ : GG} {pc index : Nat} {st : List Value} {μ : Mem}
/-- the call of arraycopy at pc, where the native throws -/
theorem rzn_of {a b : Value} {sp dp n : Int32} {cls : String} {msg : Option String} (hd : decode γ.2.1 pc = .ok (.invokestatic index, 3)) (hlink : Cond.methodLink γ.1 index arraycopyName ∈ lw_all)
    (how : ∀ bb base : Nat, operandWords [rv bb base a, .int sp, rv bb base b, .int dp, .int n] = 5)
    (hw : ∀ (l : Launch) (s : State) (m : MethodId) (args : Array Value) (meth : Method) (c : Code) (p : Program) (D : va_G) (bb base : Nat) (H : Heap) (e : Env), GX γ D bb base p l s m args meth c → RP s D bb base μ H → ∀ (u : State) (vm : Vm), u.heap = H → s.vm.Alike u.vm → ∀ E : CtlPost, (∀ acts', E (.throwNew cls msg) acts' u) → wp (Native.java_lang_System.arraycopy.sem #[rv bb base a, .int sp, rv bb base b, .int dp, .int n]) (fun _ _ _ _ => False) E e false [] u) :
    RzN γ pc (.int n :: .int dp :: b :: .int sp :: a :: st) st μ cls msg := fun p l e R s m args below meth c D bb base H locs cells slots ls T hR h8 X P hls hT X0 => by
  obtain ⟨r, kS, methS, hnS, hmS, hkS, N⟩ := NativeOf.of_static (X.hts _ q373) (X.hts _ q372) (ps := [.object "java/lang/Object", .int, .object "java/lang/Object", .int, .int]) (ret := none) (by decide +kernel)
  have hinitS : kS.init = .initialized := Cond.initialized_spec (findClass_of_methodNamed hnS) hkS (X.hts _ q84)
  obtain ⟨vm', X', step⟩ := X0.invokestatic X.hx X.own (X.hts _ hlink) hnS hmS N.static hkS hinitS (by decide) (g := F0 m pc ls ((.int n :: .int dp :: b :: .int sp :: a :: st).map (rv bb base))) rfl (argsL := [rv bb base a, .int sp, rv bb base b, .int dp, .int n]) (rest := st.map (rv bb base)) (by rw [N.sig]; rfl) rfl (by rw [X.hb]; exact hd)
  have hA' : s.vm.Alike vm' := X'.warmed.alike
  obtain ⟨kS', N'⟩ := N.alike hA'
  have hseen : seenByNative methS #[rv bb base a, .int sp, rv bb base b, .int dp, .int n] = #[rv bb base a, .int sp, rv bb base b, .int dp, .int n] := by
    simp [seenByNative, N.static, N.sig, narrow]
  have how := how bb base
  refine ⟨vm', { method := r, args := #[rv bb base a, .int sp, rv bb base b, .int dp, .int n], locked := none }, rfl, rfl, rfl, X', fun target hrest => step target fun acts => ?_⟩
  refine nat_thr (row := arraycopyRow) (g := F0 m pc ls (st.map (rv bb base))) (cls := cls) (msg := msg) X'.here acts N'.cls N'.meth N'.boot N'.native N'.noCode N'.noLock (by rw [N'.className, N'.name, N'.desc]; exact arraycopy_row p)
    (by rw [N'.className, N'.name, how]; exact X'.notFull (g := F0 m pc ls (st.map (rv bb base))) hls (vars := nativeFrameWords "java/lang/System" "arraycopy" 5) hR.1 (by show 2 * 0 + ((st.map (rv bb base)).map fun v => v.category).sum + _ ≤ _; have := hR.2; omega)) ?_ ?_
  · intro u hu hv E hE
    rw [hseen, arraycopyRow_sem]
    exact hw l s m args meth c p D bb base H e X P u vm' (hu.trans hT) (by rw [hv]; exact hA') E hE
  · rw [hseen]
    obtain ⟨g₀, hfr⟩ := X'.frames_eq
    have h1 := top_fr X' (F0 m pc ls (st.map (rv bb base))) (.native { method := r, args := #[rv bb base a, .int sp, rv bb base b, .int dp, .int n], locked := none })
    have e1 : (((T.setVm vm').setTop (F0 m pc ls (st.map (rv bb base)))).pushFrame (.native { method := r, args := #[rv bb base a, .int sp, rv bb base b, .int dp, .int n], locked := none })).pushFrame (.throwNew cls msg none) = (T.setVm vm').setFrames (.throwNew cls msg none :: .native { method := r, args := #[rv bb base a, .int sp, rv bb base b, .int dp, .int n], locked := none } :: .java (F0 m pc ls (st.map (rv bb base))) :: below) := by
      rw [h1, State.pushFrame, State.frames_setFrames _ (State.cur_lt_of_frames hfr), State.setFrames_setFrames]
    rw [e1]
    exact hrest
theorem rzn_n1 {b : Value} {sp dp n : Int32} (hb : (∃ k, b = .ref k) ∨ b = .null) (hd : decode γ.2.1 pc = .ok (.invokestatic index, 3)) (hlink : Cond.methodLink γ.1 index arraycopyName ∈ lw_all) : RzN γ pc (.int n :: .int dp :: b :: .int sp :: .null :: st) st μ "java/lang/NullPointerException" none :=
  rzn_of hd hlink (fun _ _ => by rcases hb with ⟨k, rfl⟩ | rfl <;> rfl) fun _ _ _ _ _ _ _ _ _ _ _ _ _ _ u _ _ _ E hE => cp_n1 sp dp n _ (hE _)
theorem rzn_n2 {a : Nat} {sp dp n : Int32} (hd : decode γ.2.1 pc = .ok (.invokestatic index, 3)) (hlink : Cond.methodLink γ.1 index arraycopyName ∈ lw_all) : RzN γ pc (.int n :: .int dp :: .null :: .int sp :: .ref a :: st) st μ "java/lang/NullPointerException" none :=
  rzn_of hd hlink (fun _ _ => rfl) fun _ _ _ _ _ _ _ _ _ _ _ _ _ _ u _ _ _ E hE => cp_n2 _ sp dp n (hE _)
theorem rzn_b {n0 n1 k0 k1 : Nat} {f g : Nat → Int32} {sp dp n : Int32} {w : String} (hd : decode γ.2.1 pc = .ok (.invokestatic index, 3)) (hlink : Cond.methodLink γ.1 index arraycopyName ∈ lw_all) (hl0 : lk μ n0 = some (.inl (0, k0, f))) (hl1 : lk μ n1 = some (.inl (0, k1, g))) (hw : cpF k0 k1 sp dp n = some w) : RzN γ pc (.int n :: .int dp :: .ref n1 :: .int sp :: .ref n0 :: st) st μ "java/lang/ArrayIndexOutOfBoundsException" (some ("arraycopy: " ++ w)) :=
  rzn_of hd hlink (fun _ _ => rfl) fun l s m args meth c p D bb base H e X P u _ hu hA E hE => by
    obtain ⟨c0, a0, b0, d0⟩ := P.2.2.2 _ _ hl0
    obtain ⟨c1, a1, b1, d1⟩ := P.2.2.2 _ _ hl1
    obtain ⟨-, q0, hq0, cm0, hkk0⟩ := b0 k0 (fun j => .int (f j))
    obtain ⟨-, q1, hq1, cm1, hkk1⟩ := b1 k1 (fun j => .int (g j))
    obtain ⟨r0, hr0, es⟩ := hA.2.2 _ _ hq0
    obtain ⟨r1, hr1, ed⟩ := hA.2.2 _ _ hq1
    exact cp_b (cs := arrV c0 k0 (fun j => .int (f j))) (cd := arrV c1 k1 (fun j => .int (g j))) (by rw [hu]; exact a0) (by rw [hu]; exact a1) (fun _ h => by cases h) (fun _ h => by cases h) hr0 hr1 (by rw [es]; exact hkk0) (by rw [ed]; exact hkk1) (by rw [arrV_size, arrV_size]; exact hw) (hE _)
end NTz

