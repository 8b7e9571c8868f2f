/-! AN EXCEPTION OF A NATIVE: its frame lies between the maker of the exception and the caller's frame -/
set_option maxRecDepth 100000
/-- s may go on over the frames base, which end in below -/
def Ov (s : State) (base below : List Frame) : Prop := s.goesOn ∧ s.cur < s.threads.size ∧ ∃ mid, base = mid ++ below
section OVa
variable {below base : List Frame} {W S : State}
theorem ov_in (h : Ov W base below) (a : Addr) (f : JFrame) {m : MethodId} {meth : Method} {code : Code} (hm : W.vm.method? m = some meth) (hc : meth.code = some code) (hp : W.plainMethod m) :
    (W.setFrames (.thenThrow a :: base)).frames = .thenThrow a :: base ∧ At ((W.setFrames (.thenThrow a :: base)).pushFrame (.java f)) m code below ∧ ((W.setFrames (.thenThrow a :: base)).pushFrame (.java f)).frames = .java f :: .thenThrow a :: base := by
  obtain ⟨hgo, hcur, mid, hmid⟩ := h
  have h1 : (W.setFrames (.thenThrow a :: base)).frames = .thenThrow a :: base := State.frames_setFrames _ hcur
  have h2 := State.cur_lt_of_frames h1
  refine ⟨h1, At.pushOn f ⟨hgo.1, by simpa using hgo.2.1, by simpa using hgo.2.2⟩ h2 ⟨.thenThrow a :: mid, by rw [h1, hmid]; rfl⟩ hm hc hp, ?_⟩
  exact (State.frames_setFrames _ h2).trans (by rw [h1])
theorem ov_ret {tb : Tables} [Ours tb] {e : Env} {target : State} (h : Ov W base below) (hexec : tb.exec = Jvm.exec) {H : State → State} (hH : HeapOnly H) (a : Addr) {f f' : JFrame} {m : MethodId} {meth : Method} {code : Code} (hf' : f'.method = m)
    (hm : W.vm.method? m = some meth) (hc : meth.code = some code) (hp : W.plainMethod m) (hl : meth.locks = false) (hd : decode code.code f'.pc = .ok (.return_, 1)) (hlo : f'.locked = none) (hen : f'.entered = []) (hst : f'.stack = [])
    (hr : Steps tb e below ((H W).setFrames (.throwing a :: base)) target) :
    Steps tb e below ((H ((W.setFrames (.thenThrow a :: base)).pushFrame (.java f))).setTop f') target := by
  obtain ⟨h1, h2, h3⟩ := ov_in h a f hm hc hp
  obtain ⟨hgo, hcur, mid, hmid⟩ := h
  subst hf'
  have hB := hH.at_ h2
  have hfr := (hH.frames ((W.setFrames (.thenThrow a :: base)).pushFrame (.java f))).trans h3
  obtain ⟨fm, fpc, flo, fst, flk, fen, fmr⟩ := f'
  simp only at hst hlo hen hd
  subst hst hlo hen
  jvm_step hB [hexec, hd, return_.wp_sem]
  intro acts2
  rw [ret_to (fs := .thenThrow a :: base) hfr (by rw [hH.vm]; exact hm) hl rfl rfl rfl acts2]
  have hc2 := State.cur_lt_of_frames hfr
  have hf1 : ((H ((W.setFrames (.thenThrow a :: base)).pushFrame (.java f))).setFrames (.thenThrow a :: base)).frames = .thenThrow a :: base := State.frames_setFrames _ hc2
  refine Steps.head ⟨hB.running, by simpa using hB.runnable, by simpa using hB.alone⟩ ⟨.thenThrow a :: mid, by rw [hf1, hmid]; rfl, by simp, by simp⟩ ?_
  rw [stepThread_thenThrow hf1]
  show Steps tb e below (((H ((W.setFrames (.thenThrow a :: base)).pushFrame (.java f))).setFrames (.thenThrow a :: base)).setFrames (.throwing a :: base)) target
  rw [State.setFrames_setFrames, State.pushFrame, hH.setFrames, hH.setFrames, State.setFrames_setFrames, State.setFrames_setFrames]
  exact hr
end OVa
section OVst
variable {p : Program} {l : Launch} {e : Env} {R : Room} {s : State} {m : MethodId} {args : Array Value} {below : List Frame} {meth : Method} {c : Code} {T : State} {locs : List Loc} {cells slots : Nat}
theorem ov_at (X : Stand p l e R s m args below meth c T locs cells slots) (g : JFrame) (nf : NFrame) : Ov T (.native nf :: .java g :: below) below := by
  obtain ⟨g₀, hfr⟩ := X.frames_eq
  exact ⟨⟨X.here.running, X.here.runnable, X.here.alone⟩, State.cur_lt_of_frames hfr, [.native nf, .java g], rfl⟩
theorem ov_words (X : Stand p l e R s m args below meth c T locs cells slots) {g : JFrame} (hsize : g.locals.size = c.maxLocals) {nf : NFrame} (hnf : nf.words = 0) {K : Nat} (hK : 2 * g.monitorRoom + (g.stack.map fun v => v.category).sum + K ≤ R.locals) : (stackUse (.native nf :: .java g :: below)).2 + K ≤ (e.platform.stackLimits T.me).2 := by
  have h := X.stackAbove hsize hK
  rw [X.tail] at h
  rw [stackUse_light (.native nf) _ (fun f hf => by cases hf) hnf]
  exact h
theorem ov_frames (X : Stand p l e R s m args below meth c T locs cells slots) (g : JFrame) (nf : NFrame) {n : Nat} (hn : n + 1 < R.frames) : below.length + 2 + n < (e.platform.stackLimits T.me).1 := by
  have h := X.framesAbove hn
  obtain ⟨g₀, hfr⟩ := X.frames_eq
  rw [hfr, List.length_cons] at h
  omega
theorem ov_may (X : Stand p l e R s m args below meth c T locs cells slots) {g : JFrame} (hsize : g.locals.size = c.maxLocals) {nf : NFrame} (hnf : nf.words = 0) (note : Frame) (hnote : ∀ f, note ≠ .java f) (hw : note.words = 0) (hK : 2 * g.monitorRoom + (g.stack.map fun v => v.category).sum + 10240 ≤ R.locals) :
    e.platform.stackBeyond ((((T.setFrames (note :: .native nf :: .java g :: below)).threads[T.cur]?).map (·.stackBytes)).getD 0) (T.setFrames (note :: .native nf :: .java g :: below)).frames = false ∧ e.platform.vmThrowRoom ≤ e.platform.stackFree ((((T.setFrames (note :: .native nf :: .java g :: below)).threads[T.cur]?).map (·.stackBytes)).getD 0) (T.setFrames (note :: .native nf :: .java g :: below)).frames := by
  obtain ⟨g₀, hfr⟩ := X.frames_eq
  have hb : ((((T.setFrames (note :: .native nf :: .java g :: below)).threads[T.cur]?).map (·.stackBytes)).getD 0) = T.me.stackBytes := (State.stackBytes_me (T.setFrames (note :: .native nf :: .java g :: below))).trans (State.stackBytes_setFrames T _)
  have hA := ov_words X hsize hnf hK
  have hl : (e.platform.stackLimits T.me).2 = (e.platform.limitsFor T.me.stackBytes).2 := rfl
  rw [hb, State.frames_setFrames _ (State.cur_lt_of_frames hfr), Launch.admits_vmThrowRoom X.admits]
  unfold Platform.stackBeyond Platform.stackFree
  rw [stackUse_light _ _ hnote hw]
  exact ⟨decide_eq_false (by omega), by omega⟩
end OVst
section OVm
variable {p : Program} {e : Env} {below base : List Frame} {s₀ W S : State}
theorem ov_push {f : JFrame} {fs : List Frame} {w v : Vm} : (((W.setVm v).setFrames fs).pushFrame (.java f)).setVm w = ((W.setVm w).setFrames fs).pushFrame (.java f) := by
  rw [State.pushFrame_setVm, State.setFrames_setVm, State.setVm_twice]
theorem ov_room {free vars : Nat} {a : Addr} {lim : Nat × Nat} (hf : (W.setFrames (.thenThrow a :: base)).frames = .thenThrow a :: base) (hlim : e.platform.stackLimits W.me = lim) (h1 : base.length + 2 < lim.1) (h2 : (stackUse base).2 + free ≤ lim.2) (h3 : vars + 11 ≤ free) :
    e.platform.stackFull (((W.setFrames (.thenThrow a :: base)).threads[(W.setFrames (.thenThrow a :: base)).cur]?).getD { frames := [] }) (W.setFrames (.thenThrow a :: base)).frames vars = false :=
  roomAbove (pl := e.platform) (u := W.setFrames (.thenThrow a :: base)) (vars := vars) (pushed := [.thenThrow a]) (base := base) (free := free) (lim := lim) hf (by rw [State.stackLimits_setFrames]; exact hlim)
    (by simp only [List.length_cons, List.length_nil]; omega) (by omega) (by rw [stackUse_light _ _ (fun f hf => by cases hf) rfl, stackUse_nil]; show 0 + vars + 11 ≤ _; omega)
set_option maxHeartbeats 1000000 in
/-- the constructor with a text, run over base -/
theorem ov_ctorS (p : Program) {self str : Addr} (h : Ov W base below) (hexec : p.tables.exec = Jvm.exec)
    (T : ThrowableC) (L : T.Links e.platform s₀) (Z : Init0T) (LZ : Z.LaidS T.toThrowableT) (M : MsgC) (LM : M.Links T e.platform s₀) (hW : s₀.WarmedH W.vm) {t : ThreadId} (ht : W.cur = t)
    {u0 sen : RefV} {cell cellS : Cell}
    (hcell : W.heap[self]? = some cell) (hobj : ∀ k, cell.vm ≠ .statics k) (hknown : cell.vm ≠ .unknown) (hfree : cell.monitor.owner = none)
    (hsel0 : selectMethod e.platform s₀.vm cell.cls T.fill0 = .method T.fill0)
    (hcellS : W.heap[T.aS]? = some cellS) (hneS : T.aS ≠ self) (hknownS : cellS.vm ≠ .unknown) (hvU : cellS.slots[T.fUnassigned.slot]? = some u0.v)
    (htS : Takes s₀ cell T.fStack u0.v)
    (hskip : SkipFacts T e.platform s₀ (fun u => u) u0 ((preparedCellV T.toThrowableT cell self u0 sen).withEntry t))
    (hnat : u0.v ≠ .null → ∀ u : State, At u T.fill T.codeFill below → s₀.WarmedH u.vm → u.heap[self]? = some ((preparedCellV T.toThrowableT cell self u0 sen).withEntry t) →
      e.platform.stackFull (((u.setTop (fillJ T.fill self 16 [])).threads[(u.setTop (fillJ T.fill self 16 [])).cur]?).getD { frames := [] }) (u.setTop (fillJ T.fill self 16 [])).frames (nativeFrameWords "java/lang/Throwable" "fillInStackTrace" 2) = false → ∀ t' : State,
      Steps p.tables e below (u.setTop (fillJ T.fill self 19 [.ref self])) t' →
      Steps p.tables e below (doInvoke e (u.setTop (fillJ T.fill self 16 [])) [] T.fill0 #[.ref self, .int 0]).1 t')
    (hselF : selectMethod e.platform s₀.vm cell.cls T.fill = .method T.fill) (hvSen : cellS.slots[T.fSentinel.slot]? = some sen.v)
    (htC : Takes s₀ cell T.fCause (.ref self)) (htP : Takes s₀ cell T.fSupp sen.v) (htM : Takes s₀ cell T.fMsg (.ref str)) (hobjLocals : T.codeObj.maxLocals = 1)
    (P1 : PassC) (L1 : P1.LinksS e.platform s₀) (Ps : List PassC) (hL : ∀ P, P ∈ Ps → P.LinksS e.platform s₀) (hlink1 : P1.sup = firstOf (Z.m T.toThrowableT) (Ps.map (·.toPassT))) (hlink : PassesOn (Z.m T.toThrowableT) (Ps.map (·.toPassT)))
    {lim : Nat × Nat} (hlim : e.platform.stackLimits W.me = lim) (hframes : base.length + Ps.length + 4 < lim.1) (hwords : (stackUse base).2 + (13 * Ps.length + 55) ≤ lim.2) :
    ∃ vm', s₀.WarmedH vm' ∧ ∀ target, Steps p.tables e below (((W.setVm vm').setCell self ((((preparedCellV T.toThrowableT cell self u0 sen).withEntry t).setSlot T.fStack.slot u0.v).left.setSlot T.fMsg.slot (.ref str))).setFrames (.throwing self :: base)) target →
      Steps p.tables e below (doInvoke e (W.setFrames (.thenThrow self :: base)) [] P1.m #[.ref self, .ref str]).1 target := by
  have hmW := hW.methodAt L1.method
  obtain ⟨hfN, hI, hfI⟩ := ov_in h self (passJ P1.m self (.ref str) 0 []) hmW L1.code (hW.plainAt L1.plain)
  have hroom := ov_room (e := e) (vars := 2) hfN hlim (by omega) hwords (by omega)
  obtain ⟨vm1, hW1, st1⟩ := Steps.invokeInitCold (tb := p.tables) (s₀ := s₀) (U := ((W.setFrames (.thenThrow self :: base)).pushFrame (.java (passJ P1.m self (.ref str) 0 [])))) (f := passJ P1.m self (.ref str) 2 [.ref str, .ref self]) (args := [.ref str]) (rest := []) (a := self) hI hexec L1.at2 hW L1.links L1.right L1.notHandle L1.cls L1.file L1.pool
    L1.supClass L1.supMethod L1.supName L1.supStatic L1.supAbstract L1.supFound L1.supParams.symm rfl
  have hI1 : At (((W.setVm vm1).setFrames (.thenThrow self :: base)).pushFrame (.java (passJ P1.m self (.ref str) 0 []))) P1.m P1.code below := (hI.setVm (hW.alike.symm.trans hW1.alike))
  have h1 : Ov (W.setVm vm1) base below := h
  obtain ⟨-, -, hXfr⟩ := ov_in h1 self (passJ P1.m self (.ref str) 0 []) (hW1.methodAt L1.method) L1.code (hW1.plainAt (U := W.setVm vm1) L1.plain)
  have key : ∃ vm2, s₀.WarmedH vm2 ∧ ∀ t' : State, Steps p.tables e below ((((((W.setVm vm1).setFrames (.thenThrow self :: base)).pushFrame (.java (passJ P1.m self (.ref str) 0 []))).setVm vm2).setCell self ((((preparedCellV T.toThrowableT cell self u0 sen).withEntry t).setSlot T.fStack.slot u0.v).left.setSlot T.fMsg.slot (.ref str))).setTop (passJ P1.m self (.ref str) 5 [])) t' →
      Steps p.tables e below (doInvoke e ((((W.setVm vm1).setFrames (.thenThrow self :: base)).pushFrame (.java (passJ P1.m self (.ref str) 0 []))).setTop (passJ P1.m self (.ref str) 2 [])) [] (firstOf (Z.m T.toThrowableT) (Ps.map (·.toPassT))) #[.ref self, .ref str]).1 t' := by
    have hXc : (((W.setVm vm1).setFrames (.thenThrow self :: base)).pushFrame (.java (passJ P1.m self (.ref str) 0 []))).heap[self]? = some cell := hcell
    have hXS : (((W.setVm vm1).setFrames (.thenThrow self :: base)).pushFrame (.java (passJ P1.m self (.ref str) 0 []))).heap[T.aS]? = some cellS := hcellS
    have hXcur : (((W.setVm vm1).setFrames (.thenThrow self :: base)).pushFrame (.java (passJ P1.m self (.ref str) 0 []))).cur = t := ht
    have hXW : s₀.WarmedH (((W.setVm vm1).setFrames (.thenThrow self :: base)).pushFrame (.java (passJ P1.m self (.ref str) 0 []))).vm := hW1
    have hXlim : e.platform.stackLimits (((W.setVm vm1).setFrames (.thenThrow self :: base)).pushFrame (.java (passJ P1.m self (.ref str) 0 []))).me = lim := by rw [State.stackLimits_pushFrame, State.stackLimits_setFrames]; exact hlim
    generalize (((W.setVm vm1).setFrames (.thenThrow self :: base)).pushFrame (.java (passJ P1.m self (.ref str) 0 []))) = X at hI1 hXfr hXc hXS hXcur hXW hXlim ⊢
    exact Steps.initThrowableSColdByV p (V := X) (g := passJ P1.m self (.ref str) 2 []) (c := P1.code) (self := self) hI1 hexec T L Z LZ M LM hXW hXcur heapOnly_id (fun _ _ => rfl) (fun _ => rfl) (fun u x y => setCell_twice _ _ _ _) (fun _ => Nat.le_refl _) (msg := .ref str) rfl hXc hobj hknown hfree hsel0 hXS hneS hknownS hvU htS
      (fun _ hu => hu) (fun _ hu => hu) rfl rfl rfl (by simp [preparedCellV, Cell.setSlot, Cell.withEntry]) hskip hnat hselF hvSen htC htP htM hobjLocals Ps hL hlink (ig := .invokespecial P1.index) (len := 3) [] hXlim
      (by rw [hXfr]; simp only [List.length_cons]; omega)
      (by rw [hXfr, List.tail_cons, stackUse_java, stackUse_light _ _ (fun f hf => by cases hf) rfl]
          show (stackUse base).2 + (2 + 11 + 2 * 0 + operandWords []) + 13 * Ps.length + 42 ≤ lim.2
          simp only [operandWords, List.foldl_nil]
          omega)
      L1.at2
  obtain ⟨vm2, hW2, st2⟩ := key
  refine ⟨vm2, hW2, fun target hrest => ?_⟩
  rw [(doInvoke_java (s := (W.setFrames (.thenThrow self :: base))) (e := e) (acts := []) (args := #[.ref self, .ref str]) (meth := P1.meth) (code := P1.code) hmW L1.code L1.locks (by rw [L1.locals]; exact hroom)).1, L1.locals]
  show Steps p.tables e below ((W.setFrames (.thenThrow self :: base)).pushFrame (.java (passJ P1.m self (.ref str) 0 []))) target
  rw [← State.setTop_self (s := ((W.setFrames (.thenThrow self :: base)).pushFrame (.java (passJ P1.m self (.ref str) 0 [])))) (State.topJava?_of_frames hfI)]
  jvm_step hI [hexec, L1.at0, Value.isRef]
  jvm_step hI [hexec, L1.at1, Value.isRef]
  refine st1 target ?_
  rw [hlink1]
  refine st2 target ?_
  rw [ov_push]
  have h2 : Ov (W.setVm vm2) base below := h
  exact ov_ret (H := fun u => u.setCell self ((((preparedCellV T.toThrowableT cell self u0 sen).withEntry t).setSlot T.fStack.slot u0.v).left.setSlot T.fMsg.slot (.ref str))) (W := W.setVm vm2) h2 hexec (heapOnly_id.thenSetCell self _) self rfl (hW2.methodAt L1.method) L1.code (hW2.plainAt (U := W.setVm vm2) L1.plain) L1.locks L1.at5 rfl rfl rfl hrest
set_option maxHeartbeats 1000000 in
/-- the constructor of NullPointerException, run over base -/
theorem ov_ctorN (p : Program) {self : Addr} (h : Ov W base below) (hexec : p.tables.exec = Jvm.exec)
    (T : ThrowableC) (L : T.Links e.platform s₀) (Z : Init0T) (LZ : Z.Laid T.toThrowableT) (N : NpeC) (LN : N.Links T e.platform s₀) (hW : s₀.WarmedH W.vm) {t : ThreadId} (ht : W.cur = t)
    {u0 sen : RefV} {cell cellS : Cell} {kcell : Class}
    (hcell : W.heap[self]? = some cell) (hobj : ∀ k, cell.vm ≠ .statics k) (hknown : cell.vm ≠ .unknown) (hfree : cell.monitor.owner = none)
    (hkcell : s₀.vm.classes[cell.cls]? = some kcell) (hsel0 : selectMethod e.platform s₀.vm cell.cls T.fill0 = .method T.fill0)
    (hcellS : W.heap[T.aS]? = some cellS) (hneS : T.aS ≠ self) (hknownS : cellS.vm ≠ .unknown) (hvU : cellS.slots[T.fUnassigned.slot]? = some u0.v)
    (hv0 : cell.slots[N.fState.slot]? = some (.int 0)) (hneC : T.fCause.slot ≠ N.fState.slot) (hneSt : T.fStack.slot ≠ N.fState.slot) (hneP : T.fSupp.slot ≠ N.fState.slot) (ht1 : Takes s₀ cell N.fState (.int 1))
    (htS : Takes s₀ cell T.fStack u0.v)
    (hskip : SkipFacts T e.platform s₀ (fun u => u) u0 ((npeCell N.toNpeT (preparedCellV T.toThrowableT cell self u0 sen) t).withEntry t))
    (hnat : u0.v ≠ .null → ∀ u : State, At u T.fill T.codeFill below → s₀.WarmedH u.vm → u.heap[self]? = some ((npeCell N.toNpeT (preparedCellV T.toThrowableT cell self u0 sen) t).withEntry t) →
      e.platform.stackFull (((u.setTop (fillJ T.fill self 16 [])).threads[(u.setTop (fillJ T.fill self 16 [])).cur]?).getD { frames := [] }) (u.setTop (fillJ T.fill self 16 [])).frames (nativeFrameWords "java/lang/Throwable" "fillInStackTrace" 2) = false → ∀ t' : State,
      Steps p.tables e below (u.setTop (fillJ T.fill self 19 [.ref self])) t' →
      Steps p.tables e below (doInvoke e (u.setTop (fillJ T.fill self 16 [])) [] T.fill0 #[.ref self, .int 0]).1 t')
    (hselF : selectMethod e.platform s₀.vm cell.cls T.fill = .method N.fill) (hvSen : cellS.slots[T.fSentinel.slot]? = some sen.v)
    (htC : Takes s₀ cell T.fCause (.ref self)) (htP : Takes s₀ cell T.fSupp sen.v) (hobjLocals : T.codeObj.maxLocals = 1)
    (P1 : PassC) (L1 : P1.Links0 e.platform s₀) (Ps : List PassC) (hL : ∀ P, P ∈ Ps → P.Links0 e.platform s₀) (hlink1 : P1.sup = firstOf (Z.m T.toThrowableT) (Ps.map (·.toPassT))) (hlink : PassesOn (Z.m T.toThrowableT) (Ps.map (·.toPassT)))
    {lim : Nat × Nat} (hlim : e.platform.stackLimits W.me = lim) (hframes : base.length + Ps.length + 5 < lim.1) (hwords : (stackUse base).2 + (13 * Ps.length + 68) ≤ lim.2) :
    ∃ vm', s₀.WarmedH vm' ∧ ∀ target, Steps p.tables e below (((W.setVm vm').setCell self ((((npeCell N.toNpeT (preparedCellV T.toThrowableT cell self u0 sen) t).withEntry t).setSlot T.fStack.slot u0.v).left.left)).setFrames (.throwing self :: base)) target →
      Steps p.tables e below (doInvoke e (W.setFrames (.thenThrow self :: base)) [] P1.m #[.ref self]).1 target := by
  have hmW := hW.methodAt L1.method
  obtain ⟨hfN, hI, hfI⟩ := ov_in h self (pass0J P1.m self 0 []) hmW L1.code (hW.plainAt L1.plain)
  have hroom := ov_room (e := e) (vars := 1) hfN hlim (by omega) hwords (by omega)
  obtain ⟨vm1, hW1, st1⟩ := Steps.invokeInitCold (tb := p.tables) (s₀ := s₀) (U := ((W.setFrames (.thenThrow self :: base)).pushFrame (.java (pass0J P1.m self 0 [])))) (f := pass0J P1.m self 1 [.ref self]) (args := []) (rest := []) (a := self) hI hexec L1.at1 hW L1.links L1.right L1.notHandle L1.cls L1.file L1.pool
    L1.supClass L1.supMethod L1.supName L1.supStatic L1.supAbstract L1.supFound L1.supParams.symm rfl
  have hI1 : At (((W.setVm vm1).setFrames (.thenThrow self :: base)).pushFrame (.java (pass0J P1.m self 0 []))) P1.m P1.code below := (hI.setVm (hW.alike.symm.trans hW1.alike))
  have h1 : Ov (W.setVm vm1) base below := h
  obtain ⟨-, -, hXfr⟩ := ov_in h1 self (pass0J P1.m self 0 []) (hW1.methodAt L1.method) L1.code (hW1.plainAt (U := W.setVm vm1) L1.plain)
  have key : ∃ vm2, s₀.WarmedH vm2 ∧ ∀ t' : State, Steps p.tables e below ((((((W.setVm vm1).setFrames (.thenThrow self :: base)).pushFrame (.java (pass0J P1.m self 0 []))).setVm vm2).setCell self ((((npeCell N.toNpeT (preparedCellV T.toThrowableT cell self u0 sen) t).withEntry t).setSlot T.fStack.slot u0.v).left.left)).setTop (pass0J P1.m self 4 [])) t' →
      Steps p.tables e below (doInvoke e ((((W.setVm vm1).setFrames (.thenThrow self :: base)).pushFrame (.java (pass0J P1.m self 0 []))).setTop (pass0J P1.m self 1 [])) [] (firstOf (Z.m T.toThrowableT) (Ps.map (·.toPassT))) #[.ref self]).1 t' := by
    have hXc : (((W.setVm vm1).setFrames (.thenThrow self :: base)).pushFrame (.java (pass0J P1.m self 0 []))).heap[self]? = some cell := hcell
    have hXS : (((W.setVm vm1).setFrames (.thenThrow self :: base)).pushFrame (.java (pass0J P1.m self 0 []))).heap[T.aS]? = some cellS := hcellS
    have hXcur : (((W.setVm vm1).setFrames (.thenThrow self :: base)).pushFrame (.java (pass0J P1.m self 0 []))).cur = t := ht
    have hXW : s₀.WarmedH (((W.setVm vm1).setFrames (.thenThrow self :: base)).pushFrame (.java (pass0J P1.m self 0 []))).vm := hW1
    have hXlim : e.platform.stackLimits (((W.setVm vm1).setFrames (.thenThrow self :: base)).pushFrame (.java (pass0J P1.m self 0 []))).me = lim := by rw [State.stackLimits_pushFrame, State.stackLimits_setFrames]; exact hlim
    generalize (((W.setVm vm1).setFrames (.thenThrow self :: base)).pushFrame (.java (pass0J P1.m self 0 []))) = X at hI1 hXfr hXc hXS hXcur hXW hXlim ⊢
    exact Steps.initNpe0ColdByV p (V := X) (g := pass0J P1.m self 1 []) (c := P1.code) (self := self) hI1 hexec T L Z LZ N LN hXW hXcur heapOnly_id (fun _ _ => rfl) (fun _ => rfl) (fun u x y => setCell_twice _ _ _ _) (fun _ => Nat.le_refl _) hXc hobj hknown hfree hkcell hsel0 hXS hneS hknownS hvU hv0 hneC hneSt hneP htS ht1
      (fun _ hu => hu) (fun _ hu => hu) rfl rfl rfl (by simp [npeCell, preparedCellV, Cell.setSlot, Cell.withEntry]) hskip hnat hselF hvSen htC htP hobjLocals Ps hL hlink (ig := .invokespecial P1.index) (len := 3) [] hXlim
      (by rw [hXfr]; simp only [List.length_cons]; omega)
      (by rw [hXfr, List.tail_cons, stackUse_java, stackUse_light _ _ (fun f hf => by cases hf) rfl]
          show (stackUse base).2 + (1 + 11 + 2 * 0 + operandWords []) + 13 * Ps.length + 55 ≤ lim.2
          simp only [operandWords, List.foldl_nil]
          omega)
      L1.at1
  obtain ⟨vm2, hW2, st2⟩ := key
  refine ⟨vm2, hW2, fun target hrest => ?_⟩
  rw [(doInvoke_java (s := (W.setFrames (.thenThrow self :: base))) (e := e) (acts := []) (args := #[.ref self]) (meth := P1.meth) (code := P1.code) hmW L1.code L1.locks (by rw [L1.locals]; exact hroom)).1, L1.locals]
  show Steps p.tables e below ((W.setFrames (.thenThrow self :: base)).pushFrame (.java (pass0J P1.m self 0 []))) target
  rw [← State.setTop_self (s := ((W.setFrames (.thenThrow self :: base)).pushFrame (.java (pass0J P1.m self 0 [])))) (State.topJava?_of_frames hfI)]
  jvm_step hI [hexec, L1.at0, Value.isRef]
  refine st1 target ?_
  rw [hlink1]
  refine st2 target ?_
  rw [ov_push]
  have h2 : Ov (W.setVm vm2) base below := h
  exact ov_ret (H := fun u => u.setCell self ((((npeCell N.toNpeT (preparedCellV T.toThrowableT cell self u0 sen) t).withEntry t).setSlot T.fStack.slot u0.v).left.left)) (W := W.setVm vm2) h2 hexec (heapOnly_id.thenSetCell self _) self rfl (hW2.methodAt L1.method) L1.code (hW2.plainAt (U := W.setVm vm2) L1.plain) L1.locks L1.at4 rfl rfl rfl hrest
theorem ov_msg (p : Program) (h : Ov S base below) (hexec : p.tables.exec = Jvm.exec)
    (T : ThrowableC) (L : T.Links e.platform s₀) (Z : Init0T) (LZ : Z.LaidS T.toThrowableT) (M : MsgC) (LM : M.Links T e.platform s₀) (hW : s₀.WarmedH S.vm) {t : ThreadId} (ht : S.cur = t) (Zs : StringT) (LZs : Zs.Laid s₀.vm)
    (P1 : PassC) (L1 : P1.LinksS e.platform s₀) (Ps : List PassC) (hL : ∀ P, P ∈ Ps → P.LinksS e.platform s₀) (hlink1 : P1.sup = firstOf (Z.m T.toThrowableT) (Ps.map (·.toPassT))) (hlink : PassesOn (Z.m T.toThrowableT) (Ps.map (·.toPassT)))
    {cls m : String} {kX : Class} (hsoe : (cls == "java/lang/StackOverflowError") = false) (hoom : (cls == "java/lang/OutOfMemoryError") = false)
    (hfound : s₀.vm.findClass cls = some P1.m.cls) (hk : s₀.vm.classes[P1.m.cls]? = some kX) (hinit : kX.init = .initialized) (hord : kX.kind = .ordinary)
    (hctor : kX.findMethod "<init>" "(Ljava/lang/String;)V" = some P1.m.idx) (hhot : e.platform.hotImplicitExceptions = false)
    (hbeyond : e.platform.stackBeyond ((((S.setFrames (.throwNew cls (some m) none :: base)).threads[S.cur]?).map (·.stackBytes)).getD 0) (S.setFrames (.throwNew cls (some m) none :: base)).frames = false)
    (hfreeW : e.platform.vmThrowRoom ≤ e.platform.stackFree ((((S.setFrames (.throwNew cls (some m) none :: base)).threads[S.cur]?).map (·.stackBytes)).getD 0) (S.setFrames (.throwNew cls (some m) none :: base)).frames)
    (hm : (m == notModelled) = false)
    (hlimit : ¬ (stringBytes (stringToUtf16 m)).size > e.platform.arrayLengthLimit) (hheap : ¬ (stringBytes (stringToUtf16 m)).size * componentBytes .byte > e.platform.maxHeapBytes)
    (hcells : S.heap.size + 3 ≤ e.platform.maxCells) (hslots : S.slotsUsed + (stringBytes (stringToUtf16 m)).size + Zs.kS.instanceTypes.size + kX.instanceTypes.size ≤ e.platform.maxSlots)
    (hfitv : s₀.fitsSlot Zs.cS .none Zs.fv.slot (.ref S.heap.size) = true) (hfitc : s₀.fitsSlot Zs.cS .none Zs.fc.slot (.int (stringCoder (stringToUtf16 m))) = true)
    {u0 sen : RefV} {cellS : Cell}
    (hsel0 : selectMethod e.platform s₀.vm (freshCell P1.m.cls kX).cls T.fill0 = .method T.fill0)
    (hcellS : S.heap[T.aS]? = some cellS) (hknownS : cellS.vm ≠ .unknown) (hvU : cellS.slots[T.fUnassigned.slot]? = some u0.v)
    (htS : Takes s₀ (freshCell P1.m.cls kX) T.fStack u0.v)
    (hskip : SkipFacts T e.platform s₀ (fun u => u) u0 ((preparedCellV T.toThrowableT (freshCell P1.m.cls kX) (S.heap.size + 2) u0 sen).withEntry t))
    (hnat : u0.v ≠ .null → ∀ u : State, At u T.fill T.codeFill below → s₀.WarmedH u.vm → u.heap[(S.heap.size + 2)]? = some ((preparedCellV T.toThrowableT (freshCell P1.m.cls kX) (S.heap.size + 2) u0 sen).withEntry t) →
      e.platform.stackFull (((u.setTop (fillJ T.fill (S.heap.size + 2) 16 [])).threads[(u.setTop (fillJ T.fill (S.heap.size + 2) 16 [])).cur]?).getD { frames := [] }) (u.setTop (fillJ T.fill (S.heap.size + 2) 16 [])).frames (nativeFrameWords "java/lang/Throwable" "fillInStackTrace" 2) = false → ∀ t' : State,
      Steps p.tables e below (u.setTop (fillJ T.fill (S.heap.size + 2) 19 [.ref (S.heap.size + 2)])) t' →
      Steps p.tables e below (doInvoke e (u.setTop (fillJ T.fill (S.heap.size + 2) 16 [])) [] T.fill0 #[.ref (S.heap.size + 2), .int 0]).1 t')
    (hselF : selectMethod e.platform s₀.vm (freshCell P1.m.cls kX).cls T.fill = .method T.fill) (hvSen : cellS.slots[T.fSentinel.slot]? = some sen.v)
    (htC : Takes s₀ (freshCell P1.m.cls kX) T.fCause (.ref (S.heap.size + 2))) (htP : Takes s₀ (freshCell P1.m.cls kX) T.fSupp sen.v) (htM : Takes s₀ (freshCell P1.m.cls kX) T.fMsg (.ref (S.heap.size + 1))) (hobjLocals : T.codeObj.maxLocals = 1)
    {lim : Nat × Nat} (hlim : e.platform.stackLimits S.me = lim) (hframes : base.length + Ps.length + 4 < lim.1) (hwords : (stackUse base).2 + (13 * Ps.length + 55) ≤ lim.2) :
    ∃ vm', s₀.WarmedH vm' ∧ ∀ target, Steps p.tables e below ((((withThrown S Zs m P1.m.cls kX).setVm vm').setCell (S.heap.size + 2) ((((preparedCellV T.toThrowableT (freshCell P1.m.cls kX) (S.heap.size + 2) u0 sen).withEntry t).setSlot T.fStack.slot u0.v).left.setSlot T.fMsg.slot (.ref (S.heap.size + 1)))).setFrames (.throwing (S.heap.size + 2) :: base)) target →
      Steps p.tables e below (S.setFrames (.throwNew cls (some m) none :: base)) target := by
  obtain ⟨kX', hk', he'⟩ := hW.alike.2.2 _ _ hk
  have hty : kX'.instanceTypes = kX.instanceTypes := by rw [he']
  have hfresh : freshCell P1.m.cls kX' = freshCell P1.m.cls kX := by
    show ({ cls := P1.m.cls, slots := kX'.instanceTypes.map defaultValue, vm := .none } : Cell) = _
    rw [hty]
  obtain ⟨kS', kB', LZ', htyS⟩ := LZs.warmer hW.alike
  have hsame : withThrown S { Zs with kS := kS', kB := kB' } m P1.m.cls kX' = withThrown S Zs m P1.m.cls kX := by
    rw [← withThrown_warmer S Zs (kB' := kB') htyS m P1.m.cls kX]
    show (withString S _ _ _ _ _ _).pushCell (freshCell P1.m.cls kX') = (withString S _ _ _ _ _ _).pushCell (freshCell P1.m.cls kX)
    rw [hfresh]
  have hfs : S.fitsSlot = s₀.fitsSlot := (show S.fitsSlot = (s₀.setVm S.vm).fitsSlot from rfl).trans (State.fitsSlot_setVm hW.alike)
  obtain ⟨w1, -, -, w4, w5, -, w7⟩ := withThrown_facts e.platform S Zs m P1.m.cls kX
  have hltS : T.aS < S.heap.size := (Array.getElem?_eq_some_iff.mp hcellS).1
  have hWat : Ov (withThrown S Zs m P1.m.cls kX) base below := h
  have hfv : S.fitsSlot Zs.cS .none Zs.fv.slot (.ref S.heap.size) = true := by rw [hfs]; exact hfitv
  have hfc : S.fitsSlot Zs.cS .none Zs.fc.slot (.int (stringCoder (stringToUtf16 m))) = true := by rw [hfs]; exact hfitc
  have hWcur : (withThrown S Zs m P1.m.cls kX).cur = t := by rw [← ht]; simp [withThrown, withString]
  obtain ⟨vm', hW', st⟩ := ov_ctorS p (W := withThrown S Zs m P1.m.cls kX) (self := S.heap.size + 2) (str := S.heap.size + 1) hWat hexec T L Z LZ M LM (by rw [w1]; exact hW) hWcur w4
    (by intro k hk'; cases hk') (by intro hk'; cases hk') rfl hsel0 ((w5 _ hltS).trans hcellS) (Nat.ne_of_lt (Nat.lt_of_lt_of_le hltS (Nat.le_add_right _ 2))) hknownS hvU htS hskip hnat
    hselF hvSen htC htP htM hobjLocals P1 L1 Ps hL hlink1 hlink (lim := lim) (by rw [w7]; exact hlim) hframes hwords
  refine ⟨vm', hW', fun target hrest => ?_⟩
  obtain ⟨hgo, hcur, mid, hmid⟩ := h
  have hf0 : (S.setFrames (.throwNew cls (some m) none :: base)).frames = .throwNew cls (some m) none :: base := State.frames_setFrames _ hcur
  refine Steps.head ⟨hgo.1, by simpa using hgo.2.1, by simpa using hgo.2.2⟩ ⟨.throwNew cls (some m) none :: mid, by rw [hf0, hmid]; rfl, by simp, by simp⟩ ?_
  rw [stepThread_throwNew hf0, stepThrowNew_message (s := S.setFrames (.throwNew cls (some m) none :: base)) (c := P1.m.cls) (k := kX') (i := P1.m.idx) { Zs with kS := kS', kB := kB' } LZ' hsoe hoom (show S.vm.findClass cls = _ by rw [hW.alike.findClass]; exact hfound) hk' (by rw [he']; exact hinit) (by rw [he']; exact hord)
    hhot hbeyond hfreeW hm (by rw [he']; exact hctor) hlimit hheap hcells (by show S.slotsUsed + _ + kS'.instanceTypes.size + kX'.instanceTypes.size ≤ _; rw [htyS, hty]; exact hslots) hfv hfc]
  rw [withThrown_setFrames, State.setFrames_setFrames, hsame]
  exact st target hrest
theorem ov_npe (p : Program) (h : Ov S base below) (hexec : p.tables.exec = Jvm.exec)
    (T : ThrowableC) (L : T.Links e.platform s₀) (Z : Init0T) (LZ : Z.Laid T.toThrowableT) (N : NpeC) (LN : N.Links T e.platform s₀) (hW : s₀.WarmedH S.vm) {t : ThreadId} (ht : S.cur = t)
    (P1 : PassC) (L1 : P1.Links0 e.platform s₀) (Ps : List PassC) (hL : ∀ P, P ∈ Ps → P.Links0 e.platform s₀) (hlink1 : P1.sup = firstOf (Z.m T.toThrowableT) (Ps.map (·.toPassT))) (hlink : PassesOn (Z.m T.toThrowableT) (Ps.map (·.toPassT)))
    {kX : Class}
    (hfound : s₀.vm.findClass "java/lang/NullPointerException" = some P1.m.cls) (hk : s₀.vm.classes[P1.m.cls]? = some kX) (hinit : kX.init = .initialized) (hord : kX.kind = .ordinary)
    (hctor : kX.findMethod "<init>" "()V" = some P1.m.idx) (hhot : e.platform.hotImplicitExceptions = false)
    (hbeyond : e.platform.stackBeyond ((((S.setFrames (.throwNew "java/lang/NullPointerException" none none :: base)).threads[S.cur]?).map (·.stackBytes)).getD 0) (S.setFrames (.throwNew "java/lang/NullPointerException" none none :: base)).frames = false)
    (hfreeW : e.platform.vmThrowRoom ≤ e.platform.stackFree ((((S.setFrames (.throwNew "java/lang/NullPointerException" none none :: base)).threads[S.cur]?).map (·.stackBytes)).getD 0) (S.setFrames (.throwNew "java/lang/NullPointerException" none none :: base)).frames)
    (hcells : S.heap.size + 1 ≤ e.platform.maxCells) (hslots : S.slotsUsed + kX.instanceTypes.size ≤ e.platform.maxSlots)
    {u0 sen : RefV} {cellS : Cell}
    (hsel0 : selectMethod e.platform s₀.vm (freshCell P1.m.cls kX).cls T.fill0 = .method T.fill0)
    (hcellS : S.heap[T.aS]? = some cellS) (hknownS : cellS.vm ≠ .unknown) (hvU : cellS.slots[T.fUnassigned.slot]? = some u0.v)
    (hv0 : (freshCell P1.m.cls kX).slots[N.fState.slot]? = some (.int 0)) (hneC : T.fCause.slot ≠ N.fState.slot) (hneSt : T.fStack.slot ≠ N.fState.slot) (hneP : T.fSupp.slot ≠ N.fState.slot)
    (htS : Takes s₀ (freshCell P1.m.cls kX) T.fStack u0.v) (ht1 : Takes s₀ (freshCell P1.m.cls kX) N.fState (.int 1))
    (hskip : SkipFacts T e.platform s₀ (fun u => u) u0 ((npeCell N.toNpeT (preparedCellV T.toThrowableT (freshCell P1.m.cls kX) S.heap.size u0 sen) t).withEntry t))
    (hnat : u0.v ≠ .null → ∀ u : State, At u T.fill T.codeFill below → s₀.WarmedH u.vm → u.heap[S.heap.size]? = some ((npeCell N.toNpeT (preparedCellV T.toThrowableT (freshCell P1.m.cls kX) S.heap.size u0 sen) t).withEntry t) →
      e.platform.stackFull (((u.setTop (fillJ T.fill S.heap.size 16 [])).threads[(u.setTop (fillJ T.fill S.heap.size 16 [])).cur]?).getD { frames := [] }) (u.setTop (fillJ T.fill S.heap.size 16 [])).frames (nativeFrameWords "java/lang/Throwable" "fillInStackTrace" 2) = false → ∀ t' : State,
      Steps p.tables e below (u.setTop (fillJ T.fill S.heap.size 19 [.ref S.heap.size])) t' →
      Steps p.tables e below (doInvoke e (u.setTop (fillJ T.fill S.heap.size 16 [])) [] T.fill0 #[.ref S.heap.size, .int 0]).1 t')
    (hselF : selectMethod e.platform s₀.vm (freshCell P1.m.cls kX).cls T.fill = .method N.fill) (hvSen : cellS.slots[T.fSentinel.slot]? = some sen.v)
    (htC : Takes s₀ (freshCell P1.m.cls kX) T.fCause (.ref S.heap.size)) (htP : Takes s₀ (freshCell P1.m.cls kX) T.fSupp sen.v) (hobjLocals : T.codeObj.maxLocals = 1)
    {lim : Nat × Nat} (hlim : e.platform.stackLimits S.me = lim) (hframes : base.length + Ps.length + 5 < lim.1) (hwords : (stackUse base).2 + (13 * Ps.length + 68) ≤ lim.2) :
    ∃ vm', s₀.WarmedH vm' ∧ ∀ target, Steps p.tables e below ((((S.pushCell (freshCell P1.m.cls kX)).setVm vm').setCell S.heap.size ((((npeCell N.toNpeT (preparedCellV T.toThrowableT (freshCell P1.m.cls kX) S.heap.size u0 sen) t).withEntry t).setSlot T.fStack.slot u0.v).left.left)).setFrames (.throwing S.heap.size :: base)) target →
      Steps p.tables e below (S.setFrames (.throwNew "java/lang/NullPointerException" none none :: base)) target := by
  obtain ⟨kX', hk', he'⟩ := hW.alike.2.2 _ _ hk
  have hty : kX'.instanceTypes = kX.instanceTypes := by rw [he']
  have hfresh : freshCell P1.m.cls kX' = freshCell P1.m.cls kX := by
    show ({ cls := P1.m.cls, slots := kX'.instanceTypes.map defaultValue, vm := .none } : Cell) = _
    rw [hty]
  have hltS : T.aS < S.heap.size := (Array.getElem?_eq_some_iff.mp hcellS).1
  have w5 : (S.pushCell (freshCell P1.m.cls kX)).heap[T.aS]? = some cellS := by
    rw [← hcellS]
    simp [State.pushCell, Array.getElem?_push, Nat.ne_of_lt hltS]
  have hWat : Ov (S.pushCell (freshCell P1.m.cls kX)) base below := h
  obtain ⟨vm', hW', st⟩ := ov_ctorN p (W := S.pushCell (freshCell P1.m.cls kX)) (self := S.heap.size) hWat hexec T L Z LZ N LN hW ht (State.heap_pushCell_size S (freshCell P1.m.cls kX))
    (by intro k hk'; cases hk') (by intro hk'; cases hk') rfl hk hsel0 w5 (Nat.ne_of_lt hltS) hknownS hvU hv0 hneC hneSt hneP ht1 htS hskip hnat
    hselF hvSen htC htP hobjLocals P1 L1 Ps hL hlink1 hlink (lim := lim) hlim hframes hwords
  refine ⟨vm', hW', fun target hrest => ?_⟩
  obtain ⟨hgo, hcur, mid, hmid⟩ := h
  have hf0 : (S.setFrames (.throwNew "java/lang/NullPointerException" none none :: base)).frames = .throwNew "java/lang/NullPointerException" none none :: base := State.frames_setFrames _ hcur
  refine Steps.head ⟨hgo.1, by simpa using hgo.2.1, by simpa using hgo.2.2⟩ ⟨.throwNew "java/lang/NullPointerException" none none :: mid, by rw [hf0, hmid]; rfl, by simp, by simp⟩ ?_
  rw [stepThread_throwNew hf0, stepThrowNew_plain (s := S.setFrames (.throwNew "java/lang/NullPointerException" none none :: base)) (c := P1.m.cls) (k := kX') (i := P1.m.idx) (by decide) (by decide) (show S.vm.findClass "java/lang/NullPointerException" = _ by rw [hW.alike.findClass]; exact hfound) hk' (by rw [he']; exact hinit) (by rw [he']; exact hord)
    hhot hbeyond hfreeW (by rw [he']; exact hctor) hcells (by show S.slotsUsed + kX'.instanceTypes.size ≤ _; rw [hty]; exact hslots)]
  rw [State.pushCell_setFrames, State.setFrames_setFrames, hfresh]
  exact st target hrest
end OVm
section OVb
variable {p : Program} {l : Launch} {e : Env} {R : Room} {s : State} {m₀ : MethodId} {args : Array Value} {below : List Frame} {meth : Method} {c : Code} {T' : State} {locs : List Loc} {cells slots : Nat}
theorem ex_msg0N (X : Stand p l e R s m₀ args below meth c T' locs cells slots) (hexec : p.tables.exec = Jvm.exec) {g : JFrame} (hg : g.method = m₀) (hsize : g.locals.size = c.maxLocals) {nf : NFrame} (hnf : nf.words = 0)
    (T : ThrowableC) (L : T.Links e.platform s) (Z : Init0T) (LZ : Z.LaidS T.toThrowableT) (M : MsgC) (LM : M.Links T e.platform s) (Zs : StringT) (LZs : Zs.Laid s.vm)
    (P1 : PassC) (L1 : P1.LinksS e.platform s) (Ps : List PassC) (hL : ∀ P, P ∈ Ps → P.LinksS e.platform s) (hlink1 : P1.sup = firstOf (Z.m T.toThrowableT) (Ps.map (·.toPassT))) (hlink : PassesOn (Z.m T.toThrowableT) (Ps.map (·.toPassT)))
    {cls m : String} {kX : Class} (hsoe : (cls == "java/lang/StackOverflowError") = false) (hoom : (cls == "java/lang/OutOfMemoryError") = false)
    (hfound : s.vm.findClass cls = some P1.m.cls) (hk : s.vm.classes[P1.m.cls]? = some kX) (hinit : kX.init = .initialized) (hord : kX.kind = .ordinary)
    (hctor : kX.findMethod "<init>" "(Ljava/lang/String;)V" = some P1.m.idx) (hm : (m == notModelled) = false)
    (hlimit : ¬ (stringBytes (stringToUtf16 m)).size > e.platform.arrayLengthLimit) (hheap : ¬ (stringBytes (stringToUtf16 m)).size * componentBytes .byte > e.platform.maxHeapBytes)
    (hfitv : s.fitsSlot Zs.cS .none Zs.fv.slot (.ref T'.heap.size) = true) (hfitc : s.fitsSlot Zs.cS .none Zs.fc.slot (.int (stringCoder (stringToUtf16 m))) = true)
    {u0 sen : RefV} {cellS : Cell}
    (hsel0 : selectMethod e.platform s.vm P1.m.cls T.fill0 = .method T.fill0) (hselF : selectMethod e.platform s.vm P1.m.cls T.fill = .method T.fill)
    (hcellS : T'.heap[T.aS]? = some cellS) (hknownS : cellS.vm ≠ .unknown) (hvU : cellS.slots[T.fUnassigned.slot]? = some u0.v) (hvSen : cellS.slots[T.fSentinel.slot]? = some sen.v)
    (htC : Takes s (freshCell P1.m.cls kX) T.fCause (.ref (T'.heap.size + 2))) (htS : Takes s (freshCell P1.m.cls kX) T.fStack u0.v) (htP : Takes s (freshCell P1.m.cls kX) T.fSupp sen.v) (htM : Takes s (freshCell P1.m.cls kX) T.fMsg (.ref (T'.heap.size + 1))) (hobjLocals : T.codeObj.maxLocals = 1)
    (hskip : SkipFacts T e.platform s (fun u => u) u0 ((preparedCellV T.toThrowableT (freshCell P1.m.cls kX) (T'.heap.size + 2) u0 sen).withEntry T'.cur))
    (htr : e.platform.stackTraces = false)
    (hRframes : Ps.length + 5 < R.frames) (hRlocals : 2 * g.monitorRoom + (g.stack.map fun v => v.category).sum + 10240 ≤ R.locals) (hshort : 13 * Ps.length + 55 ≤ 10240)
    (hRcells : cells + 3 ≤ R.cells) (hRslots : slots + ((stringBytes (stringToUtf16 m)).size + Zs.kS.instanceTypes.size + kX.instanceTypes.size) ≤ R.slots) (hlocks : meth.locks = false) :
    ∃ (T2 : State) (L2 : List Loc) (ce : Cell), Stand p l e R s m₀ args below meth c T2 (locs ++ L2) (cells + 3) (slots + ((bytesOf Zs.cB (stringToUtf16 m)).slots.size + (stringAt Zs.cS Zs.kS Zs.fv Zs.fc (stringToUtf16 m) T'.heap.size).slots.size + (freshCell P1.m.cls kX).slots.size)) ∧ (∀ q ∈ L2, T'.heap.size ≤ q.base) ∧ T2.heap.size = T'.heap.size + 3 ∧ (∀ q : Nat, q < T'.heap.size → T2.heap[q]? = T'.heap[q]?) ∧ T2.heap[T'.heap.size + 2]? = some ce ∧ ce.cls = P1.m.cls ∧ ce.vm = .none ∧
      ∀ target, Steps p.tables e below (T2.setFrames (.throwing (T'.heap.size + 2) :: .native nf :: .java g :: below)) target → Steps p.tables e below (T'.setFrames (.throwNew cls (some m) none :: .native nf :: .java g :: below)) target := by
  have h := ov_at X g nf
  obtain ⟨hbeyond, hfreeW⟩ := ov_may X hsize hnf (.throwNew cls (some m) none) (fun f hf => by cases hf) rfl hRlocals
  have hfr' := ov_frames X g nf (n := Ps.length + 4) (by omega)
  have hwd' := ov_words X hsize hnf (K := 13 * Ps.length + 55) (by omega)
  have hslots : T'.slotsUsed + (stringBytes (stringToUtf16 m)).size + Zs.kS.instanceTypes.size + kX.instanceTypes.size ≤ e.platform.maxSlots := by have := X.slotsAbove hRslots; omega
  obtain ⟨vm', hW', st⟩ := ov_msg p (s₀ := s) (S := T') h hexec T L Z LZ M LM X.warmed (t := T'.cur) rfl Zs LZs P1 L1 Ps hL hlink1 hlink hsoe hoom hfound hk hinit hord hctor
    (Launch.admits_hotImplicitExceptions X.admits) hbeyond hfreeW hm hlimit hheap (X.cellsAbove hRcells) hslots hfitv hfitc hsel0 hcellS hknownS hvU htS hskip (fun _ _ hA hW _ hroom _ hrest => L.nativeOff p htr hA hW hroom hrest) hselF hvSen htC htP htM hobjLocals rfl (by omega) (by omega)
  rw [plainBareV_eq T.toThrowableT (T'.heap.size + 2) u0 sen (.ref (T'.heap.size + 1)) T'.cur rfl rfl] at st
  obtain ⟨-, -, w3, w4, w5, -, -⟩ := withThrown_facts e.platform T' Zs m P1.m.cls kX
  have X3 := ((X.pushed (bytesOf Zs.cB (stringToUtf16 m))).pushed (stringAt Zs.cS Zs.kS Zs.fv Zs.fc (stringToUtf16 m) T'.heap.size)).pushed (freshCell P1.m.cls kX)
  rw [← withString_eq] at X3
  have X4 := X3.noted hW'
  have ha : (T'.heap.size + 2) < ((withThrown T' Zs m P1.m.cls kX).setVm vm').heap.size := by show _ < (withThrown T' Zs m P1.m.cls kX).heap.size; rw [w3]; omega
  have hcell : ((withThrown T' Zs m P1.m.cls kX).setVm vm').heap[(T'.heap.size + 2)]? = some (freshCell P1.m.cls kX) := w4
  have X5 := ((((X4.stored hcell T.fCause.slot (.ref (T'.heap.size + 2))).storedAgain ha T.fStack.slot u0.v).storedAgain ha T.fSupp.slot sen.v).storedAgain ha T.fStack.slot u0.v).storedAgain ha T.fMsg.slot (.ref (T'.heap.size + 1))
  refine ⟨(((withThrown T' Zs m P1.m.cls kX).setVm vm').setCell (T'.heap.size + 2) (plainBareV T.toThrowableT (freshCell P1.m.cls kX) (T'.heap.size + 2) u0 sen (.ref (T'.heap.size + 1)))), [⟨T'.heap.size + 2, T.fCause.slot⟩, ⟨T'.heap.size + 2, T.fStack.slot⟩, ⟨T'.heap.size + 2, T.fSupp.slot⟩, ⟨T'.heap.size + 2, T.fStack.slot⟩, ⟨T'.heap.size + 2, T.fMsg.slot⟩], plainBareV T.toThrowableT (freshCell P1.m.cls kX) (T'.heap.size + 2) u0 sen (.ref (T'.heap.size + 1)), ?_, ?_, ?_, ?_, heapAt_setCell_self _ ha, rfl, rfl, st⟩
  · have X6 := X5
    simp only [List.append_assoc, List.cons_append, List.nil_append, Nat.add_assoc] at X6
    simpa only [Nat.add_assoc] using X6
  · intro q hq
    simp only [List.mem_cons, List.not_mem_nil, or_false] at hq
    rcases hq with rfl | rfl | rfl | rfl | rfl <;> exact Nat.le_add_right _ 2
  · rw [size_setCell]
    show (withThrown T' Zs m P1.m.cls kX).heap.size = _
    rw [w3]
  · intro q hq
    rw [heapAt_setCell_ne _ (show T'.heap.size + 2 ≠ q by omega)]
    exact w5 q hq
set_option maxHeartbeats 1000000 in
theorem ex_msgN (X : Stand p l e R s m₀ args below meth c T' locs cells slots) (hexec : p.tables.exec = Jvm.exec) (htr : e.platform.stackTraces = false) {base : Nat} {cls : String} {names : List String} {text : String}
    (hcls : Bundle.fit cls = true) (hnames : ∀ n ∈ names, Bundle.fit n = true) (hsoe : (cls == "java/lang/StackOverflowError") = false) (hoom : (cls == "java/lang/OutOfMemoryError") = false)
    (h : ∀ a ∈ Bundle.messageArmAtoms cls names, a.before args s = true) (hsf : SF base "UNASSIGNED_STACK" tStk s) (hlocs : ∀ x ∈ locs, base ≤ x.base)
    (htext : (text == notModelled) = false) (hlimit : ¬ (stringBytes (stringToUtf16 text)).size > e.platform.arrayLengthLimit) (hheap : ¬ (stringBytes (stringToUtf16 text)).size * componentBytes .byte > e.platform.maxHeapBytes)
    {g : JFrame} (hg : g.method = m₀) (hsize : g.locals.size = c.maxLocals) {nf : NFrame} (hnf : nf.words = 0)
    (hRframes : names.length + 5 < R.frames) (hRlocals : 2 * g.monitorRoom + (g.stack.map fun v => v.category).sum + 10240 ≤ R.locals) (hshort : 13 * names.length + 55 ≤ 10240)
    (hRcells : cells + 3 ≤ R.cells) (hRslots : slots + ((stringBytes (stringToUtf16 text)).size + 4 + 6) ≤ R.slots) (hlocks : meth.locks = false) :
    ∃ (T2 : State) (L2 : List Loc) (ce : Cell), Stand p l e R s m₀ args below meth c T2 (locs ++ L2) (cells + 3) (slots + ((stringBytes (stringToUtf16 text)).size + 4 + 6)) ∧ (∀ q ∈ L2, T'.heap.size ≤ q.base) ∧ T2.heap.size = T'.heap.size + 3 ∧ (∀ q : Nat, q < T'.heap.size → T2.heap[q]? = T'.heap[q]?) ∧ T2.heap[T'.heap.size + 2]? = some ce ∧ s.vm.findClass cls = some ce.cls ∧ ce.vm = .none ∧
      ∀ target, Steps p.tables e below (T2.setFrames (.throwing (T'.heap.size + 2) :: .native nf :: .java g :: below)) target → Steps p.tables e below (T'.setFrames (.throwNew cls (some text) none :: .native nf :: .java g :: below)) target := by
  have howns : e.platform.frameOwnsMonitors = true := by rw [X.admits.platform]
  have hfin : e.platform.finalization = false := by rw [X.admits.platform]
  have hpl : e.platform.magicAccessors = ({} : Platform).magicAccessors := by rw [X.admits.platform]
  have a : ∀ x, x ∈ Bundle.messageArmAtoms cls names → x.holds args s none s [] = true := fun x hx => h x hx
  obtain ⟨T, Z0, L, -, Y⟩ := ThrowableC.of_atoms (args := args) howns hfin hpl (fun x hx => h x (by simp [Bundle.messageArmAtoms, hx]))
  obtain ⟨Z, M, LZ, LM, hnZ⟩ := Init0T.ofS_atoms (args := args) hpl L Y (fun x hx => h x (by simp [Bundle.messageArmAtoms, hx]))
  obtain ⟨P1, Ps, hlen, L1, hL, hP1m, hlink1, hlink⟩ := Bundle.chainS (args := args) hpl hnZ names cls hcls hnames (fun x hx => h x (by simp [Bundle.messageArmAtoms, hx]))
  obtain ⟨Zs, LZs, hn4, hfitv, hfitc⟩ := StringT.of_atoms (args := args) (fun x hx => h x (by simp [Bundle.messageArmAtoms, hx]))
  have hfound : s.vm.findClass cls = some P1.m.cls := findClass_of_methodNamed hP1m
  obtain ⟨c1, kX, hc1, hk, hord, -, -, hn6⟩ := Cond.instantiable_spec (a (.instantiable cls 6) (by simp [Bundle.messageArmAtoms]))
  cases Option.some.inj (hc1.symm.trans hfound)
  have hinit := Cond.initialized_spec hfound hk (a (.initialized cls) (by simp [Bundle.messageArmAtoms]))
  have hctor : kX.findMethod "<init>" "(Ljava/lang/String;)V" = some P1.m.idx := findMethod_of_methodNamed hP1m hk
  have hsel0 : selectMethod e.platform s.vm P1.m.cls T.fill0 = .method T.fill0 := by
    obtain ⟨c2, r2, m2, q1, q2, q3, q4, -⟩ := Cond.selects_spec (a (.selects cls Bundle.tFill0 Bundle.tFill0) (by simp [Bundle.messageArmAtoms]))
    cases Option.some.inj (q1.symm.trans hfound)
    cases Option.some.inj (q2.symm.trans (State.methodFound?_of_named Y.fill0 (by decide)))
    cases Option.some.inj (q3.symm.trans Y.fill0)
    rw [Launch.admits_selectMethod X.admits]; exact q4
  have hselF : selectMethod e.platform s.vm P1.m.cls T.fill = .method T.fill := by
    obtain ⟨c2, r2, m2, q1, q2, q3, q4, -⟩ := Cond.selects_spec (a (.selects cls Bundle.tFill Bundle.tFill) (by simp [Bundle.messageArmAtoms]))
    cases Option.some.inj (q1.symm.trans hfound)
    cases Option.some.inj (q2.symm.trans (State.methodFound?_of_named Y.fill (by decide)))
    cases Option.some.inj (q3.symm.trans Y.fill)
    rw [Launch.admits_selectMethod X.admits]; exact q4
  obtain ⟨cellS0, hcS0, hiss⟩ := Y.statics
  obtain ⟨u0, hu0⟩ := Cond.staticRefV Y.unassigned L.unassignedStatic L.statics hcS0 hiss (a (.isRef (.static Bundle.tN "UNASSIGNED_STACK" Bundle.steD)) (by simp [Bundle.messageArmAtoms]))
  obtain ⟨sen, hsen⟩ := Cond.staticRefV Y.sentinel L.sentinelStatic L.statics hcS0 hiss (a (.isRef (.static Bundle.tN "SUPPRESSED_SENTINEL" Bundle.listD)) (by simp [Bundle.messageArmAtoms]))
  obtain ⟨ci198, i198, fB, hk198, hg198, ha198, hsB, -, hnB, htB, hffB⟩ := Cond.ownField (t := .object "java/lang/Object") Y.found L.cls (by decide +kernel) (a (.fieldLink Bundle.tN 198 Bundle.tN "backtrace" "Ljava/lang/Object;") (by simp [Bundle.messageArmAtoms])) (a (.lays Bundle.tN Bundle.tN "backtrace" "Ljava/lang/Object;") (by simp [Bundle.messageArmAtoms])) e.platform hpl
  obtain ⟨cellS, hcS', heS, -, hkeep⟩ := X.same.2.2.2.2.2 T.aS cellS0 hcS0
  have hcellS : T'.heap[T.aS]? = some cellS := hcS'
  have haS : T.aS < base := by
    obtain ⟨c9, k9, i9, f9, a9, cell9, v9, z1, z2, z3, z4, z5, z6, z7, z8, z9, z10, z11, z12⟩ := hsf
    have e9 := z2.symm.trans Y.unassigned
    simp only [Option.some.injEq, Prod.mk.injEq] at e9
    have e10 : k9 = T.kT := e9.2.1
    rw [e10, L.statics] at z4
    cases z4
    exact z12
  have hout' : ∀ i, (⟨T.aS, i⟩ : Loc) ∉ locs := fun i hmem => by
    have : base ≤ T.aS := hlocs _ hmem
    exact Nat.not_lt.mpr this haS
  have hknownS : cellS.vm ≠ .unknown := by
    rw [heS]; intro hu
    rw [show cellS0.vm = .unknown from hu] at hiss
    cases hiss
  obtain ⟨iM, hffM⟩ := Y.msg
  obtain ⟨tyC, dC, hdC, hdnC⟩ := Cond.laysAt hfound hk Y.cause (a (.lays cls Bundle.tN "cause" "Ljava/lang/Throwable;") (by simp [Bundle.messageArmAtoms]))
  obtain ⟨tyS, dS, hdS, hdnS⟩ := Cond.laysAt hfound hk Y.stack (a (.lays cls Bundle.tN "stackTrace" Bundle.steD) (by simp [Bundle.messageArmAtoms]))
  obtain ⟨tyP, dP, hdP, hdnP⟩ := Cond.laysAt hfound hk Y.supp (a (.lays cls Bundle.tN "suppressedExceptions" Bundle.listD) (by simp [Bundle.messageArmAtoms]))
  obtain ⟨tyM, dM, hdM, hdnM⟩ := Cond.laysAt hfound hk hffM (a (.lays cls Bundle.tN "detailMessage" "Ljava/lang/String;") (by simp [Bundle.messageArmAtoms]))
  obtain ⟨tyB, dB, hdB, hdnB⟩ := Cond.laysAt hfound hk hffB (a (.lays cls Bundle.tN "backtrace" "Ljava/lang/Object;") (by simp [Bundle.messageArmAtoms]))
  have bC := Cond.laysApart hdB hdC hdnB hdnC (by rw [hnB, Y.causeName]; decide)
  have bS := Cond.laysApart hdB hdS hdnB hdnS (by rw [hnB, Y.stackName]; decide)
  have bP := Cond.laysApart hdB hdP hdnB hdnP (by rw [hnB, Y.suppName]; decide)
  have hskip : SkipFacts T e.platform s (fun u => u) u0 ((preparedCellV T.toThrowableT (freshCell P1.m.cls kX) (T'.heap.size + 2) u0 sen).withEntry T'.cur) :=
    ⟨{ ci198 := ci198, i198 := i198, fBack := fB }, ⟨hk198, hg198, ha198, hsB⟩, by
      have := fresh_default (c := P1.m.cls) tyB
      rw [htB] at this
      simpa [preparedCellV, Cell.setSlot, Cell.withEntry, Array.getElem?_setIfInBounds, bC, bS, bP, bC.symm, bS.symm, bP.symm, defaultValue] using this, fun _ _ => rfl⟩
  obtain ⟨T2, L2, ce, h1, h2, h3, h4, h5, h6, h7, h8⟩ := ex_msg0N X hexec hg hsize hnf T L Z LZ M LM Zs LZs P1 L1 Ps hL hlink1 hlink hsoe hoom hfound hk hinit hord hctor htext hlimit hheap
    (hfitv _) (hfitc _) hsel0 hselF hcellS hknownS (by rw [hkeep _ (hout' _)]; exact hu0) (by rw [hkeep _ (hout' _)]; exact hsen)
    (Takes.of_laid hk hord tyC (by rw [Y.causeType]; rfl)) (Takes.of_laid hk hord tyS (by rw [Y.stackType]; exact fits_refV_array _ u0)) (Takes.of_laid hk hord tyP (by rw [Y.suppType]; exact fits_refV_object _ sen)) (Takes.of_laid hk hord tyM (by rw [Y.msgType]; rfl))
    Y.objLocals hskip htr (by rw [hlen]; exact hRframes) hRlocals (by rw [hlen]; exact hshort) hRcells (by rw [hn4, hn6]; exact hRslots) hlocks
  have b1 : (bytesOf Zs.cB (stringToUtf16 text)).slots.size = (stringBytes (stringToUtf16 text)).size := by
    rw [(Cell.writeAll_facts _ _).2.2]; simp [bytes0]
  have b2 : (stringAt Zs.cS Zs.kS Zs.fv Zs.fc (stringToUtf16 text) T'.heap.size).slots.size = 4 := by simp [string0, Cell.setSlot, hn4]
  have b3 : (freshCell P1.m.cls kX).slots.size = 6 := by simp [hn6]
  rw [b1, b2, b3] at h1
  exact ⟨T2, L2, ce, h1, h2, h3, h4, h5, by rw [h6]; exact hfound, h7, h8⟩
end OVb
section OVc
variable {p : Program} {l : Launch} {e : Env} {R : Room} {s : State} {m : MethodId} {args : Array Value} {below : List Frame} {meth : Method} {c : Code} {T' : State} {locs : List Loc} {cells slots : Nat}
theorem ex_npe0N (X : Stand p l e R s m args below meth c T' locs cells slots) (hexec : p.tables.exec = Jvm.exec) {g : JFrame} (hg : g.method = m) (hsize : g.locals.size = c.maxLocals) {nf : NFrame} (hnf : nf.words = 0)
    (T : ThrowableC) (L : T.Links e.platform s) (Z : Init0T) (LZ : Z.Laid T.toThrowableT) (N : NpeC) (LN : N.Links T e.platform s)
    (P1 : PassC) (L1 : P1.Links0 e.platform s) (Ps : List PassC) (hL : ∀ P, P ∈ Ps → P.Links0 e.platform s) (hlink1 : P1.sup = firstOf (Z.m T.toThrowableT) (Ps.map (·.toPassT))) (hlink : PassesOn (Z.m T.toThrowableT) (Ps.map (·.toPassT)))
    {kX : Class} (hfound : s.vm.findClass "java/lang/NullPointerException" = some P1.m.cls) (hk : s.vm.classes[P1.m.cls]? = some kX) (hinit : kX.init = .initialized) (hord : kX.kind = .ordinary)
    (hctor : kX.findMethod "<init>" "()V" = some P1.m.idx)
    {u0 sen : RefV} {cellS : Cell}
    (hsel0 : selectMethod e.platform s.vm P1.m.cls T.fill0 = .method T.fill0) (hselF : selectMethod e.platform s.vm P1.m.cls T.fill = .method N.fill)
    (hcellS : T'.heap[T.aS]? = some cellS) (hknownS : cellS.vm ≠ .unknown) (hvU : cellS.slots[T.fUnassigned.slot]? = some u0.v) (hvSen : cellS.slots[T.fSentinel.slot]? = some sen.v)
    (hv0 : (freshCell P1.m.cls kX).slots[N.fState.slot]? = some (.int 0)) (hneC : T.fCause.slot ≠ N.fState.slot) (hneSt : T.fStack.slot ≠ N.fState.slot) (hneP : T.fSupp.slot ≠ N.fState.slot)
    (htC : Takes s (freshCell P1.m.cls kX) T.fCause (.ref T'.heap.size)) (htS : Takes s (freshCell P1.m.cls kX) T.fStack u0.v) (htP : Takes s (freshCell P1.m.cls kX) T.fSupp sen.v) (ht1 : Takes s (freshCell P1.m.cls kX) N.fState (.int 1)) (hobjLocals : T.codeObj.maxLocals = 1)
    (hskip : SkipFacts T e.platform s (fun u => u) u0 ((npeCell N.toNpeT (preparedCellV T.toThrowableT (freshCell P1.m.cls kX) T'.heap.size u0 sen) T'.cur).withEntry T'.cur))
    (htr : e.platform.stackTraces = false)
    (hRframes : Ps.length + 6 < R.frames) (hRlocals : 2 * g.monitorRoom + (g.stack.map fun v => v.category).sum + 10240 ≤ R.locals) (hshort : 13 * Ps.length + 68 ≤ 10240)
    (hRcells : cells + 1 ≤ R.cells) (hRslots : slots + kX.instanceTypes.size ≤ R.slots) (hlocks : meth.locks = false) :
    ∃ (T2 : State) (L2 : List Loc) (ce : Cell), Stand p l e R s m args below meth c T2 (locs ++ L2) (cells + 1) (slots + (freshCell P1.m.cls kX).slots.size) ∧ (∀ q ∈ L2, T'.heap.size ≤ q.base) ∧ T2.heap.size = T'.heap.size + 1 ∧ (∀ q : Nat, q < T'.heap.size → T2.heap[q]? = T'.heap[q]?) ∧ T2.heap[T'.heap.size]? = some ce ∧ ce.cls = P1.m.cls ∧ ce.vm = .none ∧
      ∀ target, Steps p.tables e below (T2.setFrames (.throwing T'.heap.size :: .native nf :: .java g :: below)) target → Steps p.tables e below (T'.setFrames (.throwNew "java/lang/NullPointerException" none none :: .native nf :: .java g :: below)) target := by
  have h := ov_at X g nf
  obtain ⟨hbeyond, hfreeW⟩ := ov_may X hsize hnf (.throwNew "java/lang/NullPointerException" none none) (fun f hf => by cases hf) rfl hRlocals
  have hfr' := ov_frames X g nf (n := Ps.length + 5) (by omega)
  have hwd' := ov_words X hsize hnf (K := 13 * Ps.length + 68) (by omega)
  obtain ⟨vm', hW', st⟩ := ov_npe p (s₀ := s) (S := T') h hexec T L Z LZ N LN X.warmed (t := T'.cur) rfl P1 L1 Ps hL hlink1 hlink hfound hk hinit hord hctor
    (Launch.admits_hotImplicitExceptions X.admits) hbeyond hfreeW (X.cellsAbove hRcells) (X.slotsAbove hRslots) hsel0 hcellS hknownS hvU hv0 hneC hneSt hneP htS ht1 hskip (fun _ _ hA hW _ hroom _ hrest => L.nativeOff p htr hA hW hroom hrest) hselF hvSen htC htP hobjLocals rfl (by omega) (by omega)
  rw [npeBareV_eq T.toThrowableT N.toNpeT T'.heap.size u0 sen T'.cur rfl rfl] at st
  have X2 := (X.pushed (freshCell P1.m.cls kX)).noted hW'
  have hsz : ((T'.pushCell (freshCell P1.m.cls kX)).setVm vm').heap.size = T'.heap.size + 1 := State.heap_size_pushCell _ _
  have ha : T'.heap.size < ((T'.pushCell (freshCell P1.m.cls kX)).setVm vm').heap.size := by rw [hsz]; omega
  have hcell : ((T'.pushCell (freshCell P1.m.cls kX)).setVm vm').heap[T'.heap.size]? = some (freshCell P1.m.cls kX) := State.heap_pushCell_size T' (freshCell P1.m.cls kX)
  have X3 := ((((X2.stored hcell T.fCause.slot (.ref T'.heap.size)).storedAgain ha T.fStack.slot u0.v).storedAgain ha T.fSupp.slot sen.v).storedAgain ha N.fState.slot (.int 1)).storedAgain ha T.fStack.slot u0.v
  refine ⟨((T'.pushCell (freshCell P1.m.cls kX)).setVm vm').setCell T'.heap.size (npeBareV T.toThrowableT N.toNpeT (freshCell P1.m.cls kX) T'.heap.size u0 sen), [⟨T'.heap.size, T.fCause.slot⟩, ⟨T'.heap.size, T.fStack.slot⟩, ⟨T'.heap.size, T.fSupp.slot⟩, ⟨T'.heap.size, N.fState.slot⟩, ⟨T'.heap.size, T.fStack.slot⟩], npeBareV T.toThrowableT N.toNpeT (freshCell P1.m.cls kX) T'.heap.size u0 sen, ?_, ?_, ?_, ?_, heapAt_setCell_self _ ha, rfl, rfl, st⟩
  · have X6 := X3
    simp only [List.append_assoc, List.cons_append, List.nil_append] at X6
    exact X6
  · intro q hq
    simp only [List.mem_cons, List.not_mem_nil, or_false] at hq
    rcases hq with rfl | rfl | rfl | rfl | rfl <;> exact Nat.le_refl _
  · rw [size_setCell]
    exact hsz
  · intro q hq
    rw [heapAt_setCell_ne _ (show T'.heap.size ≠ q by omega)]
    show (T'.pushCell (freshCell P1.m.cls kX)).heap[q]? = _
    simp [State.pushCell, Array.getElem?_push, Nat.ne_of_lt hq]
set_option maxHeartbeats 1000000 in
theorem ex_npeN (X : Stand p l e R s m args below meth c T' locs cells slots) (hexec : p.tables.exec = Jvm.exec) (htr : e.platform.stackTraces = false) {base n : Nat} (h : ∀ a ∈ Bundle.npeArmAtoms n, a.before args s = true)
    (hsf : SF base "UNASSIGNED_STACK" tStk s) (hlocs : ∀ x ∈ locs, base ≤ x.base)
    {g : JFrame} (hg : g.method = m) (hsize : g.locals.size = c.maxLocals) {nf : NFrame} (hnf : nf.words = 0)
    (hRframes : 8 < R.frames) (hRlocals : 2 * g.monitorRoom + (g.stack.map fun v => v.category).sum + 10240 ≤ R.locals) (hRcells : cells + 1 ≤ R.cells) (hRslots : slots + n ≤ R.slots) (hlocks : meth.locks = false) :
    ∃ (T2 : State) (L2 : List Loc) (ce : Cell), Stand p l e R s m args below meth c T2 (locs ++ L2) (cells + 1) (slots + n) ∧ (∀ q ∈ L2, T'.heap.size ≤ q.base) ∧ T2.heap.size = T'.heap.size + 1 ∧ (∀ q : Nat, q < T'.heap.size → T2.heap[q]? = T'.heap[q]?) ∧ T2.heap[T'.heap.size]? = some ce ∧ s.vm.findClass "java/lang/NullPointerException" = some ce.cls ∧ ce.vm = .none ∧
      ∀ target, Steps p.tables e below (T2.setFrames (.throwing T'.heap.size :: .native nf :: .java g :: below)) target → Steps p.tables e below (T'.setFrames (.throwNew "java/lang/NullPointerException" none none :: .native nf :: .java g :: below)) target := by
  have howns : e.platform.frameOwnsMonitors = true := by rw [X.admits.platform]
  have hfin : e.platform.finalization = false := by rw [X.admits.platform]
  have hpl : e.platform.magicAccessors = ({} : Platform).magicAccessors := by rw [X.admits.platform]
  have hpl2 : e.platform.arrayCloneIsPublic = true := by rw [X.admits.platform]
  have a : ∀ x, x ∈ Bundle.npeArmAtoms n → x.holds args s none s [] = true := fun x hx => h x hx
  obtain ⟨T, Z, L, LZ, Y⟩ := ThrowableC.of_atoms (args := args) howns hfin hpl (fun x hx => h x (by simp [Bundle.npeArmAtoms, hx]))
  obtain ⟨N, LN, hcN, hnNF, hordN, hffS⟩ := NpeC.of_atoms (args := args) hpl hpl2 L Y (fun x hx => h x (by simp [Bundle.npeArmAtoms, hx]))
  obtain ⟨P1, L1, hP1m, hP1s⟩ := PassC.of_atoms (args := args) (s := s) hpl (X := Bundle.nN) (Y := Bundle.rN) (by decide) (by decide) LibCode.NullPointerException.Init0.at_0 LibCode.NullPointerException.Init0.at_1 LibCode.NullPointerException.Init0.at_4 (fun x hx => h x (by simp [Bundle.npeArmAtoms, hx]))
  obtain ⟨PR, LR, hPRm, hPRs⟩ := PassC.of_atoms (args := args) (s := s) hpl (X := Bundle.rN) (Y := Bundle.eN) (by decide) (by decide) LibCode.RuntimeException.Init0.at_0 LibCode.RuntimeException.Init0.at_1 LibCode.RuntimeException.Init0.at_4 (fun x hx => h x (by simp [Bundle.npeArmAtoms, hx]))
  obtain ⟨PE, LEx, hPEm, hPEs⟩ := PassC.of_atoms (args := args) (s := s) hpl (X := Bundle.eN) (Y := Bundle.tN) (by decide) (by decide) LibCode.Exception.Init0.at_0 LibCode.Exception.Init0.at_1 LibCode.Exception.Init0.at_4 (fun x hx => h x (by simp [Bundle.npeArmAtoms, hx]))
  have hfound : s.vm.findClass Bundle.nN = some P1.m.cls := findClass_of_methodNamed hP1m
  have ecls : N.cN = P1.m.cls := Option.some.inj (hcN.symm.trans hfound)
  have hk : s.vm.classes[P1.m.cls]? = some N.kN := by rw [← ecls]; exact LN.cls
  have hinit := Cond.initialized_spec hfound hk (a (.initialized Bundle.nN) (by simp [Bundle.npeArmAtoms]))
  have hctor : N.kN.findMethod "<init>" "()V" = some P1.m.idx := findMethod_of_methodNamed hP1m hk
  obtain ⟨c1, k1, hc1, hk1, -, -, -, hn⟩ := Cond.instantiable_spec (a (.instantiable Bundle.nN n) (by simp [Bundle.npeArmAtoms]))
  cases Option.some.inj (hc1.symm.trans hfound)
  cases Option.some.inj (hk1.symm.trans hk)
  have hlink1 : P1.sup = PR.m := Option.some.inj (hP1s.symm.trans hPRm)
  have hlinkR : PR.sup = PE.m := Option.some.inj (hPRs.symm.trans hPEm)
  have hlinkE : PE.sup = Z.m T.toThrowableT := Option.some.inj (hPEs.symm.trans Y.init0)
  have hsel0 : selectMethod e.platform s.vm P1.m.cls T.fill0 = .method T.fill0 := by
    obtain ⟨c2, r2, m2, q1, q2, q3, q4, -⟩ := Cond.selects_spec (a (.selects Bundle.nN Bundle.tFill0 Bundle.tFill0) (by simp [Bundle.npeArmAtoms]))
    cases Option.some.inj (q1.symm.trans hfound)
    cases Option.some.inj (q2.symm.trans (State.methodFound?_of_named Y.fill0 (by decide)))
    cases Option.some.inj (q3.symm.trans Y.fill0)
    rw [Launch.admits_selectMethod X.admits]; exact q4
  have hselF : selectMethod e.platform s.vm P1.m.cls T.fill = .method N.fill := by
    obtain ⟨c2, r2, m2, q1, q2, q3, q4, -⟩ := Cond.selects_spec (a (.selects Bundle.nN Bundle.tFill Bundle.nFill) (by simp [Bundle.npeArmAtoms]))
    cases Option.some.inj (q1.symm.trans hfound)
    cases Option.some.inj (q2.symm.trans (State.methodFound?_of_named Y.fill (by decide)))
    cases Option.some.inj (q3.symm.trans hnNF)
    rw [Launch.admits_selectMethod X.admits]; exact q4
  obtain ⟨cellS0, hcS0, hiss⟩ := Y.statics
  obtain ⟨u0, hu0⟩ := Cond.staticRefV Y.unassigned L.unassignedStatic L.statics hcS0 hiss (a (.isRef (.static Bundle.tN "UNASSIGNED_STACK" Bundle.steD)) (by simp [Bundle.npeArmAtoms]))
  obtain ⟨sen, hsen⟩ := Cond.staticRefV Y.sentinel L.sentinelStatic L.statics hcS0 hiss (a (.isRef (.static Bundle.tN "SUPPRESSED_SENTINEL" Bundle.listD)) (by simp [Bundle.npeArmAtoms]))
  obtain ⟨ci198, i198, fB, hk198, hg198, ha198, hsB, -, hnB, htB, hffB⟩ := Cond.ownField (t := .object "java/lang/Object") Y.found L.cls (by decide +kernel) (a (.fieldLink Bundle.tN 198 Bundle.tN "backtrace" Bundle.objD) (by simp [Bundle.npeArmAtoms])) (a (.lays Bundle.tN Bundle.tN "backtrace" Bundle.objD) (by simp [Bundle.npeArmAtoms])) e.platform hpl
  obtain ⟨cellS, hcS', heS, -, hkeep⟩ := X.same.2.2.2.2.2 T.aS cellS0 hcS0
  have hcellS : T'.heap[T.aS]? = some cellS := hcS'
  have haS : T.aS < base := by
    obtain ⟨c9, k9, i9, f9, a9, cell9, v9, z1, z2, z3, z4, z5, z6, z7, z8, z9, z10, z11, z12⟩ := hsf
    have e9 := z2.symm.trans Y.unassigned
    simp only [Option.some.injEq, Prod.mk.injEq] at e9
    have e10 : k9 = T.kT := e9.2.1
    rw [e10, L.statics] at z4
    cases z4
    exact z12
  have hout' : ∀ i, (⟨T.aS, i⟩ : Loc) ∉ locs := fun i hmem => by
    have : base ≤ T.aS := hlocs _ hmem
    exact Nat.not_lt.mpr this haS
  have hknownS : cellS.vm ≠ .unknown := by
    rw [heS]; intro hu
    rw [show cellS0.vm = .unknown from hu] at hiss
    cases hiss
  obtain ⟨tyC, dC, hdC, hdnC⟩ := Cond.laysAt hfound hk Y.cause (a (.lays Bundle.nN Bundle.tN "cause" "Ljava/lang/Throwable;") (by simp [Bundle.npeArmAtoms]))
  obtain ⟨tyS, dS, hdS, hdnS⟩ := Cond.laysAt hfound hk Y.stack (a (.lays Bundle.nN Bundle.tN "stackTrace" Bundle.steD) (by simp [Bundle.npeArmAtoms]))
  obtain ⟨tyP, dP, hdP, hdnP⟩ := Cond.laysAt hfound hk Y.supp (a (.lays Bundle.nN Bundle.tN "suppressedExceptions" Bundle.listD) (by simp [Bundle.npeArmAtoms]))
  obtain ⟨tyX, dX, hdX, hdnX⟩ := Cond.laysAt hfound hk hffS (a (.lays Bundle.nN Bundle.nN "extendedMessageState" "I") (by simp [Bundle.npeArmAtoms, Bundle.npeAtoms]))
  have hnX : N.fState.name = "extendedMessageState" := (State.fieldFound?_type hffS (t := .int) (by decide +kernel)).1
  obtain ⟨tyB, dB, hdB, hdnB⟩ := Cond.laysAt hfound hk hffB (a (.lays Bundle.nN Bundle.tN "backtrace" Bundle.objD) (by simp [Bundle.npeArmAtoms]))
  have bC := Cond.laysApart hdB hdC hdnB hdnC (by rw [hnB, Y.causeName]; decide)
  have bS := Cond.laysApart hdB hdS hdnB hdnS (by rw [hnB, Y.stackName]; decide)
  have bP := Cond.laysApart hdB hdP hdnB hdnP (by rw [hnB, Y.suppName]; decide)
  have bX := Cond.laysApart hdB hdX hdnB hdnX (by rw [hnB, hnX]; decide)
  have hskip : SkipFacts T e.platform s (fun u => u) u0 ((npeCell N.toNpeT (preparedCellV T.toThrowableT (freshCell P1.m.cls N.kN) T'.heap.size u0 sen) T'.cur).withEntry T'.cur) :=
    ⟨{ ci198 := ci198, i198 := i198, fBack := fB }, ⟨hk198, hg198, ha198, hsB⟩, by
      have := fresh_default (c := P1.m.cls) tyB
      rw [htB] at this
      simpa [npeCell, preparedCellV, Cell.setSlot, Cell.withEntry, Array.getElem?_setIfInBounds, bC, bS, bP, bX, bC.symm, bS.symm, bP.symm, bX.symm, defaultValue] using this, fun _ _ => rfl⟩
  obtain ⟨T2, L2, ce, h1, h2, h3, h4, h5, h6, h7, h8⟩ := ex_npe0N X hexec hg hsize hnf T L Z LZ N LN P1 L1 [PR, PE] (fun P hP => by
      simp only [List.mem_cons, List.not_mem_nil, or_false] at hP
      rcases hP with rfl | rfl
      · exact LR
      · exact LEx) hlink1 ⟨hlinkR, hlinkE, trivial⟩ hfound hk hinit hordN hctor hsel0 hselF hcellS hknownS (by rw [hkeep _ (hout' _)]; exact hu0) (by rw [hkeep _ (hout' _)]; exact hsen)
    (by rw [fresh_default tyX, LN.stateInt]; rfl)
    (Cond.laysApart hdC hdX hdnC hdnX (by rw [Y.causeName, hnX]; decide)) (Cond.laysApart hdS hdX hdnS hdnX (by rw [Y.stackName, hnX]; decide)) (Cond.laysApart hdP hdX hdnP hdnX (by rw [Y.suppName, hnX]; decide))
    (Takes.of_laid hk hordN tyC (by rw [Y.causeType]; rfl)) (Takes.of_laid hk hordN tyS (by rw [Y.stackType]; exact fits_refV_array _ u0)) (Takes.of_laid hk hordN tyP (by rw [Y.suppType]; exact fits_refV_object _ sen)) (Takes.of_laid hk hordN tyX (by rw [LN.stateInt]; rfl))
    Y.objLocals hskip htr (by simpa using hRframes) hRlocals (by simp) hRcells (by rw [hn]; exact hRslots) hlocks
  have hsz : (freshCell P1.m.cls N.kN).slots.size = n := by simp [hn]
  rw [hsz] at h1
  exact ⟨T2, L2, ce, h1, h2, h3, h4, h5, by rw [h6]; exact hfound, h7, h8⟩
end OVc

