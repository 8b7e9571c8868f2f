/-! EXCEPTIONS, second part: the search in the method's own table, catch types linked or not yet -/
set_option maxRecDepth 100000
section EYa
variable {E : CtlPost} {e : Env} {d : Bool} {acts : List Action} {s : State} {f : JFrame} {a : Addr} {Q : Handler → Pre}
theorem fh_cold {x : ExceptionTableEntry} {t : List ExceptionTableEntry} {c : ClassId} {cell : Cell} {vm' : Vm} (hx : covers x f.pc = true) (h0 : x.catchType ≠ 0)
    (hg : (Jvm.resolveClass f.method.cls x.catchType).Gives e.toSetting s.vm (.ok c) vm') (hsz : vm'.classes.size ≤ s.vm.classes.size) (hcell : s.heap[a]? = some cell) (hobj : ∀ k, cell.vm ≠ .statics k)
    (hk : ∃ k, vm'.classes[cell.cls]? = some k) (hc : ∃ k, vm'.classes[c]? = some k) :
    wp (findHandler.go f a (x :: t)) Q E e d acts s ↔
      if vm'.assignable cell.cls c = true then Q (.found x.handlerPc) d acts (s.setVm vm') else wp (findHandler.go f a t) Q E e d acts (s.setVm vm') := by
  simp only [covers] at hx
  obtain ⟨ha, ht⟩ := hg.op (op := VmOp.resolveClass f.method.cls x.catchType) rfl
  cases hfit : vm'.assignable cell.cls c <;>
    simp [findHandler.go, hx, h0, ha, ht, hsz, hcell, hobj, hk, hc, hfit, VmOp.dirties, VmOp.acts]
end EYa
/-- the first row of the table that takes an exception of the class cls thrown at pc is that with the handler h -/
def srch (args : Array Value) (s : State) (own cls : String) (pc h : Nat) : List (Nat × Nat × Nat × Nat) → Prop
  | [] => False
  | x :: t => ((x.1 ≤ pc ∧ pc < x.2.1) → x.2.2.2 ≠ 0 ∧ ∃ nm : String, (Cond.classLink own x.2.2.2 nm).before args s = true ∧ ((h = x.2.2.1 ∧ ∃ c0 t0 : ClassId, s.vm.findClass cls = some c0 ∧ s.vm.findClass nm = some t0 ∧ s.vm.assignable c0 t0 = true) ∨ (va_Nc cls nm s ∧ srch args s own cls pc h t))) ∧ (¬ (x.1 ≤ pc ∧ pc < x.2.1) → srch args s own cls pc h t)
section EYb
variable {p : Program} {l : Launch} {e : Env} {R : Room} {s : State} {m : MethodId} {args : Array Value} {below : List Frame} {meth : Method} {c : Code} {T : State} {locs : List Loc} {cells slots : Nat}
theorem ex_go {own cls : String} {g : JFrame} {a : Addr} {h : Nat} {cell : Cell} (hpl : e.platform.magicAccessors = ({} : Platform).magicAccessors) (hown : s.vm.findClass own = some g.method.cls) (hcl : s.vm.findClass cls = some cell.cls) (hobj : ∀ k, cell.vm ≠ .statics k) : ∀ (ents : List ExceptionTableEntry) (u : State), s.WarmedH u.vm → u.heap[a]? = some cell → srch args s own cls g.pc h (ents.map (fun h => (h.startPc, h.endPc, h.handlerPc, h.catchType))) →
    ∃ vm', s.WarmedH vm' ∧ ∀ (Q : Handler → Pre) (E : CtlPost) (d : Bool) (acts : List Action), Q (.found h) d acts (u.setVm vm') → wp (findHandler.go g a ents) Q E e d acts u
  | [], u, hW, hc, hs => hs.elim
  | x :: t, u, hW, hc, hs => by
    obtain ⟨hs1, hs2⟩ := hs
    by_cases hcv : x.startPc ≤ g.pc ∧ g.pc < x.endPc
    · obtain ⟨h0, nm, hlink, hor⟩ := hs1 hcv
      have hcv' : covers x g.pc = true := by simp [covers, hcv.1, hcv.2]
      obtain ⟨ct, hct, hcl0⟩ := Cond.classLink_spec hown hlink e.platform hpl
      obtain ⟨hg₁, hwarm₁, hready₁⟩ := State.classEntry (e := e) hW hcl0
      have hsz : (u.vm.noted g.method.cls x.catchType (.cls ct)).classes.size ≤ u.vm.classes.size := by no_record
      generalize u.vm.noted g.method.cls x.catchType (.cls ct) = vm₁ at hg₁ hwarm₁ hready₁ hsz
      obtain ⟨kc, hkc, -⟩ := Vm.findClass_spec hcl
      obtain ⟨kt, hkt, -⟩ := Vm.findClass_spec hct
      obtain ⟨kc', hkc', -⟩ := hwarm₁.alike.2.2 _ _ hkc
      obtain ⟨kt', hkt', -⟩ := hwarm₁.alike.2.2 _ _ hkt
      rcases hor with ⟨rfl, c0, t0, f1, f2, f3⟩ | ⟨⟨c0, t0, f1, f2, f3⟩, hs3⟩
      · cases hcl.symm.trans f1
        cases hct.symm.trans f2
        refine ⟨vm₁, hwarm₁, fun Q E d acts hQ => ?_⟩
        rw [fh_cold hcv' h0 hg₁ hsz hc hobj ⟨_, hkc'⟩ ⟨_, hkt'⟩, if_pos (by rw [hwarm₁.alike.assignable]; exact f3)]
        exact hQ
      · cases hcl.symm.trans f1
        cases hct.symm.trans f2
        obtain ⟨vm', hW', key⟩ := ex_go hpl hown hcl hobj t (u.setVm vm₁) hwarm₁ hc hs3
        refine ⟨vm', hW', fun Q E d acts hQ => ?_⟩
        rw [fh_cold hcv' h0 hg₁ hsz hc hobj ⟨_, hkc'⟩ ⟨_, hkt'⟩, if_neg (by rw [hwarm₁.alike.assignable, f3]; decide)]
        refine key Q E d acts ?_
        rw [State.setVm_twice]
        exact hQ
    · have hcv' : covers x g.pc = false := by
        simp only [covers]
        by_cases z : x.startPc ≤ g.pc
        · have : ¬ g.pc < x.endPc := fun w => hcv ⟨z, w⟩
          simp [this]
        · simp [z]
      obtain ⟨vm', hW', key⟩ := ex_go hpl hown hcl hobj t u hW hc (hs2 hcv)
      refine ⟨vm', hW', fun Q E d acts hQ => ?_⟩
      rw [W.findHandler_go_skip hcv']
      exact key Q E d acts hQ
theorem step_catch {s2 : State} {a : Addr} {f : JFrame} {r : List Frame} {pc : Nat} {vm' : Vm} (hfind : ∀ (Q : Handler → Pre) (E : CtlPost) (d : Bool) (acts : List Action), Q (.found pc) d acts (s2.setVm vm') → wp (findHandler f a) Q E e d acts s2) :
    (stepThrowing e s2 a (.java f :: r)).Is ((s2.setVm vm').setFrames (.java { f with pc := pc, stack := [.ref a] } :: r)) [] := by
  simp only [stepThrowing, searchFrame, vmDo]
  generalize hr : Sem.go _ e false [] s2 = res
  obtain ⟨as, rfl, ha⟩ := Sem.eq_ok_of hr (a := Handler.found pc) (s' := s2.setVm vm') (acts' := []) (by
    rw [wp_bind']
    refine hfind _ _ _ _ ?_
    simp)
  exact ⟨rfl, ha⟩
/-- thrown over g, caught by g's own table: the walk goes on at the handler -/
theorem ex_catch (X : Stand p l e R s m args below meth c T locs cells slots) {own cls : String} {g : JFrame} (hg : g.method = m) {a : Addr} {h : Nat} {cell : Cell} (hown : s.vm.findClass own = some m.cls) (hcell : T.heap[a]? = some cell) (hcl : s.vm.findClass cls = some cell.cls) (hvm : cell.vm = .none) {hh : List (Nat × Nat × Nat × Nat)} (hex : c.exceptionTable.toList.map (fun h => (h.startPc, h.endPc, h.handlerPc, h.catchType)) = hh) (hs : srch args s own cls g.pc h hh) :
    ∃ vm', Stand p l e R s m args below meth c (T.setVm vm') locs cells slots ∧ ∀ target, Steps p.tables e below ((T.setVm vm').setTop { g with pc := h, stack := [.ref a] }) target → Steps p.tables e below ((T.setTop g).pushFrame (.throwing a)) target := by
  have hpl : e.platform.magicAccessors = ({} : Platform).magicAccessors := by rw [X.admits.platform]
  subst hg
  have hvm2 : ((T.setTop g).pushFrame (.throwing a)).vm = T.vm := Stand.throwing_vm T g a
  have hhp : ((T.setTop g).pushFrame (.throwing a)).heap = T.heap := Stand.throwing_heap T g a
  rw [← hex] at hs
  obtain ⟨vm', hW', key⟩ := ex_go (e := e) hpl hown hcl (fun k hk => by rw [hvm] at hk; cases hk) c.exceptionTable.toList ((T.setTop g).pushFrame (.throwing a)) (by rw [hvm2]; exact X.warmed) (by rw [hhp]; exact hcell) hs
  refine ⟨vm', X.noted hW', fun target hrest => ?_⟩
  obtain ⟨hgo, hw⟩ := X.here.throwing (g := g) a
  refine Steps.head hgo hw ?_
  have hf : ∀ (Q : Handler → Pre) (E : CtlPost) (d : Bool) (acts : List Action), Q (.found h) d acts (((T.setTop g).pushFrame (.throwing a)).setVm vm') → wp (findHandler g a) Q E e d acts ((T.setTop g).pushFrame (.throwing a)) := by
    intro Q E d acts hQ
    rw [W.findHandler_eq (by rw [hvm2]; exact X.method') X.code]
    exact key Q E d acts hQ
  rw [stepThread_throwing (frames_entered X.here.top _), (step_catch hf).1]
  obtain ⟨g₀, hg⟩ := Option.isSome_iff_exists.mp X.here.top
  obtain ⟨r, hr⟩ := State.topJava?_eq_some.mp hg
  have hr' : (T.setVm vm').frames = .java g₀ :: r := hr
  rw [State.setTop_of_frames _ hr'] at hrest
  rw [State.pushFrame, State.setFrames_setVm, State.setFrames_setFrames, State.setTop_of_frames _ hr, State.setFrames_setVm, State.setFrames_setFrames]
  rw [hr]
  exact hrest
end EYb

