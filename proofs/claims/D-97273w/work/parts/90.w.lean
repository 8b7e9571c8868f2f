/-! AN EXCEPTION whose text the tables tell: a cast that fails -/
set_option maxRecDepth 100000
/-- as Rz; of the text its bounds are known -/
def RzT (γ : GG) (pc : Nat) (sts rest : List Value) (μ : Mem) (cls : String) (k : Nat) : Prop :=
  ∀ (p : Program) (l : Launch) (e : Env) (R : Room) (s : State) (m : MethodId) (args : Array Value) (below : List Frame) (meth : Method) (c : Code) (D : va_G) (b base : Nat) (H : Heap) (locs : List Loc) (cells slots : Nat) (ls : Array Slot) (T : State),
    GX γ D b base p l s m args meth c → RP s D b base μ H → ls.size = c.maxLocals → T.heap = H → Stand p l e R s m args below meth c T locs cells slots →
    ∃ (vm' : Vm) (text : String), (text == notModelled) = false ∧ (stringBytes (stringToUtf16 text)).size ≤ k ∧ Stand p l e R s m args below meth c (T.setVm vm') locs cells slots ∧ ∀ target, Steps p.tables e below (((T.setVm vm').setTop (F0 m pc ls (rest.map (rv b base)))).pushFrame (.throwNew cls (some text) none)) target → Steps p.tables e below (T.setTop (F0 m pc ls (sts.map (rv b base)))) target
section GLt
variable {γ : GG} {R : Room} {K : Option Value → Mem → Prop} {cells slots pc index : Nat} {lc : List (Option Value)} {st sts rest : List Value} {μ : Mem}
theorem gl_exT {cls : String} {names : List String} {h k : Nat} (hz : RzT γ pc sts rest μ cls k) (hcls : Bundle.fit cls = true) (hnames : ∀ n ∈ names, Bundle.fit n = true) (hsoe : (cls == "java/lang/StackOverflowError") = false) (hoom : (cls == "java/lang/OutOfMemoryError") = false) (harm : armOk (Bundle.messageArmAtoms cls names) = true) (hk : k ≤ 100000) (hroom : Nat.ble (rest.map fun v => v.category).sum 8 = true) (hn10 : names.length ≤ 5) (hR : 10 ≤ R.frames ∧ 10248 ≤ R.locals) (hc : cells + 3 ≤ R.cells) (hs : slots + (k + 10) ≤ R.slots) (hpos : 1 ≤ μ.1) (hex : γ.2.2.2.2.2 ≠ []) (hsr : Sr γ cls pc h) (kk : GL γ R K (cells + 3) (slots + (k + 10)) h lc [.ref (μ.1 + 2)] (μ.1 + 3, μ.2)) : GL γ R K cells slots pc lc sts μ := fun p l e s m args below meth c D b base H locs ls X P S L => by
  intro T hT X0
  have hls : ls.size = c.maxLocals := L.1.trans X.ml.symm
  obtain ⟨vm1, text, htext, hlen, X1, st1⟩ := hz p l e R s m args below meth c D b base H locs cells slots ls T X P hls hT X0
  have hr8 : ((rest.map (rv b base)).map fun v => v.category).sum ≤ 8 := by rw [rv_cats]; exact Nat.le_of_ble_eq_true hroom
  obtain ⟨T2, L2, ce, X2, hL2, hz2, ho2, hce, hcl, hvm, st2⟩ := ex_msg X1 X.hx (noTrace X0.admits X.fl) hcls hnames hsoe hoom (arm_use X harm) X.nx.2.2.1 S.2.2 htext
    (by rw [Launch.admits_arrayLengthLimit X0.admits]; omega) (by rw [Launch.admits_maxHeapBytes X0.admits]; show ¬ _ * 1 > _; omega) (g := F0 m pc ls (rest.map (rv b base))) rfl hls (by have := hR.1; omega) (by show 2 * 0 + _ + 10240 ≤ _; have := hR.2; show 2 * 0 + ((rest.map (rv b base)).map fun v => v.category).sum + 10240 ≤ _; omega) (by omega) hc (by omega) X.lks
  have hTs : (T.setVm vm1).heap = H := hT
  rw [hTs] at hL2 hz2 ho2 hce st2
  have hX := X.exc.resolve_left hex
  obtain ⟨vm2, X3, st3⟩ := ex_catch X2 (g := F0 m pc ls (rest.map (rv b base))) rfl X.own hce hcl hvm hX (hsr D b base p l s m args meth c X)
  have hsz : H.size + 1 = base + μ.1 := P.2.1
  have had : ad b base (μ.1 + 2) = H.size + 2 := by simp only [ad]; omega
  have hS' : va_S (fun q => base ≤ q) s.heap T2.heap (locs ++ L2) := ⟨Nat.le_trans S.1 (by omega), fun q h1 h2 => by rw [ho2 q (Nat.lt_of_lt_of_le h1 S.1)]; exact S.2.1 q h1 h2, fun q hq => by
    rcases List.mem_append.mp hq with h1 | h1
    · exact S.2.2 q h1
    · exact Nat.le_trans X.bs (Nat.le_trans S.1 (hL2 q h1))⟩
  have hw := W.widen (Nat.le_refl (cells + 3)) (show slots + ((stringBytes (stringToUtf16 text)).size + 4 + 6) ≤ slots + (k + 10) by omega) (kk p l e s m args below meth c D b base T2.heap (locs ++ L2) ls X (P.skip hz2 ho2) hS' L)
  obtain ⟨t, a1, b1⟩ := hw (T2.setVm vm2) rfl X3
  refine ⟨t, st1 _ (st2 _ (st3 _ ?_)), b1⟩
  rw [List.map_cons, show rv b base (.ref (μ.1 + 2)) = .ref (ad b base (μ.1 + 2)) from rfl, had] at a1
  exact a1
end GLt
theorem fc_spec {vm : Vm} {name : String} {c : ClassId} {k : Class} (h : vm.findClass name = some c) (hk : vm.classes[c]? = some k) : k.name = name ∧ k.hidden = none ∧ k.loader = none := by
  obtain ⟨hlt, hp, _⟩ := Array.findIdx?_eq_some_iff_getElem.mp h
  have e : k = vm.classes[c] := by
    have := hk
    rw [Array.getElem?_eq_getElem hlt] at this
    exact (Option.some.inj this).symm
  rw [← e] at hp
  simp only [Bool.and_eq_true, beq_iff_eq, Option.isNone_iff_eq_none] at hp
  exact ⟨hp.1.1.1, hp.1.1.2, hp.2⟩
theorem home_len {vm : Vm} {k : Class} (hl : k.loader = none) (hp : packageOf k.name = "") (hm : vm.modules.all (fun m => m.loader.isSome || m.name == "java.base" || !(castPackages_1.any fun p => m.packages.contains p)) = true) : (vm.home k).toList.length ≤ 38 := by
  have key : ∀ m, vm.moduleOf k = some m → m.name = "java.base" := by
    intro m h
    unfold Vm.moduleOf at h
    split at h
    · have := List.find?_some h
      simpa using this
    · have h1 := List.find?_some h
      have h2 := List.mem_of_find?_eq_some h
      have h3 := List.all_eq_true.mp hm m h2
      simp only [Bool.and_eq_true, beq_iff_eq, hp] at h1
      simp only [Bool.or_eq_true, h1.1, hl, Option.isSome_none, Bool.false_eq_true, false_or, beq_iff_eq] at h3
      rcases h3 with h3 | h3
      · exact h3
      · have : (castPackages_1.any fun p => m.packages.contains p) = true := List.any_eq_true.mpr ⟨"", by decide, h1.2⟩
        rw [this] at h3
        cases h3
  unfold Vm.home
  rw [hl]
  have e1 : " of loader ".toList.length = 11 := by decide
  have e2 : (vm.loaderName none).toList.length = 11 := by
    show "'bootstrap'".toList.length = 11
    decide
  have e3 : "unnamed module".toList.length = 14 := by decide
  have e4 : ("module " ++ "java.base").toList.length = 16 := by decide
  rw [String.toList_append, String.toList_append, List.length_append, List.length_append, e1, e2]
  cases h : vm.moduleOf k with
  | none => show "unnamed module".toList.length + 11 + 11 ≤ 38; omega
  | some m =>
    show ("module " ++ m.name).toList.length + 11 + 11 ≤ 38
    rw [key m h]
    omega
theorem cast_text {vm : Vm} {a b : Class} (h1 : a.hidden = none) (h2 : b.hidden = none) (h3 : a.loader = none) (h4 : b.loader = none) (p1 : packageOf a.name = "") (p2 : packageOf b.name = "") (l1 : (dotted a.name).toList.length ≤ 20) (l2 : (dotted b.name).toList.length ≤ 20)
    (hm : vm.modules.all (fun m => m.loader.isSome || m.name == "java.base" || !(castPackages_1.any fun p => m.packages.contains p)) = true) : ((Op.checkcast.message vm a b) == notModelled) = false ∧ (stringBytes (stringToUtf16 (Op.checkcast.message vm a b))).size ≤ 824 := by
  have s1 : a.shown = dotted a.name := by unfold Class.shown; rw [h1]
  have s2 : b.shown = dotted b.name := by unfold Class.shown; rw [h2]
  have g1 := home_len h3 p1 hm
  have g2 := home_len h4 p2 hm
  have hh : (vm.homes a b).toList.length ≤ 132 := by
    unfold Vm.homes
    rw [s1, s2]
    split
    · show (toString (dotted a.name) ++ toString " and " ++ toString (dotted b.name) ++ toString " are in " ++ toString (vm.home a)).toList.length ≤ 132
      simp only [String.toList_append, List.length_append]
      have e1 : (toString " and ").toList.length = 5 := by decide
      have e2 : (toString " are in ").toList.length = 8 := by decide
      have l1' : (toString (dotted a.name)).toList.length ≤ 20 := l1
      have l2' : (toString (dotted b.name)).toList.length ≤ 20 := l2
      have g1' : (toString (vm.home a)).toList.length ≤ 38 := g1
      omega
    · show (toString (dotted a.name) ++ toString " is in " ++ toString (vm.home a) ++ toString "; " ++ toString (dotted b.name) ++ toString " is in " ++ toString (vm.home b)).toList.length ≤ 132
      simp only [String.toList_append, List.length_append]
      have e1 : (toString " is in ").toList.length = 7 := by decide
      have e2 : (toString "; ").toList.length = 2 := by decide
      have l1' : (toString (dotted a.name)).toList.length ≤ 20 := l1
      have l2' : (toString (dotted b.name)).toList.length ≤ 20 := l2
      have g1' : (toString (vm.home a)).toList.length ≤ 38 := g1
      have g2' : (toString (vm.home b)).toList.length ≤ 38 := g2
      omega
  have hM : Op.checkcast.message vm a b = toString "class " ++ toString (dotted a.name) ++ toString " cannot be cast to class " ++ toString (dotted b.name) ++ toString " (" ++ toString (vm.homes a b) ++ toString ")" := by
    unfold Op.checkcast.message
    rw [s1, s2]
  rw [hM]
  constructor
  · rw [beq_eq_false_iff_ne]
    intro h
    have z := congrArg String.toList h
    simp only [String.toList_append] at z
    have z1 : (toString "class ").toList = 'c' :: "lass ".toList := by decide
    have z2 : notModelled.toList = '\u0000' :: " a message that is not modelled".toList := by decide
    rw [z1, z2] at z
    simp at z
  · refine Nat.le_trans (stringBytes_size_le _) (Nat.le_trans (Nat.mul_le_mul_left 2 (utf16_size_le _)) ?_)
    simp only [String.toList_append, List.length_append]
    have e1 : (toString "class ").toList.length = 6 := by decide
    have e2 : (toString " cannot be cast to class ").toList.length = 25 := by decide
    have e3 : (toString " (").toList.length = 2 := by decide
    have e4 : (toString ")").toList.length = 1 := by decide
    have l1' : (toString (dotted a.name)).toList.length ≤ 20 := l1
    have l2' : (toString (dotted b.name)).toList.length ≤ 20 := l2
    have hh' : (toString (vm.homes a b)).toList.length ≤ 132 := hh
    omega
section RZt
variable {γ : GG} {R : Room} {K : Option Value → Mem → Prop} {cells slots pc index n ci N h : Nat} {lc : List (Option Value)} {st : List Value} {μ : Mem} {T : u_T} {fs : List Value}
theorem rzt_cast {C nm : String} (hd : decode γ.2.1 pc = .ok (.checkcast index, 3)) (hl : lk μ n = some (.inr (.inr (ci, fs)))) (hc : vwCl[ci]? = some (C, T, N)) (hlink : Cond.classLink γ.1 index nm ∈ lw_all) (hnc : (C, nm) ∈ ncL) (p1 : packageOf C = "") (p2 : packageOf nm = "") (l1 : (dotted C).toList.length ≤ 20) (l2 : (dotted nm).toList.length ≤ 20) : RzT γ pc (.ref n :: st) (.ref n :: st) μ "java/lang/ClassCastException" 824 := fun p l e R s m args below meth c D b base H locs cells slots ls U X P hls hT X0 => by
  obtain ⟨r, hr, cell, g1, g2, g3, -⟩ := P.2.2.2 _ _ hl
  have hcls : s.vm.findClass C = some cell.cls := by rw [g2]; exact (X.K.1 ci _ hc).2.1
  obtain ⟨c0, t0, f1, f2, f3⟩ := X.nx.2.1 _ hnc
  cases hcls.symm.trans f1
  have hpl : e.platform.magicAccessors = ({} : Platform).magicAccessors := by rw [X0.admits.platform]
  obtain ⟨c', hc', hcl⟩ := Cond.classLink_spec X.own (X.hts _ hlink) e.platform hpl
  cases f2.symm.trans hc'
  obtain ⟨dk, _, _, kt, hd0, _, _, _, _, hkt, _, hopen⟩ := hcl.here
  have hcl₀ := X0.warmed.classLinks hcl
  have hW' : s.WarmedH (U.vm.noted m.cls index (.cls t0)) := X0.warmed.noted hd0 hopen (State.rightAt_cls hcl)
  obtain ⟨ks, hks, -⟩ := Vm.findClass_spec hcls
  obtain ⟨ks', hks', es⟩ := hW'.alike.2.2 _ _ hks
  obtain ⟨kt', hkt', et⟩ := hW'.alike.2.2 _ _ hkt
  have hC' : (U.vm.noted m.cls index (.cls t0)).findClass C = some cell.cls := by rw [hW'.alike.findClass]; exact hcls
  have hT' : (U.vm.noted m.cls index (.cls t0)).findClass nm = some t0 := by rw [hW'.alike.findClass]; exact f2
  obtain ⟨a1, a2, a3⟩ := fc_spec hC' hks'
  obtain ⟨b1, b2, b3⟩ := fc_spec hT' hkt'
  have hmod : (U.vm.noted m.cls index (.cls t0)).modules.all (fun m => m.loader.isSome || m.name == "java.base" || !(castPackages_1.any fun p => m.packages.contains p)) = true := by
    have e : (U.vm.noted m.cls index (.cls t0)).modules = s.vm.modules := by
      have := congrArg Vm.modules hW'.alike.bare_eq
      first | exact this | exact this.symm
    rw [e]
    exact X.nx.2.2.2.2
  obtain ⟨t1, t2⟩ := cast_text (vm := U.vm.noted m.cls index (.cls t0)) a2 b2 a3 b3 (by rw [a1]; exact p1) (by rw [b1]; exact p2) (by rw [a1]; exact l1) (by rw [b1]; exact l2) hmod
  refine ⟨_, _, t1, t2, X0.noted hW', fun target a => ?_⟩
  show Steps p.tables e below (U.setTop (F0 m pc ls (.ref (ad b base n) :: st.map (rv b base)))) target
  have hcell : U.heap[ad b base n]? = some cell := by rw [hT]; exact g1
  jvm_step X0.here [X.hx, X.hb, hd, Op.checkcast.wp_cold (e := e) (s := U) (f := F0 m pc ls (.ref (ad b base n) :: st.map (rv b base))) X0.here.top rfl (resolveClass_links e.toSetting hcl₀) hcl₀.ready,
    Op.checkcast.wp_ready (e := e) (s := U.setVm (U.vm.noted m.cls index (.cls t0))) (f := F0 m pc ls (.ref (ad b base n) :: st.map (rv b base))) X0.here.top hcl₀.ready rfl]
  refine ⟨cell, hcell, (fun k q => by rw [g3] at q; cases q), ks', hks', kt', hkt', ?_⟩
  rw [if_neg (by rw [hW'.alike.assignable, f3]; decide)]
  exact a
theorem gl_castX {C nm : String} (hd : decode γ.2.1 pc = .ok (.checkcast index, 3)) (hl : lk μ n = some (.inr (.inr (ci, fs)))) (hc : vwCl[ci]? = some (C, T, N)) (hlink : Cond.classLink γ.1 index nm ∈ lw_all) (hnc : (C, nm) ∈ ncL) (p1 : packageOf C = "") (p2 : packageOf nm = "") (l1 : (dotted C).toList.length ≤ 20) (l2 : (dotted nm).toList.length ≤ 20) (hroom : Nat.ble ((Value.ref n :: st).map fun v => v.category).sum 8 = true) (hR : 10 ≤ R.frames ∧ 10248 ≤ R.locals) (hcc : cells + 3 ≤ R.cells) (hs : slots + (824 + 10) ≤ R.slots) (hpos : 1 ≤ μ.1) (hex : γ.2.2.2.2.2 ≠ []) (hsr : Sr γ "java/lang/ClassCastException" pc h) (kk : GL γ R K (cells + 3) (slots + (824 + 10)) h lc [.ref (μ.1 + 2)] (μ.1 + 3, μ.2)) : GL γ R K cells slots pc lc (.ref n :: st) μ :=
  gl_exT (names := rEx) (rzt_cast hd hl hc hlink hnc p1 p2 l1 l2) (by decide +kernel) (by decide +kernel) (by decide +kernel) (by decide +kernel) arm_CCE (by omega) hroom (by decide) hR hcc hs hpos hex hsr kk
end RZt

