/-! the component made -/
set_option maxRecDepth 100000
def xD : List Value := [.int 0, .null, .int 0, .long 0, .long 0, .null, .null, .int 0, .null, .int 0, .null, .null, .null, .null, .int 0, .int 0, .null, .int 0, .null, .int 0, .null, .null, .null, .null, .null, .int 0, .int 0, .null, .null, .long 0]
def x0 : XY := (fun _ => 0, fun k => if k = 4 then 1 else 0, fun _ _ => 0, fun _ _ => none, none)
theorem x_init (L : Nat) (sc : Nat × (Nat → Int32)) (fm : List MC) (po : Nat → Option MC) : Ct yX0_init gX0_init (L + 10) 16 635 [.ref 1] (2, sc, [.inr (.inr (0, xD))], fm, po) (Rt none (mX (18, sc, fm, po) x0)) := by
  refine Ct.of rfl rfl rfl rfl rfl ?_
  refine gl_aload_n dX0_init_0 rfl ?_
  refine gl_objInit dX0_init_1 q101 q102 q103 (by dsimp only [rm]; omega) (by dsimp only [rm, List.map, Value.category, List.sum, List.foldr]; omega) ?_
  refine gl_aload_n dX0_init_4 rfl ?_
  refine gl_bipush (v := nI 6) dX0_init_5 (by decide) ?_
  refine gl_newa (index := 0) (t := 0) (N := 6) dX0_init_7 rfl q204 rfl (by omega) ⟨Nat.le_of_ble_eq_true rfl, fun _ => rfl, fun h => absurd h (Nat.not_le_of_gt (Nat.le_of_ble_eq_true rfl))⟩ (by dsimp only [rm]; omega) (by dsimp only [rm]; omega) ?_
  refine gl_putF (k := 1) dX0_init_9 rfl (rfl : vwCl[0]? = some (RX0, TX0, 30)) in_X0 tyX0 tyX0_ok nmX0 (by decide) rfl rfl rfl q113 (fun _ _ => ⟨rfl, rfl⟩) rfl ?_
  refine gl_mem (μ1 := (3, sc, [.inr (.inr (0, [.int 0, .ref 2, .int 0, .long 0, .long 0, .null, .null, .int 0, .null, .int 0, .null, .null, .null, .null, .int 0, .int 0, .null, .int 0, .null, .int 0, .null, .null, .null, .null, .null, .int 0, .int 0, .null, .null, .long 0])), .inl (0, 6, fun _ => 0)], fm, po)) rfl ?_
  refine gl_aload_n dX0_init_12 rfl ?_
  refine gl_lconst (v := 1) dX0_init_13 (by decide) ?_
  refine gl_put (k := 4) dX0_init_14 rfl (rfl : vwCl[0]? = some (RX0, TX0, 30)) in_X0 tyX0 tyX0_ok nmX0 (by decide) rfl q116 (fun _ _ => ⟨rfl, rfl⟩) rfl ?_
  refine gl_mem (μ1 := (3, sc, [.inr (.inr (0, [.int 0, .ref 2, .int 0, .long 0, .long 1, .null, .null, .int 0, .null, .int 0, .null, .null, .null, .null, .int 0, .int 0, .null, .int 0, .null, .int 0, .null, .null, .null, .null, .null, .int 0, .int 0, .null, .null, .long 0])), .inl (0, 6, fun _ => 0)], fm, po)) rfl ?_
  refine gl_aload_n dX0_init_17 rfl ?_
  refine gl_bipush (v := nI 6) dX0_init_18 (by decide) ?_
  refine gl_anew (t := 0) (N := 6) dX0_init_20 q104 n105 rfl (by decide) ⟨Nat.le_of_ble_eq_true rfl, fun _ => rfl, fun h => absurd h (Nat.not_le_of_gt (Nat.le_of_ble_eq_true rfl))⟩ (by dsimp only [rm]; omega) (by dsimp only [rm]; omega) ?_
  refine gl_putF (k := 5) dX0_init_23 rfl (rfl : vwCl[0]? = some (RX0, TX0, 30)) in_X0 tyX0 tyX0_ok nmX0 (by decide) rfl rfl rfl q117 (fun _ _ => ⟨rfl, rfl⟩) rfl ?_
  refine gl_mem (μ1 := (4, sc, [.inr (.inr (0, [.int 0, .ref 2, .int 0, .long 0, .long 1, .ref 3, .null, .int 0, .null, .int 0, .null, .null, .null, .null, .int 0, .int 0, .null, .int 0, .null, .int 0, .null, .null, .null, .null, .null, .int 0, .int 0, .null, .null, .long 0])), .inl (0, 6, fun _ => 0), .inr (.inl (0, 6, fun _ => none))], fm, po)) rfl ?_
  refine gl_aload_n dX0_init_26 rfl ?_
  refine gl_iconst (v := nI 4) dX0_init_27 (by decide) ?_
  refine gl_anew (t := 1) (N := 4) dX0_init_28 q106 n107 rfl (by decide) ⟨Nat.le_of_ble_eq_true rfl, fun _ => rfl, fun h => absurd h (Nat.not_le_of_gt (Nat.le_of_ble_eq_true rfl))⟩ (by dsimp only [rm]; omega) (by dsimp only [rm]; omega) ?_
  refine gl_putF (k := 6) dX0_init_31 rfl (rfl : vwCl[0]? = some (RX0, TX0, 30)) in_X0 tyX0 tyX0_ok nmX0 (by decide) rfl rfl rfl q118 (fun _ _ => ⟨rfl, rfl⟩) rfl ?_
  refine gl_mem (μ1 := (5, sc, [.inr (.inr (0, [.int 0, .ref 2, .int 0, .long 0, .long 1, .ref 3, .ref 4, .int 0, .null, .int 0, .null, .null, .null, .null, .int 0, .int 0, .null, .int 0, .null, .int 0, .null, .null, .null, .null, .null, .int 0, .int 0, .null, .null, .long 0])), .inl (0, 6, fun _ => 0), .inr (.inl (0, 6, fun _ => none)), .inr (.inl (1, 4, fun _ => none))], fm, po)) rfl ?_
  refine gl_aload_n dX0_init_34 rfl ?_
  refine gl_bipush (v := nI 7) dX0_init_35 (by decide) ?_
  refine gl_anew (t := 2) (N := 7) dX0_init_37 q108 n109 rfl (by decide) ⟨Nat.le_of_ble_eq_true rfl, fun _ => rfl, fun h => absurd h (Nat.not_le_of_gt (Nat.le_of_ble_eq_true rfl))⟩ (by dsimp only [rm]; omega) (by dsimp only [rm]; omega) ?_
  refine gl_putF (k := 8) dX0_init_40 rfl (rfl : vwCl[0]? = some (RX0, TX0, 30)) in_X0 tyX0 tyX0_ok nmX0 (by decide) rfl rfl rfl q121 (fun _ _ => ⟨rfl, rfl⟩) rfl ?_
  refine gl_mem (μ1 := (6, sc, [.inr (.inr (0, [.int 0, .ref 2, .int 0, .long 0, .long 1, .ref 3, .ref 4, .int 0, .ref 5, .int 0, .null, .null, .null, .null, .int 0, .int 0, .null, .int 0, .null, .int 0, .null, .null, .null, .null, .null, .int 0, .int 0, .null, .null, .long 0])), .inl (0, 6, fun _ => 0), .inr (.inl (0, 6, fun _ => none)), .inr (.inl (1, 4, fun _ => none)), .inr (.inl (2, 7, fun _ => none))], fm, po)) rfl ?_
  refine gl_aload_n dX0_init_43 rfl ?_
  refine gl_bipush (v := nI 28) dX0_init_44 (by decide) ?_
  refine gl_newa (index := 0) (t := 0) (N := 28) dX0_init_46 rfl q204 rfl (by omega) ⟨Nat.le_of_ble_eq_true rfl, fun _ => rfl, fun h => absurd h (Nat.not_le_of_gt (Nat.le_of_ble_eq_true rfl))⟩ (by dsimp only [rm]; omega) (by dsimp only [rm]; omega) ?_
  refine gl_putF (k := 10) dX0_init_48 rfl (rfl : vwCl[0]? = some (RX0, TX0, 30)) in_X0 tyX0 tyX0_ok nmX0 (by decide) rfl rfl rfl q123 (fun _ _ => ⟨rfl, rfl⟩) rfl ?_
  refine gl_mem (μ1 := (7, sc, [.inr (.inr (0, [.int 0, .ref 2, .int 0, .long 0, .long 1, .ref 3, .ref 4, .int 0, .ref 5, .int 0, .ref 6, .null, .null, .null, .int 0, .int 0, .null, .int 0, .null, .int 0, .null, .null, .null, .null, .null, .int 0, .int 0, .null, .null, .long 0])), .inl (0, 6, fun _ => 0), .inr (.inl (0, 6, fun _ => none)), .inr (.inl (1, 4, fun _ => none)), .inr (.inl (2, 7, fun _ => none)), .inl (0, 28, fun _ => 0)], fm, po)) rfl ?_
  refine gl_aload_n dX0_init_51 rfl ?_
  refine gl_bipush (v := nI 7) dX0_init_52 (by decide) ?_
  refine gl_newa (index := 0) (t := 0) (N := 7) dX0_init_54 rfl q204 rfl (by omega) ⟨Nat.le_of_ble_eq_true rfl, fun _ => rfl, fun h => absurd h (Nat.not_le_of_gt (Nat.le_of_ble_eq_true rfl))⟩ (by dsimp only [rm]; omega) (by dsimp only [rm]; omega) ?_
  refine gl_putF (k := 11) dX0_init_56 rfl (rfl : vwCl[0]? = some (RX0, TX0, 30)) in_X0 tyX0 tyX0_ok nmX0 (by decide) rfl rfl rfl q124 (fun _ _ => ⟨rfl, rfl⟩) rfl ?_
  refine gl_mem (μ1 := (8, sc, [.inr (.inr (0, [.int 0, .ref 2, .int 0, .long 0, .long 1, .ref 3, .ref 4, .int 0, .ref 5, .int 0, .ref 6, .ref 7, .null, .null, .int 0, .int 0, .null, .int 0, .null, .int 0, .null, .null, .null, .null, .null, .int 0, .int 0, .null, .null, .long 0])), .inl (0, 6, fun _ => 0), .inr (.inl (0, 6, fun _ => none)), .inr (.inl (1, 4, fun _ => none)), .inr (.inl (2, 7, fun _ => none)), .inl (0, 28, fun _ => 0), .inl (0, 7, fun _ => 0)], fm, po)) rfl ?_
  refine gl_aload_n dX0_init_59 rfl ?_
  refine gl_bipush (v := nI 7) dX0_init_60 (by decide) ?_
  refine gl_newa (index := 0) (t := 0) (N := 7) dX0_init_62 rfl q204 rfl (by omega) ⟨Nat.le_of_ble_eq_true rfl, fun _ => rfl, fun h => absurd h (Nat.not_le_of_gt (Nat.le_of_ble_eq_true rfl))⟩ (by dsimp only [rm]; omega) (by dsimp only [rm]; omega) ?_
  refine gl_putF (k := 12) dX0_init_64 rfl (rfl : vwCl[0]? = some (RX0, TX0, 30)) in_X0 tyX0 tyX0_ok nmX0 (by decide) rfl rfl rfl q125 (fun _ _ => ⟨rfl, rfl⟩) rfl ?_
  refine gl_mem (μ1 := (9, sc, [.inr (.inr (0, [.int 0, .ref 2, .int 0, .long 0, .long 1, .ref 3, .ref 4, .int 0, .ref 5, .int 0, .ref 6, .ref 7, .ref 8, .null, .int 0, .int 0, .null, .int 0, .null, .int 0, .null, .null, .null, .null, .null, .int 0, .int 0, .null, .null, .long 0])), .inl (0, 6, fun _ => 0), .inr (.inl (0, 6, fun _ => none)), .inr (.inl (1, 4, fun _ => none)), .inr (.inl (2, 7, fun _ => none)), .inl (0, 28, fun _ => 0), .inl (0, 7, fun _ => 0), .inl (0, 7, fun _ => 0)], fm, po)) rfl ?_
  refine gl_aload_n dX0_init_67 rfl ?_
  refine gl_bipush (v := nI 28) dX0_init_68 (by decide) ?_
  refine gl_newa (index := 0) (t := 0) (N := 28) dX0_init_70 rfl q204 rfl (by omega) ⟨Nat.le_of_ble_eq_true rfl, fun _ => rfl, fun h => absurd h (Nat.not_le_of_gt (Nat.le_of_ble_eq_true rfl))⟩ (by dsimp only [rm]; omega) (by dsimp only [rm]; omega) ?_
  refine gl_putF (k := 16) dX0_init_72 rfl (rfl : vwCl[0]? = some (RX0, TX0, 30)) in_X0 tyX0 tyX0_ok nmX0 (by decide) rfl rfl rfl q129 (fun _ _ => ⟨rfl, rfl⟩) rfl ?_
  refine gl_mem (μ1 := (10, sc, [.inr (.inr (0, [.int 0, .ref 2, .int 0, .long 0, .long 1, .ref 3, .ref 4, .int 0, .ref 5, .int 0, .ref 6, .ref 7, .ref 8, .null, .int 0, .int 0, .ref 9, .int 0, .null, .int 0, .null, .null, .null, .null, .null, .int 0, .int 0, .null, .null, .long 0])), .inl (0, 6, fun _ => 0), .inr (.inl (0, 6, fun _ => none)), .inr (.inl (1, 4, fun _ => none)), .inr (.inl (2, 7, fun _ => none)), .inl (0, 28, fun _ => 0), .inl (0, 7, fun _ => 0), .inl (0, 7, fun _ => 0), .inl (0, 28, fun _ => 0)], fm, po)) rfl ?_
  refine gl_aload_n dX0_init_75 rfl ?_
  refine gl_bipush (v := nI 28) dX0_init_76 (by decide) ?_
  refine gl_newa (index := 0) (t := 0) (N := 28) dX0_init_78 rfl q204 rfl (by omega) ⟨Nat.le_of_ble_eq_true rfl, fun _ => rfl, fun h => absurd h (Nat.not_le_of_gt (Nat.le_of_ble_eq_true rfl))⟩ (by dsimp only [rm]; omega) (by dsimp only [rm]; omega) ?_
  refine gl_putF (k := 18) dX0_init_80 rfl (rfl : vwCl[0]? = some (RX0, TX0, 30)) in_X0 tyX0 tyX0_ok nmX0 (by decide) rfl rfl rfl q131 (fun _ _ => ⟨rfl, rfl⟩) rfl ?_
  refine gl_mem (μ1 := (11, sc, [.inr (.inr (0, [.int 0, .ref 2, .int 0, .long 0, .long 1, .ref 3, .ref 4, .int 0, .ref 5, .int 0, .ref 6, .ref 7, .ref 8, .null, .int 0, .int 0, .ref 9, .int 0, .ref 10, .int 0, .null, .null, .null, .null, .null, .int 0, .int 0, .null, .null, .long 0])), .inl (0, 6, fun _ => 0), .inr (.inl (0, 6, fun _ => none)), .inr (.inl (1, 4, fun _ => none)), .inr (.inl (2, 7, fun _ => none)), .inl (0, 28, fun _ => 0), .inl (0, 7, fun _ => 0), .inl (0, 7, fun _ => 0), .inl (0, 28, fun _ => 0), .inl (0, 28, fun _ => 0)], fm, po)) rfl ?_
  refine gl_aload_n dX0_init_83 rfl ?_
  refine gl_bipush (v := nI 40) dX0_init_84 (by decide) ?_
  refine gl_newa (index := 0) (t := 0) (N := 40) dX0_init_86 rfl q204 rfl (by omega) ⟨Nat.le_of_ble_eq_true rfl, fun _ => rfl, fun h => absurd h (Nat.not_le_of_gt (Nat.le_of_ble_eq_true rfl))⟩ (by dsimp only [rm]; omega) (by dsimp only [rm]; omega) ?_
  refine gl_putF (k := 20) dX0_init_88 rfl (rfl : vwCl[0]? = some (RX0, TX0, 30)) in_X0 tyX0 tyX0_ok nmX0 (by decide) rfl rfl rfl q133 (fun _ _ => ⟨rfl, rfl⟩) rfl ?_
  refine gl_mem (μ1 := (12, sc, [.inr (.inr (0, [.int 0, .ref 2, .int 0, .long 0, .long 1, .ref 3, .ref 4, .int 0, .ref 5, .int 0, .ref 6, .ref 7, .ref 8, .null, .int 0, .int 0, .ref 9, .int 0, .ref 10, .int 0, .ref 11, .null, .null, .null, .null, .int 0, .int 0, .null, .null, .long 0])), .inl (0, 6, fun _ => 0), .inr (.inl (0, 6, fun _ => none)), .inr (.inl (1, 4, fun _ => none)), .inr (.inl (2, 7, fun _ => none)), .inl (0, 28, fun _ => 0), .inl (0, 7, fun _ => 0), .inl (0, 7, fun _ => 0), .inl (0, 28, fun _ => 0), .inl (0, 28, fun _ => 0), .inl (0, 40, fun _ => 0)], fm, po)) rfl ?_
  refine gl_aload_n dX0_init_91 rfl ?_
  refine gl_sipush (v := nI 280) dX0_init_92 (by decide) ?_
  refine gl_newa (index := 0) (t := 0) (N := 280) dX0_init_95 rfl q204 rfl (by omega) ⟨Nat.le_of_ble_eq_true rfl, fun _ => rfl, fun h => absurd h (Nat.not_le_of_gt (Nat.le_of_ble_eq_true rfl))⟩ (by dsimp only [rm]; omega) (by dsimp only [rm]; omega) ?_
  refine gl_putF (k := 21) dX0_init_97 rfl (rfl : vwCl[0]? = some (RX0, TX0, 30)) in_X0 tyX0 tyX0_ok nmX0 (by decide) rfl rfl rfl q134 (fun _ _ => ⟨rfl, rfl⟩) rfl ?_
  refine gl_mem (μ1 := (13, sc, [.inr (.inr (0, [.int 0, .ref 2, .int 0, .long 0, .long 1, .ref 3, .ref 4, .int 0, .ref 5, .int 0, .ref 6, .ref 7, .ref 8, .null, .int 0, .int 0, .ref 9, .int 0, .ref 10, .int 0, .ref 11, .ref 12, .null, .null, .null, .int 0, .int 0, .null, .null, .long 0])), .inl (0, 6, fun _ => 0), .inr (.inl (0, 6, fun _ => none)), .inr (.inl (1, 4, fun _ => none)), .inr (.inl (2, 7, fun _ => none)), .inl (0, 28, fun _ => 0), .inl (0, 7, fun _ => 0), .inl (0, 7, fun _ => 0), .inl (0, 28, fun _ => 0), .inl (0, 28, fun _ => 0), .inl (0, 40, fun _ => 0), .inl (0, 280, fun _ => 0)], fm, po)) rfl ?_
  refine gl_aload_n dX0_init_100 rfl ?_
  refine gl_iconst (v := nI 3) dX0_init_101 (by decide) ?_
  refine gl_anew (t := 3) (N := 3) dX0_init_102 q110 n111 rfl (by decide) ⟨Nat.le_of_ble_eq_true rfl, fun _ => rfl, fun h => absurd h (Nat.not_le_of_gt (Nat.le_of_ble_eq_true rfl))⟩ (by dsimp only [rm]; omega) (by dsimp only [rm]; omega) ?_
  refine gl_putF (k := 22) dX0_init_105 rfl (rfl : vwCl[0]? = some (RX0, TX0, 30)) in_X0 tyX0 tyX0_ok nmX0 (by decide) rfl rfl rfl q135 (fun _ _ => ⟨rfl, rfl⟩) rfl ?_
  refine gl_mem (μ1 := (14, sc, [.inr (.inr (0, [.int 0, .ref 2, .int 0, .long 0, .long 1, .ref 3, .ref 4, .int 0, .ref 5, .int 0, .ref 6, .ref 7, .ref 8, .null, .int 0, .int 0, .ref 9, .int 0, .ref 10, .int 0, .ref 11, .ref 12, .ref 13, .null, .null, .int 0, .int 0, .null, .null, .long 0])), .inl (0, 6, fun _ => 0), .inr (.inl (0, 6, fun _ => none)), .inr (.inl (1, 4, fun _ => none)), .inr (.inl (2, 7, fun _ => none)), .inl (0, 28, fun _ => 0), .inl (0, 7, fun _ => 0), .inl (0, 7, fun _ => 0), .inl (0, 28, fun _ => 0), .inl (0, 28, fun _ => 0), .inl (0, 40, fun _ => 0), .inl (0, 280, fun _ => 0), .inr (.inl (3, 3, fun _ => none))], fm, po)) rfl ?_
  refine gl_aload_n dX0_init_108 rfl ?_
  refine gl_bipush (v := nI 7) dX0_init_109 (by decide) ?_
  refine gl_newa (index := 0) (t := 0) (N := 7) dX0_init_111 rfl q204 rfl (by omega) ⟨Nat.le_of_ble_eq_true rfl, fun _ => rfl, fun h => absurd h (Nat.not_le_of_gt (Nat.le_of_ble_eq_true rfl))⟩ (by dsimp only [rm]; omega) (by dsimp only [rm]; omega) ?_
  refine gl_putF (k := 23) dX0_init_113 rfl (rfl : vwCl[0]? = some (RX0, TX0, 30)) in_X0 tyX0 tyX0_ok nmX0 (by decide) rfl rfl rfl q136 (fun _ _ => ⟨rfl, rfl⟩) rfl ?_
  refine gl_mem (μ1 := (15, sc, [.inr (.inr (0, [.int 0, .ref 2, .int 0, .long 0, .long 1, .ref 3, .ref 4, .int 0, .ref 5, .int 0, .ref 6, .ref 7, .ref 8, .null, .int 0, .int 0, .ref 9, .int 0, .ref 10, .int 0, .ref 11, .ref 12, .ref 13, .ref 14, .null, .int 0, .int 0, .null, .null, .long 0])), .inl (0, 6, fun _ => 0), .inr (.inl (0, 6, fun _ => none)), .inr (.inl (1, 4, fun _ => none)), .inr (.inl (2, 7, fun _ => none)), .inl (0, 28, fun _ => 0), .inl (0, 7, fun _ => 0), .inl (0, 7, fun _ => 0), .inl (0, 28, fun _ => 0), .inl (0, 28, fun _ => 0), .inl (0, 40, fun _ => 0), .inl (0, 280, fun _ => 0), .inr (.inl (3, 3, fun _ => none)), .inl (0, 7, fun _ => 0)], fm, po)) rfl ?_
  refine gl_aload_n dX0_init_116 rfl ?_
  refine gl_bipush (v := nI 7) dX0_init_117 (by decide) ?_
  refine gl_newa (index := 0) (t := 0) (N := 7) dX0_init_119 rfl q204 rfl (by omega) ⟨Nat.le_of_ble_eq_true rfl, fun _ => rfl, fun h => absurd h (Nat.not_le_of_gt (Nat.le_of_ble_eq_true rfl))⟩ (by dsimp only [rm]; omega) (by dsimp only [rm]; omega) ?_
  refine gl_putF (k := 24) dX0_init_121 rfl (rfl : vwCl[0]? = some (RX0, TX0, 30)) in_X0 tyX0 tyX0_ok nmX0 (by decide) rfl rfl rfl q137 (fun _ _ => ⟨rfl, rfl⟩) rfl ?_
  refine gl_mem (μ1 := (16, sc, [.inr (.inr (0, [.int 0, .ref 2, .int 0, .long 0, .long 1, .ref 3, .ref 4, .int 0, .ref 5, .int 0, .ref 6, .ref 7, .ref 8, .null, .int 0, .int 0, .ref 9, .int 0, .ref 10, .int 0, .ref 11, .ref 12, .ref 13, .ref 14, .ref 15, .int 0, .int 0, .null, .null, .long 0])), .inl (0, 6, fun _ => 0), .inr (.inl (0, 6, fun _ => none)), .inr (.inl (1, 4, fun _ => none)), .inr (.inl (2, 7, fun _ => none)), .inl (0, 28, fun _ => 0), .inl (0, 7, fun _ => 0), .inl (0, 7, fun _ => 0), .inl (0, 28, fun _ => 0), .inl (0, 28, fun _ => 0), .inl (0, 40, fun _ => 0), .inl (0, 280, fun _ => 0), .inr (.inl (3, 3, fun _ => none)), .inl (0, 7, fun _ => 0), .inl (0, 7, fun _ => 0)], fm, po)) rfl ?_
  refine gl_aload_n dX0_init_124 rfl ?_
  refine gl_bipush (v := nI 49) dX0_init_125 (by decide) ?_
  refine gl_newa (index := 0) (t := 0) (N := 49) dX0_init_127 rfl q204 rfl (by omega) ⟨Nat.le_of_ble_eq_true rfl, fun _ => rfl, fun h => absurd h (Nat.not_le_of_gt (Nat.le_of_ble_eq_true rfl))⟩ (by dsimp only [rm]; omega) (by dsimp only [rm]; omega) ?_
  refine gl_putF (k := 27) dX0_init_129 rfl (rfl : vwCl[0]? = some (RX0, TX0, 30)) in_X0 tyX0 tyX0_ok nmX0 (by decide) rfl rfl rfl q140 (fun _ _ => ⟨rfl, rfl⟩) rfl ?_
  refine gl_mem (μ1 := (17, sc, [.inr (.inr (0, [.int 0, .ref 2, .int 0, .long 0, .long 1, .ref 3, .ref 4, .int 0, .ref 5, .int 0, .ref 6, .ref 7, .ref 8, .null, .int 0, .int 0, .ref 9, .int 0, .ref 10, .int 0, .ref 11, .ref 12, .ref 13, .ref 14, .ref 15, .int 0, .int 0, .ref 16, .null, .long 0])), .inl (0, 6, fun _ => 0), .inr (.inl (0, 6, fun _ => none)), .inr (.inl (1, 4, fun _ => none)), .inr (.inl (2, 7, fun _ => none)), .inl (0, 28, fun _ => 0), .inl (0, 7, fun _ => 0), .inl (0, 7, fun _ => 0), .inl (0, 28, fun _ => 0), .inl (0, 28, fun _ => 0), .inl (0, 40, fun _ => 0), .inl (0, 280, fun _ => 0), .inr (.inl (3, 3, fun _ => none)), .inl (0, 7, fun _ => 0), .inl (0, 7, fun _ => 0), .inl (0, 49, fun _ => 0)], fm, po)) rfl ?_
  refine gl_aload_n dX0_init_132 rfl ?_
  refine gl_sipush (v := nI 128) dX0_init_133 (by decide) ?_
  refine gl_newa (index := 0) (t := 0) (N := 128) dX0_init_136 rfl q204 rfl (by omega) ⟨Nat.le_of_ble_eq_true rfl, fun _ => rfl, fun h => absurd h (Nat.not_le_of_gt (Nat.le_of_ble_eq_true rfl))⟩ (by dsimp only [rm]; omega) (by dsimp only [rm]; omega) ?_
  refine gl_putF (k := 28) dX0_init_138 rfl (rfl : vwCl[0]? = some (RX0, TX0, 30)) in_X0 tyX0 tyX0_ok nmX0 (by decide) rfl rfl rfl q141 (fun _ _ => ⟨rfl, rfl⟩) rfl ?_
  refine gl_mem (μ1 := (18, sc, [.inr (.inr (0, [.int 0, .ref 2, .int 0, .long 0, .long 1, .ref 3, .ref 4, .int 0, .ref 5, .int 0, .ref 6, .ref 7, .ref 8, .null, .int 0, .int 0, .ref 9, .int 0, .ref 10, .int 0, .ref 11, .ref 12, .ref 13, .ref 14, .ref 15, .int 0, .int 0, .ref 16, .ref 17, .long 0])), .inl (0, 6, fun _ => 0), .inr (.inl (0, 6, fun _ => none)), .inr (.inl (1, 4, fun _ => none)), .inr (.inl (2, 7, fun _ => none)), .inl (0, 28, fun _ => 0), .inl (0, 7, fun _ => 0), .inl (0, 7, fun _ => 0), .inl (0, 28, fun _ => 0), .inl (0, 28, fun _ => 0), .inl (0, 40, fun _ => 0), .inl (0, 280, fun _ => 0), .inr (.inl (3, 3, fun _ => none)), .inl (0, 7, fun _ => 0), .inl (0, 7, fun _ => 0), .inl (0, 49, fun _ => 0), .inl (0, 128, fun _ => 0)], fm, po)) rfl ?_
  refine gl_aload_n dX0_init_141 rfl ?_
  refine gl_iconst (v := nI 0) dX0_init_142 (by decide) ?_
  refine gl_put (k := 19) dX0_init_143 rfl (rfl : vwCl[0]? = some (RX0, TX0, 30)) in_X0 tyX0 tyX0_ok nmX0 (by decide) rfl q132 (fun _ _ => ⟨rfl, rfl⟩) rfl ?_
  refine gl_mem (μ1 := (18, sc, [.inr (.inr (0, [.int 0, .ref 2, .int 0, .long 0, .long 1, .ref 3, .ref 4, .int 0, .ref 5, .int 0, .ref 6, .ref 7, .ref 8, .null, .int 0, .int 0, .ref 9, .int 0, .ref 10, .int 0, .ref 11, .ref 12, .ref 13, .ref 14, .ref 15, .int 0, .int 0, .ref 16, .ref 17, .long 0])), .inl (0, 6, fun _ => 0), .inr (.inl (0, 6, fun _ => none)), .inr (.inl (1, 4, fun _ => none)), .inr (.inl (2, 7, fun _ => none)), .inl (0, 28, fun _ => 0), .inl (0, 7, fun _ => 0), .inl (0, 7, fun _ => 0), .inl (0, 28, fun _ => 0), .inl (0, 28, fun _ => 0), .inl (0, 40, fun _ => 0), .inl (0, 280, fun _ => 0), .inr (.inl (3, 3, fun _ => none)), .inl (0, 7, fun _ => 0), .inl (0, 7, fun _ => 0), .inl (0, 49, fun _ => 0), .inl (0, 128, fun _ => 0)], fm, po)) rfl ?_
  refine gl_mem (μ1 := mX (18, sc, fm, po) x0) rfl ?_
  exact gl_vret dX0_init_146 rfl ⟨rfl, rfl⟩ (hc := by first | exact Nat.zero_le _ | (dsimp only [rm]; omega)) (hs := by first | exact Nat.zero_le _ | (dsimp only [rm]; omega))

