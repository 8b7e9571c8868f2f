/-! the model made -/
set_option maxRecDepth 100000
def mD : List Value := [.null, .null, .null, .null, .null, .null, .null, .int 0, .long 0, .long 0, .int 0, .null, .null, .int 0, .null, .null, .null, .int 0, .int 0, .null, .null]
def my0 : MY := (fun _ => 0, fun k => if k = 9 then 1 else 0, fun k => if k = 19 then fillI (fun _ => 0) 0 (-1) 6 else if k = 21 then fillI (fun _ => 0) 0 (-1) 4 else fun _ => 0)
def my1 (a b : Nat) : MY := (fun _ => 0, fun k => if k = 9 then 1 else 0, fun k => if k = 19 then fillI (fun _ => 0) 0 (-1) a else if k = 21 then fillI (fun _ => 0) 0 (-1) b else fun _ => 0)
theorem m_init (L : Nat) (sc : Nat × (Nat → Int32)) (fx : List MC) (po : Nat → Option MC) : Ct yX1_init gX1_init (L + 10) 14 2863 [.ref 18] (19, sc, fx, [.inr (.inr (1, mD))], po) (Rt none (mM (33, sc, fx, po) my0)) := by
  refine Ct.of rfl rfl rfl rfl rfl ?_
  refine gl_aload_n dX1_init_0 rfl ?_
  refine gl_objInit dX1_init_1 q1019 q102 q103 (by dsimp only [rm]; omega) (by dsimp only [rm, List.map, Value.category, List.sum, List.foldr]; omega) ?_
  refine gl_aload_n dX1_init_4 rfl ?_
  refine gl_bipush (v := nI 6) dX1_init_5 (by decide) ?_
  refine gl_newa (index := 0) (t := 0) (N := 6) dX1_init_7 rfl q204 rfl (by decide) ⟨Nat.le_of_ble_eq_true rfl, fun h => absurd h (Nat.not_le_of_gt (Nat.le_of_ble_eq_true rfl)), fun _ _ => rfl⟩ (by dsimp only [rm]; omega) (by dsimp only [rm]; omega) ?_
  refine gl_putF (k := 0) dX1_init_9 rfl (rfl : vwCl[1]? = some (RX1, TX1, 21)) in_X1 tyX1 tyX1_ok nmX1 (by decide) rfl rfl rfl q1020 (fun _ _ => ⟨rfl, rfl⟩) rfl ?_
  refine gl_mem (μ1 := (20, sc, fx, [.inr (.inr (1, [.ref 19, .null, .null, .null, .null, .null, .null, .int 0, .long 0, .long 0, .int 0, .null, .null, .int 0, .null, .null, .null, .int 0, .int 0, .null, .null])), .inl (0, 6, fun _ => 0)], po)) rfl ?_
  refine gl_aload_n dX1_init_12 rfl ?_
  refine gl_sipush (v := nI 240) dX1_init_13 (by decide) ?_
  refine gl_newa (index := 0) (t := 0) (N := 240) dX1_init_16 rfl q204 rfl (by decide) ⟨Nat.le_of_ble_eq_true rfl, fun h => absurd h (Nat.not_le_of_gt (Nat.le_of_ble_eq_true rfl)), fun _ _ => rfl⟩ (by dsimp only [rm]; omega) (by dsimp only [rm]; omega) ?_
  refine gl_putF (k := 1) dX1_init_18 rfl (rfl : vwCl[1]? = some (RX1, TX1, 21)) in_X1 tyX1 tyX1_ok nmX1 (by decide) rfl rfl rfl q1021 (fun _ _ => ⟨rfl, rfl⟩) rfl ?_
  refine gl_mem (μ1 := (21, sc, fx, [.inr (.inr (1, [.ref 19, .ref 20, .null, .null, .null, .null, .null, .int 0, .long 0, .long 0, .int 0, .null, .null, .int 0, .null, .null, .null, .int 0, .int 0, .null, .null])), .inl (0, 6, fun _ => 0), .inl (0, 240, fun _ => 0)], po)) rfl ?_
  refine gl_aload_n dX1_init_21 rfl ?_
  refine gl_iconst (v := nI 4) dX1_init_22 (by decide) ?_
  refine gl_newa (index := 0) (t := 0) (N := 4) dX1_init_23 rfl q204 rfl (by decide) ⟨Nat.le_of_ble_eq_true rfl, fun h => absurd h (Nat.not_le_of_gt (Nat.le_of_ble_eq_true rfl)), fun _ _ => rfl⟩ (by dsimp only [rm]; omega) (by dsimp only [rm]; omega) ?_
  refine gl_putF (k := 2) dX1_init_25 rfl (rfl : vwCl[1]? = some (RX1, TX1, 21)) in_X1 tyX1 tyX1_ok nmX1 (by decide) rfl rfl rfl q1022 (fun _ _ => ⟨rfl, rfl⟩) rfl ?_
  refine gl_mem (μ1 := (22, sc, fx, [.inr (.inr (1, [.ref 19, .ref 20, .ref 21, .null, .null, .null, .null, .int 0, .long 0, .long 0, .int 0, .null, .null, .int 0, .null, .null, .null, .int 0, .int 0, .null, .null])), .inl (0, 6, fun _ => 0), .inl (0, 240, fun _ => 0), .inl (0, 4, fun _ => 0)], po)) rfl ?_
  refine gl_aload_n dX1_init_28 rfl ?_
  refine gl_sipush (v := nI 320) dX1_init_29 (by decide) ?_
  refine gl_newa (index := 0) (t := 0) (N := 320) dX1_init_32 rfl q204 rfl (by decide) ⟨Nat.le_of_ble_eq_true rfl, fun h => absurd h (Nat.not_le_of_gt (Nat.le_of_ble_eq_true rfl)), fun _ _ => rfl⟩ (by dsimp only [rm]; omega) (by dsimp only [rm]; omega) ?_
  refine gl_putF (k := 3) dX1_init_34 rfl (rfl : vwCl[1]? = some (RX1, TX1, 21)) in_X1 tyX1 tyX1_ok nmX1 (by decide) rfl rfl rfl q1023 (fun _ _ => ⟨rfl, rfl⟩) rfl ?_
  refine gl_mem (μ1 := (23, sc, fx, [.inr (.inr (1, [.ref 19, .ref 20, .ref 21, .ref 22, .null, .null, .null, .int 0, .long 0, .long 0, .int 0, .null, .null, .int 0, .null, .null, .null, .int 0, .int 0, .null, .null])), .inl (0, 6, fun _ => 0), .inl (0, 240, fun _ => 0), .inl (0, 4, fun _ => 0), .inl (0, 320, fun _ => 0)], po)) rfl ?_
  refine gl_aload_n dX1_init_37 rfl ?_
  refine gl_sipush (v := nI 393) dX1_init_38 (by decide) ?_
  refine gl_newa (index := 0) (t := 0) (N := 393) dX1_init_41 rfl q204 rfl (by decide) ⟨Nat.le_of_ble_eq_true rfl, fun h => absurd h (Nat.not_le_of_gt (Nat.le_of_ble_eq_true rfl)), fun _ _ => rfl⟩ (by dsimp only [rm]; omega) (by dsimp only [rm]; omega) ?_
  refine gl_putF (k := 4) dX1_init_43 rfl (rfl : vwCl[1]? = some (RX1, TX1, 21)) in_X1 tyX1 tyX1_ok nmX1 (by decide) rfl rfl rfl q1024 (fun _ _ => ⟨rfl, rfl⟩) rfl ?_
  refine gl_mem (μ1 := (24, sc, fx, [.inr (.inr (1, [.ref 19, .ref 20, .ref 21, .ref 22, .ref 23, .null, .null, .int 0, .long 0, .long 0, .int 0, .null, .null, .int 0, .null, .null, .null, .int 0, .int 0, .null, .null])), .inl (0, 6, fun _ => 0), .inl (0, 240, fun _ => 0), .inl (0, 4, fun _ => 0), .inl (0, 320, fun _ => 0), .inl (0, 393, fun _ => 0)], po)) rfl ?_
  refine gl_aload_n dX1_init_46 rfl ?_
  refine gl_sipush (v := nI 1179) dX1_init_47 (by decide) ?_
  refine gl_newa (index := 0) (t := 0) (N := 1179) dX1_init_50 rfl q204 rfl (by decide) ⟨Nat.le_of_ble_eq_true rfl, fun h => absurd h (Nat.not_le_of_gt (Nat.le_of_ble_eq_true rfl)), fun _ _ => rfl⟩ (by dsimp only [rm]; omega) (by dsimp only [rm]; omega) ?_
  refine gl_putF (k := 5) dX1_init_52 rfl (rfl : vwCl[1]? = some (RX1, TX1, 21)) in_X1 tyX1 tyX1_ok nmX1 (by decide) rfl rfl rfl q1025 (fun _ _ => ⟨rfl, rfl⟩) rfl ?_
  refine gl_mem (μ1 := (25, sc, fx, [.inr (.inr (1, [.ref 19, .ref 20, .ref 21, .ref 22, .ref 23, .ref 24, .null, .int 0, .long 0, .long 0, .int 0, .null, .null, .int 0, .null, .null, .null, .int 0, .int 0, .null, .null])), .inl (0, 6, fun _ => 0), .inl (0, 240, fun _ => 0), .inl (0, 4, fun _ => 0), .inl (0, 320, fun _ => 0), .inl (0, 393, fun _ => 0), .inl (0, 1179, fun _ => 0)], po)) rfl ?_
  refine gl_aload_n dX1_init_55 rfl ?_
  refine gl_iconst (v := nI 3) dX1_init_56 (by decide) ?_
  refine gl_newa (index := 0) (t := 2) (N := 3) dX1_init_57 rfl q1084 rfl (by decide) ⟨Nat.le_of_ble_eq_true rfl, fun h => absurd h (Nat.not_le_of_gt (Nat.le_of_ble_eq_true rfl)), fun _ _ => rfl⟩ (by dsimp only [rm]; omega) (by dsimp only [rm]; omega) ?_
  refine gl_putF (k := 6) dX1_init_59 rfl (rfl : vwCl[1]? = some (RX1, TX1, 21)) in_X1 tyX1 tyX1_ok nmX1 (by decide) rfl rfl rfl q1026 (fun _ _ => ⟨rfl, rfl⟩) rfl ?_
  refine gl_mem (μ1 := (26, sc, fx, [.inr (.inr (1, [.ref 19, .ref 20, .ref 21, .ref 22, .ref 23, .ref 24, .ref 25, .int 0, .long 0, .long 0, .int 0, .null, .null, .int 0, .null, .null, .null, .int 0, .int 0, .null, .null])), .inl (0, 6, fun _ => 0), .inl (0, 240, fun _ => 0), .inl (0, 4, fun _ => 0), .inl (0, 320, fun _ => 0), .inl (0, 393, fun _ => 0), .inl (0, 1179, fun _ => 0), .inl (2, 3, fun _ => 0)], po)) rfl ?_
  refine gl_aload_n dX1_init_62 rfl ?_
  refine gl_lconst (v := 1) dX1_init_63 (by decide) ?_
  refine gl_put (k := 9) dX1_init_64 rfl (rfl : vwCl[1]? = some (RX1, TX1, 21)) in_X1 tyX1 tyX1_ok nmX1 (by decide) rfl q1029 (fun _ _ => ⟨rfl, rfl⟩) rfl ?_
  refine gl_mem (μ1 := (26, sc, fx, [.inr (.inr (1, [.ref 19, .ref 20, .ref 21, .ref 22, .ref 23, .ref 24, .ref 25, .int 0, .long 0, .long 1, .int 0, .null, .null, .int 0, .null, .null, .null, .int 0, .int 0, .null, .null])), .inl (0, 6, fun _ => 0), .inl (0, 240, fun _ => 0), .inl (0, 4, fun _ => 0), .inl (0, 320, fun _ => 0), .inl (0, 393, fun _ => 0), .inl (0, 1179, fun _ => 0), .inl (2, 3, fun _ => 0)], po)) rfl ?_
  refine gl_aload_n dX1_init_67 rfl ?_
  refine gl_bipush (v := nI 6) dX1_init_68 (by decide) ?_
  refine gl_newa (index := 0) (t := 0) (N := 6) dX1_init_70 rfl q204 rfl (by decide) ⟨Nat.le_of_ble_eq_true rfl, fun h => absurd h (Nat.not_le_of_gt (Nat.le_of_ble_eq_true rfl)), fun _ _ => rfl⟩ (by dsimp only [rm]; omega) (by dsimp only [rm]; omega) ?_
  refine gl_putF (k := 11) dX1_init_72 rfl (rfl : vwCl[1]? = some (RX1, TX1, 21)) in_X1 tyX1 tyX1_ok nmX1 (by decide) rfl rfl rfl q1031 (fun _ _ => ⟨rfl, rfl⟩) rfl ?_
  refine gl_mem (μ1 := (27, sc, fx, [.inr (.inr (1, [.ref 19, .ref 20, .ref 21, .ref 22, .ref 23, .ref 24, .ref 25, .int 0, .long 0, .long 1, .int 0, .ref 26, .null, .int 0, .null, .null, .null, .int 0, .int 0, .null, .null])), .inl (0, 6, fun _ => 0), .inl (0, 240, fun _ => 0), .inl (0, 4, fun _ => 0), .inl (0, 320, fun _ => 0), .inl (0, 393, fun _ => 0), .inl (0, 1179, fun _ => 0), .inl (2, 3, fun _ => 0), .inl (0, 6, fun _ => 0)], po)) rfl ?_
  refine gl_aload_n dX1_init_75 rfl ?_
  refine gl_sipush (v := nI 393) dX1_init_76 (by decide) ?_
  refine gl_newa (index := 0) (t := 0) (N := 393) dX1_init_79 rfl q204 rfl (by decide) ⟨Nat.le_of_ble_eq_true rfl, fun h => absurd h (Nat.not_le_of_gt (Nat.le_of_ble_eq_true rfl)), fun _ _ => rfl⟩ (by dsimp only [rm]; omega) (by dsimp only [rm]; omega) ?_
  refine gl_putF (k := 12) dX1_init_81 rfl (rfl : vwCl[1]? = some (RX1, TX1, 21)) in_X1 tyX1 tyX1_ok nmX1 (by decide) rfl rfl rfl q1032 (fun _ _ => ⟨rfl, rfl⟩) rfl ?_
  refine gl_mem (μ1 := (28, sc, fx, [.inr (.inr (1, [.ref 19, .ref 20, .ref 21, .ref 22, .ref 23, .ref 24, .ref 25, .int 0, .long 0, .long 1, .int 0, .ref 26, .ref 27, .int 0, .null, .null, .null, .int 0, .int 0, .null, .null])), .inl (0, 6, fun _ => 0), .inl (0, 240, fun _ => 0), .inl (0, 4, fun _ => 0), .inl (0, 320, fun _ => 0), .inl (0, 393, fun _ => 0), .inl (0, 1179, fun _ => 0), .inl (2, 3, fun _ => 0), .inl (0, 6, fun _ => 0), .inl (0, 393, fun _ => 0)], po)) rfl ?_
  refine gl_aload_n dX1_init_84 rfl ?_
  refine gl_bipush (v := nI 7) dX1_init_85 (by decide) ?_
  refine gl_newa (index := 0) (t := 0) (N := 7) dX1_init_87 rfl q204 rfl (by decide) ⟨Nat.le_of_ble_eq_true rfl, fun h => absurd h (Nat.not_le_of_gt (Nat.le_of_ble_eq_true rfl)), fun _ _ => rfl⟩ (by dsimp only [rm]; omega) (by dsimp only [rm]; omega) ?_
  refine gl_putF (k := 14) dX1_init_89 rfl (rfl : vwCl[1]? = some (RX1, TX1, 21)) in_X1 tyX1 tyX1_ok nmX1 (by decide) rfl rfl rfl q1034 (fun _ _ => ⟨rfl, rfl⟩) rfl ?_
  refine gl_mem (μ1 := (29, sc, fx, [.inr (.inr (1, [.ref 19, .ref 20, .ref 21, .ref 22, .ref 23, .ref 24, .ref 25, .int 0, .long 0, .long 1, .int 0, .ref 26, .ref 27, .int 0, .ref 28, .null, .null, .int 0, .int 0, .null, .null])), .inl (0, 6, fun _ => 0), .inl (0, 240, fun _ => 0), .inl (0, 4, fun _ => 0), .inl (0, 320, fun _ => 0), .inl (0, 393, fun _ => 0), .inl (0, 1179, fun _ => 0), .inl (2, 3, fun _ => 0), .inl (0, 6, fun _ => 0), .inl (0, 393, fun _ => 0), .inl (0, 7, fun _ => 0)], po)) rfl ?_
  refine gl_aload_n dX1_init_92 rfl ?_
  refine gl_bipush (v := nI 7) dX1_init_93 (by decide) ?_
  refine gl_newa (index := 0) (t := 0) (N := 7) dX1_init_95 rfl q204 rfl (by decide) ⟨Nat.le_of_ble_eq_true rfl, fun h => absurd h (Nat.not_le_of_gt (Nat.le_of_ble_eq_true rfl)), fun _ _ => rfl⟩ (by dsimp only [rm]; omega) (by dsimp only [rm]; omega) ?_
  refine gl_putF (k := 15) dX1_init_97 rfl (rfl : vwCl[1]? = some (RX1, TX1, 21)) in_X1 tyX1 tyX1_ok nmX1 (by decide) rfl rfl rfl q1035 (fun _ _ => ⟨rfl, rfl⟩) rfl ?_
  refine gl_mem (μ1 := (30, sc, fx, [.inr (.inr (1, [.ref 19, .ref 20, .ref 21, .ref 22, .ref 23, .ref 24, .ref 25, .int 0, .long 0, .long 1, .int 0, .ref 26, .ref 27, .int 0, .ref 28, .ref 29, .null, .int 0, .int 0, .null, .null])), .inl (0, 6, fun _ => 0), .inl (0, 240, fun _ => 0), .inl (0, 4, fun _ => 0), .inl (0, 320, fun _ => 0), .inl (0, 393, fun _ => 0), .inl (0, 1179, fun _ => 0), .inl (2, 3, fun _ => 0), .inl (0, 6, fun _ => 0), .inl (0, 393, fun _ => 0), .inl (0, 7, fun _ => 0), .inl (0, 7, fun _ => 0)], po)) rfl ?_
  refine gl_aload_n dX1_init_100 rfl ?_
  refine gl_bipush (v := nI 49) dX1_init_101 (by decide) ?_
  refine gl_newa (index := 0) (t := 0) (N := 49) dX1_init_103 rfl q204 rfl (by decide) ⟨Nat.le_of_ble_eq_true rfl, fun h => absurd h (Nat.not_le_of_gt (Nat.le_of_ble_eq_true rfl)), fun _ _ => rfl⟩ (by dsimp only [rm]; omega) (by dsimp only [rm]; omega) ?_
  refine gl_putF (k := 16) dX1_init_105 rfl (rfl : vwCl[1]? = some (RX1, TX1, 21)) in_X1 tyX1 tyX1_ok nmX1 (by decide) rfl rfl rfl q1036 (fun _ _ => ⟨rfl, rfl⟩) rfl ?_
  refine gl_mem (μ1 := (31, sc, fx, [.inr (.inr (1, [.ref 19, .ref 20, .ref 21, .ref 22, .ref 23, .ref 24, .ref 25, .int 0, .long 0, .long 1, .int 0, .ref 26, .ref 27, .int 0, .ref 28, .ref 29, .ref 30, .int 0, .int 0, .null, .null])), .inl (0, 6, fun _ => 0), .inl (0, 240, fun _ => 0), .inl (0, 4, fun _ => 0), .inl (0, 320, fun _ => 0), .inl (0, 393, fun _ => 0), .inl (0, 1179, fun _ => 0), .inl (2, 3, fun _ => 0), .inl (0, 6, fun _ => 0), .inl (0, 393, fun _ => 0), .inl (0, 7, fun _ => 0), .inl (0, 7, fun _ => 0), .inl (0, 49, fun _ => 0)], po)) rfl ?_
  refine gl_aload_n dX1_init_108 rfl ?_
  refine gl_sipush (v := nI 128) dX1_init_109 (by decide) ?_
  refine gl_newa (index := 0) (t := 0) (N := 128) dX1_init_112 rfl q204 rfl (by decide) ⟨Nat.le_of_ble_eq_true rfl, fun h => absurd h (Nat.not_le_of_gt (Nat.le_of_ble_eq_true rfl)), fun _ _ => rfl⟩ (by dsimp only [rm]; omega) (by dsimp only [rm]; omega) ?_
  refine gl_putF (k := 19) dX1_init_114 rfl (rfl : vwCl[1]? = some (RX1, TX1, 21)) in_X1 tyX1 tyX1_ok nmX1 (by decide) rfl rfl rfl q1039 (fun _ _ => ⟨rfl, rfl⟩) rfl ?_
  refine gl_mem (μ1 := (32, sc, fx, [.inr (.inr (1, [.ref 19, .ref 20, .ref 21, .ref 22, .ref 23, .ref 24, .ref 25, .int 0, .long 0, .long 1, .int 0, .ref 26, .ref 27, .int 0, .ref 28, .ref 29, .ref 30, .int 0, .int 0, .ref 31, .null])), .inl (0, 6, fun _ => 0), .inl (0, 240, fun _ => 0), .inl (0, 4, fun _ => 0), .inl (0, 320, fun _ => 0), .inl (0, 393, fun _ => 0), .inl (0, 1179, fun _ => 0), .inl (2, 3, fun _ => 0), .inl (0, 6, fun _ => 0), .inl (0, 393, fun _ => 0), .inl (0, 7, fun _ => 0), .inl (0, 7, fun _ => 0), .inl (0, 49, fun _ => 0), .inl (0, 128, fun _ => 0)], po)) rfl ?_
  refine gl_aload_n dX1_init_117 rfl ?_
  refine gl_sipush (v := nI 128) dX1_init_118 (by decide) ?_
  refine gl_newa (index := 0) (t := 0) (N := 128) dX1_init_121 rfl q204 rfl (by decide) ⟨Nat.le_of_ble_eq_true rfl, fun h => absurd h (Nat.not_le_of_gt (Nat.le_of_ble_eq_true rfl)), fun _ _ => rfl⟩ (by dsimp only [rm]; omega) (by dsimp only [rm]; omega) ?_
  refine gl_putF (k := 20) dX1_init_123 rfl (rfl : vwCl[1]? = some (RX1, TX1, 21)) in_X1 tyX1 tyX1_ok nmX1 (by decide) rfl rfl rfl q1040 (fun _ _ => ⟨rfl, rfl⟩) rfl ?_
  refine gl_mem (μ1 := (33, sc, fx, [.inr (.inr (1, [.ref 19, .ref 20, .ref 21, .ref 22, .ref 23, .ref 24, .ref 25, .int 0, .long 0, .long 1, .int 0, .ref 26, .ref 27, .int 0, .ref 28, .ref 29, .ref 30, .int 0, .int 0, .ref 31, .ref 32])), .inl (0, 6, fun _ => 0), .inl (0, 240, fun _ => 0), .inl (0, 4, fun _ => 0), .inl (0, 320, fun _ => 0), .inl (0, 393, fun _ => 0), .inl (0, 1179, fun _ => 0), .inl (2, 3, fun _ => 0), .inl (0, 6, fun _ => 0), .inl (0, 393, fun _ => 0), .inl (0, 7, fun _ => 0), .inl (0, 7, fun _ => 0), .inl (0, 49, fun _ => 0), .inl (0, 128, fun _ => 0), .inl (0, 128, fun _ => 0)], po)) rfl ?_
  refine gl_mem (μ1 := mM (33, sc, fx, po) (my1 0 0)) ?_ ?_
  · have e : my1 0 0 = (fun _ => 0, fun k => if k = 9 then 1 else 0, fun _ _ => 0) := by
      unfold my1
      rw [fill_0]
      congr 2
      funext k
      simp
    rw [e]
    rfl
  · refine gl_iconst (v := nI 0) dX1_init_126 (by decide) ?_
    refine gl_istore_n dX1_init_127 rfl rfl ?_
    refine gl_loop (fun k => [some (.ref 18), some (.int (nI k))]) (fun k => mM (33, sc, fx, po) (my1 k 0)) 6 ?_ ?_
    · intro k hk ih
      refine gl_iload_n dX1_init_128 rfl ?_
      refine gl_bipush (v := nI 6) dX1_init_129 (by decide) ?_
      refine gl_icmp_ge (tgt := 147) dX1_init_131 (by decide) (fun h => absurd h (nI_ge hk (by omega))) (fun _ => ?_)
      refine gl_aload_n dX1_init_134 rfl ?_
      refine gl_get (k := 0) dX1_init_135 rfl (rfl : vwCl[1]? = some (RX1, TX1, 21)) in_X1 (by decide) q1020 rfl ?_
      refine gl_iload_n dX1_init_138 rfl ?_
      refine gl_iconst (v := (-1)) dX1_init_139 (by decide) ?_
      refine gl_iast (j := k) dX1_init_140 rfl rfl (by omega) ?_
      refine gl_iinc (v := (nI (k + 1))) dX1_init_141 rfl (nI_1 _) rfl rfl ?_
      refine gl_goto (tgt := 128) dX1_init_144 (by decide) ?_
      refine gl_mem ?_ ih
      unfold my1
      rw [← fill_s, Nat.zero_add]
      rfl
    · refine gl_iload_n dX1_init_128 rfl ?_
      refine gl_bipush (v := nI 6) dX1_init_129 (by decide) ?_
      refine gl_icmp_ge (tgt := 147) dX1_init_131 (by decide) (fun _ => ?_) (fun h => absurd (nI_le (Nat.le_refl _) (by omega)) h)
      refine gl_iconst (v := nI 0) dX1_init_147 (by decide) ?_
      refine gl_istore_n dX1_init_148 rfl rfl ?_
      refine gl_loop (fun k => [some (.ref 18), some (.int (nI k))]) (fun k => mM (33, sc, fx, po) (my1 6 k)) 4 ?_ ?_
      · intro k hk ih
        refine gl_iload_n dX1_init_149 rfl ?_
        refine gl_iconst (v := nI 4) dX1_init_150 (by decide) ?_
        refine gl_icmp_ge (tgt := 167) dX1_init_151 (by decide) (fun h => absurd h (nI_ge hk (by omega))) (fun _ => ?_)
        refine gl_aload_n dX1_init_154 rfl ?_
        refine gl_get (k := 2) dX1_init_155 rfl (rfl : vwCl[1]? = some (RX1, TX1, 21)) in_X1 (by decide) q1022 rfl ?_
        refine gl_iload_n dX1_init_158 rfl ?_
        refine gl_iconst (v := (-1)) dX1_init_159 (by decide) ?_
        refine gl_iast (j := k) dX1_init_160 rfl rfl (by omega) ?_
        refine gl_iinc (v := (nI (k + 1))) dX1_init_161 rfl (nI_1 _) rfl rfl ?_
        refine gl_goto (tgt := 149) dX1_init_164 (by decide) ?_
        refine gl_mem ?_ ih
        unfold my1
        rw [← fill_s _ _ _ k, Nat.zero_add]
        rfl
      · refine gl_iload_n dX1_init_149 rfl ?_
        refine gl_iconst (v := nI 4) dX1_init_150 (by decide) ?_
        refine gl_icmp_ge (tgt := 167) dX1_init_151 (by decide) (fun _ => ?_) (fun h => absurd (nI_le (Nat.le_refl _) (by omega)) h)
        exact gl_vret dX1_init_167 rfl ⟨rfl, rfl⟩ (hc := by dsimp only [rm]; omega) (hs := by dsimp only [rm]; omega)

