/-! the component's digest -/
set_option maxRecDepth 100000
section XU
variable (L : Nat) {o : OX} {τ : Nat → Nat} {x : XY} {y : MY} {n m t : Nat}
theorem x_mix (h : Int64) (v : Int32) : Ct yX0_mix gX0_mix (L + 10) 0 0 [.ref 1, .int v] (mX o (tJ x 29 h)) (Rt none (mX o (tJ x 29 (31 * h + v.toInt64)))) := by
  refine Ct.of rfl rfl rfl rfl rfl ?_
  refine gl_aload_n dX0_mix_0 rfl ?_
  refine gl_ldc2 (v := 31) q1009 dX0_mix_1 ?_
  refine gl_aload_n dX0_mix_4 rfl ?_
  refine gl_get (k := 29) dX0_mix_5 rfl (rfl : vwCl[0]? = some (RX0, TX0, 30)) in_X0 (by decide) q142 rfl ?_
  refine gl_lmul dX0_mix_8 ?_
  refine gl_iload_n dX0_mix_9 rfl ?_
  refine gl_i2l dX0_mix_10 ?_
  refine gl_ladd dX0_mix_11 ?_
  refine gl_put (k := 29) dX0_mix_12 rfl (rfl : vwCl[0]? = some (RX0, TX0, 30)) in_X0 tyX0 tyX0_ok nmX0 (by decide) rfl q142 (fun _ _ => ⟨rfl, rfl⟩) rfl ?_
  exact gl_vret dX0_mix_15 rfl ⟨rfl, rfl⟩ (hc := by first | exact Nat.zero_le _ | (dsimp only [rm]; omega)) (hs := by first | exact Nat.zero_le _ | (dsimp only [rm]; omega))
theorem x_mixL (hV : RV o τ x y n m t) (h : Int64) : Ct yX0_mixLibrary gX0_mixLibrary (L + 16) 0 0 [.ref 1] (mX o (tJ x 29 h)) (Rt none (mX o (tJ x 29 (dg5 y (dg4 y t (dg3 y m (dg2 y n m h))))))) := by
  refine Ct.of rfl rfl rfl rfl rfl ?_
  have hX := hV.rl
  have hL := hV.lb
  have h7 := hL.c7
  have h7q := hL.q7
  have h40 := hL.t40
  refine gl_iconst (v := nI 0) dX0_mixLibrary_0 (by decide) ?_
  refine gl_istore_n dX0_mixLibrary_1 rfl rfl ?_
  refine gl_loop (fun c => [some (.ref 1), some (.int (nI c)), none, none, none]) (fun c => mX o (tJ x 29 (mx2 h (fun c k => toldC (y.2.2 23) m c (nI k)) c))) n ?_ ?_
  · intro c hc ih
    refine gl_iload_n dX0_mixLibrary_2 rfl ?_
    refine gl_aload_n dX0_mixLibrary_3 rfl ?_
    refine gl_get (k := 7) dX0_mixLibrary_4 rfl (rfl : vwCl[0]? = some (RX0, TX0, 30)) in_X0 (by decide) q119 rfl ?_
    refine gl_icmp_ge (tgt := 39) dX0_mixLibrary_7 (by decide) (fun h => absurd h ((by show ¬ x.1 7 ≤ nI c; rw [hX.many]; exact nI_ge hc (by omega)))) (fun _ => ?_)
    refine gl_iconst (v := nI 0) dX0_mixLibrary_10 (by decide) ?_
    refine gl_istore_n dX0_mixLibrary_11 rfl rfl ?_
    generalize eH : mx2 h (fun c k => toldC (y.2.2 23) m c (nI k)) c = H
    refine gl_loop (fun k => [some (.ref 1), some (.int (nI c)), some (.int (nI k)), none, none]) (fun k => mX o (tJ x 29 (mxF H (fun k => toldC (y.2.2 23) m c (nI k)) k))) 6 ?_ ?_
    · intro k hk ih2
      generalize eG : mxF H (fun k => toldC (y.2.2 23) m c (nI k)) k = G
      have eS : mxF H (fun k => toldC (y.2.2 23) m c (nI k)) (k + 1) = 31 * G + (toldC (y.2.2 23) m c (nI k)).toInt64 := by rw [← eG]; rfl
      rw [eS] at ih2
      refine gl_iload_n dX0_mixLibrary_12 rfl ?_
      refine gl_iconst (v := nI 5) dX0_mixLibrary_13 (by decide) ?_
      refine gl_icmp_gt (tgt := 33) dX0_mixLibrary_14 (by decide) (fun h => absurd h (nI_nlt (by omega) (by omega))) (fun _ => ?_)
      refine gl_aload_n dX0_mixLibrary_17 rfl ?_
      refine gl_aload_n dX0_mixLibrary_18 rfl ?_
      refine gl_iload_n dX0_mixLibrary_19 rfl ?_
      refine gl_iload_n dX0_mixLibrary_20 rfl ?_
      refine gl_callV (x_cardTells L o (tJ x 29 G) (show RL o τ (tJ x 29 G) (y.2.2 23) n m t from hX) hL c k hc (by omega)) dX0_mixLibrary_21 q521 q523 qs10 q74 q524 rfl hX0_cardTells rfl (rfl : vwCl[0]? = some (RX0, TX0, 30)) rfl rfl (rmOk (by omega) rfl) ⟨by first | exact Nat.le_refl _ | exact Nat.zero_le _ | decide | (dsimp only [rm]; omega), by first | exact Nat.le_refl _ | exact Nat.zero_le _ | decide | (dsimp only [rm]; omega)⟩ (rt1 ?_)
      refine gl_callV (x_mix L G _) dX0_mixLibrary_24 q1005 q1007 qs42 q74 q1008 rfl hX0_mix rfl (rfl : vwCl[0]? = some (RX0, TX0, 30)) rfl rfl (rmOk (by omega) rfl) ⟨by first | exact Nat.le_refl _ | exact Nat.zero_le _ | decide | (dsimp only [rm]; omega), by first | exact Nat.le_refl _ | exact Nat.zero_le _ | decide | (dsimp only [rm]; omega)⟩ (rt1 ?_)
      refine gl_iinc (v := (nI (k + 1))) dX0_mixLibrary_27 rfl (nI_1 _) rfl rfl ?_
      refine gl_goto (tgt := 12) dX0_mixLibrary_30 (by decide) ?_
      exact ih2
    · refine gl_iload_n dX0_mixLibrary_12 rfl ?_
      refine gl_iconst (v := nI 5) dX0_mixLibrary_13 (by decide) ?_
      refine gl_icmp_gt (tgt := 33) dX0_mixLibrary_14 (by decide) (fun _ => ?_) (fun h => absurd ((by decide)) h)
      refine gl_iinc (v := (nI (c + 1))) dX0_mixLibrary_33 rfl (nI_1 _) rfl rfl ?_
      refine gl_goto (tgt := 2) dX0_mixLibrary_36 (by decide) ?_
      refine gl_drop 2 ?_
      refine gl_mem ?_ ih
      rw [← eH]
      rfl
  · refine gl_iload_n dX0_mixLibrary_2 rfl ?_
    refine gl_aload_n dX0_mixLibrary_3 rfl ?_
    refine gl_get (k := 7) dX0_mixLibrary_4 rfl (rfl : vwCl[0]? = some (RX0, TX0, 30)) in_X0 (by decide) q119 rfl ?_
    refine gl_icmp_ge (tgt := 39) dX0_mixLibrary_7 (by decide) (fun _ => ?_) (fun h => absurd ((by show x.1 7 ≤ nI n; rw [hX.many]; exact nI_le (Nat.le_refl _) (by omega))) h)
    show GL _ _ (Rt none (mX o (tJ x 29 (dg5 y (dg4 y t (dg3 y m (mx2 h (fun c k => toldC (y.2.2 23) m c (nI k)) n))))))) _ _ _ _ _ _
    generalize mx2 h (fun c k => toldC (y.2.2 23) m c (nI k)) n = h2
    refine gl_iconst (v := nI 0) dX0_mixLibrary_39 (by decide) ?_
    refine gl_istore_n dX0_mixLibrary_40 rfl rfl ?_
    refine gl_loop (fun c => [some (.ref 1), some (.int (nI c)), none, none, none]) (fun c => mX o (tJ x 29 (mx2 h2 (fun q k => y.2.2 23 (31 + 7 * k + q)) c))) m ?_ ?_
    · intro c hc ih
      refine gl_iload_n dX0_mixLibrary_41 rfl ?_
      refine gl_aload_n dX0_mixLibrary_42 rfl ?_
      refine gl_get (k := 9) dX0_mixLibrary_43 rfl (rfl : vwCl[0]? = some (RX0, TX0, 30)) in_X0 (by decide) q122 rfl ?_
      refine gl_icmp_ge (tgt := 78) dX0_mixLibrary_46 (by decide) (fun h => absurd h ((by show ¬ x.1 9 ≤ nI c; rw [hX.askMany]; exact nI_ge hc (by omega)))) (fun _ => ?_)
      refine gl_iconst (v := nI 0) dX0_mixLibrary_49 (by decide) ?_
      refine gl_istore_n dX0_mixLibrary_50 rfl rfl ?_
      generalize eH : mx2 h2 (fun q k => y.2.2 23 (31 + 7 * k + q)) c = H
      refine gl_loop (fun k => [some (.ref 1), some (.int (nI c)), some (.int (nI k)), none, none]) (fun k => mX o (tJ x 29 (mxF H (fun k => y.2.2 23 (31 + 7 * k + c)) k))) 6 ?_ ?_
      · intro k hk ih2
        generalize eG : mxF H (fun k => y.2.2 23 (31 + 7 * k + c)) k = G
        have eS : mxF H (fun k => y.2.2 23 (31 + 7 * k + c)) (k + 1) = 31 * G + (y.2.2 23 (31 + 7 * k + c)).toInt64 := by rw [← eG]; rfl
        rw [eS] at ih2
        refine gl_iload_n dX0_mixLibrary_51 rfl ?_
        refine gl_iconst (v := nI 5) dX0_mixLibrary_52 (by decide) ?_
        refine gl_icmp_gt (tgt := 72) dX0_mixLibrary_53 (by decide) (fun h => absurd h (nI_nlt (by omega) (by omega))) (fun _ => ?_)
        refine gl_aload_n dX0_mixLibrary_56 rfl ?_
        refine gl_aload_n dX0_mixLibrary_57 rfl ?_
        refine gl_iload_n dX0_mixLibrary_58 rfl ?_
        refine gl_iload_n dX0_mixLibrary_59 rfl ?_
        refine gl_callV (x_questionTells L o (tJ x 29 G) (show RL o τ (tJ x 29 G) (y.2.2 23) n m t from hX) hL c k hc (by omega)) dX0_mixLibrary_60 q596 q598 qs13 q74 q599 rfl hX0_questionTells rfl (rfl : vwCl[0]? = some (RX0, TX0, 30)) rfl rfl (rmOk (by omega) rfl) ⟨by first | exact Nat.le_refl _ | exact Nat.zero_le _ | decide | (dsimp only [rm]; omega), by first | exact Nat.le_refl _ | exact Nat.zero_le _ | decide | (dsimp only [rm]; omega)⟩ (rt1 ?_)
        refine gl_callV (x_mix L G _) dX0_mixLibrary_63 q1005 q1007 qs42 q74 q1008 rfl hX0_mix rfl (rfl : vwCl[0]? = some (RX0, TX0, 30)) rfl rfl (rmOk (by omega) rfl) ⟨by first | exact Nat.le_refl _ | exact Nat.zero_le _ | decide | (dsimp only [rm]; omega), by first | exact Nat.le_refl _ | exact Nat.zero_le _ | decide | (dsimp only [rm]; omega)⟩ (rt1 ?_)
        refine gl_iinc (v := (nI (k + 1))) dX0_mixLibrary_66 rfl (nI_1 _) rfl rfl ?_
        refine gl_goto (tgt := 51) dX0_mixLibrary_69 (by decide) ?_
        exact ih2
      · refine gl_iload_n dX0_mixLibrary_51 rfl ?_
        refine gl_iconst (v := nI 5) dX0_mixLibrary_52 (by decide) ?_
        refine gl_icmp_gt (tgt := 72) dX0_mixLibrary_53 (by decide) (fun _ => ?_) (fun h => absurd ((by decide)) h)
        refine gl_iinc (v := (nI (c + 1))) dX0_mixLibrary_72 rfl (nI_1 _) rfl rfl ?_
        refine gl_goto (tgt := 41) dX0_mixLibrary_75 (by decide) ?_
        refine gl_drop 2 ?_
        refine gl_mem ?_ ih
        rw [← eH]
        rfl
    · refine gl_iload_n dX0_mixLibrary_41 rfl ?_
      refine gl_aload_n dX0_mixLibrary_42 rfl ?_
      refine gl_get (k := 9) dX0_mixLibrary_43 rfl (rfl : vwCl[0]? = some (RX0, TX0, 30)) in_X0 (by decide) q122 rfl ?_
      refine gl_icmp_ge (tgt := 78) dX0_mixLibrary_46 (by decide) (fun _ => ?_) (fun h => absurd ((by show x.1 9 ≤ nI m; rw [hX.askMany]; exact nI_le (Nat.le_refl _) (by omega))) h)
      show GL _ _ (Rt none (mX o (tJ x 29 (dg5 y (dg4 y t (mx2 h2 (fun q k => y.2.2 23 (31 + 7 * k + q)) m)))))) _ _ _ _ _ _
      generalize mx2 h2 (fun q k => y.2.2 23 (31 + 7 * k + q)) m = h3
      refine gl_iconst (v := nI 0) dX0_mixLibrary_78 (by decide) ?_
      refine gl_istore_n dX0_mixLibrary_79 rfl rfl ?_
      refine gl_loop (fun c => [some (.ref 1), some (.int (nI c)), none, none, none]) (fun c => mX o (tJ x 29 (mxF h3 (fun k => y.2.2 23 (73 + k)) c))) t ?_ ?_
      · intro k hk ih
        generalize eG : mxF h3 (fun k => y.2.2 23 (73 + k)) k = G
        have eS : mxF h3 (fun k => y.2.2 23 (73 + k)) (k + 1) = 31 * G + (y.2.2 23 (73 + k)).toInt64 := by rw [← eG]; rfl
        rw [eS] at ih
        refine gl_iload_n dX0_mixLibrary_80 rfl ?_
        refine gl_aload_n dX0_mixLibrary_81 rfl ?_
        refine gl_get (k := 19) dX0_mixLibrary_82 rfl (rfl : vwCl[0]? = some (RX0, TX0, 30)) in_X0 (by decide) q132 rfl ?_
        refine gl_icmp_ge (tgt := 104) dX0_mixLibrary_85 (by decide) (fun h => absurd h ((by show ¬ x.1 19 ≤ nI k; rw [hX.takingMany]; exact nI_ge hk (by omega)))) (fun _ => ?_)
        refine gl_aload_n dX0_mixLibrary_88 rfl ?_
        refine gl_aload_n dX0_mixLibrary_89 rfl ?_
        refine gl_get (k := 20) dX0_mixLibrary_90 rfl (rfl : vwCl[0]? = some (RX0, TX0, 30)) in_X0 (by decide) q133 rfl ?_
        refine gl_iload_n dX0_mixLibrary_93 rfl ?_
        refine gl_iald (j := k) dX0_mixLibrary_94 rfl rfl (by omega) ?_
        refine gl_top (w := .int (y.2.2 23 (73 + k))) (congrArg Value.int (hX.taking k hk)) ?_
        refine gl_callV (x_mix L G _) dX0_mixLibrary_95 q1005 q1007 qs42 q74 q1008 rfl hX0_mix rfl (rfl : vwCl[0]? = some (RX0, TX0, 30)) rfl rfl (rmOk (by omega) rfl) ⟨by first | exact Nat.le_refl _ | exact Nat.zero_le _ | decide | (dsimp only [rm]; omega), by first | exact Nat.le_refl _ | exact Nat.zero_le _ | decide | (dsimp only [rm]; omega)⟩ (rt1 ?_)
        refine gl_iinc (v := (nI (k + 1))) dX0_mixLibrary_98 rfl (nI_1 _) rfl rfl ?_
        refine gl_goto (tgt := 80) dX0_mixLibrary_101 (by decide) ?_
        exact ih
      · refine gl_iload_n dX0_mixLibrary_80 rfl ?_
        refine gl_aload_n dX0_mixLibrary_81 rfl ?_
        refine gl_get (k := 19) dX0_mixLibrary_82 rfl (rfl : vwCl[0]? = some (RX0, TX0, 30)) in_X0 (by decide) q132 rfl ?_
        refine gl_icmp_ge (tgt := 104) dX0_mixLibrary_85 (by decide) (fun _ => ?_) (fun h => absurd ((by show x.1 19 ≤ nI t; rw [hX.takingMany]; exact nI_le (Nat.le_refl _) (by omega))) h)
        show GL _ _ (Rt none (mX o (tJ x 29 (dg5 y (mxF h3 (fun k => y.2.2 23 (73 + k)) t))))) _ _ _ _ _ _
        generalize mxF h3 (fun k => y.2.2 23 (73 + k)) t = h4
        refine gl_aload_n dX0_mixLibrary_104 rfl ?_
        refine gl_get (k := 22) dX0_mixLibrary_105 rfl (rfl : vwCl[0]? = some (RX0, TX0, 30)) in_X0 (by decide) q135 rfl ?_
        refine gl_astore_n dX0_mixLibrary_108 rfl rfl ?_
        refine gl_aload_n dX0_mixLibrary_109 rfl ?_
        refine gl_alenq dX0_mixLibrary_110 rfl ?_
        refine gl_istore_n dX0_mixLibrary_111 rfl rfl ?_
        refine gl_iconst (v := nI 0) dX0_mixLibrary_112 (by decide) ?_
        refine gl_istore_n dX0_mixLibrary_113 rfl rfl ?_
        refine gl_loop (fun c => [some (.ref 1), some (.ref 13), some (.int (nI 3)), some (.int (nI c)), none]) (fun c => mX o (tJ x 29 (mxF h4 (fun k => if y.2.2 25 k = 0 then -1 else y.2.2 24 (393 * k + 2)) c))) 3 ?_ ?_
        · intro k hk ih
          generalize eG : mxF h4 (fun k => if y.2.2 25 k = 0 then -1 else y.2.2 24 (393 * k + 2)) k = G
          have eS : mxF h4 (fun k => if y.2.2 25 k = 0 then -1 else y.2.2 24 (393 * k + 2)) (k + 1) = 31 * G + (if y.2.2 25 k = 0 then -1 else y.2.2 24 (393 * k + 2)).toInt64 := by rw [← eG]; rfl
          rw [eS] at ih
          refine gl_iload_n dX0_mixLibrary_114 rfl ?_
          refine gl_iload_n dX0_mixLibrary_115 rfl ?_
          refine gl_icmp_ge (tgt := 148) dX0_mixLibrary_116 (by decide) (fun h => absurd h (nI_ge hk (by omega))) (fun _ => ?_)
          refine gl_aload_n dX0_mixLibrary_119 rfl ?_
          refine gl_iload_n dX0_mixLibrary_120 rfl ?_
          rcases hV.kept k hk with ⟨e, es⟩ | ⟨p, a, u, f, e, es, hO, -, hLb, -⟩
          · rw [if_pos es] at ih
            refine gl_aald (j := k) dX0_mixLibrary_121 rfl rfl (by omega) e ?_
            refine gl_astoreN dX0_mixLibrary_122 rfl rfl ?_
            refine gl_aload_n dX0_mixLibrary_124 rfl ?_
            refine gl_aloadN dX0_mixLibrary_125 rfl ?_
            refine gl_ifnonnullN dX0_mixLibrary_127 ?_
            refine gl_iconst (v := (-1)) dX0_mixLibrary_130 (by decide) ?_
            refine gl_goto (tgt := 139) dX0_mixLibrary_131 (by decide) ?_
            refine gl_callV (x_mix L G _) dX0_mixLibrary_139 q1005 q1007 qs42 q74 q1008 rfl hX0_mix rfl (rfl : vwCl[0]? = some (RX0, TX0, 30)) rfl rfl (rmOk (by omega) rfl) ⟨by first | exact Nat.le_refl _ | exact Nat.zero_le _ | decide | (dsimp only [rm]; omega), by first | exact Nat.le_refl _ | exact Nat.zero_le _ | decide | (dsimp only [rm]; omega)⟩ (rt1 ?_)
            refine gl_iinc (v := (nI (k + 1))) dX0_mixLibrary_142 rfl (nI_1 _) rfl rfl ?_
            refine gl_goto (tgt := 114) dX0_mixLibrary_145 (by decide) ?_
            refine gl_drop 4 ?_
            exact ih
          · rw [if_neg es, show y.2.2 24 (393 * k + 2) = nI u from hLb.tk] at ih
            refine gl_aald (j := k) dX0_mixLibrary_121 rfl rfl (by omega) e ?_
            refine gl_astore dX0_mixLibrary_122 rfl rfl ?_
            refine gl_aload_n dX0_mixLibrary_124 rfl ?_
            refine gl_aload dX0_mixLibrary_125 rfl ?_
            refine gl_ifnonnull (tgt := 134) dX0_mixLibrary_127 (by decide) ?_
            refine gl_aload dX0_mixLibrary_134 rfl ?_
            refine gl_getN (k := 0) dX0_mixLibrary_136 hO.lk (rfl : vwCl[8]? = some (RX8, TX8, 7)) in_X8 (by decide) n775 rfl ?_
            refine gl_callV (x_mix L G _) dX0_mixLibrary_139 q1005 q1007 qs42 q74 q1008 rfl hX0_mix rfl (rfl : vwCl[0]? = some (RX0, TX0, 30)) rfl rfl (rmOk (by omega) rfl) ⟨by first | exact Nat.le_refl _ | exact Nat.zero_le _ | decide | (dsimp only [rm]; omega), by first | exact Nat.le_refl _ | exact Nat.zero_le _ | decide | (dsimp only [rm]; omega)⟩ (rt1 ?_)
            refine gl_iinc (v := (nI (k + 1))) dX0_mixLibrary_142 rfl (nI_1 _) rfl rfl ?_
            refine gl_goto (tgt := 114) dX0_mixLibrary_145 (by decide) ?_
            refine gl_drop 4 ?_
            exact ih
        · refine gl_iload_n dX0_mixLibrary_114 rfl ?_
          refine gl_iload_n dX0_mixLibrary_115 rfl ?_
          refine gl_icmp_ge (tgt := 148) dX0_mixLibrary_116 (by decide) (fun _ => ?_) (fun h => absurd ((by decide)) h)
          exact gl_vret dX0_mixLibrary_148 rfl ⟨rfl, rfl⟩ (hc := by first | exact Nat.zero_le _ | (dsimp only [rm]; omega)) (hs := by first | exact Nat.zero_le _ | (dsimp only [rm]; omega))
theorem mxF_eq {h : Int64} {f g : Nat → Int32} : ∀ {k : Nat}, (∀ i, i < k → f i = g i) → mxF h f k = mxF h g k
  | 0, _ => rfl
  | k + 1, e => by
    unfold mxF
    rw [mxF_eq (fun i hi => e i (by omega)), e k (by omega)]
theorem x_digest (hV : RV o τ x y n m t) : Ct yX0_digest gX0_digest (L + 17) 0 0 [.ref 1] (mX o x) (fun v μ => v = some (.long (dgI y n m t)) ∧ ∃ h, μ = mX o (tJ x 29 h)) := by
  refine Ct.of rfl rfl rfl rfl rfl ?_
  refine gl_aload_n dX0_digest_0 rfl ?_
  refine gl_ldc2 (v := 17) q1004 dX0_digest_1 ?_
  refine gl_put (k := 29) dX0_digest_4 rfl (rfl : vwCl[0]? = some (RX0, TX0, 30)) in_X0 tyX0 tyX0_ok nmX0 (by decide) rfl q142 (fun _ _ => ⟨rfl, rfl⟩) rfl ?_
  refine gl_iconst (v := nI 0) dX0_digest_7 (by decide) ?_
  refine gl_istore_n dX0_digest_8 rfl rfl ?_
  refine gl_mem (μ1 := mX o (tJ x 29 17)) rfl ?_
  refine gl_loop (fun k => [some (.ref 1), some (.int (nI k)), none, none, none, none, none]) (fun k => mX o (tJ x 29 (mxF 17 (fun k => ctI y n m k) k))) 9 ?_ ?_
  · intro k hk ih
    generalize eG : mxF 17 (fun k => ctI y n m k) k = G
    have eS : mxF 17 (fun k => ctI y n m k) (k + 1) = 31 * G + (ctI y n m k).toInt64 := by rw [← eG]; rfl
    rw [eS] at ih
    refine gl_iload_n dX0_digest_9 rfl ?_
    refine gl_bipush (v := nI 8) dX0_digest_10 (by decide) ?_
    refine gl_icmp_gt (tgt := 30) dX0_digest_12 (by decide) (fun h => absurd h (nI_nlt (by omega) (by omega))) (fun _ => ?_)
    refine gl_aload_n dX0_digest_15 rfl ?_
    refine gl_aload_n dX0_digest_16 rfl ?_
    refine gl_iload_n dX0_digest_17 rfl ?_
    refine gl_callV (x_countOf L (show RV o τ (tJ x 29 G) y n m t from hV) k hk) dX0_digest_18 q976 q978 qs38 q74 q979 rfl hX0_countOf rfl (rfl : vwCl[0]? = some (RX0, TX0, 30)) rfl rfl (rmOk (by omega) rfl) ⟨by first | exact Nat.le_refl _ | exact Nat.zero_le _ | decide | (dsimp only [rm]; omega), by first | exact Nat.le_refl _ | exact Nat.zero_le _ | decide | (dsimp only [rm]; omega)⟩ (rt1 ?_)
    refine gl_callV (x_mix L G _) dX0_digest_21 q1005 q1007 qs42 q74 q1008 rfl hX0_mix rfl (rfl : vwCl[0]? = some (RX0, TX0, 30)) rfl rfl (rmOk (by omega) rfl) ⟨by first | exact Nat.le_refl _ | exact Nat.zero_le _ | decide | (dsimp only [rm]; omega), by first | exact Nat.le_refl _ | exact Nat.zero_le _ | decide | (dsimp only [rm]; omega)⟩ (rt1 ?_)
    refine gl_iinc (v := (nI (k + 1))) dX0_digest_24 rfl (nI_1 _) rfl rfl ?_
    refine gl_goto (tgt := 9) dX0_digest_27 (by decide) ?_
    exact ih
  · refine gl_iload_n dX0_digest_9 rfl ?_
    refine gl_bipush (v := nI 8) dX0_digest_10 (by decide) ?_
    refine gl_icmp_gt (tgt := 30) dX0_digest_12 (by decide) (fun _ => ?_) (fun h => absurd ((by decide)) h)
    unfold dgI
    rw [show mxF 17 (fun k => ctI y n m k) 9 = dg1 y n m from rfl]
    generalize dg1 y n m = h1
    refine gl_aload_n dX0_digest_30 rfl ?_
    refine gl_callV (x_mixL L hV h1) dX0_digest_31 q1010 q1012 qs43 q74 q1013 rfl hX0_mixLibrary rfl (rfl : vwCl[0]? = some (RX0, TX0, 30)) rfl rfl (rmOk (by omega) rfl) ⟨by first | exact Nat.le_refl _ | exact Nat.zero_le _ | decide | (dsimp only [rm]; omega), by first | exact Nat.le_refl _ | exact Nat.zero_le _ | decide | (dsimp only [rm]; omega)⟩ (rt1 ?_)
    generalize dg5 y (dg4 y t (dg3 y m (dg2 y n m h1))) = h5
    refine gl_aload_n dX0_digest_34 rfl ?_
    refine gl_get (k := 5) dX0_digest_35 rfl (rfl : vwCl[0]? = some (RX0, TX0, 30)) in_X0 (by decide) q117 rfl ?_
    refine gl_astore_n dX0_digest_38 rfl rfl ?_
    refine gl_aload_n dX0_digest_39 rfl ?_
    refine gl_alenq dX0_digest_40 rfl ?_
    refine gl_istore_n dX0_digest_41 rfl rfl ?_
    refine gl_iconst (v := nI 0) dX0_digest_42 (by decide) ?_
    refine gl_istore_n dX0_digest_43 rfl rfl ?_
    refine gl_loop (fun r => [some (.ref 1), some (.ref 3), some (.int (nI 6)), some (.int (nI r)), none, none, none]) (fun r => mX o (tJ x 29 (mx3 h5 (y.2.2 19) (fun r i => y.2.2 20 (40 * r + i)) r))) 6 ?_ ?_
    · intro r hr ih
      have eS : mx3 h5 (y.2.2 19) (fun r i => y.2.2 20 (40 * r + i)) (r + 1) = mxF (31 * mx3 h5 (y.2.2 19) (fun r i => y.2.2 20 (40 * r + i)) r + (y.2.2 19 r).toInt64) (fun i => y.2.2 20 (40 * r + i)) (ix (y.2.2 19 r)) := rfl
      rw [eS] at ih
      generalize mx3 h5 (y.2.2 19) (fun r i => y.2.2 20 (40 * r + i)) r = G at ih ⊢
      refine gl_iload_n dX0_digest_44 rfl ?_
      refine gl_iload_n dX0_digest_45 rfl ?_
      refine gl_icmp_ge (tgt := 105) dX0_digest_46 (by decide) (fun h => absurd h (nI_ge hr (by omega))) (fun _ => ?_)
      refine gl_aload_n dX0_digest_49 rfl ?_
      refine gl_iload_n dX0_digest_50 rfl ?_
      rcases hV.row r hr with ⟨e, es⟩ | ⟨p, s, f, e, hO, es, hs, hf⟩
      · rw [es] at ih
        refine gl_aald (j := r) dX0_digest_51 rfl rfl (by omega) e ?_
        refine gl_astoreN dX0_digest_52 rfl rfl ?_
        refine gl_aloadN dX0_digest_54 rfl ?_
        refine gl_ifnonnullN dX0_digest_56 ?_
        refine gl_iconst (v := (-1)) dX0_digest_59 (by decide) ?_
        refine gl_goto (tgt := 66) dX0_digest_60 (by decide) ?_
        refine gl_istore dX0_digest_66 rfl rfl ?_
        refine gl_aload_n dX0_digest_68 rfl ?_
        refine gl_iload dX0_digest_69 rfl ?_
        refine gl_callV (x_mix L G _) dX0_digest_71 q1005 q1007 qs42 q74 q1008 rfl hX0_mix rfl (rfl : vwCl[0]? = some (RX0, TX0, 30)) rfl rfl (rmOk (by omega) rfl) ⟨by first | exact Nat.le_refl _ | exact Nat.zero_le _ | decide | (dsimp only [rm]; omega), by first | exact Nat.le_refl _ | exact Nat.zero_le _ | decide | (dsimp only [rm]; omega)⟩ (rt1 ?_)
        refine gl_iconst (v := nI 0) dX0_digest_74 (by decide) ?_
        refine gl_istore dX0_digest_75 rfl rfl ?_
        refine gl_iload dX0_digest_77 rfl ?_
        refine gl_iload dX0_digest_79 rfl ?_
        refine gl_icmp_ge (tgt := 99) dX0_digest_81 (by decide) (fun _ => ?_) (fun h => absurd ((by decide)) h)
        refine gl_iinc (v := (nI (r + 1))) dX0_digest_99 rfl (nI_1 _) rfl rfl ?_
        refine gl_goto (tgt := 44) dX0_digest_102 (by decide) ?_
        refine gl_drop 4 (gl_drop 5 (gl_drop 6 ?_))
        exact ih
      · rw [es, ix_nI (show s < 100 by omega), mxF_eq (fun i hi => (hf i hi).symm)] at ih
        refine gl_aald (j := r) dX0_digest_51 rfl rfl (by omega) e ?_
        refine gl_astore dX0_digest_52 rfl rfl ?_
        refine gl_aload dX0_digest_54 rfl ?_
        refine gl_ifnonnull (tgt := 63) dX0_digest_56 (by decide) ?_
        refine gl_aload dX0_digest_63 rfl ?_
        refine gl_alen dX0_digest_65 hO.lk ?_
        refine gl_istore dX0_digest_66 rfl rfl ?_
        refine gl_aload_n dX0_digest_68 rfl ?_
        refine gl_iload dX0_digest_69 rfl ?_
        refine gl_callV (x_mix L G _) dX0_digest_71 q1005 q1007 qs42 q74 q1008 rfl hX0_mix rfl (rfl : vwCl[0]? = some (RX0, TX0, 30)) rfl rfl (rmOk (by omega) rfl) ⟨by first | exact Nat.le_refl _ | exact Nat.zero_le _ | decide | (dsimp only [rm]; omega), by first | exact Nat.le_refl _ | exact Nat.zero_le _ | decide | (dsimp only [rm]; omega)⟩ (rt1 ?_)
        generalize 31 * G + (nI s).toInt64 = G1 at ih ⊢
        refine gl_iconst (v := nI 0) dX0_digest_74 (by decide) ?_
        refine gl_istore dX0_digest_75 rfl rfl ?_
        refine gl_loop (fun i => [some (.ref 1), some (.ref 3), some (.int (nI 6)), some (.int (nI r)), some (.ref p), some (.int (nI s)), some (.int (nI i))]) (fun i => mX o (tJ x 29 (mxF G1 f i))) s ?_ ?_
        · intro i hi ih2
          generalize eG : mxF G1 f i = G2
          have eS : mxF G1 f (i + 1) = 31 * G2 + (f i).toInt64 := by rw [← eG]; rfl
          rw [eS] at ih2
          refine gl_iload dX0_digest_77 rfl ?_
          refine gl_iload dX0_digest_79 rfl ?_
          refine gl_icmp_ge (tgt := 99) dX0_digest_81 (by decide) (fun h => absurd h (nI_ge hi (by omega))) (fun _ => ?_)
          refine gl_aload_n dX0_digest_84 rfl ?_
          refine gl_aload dX0_digest_85 rfl ?_
          refine gl_iload dX0_digest_87 rfl ?_
          refine gl_iald (j := i) dX0_digest_89 hO.lk rfl hi ?_
          refine gl_callV (x_mix L G2 _) dX0_digest_90 q1005 q1007 qs42 q74 q1008 rfl hX0_mix rfl (rfl : vwCl[0]? = some (RX0, TX0, 30)) rfl rfl (rmOk (by omega) rfl) ⟨by first | exact Nat.le_refl _ | exact Nat.zero_le _ | decide | (dsimp only [rm]; omega), by first | exact Nat.le_refl _ | exact Nat.zero_le _ | decide | (dsimp only [rm]; omega)⟩ (rt1 ?_)
          refine gl_iinc (v := (nI (i + 1))) dX0_digest_93 rfl (nI_1 _) rfl rfl ?_
          refine gl_goto (tgt := 77) dX0_digest_96 (by decide) ?_
          exact ih2
        · refine gl_iload dX0_digest_77 rfl ?_
          refine gl_iload dX0_digest_79 rfl ?_
          refine gl_icmp_ge (tgt := 99) dX0_digest_81 (by decide) (fun _ => ?_) (fun h => absurd (nI_le (Nat.le_refl _) (by omega)) h)
          refine gl_iinc (v := (nI (r + 1))) dX0_digest_99 rfl (nI_1 _) rfl rfl ?_
          refine gl_goto (tgt := 44) dX0_digest_102 (by decide) ?_
          refine gl_drop 4 (gl_drop 5 (gl_drop 6 ?_))
          exact ih
    · refine gl_iload_n dX0_digest_44 rfl ?_
      refine gl_iload_n dX0_digest_45 rfl ?_
      refine gl_icmp_ge (tgt := 105) dX0_digest_46 (by decide) (fun _ => ?_) (fun h => absurd ((by decide)) h)
      rw [show mx3 h5 (y.2.2 19) (fun r i => y.2.2 20 (40 * r + i)) 6 = dg6 y h5 from rfl]
      generalize dg6 y h5 = h6
      refine gl_aload_n dX0_digest_105 rfl ?_
      refine gl_get (k := 6) dX0_digest_106 rfl (rfl : vwCl[0]? = some (RX0, TX0, 30)) in_X0 (by decide) q118 rfl ?_
      refine gl_astore_n dX0_digest_109 rfl rfl ?_
      refine gl_aload_n dX0_digest_110 rfl ?_
      refine gl_alenq dX0_digest_111 rfl ?_
      refine gl_istore_n dX0_digest_112 rfl rfl ?_
      refine gl_iconst (v := nI 0) dX0_digest_113 (by decide) ?_
      refine gl_istore_n dX0_digest_114 rfl rfl ?_
      refine gl_loop (fun r => [some (.ref 1), some (.ref 4), some (.int (nI 4)), some (.int (nI r)), none, none, none]) (fun r => mX o (tJ x 29 (mx3 h6 (y.2.2 21) (fun r i => y.2.2 22 (80 * r + i)) r))) 4 ?_ ?_
      · intro r hr ih
        have eS : mx3 h6 (y.2.2 21) (fun r i => y.2.2 22 (80 * r + i)) (r + 1) = mxF (31 * mx3 h6 (y.2.2 21) (fun r i => y.2.2 22 (80 * r + i)) r + (y.2.2 21 r).toInt64) (fun i => y.2.2 22 (80 * r + i)) (ix (y.2.2 21 r)) := rfl
        rw [eS] at ih
        generalize mx3 h6 (y.2.2 21) (fun r i => y.2.2 22 (80 * r + i)) r = G at ih ⊢
        refine gl_iload_n dX0_digest_115 rfl ?_
        refine gl_iload_n dX0_digest_116 rfl ?_
        refine gl_icmp_ge (tgt := 176) dX0_digest_117 (by decide) (fun h => absurd h (nI_ge hr (by omega))) (fun _ => ?_)
        refine gl_aload_n dX0_digest_120 rfl ?_
        refine gl_iload_n dX0_digest_121 rfl ?_
        rcases hV.text r hr with ⟨e, es⟩ | ⟨p, s, f, e, hO, es, hs, hf⟩
        · rw [es] at ih
          refine gl_aald (j := r) dX0_digest_122 rfl rfl (by omega) e ?_
          refine gl_astoreN dX0_digest_123 rfl rfl ?_
          refine gl_aloadN dX0_digest_125 rfl ?_
          refine gl_ifnonnullN dX0_digest_127 ?_
          refine gl_iconst (v := (-1)) dX0_digest_130 (by decide) ?_
          refine gl_goto (tgt := 137) dX0_digest_131 (by decide) ?_
          refine gl_istore dX0_digest_137 rfl rfl ?_
          refine gl_aload_n dX0_digest_139 rfl ?_
          refine gl_iload dX0_digest_140 rfl ?_
          refine gl_callV (x_mix L G _) dX0_digest_142 q1005 q1007 qs42 q74 q1008 rfl hX0_mix rfl (rfl : vwCl[0]? = some (RX0, TX0, 30)) rfl rfl (rmOk (by omega) rfl) ⟨by first | exact Nat.le_refl _ | exact Nat.zero_le _ | decide | (dsimp only [rm]; omega), by first | exact Nat.le_refl _ | exact Nat.zero_le _ | decide | (dsimp only [rm]; omega)⟩ (rt1 ?_)
          refine gl_iconst (v := nI 0) dX0_digest_145 (by decide) ?_
          refine gl_istore dX0_digest_146 rfl rfl ?_
          refine gl_iload dX0_digest_148 rfl ?_
          refine gl_iload dX0_digest_150 rfl ?_
          refine gl_icmp_ge (tgt := 170) dX0_digest_152 (by decide) (fun _ => ?_) (fun h => absurd ((by decide)) h)
          refine gl_iinc (v := (nI (r + 1))) dX0_digest_170 rfl (nI_1 _) rfl rfl ?_
          refine gl_goto (tgt := 115) dX0_digest_173 (by decide) ?_
          refine gl_drop 4 (gl_drop 5 (gl_drop 6 ?_))
          exact ih
        · rw [es, ix_nI (show s < 100 by omega), mxF_eq (fun i hi => (hf i hi).symm)] at ih
          refine gl_aald (j := r) dX0_digest_122 rfl rfl (by omega) e ?_
          refine gl_astore dX0_digest_123 rfl rfl ?_
          refine gl_aload dX0_digest_125 rfl ?_
          refine gl_ifnonnull (tgt := 134) dX0_digest_127 (by decide) ?_
          refine gl_aload dX0_digest_134 rfl ?_
          refine gl_alen dX0_digest_136 hO.lk ?_
          refine gl_istore dX0_digest_137 rfl rfl ?_
          refine gl_aload_n dX0_digest_139 rfl ?_
          refine gl_iload dX0_digest_140 rfl ?_
          refine gl_callV (x_mix L G _) dX0_digest_142 q1005 q1007 qs42 q74 q1008 rfl hX0_mix rfl (rfl : vwCl[0]? = some (RX0, TX0, 30)) rfl rfl (rmOk (by omega) rfl) ⟨by first | exact Nat.le_refl _ | exact Nat.zero_le _ | decide | (dsimp only [rm]; omega), by first | exact Nat.le_refl _ | exact Nat.zero_le _ | decide | (dsimp only [rm]; omega)⟩ (rt1 ?_)
          generalize 31 * G + (nI s).toInt64 = G1 at ih ⊢
          refine gl_iconst (v := nI 0) dX0_digest_145 (by decide) ?_
          refine gl_istore dX0_digest_146 rfl rfl ?_
          refine gl_loop (fun i => [some (.ref 1), some (.ref 4), some (.int (nI 4)), some (.int (nI r)), some (.ref p), some (.int (nI s)), some (.int (nI i))]) (fun i => mX o (tJ x 29 (mxF G1 f i))) s ?_ ?_
          · intro i hi ih2
            generalize eG : mxF G1 f i = G2
            have eS : mxF G1 f (i + 1) = 31 * G2 + (f i).toInt64 := by rw [← eG]; rfl
            rw [eS] at ih2
            refine gl_iload dX0_digest_148 rfl ?_
            refine gl_iload dX0_digest_150 rfl ?_
            refine gl_icmp_ge (tgt := 170) dX0_digest_152 (by decide) (fun h => absurd h (nI_ge hi (by omega))) (fun _ => ?_)
            refine gl_aload_n dX0_digest_155 rfl ?_
            refine gl_aload dX0_digest_156 rfl ?_
            refine gl_iload dX0_digest_158 rfl ?_
            refine gl_bald (j := i) dX0_digest_160 hO.lk rfl hi ?_
            refine gl_callV (x_mix L G2 _) dX0_digest_161 q1005 q1007 qs42 q74 q1008 rfl hX0_mix rfl (rfl : vwCl[0]? = some (RX0, TX0, 30)) rfl rfl (rmOk (by omega) rfl) ⟨by first | exact Nat.le_refl _ | exact Nat.zero_le _ | decide | (dsimp only [rm]; omega), by first | exact Nat.le_refl _ | exact Nat.zero_le _ | decide | (dsimp only [rm]; omega)⟩ (rt1 ?_)
            refine gl_iinc (v := (nI (i + 1))) dX0_digest_164 rfl (nI_1 _) rfl rfl ?_
            refine gl_goto (tgt := 148) dX0_digest_167 (by decide) ?_
            exact ih2
          · refine gl_iload dX0_digest_148 rfl ?_
            refine gl_iload dX0_digest_150 rfl ?_
            refine gl_icmp_ge (tgt := 170) dX0_digest_152 (by decide) (fun _ => ?_) (fun h => absurd (nI_le (Nat.le_refl _) (by omega)) h)
            refine gl_iinc (v := (nI (r + 1))) dX0_digest_170 rfl (nI_1 _) rfl rfl ?_
            refine gl_goto (tgt := 115) dX0_digest_173 (by decide) ?_
            refine gl_drop 4 (gl_drop 5 (gl_drop 6 ?_))
            exact ih
      · refine gl_iload_n dX0_digest_115 rfl ?_
        refine gl_iload_n dX0_digest_116 rfl ?_
        refine gl_icmp_ge (tgt := 176) dX0_digest_117 (by decide) (fun _ => ?_) (fun h => absurd ((by decide)) h)
        refine gl_aload_n dX0_digest_176 rfl ?_
        refine gl_get (k := 29) dX0_digest_177 rfl (rfl : vwCl[0]? = some (RX0, TX0, 30)) in_X0 (by decide) q142 rfl ?_
        exact gl_lret dX0_digest_180 rfl ⟨rfl, _, rfl⟩ (hc := by first | exact Nat.zero_le _ | (dsimp only [rm]; omega)) (hs := by first | exact Nat.zero_le _ | (dsimp only [rm]; omega))
end XU

