/-! the component: two libraries beside each other -/
set_option maxRecDepth 100000
theorem mnk_9 {k s a : Nat} (hk : k ≤ 5) (hs : s ≤ 9) (ha : a ≤ 9) : ∃ z, z ≤ 9 ∧ mnk (nI k) (nI s) (nI a) = nI z := by
  unfold mnk
  have e10 : (10 : Int32) = nI 10 := rfl
  split
  · split
    · exact ⟨0, by omega, rfl⟩
    · exact ⟨1, by omega, rfl⟩
  · split
    · exact ⟨0, by omega, rfl⟩
    · split
      · refine ⟨(s + 1) % 10, by omega, ?_⟩
        rw [e10, nI_1, nI_rem (by omega) (by omega)]
      · split
        · refine ⟨(s + a) % 10, by omega, ?_⟩
          rw [e10, nI_add, nI_rem (by omega) (by omega)]
        · exact ⟨s, hs, rfl⟩
theorem mns_9 {w : Nat → Int32} {n m t : Nat} (hL : Lb w n m t) {c : Nat} (hc : c < 7) : ∃ z, z ≤ 9 ∧ mns w c = nI z := by
  obtain ⟨k, hk, e1⟩ := hL.kind c hc
  obtain ⟨s, hs, e2⟩ := hL.says c hc
  obtain ⟨a, ha, e3⟩ := hL.age c hc
  unfold mns
  rw [e1, e2, e3]
  exact mnk_9 hk hs ha
def heS (w : Nat → Int32) (b : Bool) (v n : Nat) : Int32 := cntI (fun c => (if b then nI 10 * w (3 + c) else nI 0) + mns w c == nI v) n
def thS (f : Nat → Int32) (b : Bool) (v s : Nat) : Int32 := cntI (fun i => (if b then f i else f i % nI 10) == nI v) s
def pwS (w f : Nat → Int32) (b : Bool) (n s : Nat) : Nat → Int32
  | 0 => nI 0
  | v + 1 => pwS w f b n s v + (if b || decide (v < 10) then lsI (thS f b v s) (heS w b v n) else nI 0)
section XJ
variable (L : Nat) {o : OX} {τ : Nat → Nat} {x : XY} {y : MY} {n m t : Nat}
theorem x_pairsWith {w : Nat → Int32} (hX : RL o τ x w n m t) (hL : Lb w n m t) {p s tag : Nat} {f : Nat → Int32} (hO : Own o τ p tag (.inl (0, s, f))) (hs : s ≤ 40) (b : Bool) : Ct yX0_pairsWith gX0_pairsWith (L + 15) 0 0 [.ref 1, .ref p, .int (bI b)] (mX o x) (Rt (some (.int (pwS w f b n s 60))) (mX o x)) := by
  refine Ct.of rfl rfl rfl rfl rfl ?_
  have h7 := hL.c7
  refine gl_iconst (v := nI 0) dX0_pairsWith_0 (by decide) ?_
  refine gl_istore_n dX0_pairsWith_1 rfl rfl ?_
  refine gl_iconst (v := nI 0) dX0_pairsWith_2 (by decide) ?_
  refine gl_istore dX0_pairsWith_3 rfl rfl ?_
  refine gl_loop (fun v => [some (.ref 1), some (.ref p), some (.int (bI b)), some (.int (pwS w f b n s v)), some (.int (nI v)), none, none, none, none, none, none, none]) (fun _ => mX o x) 60 ?_ ?_
  · intro v hv ih
    have tl : GL gX0_pairsWith (rm (L + 15) 0 0) (Rt (some (.int (pwS w f b n s 60))) (mX o x)) 0 0 28 [some (.ref 1), some (.ref p), some (.int (bI b)), some (.int (pwS w f b n s v)), some (.int (nI v)), none, none, none, none, none, none, none] [.int (bI (b || decide (v < 10)))] (mX o x) := by
      refine gl_istore dX0_pairsWith_28 rfl rfl ?_
      refine gl_iconst (v := nI 0) dX0_pairsWith_30 (by decide) ?_
      refine gl_istore dX0_pairsWith_31 rfl rfl ?_
      refine gl_iconst (v := nI 0) dX0_pairsWith_33 (by decide) ?_
      refine gl_istore dX0_pairsWith_34 rfl rfl ?_
      refine gl_iconst (v := nI 0) dX0_pairsWith_36 (by decide) ?_
      refine gl_istore dX0_pairsWith_37 rfl rfl ?_
      refine gl_loop (fun c => [some (.ref 1), some (.ref p), some (.int (bI b)), some (.int (pwS w f b n s v)), some (.int (nI v)), some (.int (bI (b || decide (v < 10)))), some (.int (heS w b v c)), some (.int (nI 0)), some (.int (nI c)), none, none, none]) (fun _ => mX o x) n ?_ ?_
      · intro c hc ih2
        obtain ⟨pc, e, -⟩ := hX.card c hc
        have es : heS w b v (c + 1) = heS w b v c + bI ((if b then nI 10 * w (3 + c) else nI 0) + mns w c == nI v) := rfl
        have t2 : ∀ u, u = (if b then nI 10 * w (3 + c) else nI 0) + mns w c → GL gX0_pairsWith (rm (L + 15) 0 0) (Rt (some (.int (pwS w f b n s 60))) (mX o x)) 0 0 80 [some (.ref 1), some (.ref p), some (.int (bI b)), some (.int (pwS w f b n s v)), some (.int (nI v)), some (.int (bI (b || decide (v < 10)))), some (.int (heS w b v c)), some (.int (nI 0)), some (.int (nI c)), none, none, none] [.int u] (mX o x) := by
          intro u hu
          rw [← hu] at es
          refine gl_istore dX0_pairsWith_80 rfl rfl ?_
          refine gl_iload dX0_pairsWith_82 rfl ?_
          refine gl_iload dX0_pairsWith_84 rfl ?_
          refine gl_iload dX0_pairsWith_86 rfl ?_
          refine gl_icmp_ne (tgt := 95) dX0_pairsWith_88 (by decide) (fun h88 => ?_) (fun h88 => ?_)
          · rw [show (u == nI v) = false by simpa using h88] at es
            refine gl_iconst (v := nI 0) dX0_pairsWith_95 (by decide) ?_
            refine gl_iadd dX0_pairsWith_96 ?_
            refine gl_istore dX0_pairsWith_97 rfl rfl ?_
            refine gl_iinc (v := (nI (c + 1))) dX0_pairsWith_99 rfl (nI_1 _) rfl rfl ?_
            refine gl_goto (tgt := 39) dX0_pairsWith_102 (by decide) ?_
            refine gl_drop 9 (gl_lcs ?_ ih2)
            rw [es]
            rfl
          · rw [show (u == nI v) = true by simpa using h88] at es
            refine gl_iconst (v := nI 1) dX0_pairsWith_91 (by decide) ?_
            refine gl_goto (tgt := 96) dX0_pairsWith_92 (by decide) ?_
            refine gl_iadd dX0_pairsWith_96 ?_
            refine gl_istore dX0_pairsWith_97 rfl rfl ?_
            refine gl_iinc (v := (nI (c + 1))) dX0_pairsWith_99 rfl (nI_1 _) rfl rfl ?_
            refine gl_goto (tgt := 39) dX0_pairsWith_102 (by decide) ?_
            refine gl_drop 9 (gl_lcs ?_ ih2)
            rw [es]
            rfl
        refine gl_iload dX0_pairsWith_39 rfl ?_
        refine gl_aload_n dX0_pairsWith_41 rfl ?_
        refine gl_get (k := 7) dX0_pairsWith_42 rfl (rfl : vwCl[0]? = some (RX0, TX0, 30)) in_X0 (by decide) q119 rfl ?_
        refine gl_icmp_ge (tgt := 105) dX0_pairsWith_45 (by decide) (fun h => absurd h ((by rw [hX.many]; exact nI_ge hc (by omega)))) (fun _ => ?_)
        refine gl_iload_n dX0_pairsWith_48 rfl ?_
        cases b with
        | true =>
          refine gl_if_eq (tgt := 68) dX0_pairsWith_49 (by decide) (fun h => absurd h ((by decide))) (fun _ => ?_)
          refine gl_bipush (v := nI 10) dX0_pairsWith_52 (by decide) ?_
          refine gl_aload_n dX0_pairsWith_54 rfl ?_
          refine gl_get (k := 8) dX0_pairsWith_55 rfl (rfl : vwCl[0]? = some (RX0, TX0, 30)) in_X0 (by decide) q121 rfl ?_
          refine gl_iload dX0_pairsWith_58 rfl ?_
          refine gl_aald (j := c) dX0_pairsWith_60 rfl rfl (by omega) e ?_
          refine gl_kindW hX hL hc e dX0_pairsWith_61 q525 (by omega) rfl ⟨by first | exact Nat.le_refl _ | exact Nat.zero_le _ | decide | (dsimp only [rm]; omega), by first | exact Nat.le_refl _ | exact Nat.zero_le _ | decide | (dsimp only [rm]; omega)⟩ ?_
          refine gl_imul dX0_pairsWith_64 ?_
          refine gl_goto (tgt := 69) dX0_pairsWith_65 (by decide) ?_
          refine gl_aload_n dX0_pairsWith_69 rfl ?_
          refine gl_get (k := 8) dX0_pairsWith_70 rfl (rfl : vwCl[0]? = some (RX0, TX0, 30)) in_X0 (by decide) q121 rfl ?_
          refine gl_iload dX0_pairsWith_73 rfl ?_
          refine gl_aald (j := c) dX0_pairsWith_75 rfl rfl (by omega) e ?_
          refine gl_meansW hX hL hc e dX0_pairsWith_76 q555 (by omega) rfl ⟨by first | exact Nat.le_refl _ | exact Nat.zero_le _ | decide | (dsimp only [rm]; omega), by first | exact Nat.le_refl _ | exact Nat.zero_le _ | decide | (dsimp only [rm]; omega)⟩ ?_
          refine gl_iadd dX0_pairsWith_79 ?_
          exact t2 _ rfl
        | false =>
          refine gl_if_eq (tgt := 68) dX0_pairsWith_49 (by decide) (fun _ => ?_) (fun h => absurd (rfl) h)
          refine gl_iconst (v := nI 0) dX0_pairsWith_68 (by decide) ?_
          refine gl_aload_n dX0_pairsWith_69 rfl ?_
          refine gl_get (k := 8) dX0_pairsWith_70 rfl (rfl : vwCl[0]? = some (RX0, TX0, 30)) in_X0 (by decide) q121 rfl ?_
          refine gl_iload dX0_pairsWith_73 rfl ?_
          refine gl_aald (j := c) dX0_pairsWith_75 rfl rfl (by omega) e ?_
          refine gl_meansW hX hL hc e dX0_pairsWith_76 q555 (by omega) rfl ⟨by first | exact Nat.le_refl _ | exact Nat.zero_le _ | decide | (dsimp only [rm]; omega), by first | exact Nat.le_refl _ | exact Nat.zero_le _ | decide | (dsimp only [rm]; omega)⟩ ?_
          refine gl_iadd dX0_pairsWith_79 ?_
          exact t2 _ rfl
      · refine gl_iload dX0_pairsWith_39 rfl ?_
        refine gl_aload_n dX0_pairsWith_41 rfl ?_
        refine gl_get (k := 7) dX0_pairsWith_42 rfl (rfl : vwCl[0]? = some (RX0, TX0, 30)) in_X0 (by decide) q119 rfl ?_
        refine gl_icmp_ge (tgt := 105) dX0_pairsWith_45 (by decide) (fun _ => ?_) (fun h => absurd ((by rw [hX.many]; exact nI_le (Nat.le_refl _) (by omega))) h)
        refine gl_aload_n dX0_pairsWith_105 rfl ?_
        refine gl_astore dX0_pairsWith_106 rfl rfl ?_
        refine gl_aload dX0_pairsWith_108 rfl ?_
        refine gl_alen dX0_pairsWith_110 hO.lk ?_
        refine gl_istore dX0_pairsWith_111 rfl rfl ?_
        refine gl_iconst (v := nI 0) dX0_pairsWith_113 (by decide) ?_
        refine gl_istore dX0_pairsWith_114 rfl rfl ?_
        refine gl_loop (fun i => [some (.ref 1), some (.ref p), some (.int (bI b)), some (.int (pwS w f b n s v)), some (.int (nI v)), some (.int (bI (b || decide (v < 10)))), some (.int (heS w b v n)), some (.int (thS f b v i)), some (.ref p), some (.int (nI s)), some (.int (nI i)), none]) (fun _ => mX o x) s ?_ ?_
        · intro i hi ih2
          have es : thS f b v (i + 1) = thS f b v i + bI ((if b then f i else f i % nI 10) == nI v) := rfl
          have t2 : ∀ u, u = (if b then f i else f i % nI 10) → GL gX0_pairsWith (rm (L + 15) 0 0) (Rt (some (.int (pwS w f b n s 60))) (mX o x)) 0 0 146 [some (.ref 1), some (.ref p), some (.int (bI b)), some (.int (pwS w f b n s v)), some (.int (nI v)), some (.int (bI (b || decide (v < 10)))), some (.int (heS w b v n)), some (.int (thS f b v i)), some (.ref p), some (.int (nI s)), some (.int (nI i)), some (.int (f i))] [.int u, .int (thS f b v i)] (mX o x) := by
            intro u hu
            rw [← hu] at es
            refine gl_iload dX0_pairsWith_146 rfl ?_
            refine gl_icmp_ne (tgt := 155) dX0_pairsWith_148 (by decide) (fun h148 => ?_) (fun h148 => ?_)
            · rw [show (u == nI v) = false by simpa using h148] at es
              refine gl_iconst (v := nI 0) dX0_pairsWith_155 (by decide) ?_
              refine gl_iadd dX0_pairsWith_156 ?_
              refine gl_istore dX0_pairsWith_157 rfl rfl ?_
              refine gl_iinc (v := (nI (i + 1))) dX0_pairsWith_159 rfl (nI_1 _) rfl rfl ?_
              refine gl_goto (tgt := 116) dX0_pairsWith_162 (by decide) ?_
              refine gl_drop 11 (gl_lcs ?_ ih2)
              rw [es]
              rfl
            · rw [show (u == nI v) = true by simpa using h148] at es
              refine gl_iconst (v := nI 1) dX0_pairsWith_151 (by decide) ?_
              refine gl_goto (tgt := 156) dX0_pairsWith_152 (by decide) ?_
              refine gl_iadd dX0_pairsWith_156 ?_
              refine gl_istore dX0_pairsWith_157 rfl rfl ?_
              refine gl_iinc (v := (nI (i + 1))) dX0_pairsWith_159 rfl (nI_1 _) rfl rfl ?_
              refine gl_goto (tgt := 116) dX0_pairsWith_162 (by decide) ?_
              refine gl_drop 11 (gl_lcs ?_ ih2)
              rw [es]
              rfl
          refine gl_iload dX0_pairsWith_116 rfl ?_
          refine gl_iload dX0_pairsWith_118 rfl ?_
          refine gl_icmp_ge (tgt := 165) dX0_pairsWith_120 (by decide) (fun h => absurd h (nI_ge hi (by omega))) (fun _ => ?_)
          refine gl_aload dX0_pairsWith_123 rfl ?_
          refine gl_iload dX0_pairsWith_125 rfl ?_
          refine gl_iald (j := i) dX0_pairsWith_127 hO.lk rfl hi ?_
          refine gl_istore dX0_pairsWith_128 rfl rfl ?_
          refine gl_iload dX0_pairsWith_130 rfl ?_
          refine gl_iload_n dX0_pairsWith_132 rfl ?_
          cases b with
          | true =>
            refine gl_if_eq (tgt := 141) dX0_pairsWith_133 (by decide) (fun h => absurd h ((by decide))) (fun _ => ?_)
            refine gl_iload dX0_pairsWith_136 rfl ?_
            refine gl_goto (tgt := 146) dX0_pairsWith_138 (by decide) ?_
            exact t2 _ rfl
          | false =>
            refine gl_if_eq (tgt := 141) dX0_pairsWith_133 (by decide) (fun _ => ?_) (fun h => absurd (rfl) h)
            refine gl_iload dX0_pairsWith_141 rfl ?_
            refine gl_bipush (v := nI 10) dX0_pairsWith_143 (by decide) ?_
            refine gl_irem dX0_pairsWith_145 (by decide) ?_
            exact t2 _ rfl
        · have es : pwS w f b n s (v + 1) = pwS w f b n s v + (if b || decide (v < 10) then lsI (thS f b v s) (heS w b v n) else nI 0) := rfl
          refine gl_iload dX0_pairsWith_116 rfl ?_
          refine gl_iload dX0_pairsWith_118 rfl ?_
          refine gl_icmp_ge (tgt := 165) dX0_pairsWith_120 (by decide) (fun _ => ?_) (fun h => absurd (nI_le (Nat.le_refl _) (by omega)) h)
          refine gl_iload_n dX0_pairsWith_165 rfl ?_
          refine gl_iload dX0_pairsWith_166 rfl ?_
          refine gl_if_eq (tgt := 181) dX0_pairsWith_168 (by decide) (fun h168 => ?_) (fun h168 => ?_)
          · rw [if_neg (by rw [bI_fa h168]; decide)] at es
            refine gl_iconst (v := nI 0) dX0_pairsWith_181 (by decide) ?_
            refine gl_iadd dX0_pairsWith_182 ?_
            refine gl_istore_n dX0_pairsWith_183 rfl rfl ?_
            refine gl_iinc (v := (nI (v + 1))) dX0_pairsWith_184 rfl (nI_1 _) rfl rfl ?_
            refine gl_goto (tgt := 5) dX0_pairsWith_187 (by decide) ?_
            refine gl_drop 5 (gl_drop 6 (gl_drop 7 (gl_drop 8 (gl_drop 9 (gl_drop 10 (gl_lcs ?_ ih))))))
            rw [es]
            rfl
          · rw [if_pos (bI_tr h168)] at es
            refine gl_iload dX0_pairsWith_171 rfl ?_
            refine gl_iload dX0_pairsWith_173 rfl ?_
            refine gl_callS (j_min L _ _ _) dX0_pairsWith_175 q920 q921 q94 q922 rfl hJ10_min rfl rfl (rmOk (by omega) rfl) ⟨by first | exact Nat.le_refl _ | exact Nat.zero_le _ | decide | (dsimp only [rm]; omega), by first | exact Nat.le_refl _ | exact Nat.zero_le _ | decide | (dsimp only [rm]; omega)⟩ (rt1 ?_)
            refine gl_goto (tgt := 182) dX0_pairsWith_178 (by decide) ?_
            refine gl_iadd dX0_pairsWith_182 ?_
            refine gl_istore_n dX0_pairsWith_183 rfl rfl ?_
            refine gl_iinc (v := (nI (v + 1))) dX0_pairsWith_184 rfl (nI_1 _) rfl rfl ?_
            refine gl_goto (tgt := 5) dX0_pairsWith_187 (by decide) ?_
            refine gl_drop 5 (gl_drop 6 (gl_drop 7 (gl_drop 8 (gl_drop 9 (gl_drop 10 (gl_lcs ?_ ih))))))
            rw [es]
            rfl
    refine gl_iload dX0_pairsWith_5 rfl ?_
    refine gl_bipush (v := nI 60) dX0_pairsWith_7 (by decide) ?_
    refine gl_icmp_ge (tgt := 190) dX0_pairsWith_9 (by decide) (fun h => absurd h (nI_ge hv (by omega))) (fun _ => ?_)
    refine gl_iload_n dX0_pairsWith_12 rfl ?_
    cases b with
    | true =>
      refine gl_if_ne (tgt := 23) dX0_pairsWith_13 (by decide) (fun _ => ?_) (fun h => absurd h ((by decide)))
      refine gl_iconst (v := nI 1) dX0_pairsWith_23 (by decide) ?_
      refine gl_goto (tgt := 28) dX0_pairsWith_24 (by decide) ?_
      exact tl
    | false =>
      refine gl_if_ne (tgt := 23) dX0_pairsWith_13 (by decide) (fun h => absurd (rfl) h) (fun _ => ?_)
      refine gl_iload dX0_pairsWith_16 rfl ?_
      refine gl_bipush (v := nI 10) dX0_pairsWith_18 (by decide) ?_
      by_cases h10 : v < 10
      · refine gl_icmp_ge (tgt := 27) dX0_pairsWith_20 (by decide) (fun h => absurd h (nI_ge h10 (by omega))) (fun _ => ?_)
        refine gl_iconst (v := nI 1) dX0_pairsWith_23 (by decide) ?_
        refine gl_goto (tgt := 28) dX0_pairsWith_24 (by decide) ?_
        rw [decide_eq_true h10] at tl
        exact tl
      · refine gl_icmp_ge (tgt := 27) dX0_pairsWith_20 (by decide) (fun _ => ?_) (fun h => absurd (nI_le (by omega) (by omega)) h)
        refine gl_iconst (v := nI 0) dX0_pairsWith_27 (by decide) ?_
        rw [decide_eq_false h10] at tl
        exact tl
  · refine gl_iload dX0_pairsWith_5 rfl ?_
    refine gl_bipush (v := nI 60) dX0_pairsWith_7 (by decide) ?_
    refine gl_icmp_ge (tgt := 190) dX0_pairsWith_9 (by decide) (fun _ => ?_) (fun h => absurd ((by decide)) h)
    refine gl_iload_n dX0_pairsWith_190 rfl ?_
    exact gl_iret dX0_pairsWith_191 rfl ⟨rfl, rfl⟩ (hc := by first | exact Nat.zero_le _ | (dsimp only [rm]; omega)) (hs := by first | exact Nat.zero_le _ | (dsimp only [rm]; omega))
end XJ

