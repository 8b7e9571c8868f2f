/-! the model: marks, shelves, rows beside -/
set_option maxRecDepth 100000
section ML2
variable (L : Nat) (o : OY) (y : MY) {n m t : Nat}
def mkIs (w : Nat → Int32) (kd : Int32) (c k : Nat) : Bool := if kd = 3 then inR (nI k) 0 (w 1 - 1) && fitB w k c else inR (nI k) 0 (w 0 - 1)
def mkAl (w : Nat → Int32) (kd : Int32) (c k : Nat) : Bool := if kd = 1 then isOf (w (3 + k)) 1 && mkIs w kd c k && mns w k == mns w c else if kd = 2 then decide (¬ nI k = nI c) && w (17 + k) == w (17 + c) else if kd = 5 then isOf (w (3 + k)) 2 && w (10 + k) == mns w c else true
def sp_mark (y : MY) (c kd : Int32) : Int32 × MY := if inR c 0 (y.2.2 23 0 - 1) && inR kd 1 5 then (if isOf (y.2.2 23 (3 + ix c)) kd then (if kd = 4 then (mns (y.2.2 23) (ix c) - y.2.2 23 (10 + ix c) + nI 10, y) else (cntI (fun k => mkIs (y.2.2 23) kd (ix c) k && mkAl (y.2.2 23) kd (ix c) k) 7, y)) else sfnd y 3) else (-1, y)
theorem m_mark (hL : Lb (y.2.2 23) n m t) (c kd : Int32) : Ct yX1_mark gX1_mark (L + 13) 0 0 [.ref 18, .int c, .int kd] (mM o y) (RtP o (sp_mark y c kd)) := by
  refine Ct.of rfl rfl rfl rfl rfl ?_
  have h7 := hL.c7
  have h7q := hL.q7
  refine gl_aload_n dX1_mark_0 rfl ?_
  refine gl_iload_n dX1_mark_1 rfl ?_
  refine gl_callV (m_isCard L o y _) dX1_mark_2 q1176 q1178 qs51 q75 q1179 rfl hX1_isCard rfl (rfl : vwCl[1]? = some (RX1, TX1, 21)) rfl rfl (rmOk (by omega) rfl) ⟨by first | exact Nat.le_refl _ | exact Nat.zero_le _ | decide | (dsimp only [rm]; omega), by first | exact Nat.le_refl _ | exact Nat.zero_le _ | decide | (dsimp only [rm]; omega)⟩ (rt1 ?_)
  refine gl_if_eq (tgt := 20) dX1_mark_5 (by decide) (fun h5 => ?_) (fun h5 => ?_)
  · unfold sp_mark
    rw [if_neg (by simp [bI_fa h5])]
    refine gl_iconst (v := (-1)) dX1_mark_20 (by decide) ?_
    exact gl_iret dX1_mark_21 rfl ⟨rfl, rfl⟩
  · have hc := bI_tr h5
    refine gl_iload_n dX1_mark_8 rfl ?_
    refine gl_i2l dX1_mark_9 ?_
    refine gl_lconst (v := 1) dX1_mark_10 (by decide) ?_
    refine gl_ldc2 (v := 5) q1092 dX1_mark_11 ?_
    refine gl_callS (m_in_i L (mM o y) kd 1 5 rfl rfl) dX1_mark_14 q1093 q1094 q75 q1095 rfl hX1_in rfl rfl (rmOk (by omega) rfl) ⟨by first | exact Nat.le_refl _ | exact Nat.zero_le _ | decide | (dsimp only [rm]; omega), by first | exact Nat.le_refl _ | exact Nat.zero_le _ | decide | (dsimp only [rm]; omega)⟩ (rt1 ?_)
    refine gl_if_ne (tgt := 22) dX1_mark_17 (by decide) (fun h17 => ?_) (fun h17 => ?_)
    · unfold sp_mark
      rw [if_pos (by rw [hc, bI_tr h17]; rfl)]
      rw [hL.c] at hc
      obtain ⟨c, hc, rfl⟩ := inR_n (by omega) hc
      rw [ix_nI (show c < 100 by omega)]
      refine gl_aload_n dX1_mark_22 rfl ?_
      refine gl_get (k := 4) dX1_mark_23 rfl (rfl : vwCl[1]? = some (RX1, TX1, 21)) in_X1 (by decide) q1024 rfl ?_
      refine gl_iconst (v := nI 3) dX1_mark_26 (by decide) ?_
      refine gl_iload_n dX1_mark_27 rfl ?_
      refine gl_iadd dX1_mark_28 ?_
      refine gl_iald (j := (3 + c)) dX1_mark_29 rfl (by simp only [nI_add, nI_mul]) (by omega) ?_
      refine gl_iload_n dX1_mark_30 rfl ?_
      refine gl_callS (m_isOf L (mM o y) _ _) dX1_mark_31 q1204 q1205 q75 q1206 rfl hX1_isOf rfl rfl (rmOk (by omega) rfl) ⟨by first | exact Nat.le_refl _ | exact Nat.zero_le _ | decide | (dsimp only [rm]; omega), by first | exact Nat.le_refl _ | exact Nat.zero_le _ | decide | (dsimp only [rm]; omega)⟩ (rt1 ?_)
      refine gl_if_ne (tgt := 43) dX1_mark_34 (by decide) (fun h34 => ?_) (fun h34 => ?_)
      · rw [if_pos (bI_tr h34)]
        refine gl_iload_n dX1_mark_43 rfl ?_
        refine gl_iconst (v := nI 4) dX1_mark_44 (by decide) ?_
        refine gl_icmp_ne (tgt := 67) dX1_mark_45 (by decide) (fun h45 => ?_) (fun h45 => ?_)
        · rw [if_neg (show ¬ kd = 4 from h45)]
          refine gl_iconst (v := nI 0) dX1_mark_67 (by decide) ?_
          refine gl_istore_n dX1_mark_68 rfl rfl ?_
          refine gl_iconst (v := nI 0) dX1_mark_69 (by decide) ?_
          refine gl_istore dX1_mark_70 rfl rfl ?_
          refine gl_loop (fun k => [some (.ref 18), some (.int (nI c)), some (.int kd), some (.int (cntI (fun k => mkIs (y.2.2 23) kd c k && mkAl (y.2.2 23) kd c k) k)), some (.int (nI k)), none, none]) (fun _ => mM o y) 7 ?_ ?_
          · intro k hk ih
            refine gl_iload dX1_mark_72 rfl ?_
            refine gl_bipush (v := nI 7) dX1_mark_74 (by decide) ?_
            refine gl_icmp_ge (tgt := 278) dX1_mark_76 (by decide) (fun h => absurd h (nI_ge hk (by omega))) (fun _ => ?_)
            have t3 : GL gX1_mark (rm (L + 13) 0 0) (RtP o (cntI (fun k => mkIs (y.2.2 23) kd c k && mkAl (y.2.2 23) kd c k) 7, y)) 0 0 254 [some (.ref 18), some (.int (nI c)), some (.int kd), some (.int (cntI (fun k => mkIs (y.2.2 23) kd c k && mkAl (y.2.2 23) kd c k) k)), some (.int (nI k)), some (.int (bI (mkIs (y.2.2 23) kd c k))), some (.int (bI (mkAl (y.2.2 23) kd c k)))] [] (mM o y) := by
              refine gl_iload_n dX1_mark_254 rfl ?_
              refine gl_iload dX1_mark_255 rfl ?_
              refine gl_if_eq (tgt := 269) dX1_mark_257 (by decide) (fun h257 => ?_) (fun h257 => ?_)
              · refine gl_iconst (v := nI 0) dX1_mark_269 (by decide) ?_
                refine gl_iadd dX1_mark_270 ?_
                refine gl_istore_n dX1_mark_271 rfl rfl ?_
                refine gl_iinc (v := (nI (k + 1))) dX1_mark_272 rfl (nI_1 _) rfl rfl ?_
                refine gl_goto (tgt := 72) dX1_mark_275 (by decide) ?_
                refine gl_drop 5 (gl_drop 6 (gl_lcs ?_ ih)); clear ih; (try simp only [bI_ne] at *); simp_all [cntI, bI] <;> rfl
              · refine gl_iload dX1_mark_260 rfl ?_
                refine gl_if_eq (tgt := 269) dX1_mark_262 (by decide) (fun h262 => ?_) (fun h262 => ?_)
                · refine gl_iconst (v := nI 0) dX1_mark_269 (by decide) ?_
                  refine gl_iadd dX1_mark_270 ?_
                  refine gl_istore_n dX1_mark_271 rfl rfl ?_
                  refine gl_iinc (v := (nI (k + 1))) dX1_mark_272 rfl (nI_1 _) rfl rfl ?_
                  refine gl_goto (tgt := 72) dX1_mark_275 (by decide) ?_
                  refine gl_drop 5 (gl_drop 6 (gl_lcs ?_ ih)); clear ih; (try simp only [bI_ne] at *); simp_all [cntI, bI] <;> rfl
                · refine gl_iconst (v := nI 1) dX1_mark_265 (by decide) ?_
                  refine gl_goto (tgt := 270) dX1_mark_266 (by decide) ?_
                  refine gl_iadd dX1_mark_270 ?_
                  refine gl_istore_n dX1_mark_271 rfl rfl ?_
                  refine gl_iinc (v := (nI (k + 1))) dX1_mark_272 rfl (nI_1 _) rfl rfl ?_
                  refine gl_goto (tgt := 72) dX1_mark_275 (by decide) ?_
                  refine gl_drop 5 (gl_drop 6 (gl_lcs ?_ ih)); clear ih; (try simp only [bI_ne] at *); simp_all [cntI, bI] <;> rfl
            have t2 : GL gX1_mark (rm (L + 13) 0 0) (RtP o (cntI (fun k => mkIs (y.2.2 23) kd c k && mkAl (y.2.2 23) kd c k) 7, y)) 0 0 119 [some (.ref 18), some (.int (nI c)), some (.int kd), some (.int (cntI (fun k => mkIs (y.2.2 23) kd c k && mkAl (y.2.2 23) kd c k) k)), some (.int (nI k)), some (.int (bI (mkIs (y.2.2 23) kd c k))), none] [] (mM o y) := by
              refine gl_iload_n dX1_mark_119 rfl ?_
              refine gl_iconst (v := nI 1) dX1_mark_120 (by decide) ?_
              refine gl_icmp_ne (tgt := 167) dX1_mark_121 (by decide) (fun h121 => ?_) (fun h121 => ?_)
              · refine gl_iload_n dX1_mark_167 rfl ?_
                refine gl_iconst (v := nI 2) dX1_mark_168 (by decide) ?_
                refine gl_icmp_ne (tgt := 208) dX1_mark_169 (by decide) (fun h169 => ?_) (fun h169 => ?_)
                · refine gl_iload_n dX1_mark_208 rfl ?_
                  refine gl_iconst (v := nI 5) dX1_mark_209 (by decide) ?_
                  refine gl_icmp_ne (tgt := 247) dX1_mark_210 (by decide) (fun h210 => ?_) (fun h210 => ?_)
                  · refine gl_iconst (v := nI 1) dX1_mark_247 (by decide) ?_
                    refine gl_goto (tgt := 252) dX1_mark_248 (by decide) ?_
                    refine gl_istore dX1_mark_252 rfl rfl ?_
                    refine gl_lcs ?_ t3; clear t3 ih; (try simp only [bI_ne] at *); simp_all [mkAl, bI, nI] <;> rfl
                  · refine gl_aload_n dX1_mark_213 rfl ?_
                    refine gl_get (k := 4) dX1_mark_214 rfl (rfl : vwCl[1]? = some (RX1, TX1, 21)) in_X1 (by decide) q1024 rfl ?_
                    refine gl_iconst (v := nI 3) dX1_mark_217 (by decide) ?_
                    refine gl_iload dX1_mark_218 rfl ?_
                    refine gl_iadd dX1_mark_220 ?_
                    refine gl_iald (j := (3 + k)) dX1_mark_221 rfl (by simp only [nI_add, nI_mul]) (by omega) ?_
                    refine gl_iconst (v := nI 2) dX1_mark_222 (by decide) ?_
                    refine gl_callS (m_isOf L (mM o y) _ _) dX1_mark_223 q1204 q1205 q75 q1206 rfl hX1_isOf rfl rfl (rmOk (by omega) rfl) ⟨by first | exact Nat.le_refl _ | exact Nat.zero_le _ | decide | (dsimp only [rm]; omega), by first | exact Nat.le_refl _ | exact Nat.zero_le _ | decide | (dsimp only [rm]; omega)⟩ (rt1 ?_)
                    refine gl_if_eq (tgt := 251) dX1_mark_226 (by decide) (fun h226 => ?_) (fun h226 => ?_)
                    · refine gl_iconst (v := nI 0) dX1_mark_251 (by decide) ?_
                      refine gl_istore dX1_mark_252 rfl rfl ?_
                      refine gl_lcs ?_ t3; clear t3 ih; (try simp only [bI_ne] at *); simp_all [mkAl, bI, nI] <;> rfl
                    · refine gl_aload_n dX1_mark_229 rfl ?_
                      refine gl_get (k := 4) dX1_mark_230 rfl (rfl : vwCl[1]? = some (RX1, TX1, 21)) in_X1 (by decide) q1024 rfl ?_
                      refine gl_bipush (v := nI 10) dX1_mark_233 (by decide) ?_
                      refine gl_iload dX1_mark_235 rfl ?_
                      refine gl_iadd dX1_mark_237 ?_
                      refine gl_iald (j := (10 + k)) dX1_mark_238 rfl (by simp only [nI_add, nI_mul]) (by omega) ?_
                      refine gl_aload_n dX1_mark_239 rfl ?_
                      refine gl_iload_n dX1_mark_240 rfl ?_
                      refine gl_callV (m_means L o y (c) (by omega) hL.kind) dX1_mark_241 q1184 q1186 qs53 q75 q1187 rfl hX1_means rfl (rfl : vwCl[1]? = some (RX1, TX1, 21)) rfl rfl (rmOk (by omega) rfl) ⟨by first | exact Nat.le_refl _ | exact Nat.zero_le _ | decide | (dsimp only [rm]; omega), by first | exact Nat.le_refl _ | exact Nat.zero_le _ | decide | (dsimp only [rm]; omega)⟩ (rt1 ?_)
                      refine gl_icmp_ne (tgt := 251) dX1_mark_244 (by decide) (fun h244 => ?_) (fun h244 => ?_)
                      · refine gl_iconst (v := nI 0) dX1_mark_251 (by decide) ?_
                        refine gl_istore dX1_mark_252 rfl rfl ?_
                        refine gl_lcs ?_ t3; clear t3 ih; (try simp only [bI_ne] at *); simp_all [mkAl, bI, nI] <;> rfl
                      · refine gl_iconst (v := nI 1) dX1_mark_247 (by decide) ?_
                        refine gl_goto (tgt := 252) dX1_mark_248 (by decide) ?_
                        refine gl_istore dX1_mark_252 rfl rfl ?_
                        refine gl_lcs ?_ t3; clear t3 ih; (try simp only [bI_ne] at *); simp_all [mkAl, bI, nI] <;> rfl
                · refine gl_iload dX1_mark_172 rfl ?_
                  refine gl_iload_n dX1_mark_174 rfl ?_
                  refine gl_icmp_eq (tgt := 204) dX1_mark_175 (by decide) (fun h175 => ?_) (fun h175 => ?_)
                  · refine gl_iconst (v := nI 0) dX1_mark_204 (by decide) ?_
                    refine gl_goto (tgt := 252) dX1_mark_205 (by decide) ?_
                    refine gl_istore dX1_mark_252 rfl rfl ?_
                    refine gl_lcs ?_ t3; clear t3 ih; (try simp only [bI_ne] at *); simp_all [mkAl, bI, nI] <;> rfl
                  · refine gl_aload_n dX1_mark_178 rfl ?_
                    refine gl_get (k := 4) dX1_mark_179 rfl (rfl : vwCl[1]? = some (RX1, TX1, 21)) in_X1 (by decide) q1024 rfl ?_
                    refine gl_bipush (v := nI 17) dX1_mark_182 (by decide) ?_
                    refine gl_iload dX1_mark_184 rfl ?_
                    refine gl_iadd dX1_mark_186 ?_
                    refine gl_iald (j := (17 + k)) dX1_mark_187 rfl (by simp only [nI_add, nI_mul]) (by omega) ?_
                    refine gl_aload_n dX1_mark_188 rfl ?_
                    refine gl_get (k := 4) dX1_mark_189 rfl (rfl : vwCl[1]? = some (RX1, TX1, 21)) in_X1 (by decide) q1024 rfl ?_
                    refine gl_bipush (v := nI 17) dX1_mark_192 (by decide) ?_
                    refine gl_iload_n dX1_mark_194 rfl ?_
                    refine gl_iadd dX1_mark_195 ?_
                    refine gl_iald (j := (17 + c)) dX1_mark_196 rfl (by simp only [nI_add, nI_mul]) (by omega) ?_
                    refine gl_icmp_ne (tgt := 204) dX1_mark_197 (by decide) (fun h197 => ?_) (fun h197 => ?_)
                    · refine gl_iconst (v := nI 0) dX1_mark_204 (by decide) ?_
                      refine gl_goto (tgt := 252) dX1_mark_205 (by decide) ?_
                      refine gl_istore dX1_mark_252 rfl rfl ?_
                      refine gl_lcs ?_ t3; clear t3 ih; (try simp only [bI_ne] at *); simp_all [mkAl, bI, nI] <;> rfl
                    · refine gl_iconst (v := nI 1) dX1_mark_200 (by decide) ?_
                      refine gl_goto (tgt := 252) dX1_mark_201 (by decide) ?_
                      refine gl_istore dX1_mark_252 rfl rfl ?_
                      refine gl_lcs ?_ t3; clear t3 ih; (try simp only [bI_ne] at *); simp_all [mkAl, bI, nI] <;> rfl
              · refine gl_aload_n dX1_mark_124 rfl ?_
                refine gl_get (k := 4) dX1_mark_125 rfl (rfl : vwCl[1]? = some (RX1, TX1, 21)) in_X1 (by decide) q1024 rfl ?_
                refine gl_iconst (v := nI 3) dX1_mark_128 (by decide) ?_
                refine gl_iload dX1_mark_129 rfl ?_
                refine gl_iadd dX1_mark_131 ?_
                refine gl_iald (j := (3 + k)) dX1_mark_132 rfl (by simp only [nI_add, nI_mul]) (by omega) ?_
                refine gl_iconst (v := nI 1) dX1_mark_133 (by decide) ?_
                refine gl_callS (m_isOf L (mM o y) _ _) dX1_mark_134 q1204 q1205 q75 q1206 rfl hX1_isOf rfl rfl (rmOk (by omega) rfl) ⟨by first | exact Nat.le_refl _ | exact Nat.zero_le _ | decide | (dsimp only [rm]; omega), by first | exact Nat.le_refl _ | exact Nat.zero_le _ | decide | (dsimp only [rm]; omega)⟩ (rt1 ?_)
                refine gl_if_eq (tgt := 163) dX1_mark_137 (by decide) (fun h137 => ?_) (fun h137 => ?_)
                · refine gl_iconst (v := nI 0) dX1_mark_163 (by decide) ?_
                  refine gl_goto (tgt := 252) dX1_mark_164 (by decide) ?_
                  refine gl_istore dX1_mark_252 rfl rfl ?_
                  refine gl_lcs ?_ t3; clear t3 ih; (try simp only [bI_ne] at *); simp_all [mkAl, bI, nI] <;> rfl
                · refine gl_iload dX1_mark_140 rfl ?_
                  refine gl_if_eq (tgt := 163) dX1_mark_142 (by decide) (fun h142 => ?_) (fun h142 => ?_)
                  · refine gl_iconst (v := nI 0) dX1_mark_163 (by decide) ?_
                    refine gl_goto (tgt := 252) dX1_mark_164 (by decide) ?_
                    refine gl_istore dX1_mark_252 rfl rfl ?_
                    refine gl_lcs ?_ t3; clear t3 ih; (try simp only [bI_ne] at *); simp_all [mkAl, bI, nI] <;> rfl
                  · refine gl_aload_n dX1_mark_145 rfl ?_
                    refine gl_iload dX1_mark_146 rfl ?_
                    refine gl_callV (m_means L o y (k) (by omega) hL.kind) dX1_mark_148 q1184 q1186 qs53 q75 q1187 rfl hX1_means rfl (rfl : vwCl[1]? = some (RX1, TX1, 21)) rfl rfl (rmOk (by omega) rfl) ⟨by first | exact Nat.le_refl _ | exact Nat.zero_le _ | decide | (dsimp only [rm]; omega), by first | exact Nat.le_refl _ | exact Nat.zero_le _ | decide | (dsimp only [rm]; omega)⟩ (rt1 ?_)
                    refine gl_aload_n dX1_mark_151 rfl ?_
                    refine gl_iload_n dX1_mark_152 rfl ?_
                    refine gl_callV (m_means L o y (c) (by omega) hL.kind) dX1_mark_153 q1184 q1186 qs53 q75 q1187 rfl hX1_means rfl (rfl : vwCl[1]? = some (RX1, TX1, 21)) rfl rfl (rmOk (by omega) rfl) ⟨by first | exact Nat.le_refl _ | exact Nat.zero_le _ | decide | (dsimp only [rm]; omega), by first | exact Nat.le_refl _ | exact Nat.zero_le _ | decide | (dsimp only [rm]; omega)⟩ (rt1 ?_)
                    refine gl_icmp_ne (tgt := 163) dX1_mark_156 (by decide) (fun h156 => ?_) (fun h156 => ?_)
                    · refine gl_iconst (v := nI 0) dX1_mark_163 (by decide) ?_
                      refine gl_goto (tgt := 252) dX1_mark_164 (by decide) ?_
                      refine gl_istore dX1_mark_252 rfl rfl ?_
                      refine gl_lcs ?_ t3; clear t3 ih; (try simp only [bI_ne] at *); simp_all [mkAl, bI, nI] <;> rfl
                    · refine gl_iconst (v := nI 1) dX1_mark_159 (by decide) ?_
                      refine gl_goto (tgt := 252) dX1_mark_160 (by decide) ?_
                      refine gl_istore dX1_mark_252 rfl rfl ?_
                      refine gl_lcs ?_ t3; clear t3 ih; (try simp only [bI_ne] at *); simp_all [mkAl, bI, nI] <;> rfl
            refine gl_iload_n dX1_mark_79 rfl ?_
            refine gl_iconst (v := nI 3) dX1_mark_80 (by decide) ?_
            refine gl_icmp_ne (tgt := 111) dX1_mark_81 (by decide) (fun h81 => ?_) (fun h81 => ?_)
            · refine gl_aload_n dX1_mark_111 rfl ?_
              refine gl_iload dX1_mark_112 rfl ?_
              refine gl_callV (m_isCard L o y _) dX1_mark_114 q1176 q1178 qs51 q75 q1179 rfl hX1_isCard rfl (rfl : vwCl[1]? = some (RX1, TX1, 21)) rfl rfl (rmOk (by omega) rfl) ⟨by first | exact Nat.le_refl _ | exact Nat.zero_le _ | decide | (dsimp only [rm]; omega), by first | exact Nat.le_refl _ | exact Nat.zero_le _ | decide | (dsimp only [rm]; omega)⟩ (rt1 ?_)
              refine gl_istore dX1_mark_117 rfl rfl ?_
              refine gl_lcs ?_ t2; clear t2 t3 ih; (try simp only [bI_ne] at *); simp_all [mkIs, bI, nI] <;> rfl
            · refine gl_aload_n dX1_mark_84 rfl ?_
              refine gl_iload dX1_mark_85 rfl ?_
              refine gl_callV (m_isQuestion L o y _) dX1_mark_87 q1196 q1198 qs55 q75 q1199 rfl hX1_isQuestion rfl (rfl : vwCl[1]? = some (RX1, TX1, 21)) rfl rfl (rmOk (by omega) rfl) ⟨by first | exact Nat.le_refl _ | exact Nat.zero_le _ | decide | (dsimp only [rm]; omega), by first | exact Nat.le_refl _ | exact Nat.zero_le _ | decide | (dsimp only [rm]; omega)⟩ (rt1 ?_)
              refine gl_if_eq (tgt := 107) dX1_mark_90 (by decide) (fun h90 => ?_) (fun h90 => ?_)
              · refine gl_iconst (v := nI 0) dX1_mark_107 (by decide) ?_
                refine gl_goto (tgt := 117) dX1_mark_108 (by decide) ?_
                refine gl_istore dX1_mark_117 rfl rfl ?_
                refine gl_lcs ?_ t2; clear t2 t3 ih; (try simp only [bI_ne] at *); simp_all [mkIs, bI, nI] <;> rfl
              · refine gl_aload_n dX1_mark_93 rfl ?_
                refine gl_iload dX1_mark_94 rfl ?_
                refine gl_iload_n dX1_mark_96 rfl ?_
                refine gl_callV (m_isFit L o y hL (k) (c) (by omega) (by omega)) dX1_mark_97 q1207 q1209 qs56 q75 q1210 rfl hX1_isFit rfl (rfl : vwCl[1]? = some (RX1, TX1, 21)) rfl rfl (rmOk (by omega) rfl) ⟨by first | exact Nat.le_refl _ | exact Nat.zero_le _ | decide | (dsimp only [rm]; omega), by first | exact Nat.le_refl _ | exact Nat.zero_le _ | decide | (dsimp only [rm]; omega)⟩ (rt1 ?_)
                refine gl_if_eq (tgt := 107) dX1_mark_100 (by decide) (fun h100 => ?_) (fun h100 => ?_)
                · refine gl_iconst (v := nI 0) dX1_mark_107 (by decide) ?_
                  refine gl_goto (tgt := 117) dX1_mark_108 (by decide) ?_
                  refine gl_istore dX1_mark_117 rfl rfl ?_
                  refine gl_lcs ?_ t2; clear t2 t3 ih; (try simp only [bI_ne] at *); simp_all [mkIs, bI, nI] <;> rfl
                · refine gl_iconst (v := nI 1) dX1_mark_103 (by decide) ?_
                  refine gl_goto (tgt := 117) dX1_mark_104 (by decide) ?_
                  refine gl_istore dX1_mark_117 rfl rfl ?_
                  refine gl_lcs ?_ t2; clear t2 t3 ih; (try simp only [bI_ne] at *); simp_all [mkIs, bI, nI] <;> rfl
          · refine gl_iload dX1_mark_72 rfl ?_
            refine gl_bipush (v := nI 7) dX1_mark_74 (by decide) ?_
            refine gl_icmp_ge (tgt := 278) dX1_mark_76 (by decide) (fun _ => ?_) (fun h => absurd (nI_le (Nat.le_refl _) (by omega)) h)
            refine gl_iload_n dX1_mark_278 rfl ?_
            exact gl_iret dX1_mark_279 rfl ⟨rfl, rfl⟩
        · rw [if_pos (show kd = 4 from h45)]
          refine gl_aload_n dX1_mark_48 rfl ?_
          refine gl_iload_n dX1_mark_49 rfl ?_
          refine gl_callV (m_means L o y (c) (by omega) hL.kind) dX1_mark_50 q1184 q1186 qs53 q75 q1187 rfl hX1_means rfl (rfl : vwCl[1]? = some (RX1, TX1, 21)) rfl rfl (rmOk (by omega) rfl) ⟨by first | exact Nat.le_refl _ | exact Nat.zero_le _ | decide | (dsimp only [rm]; omega), by first | exact Nat.le_refl _ | exact Nat.zero_le _ | decide | (dsimp only [rm]; omega)⟩ (rt1 ?_)
          refine gl_aload_n dX1_mark_53 rfl ?_
          refine gl_get (k := 4) dX1_mark_54 rfl (rfl : vwCl[1]? = some (RX1, TX1, 21)) in_X1 (by decide) q1024 rfl ?_
          refine gl_bipush (v := nI 10) dX1_mark_57 (by decide) ?_
          refine gl_iload_n dX1_mark_59 rfl ?_
          refine gl_iadd dX1_mark_60 ?_
          refine gl_iald (j := (10 + c)) dX1_mark_61 rfl (by simp only [nI_add, nI_mul]) (by omega) ?_
          refine gl_isub dX1_mark_62 ?_
          refine gl_bipush (v := nI 10) dX1_mark_63 (by decide) ?_
          refine gl_iadd dX1_mark_65 ?_
          exact gl_iret dX1_mark_66 rfl ⟨rfl, rfl⟩
      · rw [if_neg (by simp [bI_fa h34])]
        refine gl_aload_n dX1_mark_37 rfl ?_
        refine gl_iconst (v := nI 3) dX1_mark_38 (by decide) ?_
        refine gl_callV (m_found L o y (3) (by omega)) dX1_mark_39 q1096 q1098 qs44 q75 q1099 rfl hX1_found rfl (rfl : vwCl[1]? = some (RX1, TX1, 21)) rfl rfl (rmOk (by omega) rfl) ⟨by first | exact Nat.le_refl _ | exact Nat.zero_le _ | decide | (dsimp only [rm]; omega), by first | exact Nat.le_refl _ | exact Nat.zero_le _ | decide | (dsimp only [rm]; omega)⟩ (rt1 ?_)
        exact gl_iret dX1_mark_42 rfl ⟨rfl, rfl⟩
    · unfold sp_mark
      rw [if_neg (by simp [bI_fa h17])]
      refine gl_iconst (v := (-1)) dX1_mark_20 (by decide) ?_
      exact gl_iret dX1_mark_21 rfl ⟨rfl, rfl⟩
def lyN (w : Nat → Int32) (kd s : Int32) (n : Nat) : Int32 := cntI (fun c => w (3 + c) == kd && w (17 + c) == s) n
theorem m_lying (hL : Lb (y.2.2 23) n m t) (kd s : Int32) : Ct yX1_lying gX1_lying (L + 10) 0 0 [.ref 18, .int kd, .int s] (mM o y) (Rt (some (.int (lyN (y.2.2 23) kd s n))) (mM o y)) := by
  refine Ct.of rfl rfl rfl rfl rfl ?_
  have h7 := hL.c7
  refine gl_iconst (v := nI 0) dX1_lying_0 (by decide) ?_
  refine gl_istore_n dX1_lying_1 rfl rfl ?_
  refine gl_iconst (v := nI 0) dX1_lying_2 (by decide) ?_
  refine gl_istore dX1_lying_3 rfl rfl ?_
  refine gl_loop (fun k => [some (.ref 18), some (.int kd), some (.int s), some (.int (lyN (y.2.2 23) kd s k)), some (.int (nI k))]) (fun _ => mM o y) n ?_ ?_
  · intro k hk ih
    refine gl_iload dX1_lying_5 rfl ?_
    refine gl_aload_n dX1_lying_7 rfl ?_
    refine gl_get (k := 4) dX1_lying_8 rfl (rfl : vwCl[1]? = some (RX1, TX1, 21)) in_X1 (by decide) q1024 rfl ?_
    refine gl_iconst (v := nI 0) dX1_lying_11 (by decide) ?_
    refine gl_iald (j := 0) dX1_lying_12 rfl rfl (by omega) ?_
    refine gl_icmp_ge (tgt := 57) dX1_lying_13 (by decide) (fun h => absurd h ((by rw [hL.c]; exact nI_ge hk (by omega)))) (fun _ => ?_)
    refine gl_iload_n dX1_lying_16 rfl ?_
    refine gl_aload_n dX1_lying_17 rfl ?_
    refine gl_get (k := 4) dX1_lying_18 rfl (rfl : vwCl[1]? = some (RX1, TX1, 21)) in_X1 (by decide) q1024 rfl ?_
    refine gl_iconst (v := nI 3) dX1_lying_21 (by decide) ?_
    refine gl_iload dX1_lying_22 rfl ?_
    refine gl_iadd dX1_lying_24 ?_
    refine gl_iald (j := (3 + k)) dX1_lying_25 rfl (by simp only [nI_add, nI_mul]) (by omega) ?_
    refine gl_iload_n dX1_lying_26 rfl ?_
    refine gl_icmp_ne (tgt := 48) dX1_lying_27 (by decide) (fun h27 => ?_) (fun h27 => ?_)
    · refine gl_iconst (v := nI 0) dX1_lying_48 (by decide) ?_
      refine gl_iadd dX1_lying_49 ?_
      refine gl_istore_n dX1_lying_50 rfl rfl ?_
      refine gl_iinc (v := (nI (k + 1))) dX1_lying_51 rfl (nI_1 _) rfl rfl ?_
      refine gl_goto (tgt := 5) dX1_lying_54 (by decide) ?_
      refine gl_lcs ?_ ih; clear ih; simp_all [lyN, cntI, bI] <;> rfl
    · refine gl_aload_n dX1_lying_30 rfl ?_
      refine gl_get (k := 4) dX1_lying_31 rfl (rfl : vwCl[1]? = some (RX1, TX1, 21)) in_X1 (by decide) q1024 rfl ?_
      refine gl_bipush (v := nI 17) dX1_lying_34 (by decide) ?_
      refine gl_iload dX1_lying_36 rfl ?_
      refine gl_iadd dX1_lying_38 ?_
      refine gl_iald (j := (17 + k)) dX1_lying_39 rfl (by simp only [nI_add, nI_mul]) (by omega) ?_
      refine gl_iload_n dX1_lying_40 rfl ?_
      refine gl_icmp_ne (tgt := 48) dX1_lying_41 (by decide) (fun h41 => ?_) (fun h41 => ?_)
      · refine gl_iconst (v := nI 0) dX1_lying_48 (by decide) ?_
        refine gl_iadd dX1_lying_49 ?_
        refine gl_istore_n dX1_lying_50 rfl rfl ?_
        refine gl_iinc (v := (nI (k + 1))) dX1_lying_51 rfl (nI_1 _) rfl rfl ?_
        refine gl_goto (tgt := 5) dX1_lying_54 (by decide) ?_
        refine gl_lcs ?_ ih; clear ih; simp_all [lyN, cntI, bI] <;> rfl
      · refine gl_iconst (v := nI 1) dX1_lying_44 (by decide) ?_
        refine gl_goto (tgt := 49) dX1_lying_45 (by decide) ?_
        refine gl_iadd dX1_lying_49 ?_
        refine gl_istore_n dX1_lying_50 rfl rfl ?_
        refine gl_iinc (v := (nI (k + 1))) dX1_lying_51 rfl (nI_1 _) rfl rfl ?_
        refine gl_goto (tgt := 5) dX1_lying_54 (by decide) ?_
        refine gl_lcs ?_ ih; clear ih; simp_all [lyN, cntI, bI] <;> rfl
  · refine gl_iload dX1_lying_5 rfl ?_
    refine gl_aload_n dX1_lying_7 rfl ?_
    refine gl_get (k := 4) dX1_lying_8 rfl (rfl : vwCl[1]? = some (RX1, TX1, 21)) in_X1 (by decide) q1024 rfl ?_
    refine gl_iconst (v := nI 0) dX1_lying_11 (by decide) ?_
    refine gl_iald (j := 0) dX1_lying_12 rfl rfl (by omega) ?_
    refine gl_icmp_ge (tgt := 57) dX1_lying_13 (by decide) (fun _ => ?_) (fun h => absurd ((by rw [hL.c]; exact nI_le (Nat.le_refl _) (by omega))) h)
    refine gl_iload_n dX1_lying_57 rfl ?_
    exact gl_iret dX1_lying_58 rfl ⟨rfl, rfl⟩
/-- where most of a kind lie, of the first s + 1 shelves -/
def hmI (w : Nat → Int32) (n : Nat) (kd : Int32) : Nat → Int32
  | 0 => nI 0
  | s + 1 => if lyN w kd (hmI w n kd s) n < lyN w kd (nI (s + 1)) n then nI (s + 1) else hmI w n kd s
def hbB (w : Nat → Int32) (n c : Nat) : Bool := w (17 + c) == hmI w n (w (3 + c)) 3
def sp_habit (y : MY) (n : Nat) : Int32 × MY := (cntI (hbB (y.2.2 23) n) n, sI y 7 (orI (fun c => !hbB (y.2.2 23) n c) n))
theorem m_habit (hL : Lb (y.2.2 23) n m t) : Ct yX1_habit gX1_habit (L + 13) 0 0 [.ref 18] (mM o y) (RtP o (sp_habit y n)) := by
  refine Ct.of rfl rfl rfl rfl rfl ?_
  have h7 := hL.c7
  refine gl_iconst (v := nI 0) dX1_habit_0 (by decide) ?_
  refine gl_istore_n dX1_habit_1 rfl rfl ?_
  refine gl_iconst (v := nI 0) dX1_habit_2 (by decide) ?_
  refine gl_istore_n dX1_habit_3 rfl rfl ?_
  refine gl_iconst (v := nI 0) dX1_habit_4 (by decide) ?_
  refine gl_istore_n dX1_habit_5 rfl rfl ?_
  refine gl_loop (fun c => [some (.ref 18), some (.int (cntI (hbB (y.2.2 23) n) c)), some (.int (orI (fun c => !hbB (y.2.2 23) n c) c)), some (.int (nI c)), none, none]) (fun _ => mM o y) n ?_ ?_
  · intro c hc ih
    refine gl_iload_n dX1_habit_6 rfl ?_
    refine gl_aload_n dX1_habit_7 rfl ?_
    refine gl_get (k := 4) dX1_habit_8 rfl (rfl : vwCl[1]? = some (RX1, TX1, 21)) in_X1 (by decide) q1024 rfl ?_
    refine gl_iconst (v := nI 0) dX1_habit_11 (by decide) ?_
    refine gl_iald (j := 0) dX1_habit_12 rfl rfl (by omega) ?_
    refine gl_icmp_ge (tgt := 126) dX1_habit_13 (by decide) (fun h => absurd h ((by rw [hL.c]; exact nI_ge hc (by omega)))) (fun _ => ?_)
    refine gl_iconst (v := nI 0) dX1_habit_16 (by decide) ?_
    refine gl_istore dX1_habit_17 rfl rfl ?_
    refine gl_iconst (v := nI 1) dX1_habit_19 (by decide) ?_
    refine gl_istore dX1_habit_20 rfl rfl ?_
    refine gl_loop (fun s => [some (.ref 18), some (.int (cntI (hbB (y.2.2 23) n) c)), some (.int (orI (fun c => !hbB (y.2.2 23) n c) c)), some (.int (nI c)), some (.int (hmI (y.2.2 23) n (y.2.2 23 (3 + c)) s)), some (.int (nI (s + 1)))]) (fun _ => mM o y) 3 ?_ ?_
    · intro s hs ih2
      refine gl_iload dX1_habit_22 rfl ?_
      refine gl_iconst (v := nI 4) dX1_habit_24 (by decide) ?_
      refine gl_icmp_ge (tgt := 74) dX1_habit_25 (by decide) (fun h => absurd h (nI_ge (by omega) (by omega))) (fun _ => ?_)
      refine gl_aload_n dX1_habit_28 rfl ?_
      refine gl_aload_n dX1_habit_29 rfl ?_
      refine gl_get (k := 4) dX1_habit_30 rfl (rfl : vwCl[1]? = some (RX1, TX1, 21)) in_X1 (by decide) q1024 rfl ?_
      refine gl_iconst (v := nI 3) dX1_habit_33 (by decide) ?_
      refine gl_iload_n dX1_habit_34 rfl ?_
      refine gl_iadd dX1_habit_35 ?_
      refine gl_iald (j := (3 + c)) dX1_habit_36 rfl (by simp only [nI_add, nI_mul]) (by omega) ?_
      refine gl_iload dX1_habit_37 rfl ?_
      refine gl_callV (m_lying L o y hL _ _) dX1_habit_39 q1377 q1379 qs71 q75 q1380 rfl hX1_lying rfl (rfl : vwCl[1]? = some (RX1, TX1, 21)) rfl rfl (rmOk (by omega) rfl) ⟨by first | exact Nat.le_refl _ | exact Nat.zero_le _ | decide | (dsimp only [rm]; omega), by first | exact Nat.le_refl _ | exact Nat.zero_le _ | decide | (dsimp only [rm]; omega)⟩ (rt1 ?_)
      refine gl_aload_n dX1_habit_42 rfl ?_
      refine gl_aload_n dX1_habit_43 rfl ?_
      refine gl_get (k := 4) dX1_habit_44 rfl (rfl : vwCl[1]? = some (RX1, TX1, 21)) in_X1 (by decide) q1024 rfl ?_
      refine gl_iconst (v := nI 3) dX1_habit_47 (by decide) ?_
      refine gl_iload_n dX1_habit_48 rfl ?_
      refine gl_iadd dX1_habit_49 ?_
      refine gl_iald (j := (3 + c)) dX1_habit_50 rfl (by simp only [nI_add, nI_mul]) (by omega) ?_
      refine gl_iload dX1_habit_51 rfl ?_
      refine gl_callV (m_lying L o y hL _ _) dX1_habit_53 q1377 q1379 qs71 q75 q1380 rfl hX1_lying rfl (rfl : vwCl[1]? = some (RX1, TX1, 21)) rfl rfl (rmOk (by omega) rfl) ⟨by first | exact Nat.le_refl _ | exact Nat.zero_le _ | decide | (dsimp only [rm]; omega), by first | exact Nat.le_refl _ | exact Nat.zero_le _ | decide | (dsimp only [rm]; omega)⟩ (rt1 ?_)
      refine gl_icmp_le (tgt := 64) dX1_habit_56 (by decide) (fun h56 => ?_) (fun h56 => ?_)
      · have z : ¬ lyN (y.2.2 23) (y.2.2 23 (3 + c)) (hmI (y.2.2 23) n (y.2.2 23 (3 + c)) s) n < lyN (y.2.2 23) (y.2.2 23 (3 + c)) (nI (s + 1)) n := k2_nlt h56
        refine gl_iload dX1_habit_64 rfl ?_
        refine gl_istore dX1_habit_66 rfl rfl ?_
        refine gl_iinc (v := (nI ((s+1) + 1))) dX1_habit_68 rfl (nI_1 _) rfl rfl ?_
        refine gl_goto (tgt := 22) dX1_habit_71 (by decide) ?_
        exact gl_lcs (by simp only [hmI, if_neg z]; rfl) ih2
      · have z : lyN (y.2.2 23) (y.2.2 23 (3 + c)) (hmI (y.2.2 23) n (y.2.2 23 (3 + c)) s) n < lyN (y.2.2 23) (y.2.2 23 (3 + c)) (nI (s + 1)) n := k2_lt h56
        refine gl_iload dX1_habit_59 rfl ?_
        refine gl_goto (tgt := 66) dX1_habit_61 (by decide) ?_
        refine gl_istore dX1_habit_66 rfl rfl ?_
        refine gl_iinc (v := (nI ((s+1) + 1))) dX1_habit_68 rfl (nI_1 _) rfl rfl ?_
        refine gl_goto (tgt := 22) dX1_habit_71 (by decide) ?_
        exact gl_lcs (by simp only [hmI, if_pos z]; rfl) ih2
    · refine gl_iload dX1_habit_22 rfl ?_
      refine gl_iconst (v := nI 4) dX1_habit_24 (by decide) ?_
      refine gl_icmp_ge (tgt := 74) dX1_habit_25 (by decide) (fun _ => ?_) (fun h => absurd (nI_le (Nat.le_refl _) (by omega)) h)
      refine gl_iload_n dX1_habit_74 rfl ?_
      refine gl_aload_n dX1_habit_75 rfl ?_
      refine gl_get (k := 4) dX1_habit_76 rfl (rfl : vwCl[1]? = some (RX1, TX1, 21)) in_X1 (by decide) q1024 rfl ?_
      refine gl_bipush (v := nI 17) dX1_habit_79 (by decide) ?_
      refine gl_iload_n dX1_habit_81 rfl ?_
      refine gl_iadd dX1_habit_82 ?_
      refine gl_iald (j := (17 + c)) dX1_habit_83 rfl (by simp only [nI_add, nI_mul]) (by omega) ?_
      refine gl_iload dX1_habit_84 rfl ?_
      refine gl_icmp_ne (tgt := 93) dX1_habit_86 (by decide) (fun h86 => ?_) (fun h86 => ?_)
      · refine gl_iconst (v := nI 0) dX1_habit_93 (by decide) ?_
        refine gl_iadd dX1_habit_94 ?_
        refine gl_istore_n dX1_habit_95 rfl rfl ?_
        refine gl_iload_n dX1_habit_96 rfl ?_
        refine gl_aload_n dX1_habit_97 rfl ?_
        refine gl_get (k := 4) dX1_habit_98 rfl (rfl : vwCl[1]? = some (RX1, TX1, 21)) in_X1 (by decide) q1024 rfl ?_
        refine gl_bipush (v := nI 17) dX1_habit_101 (by decide) ?_
        refine gl_iload_n dX1_habit_103 rfl ?_
        refine gl_iadd dX1_habit_104 ?_
        refine gl_iald (j := (17 + c)) dX1_habit_105 rfl (by simp only [nI_add, nI_mul]) (by omega) ?_
        refine gl_iload dX1_habit_106 rfl ?_
        refine gl_icmp_ne (tgt := 115) dX1_habit_108 (by decide) (fun h108 => ?_) (fun h108 => ?_)
        · refine gl_iconst (v := nI 1) dX1_habit_115 (by decide) ?_
          refine gl_iload_n dX1_habit_116 rfl ?_
          refine gl_ishl dX1_habit_117 ?_
          refine gl_ior dX1_habit_118 ?_
          refine gl_istore_n dX1_habit_119 rfl rfl ?_
          refine gl_iinc (v := (nI (c + 1))) dX1_habit_120 rfl (nI_1 _) rfl rfl ?_
          refine gl_goto (tgt := 6) dX1_habit_123 (by decide) ?_
          refine gl_drop 4 (gl_drop 5 (gl_lcs ?_ ih)); clear ih; simp_all [cntI, orI, hbB, bI] <;> rfl
        · refine gl_iconst (v := nI 0) dX1_habit_111 (by decide) ?_
          refine gl_goto (tgt := 118) dX1_habit_112 (by decide) ?_
          refine gl_ior dX1_habit_118 ?_
          refine gl_istore_n dX1_habit_119 rfl rfl ?_
          refine gl_iinc (v := (nI (c + 1))) dX1_habit_120 rfl (nI_1 _) rfl rfl ?_
          refine gl_goto (tgt := 6) dX1_habit_123 (by decide) ?_
          refine gl_drop 4 (gl_drop 5 (gl_lcs ?_ ih)); clear ih; simp_all [cntI, orI, hbB, bI] <;> rfl
      · refine gl_iconst (v := nI 1) dX1_habit_89 (by decide) ?_
        refine gl_goto (tgt := 94) dX1_habit_90 (by decide) ?_
        refine gl_iadd dX1_habit_94 ?_
        refine gl_istore_n dX1_habit_95 rfl rfl ?_
        refine gl_iload_n dX1_habit_96 rfl ?_
        refine gl_aload_n dX1_habit_97 rfl ?_
        refine gl_get (k := 4) dX1_habit_98 rfl (rfl : vwCl[1]? = some (RX1, TX1, 21)) in_X1 (by decide) q1024 rfl ?_
        refine gl_bipush (v := nI 17) dX1_habit_101 (by decide) ?_
        refine gl_iload_n dX1_habit_103 rfl ?_
        refine gl_iadd dX1_habit_104 ?_
        refine gl_iald (j := (17 + c)) dX1_habit_105 rfl (by simp only [nI_add, nI_mul]) (by omega) ?_
        refine gl_iload dX1_habit_106 rfl ?_
        refine gl_icmp_ne (tgt := 115) dX1_habit_108 (by decide) (fun h108 => ?_) (fun h108 => ?_)
        · refine gl_iconst (v := nI 1) dX1_habit_115 (by decide) ?_
          refine gl_iload_n dX1_habit_116 rfl ?_
          refine gl_ishl dX1_habit_117 ?_
          refine gl_ior dX1_habit_118 ?_
          refine gl_istore_n dX1_habit_119 rfl rfl ?_
          refine gl_iinc (v := (nI (c + 1))) dX1_habit_120 rfl (nI_1 _) rfl rfl ?_
          refine gl_goto (tgt := 6) dX1_habit_123 (by decide) ?_
          refine gl_drop 4 (gl_drop 5 (gl_lcs ?_ ih)); clear ih; simp_all [cntI, orI, hbB, bI] <;> rfl
        · refine gl_iconst (v := nI 0) dX1_habit_111 (by decide) ?_
          refine gl_goto (tgt := 118) dX1_habit_112 (by decide) ?_
          refine gl_ior dX1_habit_118 ?_
          refine gl_istore_n dX1_habit_119 rfl rfl ?_
          refine gl_iinc (v := (nI (c + 1))) dX1_habit_120 rfl (nI_1 _) rfl rfl ?_
          refine gl_goto (tgt := 6) dX1_habit_123 (by decide) ?_
          refine gl_drop 4 (gl_drop 5 (gl_lcs ?_ ih)); clear ih; simp_all [cntI, orI, hbB, bI] <;> rfl
  · refine gl_iload_n dX1_habit_6 rfl ?_
    refine gl_aload_n dX1_habit_7 rfl ?_
    refine gl_get (k := 4) dX1_habit_8 rfl (rfl : vwCl[1]? = some (RX1, TX1, 21)) in_X1 (by decide) q1024 rfl ?_
    refine gl_iconst (v := nI 0) dX1_habit_11 (by decide) ?_
    refine gl_iald (j := 0) dX1_habit_12 rfl rfl (by omega) ?_
    refine gl_icmp_ge (tgt := 126) dX1_habit_13 (by decide) (fun _ => ?_) (fun h => absurd ((by rw [hL.c]; exact nI_le (Nat.le_refl _) (by omega))) h)
    refine gl_aload_n dX1_habit_126 rfl ?_
    refine gl_iload_n dX1_habit_127 rfl ?_
    refine gl_callV (m_tell L o y _) dX1_habit_128 q1104 q1106 qs45 q75 q1107 rfl hX1_tell rfl (rfl : vwCl[1]? = some (RX1, TX1, 21)) rfl rfl (rmOk (by omega) rfl) ⟨by first | exact Nat.le_refl _ | exact Nat.zero_le _ | decide | (dsimp only [rm]; omega), by first | exact Nat.le_refl _ | exact Nat.zero_le _ | decide | (dsimp only [rm]; omega)⟩ (rt1 ?_)
    refine gl_istore_n dX1_habit_131 rfl rfl ?_
    refine gl_iload_n dX1_habit_132 rfl ?_
    exact gl_iret dX1_habit_133 rfl ⟨rfl, rfl⟩
end ML2

