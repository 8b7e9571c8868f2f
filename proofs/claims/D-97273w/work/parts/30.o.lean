/-! sets of cards as bits -/
set_option maxRecDepth 100000
def bit (v : Int32) (i : Nat) : Bool := v.toBitVec.getLsbD i
theorem bit_ext {a b : Int32} (h : ∀ i, i < 32 → bit a i = bit b i) : a = b := by
  apply Int32.toBitVec_inj.mp
  apply BitVec.eq_of_getLsbD_eq
  intro i hi
  exact h i hi
theorem bit_or (a b : Int32) (i : Nat) : bit (a ||| b) i = (bit a i || bit b i) := by
  unfold bit
  rw [Int32.toBitVec_or, BitVec.getLsbD_or]
theorem bit_and (a b : Int32) (i : Nat) : bit (a &&& b) i = (bit a i && bit b i) := by
  unfold bit
  rw [Int32.toBitVec_and, BitVec.getLsbD_and]
theorem bit_xor (a b : Int32) (i : Nat) : bit (a ^^^ b) i = (bit a i ^^ bit b i) := by
  unfold bit
  rw [Int32.toBitVec_xor, BitVec.getLsbD_xor]
theorem bit_nI (n i : Nat) (hi : i < 32) : bit (nI n) i = n.testBit i := by
  unfold bit nI
  rw [Int32.toBitVec_ofNat', BitVec.getLsbD_ofNat, decide_eq_true hi, Bool.true_and]
theorem bit_m1 (i : Nat) (hi : i < 32) : bit (-1) i = true := by
  revert i
  decide
theorem bit_0 (i : Nat) (hi : i < 32) : bit (nI 0) i = false := by
  revert i
  decide
theorem pw_nI : ∀ k, k < 31 → nI 1 <<< (nI k &&& 31) = nI (2 ^ k) := by decide
theorem bit_pw {k i : Nat} (hk : k < 31) (hi : i < 32) : bit (nI 1 <<< (nI k &&& 31)) i = decide (k = i) := by
  rw [pw_nI k hk, bit_nI _ _ hi, Nat.testBit_two_pow]
theorem bit_orI (p : Nat → Bool) (n i : Nat) (hn : n ≤ 31) (hi : i < 32) : bit (orI p n) i = (decide (i < n) && p i) := by
  induction n with
  | zero => rw [show orI p 0 = nI 0 from rfl, bit_0 i hi]; simp
  | succ n ih =>
    rw [show orI p (n + 1) = orI p n ||| (if p n then nI 1 <<< (nI n &&& 31) else nI 0) from rfl, bit_or, ih (by omega)]
    by_cases e : n = i
    · subst e
      cases h : p n
      · simp [bit_0 n hi]
      · simp [bit_pw (show n < 31 by omega) hi]
    · have z : bit (if p n then nI 1 <<< (nI n &&& 31) else nI 0) i = false := by
        split
        · rw [bit_pw (by omega) hi]; simpa using e
        · exact bit_0 i hi
      rw [z, Bool.or_false]
      by_cases h2 : i < n
      · simp [h2, show i < n + 1 by omega]
      · simp [h2, show ¬ i < n + 1 by omega]
def upB (p : Nat → Bool) (c : Nat) (v : Bool) : Nat → Bool := fun j => if j = c then v else p j
/-- a card put into a set -/
theorem orI_put (p : Nat → Bool) {n c : Nat} (hn : n ≤ 31) (hc : c < n) : orI p n ||| (nI 1 <<< (nI c &&& 31)) = orI (upB p c true) n := by
  apply bit_ext
  intro i hi
  rw [bit_or, bit_orI _ _ _ hn hi, bit_orI _ _ _ hn hi, bit_pw (by omega) hi]
  unfold upB
  by_cases e : i = c
  · subst e; simp [hc]
  · simp [e, Ne.symm e]
/-- a card taken out of a set -/
theorem orI_del (p : Nat → Bool) {n c : Nat} (hn : n ≤ 31) (hc : c < n) : orI p n &&& ((nI 1 <<< (nI c &&& 31)) ^^^ (-1)) = orI (upB p c false) n := by
  apply bit_ext
  intro i hi
  rw [bit_and, bit_xor, bit_orI _ _ _ hn hi, bit_orI _ _ _ hn hi, bit_pw (by omega) hi, bit_m1 i hi]
  unfold upB
  by_cases e : i = c
  · subst e; simp
  · simp [e, Ne.symm e]
theorem orI_eq {p q : Nat → Bool} {n : Nat} (h : ∀ c, c < n → p c = q c) : orI p n = orI q n := by
  induction n with
  | zero => rfl
  | succ n ih =>
    rw [show orI p (n + 1) = orI p n ||| (if p n then nI 1 <<< (nI n &&& 31) else nI 0) from rfl, show orI q (n + 1) = orI q n ||| (if q n then nI 1 <<< (nI n &&& 31) else nI 0) from rfl, ih (fun c hc => h c (by omega)), h n (by omega)]
theorem cntI_eq {p q : Nat → Bool} {n : Nat} (h : ∀ c, c < n → p c = q c) : cntI p n = cntI q n := by
  induction n with
  | zero => rfl
  | succ n ih =>
    rw [show cntI p (n + 1) = cntI p n + bI (p n) from rfl, show cntI q (n + 1) = cntI q n + bI (q n) from rfl, ih (fun c hc => h c (by omega)), h n (by omega)]
/-- the test of a bit, as the programs do it -/
theorem bit_tst : ∀ k, k < 31 → ∀ v : Int32, ((v >>> (nI k &&& 31)) &&& nI 1 = nI 1) ↔ bit v k = true := by
  intro k hk v
  have e : (v >>> (nI k &&& 31)) &&& nI 1 = nI (bit v k).toNat := by
    apply bit_ext
    intro i hi
    rw [bit_and, bit_nI 1 i hi, bit_nI _ i hi]
    by_cases h0 : i = 0
    · subst h0
      have z : bit (v >>> (nI k &&& 31)) 0 = bit v k := by
        have : ∀ k, k < 31 → (nI k &&& 31).toBitVec.smod 32 = BitVec.ofNat 32 k := by decide
        unfold bit
        rw [Int32.toBitVec_shiftRight, this k hk]
        rw [BitVec.sshiftRight_eq', BitVec.getLsbD_sshiftRight]
        simp [show k < 32 by omega, Nat.mod_eq_of_lt (show k < 4294967296 by omega)]
      rw [z]
      cases bit v k <;> rfl
    · have z1 : Nat.testBit 1 i = false := by
        rw [show (1 : Nat) = 2 ^ 0 from rfl, Nat.testBit_two_pow]
        simpa using Ne.symm h0
      rw [z1, Bool.and_false]
      cases bit v k
      · simp
      · simp only [Bool.toNat_true]; exact z1.symm
  rw [e]
  cases bit v k
  · decide
  · decide

