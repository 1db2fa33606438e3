set_option maxRecDepth 100000
theorem last_ok {e : Nat} (h : e ≤ 2047) : (if nI e < (1 : Int32) then (1 : Int32) else nI e) - 1 = nI (max e 1 - 1) := by
  rw [show (1 : Int32) = nI 1 from rfl]
  by_cases h2 : e < 1
  · rw [if_pos ((nI_ltI (by omega) (by omega)).mpr h2), pk_sub (by omega)]
    congr 1
    omega
  · rw [if_neg (fun q => h2 ((nI_ltI (by omega) (by omega)).mp q)), pk_sub (by omega)]
    congr 1
    omega
/-! ### what Nearplaces tells of a number -/
def ofs (x : UInt64) : Int := match win (dP x) with
  | some i => (dP x : Int) - (kPt i : Int)
  | none => -9999
def near (x : UInt64) : Bool := decide (-2 ≤ ofs x ∧ ofs x ≤ 1)
def addable (x y : UInt64) : Bool := near x && near y && decide (dE x ≤ 2045) && decide (dE y ≤ 2045)
def sgd (x : UInt64) (b : Bool) : UInt64 := if b then FP.dneg x else x
def psh (n : Int) : Int := if n < -64 then (n + 64) * 33 - 64 else if n < 64 then n else (n - 63) * 33 + 63
/-- an odd whole number, or 0, and the power of two -/
def dW (x : UInt64) : Nat := if dC x = 0 then 0 else dC x / 2 ^ tz (dC x)
def dR (x : UInt64) : Int := if dC x = 0 then 0 else -1075 + (max (dE x) 1 : Nat) + tz (dC x)
def hasDec (x : UInt64) : Bool := decide (-200 ≤ dR x ∧ dR x ≤ 200)
def decs (x : UInt64) : Int := if hasDec x then max (-dR x) 0 else -1
def wth (x y : UInt64) : Bool := dS x == dS y && decide (dP x ≤ dP (dScb (dA y) 1)) && decide (dP y ≤ dP (dScb (dA x) 1))
theorem winI_lt {p : Nat} : winI p = -1 ↔ win p = none := by
  unfold winI
  cases h : win p with
  | none => simp
  | some i =>
    have hi := (win_some h).2.1
    simp only [reduceCtorEq, iff_false]
    intro e
    have h9 := nI_toInt (n := i) (by omega)
    rw [e] at h9
    have : ((-1 : Int32)).toInt = -1 := by decide
    omega
theorem winI_some {p i : Nat} (h : win p = some i) : winI p = nI i := by unfold winI; rw [h]
theorem ofs_b (x : UInt64) : -9999 ≤ ofs x ∧ ofs x ≤ 511 := by
  unfold ofs
  cases h : win (dP x) with
  | none => simp
  | some i =>
    obtain ⟨h1, h2, h3⟩ := win_some h
    unfold kNear at h3
    simp only
    omega
theorem gb_dec {p q : Prop} [Decidable p] [Decidable q] (h : p ↔ q) : gb (decide p) = gb (decide q) := by
  congr 1
  exact decide_eq_decide.mpr h
theorem lI_shr1 {a : Int} (h1 : -9223372036854775808 ≤ a) (h2 : a < 9223372036854775808) : lI a >>> ((1 : Int32).toInt64 &&& 63) = lI (a / 2) := by
  apply Int64.toInt_inj.mp
  rw [sar _ (show ((((1 : Int32).toInt64 &&& 63) : Int64).toBitVec.smod 64).toNat = 1 from by decide), lI_toInt h1 h2, lI_toInt (by omega) (by omega)]
  rfl
theorem lI_add {a b : Int} : lI a + lI b = lI (a + b) := by
  unfold lI
  rw [Int64.ofInt_add]
theorem lI_sub {a b : Int} : lI a - lI b = lI (a - b) := by
  unfold lI
  rw [Int64.ofInt_sub]
theorem lI_eq {x : Int64} {a : Int} (h : x.toInt = a) : x = lI a := by
  apply Int64.toInt_inj.mp
  have h1 := Int64.le_toInt x
  have h2 := Int64.toInt_lt x
  rw [lI_toInt (by omega) (by omega), h]
theorem lI_nat (a : Int) : ∃ n : Nat, n < 2 ^ 64 ∧ lI a = lN n ∧ (n : Int) % 2 = a % 2 := by
  obtain ⟨n, hn, e⟩ := wb_of (lI a)
  refine ⟨n, hn, e, ?_⟩
  have h := congrArg (fun y : Int64 => y.toBitVec.toNat) e
  simp only [wb_tn hn] at h
  have h2 : (lI a).toBitVec = BitVec.ofInt 64 a := rfl
  rw [h2, BitVec.toNat_ofInt] at h
  omega
theorem and1 (a b : Int) : (lI a &&& lI b) &&& 1 = lI (if a % 2 = 1 ∧ b % 2 = 1 then 1 else 0) := by
  obtain ⟨n, hn, e, h1⟩ := lI_nat a
  obtain ⟨m, hm, e2, h2⟩ := lI_nat b
  rw [e, e2, wb_and hn hm, wb_a1 (Nat.lt_of_le_of_lt Nat.and_le_left hn)]
  have h3 : (n &&& m) % 2 = (n % 2) &&& (m % 2) := by
    apply Nat.eq_of_testBit_eq
    intro i
    rw [show (2 : Nat) = 2 ^ 1 from rfl, Nat.testBit_mod_two_pow, Nat.testBit_and, Nat.testBit_and, Nat.testBit_mod_two_pow, Nat.testBit_mod_two_pow]
    cases decide (i < 1) <;> simp
  rw [h3]
  rcases Nat.mod_two_eq_zero_or_one n with p | p <;> rcases Nat.mod_two_eq_zero_or_one m with q | q <;> rw [p, q]
  · rw [if_neg (by omega)]; rfl
  · rw [if_neg (by omega)]; rfl
  · rw [if_neg (by omega)]; rfl
  · rw [if_pos (by omega)]; rfl
theorem mid_ok {a b : Int} (h1 : -9223372036854775808 ≤ a) (h2 : a < 9223372036854775808) (h3 : -9223372036854775808 ≤ b) (h4 : b < 9223372036854775808) : lI a >>> ((1 : Int32).toInt64 &&& 63) + lI b >>> ((1 : Int32).toInt64 &&& 63) + ((lI a &&& lI b) &&& 1) = lI ((a + b) / 2) := by
  rw [lI_shr1 h1 h2, lI_shr1 h3 h4, and1, lI_add, lI_add]
  congr 1
  split <;> omega
theorem psh_ok : ∀ k : Nat, k < 256 → (if iI ((k : Int) - 128) < -64 then (iI ((k : Int) - 128) + 64) * 33 - 64 else if iI ((k : Int) - 128) < 64 then iI ((k : Int) - 128) else (iI ((k : Int) - 128) - 64 + 1) * 33 + 64 - 1) = iI (psh ((k : Int) - 128)) := by decide +kernel
theorem psh_b {n : Int} (h1 : -128 ≤ n) (h2 : n ≤ 127) : -2176 ≤ psh n ∧ psh n ≤ 2175 := by unfold psh; split <;> (try split) <;> omega
theorem full_ok {x : UInt64} : (lN (dP x) &&& 4503599627370495) = lN (dF x) := by
  have h := wb_mask (n := dP x) (k := 52) (Nat.lt_trans (dP_lt x) (by decide)) (by decide)
  exact h
theorem dF_lt (x : UInt64) : dF x < 4503599627370496 := Nat.mod_lt _ (by decide)
theorem full_or {f : Nat} (h : f < 4503599627370496) : lN f ||| 4503599627370496 = lN (4503599627370496 + f) := by
  have h1 := g_or' (k := 52) (p := 4503599627370496) (a := f) (b := 1) rfl h (by omega)
  rw [Nat.one_mul, Nat.add_comm f] at h1
  exact h1
theorem full_or0 {f : Nat} : lN f ||| 0 = lN f := by
  apply Int64.toBitVec_inj.mp
  show (lN f).toBitVec ||| 0#64 = _
  simp
theorem iI_neg {a : Int} : -iI a = iI (-a) := by
  unfold iI
  rw [Int32.ofInt_neg]
theorem dE_max {x : UInt64} (hx : dNum x) : dE x ≤ 2047 := by unfold dNum at hx; unfold dE; omega
theorem dR_b {x : UInt64} (hx : dFin x) : -1074 ≤ dR x ∧ dR x ≤ 1023 := by
  have h1 := dE_lt hx
  have h2 := dC_lt hx
  unfold dR
  split
  · omega
  · rename_i h
    obtain ⟨a, b, c⟩ := tz_spec (n := dC x) (by omega) (by omega)
    have : tz (dC x) < 53 := by
      rcases Nat.lt_or_ge (tz (dC x)) 53 with q | q
      · exact q
      · have h3 : (2 : Nat) ^ 53 ≤ 2 ^ tz (dC x) := Nat.pow_le_pow_right (by decide) q
        rw [Nat.div_eq_of_lt (by omega)] at c
        omega
    omega
theorem dW_lt {x : UInt64} (hx : dFin x) : dW x < 9007199254740992 := by
  have h2 := dC_lt hx
  unfold dW
  split
  · decide
  · exact Nat.lt_of_le_of_lt (Nat.div_le_self _ _) h2
theorem lN_sar {n t : Nat} (hn : n < 2 ^ 63) (ht : t < 64) : lN n >>> ((nI t).toInt64 &&& 63) = lN (n / 2 ^ t) := by
  rw [wb_c t ht]
  have hs : ((lN t).toBitVec.smod 64).toNat = t := by
    show ((BitVec.ofNat 64 t).smod 64).toNat = t
    rw [wb_sm t ht, BitVec.toNat_ofNat]
    omega
  apply Int64.toInt_inj.mp
  rw [sar _ hs, pk_lT hn, pk_lT (Nat.lt_of_le_of_lt (Nat.div_le_self _ _) hn)]
  norm_cast
theorem dK_dZ0 {x : UInt64} : dK x = 0 ↔ dP x = 0 := by rw [dK_eq]; cases dS x <;> simp
theorem one_num : dP FP.dconst1 = 4607182418800017408 := by decide
theorem one_fin : dFin FP.dconst1 := by unfold dFin; rw [one_num]; decide
/-- the unit by its power -/
theorem unit_ok {x : UInt64} (hx : dFin x) : dScb FP.dconst1 (max ((dE x : Int) - 1023) (-1022) - 52) = dUl x := by
  have hE := dE_lt hx
  have hl : ((2 : Nat) ^ (dE x - 1) < 9218868437227405312 ∨ ¬ dE x < 53) := by
    by_cases h : dE x < 53
    · left
      have : (2 : Nat) ^ (dE x - 1) ≤ 2 ^ 51 := Nat.pow_le_pow_right (by decide) (by omega)
      omega
    · right; exact h
  have hn : (dUl x).toNat = if dE x = 0 then 1 else if dE x < 53 then 2 ^ (dE x - 1) else (dE x - 52) * 4503599627370496 := by
    unfold dUl
    rw [UInt64.toNat_ofNat']
    apply Nat.mod_eq_of_lt
    split
    · decide
    · split
      · omega
      · omega
  apply UInt64.toNat_inj.mp
  rw [dScb_nat, hn, show dS FP.dconst1 = false from by decide, show dC FP.dconst1 = 4503599627370496 from by decide, show dQ FP.dconst1 = 1022 from by decide]
  simp only [Bool.toNat_false, Nat.zero_mul, Nat.zero_add]
  have e52 : (4503599627370496 : Nat) = 1 * 2 ^ 52 := by decide
  rw [e52, rB_scale]
  have hlog : Nat.log2 1 = 0 := by decide
  by_cases h0 : dE x = 0
  · rw [if_pos h0, h0]
    decide
  · rw [if_neg h0]
    have ej : ((1022 : Nat) : Int) + (max ((dE x : Int) - 1023) (-1022) - 52) + ((52 : Nat) : Int) = ((dE x - 1 : Nat) : Int) := by omega
    rw [ej]
    unfold rB rN
    rw [if_neg (by decide)]
    by_cases h53 : dE x < 53
    · rw [if_pos h53]
      have hk : rk 1 ((dE x - 1 : Nat) : Int) = 0 := by unfold rk; rw [hlog]; omega
      rw [hk]
      simp only [Nat.zero_mul, Nat.zero_add]
      rw [show (((0 : Nat) : Int) - ((dE x - 1 : Nat) : Int)).toNat = 0 by omega, Nat.pow_zero, near_one, Nat.one_mul, show (((dE x - 1 : Nat) : Int) - ((0 : Nat) : Int)).toNat = dE x - 1 by omega]
      rcases hl with q | q
      · omega
      · exact absurd h53 q
    · rw [if_neg h53]
      have hk : rk 1 ((dE x - 1 : Nat) : Int) = dE x - 53 := by unfold rk; rw [hlog]; omega
      rw [hk]
      rw [show (((dE x - 53 : Nat) : Int) - ((dE x - 1 : Nat) : Int)).toNat = 0 by omega, Nat.pow_zero, near_one, Nat.one_mul, show (((dE x - 1 : Nat) : Int) - ((dE x - 53 : Nat) : Int)).toNat = 52 by omega]
      show min ((dE x - 53) * 4503599627370496 + 4503599627370496) 9218868437227405312 = (dE x - 52) * 4503599627370496
      omega
theorem dUl_nat {x : UInt64} (hx : dFin x) : (dUl x).toNat = if dE x = 0 then 1 else if dE x < 53 then 2 ^ (dE x - 1) else (dE x - 52) * 4503599627370496 := by
  have hE := dE_lt hx
  unfold dUl
  rw [UInt64.toNat_ofNat']
  apply Nat.mod_eq_of_lt
  split
  · decide
  · split
    · have : (2 : Nat) ^ (dE x - 1) ≤ 2 ^ 51 := Nat.pow_le_pow_right (by decide) (by omega)
      omega
    · omega
theorem dUl_P {x : UInt64} (hx : dFin x) : dP (dUl x) = (dUl x).toNat ∧ dS (dUl x) = false ∧ dFin (dUl x) := by
  have hE := dE_lt hx
  have h := dUl_nat hx
  have hb : (dUl x).toNat < 9218868437227405312 := by
    rw [h]
    clear h
    split
    · decide
    · split
      · exact Nat.lt_of_le_of_lt (Nat.pow_le_pow_right (n := 2) (by decide) (show dE x - 1 ≤ 51 by omega)) (by decide)
      · omega
  refine ⟨?_, ?_, ?_⟩
  · unfold dP; clear h hE; omega
  · unfold dS; clear h hE; simp; omega
  · unfold dFin dP; clear h hE; omega
/-- a unit in units -/
theorem dUl_U {x : UInt64} (hx : dFin x) : dU (dUl x) = 2 ^ dQ x := by
  have hE := dE_lt hx
  rw [dU_uB, (dUl_P hx).1, dUl_nat hx]
  unfold dQ
  by_cases h0 : dE x = 0
  · rw [if_pos h0, h0]; rfl
  · rw [if_neg h0]
    by_cases h53 : dE x < 53
    · rw [if_pos h53]
      have h2 : (2 : Nat) ^ (dE x - 1) ≤ 2 ^ 51 := Nat.pow_le_pow_right (by decide) (by omega)
      unfold uB
      rw [if_pos (Nat.div_eq_of_lt (Nat.lt_of_le_of_lt h2 (by decide)))]
    · rw [if_neg h53]
      unfold uB
      rw [if_neg (by omega)]
      have e1 : (dE x - 52) * 4503599627370496 / 4503599627370496 = dE x - 52 := by omega
      have e2 : (dE x - 52) * 4503599627370496 % 4503599627370496 = 0 := by omega
      rw [e1, e2]
      rw [show (4503599627370496 + 0 : Nat) = 2 ^ 52 from rfl, ← Nat.pow_add]
      congr 1
      omega
/-- the power of the unit, 52 up -/
theorem punit_ok {x : UInt64} (hx : dFin x) : (dE (dScb (dUl x) 52) : Int) - 1023 = max ((dE x : Int) - 1023) (-1022) := by
  have hE := dE_lt hx
  obtain ⟨p1, p2, p3⟩ := dUl_P hx
  have hU := dUl_U hx
  have e : rB (dC (dUl x)) (dQ (dUl x) + 52) = rB (2 ^ dQ x) 52 := by
    rw [← hU]
    unfold dU
    rw [rB_scale]
    congr 1
    omega
  have hl : (2 ^ dQ x).log2 = dQ x := Nat.log2_two_pow
  have hp := Nat.two_pow_pos (dQ x)
  have hk : rk (2 ^ dQ x) 52 = dQ x := by unfold rk; rw [hl]; omega
  have hq : (dQ x : Int) = max ((dE x : Int) - 1) 0 := by unfold dQ; omega
  have hq2 : dQ x ≤ 2045 := by unfold dQ; omega
  rw [show max ((dE x : Int) - 1023) (-1022) = (dQ x : Int) - 1022 by omega]
  unfold dE
  rw [dScb_P, e]
  unfold rB rN
  rw [if_neg (by omega), hk]
  have h9 : FP.Core.nearest (2 ^ dQ x * 2 ^ ((52 : Int) - (dQ x : Int)).toNat) (2 ^ ((dQ x : Int) - 52).toNat) = 4503599627370496 := by
    have h1 := near_pow 1 (a := dQ x + ((52 : Int) - (dQ x : Int)).toNat) (b := ((dQ x : Int) - 52).toNat) (a' := 52) (b' := 0) (by omega)
    rw [Nat.one_mul, Nat.one_mul, Nat.pow_add, Nat.pow_zero, near_one] at h1
    exact h1
  rw [h9]
  clear h9 hk hl e hU hp hE hq p1 p2 p3
  generalize dQ x = q at *
  have h8 : q * 4503599627370496 + 4503599627370496 = (q + 1) * 4503599627370496 := by rw [Nat.add_mul, Nat.one_mul]
  rw [h8, Nat.min_eq_left (Nat.le_trans (Nat.mul_le_mul_right _ (Nat.succ_le_succ hq2)) (by decide)), Nat.mul_div_cancel _ (by decide)]
  omega
