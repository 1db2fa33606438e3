/-! ## the float core at 64 bits: what the operations give, by bits -/
set_option maxRecDepth 100000
def dC (x : UInt64) : Nat := if dE x = 0 then dF x else 4503599627370496 + dF x
def dQ (x : UInt64) : Nat := dE x - 1
/-- the number in units of the least one -/
def dU (x : UInt64) : Nat := dC x * 2 ^ dQ x
def dZ (x : UInt64) : Int := if dS x then -(dU x : Int) else (dU x : Int)
/-- a point's units -/
def uB (b : Nat) : Nat := if b / 4503599627370496 = 0 then b else (4503599627370496 + b % 4503599627370496) * 2 ^ (b / 4503599627370496 - 1)
theorem dU_uB (x : UInt64) : dU x = uB (dP x) := by
  unfold dU uB dC dQ dE dF
  by_cases h : dP x / 4503599627370496 = 0
  · rw [if_pos h, if_pos h, h]; simp; omega
  · rw [if_neg h, if_neg h]
theorem b64_tails : FP.Core.b64.tails = 4503599627370496 := by decide
theorem b64_exps : FP.Core.b64.exps = 2048 := by decide
theorem b64_qmin : FP.Core.b64.qmin = -1074 := by decide
theorem b64_qmax : FP.Core.b64.qmax = 971 := by decide
theorem dE_lt {x : UInt64} (h : dFin x) : dE x < 2047 := by
  unfold dFin at h
  unfold dE
  omega
theorem fS (x : UInt64) : FP.Core.fieldS FP.Core.b64 x.toNat = dS x := by
  have := x.toNat_lt
  unfold FP.Core.fieldS dS
  rw [b64_tails, b64_exps]
  have : x.toNat / 4503599627370496 / 2048 = 0 ∨ x.toNat / 4503599627370496 / 2048 = 1 := by omega
  by_cases h : 9223372036854775808 ≤ x.toNat
  · have e : x.toNat / 4503599627370496 / 2048 = 1 := by omega
    simp [h, e]
  · have e : x.toNat / 4503599627370496 / 2048 = 0 := by omega
    simp [h, e]
theorem fE (x : UInt64) : FP.Core.fieldE FP.Core.b64 x.toNat = dE x := by
  unfold FP.Core.fieldE dE dP
  rw [b64_tails, b64_exps]
  omega
theorem fT (x : UInt64) : FP.Core.fieldT FP.Core.b64 x.toNat = dF x := by
  unfold FP.Core.fieldT dF dP
  rw [b64_tails]
  omega
theorem d_dec {x : UInt64} (h : dFin x) : FP.Core.decode FP.Core.b64 x.toNat = .fin (dS x) (dC x) (-1074 + (dQ x : Int)) := by
  have hE := dE_lt h
  unfold FP.Core.decode
  rw [fE, fT, fS, b64_exps, b64_qmin, b64_tails, if_neg (by omega)]
  unfold dC dQ
  by_cases h0 : dE x = 0
  · rw [if_pos h0, if_pos h0, h0]; simp
  · rw [if_neg h0, if_neg h0]
    congr 1
    omega
theorem d_decInf {x : UInt64} (h : dP x = 9218868437227405312) : FP.Core.decode FP.Core.b64 x.toNat = .inf (dS x) := by
  unfold FP.Core.decode
  rw [fE, fT, fS, b64_exps]
  unfold dE dF
  rw [h, if_pos (by decide), if_pos (by decide)]
/-! ### units grow with points -/
theorem uB_step (b : Nat) : uB b < uB (b + 1) := by
  unfold uB
  by_cases h0 : b / 4503599627370496 = 0
  · rw [if_pos h0]
    by_cases h1 : (b + 1) / 4503599627370496 = 0
    · rw [if_pos h1]; omega
    · rw [if_neg h1]
      have e : b + 1 = 4503599627370496 := by omega
      rw [e]
      show b < 4503599627370496 * 1
      omega
  · rw [if_neg h0]
    have h1 : ¬ (b + 1) / 4503599627370496 = 0 := by omega
    rw [if_neg h1]
    by_cases h2 : (b + 1) % 4503599627370496 = 0
    · have e1 : (b + 1) / 4503599627370496 - 1 = (b / 4503599627370496 - 1) + 1 := by omega
      rw [h2, e1, Nat.pow_succ]
      have e2 : b % 4503599627370496 = 4503599627370495 := by omega
      rw [e2]
      have := Nat.two_pow_pos (b / 4503599627370496 - 1)
      omega
    · have e1 : (b + 1) / 4503599627370496 = b / 4503599627370496 := by omega
      have e2 : (b + 1) % 4503599627370496 = b % 4503599627370496 + 1 := by omega
      rw [e1, e2]
      exact (Nat.mul_lt_mul_right (Nat.two_pow_pos _)).mpr (by omega)
theorem uB_lt {a b : Nat} (h : a < b) : uB a < uB b := by
  induction b with
  | zero => omega
  | succ b ih =>
    rcases Nat.lt_or_ge a b with h1 | h1
    · exact Nat.lt_trans (ih h1) (uB_step b)
    · have : a = b := by omega
      subst this
      exact uB_step a
theorem uB_le {a b : Nat} (h : a ≤ b) : uB a ≤ uB b := by
  rcases Nat.lt_or_ge a b with h1 | h1
  · exact Nat.le_of_lt (uB_lt h1)
  · have : a = b := by omega
    subst this
    exact Nat.le_refl _
theorem uB_iff {a b : Nat} : uB a < uB b ↔ a < b := ⟨fun h => by
  rcases Nat.lt_or_ge a b with h1 | h1
  · exact h1
  · have := uB_le h1; omega, uB_lt⟩
theorem uB_inj {a b : Nat} (h : uB a = uB b) : a = b := by
  rcases Nat.lt_trichotomy a b with h1 | h1 | h1
  · have := uB_lt h1; omega
  · exact h1
  · have := uB_lt h1; omega
theorem uB_0 : uB 0 = 0 := rfl
theorem dZ_lt {x y : UInt64} : dZ x < dZ y ↔ dK x < dK y := by
  unfold dZ
  rw [dK_eq, dK_eq, dU_uB, dU_uB]
  have h1 := @uB_iff (dP x) (dP y)
  have h2 := @uB_iff (dP y) (dP x)
  have h3 := @uB_iff 0 (dP x)
  have h4 := @uB_iff 0 (dP y)
  rw [uB_0] at h3 h4
  cases dS x <;> cases dS y <;> simp only [if_true, if_false, Bool.false_eq_true] <;> omega
/-! ### rounding -/
theorem near_ge {A B M : Nat} (hB : 0 < B) (h : M * B ≤ A) : M ≤ FP.Core.nearest A B := by
  have h1 : M ≤ A / B := (Nat.le_div_iff_mul_le hB).mpr h
  unfold FP.Core.nearest
  split
  · exact h1
  · split <;> omega
theorem near_le {A B M : Nat} (hB : 0 < B) (h : A ≤ M * B) : FP.Core.nearest A B ≤ M := by
  have h1 : A / B ≤ M := by
    rw [Nat.mul_comm] at h
    exact Nat.div_le_of_le_mul h
  have h2 := Nat.div_add_mod A B
  have h3 := Nat.mod_lt A hB
  unfold FP.Core.nearest
  by_cases e : A / B = M
  · rw [e] at h2
    have h4 : A % B = 0 := by
      rw [Nat.mul_comm] at h
      omega
    rw [h4]
    simp [hB]
    omega
  · split
    · exact h1
    · split <;> omega
theorem near_scale (A B k : Nat) (hk : 0 < k) : FP.Core.nearest (A * k) (B * k) = FP.Core.nearest A B := by
  unfold FP.Core.nearest
  rw [Nat.mul_div_mul_right _ _ hk, Nat.mul_mod_mul_right]
  have e1 : (2 * (A % B * k) < B * k) = (2 * (A % B) < B) := by
    rw [← Nat.mul_assoc]
    exact propext (Nat.mul_lt_mul_right hk)
  have e2 : (B * k < 2 * (A % B * k)) = (B < 2 * (A % B)) := by
    rw [← Nat.mul_assoc]
    exact propext (Nat.mul_lt_mul_right hk)
  simp only [e1, e2]
theorem near_one (A : Nat) : FP.Core.nearest A 1 = A := by
  unfold FP.Core.nearest
  simp [Nat.mod_one]
/-- the exponent of the last digit kept, in units; c * 2^j units -/
def rk (c : Nat) (j : Int) : Nat := ((Nat.log2 c : Int) + j - 52).toNat
def rN (c : Nat) (j : Int) : Nat := FP.Core.nearest (c * 2 ^ (j - (rk c j : Int)).toNat) (2 ^ ((rk c j : Int) - j).toNat)
/-- c * 2^j units, rounded, as a point -/
def rB (c : Nat) (j : Int) : Nat := if c = 0 then 0 else min (rk c j * 4503599627370496 + rN c j) 9218868437227405312
theorem pow52 : (2 : Nat) ^ 52 = 4503599627370496 := rfl
theorem rN_le {c : Nat} {j : Int} (hc : c ≠ 0) : rN c j ≤ 9007199254740992 := by
  have h1 : c < 2 ^ (c.log2 + 1) := Nat.lt_log2_self
  refine near_le (Nat.two_pow_pos _) ?_
  have e0 : (9007199254740992 : Nat) = 2 ^ 53 := rfl
  rw [e0, ← Nat.pow_add]
  generalize hk : rk c j = k
  unfold rk at hk
  have : c * 2 ^ (j - (k : Int)).toNat ≤ 2 ^ (c.log2 + 1) * 2 ^ (j - (k : Int)).toNat := Nat.mul_le_mul_right _ (Nat.le_of_lt h1)
  refine Nat.le_trans this ?_
  rw [← Nat.pow_add]
  exact Nat.pow_le_pow_right (by decide) (by omega)
theorem rN_ge {c : Nat} {j : Int} (hc : c ≠ 0) (h : 0 < rk c j) : 4503599627370496 ≤ rN c j := by
  have h1 : 2 ^ c.log2 ≤ c := Nat.log2_self_le hc
  refine near_ge (Nat.two_pow_pos _) ?_
  rw [← pow52, ← Nat.pow_add]
  generalize hk : rk c j = k at h
  unfold rk at hk
  have : 2 ^ c.log2 * 2 ^ (j - (k : Int)).toNat ≤ c * 2 ^ (j - (k : Int)).toNat := Nat.mul_le_mul_right _ h1
  refine Nat.le_trans ?_ this
  rw [← Nat.pow_add]
  exact Nat.pow_le_pow_right (by decide) (by omega)
theorem lead1 {c : Nat} (hc : c ≠ 0) : FP.Core.leading c 1 = (c.log2 : Int) := by
  have h1 : 2 ^ c.log2 ≤ c := Nat.log2_self_le hc
  unfold FP.Core.leading
  have e : Nat.log2 1 = 0 := by decide
  simp only [e]
  rw [if_pos]
  · simp
  · simp
    exact h1
theorem enc_round (s : Bool) (c : Nat) (q : Int) : FP.Core.encode FP.Core.b64 (FP.Core.roundRatio FP.Core.b64 s c 1 q) = s.toNat * 9223372036854775808 + rB c (q + 1074) := by
  unfold FP.Core.roundRatio rB
  by_cases hc : c = 0
  · subst hc
    rw [if_pos rfl, if_pos rfl]
    unfold FP.Core.encode
    simp only [b64_tails]
    rw [if_pos (by decide)]
    unfold FP.Core.assemble
    rw [b64_tails, b64_exps]
    omega
  · rw [if_neg hc, if_neg hc]
    have hQ : FP.Core.quantum FP.Core.b64 c 1 q = -1074 + (rk c (q + 1074) : Int) := by
      unfold FP.Core.quantum rk
      rw [lead1 hc, b64_qmin]
      show max (-1074 : Int) ((c.log2 : Int) + q - (((53 : Nat) : Int) - 1)) = _
      omega
    unfold FP.Core.roundAt FP.Core.unitsNum FP.Core.unitsDen
    rw [hQ]
    have hN : FP.Core.nearest (c * 2 ^ (q - (-1074 + (rk c (q + 1074) : Int))).toNat) (1 * 2 ^ (-1074 + (rk c (q + 1074) : Int) - q).toNat) = rN c (q + 1074) := by
      unfold rN
      rw [Nat.one_mul]
      congr 3 <;> omega
    rw [hN]
    have hle := rN_le (j := q + 1074) hc
    have hge := rN_ge (j := q + 1074) hc
    generalize rN c (q + 1074) = n at hle hge
    generalize rk c (q + 1074) = k at hge
    unfold FP.Core.settle FP.Core.bound
    rw [show FP.Core.b64.p = 53 from rfl, show (2 : Nat) ^ 53 = 9007199254740992 from rfl, b64_qmax, b64_tails]
    have asm : ∀ e t : Nat, FP.Core.assemble FP.Core.b64 s e t = s.toNat * 9223372036854775808 + e * 4503599627370496 + t := by
      intro e t
      unfold FP.Core.assemble
      rw [b64_tails, b64_exps]
      omega
    by_cases h1 : n < 9007199254740992
    · rw [if_pos h1]
      by_cases h2 : -1074 + (k : Int) ≤ 971
      · rw [if_pos h2]
        unfold FP.Core.encode
        simp only [b64_tails, b64_qmin, asm]
        by_cases h3 : n < 4503599627370496
        · rw [if_pos h3]
          have : k = 0 := by omega
          subst this
          omega
        · rw [if_neg h3]
          have e : (-1074 + (k : Int) - -1074).toNat = k := by omega
          rw [e]
          omega
      · rw [if_neg h2]
        unfold FP.Core.encode
        simp only [asm, b64_exps]
        have := hge (by omega)
        omega
    · rw [if_neg h1]
      by_cases h2 : -1074 + (k : Int) + 1 ≤ 971
      · rw [if_pos h2]
        unfold FP.Core.encode
        simp only [b64_tails, b64_qmin, asm]
        rw [if_neg (by omega)]
        have e : (-1074 + (k : Int) + 1 - -1074).toNat = k + 1 := by omega
        rw [e]
        omega
      · rw [if_neg h2]
        unfold FP.Core.encode
        simp only [asm, b64_exps]
        omega
theorem log2_scale {c : Nat} (hc : c ≠ 0) (i : Nat) : (c * 2 ^ i).log2 = c.log2 + i := by
  have h1 : 2 ^ c.log2 ≤ c := Nat.log2_self_le hc
  have h2 : c < 2 ^ (c.log2 + 1) := Nat.lt_log2_self
  have hp := Nat.two_pow_pos i
  refine (Nat.log2_eq_iff (by have := Nat.mul_pos (Nat.pos_of_ne_zero hc) hp; omega)).mpr ⟨?_, ?_⟩
  · rw [Nat.pow_add]
    exact Nat.mul_le_mul_right _ h1
  · rw [show c.log2 + i + 1 = (c.log2 + 1) + i by omega, Nat.pow_add]
    exact (Nat.mul_lt_mul_right hp).mpr h2
theorem rk_scale {c : Nat} (hc : c ≠ 0) (i : Nat) (j : Int) : rk (c * 2 ^ i) j = rk c (j + i) := by
  unfold rk
  rw [log2_scale hc]
  omega
theorem near_pow (c : Nat) {a b a' b' : Nat} (h : a + b' = a' + b) : FP.Core.nearest (c * 2 ^ a) (2 ^ b) = FP.Core.nearest (c * 2 ^ a') (2 ^ b') := by
  rcases Nat.le_total a a' with h1 | h1
  · obtain ⟨d, rfl⟩ : ∃ d, a' = a + d := ⟨a' - a, by omega⟩
    have e : b' = b + d := by omega
    subst e
    rw [Nat.pow_add 2 a d, Nat.pow_add 2 b d, ← Nat.mul_assoc, near_scale _ _ _ (Nat.two_pow_pos _)]
  · obtain ⟨d, rfl⟩ : ∃ d, a = a' + d := ⟨a - a', by omega⟩
    have e : b = b' + d := by omega
    subst e
    rw [Nat.pow_add 2 a' d, Nat.pow_add 2 b' d, ← Nat.mul_assoc, near_scale _ _ _ (Nat.two_pow_pos _)]
theorem rB_scale (c i : Nat) (j : Int) : rB (c * 2 ^ i) j = rB c (j + i) := by
  have hp := Nat.two_pow_pos i
  unfold rB
  by_cases hc : c = 0
  · subst hc; simp
  · have h0 : c * 2 ^ i ≠ 0 := by have := Nat.mul_pos (Nat.pos_of_ne_zero hc) hp; omega
    rw [if_neg hc, if_neg h0, rk_scale hc]
    unfold rN
    rw [rk_scale hc, Nat.mul_assoc, ← Nat.pow_add]
    rw [near_pow c (a := i + (j - (rk c (j + i) : Int)).toNat) (b := ((rk c (j + i) : Int) - j).toNat) (a' := (j + i - (rk c (j + i) : Int)).toNat) (b' := ((rk c (j + i) : Int) - (j + i)).toNat) (by omega)]
theorem rB_le (c : Nat) (j : Int) : rB c j ≤ 9218868437227405312 := by
  unfold rB
  split <;> omega
theorem sum_lt (s : Bool) (n : Nat) (h : n ≤ 9218868437227405312) : s.toNat * 9223372036854775808 + n < 2 ^ 64 := by
  cases s <;> simp <;> omega
theorem dZ_dec (x : UInt64) : FP.Core.signed (dS x) (dU x) = dZ x := by
  unfold FP.Core.signed dZ
  rfl
theorem d_sumU {x y : UInt64} (e : Int) (μ : Nat) (he : e = -1074 + (μ : Int)) (h1 : μ ≤ dQ x) (h2 : μ ≤ dQ y) (sy : Bool) : FP.Core.sumUnits (dS x) (dC x) (-1074 + (dQ x : Int)) sy (dC y) (-1074 + (dQ y : Int)) e * 2 ^ μ = dZ x + FP.Core.signed sy (dU y) := by
  unfold FP.Core.sumUnits FP.Core.inUnits
  subst he
  have a1 : (-1074 + (dQ x : Int) - (-1074 + (μ : Int))).toNat = dQ x - μ := by omega
  have a2 : (-1074 + (dQ y : Int) - (-1074 + (μ : Int))).toNat = dQ y - μ := by omega
  rw [a1, a2]
  have b1 : dU x = dC x * 2 ^ (dQ x - μ) * 2 ^ μ := by
    unfold dU
    rw [Nat.mul_assoc, ← Nat.pow_add, show dQ x - μ + μ = dQ x by omega]
  have b2 : dU y = dC y * 2 ^ (dQ y - μ) * 2 ^ μ := by
    unfold dU
    rw [Nat.mul_assoc, ← Nat.pow_add, show dQ y - μ + μ = dQ y by omega]
  rw [← dZ_dec, b1, b2]
  generalize dC x * 2 ^ (dQ x - μ) = A
  generalize dC y * 2 ^ (dQ y - μ) = B
  have e2 : ((2 : Int) ^ μ) = ((2 ^ μ : Nat) : Int) := by simp
  rw [e2]
  generalize 2 ^ μ = M
  cases dS x <;> cases sy <;> simp only [FP.Core.signed, if_true, if_false, Bool.false_eq_true] <;> push_cast <;> grind
theorem sgn_scale (s t : Bool) (v : Int) (μ : Nat) : FP.Core.sumSign s t (v * 2 ^ μ) = FP.Core.sumSign s t v := by
  unfold FP.Core.sumSign
  have h : (0 : Int) < 2 ^ μ := Int.pow_pos (by decide)
  have e1 : v * 2 ^ μ = 0 ↔ v = 0 := by
    constructor
    · intro h0
      rcases Int.mul_eq_zero.mp h0 with h1 | h1
      · exact h1
      · omega
    · intro h0; rw [h0]; simp
  have e2 : v * 2 ^ μ < 0 ↔ v < 0 := by
    constructor
    · intro h0
      rcases (by omega : v < 0 ∨ 0 ≤ v) with h1 | h1
      · exact h1
      · have := Int.mul_nonneg h1 (Int.le_of_lt h); omega
    · intro h0
      exact Int.mul_neg_of_neg_of_pos h0 h
  simp only [e1, e2]
theorem d_addCore {x y : UInt64} (sy : Bool) : (UInt64.ofNat (FP.Core.encode FP.Core.b64 (FP.Core.round FP.Core.b64 (FP.Core.exactSum (.fin (dS x) (dC x) (-1074 + (dQ x : Int))) (.fin sy (dC y) (-1074 + (dQ y : Int))))))).toNat = (FP.Core.sumSign (dS x) sy (dZ x + FP.Core.signed sy (dU y))).toNat * 9223372036854775808 + rB (dZ x + FP.Core.signed sy (dU y)).natAbs 0 := by
  have hm : min (-1074 + (dQ x : Int)) (-1074 + (dQ y : Int)) = -1074 + ((min (dQ x) (dQ y) : Nat) : Int) := by omega
  have hs := d_sumU (x := x) (y := y) _ (min (dQ x) (dQ y)) hm (Nat.min_le_left _ _) (Nat.min_le_right _ _) sy
  unfold FP.Core.exactSum FP.Core.round
  simp only
  rw [enc_round, hm] at *
  rw [← hs, sgn_scale, Int.natAbs_mul]
  have e : ((2 : Int) ^ (min (dQ x) (dQ y))).natAbs = 2 ^ (min (dQ x) (dQ y)) := by
    rw [Int.natAbs_pow]; rfl
  rw [e, rB_scale]
  rw [UInt64.toNat_ofNat']
  have e3 : -1074 + ((min (dQ x) (dQ y) : Nat) : Int) + 1074 = 0 + ((min (dQ x) (dQ y) : Nat) : Int) := by omega
  rw [e3]
  exact Nat.mod_eq_of_lt (sum_lt _ _ (rB_le _ _))
/-- the sum of two doubles: the exact sum of units, rounded -/
theorem dadd_nat {x y : UInt64} (hx : dFin x) (hy : dFin y) : (FP.dadd x y).toNat = (FP.Core.sumSign (dS x) (dS y) (dZ x + dZ y)).toNat * 9223372036854775808 + rB (dZ x + dZ y).natAbs 0 := by
  have h := d_addCore (x := x) (y := y) (dS y)
  rw [dZ_dec] at h
  rw [← h]
  unfold FP.dadd FP.Core.dadd FP.Core.add
  rw [d_dec hx, d_dec hy]
theorem dsub_nat {x y : UInt64} (hx : dFin x) (hy : dFin y) : (FP.dsub x y).toNat = (FP.Core.sumSign (dS x) (!dS y) (dZ x - dZ y)).toNat * 9223372036854775808 + rB (dZ x - dZ y).natAbs 0 := by
  have h := d_addCore (x := x) (y := y) (!dS y)
  have e : dZ x + FP.Core.signed (!dS y) (dU y) = dZ x - dZ y := by
    rw [← dZ_dec y]
    cases dS y <;> simp [FP.Core.signed] <;> omega
  rw [e] at h
  rw [← h]
  unfold FP.dsub FP.Core.dsub FP.Core.sub
  rw [d_dec hx, d_dec hy]
  rfl
theorem cmp_scale (a b : Int) (μ : Nat) : compare (a * 2 ^ μ) (b * 2 ^ μ) = compare a b := by
  have h : (0 : Int) < 2 ^ μ := Int.pow_pos (by decide)
  have e1 : a * 2 ^ μ < b * 2 ^ μ ↔ a < b := ⟨fun q => Int.lt_of_mul_lt_mul_right q (Int.le_of_lt h), fun q => Int.mul_lt_mul_of_pos_right q h⟩
  have e2 : a * 2 ^ μ = b * 2 ^ μ ↔ a = b := ⟨fun q => Int.eq_of_mul_eq_mul_right (by omega) q, fun q => by rw [q]⟩
  simp only [compare, compareOfLessAndEq, e1, e2]
theorem cmp_dZ (x y : UInt64) : compare (dZ x) (dZ y) = compare (dK x) (dK y) := by
  have h1 := @dZ_lt x y
  have h2 := @dZ_lt y x
  have h3 : dZ x = dZ y ↔ dK x = dK y := by omega
  simp only [compare, compareOfLessAndEq, h1, h3]
theorem dcmp_fin {x y : UInt64} (hx : dFin x) (hy : dFin y) : FP.dcmp x y = some (compare (dK x) (dK y)) := by
  unfold FP.dcmp FP.Core.dcmp FP.Core.cmp
  rw [d_dec hx, d_dec hy]
  unfold FP.Core.order
  simp only
  have hm : min (-1074 + (dQ x : Int)) (-1074 + (dQ y : Int)) = -1074 + ((min (dQ x) (dQ y) : Nat) : Int) := by omega
  rw [hm, ← cmp_dZ]
  congr 1
  rw [← cmp_scale _ _ (min (dQ x) (dQ y))]
  unfold FP.Core.inUnits
  have a1 : (-1074 + (dQ x : Int) - (-1074 + ((min (dQ x) (dQ y) : Nat) : Int))).toNat = dQ x - min (dQ x) (dQ y) := by omega
  have a2 : (-1074 + (dQ y : Int) - (-1074 + ((min (dQ x) (dQ y) : Nat) : Int))).toNat = dQ y - min (dQ x) (dQ y) := by omega
  rw [a1, a2]
  have key : ∀ w : UInt64, min (dQ x) (dQ y) ≤ dQ w → FP.Core.signed (dS w) (dC w * 2 ^ (dQ w - min (dQ x) (dQ y))) * 2 ^ (min (dQ x) (dQ y)) = dZ w := by
    intro w hw
    have b1 : dU w = dC w * 2 ^ (dQ w - min (dQ x) (dQ y)) * 2 ^ (min (dQ x) (dQ y)) := by
      unfold dU
      rw [Nat.mul_assoc, ← Nat.pow_add, show dQ w - min (dQ x) (dQ y) + min (dQ x) (dQ y) = dQ w by omega]
    rw [← dZ_dec, b1]
    generalize dC w * 2 ^ (dQ w - min (dQ x) (dQ y)) = A
    have e2 : ((2 : Int) ^ (min (dQ x) (dQ y))) = ((2 ^ (min (dQ x) (dQ y)) : Nat) : Int) := by simp
    rw [e2]
    generalize 2 ^ (min (dQ x) (dQ y)) = M
    cases dS w <;> simp only [FP.Core.signed, if_true, if_false, Bool.false_eq_true] <;> push_cast <;> grind
  rw [key x (Nat.min_le_left _ _), key y (Nat.min_le_right _ _)]
theorem dcmp_num {x y : UInt64} (hx : dNum x) (hy : dNum y) : FP.dcmp x y = some (compare (dK x) (dK y)) := by
  unfold dNum at hx hy
  by_cases fx : dFin x
  · by_cases fy : dFin y
    · exact dcmp_fin fx fy
    · have ey : dP y = 9218868437227405312 := by unfold dFin at fy; omega
      unfold FP.dcmp FP.Core.dcmp FP.Core.cmp
      rw [d_dec fx, d_decInf ey]
      unfold FP.Core.order
      simp only
      unfold dFin at fx
      congr 1
      rw [dK_eq, dK_eq, ey]
      cases dS x <;> cases dS y <;> simp only [FP.Core.signed, if_true, if_false, Bool.false_eq_true, compare, compareOfLessAndEq] <;> (repeat' split) <;> first | rfl | omega
  · have ex : dP x = 9218868437227405312 := by unfold dFin at fx; omega
    by_cases fy : dFin y
    · unfold FP.dcmp FP.Core.dcmp FP.Core.cmp
      rw [d_dec fy, d_decInf ex]
      unfold FP.Core.order
      simp only
      unfold dFin at fy
      congr 1
      rw [dK_eq, dK_eq, ex]
      cases dS x <;> cases dS y <;> simp only [FP.Core.signed, if_true, if_false, Bool.false_eq_true, compare, compareOfLessAndEq] <;> (repeat' split) <;> first | rfl | omega
    · have ey : dP y = 9218868437227405312 := by unfold dFin at fy; omega
      unfold FP.dcmp FP.Core.dcmp FP.Core.cmp
      rw [d_decInf ex, d_decInf ey]
      unfold FP.Core.order
      simp only
      congr 1
      rw [dK_eq, dK_eq, ex, ey]
      cases dS x <;> cases dS y <;> rfl
/-- what dcmp and a branch behind it tell -/
theorem cmpV {x y : UInt64} {op : CmpOp} (hx : dNum x) (hy : dNum y) : Op.cmpValue (FP.dcmp x y) op = if dK x < dK y then -1 else if dK x = dK y then 0 else 1 := by
  rw [dcmp_num hx hy]
  simp only [compare, compareOfLessAndEq]
  cases op <;> (repeat' split) <;> first | rfl | (exfalso; omega)
/-- the product with 2^i -/
theorem dmul_pow {x y : UInt64} (hx : dFin x) {i : Int} (hy : FP.Core.decode FP.Core.b64 y.toNat = .fin false 4503599627370496 (i - 52)) : (FP.dmul x y).toNat = (dS x).toNat * 9223372036854775808 + rB (dC x) (dQ x + i) := by
  unfold FP.dmul FP.Core.dmul FP.Core.mul
  rw [d_dec hx, hy]
  unfold FP.Core.exactProduct FP.Core.round
  simp only
  rw [enc_round, UInt64.toNat_ofNat']
  have e : (4503599627370496 : Nat) = 2 ^ 52 := rfl
  rw [e, rB_scale]
  have e3 : -1074 + (dQ x : Int) + (i - 52) + 1074 + ((52 : Nat) : Int) = dQ x + i := by omega
  rw [e3]
  have e4 : (dS x != false) = dS x := by cases dS x <;> rfl
  rw [e4]
  exact Nat.mod_eq_of_lt (sum_lt _ _ (rB_le _ _))
/-! ### what is a double's number stays it -/
theorem rB_fix (b : Nat) (h : b < 9218868437227405312) : rB (if b / 4503599627370496 = 0 then b else 4503599627370496 + b % 4503599627370496) ((b / 4503599627370496 - 1 : Nat) : Int) = b := by
  have l52 : ∀ c : Nat, 4503599627370496 ≤ c → c < 9007199254740992 → c.log2 = 52 := fun c h1 h2 => (Nat.log2_eq_iff (by omega)).mpr ⟨h1, h2⟩
  unfold rB
  by_cases h0 : b / 4503599627370496 = 0
  · simp only [if_pos h0, h0, if_true]
    by_cases hb : b = 0
    · rw [if_pos hb, hb]
    · rw [if_neg hb]
      have hl : b.log2 < 52 := (Nat.log2_lt hb).mpr (by show b < 4503599627370496; omega)
      have hk : rk b ((0 - 1 : Nat) : Int) = 0 := by unfold rk; omega
      unfold rN
      rw [hk]
      simp [near_one]
      omega
  · simp only [if_neg h0]
    rw [if_neg (by omega)]
    have hl := l52 (4503599627370496 + b % 4503599627370496) (by omega) (by omega)
    have hk : rk (4503599627370496 + b % 4503599627370496) ((b / 4503599627370496 - 1 : Nat) : Int) = b / 4503599627370496 - 1 := by unfold rk; rw [hl]; omega
    unfold rN
    rw [hk]
    simp [near_one]
    omega
theorem rB_uB {b : Nat} (h : b < 9218868437227405312) : rB (uB b) 0 = b := by
  have h1 := rB_fix b h
  unfold uB
  by_cases h0 : b / 4503599627370496 = 0
  · rw [if_pos h0] at h1 ⊢
    rw [h0] at h1
    exact h1
  · rw [if_neg h0] at h1 ⊢
    rw [rB_scale]
    rw [Int.zero_add]
    exact h1
