/-! ## sums of numbers near a knot (written by tools/mk24.py) -/
set_option maxRecDepth 100000
/-- rounded, in units -/
def rR (n : Nat) : Nat := if n < 9007199254740992 then n else FP.Core.nearest n (2 ^ (n.log2 - 52)) * 2 ^ (n.log2 - 52)
def rZ (n : Int) : Int := if n < 0 then -(rR n.natAbs : Int) else (rR n.natAbs : Int)
theorem uB_rB (n : Nat) (h : rB n 0 < 9218868437227405312) : uB (rB n 0) = rR n := by
  by_cases h0 : n = 0
  · subst h0; rfl
  have hl1 : 2 ^ n.log2 ≤ n := Nat.log2_self_le h0
  have hl2 : n < 2 ^ (n.log2 + 1) := Nat.lt_log2_self
  have hk : rk n 0 = n.log2 - 52 := by unfold rk; omega
  have hN : rN n 0 = FP.Core.nearest n (2 ^ (n.log2 - 52)) := by
    unfold rN
    rw [hk, show ((0 : Int) - ((n.log2 - 52 : Nat) : Int)).toNat = 0 by omega, show (((n.log2 - 52 : Nat) : Int) - 0).toNat = n.log2 - 52 by omega, Nat.pow_zero, Nat.mul_one]
  have hb : rB n 0 = rk n 0 * 4503599627370496 + rN n 0 := by
    unfold rB at h ⊢
    rw [if_neg h0] at h ⊢
    omega
  rw [hb]
  unfold rR
  by_cases h53 : n < 9007199254740992
  · rw [if_pos h53]
    have hlt : n.log2 < 53 := (Nat.log2_lt h0).mpr h53
    have e0 : n.log2 - 52 = 0 := by omega
    rw [hN, hk, e0, Nat.pow_zero, near_one, Nat.zero_mul, Nat.zero_add]
    unfold uB
    by_cases q : n / 4503599627370496 = 0
    · rw [if_pos q]
    · rw [if_neg q]
      have : n / 4503599627370496 = 1 := by omega
      rw [this, Nat.sub_self, Nat.pow_zero]
      omega
  · rw [if_neg h53]
    have hge : ¬ n.log2 < 53 := fun q => h53 ((Nat.log2_lt h0).mp q)
    have h1 := rN_ge (j := 0) h0 (by rw [hk]; omega)
    have h2 := rN_le (j := 0) h0
    rw [hk, ← hN]
    generalize hK : n.log2 - 52 = K
    generalize rN n 0 = N at *
    unfold uB
    have hd : (K * 4503599627370496 + N) / 4503599627370496 = K + N / 4503599627370496 := by omega
    rw [hd, if_neg (by omega)]
    by_cases q : N = 9007199254740992
    · rw [q, show K + 9007199254740992 / 4503599627370496 - 1 = K + 1 by omega, show (K * 4503599627370496 + 9007199254740992) % 4503599627370496 = 0 by omega, Nat.pow_succ]
      omega
    · rw [show N / 4503599627370496 = 1 by omega, show K + 1 - 1 = K by omega, show (K * 4503599627370496 + N) % 4503599627370496 = N - 4503599627370496 by omega, show 4503599627370496 + (N - 4503599627370496) = N by omega]
/-- the greatest number's units -/
def maxU : Nat := 9007199254740991 * 2 ^ 2045
theorem rB_fin (n : Nat) (h : n ≤ maxU) : rB n 0 < 9218868437227405312 := by
  by_cases h0 : n = 0
  · subst h0; decide
  have hlt : n.log2 < 2098 := by
    refine (Nat.log2_lt h0).mpr (Nat.lt_of_le_of_lt h ?_)
    unfold maxU
    decide +kernel
  have hk : rk n 0 = n.log2 - 52 := by unfold rk; omega
  have h2 := rN_le (j := 0) h0
  unfold rB
  rw [if_neg h0]
  by_cases q : n.log2 - 52 < 2045
  · rw [hk]; omega
  · have e : n.log2 - 52 = 2045 := by omega
    have h3 : rN n 0 ≤ 9007199254740991 := by
      unfold rN
      rw [hk, e]
      exact near_le (Nat.two_pow_pos _) (by show n * 2 ^ 0 ≤ _ * 2 ^ 2045; rw [Nat.pow_zero, Nat.mul_one]; exact h)
    rw [hk, e]
    omega
theorem d_of {x : UInt64} {s : Bool} {b : Nat} (h : x.toNat = s.toNat * 9223372036854775808 + b) (hb : b < 9223372036854775808) : dP x = b ∧ dS x = s := by
  unfold dP dS
  cases s <;> simp at h <;> simp [h] <;> omega
/-- a value of a sum, rounded -/
theorem d_sum {x : UInt64} {s : Bool} {n : Int} (h : x.toNat = s.toNat * 9223372036854775808 + rB n.natAbs 0) (hn : n.natAbs ≤ maxU) (hs : n ≠ 0 → s = decide (n < 0)) : dFin x ∧ dZ x = rZ n := by
  have h1 := rB_fin _ hn
  obtain ⟨h2, h3⟩ := d_of h (by omega)
  refine ⟨by unfold dFin; rw [h2]; exact h1, ?_⟩
  unfold dZ rZ
  rw [dU_uB, h2, h3, uB_rB _ h1]
  by_cases h0 : n = 0
  · subst h0
    have : rR (0 : Int).natAbs = 0 := by decide
    rw [this]
    cases s <;> rfl
  · rw [hs h0]
    by_cases q : n < 0 <;> simp [q]
theorem dadd_Z {x y : UInt64} (hx : dFin x) (hy : dFin y) (h : (dZ x + dZ y).natAbs ≤ maxU) : dFin (FP.dadd x y) ∧ dZ (FP.dadd x y) = rZ (dZ x + dZ y) :=
  d_sum (dadd_nat hx hy) h (fun q => by unfold FP.Core.sumSign; rw [if_neg q])
theorem dsub_Z {x y : UInt64} (hx : dFin x) (hy : dFin y) (h : (dZ x - dZ y).natAbs ≤ maxU) : dFin (FP.dsub x y) ∧ dZ (FP.dsub x y) = rZ (dZ x - dZ y) :=
  d_sum (dsub_nat hx hy) h (fun q => by unfold FP.Core.sumSign; rw [if_neg q])
theorem dadd_S {x y : UInt64} (hx : dFin x) (hy : dFin y) : dS (FP.dadd x y) = FP.Core.sumSign (dS x) (dS y) (dZ x + dZ y) :=
  (d_of (dadd_nat hx hy) (Nat.lt_of_le_of_lt (rB_le _ _) (by decide))).2
theorem dsub_S {x y : UInt64} (hx : dFin x) (hy : dFin y) : dS (FP.dsub x y) = FP.Core.sumSign (dS x) (!dS y) (dZ x - dZ y) :=
  (d_of (dsub_nat hx hy) (Nat.lt_of_le_of_lt (rB_le _ _) (by decide))).2
/-! ### what a sum loses -/
def l2 (x y : UInt64) : UInt64 := FP.dsub (FP.dadd x y) x
def l3 (x y : UInt64) : UInt64 := FP.dsub (FP.dadd x y) (l2 x y)
def l4 (x y : UInt64) : UInt64 := FP.dsub x (l3 x y)
def l5 (x y : UInt64) : UInt64 := FP.dsub y (l2 x y)
/-- what lostOf answers -/
def lost (x y : UInt64) : UInt64 := FP.dadd (l4 x y) (l5 x y)
def sv (s : Bool) (n : Nat) : Int := if s then -(n : Int) else (n : Int)
/-- a number worked out before it goes on -/
def fz (n : Nat) (f : Nat → Bool) : Bool := match n with
  | 0 => f 0
  | m + 1 => f (Nat.succ m)
theorem fz_eq (n : Nat) (f : Nat → Bool) : fz n f = f n := by cases n <;> rfl
def addS (s1 : Bool) (n1 : Nat) (s2 : Bool) (n2 : Nat) (k : Bool → Nat → Bool) : Bool :=
  match s1, s2 with
  | true, true => fz (Nat.add n1 n2) (k true)
  | false, false => fz (Nat.add n1 n2) (k false)
  | true, false => match Nat.ble n2 n1 with
    | true => fz (Nat.sub n1 n2) (k true)
    | false => fz (Nat.sub n2 n1) (k false)
  | false, true => match Nat.ble n2 n1 with
    | true => fz (Nat.sub n1 n2) (k false)
    | false => fz (Nat.sub n2 n1) (k true)
theorem addS_ok (s1 : Bool) (n1 : Nat) (s2 : Bool) (n2 : Nat) : ∃ s n, sv s n = sv s1 n1 + sv s2 n2 ∧ ∀ k, addS s1 n1 s2 n2 k = k s n := by
  cases s1 <;> cases s2
  · exact ⟨false, n1 + n2, by simp [sv], fun k => fz_eq _ _⟩
  · by_cases h : n2 ≤ n1
    · exact ⟨false, n1 - n2, by simp [sv]; omega, fun k => by unfold addS; simp only [Nat.ble_eq_true_of_le h]; exact fz_eq _ _⟩
    · refine ⟨true, n2 - n1, by simp [sv]; omega, fun k => ?_⟩
      unfold addS
      have e : Nat.ble n2 n1 = false := by cases q : Nat.ble n2 n1 with | false => rfl | true => exact absurd (Nat.le_of_ble_eq_true q) h
      simp only [e]
      exact fz_eq _ _
  · by_cases h : n2 ≤ n1
    · exact ⟨true, n1 - n2, by simp [sv]; omega, fun k => by unfold addS; simp only [Nat.ble_eq_true_of_le h]; exact fz_eq _ _⟩
    · refine ⟨false, n2 - n1, by simp [sv]; omega, fun k => ?_⟩
      unfold addS
      have e : Nat.ble n2 n1 = false := by cases q : Nat.ble n2 n1 with | false => rfl | true => exact absurd (Nat.le_of_ble_eq_true q) h
      simp only [e]
      exact fz_eq _ _
  · exact ⟨true, n1 + n2, by simp [sv]; omega, fun k => fz_eq _ _⟩
theorem ble_f {a b : Nat} (h : ¬ a ≤ b) : Nat.ble a b = false := by
  cases q : Nat.ble a b with
  | false => rfl
  | true => exact absurd (Nat.le_of_ble_eq_true q) h
/-- the place of the first digit, sought by halves, and looked at -/
def lgL : List Nat → Nat → Nat → (Nat → Bool) → Bool
  | [], e, n, k => match Nat.ble (Nat.pow 2 e) n with
    | false => false
    | true => match Nat.ble (Nat.pow 2 (Nat.succ e)) n with
      | true => false
      | false => k e
  | w :: ws, e, n, k => match Nat.ble (Nat.pow 2 (Nat.add e w)) n with
    | true => fz (Nat.add e w) fun f => lgL ws f n k
    | false => lgL ws e n k
theorem ra (a b : Nat) : Nat.add a b = a + b := rfl
theorem rs (a b : Nat) : Nat.sub a b = a - b := rfl
theorem rm (a b : Nat) : Nat.mul a b = a * b := rfl
theorem rp (a b : Nat) : Nat.pow a b = a ^ b := rfl
theorem ru (a : Nat) : Nat.succ a = a + 1 := rfl
theorem rd (a b : Nat) : Nat.div a b = a / b := rfl
theorem rmo (a b : Nat) : Nat.mod a b = a % b := rfl
theorem lgL_ok {n : Nat} {k : Nat → Bool} : ∀ (ws : List Nat) (e : Nat), lgL ws e n k = true → k n.log2 = true := by
  intro ws
  induction ws with
  | nil =>
    intro e h
    unfold lgL at h
    simp only [ra, rp, ru] at h
    by_cases h1 : 2 ^ e ≤ n
    · simp only [Nat.ble_eq_true_of_le h1] at h
      by_cases h2 : 2 ^ (e + 1) ≤ n
      · simp only [Nat.ble_eq_true_of_le h2] at h
        cases h
      · simp only [ble_f h2] at h
        have h0 : n ≠ 0 := by
          have := Nat.two_pow_pos e
          omega
        rw [(Nat.log2_eq_iff h0).mpr ⟨h1, Nat.not_le.mp h2⟩]
        exact h
    · simp only [ble_f h1] at h
      cases h
  | cons w ws ih =>
    intro e h
    unfold lgL at h
    simp only [ra, rp, ru] at h
    by_cases h1 : 2 ^ (e + w) ≤ n
    · simp only [Nat.ble_eq_true_of_le h1, fz_eq] at h
      exact ih _ h
    · simp only [ble_f h1] at h
      exact ih _ h
theorem rR_rep {n q m : Nat} (h : n = m * 2 ^ q) (hm : m ≤ 9007199254740991) : rR n = n := by
  unfold rR
  by_cases h1 : n < 9007199254740992
  · rw [if_pos h1]
  · rw [if_neg h1]
    have h0 : n ≠ 0 := by omega
    have hl : n.log2 < 53 + q := by
      refine (Nat.log2_lt h0).mpr ?_
      rw [h, Nat.pow_add]
      exact Nat.mul_lt_mul_of_pos_right (by show m < 9007199254740992; omega) (Nat.two_pow_pos _)
    obtain ⟨d, hd⟩ : ∃ d, q = d + (n.log2 - 52) := ⟨q - (n.log2 - 52), by omega⟩
    have e : n = m * 2 ^ d * 2 ^ (n.log2 - 52) := by rw [Nat.mul_assoc, ← Nat.pow_add, ← hd]; exact h
    generalize n.log2 - 52 = k at *
    have e2 : FP.Core.nearest n (2 ^ k) = m * 2 ^ d := by
      have := near_scale (m * 2 ^ d) 1 (2 ^ k) (Nat.two_pow_pos _)
      rw [Nat.one_mul, near_one, ← e] at this
      exact this
    rw [e2, ← e]
/-- the rounding of what has more digits, its first digit at g -/
def rndK (n : Nat) (k : Nat → Bool) (g : Nat) : Bool := fz (Nat.sub g 52) fun e => fz (Nat.pow 2 e) fun d => fz (Nat.div n d) fun q => fz (Nat.mul 2 (Nat.mod n d)) fun r =>
  match Nat.ble d r with
  | false => fz (Nat.mul q d) k
  | true => match Nat.ble r d with
    | false => fz (Nat.mul (Nat.succ q) d) k
    | true => fz (Nat.mul (Nat.add q (Nat.mod q 2)) d) k
/-- rounded, if it is not too great; D: what divides it, maybe; M: 2^53 - 1 times D; g: where its first digit may stand -/
def rndS (D M g n : Nat) (k : Nat → Bool) : Bool :=
  match Nat.ble n maxU with
  | false => false
  | true => match Nat.beq (Nat.mod n D) 0 && Nat.ble n M with
    | true => k n
    | false => match Nat.ble n 9007199254740991 with
      | true => k n
      | false => match Nat.ble (Nat.pow 2 (Nat.succ g)) n with
        | true => lgL [] (Nat.succ g) n (rndK n k)
        | false => match Nat.ble (Nat.pow 2 g) n with
          | true => lgL [] g n (rndK n k)
          | false => lgL [1024, 512, 256, 128, 64, 32, 16, 8, 4, 2, 1] 52 n (rndK n k)
theorem rndK_ok {n : Nat} {k : Nat → Bool} (h2 : ¬ n ≤ 9007199254740991) (h : rndK n k n.log2 = true) : k (rR n) = true := by
  unfold rndK at h
  simp only [fz_eq, ra, rs, rm, rp, ru, rd, rmo] at h
  unfold rR
  rw [if_neg (by omega)]
  unfold FP.Core.nearest
  by_cases h3 : 2 ^ (n.log2 - 52) ≤ 2 * (n % 2 ^ (n.log2 - 52))
  · simp only [Nat.ble_eq_true_of_le h3] at h
    rw [if_neg (by omega)]
    by_cases h4 : 2 * (n % 2 ^ (n.log2 - 52)) ≤ 2 ^ (n.log2 - 52)
    · simp only [Nat.ble_eq_true_of_le h4] at h
      rw [if_neg (by omega)]
      exact h
    · simp only [ble_f h4] at h
      rw [if_pos (by omega)]
      exact h
  · simp only [ble_f h3] at h
    rw [if_pos (by omega)]
    exact h
theorem rndS_ok {q D M g n : Nat} {k : Nat → Bool} (hD : D = 2 ^ q) (hM : M = 9007199254740991 * D) (h : rndS D M g n k = true) : n ≤ maxU ∧ k (rR n) = true := by
  unfold rndS at h
  by_cases h1 : n ≤ maxU
  · simp only [Nat.ble_eq_true_of_le h1] at h
    refine ⟨h1, ?_⟩
    cases hq : (Nat.beq (Nat.mod n D) 0 && Nat.ble n M) with
    | true =>
      simp only [hq] at h
      rw [Bool.and_eq_true] at hq
      have a1 : n % D = 0 := Nat.eq_of_beq_eq_true hq.1
      have a2 : n ≤ M := Nat.le_of_ble_eq_true hq.2
      have e : n = n / D * 2 ^ q := by rw [← hD]; exact (Nat.div_mul_cancel (Nat.dvd_of_mod_eq_zero a1)).symm
      rw [rR_rep e (by rw [hM] at a2; exact Nat.div_le_of_le_mul (by rw [Nat.mul_comm]; exact a2))]
      exact h
    | false =>
      simp only [hq] at h
      by_cases h2 : n ≤ 9007199254740991
      · simp only [Nat.ble_eq_true_of_le h2] at h
        unfold rR
        rw [if_pos (by omega)]
        exact h
      · simp only [ble_f h2] at h
        refine rndK_ok h2 ?_
        cases h5 : Nat.ble (Nat.pow 2 (Nat.succ g)) n with
        | true => simp only [h5] at h; exact lgL_ok _ _ h
        | false =>
          simp only [h5] at h
          cases h6 : Nat.ble (Nat.pow 2 g) n with
          | true => simp only [h6] at h; exact lgL_ok _ _ h
          | false => simp only [h6] at h; exact lgL_ok _ _ h
  · simp only [ble_f h1] at h
    cases h
theorem rZ_sv (s : Bool) (n : Nat) : rZ (sv s n) = sv s (rR n) := by
  unfold rZ sv
  by_cases h0 : n = 0
  · subst h0
    have : rR 0 = 0 := by decide
    cases s <;> simp [this]
  · cases s
    · simp
      omega
    · simp
      intro q
      omega
theorem sv_abs (s : Bool) (n : Nat) : (sv s n).natAbs = n := by unfold sv; cases s <;> simp
theorem sv_neg (s : Bool) (n : Nat) : sv (!s) n = - sv s n := by unfold sv; cases s <;> simp
/-- a sum, rounded -/
def sumS (D M g : Nat) (s1 : Bool) (n1 : Nat) (s2 : Bool) (n2 : Nat) (k : Bool → Nat → Bool) : Bool := addS s1 n1 s2 n2 fun s n => rndS D M g n (k s)
theorem sumS_ok {q D M g : Nat} (hD : D = 2 ^ q) (hM : M = 9007199254740991 * D) {s1 : Bool} {n1 : Nat} {s2 : Bool} {n2 : Nat} {k : Bool → Nat → Bool} (h : sumS D M g s1 n1 s2 n2 k = true) : ∃ s n, sv s n = rZ (sv s1 n1 + sv s2 n2) ∧ (sv s1 n1 + sv s2 n2).natAbs ≤ maxU ∧ k s n = true := by
  obtain ⟨s, n, e, q⟩ := addS_ok s1 n1 s2 n2
  unfold sumS at h
  rw [q] at h
  obtain ⟨h1, h2⟩ := rndS_ok hD hM h
  exact ⟨s, rR n, by rw [← e, rZ_sv], by rw [← e, sv_abs]; exact h1, h2⟩
/-- nothing of the sum of a and b is lost -/
def lchkS (q g : Nat) (sa : Bool) (a : Nat) (sb : Bool) (b : Nat) : Bool := fz (Nat.pow 2 q) fun D => fz (Nat.mul 9007199254740991 D) fun M =>
  sumS D M g sa a sb b fun ss s => sumS D M g ss s (!sa) a fun st t => sumS D M g ss s (!st) t fun su u => sumS D M g sa a (!su) u fun sv' v => sumS D M g sb b (!st) t fun sw w => sumS D M g sv' v sw w fun sl l =>
    addS ss s sl l fun s1 n1 => addS sa a sb b fun s2 n2 => addS s1 n1 (!s2) n2 fun _ n => Nat.beq n 0
def lchk (a b : Int) : Prop :=
  ((a + b).natAbs ≤ maxU ∧ (rZ (a + b) - a).natAbs ≤ maxU ∧ (rZ (a + b) - rZ (rZ (a + b) - a)).natAbs ≤ maxU) ∧
  ((a - rZ (rZ (a + b) - rZ (rZ (a + b) - a))).natAbs ≤ maxU ∧ (b - rZ (rZ (a + b) - a)).natAbs ≤ maxU ∧ (rZ (a - rZ (rZ (a + b) - rZ (rZ (a + b) - a))) + rZ (b - rZ (rZ (a + b) - a))).natAbs ≤ maxU) ∧
  rZ (a + b) + rZ (rZ (a - rZ (rZ (a + b) - rZ (rZ (a + b) - a))) + rZ (b - rZ (rZ (a + b) - a))) = a + b
theorem lchkS_ok {q g : Nat} {sa : Bool} {a : Nat} {sb : Bool} {b : Nat} (h : lchkS q g sa a sb b = true) : lchk (sv sa a) (sv sb b) := by
  unfold lchkS at h
  simp only [fz_eq, rp, rm] at h
  obtain ⟨s1, n1, e1, b1, h⟩ := sumS_ok rfl rfl h
  obtain ⟨s2, n2, e2, b2, h⟩ := sumS_ok rfl rfl h
  obtain ⟨s3, n3, e3, b3, h⟩ := sumS_ok rfl rfl h
  obtain ⟨s4, n4, e4, b4, h⟩ := sumS_ok rfl rfl h
  obtain ⟨s5, n5, e5, b5, h⟩ := sumS_ok rfl rfl h
  obtain ⟨s6, n6, e6, b6, h⟩ := sumS_ok rfl rfl h
  obtain ⟨s7, n7, e7, q⟩ := addS_ok s1 n1 s6 n6
  rw [q] at h
  obtain ⟨s8, n8, e8, q⟩ := addS_ok sa a sb b
  rw [q] at h
  obtain ⟨s9, n9, e9, q⟩ := addS_ok s7 n7 (!s8) n8
  rw [q] at h
  have h0 : n9 = 0 := Nat.eq_of_beq_eq_true h
  subst h0
  have e0 : sv s9 0 = 0 := by cases s9 <;> rfl
  rw [e0, sv_neg] at e9
  simp only [sv_neg, ← Int.sub_eq_add_neg] at *
  generalize sv sa a = x at *
  generalize sv sb b = y at *
  generalize sv s1 n1 = v1 at *
  generalize sv s2 n2 = v2 at *
  generalize sv s3 n3 = v3 at *
  generalize sv s4 n4 = v4 at *
  generalize sv s5 n5 = v5 at *
  generalize sv s6 n6 = v6 at *
  unfold lchk
  rw [← e1, ← e2, ← e3, ← e4, ← e5, ← e6]
  exact ⟨⟨b1, b2, b3⟩, ⟨b4, b5, b6⟩, by omega⟩
theorem rZ_neg (n : Int) : rZ (-n) = - rZ n := by
  unfold rZ
  rw [Int.natAbs_neg]
  by_cases h0 : n = 0
  · subst h0
    have : rR (Int.natAbs 0) = 0 := by decide
    rw [this]
    rfl
  · by_cases h : n < 0
    · rw [if_pos h, if_neg (by omega)]; simp
    · rw [if_neg h, if_pos (by omega)]
theorem lchk_neg {a b : Int} (h : lchk a b) : lchk (-a) (-b) := by
  unfold lchk at *
  have e1 : -a + -b = -(a + b) := by omega
  rw [e1, rZ_neg]
  generalize rZ (a + b) = s at *
  have e2 : -s - -a = -(s - a) := by omega
  rw [e2, rZ_neg]
  generalize rZ (s - a) = t at *
  have e3 : -s - -t = -(s - t) := by omega
  rw [e3, rZ_neg]
  generalize rZ (s - t) = u at *
  have e4 : -a - -u = -(a - u) := by omega
  have e5 : -b - -t = -(b - t) := by omega
  rw [e4, e5, rZ_neg, rZ_neg]
  generalize rZ (a - u) = v at *
  generalize rZ (b - t) = w at *
  have e6 : -v + -w = -(v + w) := by omega
  rw [e6, rZ_neg]
  simp only [Int.natAbs_neg]
  refine ⟨h.1, h.2.1, ?_⟩
  have := h.2.2
  omega
/-- the operations' answers are numbers -/
def lok (x y : UInt64) : Prop := (dFin x ∧ dFin y) ∧ (dFin (FP.dadd x y) ∧ dFin (l2 x y) ∧ dFin (l3 x y)) ∧ (dFin (l4 x y) ∧ dFin (l5 x y) ∧ dFin (lost x y))
theorem lchk_ok {x y : UInt64} (hx : dFin x) (hy : dFin y) (h : lchk (dZ x) (dZ y)) : lok x y ∧ dZ (FP.dadd x y) + dZ (lost x y) = dZ x + dZ y := by
  unfold lchk at h
  obtain ⟨⟨h1, h2, h3⟩, ⟨h4, h5, h6⟩, h7⟩ := h
  obtain ⟨f1, e1⟩ := dadd_Z hx hy h1
  obtain ⟨f2, e2⟩ := dsub_Z f1 hx (by rw [e1]; exact h2)
  rw [e1] at e2
  obtain ⟨f3, e3⟩ := dsub_Z f1 f2 (by rw [e1, e2]; exact h3)
  rw [e1, e2] at e3
  obtain ⟨f4, e4⟩ := dsub_Z hx f3 (by rw [e3]; exact h4)
  rw [e3] at e4
  obtain ⟨f5, e5⟩ := dsub_Z hy f2 (by rw [e2]; exact h5)
  rw [e2] at e5
  obtain ⟨f6, e6⟩ := dadd_Z f4 f5 (by rw [e4, e5]; exact h6)
  rw [e4, e5] at e6
  refine ⟨⟨⟨hx, hy⟩, ⟨f1, f2, f3⟩, ⟨f4, f5, f6⟩⟩, ?_⟩
  rw [show dZ (lost x y) = _ from e6, e1]
  exact h7
def nPts : List Nat := [0, 1, 2251799813685246, 2251799813685247, 2251799813685248, 2251799813685249, 4503599627370494, 4503599627370495, 4503599627370496, 4503599627370497, 9007199254740990, 9007199254740991, 9007199254740992, 9007199254740993, 236438980436951038, 236438980436951039, 236438980436951040, 236438980436951041, 238690780250636286, 238690780250636287, 238690780250636288, 238690780250636289, 243194379878006782, 243194379878006783, 243194379878006784, 243194379878006785, 2307344209089484115, 2307344209089484116, 2307344209089484117, 2307344209089484118, 4363988038922010622, 4363988038922010623, 4363988038922010624, 4363988038922010625, 4368491638549381118, 4368491638549381119, 4368491638549381120, 4368491638549381121, 4372995238176751614, 4372995238176751615, 4372995238176751616, 4372995238176751617, 4488287388637436312, 4488287388637436313, 4488287388637436314, 4488287388637436315, 4591870180066957720, 4591870180066957721, 4591870180066957722, 4591870180066957723, 4599676419421066579, 4599676419421066580, 4599676419421066581, 4599676419421066582, 4602678819172646910, 4602678819172646911, 4602678819172646912, 4602678819172646913, 4605681218924227240, 4605681218924227241, 4605681218924227242, 4605681218924227243, 4607182418800017406, 4607182418800017407, 4607182418800017408, 4607182418800017409, 4609434218613702654, 4609434218613702655, 4609434218613702656, 4609434218613702657, 4611686018427387902, 4611686018427387903, 4611686018427387904, 4611686018427387905, 4614256656552045846, 4614256656552045847, 4614256656552045848, 4614256656552045849, 4616189618054758398, 4616189618054758399, 4616189618054758400, 4616189618054758401, 4621819117588971518, 4621819117588971519, 4621819117588971520, 4621819117588971521, 4726527808925335551, 4726527808925335552, 4726527808925335553, 4726527808925335554, 4836865999795912702, 4836865999795912703, 4836865999795912704, 4836865999795912705, 4841369599423283198, 4841369599423283199, 4841369599423283200, 4841369599423283201, 4845873199050653694, 4845873199050653695, 4845873199050653696, 4845873199050653697, 4847374398926443859, 4847374398926443860, 4847374398926443861, 4847374398926443862, 4936068648387075959, 4936068648387075960, 4936068648387075961, 4936068648387075962, 6758101600832166296, 6758101600832166297, 6758101600832166298, 6758101600832166299, 9209861237972664318, 9209861237972664319, 9209861237972664320, 9209861237972664321, 9214364837600034814, 9214364837600034815]
/-- a point's sums with all points, of either sign -/
def lrow (p : Nat) : Bool := fz (uB p) fun a => nPts.all fun q => fz (uB q) fun b => fz (min (p / 4503599627370496) (q / 4503599627370496) - 1) fun d => fz (max p q / 4503599627370496 + 51) fun g => lchkS d g false a false b && lchkS d g false a true b
theorem nPts_ok : ∀ i : Nat, i < 32 → ∀ j : Nat, j < 4 → 2 ≤ kPt i + j → (kPt i + j - 2) / 4503599627370496 ≤ 2045 → nPts.contains (kPt i + j - 2) = true := by decide +kernel
theorem lrow_0 : lrow 0 = true := by decide +kernel
theorem lrow_1 : lrow 1 = true := by decide +kernel
theorem lrow_2 : lrow 2251799813685246 = true := by decide +kernel
theorem lrow_3 : lrow 2251799813685247 = true := by decide +kernel
theorem lrow_4 : lrow 2251799813685248 = true := by decide +kernel
theorem lrow_5 : lrow 2251799813685249 = true := by decide +kernel
theorem lrow_6 : lrow 4503599627370494 = true := by decide +kernel
theorem lrow_7 : lrow 4503599627370495 = true := by decide +kernel
theorem lrow_8 : lrow 4503599627370496 = true := by decide +kernel
theorem lrow_9 : lrow 4503599627370497 = true := by decide +kernel
theorem lrow_10 : lrow 9007199254740990 = true := by decide +kernel
theorem lrow_11 : lrow 9007199254740991 = true := by decide +kernel
theorem lrow_12 : lrow 9007199254740992 = true := by decide +kernel
theorem lrow_13 : lrow 9007199254740993 = true := by decide +kernel
theorem lrow_14 : lrow 236438980436951038 = true := by decide +kernel
theorem lrow_15 : lrow 236438980436951039 = true := by decide +kernel
theorem lrow_16 : lrow 236438980436951040 = true := by decide +kernel
theorem lrow_17 : lrow 236438980436951041 = true := by decide +kernel
theorem lrow_18 : lrow 238690780250636286 = true := by decide +kernel
theorem lrow_19 : lrow 238690780250636287 = true := by decide +kernel
theorem lrow_20 : lrow 238690780250636288 = true := by decide +kernel
theorem lrow_21 : lrow 238690780250636289 = true := by decide +kernel
theorem lrow_22 : lrow 243194379878006782 = true := by decide +kernel
theorem lrow_23 : lrow 243194379878006783 = true := by decide +kernel
theorem lrow_24 : lrow 243194379878006784 = true := by decide +kernel
theorem lrow_25 : lrow 243194379878006785 = true := by decide +kernel
theorem lrow_26 : lrow 2307344209089484115 = true := by decide +kernel
theorem lrow_27 : lrow 2307344209089484116 = true := by decide +kernel
theorem lrow_28 : lrow 2307344209089484117 = true := by decide +kernel
theorem lrow_29 : lrow 2307344209089484118 = true := by decide +kernel
theorem lrow_30 : lrow 4363988038922010622 = true := by decide +kernel
theorem lrow_31 : lrow 4363988038922010623 = true := by decide +kernel
theorem lrow_32 : lrow 4363988038922010624 = true := by decide +kernel
theorem lrow_33 : lrow 4363988038922010625 = true := by decide +kernel
theorem lrow_34 : lrow 4368491638549381118 = true := by decide +kernel
theorem lrow_35 : lrow 4368491638549381119 = true := by decide +kernel
theorem lrow_36 : lrow 4368491638549381120 = true := by decide +kernel
theorem lrow_37 : lrow 4368491638549381121 = true := by decide +kernel
theorem lrow_38 : lrow 4372995238176751614 = true := by decide +kernel
theorem lrow_39 : lrow 4372995238176751615 = true := by decide +kernel
theorem lrow_40 : lrow 4372995238176751616 = true := by decide +kernel
theorem lrow_41 : lrow 4372995238176751617 = true := by decide +kernel
theorem lrow_42 : lrow 4488287388637436312 = true := by decide +kernel
theorem lrow_43 : lrow 4488287388637436313 = true := by decide +kernel
theorem lrow_44 : lrow 4488287388637436314 = true := by decide +kernel
theorem lrow_45 : lrow 4488287388637436315 = true := by decide +kernel
theorem lrow_46 : lrow 4591870180066957720 = true := by decide +kernel
theorem lrow_47 : lrow 4591870180066957721 = true := by decide +kernel
theorem lrow_48 : lrow 4591870180066957722 = true := by decide +kernel
theorem lrow_49 : lrow 4591870180066957723 = true := by decide +kernel
theorem lrow_50 : lrow 4599676419421066579 = true := by decide +kernel
theorem lrow_51 : lrow 4599676419421066580 = true := by decide +kernel
theorem lrow_52 : lrow 4599676419421066581 = true := by decide +kernel
theorem lrow_53 : lrow 4599676419421066582 = true := by decide +kernel
theorem lrow_54 : lrow 4602678819172646910 = true := by decide +kernel
theorem lrow_55 : lrow 4602678819172646911 = true := by decide +kernel
theorem lrow_56 : lrow 4602678819172646912 = true := by decide +kernel
theorem lrow_57 : lrow 4602678819172646913 = true := by decide +kernel
theorem lrow_58 : lrow 4605681218924227240 = true := by decide +kernel
theorem lrow_59 : lrow 4605681218924227241 = true := by decide +kernel
theorem lrow_60 : lrow 4605681218924227242 = true := by decide +kernel
theorem lrow_61 : lrow 4605681218924227243 = true := by decide +kernel
theorem lrow_62 : lrow 4607182418800017406 = true := by decide +kernel
theorem lrow_63 : lrow 4607182418800017407 = true := by decide +kernel
theorem lrow_64 : lrow 4607182418800017408 = true := by decide +kernel
theorem lrow_65 : lrow 4607182418800017409 = true := by decide +kernel
theorem lrow_66 : lrow 4609434218613702654 = true := by decide +kernel
theorem lrow_67 : lrow 4609434218613702655 = true := by decide +kernel
theorem lrow_68 : lrow 4609434218613702656 = true := by decide +kernel
theorem lrow_69 : lrow 4609434218613702657 = true := by decide +kernel
theorem lrow_70 : lrow 4611686018427387902 = true := by decide +kernel
theorem lrow_71 : lrow 4611686018427387903 = true := by decide +kernel
theorem lrow_72 : lrow 4611686018427387904 = true := by decide +kernel
theorem lrow_73 : lrow 4611686018427387905 = true := by decide +kernel
theorem lrow_74 : lrow 4614256656552045846 = true := by decide +kernel
theorem lrow_75 : lrow 4614256656552045847 = true := by decide +kernel
theorem lrow_76 : lrow 4614256656552045848 = true := by decide +kernel
theorem lrow_77 : lrow 4614256656552045849 = true := by decide +kernel
theorem lrow_78 : lrow 4616189618054758398 = true := by decide +kernel
theorem lrow_79 : lrow 4616189618054758399 = true := by decide +kernel
theorem lrow_80 : lrow 4616189618054758400 = true := by decide +kernel
theorem lrow_81 : lrow 4616189618054758401 = true := by decide +kernel
theorem lrow_82 : lrow 4621819117588971518 = true := by decide +kernel
theorem lrow_83 : lrow 4621819117588971519 = true := by decide +kernel
theorem lrow_84 : lrow 4621819117588971520 = true := by decide +kernel
theorem lrow_85 : lrow 4621819117588971521 = true := by decide +kernel
theorem lrow_86 : lrow 4726527808925335551 = true := by decide +kernel
theorem lrow_87 : lrow 4726527808925335552 = true := by decide +kernel
theorem lrow_88 : lrow 4726527808925335553 = true := by decide +kernel
theorem lrow_89 : lrow 4726527808925335554 = true := by decide +kernel
theorem lrow_90 : lrow 4836865999795912702 = true := by decide +kernel
theorem lrow_91 : lrow 4836865999795912703 = true := by decide +kernel
theorem lrow_92 : lrow 4836865999795912704 = true := by decide +kernel
theorem lrow_93 : lrow 4836865999795912705 = true := by decide +kernel
theorem lrow_94 : lrow 4841369599423283198 = true := by decide +kernel
theorem lrow_95 : lrow 4841369599423283199 = true := by decide +kernel
theorem lrow_96 : lrow 4841369599423283200 = true := by decide +kernel
theorem lrow_97 : lrow 4841369599423283201 = true := by decide +kernel
theorem lrow_98 : lrow 4845873199050653694 = true := by decide +kernel
theorem lrow_99 : lrow 4845873199050653695 = true := by decide +kernel
theorem lrow_100 : lrow 4845873199050653696 = true := by decide +kernel
theorem lrow_101 : lrow 4845873199050653697 = true := by decide +kernel
theorem lrow_102 : lrow 4847374398926443859 = true := by decide +kernel
theorem lrow_103 : lrow 4847374398926443860 = true := by decide +kernel
theorem lrow_104 : lrow 4847374398926443861 = true := by decide +kernel
theorem lrow_105 : lrow 4847374398926443862 = true := by decide +kernel
theorem lrow_106 : lrow 4936068648387075959 = true := by decide +kernel
theorem lrow_107 : lrow 4936068648387075960 = true := by decide +kernel
theorem lrow_108 : lrow 4936068648387075961 = true := by decide +kernel
theorem lrow_109 : lrow 4936068648387075962 = true := by decide +kernel
theorem lrow_110 : lrow 6758101600832166296 = true := by decide +kernel
theorem lrow_111 : lrow 6758101600832166297 = true := by decide +kernel
theorem lrow_112 : lrow 6758101600832166298 = true := by decide +kernel
theorem lrow_113 : lrow 6758101600832166299 = true := by decide +kernel
theorem lrow_114 : lrow 9209861237972664318 = true := by decide +kernel
theorem lrow_115 : lrow 9209861237972664319 = true := by decide +kernel
theorem lrow_116 : lrow 9209861237972664320 = true := by decide +kernel
theorem lrow_117 : lrow 9209861237972664321 = true := by decide +kernel
theorem lrow_118 : lrow 9214364837600034814 = true := by decide +kernel
theorem lrow_119 : lrow 9214364837600034815 = true := by decide +kernel
theorem lrow_all : ∀ p ∈ nPts, lrow p = true := by
  intro p hp
  simp only [nPts, List.mem_cons, List.not_mem_nil, or_false] at hp
  rcases hp with rfl | rfl | rfl | rfl | rfl | rfl | rfl | rfl | rfl | rfl | rfl | rfl | rfl | rfl | rfl | rfl | rfl | rfl | rfl | rfl | rfl | rfl | rfl | rfl | rfl | rfl | rfl | rfl | rfl | rfl | rfl | rfl | rfl | rfl | rfl | rfl | rfl | rfl | rfl | rfl | rfl | rfl | rfl | rfl | rfl | rfl | rfl | rfl | rfl | rfl | rfl | rfl | rfl | rfl | rfl | rfl | rfl | rfl | rfl | rfl | rfl | rfl | rfl | rfl | rfl | rfl | rfl | rfl | rfl | rfl | rfl | rfl | rfl | rfl | rfl | rfl | rfl | rfl | rfl | rfl | rfl | rfl | rfl | rfl | rfl | rfl | rfl | rfl | rfl | rfl | rfl | rfl | rfl | rfl | rfl | rfl | rfl | rfl | rfl | rfl | rfl | rfl | rfl | rfl | rfl | rfl | rfl | rfl | rfl | rfl | rfl | rfl | rfl | rfl | rfl | rfl | rfl | rfl | rfl | rfl
  · exact lrow_0
  · exact lrow_1
  · exact lrow_2
  · exact lrow_3
  · exact lrow_4
  · exact lrow_5
  · exact lrow_6
  · exact lrow_7
  · exact lrow_8
  · exact lrow_9
  · exact lrow_10
  · exact lrow_11
  · exact lrow_12
  · exact lrow_13
  · exact lrow_14
  · exact lrow_15
  · exact lrow_16
  · exact lrow_17
  · exact lrow_18
  · exact lrow_19
  · exact lrow_20
  · exact lrow_21
  · exact lrow_22
  · exact lrow_23
  · exact lrow_24
  · exact lrow_25
  · exact lrow_26
  · exact lrow_27
  · exact lrow_28
  · exact lrow_29
  · exact lrow_30
  · exact lrow_31
  · exact lrow_32
  · exact lrow_33
  · exact lrow_34
  · exact lrow_35
  · exact lrow_36
  · exact lrow_37
  · exact lrow_38
  · exact lrow_39
  · exact lrow_40
  · exact lrow_41
  · exact lrow_42
  · exact lrow_43
  · exact lrow_44
  · exact lrow_45
  · exact lrow_46
  · exact lrow_47
  · exact lrow_48
  · exact lrow_49
  · exact lrow_50
  · exact lrow_51
  · exact lrow_52
  · exact lrow_53
  · exact lrow_54
  · exact lrow_55
  · exact lrow_56
  · exact lrow_57
  · exact lrow_58
  · exact lrow_59
  · exact lrow_60
  · exact lrow_61
  · exact lrow_62
  · exact lrow_63
  · exact lrow_64
  · exact lrow_65
  · exact lrow_66
  · exact lrow_67
  · exact lrow_68
  · exact lrow_69
  · exact lrow_70
  · exact lrow_71
  · exact lrow_72
  · exact lrow_73
  · exact lrow_74
  · exact lrow_75
  · exact lrow_76
  · exact lrow_77
  · exact lrow_78
  · exact lrow_79
  · exact lrow_80
  · exact lrow_81
  · exact lrow_82
  · exact lrow_83
  · exact lrow_84
  · exact lrow_85
  · exact lrow_86
  · exact lrow_87
  · exact lrow_88
  · exact lrow_89
  · exact lrow_90
  · exact lrow_91
  · exact lrow_92
  · exact lrow_93
  · exact lrow_94
  · exact lrow_95
  · exact lrow_96
  · exact lrow_97
  · exact lrow_98
  · exact lrow_99
  · exact lrow_100
  · exact lrow_101
  · exact lrow_102
  · exact lrow_103
  · exact lrow_104
  · exact lrow_105
  · exact lrow_106
  · exact lrow_107
  · exact lrow_108
  · exact lrow_109
  · exact lrow_110
  · exact lrow_111
  · exact lrow_112
  · exact lrow_113
  · exact lrow_114
  · exact lrow_115
  · exact lrow_116
  · exact lrow_117
  · exact lrow_118
  · exact lrow_119
theorem lchk_all : ∀ p ∈ nPts, ∀ q ∈ nPts, ∀ s t : Bool, lchk (sv s (uB p)) (sv t (uB q)) := by
  intro p hp q hq s t
  have h := lrow_all p hp
  unfold lrow at h
  rw [fz_eq] at h
  have h := List.all_eq_true.mp h q hq
  simp only [fz_eq, Bool.and_eq_true] at h
  cases s <;> cases t
  · exact lchkS_ok h.1
  · exact lchkS_ok h.2
  · have := lchk_neg (lchkS_ok h.2)
    rw [← sv_neg, ← sv_neg] at this
    exact this
  · have := lchk_neg (lchkS_ok h.1)
    rw [← sv_neg, ← sv_neg] at this
    exact this
theorem near_pt {x : UInt64} (h : near x = true) : ∃ i j : Nat, i < 32 ∧ j < 4 ∧ 2 ≤ kPt i + j ∧ dP x = kPt i + j - 2 := by
  unfold near ofs at h
  cases hw : win (dP x) with
  | none => rw [hw] at h; simp at h
  | some i =>
    rw [hw] at h
    simp only [decide_eq_true_eq] at h
    refine ⟨i, dP x + 2 - kPt i, (win_some hw).2.1, by omega, by omega, by omega⟩
theorem near_mem {x : UInt64} (h : near x = true) (h2 : dE x ≤ 2045) : dP x ∈ nPts := by
  obtain ⟨i, j, hi, hj, h3, h4⟩ := near_pt h
  have h5 := nPts_ok i hi j hj h3 (by rw [← h4]; exact h2)
  rw [← h4] at h5
  simpa using h5
theorem dZ_sv (x : UInt64) : dZ x = sv (dS x) (uB (dP x)) := by
  unfold dZ sv
  rw [dU_uB]
theorem near_fin {x : UInt64} (h2 : dE x ≤ 2045) : dFin x := by
  unfold dFin; unfold dE at h2; omega
theorem lok_of {x y : UInt64} (h : addable x y = true) : lok x y ∧ dZ (FP.dadd x y) + dZ (lost x y) = dZ x + dZ y := by
  unfold addable at h
  simp only [Bool.and_eq_true, decide_eq_true_eq] at h
  obtain ⟨⟨⟨h1, h2⟩, h3⟩, h4⟩ := h
  exact lchk_ok (near_fin h3) (near_fin h4) (by rw [dZ_sv, dZ_sv]; exact lchk_all _ (near_mem h1 h3) _ (near_mem h2 h4) _ _)
