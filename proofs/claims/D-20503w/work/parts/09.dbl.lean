/-! ## doubles by their bits: points, places, steps -/
set_option maxRecDepth 100000
def dP (x : UInt64) : Nat := x.toNat % 9223372036854775808
def dS (x : UInt64) : Bool := decide (9223372036854775808 ≤ x.toNat)
def dE (x : UInt64) : Nat := dP x / 4503599627370496
def dF (x : UInt64) : Nat := dP x % 4503599627370496
def dFin (x : UInt64) : Prop := dP x < 9218868437227405312
def dNum (x : UInt64) : Prop := dP x ≤ 9218868437227405312
abbrev lI (i : Int) : Int64 := Int64.ofInt i
/-- the place: the point with the sign -/
def dK (x : UInt64) : Int := if dS x then -(dP x : Int) else (dP x : Int)
def dOf (i : Int) : UInt64 := UInt64.ofNat (if i < 0 then 9223372036854775808 + i.natAbs else i.natAbs)
theorem dFin.num {x : UInt64} (h : dFin x) : dNum x := Nat.le_of_lt h
theorem dK_eq (x : UInt64) : dK x = if dS x then -(dP x : Int) else (dP x : Int) := rfl
theorem dK_nat (x : UInt64) : dK x = if 9223372036854775808 ≤ x.toNat then (9223372036854775808 : Int) - (x.toNat : Int) else (x.toNat : Int) := by
  have := x.toNat_lt
  unfold dK dS dP
  by_cases h : 9223372036854775808 ≤ x.toNat
  · simp only [h, decide_true, if_true]; omega
  · simp only [h, decide_false, if_false]; simp; omega
theorem d_toNat (x : UInt64) : x.toNat = if dS x then 9223372036854775808 + dP x else dP x := by
  have := x.toNat_lt
  unfold dS dP
  by_cases h : 9223372036854775808 ≤ x.toNat
  · simp only [h, decide_true, if_true]; omega
  · simp only [h, decide_false]; simp; omega
theorem dP_lt (x : UInt64) : dP x < 9223372036854775808 := Nat.mod_lt _ (by decide)
theorem dK_abs (x : UInt64) : (dK x).natAbs = dP x := by
  rw [dK_eq]; cases dS x <;> simp
theorem dK_lt (x : UInt64) : -9223372036854775808 < dK x ∧ dK x < 9223372036854775808 := by
  have := dP_lt x
  have := dK_abs x
  omega
theorem d_ext {x y : UInt64} (h1 : dS x = dS y) (h2 : dP x = dP y) : x = y := by
  apply UInt64.toNat_inj.mp
  rw [d_toNat x, d_toNat y, h1, h2]
theorem dOf_toNat {i : Int} (h1 : -9223372036854775808 < i) (h2 : i < 9223372036854775808) : (dOf i).toNat = if i < 0 then 9223372036854775808 + i.natAbs else i.natAbs := by
  unfold dOf
  rw [UInt64.toNat_ofNat']
  apply Nat.mod_eq_of_lt
  split <;> omega
theorem dOf_P {i : Int} (h1 : -9223372036854775808 < i) (h2 : i < 9223372036854775808) : dP (dOf i) = i.natAbs := by
  unfold dP
  rw [dOf_toNat h1 h2]
  split <;> omega
theorem dOf_S {i : Int} (h1 : -9223372036854775808 < i) (h2 : i < 9223372036854775808) : dS (dOf i) = decide (i < 0) := by
  unfold dS
  rw [dOf_toNat h1 h2]
  by_cases h : i < 0
  · rw [if_pos h]; simp [h]
  · rw [if_neg h]; simp [h]; omega
theorem dOf_K {i : Int} (h1 : -9223372036854775808 < i) (h2 : i < 9223372036854775808) : dK (dOf i) = i := by
  rw [dK_eq, dOf_S h1 h2, dOf_P h1 h2]
  by_cases h : i < 0
  · simp [h]; omega
  · simp [h]; omega
/-- two numbers of one place are one, or the two zeros -/
theorem dK_inj {x y : UInt64} (h : dK x = dK y) : x = y ∨ (dP x = 0 ∧ dP y = 0) := by
  rw [dK_eq, dK_eq] at h
  cases hx : dS x <;> cases hy : dS y <;> simp only [hx, hy, if_true, if_false, Bool.false_eq_true] at h
  · left; exact d_ext (by rw [hx, hy]) (by omega)
  · right; omega
  · right; omega
  · left; exact d_ext (by rw [hx, hy]) (by omega)
/-- the next above, the next below -/
def dUp (x : UInt64) : UInt64 := if x.toNat = 9223372036854775808 then 1 else if x.toNat < 9223372036854775808 then UInt64.ofNat (x.toNat + 1) else UInt64.ofNat (x.toNat - 1)
def dDown (x : UInt64) : UInt64 := if x.toNat = 0 ∨ x.toNat = 9223372036854775808 then 9223372036854775809 else if x.toNat < 9223372036854775808 then UInt64.ofNat (x.toNat - 1) else UInt64.ofNat (x.toNat + 1)
theorem dUp_toNat {x : UInt64} (h : dFin x) : (dUp x).toNat = if x.toNat = 9223372036854775808 then 1 else if x.toNat < 9223372036854775808 then x.toNat + 1 else x.toNat - 1 := by
  have := x.toNat_lt
  unfold dFin dP at h
  unfold dUp
  split
  · rfl
  · split
    · rw [UInt64.toNat_ofNat']; apply Nat.mod_eq_of_lt; omega
    · rw [UInt64.toNat_ofNat']; apply Nat.mod_eq_of_lt; omega
theorem dDown_toNat {x : UInt64} (h : dFin x) : (dDown x).toNat = if x.toNat = 0 ∨ x.toNat = 9223372036854775808 then 9223372036854775809 else if x.toNat < 9223372036854775808 then x.toNat - 1 else x.toNat + 1 := by
  have := x.toNat_lt
  unfold dFin dP at h
  unfold dDown
  split
  · rfl
  · split
    · rw [UInt64.toNat_ofNat']; apply Nat.mod_eq_of_lt; omega
    · rw [UInt64.toNat_ofNat']; apply Nat.mod_eq_of_lt; omega
theorem dUp_K {x : UInt64} (h : dFin x) : dK (dUp x) = dK x + 1 := by
  have h1 := dUp_toNat h
  have := x.toNat_lt
  unfold dFin dP at h
  rw [dK_nat, dK_nat, h1]
  split <;> split <;> (try split) <;> (try split) <;> omega
theorem dDown_K {x : UInt64} (h : dFin x) : dK (dDown x) = dK x - 1 := by
  have h1 := dDown_toNat h
  have := x.toNat_lt
  unfold dFin dP at h
  rw [dK_nat, dK_nat, h1]
  split <;> split <;> (try split) <;> (try split) <;> omega
theorem dUp_num {x : UInt64} (h : dFin x) : dNum (dUp x) := by
  have h1 := dUp_toNat h
  have := x.toNat_lt
  unfold dFin dP at h
  unfold dNum dP
  rw [h1]
  split <;> (try split) <;> omega
theorem dDown_num {x : UInt64} (h : dFin x) : dNum (dDown x) := by
  have h1 := dDown_toNat h
  have := x.toNat_lt
  unfold dFin dP at h
  unfold dNum dP
  rw [h1]
  split <;> (try split) <;> omega
/-! ### as longs -/
theorem d_lN (x : UInt64) : x.toInt64 = lN x.toNat := by
  unfold lN
  apply Int64.toBitVec_inj.mp
  simp [UInt64.toInt64, Int64.ofNat]
theorem lN_u {n : Nat} (h : n < 2 ^ 64) : (lN n).toUInt64 = UInt64.ofNat n := by
  apply UInt64.toNat_inj.mp
  rw [u_tn h]
  show (lN n).toBitVec.toNat = n
  exact wb_tn h
theorem d_and (x : UInt64) : x.toInt64 &&& 9223372036854775807 = lN (dP x) := by
  rw [d_lN]
  exact wb_mask (k := 63) x.toNat_lt (by decide)
theorem d_neg (x : UInt64) : x.toInt64 < 0 ↔ dS x = true := by
  rw [d_lN, Int64.lt_iff_toInt_lt, lN_ti x.toNat_lt]
  have := x.toNat_lt
  unfold dS
  simp only [show (2:Nat)^63 = 9223372036854775808 from rfl, Int64.toInt_zero, decide_eq_true_eq]
  split <;> omega
theorem lN_shr52 {n : Nat} (h : n < 2 ^ 64) : ((lN n).toUInt64 >>> ((52 : Int32).toInt64.toUInt64 &&& Int64.toUInt64 63)).toInt64 = lN (n / 4503599627370496) := by
  have := wb_shr (k := 52) h (by decide)
  exact this
theorem lI_toInt {i : Int} (h1 : -9223372036854775808 ≤ i) (h2 : i < 9223372036854775808) : (lI i).toInt = i := Int64.toInt_ofInt_of_le (by omega) (by omega)
theorem lN_lI (n : Nat) : lN n = lI n := by
  unfold lN
  rfl
theorem neg_lN (n : Nat) : -lN n = lI (-(n : Int)) := by
  rw [lN_lI]
  apply Int64.toBitVec_inj.mp
  simp [Int64.ofInt]
