/-! ## numbers by digits of 32 bits -/
set_option maxRecDepth 100000
/-- the first n digits of d, as a number -/
def val (d : Nat → Nat) : Nat → Nat
  | 0 => 0
  | n + 1 => val d n * 4294967296 + d n
/-- the digits from o on, t of them -/
def seg (d : Nat → Nat) (o t : Nat) : Nat := val (fun i => d (o + i)) t
theorem val_cg {d e : Nat → Nat} : ∀ {n : Nat}, (∀ i, i < n → d i = e i) → val d n = val e n
  | 0, _ => rfl
  | n + 1, h => by
    show val d n * 4294967296 + d n = val e n * 4294967296 + e n
    rw [val_cg (fun i hi => h i (by omega)), h n (by omega)]
theorem seg_cg {d e : Nat → Nat} {o t : Nat} (h : ∀ i, o ≤ i → i < o + t → d i = e i) : seg d o t = seg e o t := val_cg fun i hi => h (o + i) (by omega) (by omega)
theorem seg_0 (d : Nat → Nat) (n : Nat) : seg d 0 n = val d n := val_cg fun i _ => by rw [Nat.zero_add]
theorem seg_z (d : Nat → Nat) (o : Nat) : seg d o 0 = 0 := rfl
theorem seg_r (d : Nat → Nat) (o t : Nat) : seg d o (t + 1) = seg d o t * 4294967296 + d (o + t) := rfl
theorem seg_l (d : Nat → Nat) (o : Nat) : ∀ t, seg d o (t + 1) = d o * 4294967296 ^ t + seg d (o + 1) t
  | 0 => by rw [seg_r, seg_z, seg_z]; simp
  | t + 1 => by
    rw [seg_r, seg_l d o t, seg_r d (o + 1) t, Nat.pow_succ, show o + 1 + t = o + (t + 1) by omega]
    grind
theorem seg_lt {d : Nat → Nat} (h : ∀ i, d i < 4294967296) (o : Nat) : ∀ t, seg d o t < 4294967296 ^ t
  | 0 => by rw [seg_z]; decide
  | t + 1 => by
    rw [seg_r, Nat.pow_succ]
    have h1 := seg_lt h o t
    have h2 := h (o + t)
    omega
theorem seg_app (d : Nat → Nat) (o t : Nat) : ∀ u, seg d o (t + u) = seg d o t * 4294967296 ^ u + seg d (o + t) u
  | 0 => by rw [seg_z]; simp
  | u + 1 => by
    rw [show t + (u + 1) = t + u + 1 by omega, seg_r, seg_app d o t u, seg_r, Nat.pow_succ, show o + t + u = o + (t + u) by omega]
    grind
theorem seg_zero {d : Nat → Nat} {o t : Nat} (h : ∀ i, o ≤ i → i < o + t → d i = 0) : seg d o t = 0 := by
  rw [seg_cg (e := fun _ => 0) h]
  induction t with
  | zero => rfl
  | succ t ih => rw [seg_r, ih (fun i h1 h2 => h i h1 (by omega))]
/-- a digit put -/
def dup (d : Nat → Nat) (k x : Nat) : Nat → Nat := fun i => if i = k then x else d i
theorem dup_s {d : Nat → Nat} {k x : Nat} : dup d k x k = x := if_pos rfl
theorem dup_n {d : Nat → Nat} {k x j : Nat} (h : j ≠ k) : dup d k x j = d j := if_neg h
theorem dup_lt {d : Nat → Nat} (h : ∀ i, d i < 4294967296) {k x : Nat} (hx : x < 4294967296) : ∀ i, dup d k x i < 4294967296 := by
  intro i
  unfold dup
  split
  · exact hx
  · exact h i
def dI (d : Nat → Nat) : Nat → Int32 := fun i => nI (d i)
theorem nI_mod (x : Nat) : nI (x % 4294967296) = nI x := by
  apply Int32.toBitVec_inj.mp
  apply BitVec.eq_of_toNat_eq
  show (BitVec.ofNat 32 _).toNat = (BitVec.ofNat 32 _).toNat
  rw [BitVec.toNat_ofNat, BitVec.toNat_ofNat]
  exact Nat.mod_mod _ _
theorem dI_put (d : Nat → Nat) (k x : Nat) : upd (dI d) k (nI x) = dI (dup d k (x % 4294967296)) := by
  funext i
  unfold upd dI dup
  split
  · rw [nI_mod]
  · rfl
theorem nI_inj {a b : Nat} (ha : a < 4294967296) (hb : b < 4294967296) (h : nI a = nI b) : a = b := by
  have e : (nI a).toBitVec.toNat = (nI b).toBitVec.toNat := by rw [h]
  have e1 : (BitVec.ofNat 32 a).toNat = (BitVec.ofNat 32 b).toNat := e
  rw [BitVec.toNat_ofNat, BitVec.toNat_ofNat] at e1
  omega
theorem lN_and (a : Nat) : lN a &&& 4294967295 = lN (a % 4294967296) := by
  apply Int64.toBitVec_inj.mp
  apply BitVec.eq_of_toNat_eq
  rw [Int64.toBitVec_and, BitVec.toNat_and]
  show (BitVec.ofNat 64 a).toNat &&& (2 ^ 32 - 1) = (BitVec.ofNat 64 _).toNat
  rw [BitVec.toNat_ofNat, BitVec.toNat_ofNat, Nat.and_two_pow_sub_one_eq_mod]
  omega
theorem mk32 {x : Int32} {a : Nat} (hx : x = nI a) (h : a < 4294967296) : x.toInt64 &&& 4294967295 = lN a := by
  subst hx
  apply Int64.toBitVec_inj.mp
  apply BitVec.eq_of_toNat_eq
  rw [Int64.toBitVec_and, BitVec.toNat_and, Int32.toBitVec_toInt64]
  show ((BitVec.ofNat 32 a).signExtend 64).toNat &&& (2 ^ 32 - 1) = (BitVec.ofNat 64 a).toNat
  rw [Nat.and_two_pow_sub_one_eq_mod, BitVec.toNat_ofNat, BitVec.toNat_signExtend]
  have e : (BitVec.setWidth 64 (BitVec.ofNat 32 a)).toNat = a := by
    rw [BitVec.toNat_setWidth, BitVec.toNat_ofNat]
    omega
  rw [e]
  split <;> omega
theorem lN_shr32 {a : Nat} (h : a < 18446744073709551616) : ((lN a).toUInt64 >>> (((32 : Int32)).toInt64.toUInt64 &&& Int64.toUInt64 63)).toInt64 = lN (a / 4294967296) := by
  have e : (((32 : Int32)).toInt64.toUInt64 &&& Int64.toUInt64 63) = 32 := by decide
  rw [e, lN_u h]
  apply Int64.toBitVec_inj.mp
  apply BitVec.eq_of_toNat_eq
  show ((UInt64.ofNat a) >>> (32 : UInt64)).toNat = (BitVec.ofNat 64 _).toNat
  rw [UInt64.toNat_shiftRight, u_tn h, BitVec.toNat_ofNat, Nat.shiftRight_eq_div_pow]
  show a / 2 ^ 32 = _
  have : a / 4294967296 ≤ a := Nat.div_le_self _ _
  omega
theorem lN_0 : lN 0 = 0 := rfl
theorem ai_eqU {x y : Int32} {a b : Nat} (hx : x = nI a) (hy : y = nI b) (ha : a < 4294967296) (hb : b < 4294967296) : x = y ↔ a = b := by
  subst hx hy
  exact ⟨nI_inj ha hb, fun h => by rw [h]⟩
/-- one digit times another, with two more, and its rest -/
theorem mul_bd {a b c k : Nat} (ha : a < 4294967296) (hb : b < 4294967296) (hc : c < 4294967296) (hk : k < 4294967296) : a * b + c + k < 18446744073709551616 := by
  have h : a * b ≤ 4294967295 * 4294967295 := Nat.mul_le_mul (by omega) (by omega)
  omega
theorem mul_step {z z' y : Nat → Nat} {b k k' o oy t P : Nat} (hP : P = y oy * b + z o + k) (h : seg z' (o + 1) t + k * 4294967296 ^ t = seg z (o + 1) t + b * seg y (oy + 1) t) (h0 : z' o = P % 4294967296) (hk : k' = P / 4294967296) :
    seg z' o (t + 1) + k' * 4294967296 ^ (t + 1) = seg z o (t + 1) + b * seg y oy (t + 1) := by
  rw [seg_l z' o, seg_l z o, seg_l y oy, h0, hk, Nat.pow_succ]
  have e := Nat.div_add_mod P 4294967296
  generalize seg z' (o + 1) t = S' at *
  generalize seg z (o + 1) t = S at *
  generalize seg y (oy + 1) t = Y at *
  generalize 4294967296 ^ t = E at *
  generalize P / 4294967296 = Q at *
  generalize P % 4294967296 = R at *
  grind
