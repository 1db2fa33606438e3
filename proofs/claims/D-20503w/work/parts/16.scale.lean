set_option maxRecDepth 100000
theorem rB_inf_mono {c : Nat} {j : Int} (hc : c < 9007199254740992) (hj : 0 ≤ j) (h : rB c j = 9218868437227405312) (i : Nat) : rB c (j + i) = 9218868437227405312 := by
  by_cases h0 : c = 0
  · subst h0; rw [rB_0] at h; omega
  · have hl : c.log2 < 53 := (Nat.log2_lt h0).mpr (by show c < 9007199254740992; exact hc)
    have h2 : c < 2 ^ (c.log2 + 1) := Nat.lt_log2_self
    have hk : 2046 ≤ rk c j := by
      unfold rB at h
      rw [if_neg h0] at h
      have hn : rN c j = c * 2 ^ (j - (rk c j : Int)).toNat := by
        unfold rN
        rw [show ((rk c j : Int) - j).toNat = 0 by unfold rk; omega, Nat.pow_zero, near_one]
      have hlt : rN c j < 9007199254740992 := by
        rw [hn]
        have e : (9007199254740992 : Nat) = 2 ^ 53 := rfl
        rw [e]
        have e2 : c.log2 + 1 + (j - (rk c j : Int)).toNat ≤ 53 := by unfold rk; omega
        refine Nat.lt_of_lt_of_le ((Nat.mul_lt_mul_right (Nat.two_pow_pos _)).mpr h2) ?_
        rw [← Nat.pow_add]
        exact Nat.pow_le_pow_right (by decide) e2
      omega
    have hk2 : 2046 ≤ rk c (j + i) := by unfold rk at *; omega
    have hge := rN_ge (j := j + i) h0 (by omega)
    unfold rB
    rw [if_neg h0]
    omega
theorem rB_pt {x : UInt64} (hx : dFin x) : rB (dC x) (dQ x : Int) = dP x := by
  have h := rB_uB hx
  rw [uB_dC hx, rB_scale] at h
  rw [← h]
  congr 1
  omega
theorem rB_comp {y : UInt64} (hy : dFin y) {c : Nat} {j i : Int} (hj : 0 ≤ j) (h : uB (dP y) = c * 2 ^ j.toNat) : rB (dC y) (dQ y + i) = rB c (j + i) := by
  rw [uB_dC hy] at h
  have e1 := rB_scale (dC y) (dQ y) i
  have e2 := rB_scale c j.toNat i
  rw [h, e2] at e1
  rw [show (dQ y : Int) + i = i + (dQ y : Nat) by omega, ← e1]
  congr 1
  omega
theorem dScb_fin {x : UInt64} {a : Int} (h : rB (dC x) (dQ x + a) < 9218868437227405312) : dFin (dScb x a) := by
  unfold dFin; rw [dScb_P]; exact h
theorem dScb_inf {x : UInt64} {a : Int} (h : rB (dC x) (dQ x + a) = 9218868437227405312) : dP (dScb x a) = 9218868437227405312 := by
  rw [dScb_P]; exact h
theorem sc_up {x : UInt64} (hx : dFin x) {a : Int} (ha : 0 ≤ a) : FP.dmul (dScb x a) (pw 512) = dScb x (a + 512) := by
  have hc := dC_lt hx
  rcases rB_exact (j := dQ x + a) hc (by omega) with h | h
  · by_cases hf : rB (dC x) (dQ x + a) < 9218868437227405312
    · rw [dmul_pw (dScb_fin hf) (by decide) (by decide)]
      have e := rB_comp (y := dScb x a) (dScb_fin hf) (c := dC x) (j := dQ x + a) (i := 512) (by omega) (by rw [dScb_P]; exact h)
      refine d_ext ?_ ?_
      · rw [dScb_S, dScb_S, dScb_S]
      · rw [dScb_P, dScb_P, e]
        congr 1
        omega
    · have h9 : rB (dC x) (dQ x + a) = 9218868437227405312 := by have := rB_le (dC x) (dQ x + a); omega
      rw [dmul_inf (dScb_inf h9) (by decide) (by decide)]
      have e := rB_inf_mono hc (by omega) h9 512
      refine d_ext ?_ ?_
      · rw [dScb_S, dScb_S]
      · rw [dScb_P, dScb_P, h9, ← e]
        congr 1
        omega
  · rw [dmul_inf (dScb_inf h) (by decide) (by decide)]
    have e := rB_inf_mono hc (by omega) h 512
    refine d_ext ?_ ?_
    · rw [dScb_S, dScb_S]
    · rw [dScb_P, dScb_P, h, ← e]
      congr 1
      omega
theorem rB_neg {c : Nat} {j : Int} (hc : c < 9007199254740992) (hj : j < 0) : rB c j ≤ 4503599627370496 := by
  by_cases h0 : c = 0
  · subst h0; rw [rB_0]; decide
  · have hl : c.log2 < 53 := (Nat.log2_lt h0).mpr (by show c < 9007199254740992; exact hc)
    have hk : rk c j = 0 := by unfold rk; omega
    unfold rB rN
    rw [if_neg h0, hk]
    have hn : FP.Core.nearest (c * 2 ^ (j - ((0 : Nat) : Int)).toNat) (2 ^ (((0 : Nat) : Int) - j).toNat) ≤ 4503599627370496 := by
      refine near_le (Nat.two_pow_pos _) ?_
      rw [show (j - ((0 : Nat) : Int)).toNat = 0 by omega, Nat.pow_zero, Nat.mul_one]
      have hb : 2 ^ 1 ≤ 2 ^ (((0 : Nat) : Int) - j).toNat := Nat.pow_le_pow_right (by decide) (by omega)
      generalize 2 ^ (((0 : Nat) : Int) - j).toNat = B at hb
      omega
    omega
theorem sc_down {x : UInt64} (hx : dFin x) {a : Int} (ha : a ≤ 0) : FP.dmul (dScb x a) (pw (-512)) = dScb x (a - 512) := by
  have hc := dC_lt hx
  by_cases hj : 0 ≤ dQ x + a
  · have hfin : rB (dC x) (dQ x + a) < 9218868437227405312 := by
      have hle := rB_le (dC x) (dQ x + a)
      rcases Nat.lt_or_ge (rB (dC x) (dQ x + a)) 9218868437227405312 with q | q
      · exact q
      · exfalso
        have h9 : rB (dC x) (dQ x + a) = 9218868437227405312 := by omega
        have e := rB_inf_mono hc hj h9 (-a).toNat
        rw [show (dQ x : Int) + a + ((-a).toNat : Int) = dQ x by omega, rB_pt hx] at e
        unfold dFin at hx
        omega
    have h := (rB_exact (j := dQ x + a) hc hj).resolve_right (by omega)
    rw [dmul_pw (dScb_fin hfin) (by decide) (by decide)]
    have e := rB_comp (y := dScb x a) (dScb_fin hfin) (c := dC x) (j := dQ x + a) (i := -512) hj (by rw [dScb_P]; exact h)
    refine d_ext ?_ ?_
    · rw [dScb_S, dScb_S, dScb_S]
    · rw [dScb_P, dScb_P, e]
      congr 1
      omega
  · have hs := rB_neg (j := dQ x + a) hc (by omega)
    have hf : dFin (dScb x a) := dScb_fin (by omega)
    rw [dmul_pw hf (by decide) (by decide)]
    have hq : dQ (dScb x a) = 0 := by unfold dQ dE; rw [dScb_P]; omega
    refine d_ext ?_ ?_
    · rw [dScb_S, dScb_S, dScb_S]
    · rw [dScb_P, dScb_P, hq, rB_tiny (dC_lt hf) (by omega), rB_tiny hc (by omega)]
/-- 2099 powers are enough -/
theorem dScb_clampU {x : UInt64} {n : Int} (h : 2099 ≤ n) : dScb x n = dScb x 2099 := by
  refine d_ext ?_ ?_
  · rw [dScb_S, dScb_S]
  · rw [dScb_P, dScb_P]
    by_cases h0 : dC x = 0
    · rw [h0, rB_0, rB_0]
    · rw [rB_big h0 (by omega), rB_big h0 (by omega)]
theorem dScb_clampD {x : UInt64} (hx : dFin x) {n : Int} (h : n ≤ -2099) : dScb x n = dScb x (-2099) := by
  have hE := dE_lt hx
  have hq : dQ x ≤ 2045 := by unfold dQ; omega
  refine d_ext ?_ ?_
  · rw [dScb_S, dScb_S]
  · rw [dScb_P, dScb_P, rB_tiny (dC_lt hx) (by omega), rB_tiny (dC_lt hx) (by omega)]
def sAdj (n : Int) : Int := if n < 0 then -((-n) % 512) else n % 512
theorem sc_t : ∀ k : Nat, k < 4199 → ((iI ((k : Int) - 2099) >>> ((8 : Int32) &&& 31)).toUInt32 >>> ((23 : Int32).toUInt32 &&& Int32.toUInt32 31)).toInt32 = (if (k : Int) - 2099 < 0 then 511 else 0) := by decide +kernel
theorem sc_a : ∀ k : Nat, k < 4199 → ((iI ((k : Int) - 2099) + (if (k : Int) - 2099 < 0 then 511 else 0)) &&& 511) - (if (k : Int) - 2099 < 0 then 511 else 0) = iI (sAdj ((k : Int) - 2099)) := by decide +kernel
theorem sc_tt {n : Int} (h1 : -2099 ≤ n) (h2 : n ≤ 2099) : ((iI n >>> ((8 : Int32) &&& 31)).toUInt32 >>> ((23 : Int32).toUInt32 &&& Int32.toUInt32 31)).toInt32 = (if n < 0 then 511 else 0) := by
  have h := sc_t (n + 2099).toNat (by omega)
  rw [show (((n + 2099).toNat : Nat) : Int) - 2099 = n by omega] at h
  exact h
theorem sc_aa {n : Int} (h1 : -2099 ≤ n) (h2 : n ≤ 2099) : ((iI n + (if n < 0 then 511 else 0)) &&& 511) - (if n < 0 then 511 else 0) = iI (sAdj n) := by
  have h := sc_a (n + 2099).toNat (by omega)
  rw [show (((n + 2099).toNat : Nat) : Int) - 2099 = n by omega] at h
  exact h
theorem iI_sub {a b : Int} : iI a - iI b = iI (a - b) := by
  unfold iI
  rw [Int32.ofInt_sub]
theorem iI_add {a b : Int} : iI a + iI b = iI (a + b) := by
  unfold iI
  rw [Int32.ofInt_add]
theorem iI_lt {a b : Int} (h1 : -2147483648 ≤ a) (h2 : a < 2147483648) (h3 : -2147483648 ≤ b) (h4 : b < 2147483648) : iI a < iI b ↔ a < b := by
  rw [Int32.lt_iff_toInt_lt, iI_toInt h1 h2, iI_toInt h3 h4]
theorem iI_le {a b : Int} (h1 : -2147483648 ≤ a) (h2 : a < 2147483648) (h3 : -2147483648 ≤ b) (h4 : b < 2147483648) : iI a ≤ iI b ↔ a ≤ b := by
  rw [Int32.le_iff_toInt_le, iI_toInt h1 h2, iI_toInt h3 h4]
theorem iI_max {a b : Int} (h1 : -2147483648 ≤ a) (h2 : a < 2147483648) (h3 : -2147483648 ≤ b) (h4 : b < 2147483648) : (if iI a < iI b then iI b else iI a) = iI (max a b) := by
  by_cases h : a < b
  · rw [if_pos ((iI_lt h1 h2 h3 h4).mpr h)]; congr 1; omega
  · rw [if_neg (fun q => h ((iI_lt h1 h2 h3 h4).mp q))]; congr 1; omega
theorem iI_min {a b : Int} (h1 : -2147483648 ≤ a) (h2 : a < 2147483648) (h3 : -2147483648 ≤ b) (h4 : b < 2147483648) : (if iI b < iI a then iI b else iI a) = iI (min a b) := by
  by_cases h : b < a
  · rw [if_pos ((iI_lt h3 h4 h1 h2).mpr h)]; congr 1; omega
  · rw [if_neg (fun q => h ((iI_lt h3 h4 h1 h2).mp q))]; congr 1; omega
theorem iI_eqi {a b : Int} (h1 : -2147483648 ≤ a) (h2 : a < 2147483648) (h3 : -2147483648 ≤ b) (h4 : b < 2147483648) : iI a = iI b ↔ a = b := by
  rw [← Int32.toInt_inj, iI_toInt h1 h2, iI_toInt h3 h4]
