/-! ### Knuth's division, plain -/
theorem kn_split {d : Nat → Nat} {o m : Nat} (hm : 2 ≤ m) : seg d o m = (d o * 4294967296 + d (o + 1)) * 4294967296 ^ (m - 2) + seg d (o + 2) (m - 2) := by
  obtain ⟨t, rfl⟩ : ∃ t, m = 2 + t := ⟨m - 2, by omega⟩
  rw [seg_app, show 2 + t - 2 = t by omega]
  rw [show seg d o 2 = d o * 4294967296 + d (o + 1) by
    show seg d o (0 + 1 + 1) = _
    rw [seg_r, seg_r, seg_z, Nat.zero_mul, Nat.zero_add, Nat.add_zero]]
theorem kn_split3 {d : Nat → Nat} {o m : Nat} (hm : 2 ≤ m) : seg d o (m + 1) = ((d o * 4294967296 + d (o + 1)) * 4294967296 + d (o + 2)) * 4294967296 ^ (m - 2) + seg d (o + 3) (m - 2) := by
  obtain ⟨t, rfl⟩ : ∃ t, m = 2 + t := ⟨m - 2, by omega⟩
  rw [show 2 + t + 1 = 3 + t by omega, seg_app, show 2 + t - 2 = t by omega]
  rw [show seg d o 3 = (d o * 4294967296 + d (o + 1)) * 4294967296 + d (o + 2) by
    show seg d o (0 + 1 + 1 + 1) = _
    rw [seg_r, seg_r, seg_r, seg_z, Nat.zero_mul, Nat.zero_add, Nat.add_zero]]
/-- qh is too much -/
theorem kn_over {P V U d0 x0 D X q : Nat} (hD : D = V * P + d0) (hX : X = U * P + x0) (hx : x0 < P) (h : U < q * V) (hD0 : 0 < D) : X / D ≤ q - 1 := by
  have h1 : (U + 1) * P ≤ (q * V) * P := Nat.mul_le_mul_right _ h
  have h2 : q * D = (q * V) * P + q * d0 := by rw [hD]; grind
  have h3 : (U + 1) * P = U * P + P := by grind
  have h4 : X < q * D := by omega
  have := (Nat.div_lt_iff_lt_mul hD0).mpr h4
  omega
theorem kn_fin {P V U d0 x0 D X q : Nat} (hD : D = V * P + d0) (hX : X = U * P + x0) (hd : d0 < P) (h : q * V ≤ U) (hq : q ≤ V + 1) (hD0 : 0 < D) : q ≤ X / D + 1 := by
  rcases Nat.eq_zero_or_pos q with e | e
  · rw [e]
    exact Nat.zero_le _
  obtain ⟨t, rfl⟩ : ∃ t, q = t + 1 := ⟨q - 1, by omega⟩
  have h1 : t * D ≤ X := by
    have e1 : t * D = (t * V) * P + t * d0 := by rw [hD]; grind
    have e2 : t * d0 ≤ t * P := Nat.mul_le_mul_left _ (by omega)
    have e3 : (t * V + t) * P = (t * V) * P + t * P := by grind
    have e4 : (t + 1) * V = t * V + V := by grind
    have e5 : (t * V + t) * P ≤ U * P := Nat.mul_le_mul_right _ (by omega)
    omega
  have := (Nat.le_div_iff_mul_le hD0).mpr h1
  omega
theorem kn_b {P dh dl d0 x0 E nl D X : Nat} (hD : D = (dh * 4294967296 + dl) * P + d0) (hX : X = (E * 4294967296 + nl) * P + x0) (hx : x0 < P) (hn : nl < 4294967296) (hh : 0 < dh) (hD0 : 0 < D) : X / D ≤ E / dh := by
  rw [Nat.le_div_iff_mul_le hh]
  have h1 : X / D * D ≤ X := Nat.div_mul_le_self _ _
  generalize X / D = t at h1
  refine Decidable.byContradiction fun q => ?_
  have h2 : (E + 1) * (4294967296 * P) ≤ (t * dh) * (4294967296 * P) := Nat.mul_le_mul_right _ (by omega)
  have h3 : t * D = (t * dh) * (4294967296 * P) + t * (dl * P + d0) := by rw [hD]; grind
  have h4 : (E + 1) * (4294967296 * P) = (E * 4294967296) * P + 4294967296 * P := by grind
  have h5 : (E * 4294967296 + nl) * P = (E * 4294967296) * P + nl * P := by grind
  have h6 : (nl + 1) * P ≤ 4294967296 * P := Nat.mul_le_mul_right _ hn
  have h7 : (nl + 1) * P = nl * P + P := by grind
  omega
theorem kn_a {D X : Nat} (h : X < D * 4294967296) (hD0 : 0 < D) : X / D ≤ 4294967295 := by
  have := (Nat.div_lt_iff_lt_mul hD0).mpr (show X < 4294967296 * D by rw [Nat.mul_comm]; exact h)
  omega
theorem kn_ov {q dh dl r E nl : Nat} (h : q * dh + r = E) (hr : 4294967296 ≤ r) (hq : q < 4294967296) (hl : dl < 4294967296) : q * (dh * 4294967296 + dl) ≤ E * 4294967296 + nl := by
  have e1 : q * (dh * 4294967296 + dl) = (q * dh) * 4294967296 + q * dl := by grind
  have e2 : q * dl ≤ r * 4294967296 := Nat.mul_le_mul (by omega) (by omega)
  have e3 : (q * dh) * 4294967296 + r * 4294967296 = E * 4294967296 := by rw [← Nat.add_mul, h]
  rw [e1]
  exact Nat.le_trans (Nat.add_le_add_left e2 _) (by rw [e3]; exact Nat.le_add_right _ _)
theorem kn_ok {q dh dl r E nl : Nat} (h : q * dh + r = E) (hl : dl * q ≤ r * 4294967296 + nl) : q * (dh * 4294967296 + dl) ≤ E * 4294967296 + nl := by
  have e1 : q * (dh * 4294967296 + dl) = (q * dh) * 4294967296 + dl * q := by grind
  have e3 : (q * dh) * 4294967296 + r * 4294967296 = E * 4294967296 := by rw [← Nat.add_mul, h]
  omega
theorem kn_gt {q dh dl r E nl : Nat} (h : q * dh + r = E) (hl : r * 4294967296 + nl < dl * q) : E * 4294967296 + nl < q * (dh * 4294967296 + dl) := by
  have e1 : q * (dh * 4294967296 + dl) = (q * dh) * 4294967296 + dl * q := by grind
  have e3 : (q * dh) * 4294967296 + r * 4294967296 = E * 4294967296 := by rw [← Nat.add_mul, h]
  rw [e1, ← e3, Nat.add_assoc]
  exact Nat.add_lt_add_left hl _
/-- the one digit told by mulsub and its borrow -/
theorem kn_ms {D X q W w k nh Bm : Nat} (hX : X = nh * Bm + W) (h : w + q * D = W + k * Bm) (hw : w < Bm) (hD : D < Bm) (hD0 : 0 < D) (h1 : X / D ≤ q) (h2 : q ≤ X / D + 1) :
    (k ≤ nh → q = X / D ∧ w = X % D) ∧ (nh < k → q = X / D + 1 ∧ w + D = Bm + X % D) := by
  have e0 := Nat.div_add_mod X D
  have e1 := Nat.mod_lt X hD0
  generalize hQ : X / D = Q at *
  generalize hR : X % D = R at *
  rw [Nat.mul_comm] at e0
  rcases (show q = Q ∨ q = Q + 1 by omega) with e | e
  · subst e
    have e2 : w + nh * Bm = R + k * Bm := by omega
    have e3 : k = nh := by
      rcases Nat.lt_trichotomy k nh with c | c | c
      · have : (k + 1) * Bm ≤ nh * Bm := Nat.mul_le_mul_right _ c
        rw [Nat.add_mul, Nat.one_mul] at this
        omega
      · exact c
      · have : (nh + 1) * Bm ≤ k * Bm := Nat.mul_le_mul_right _ c
        rw [Nat.add_mul, Nat.one_mul] at this
        omega
    subst e3
    exact ⟨fun _ => ⟨rfl, by omega⟩, fun c => absurd c (Nat.lt_irrefl _)⟩
  · subst e
    rw [Nat.add_mul, Nat.one_mul] at h
    have e2 : w + D + nh * Bm = R + k * Bm := by omega
    have e3 : k = nh + 1 := by
      rcases Nat.lt_trichotomy k (nh + 1) with c | c | c
      · have : k * Bm ≤ nh * Bm := Nat.mul_le_mul_right _ (by omega)
        omega
      · exact c
      · have : (nh + 2) * Bm ≤ k * Bm := Nat.mul_le_mul_right _ c
        rw [Nat.add_mul] at this
        omega
    subst e3
    rw [Nat.add_mul, Nat.one_mul] at e2
    exact ⟨fun c => by omega, fun _ => ⟨rfl, by omega⟩⟩
theorem kn_add {w1 k D w R Bm : Nat} (h : w1 + k * Bm = w + D) (hk : k ≤ 1) (h2 : w + D = Bm + R) (hw : w1 < Bm) (hR : R < Bm) : w1 = R := by
  rcases (show k = 0 ∨ k = 1 by omega) with e | e
  · rw [e, Nat.zero_mul] at h
    omega
  · rw [e, Nat.one_mul] at h
    omega
theorem kn_step {g g1 q q1 : Nat → Nat} {j m lim D N : Nat} (hj : j < lim) (hD0 : 0 < D) (hin : N = seg q 0 j * 4294967296 ^ (lim - j) * D + seg g j (m + (lim - j)))
    (hout : ∀ i, j + 1 + m ≤ i → g1 i = g i) (hw : seg g1 (j + 1) m = seg g j (m + 1) % D) (hq : q1 j = seg g j (m + 1) / D) (hqo : ∀ i, i < j → q1 i = q i) :
    N = seg q1 0 (j + 1) * 4294967296 ^ (lim - (j + 1)) * D + seg g1 (j + 1) (m + (lim - (j + 1))) ∧ seg g1 (j + 1) m < D := by
  obtain ⟨t, rfl⟩ : ∃ t, lim = j + 1 + t := ⟨lim - (j + 1), by omega⟩
  refine ⟨?_, by rw [hw]; exact Nat.mod_lt _ hD0⟩
  rw [show j + 1 + t - j = t + 1 by omega] at hin
  rw [show j + 1 + t - (j + 1) = t by omega, seg_app g1, hw, seg_r, Nat.zero_add, hq, seg_cg (d := q1) (e := q) (fun i h1 h2 => hqo i (by omega)), seg_cg (d := g1) (e := g) (o := j + 1 + m) (fun i h1 h2 => hout i h1), hin, show m + (t + 1) = m + 1 + t by omega, seg_app g, show j + (m + 1) = j + 1 + m by omega]
  have e0 := Nat.div_add_mod (seg g j (m + 1)) D
  generalize seg g j (m + 1) / D = Q at *
  generalize seg g j (m + 1) % D = R at *
  rw [← e0, Nat.pow_succ]
  generalize 4294967296 ^ t = P
  grind
theorem kn_last {g q q1 : Nat → Nat} {j m D N : Nat} (hin : N = seg q 0 j * 4294967296 ^ (j + 1 - j) * D + seg g j (m + (j + 1 - j))) (hq : q1 j = seg g j (m + 1) / D) (hqo : ∀ i, i < j → q1 i = q i) :
    N = seg q1 0 (j + 1) * D + seg g j (m + 1) % D := by
  rw [show j + 1 - j = 1 by omega] at hin
  rw [seg_r, Nat.zero_add, hq, seg_cg (d := q1) (e := q) (fun i h1 h2 => hqo i (by omega)), hin]
  have e0 := Nat.div_add_mod (seg g j (m + 1)) D
  generalize seg g j (m + 1) / D = Q at *
  generalize seg g j (m + 1) % D = R at *
  rw [← e0, Nat.pow_one]
  grind
theorem kn_unsh {N D S Q R : Nat} (h : N * S = Q * (D * S) + R) (hR : R < D * S) (hS : 0 < S) : Q = N / D ∧ R = N % D * S := by
  have hD : 0 < D := Nat.pos_of_ne_zero fun e => by rw [e, Nat.zero_mul] at hR; omega
  have e0 := Nat.div_add_mod N D
  have e1 := Nat.mod_lt N hD
  have e2 : N * S = (N / D) * (D * S) + (N % D) * S := by
    generalize N / D = a at *
    generalize N % D = b at *
    rw [← e0]; grind
  have e3 : (N % D) * S < D * S := Nat.mul_lt_mul_of_pos_right e1 hS
  have q1 : N * S / (D * S) = Q ∧ N * S - Q * (D * S) = R := div_at h hR
  have q2 := div_at e2 e3
  have e4 : Q = N / D := q1.1.symm.trans q2.1
  refine ⟨e4, ?_⟩
  rw [← q1.2, e4]
  exact q2.2
theorem i2l_shl {a : Nat} (h : a < 4294967296) : (nI a).toInt64 <<< (((32 : Int32)).toInt64 &&& 63) = lN (a * 4294967296) := by
  rcases Nat.lt_or_ge a 2147483648 with h1 | h1
  · rw [nI_l h1, lN_shl32]
  · have e1 : nI a = iI ((a : Int) - 4294967296) := by
      rw [nI_iI, ← iI_per (a := (a : Int) - 4294967296) (c := 1)]
      exact congrArg iI (by omega)
    rw [e1, iI_l (by omega) (by omega)]
    have e2 : lI ((a : Int) - 4294967296) = lN (a + 18446744069414584320) := by
      rw [lN_lI]
      apply Int64.toInt_inj.mp
      show (Int64.ofInt _).toInt = (Int64.ofInt _).toInt
      rw [Int64.toInt_ofInt, Int64.toInt_ofInt]
      show Int.bmod _ 18446744073709551616 = Int.bmod _ 18446744073709551616
      rw [← Int.emod_bmod (x := (a : Int) - 4294967296), ← Int.emod_bmod (x := (((a + 18446744069414584320 : Nat)) : Int))]
      exact congrArg (fun x => Int.bmod x 18446744073709551616) (by omega)
    rw [e2, lN_shl32, lN_lI, lN_lI]
    apply Int64.toInt_inj.mp
    show (Int64.ofInt _).toInt = (Int64.ofInt _).toInt
    rw [Int64.toInt_ofInt, Int64.toInt_ofInt]
    show Int.bmod _ 18446744073709551616 = Int.bmod _ 18446744073709551616
    rw [← Int.emod_bmod (x := (((a + 18446744069414584320) * 4294967296 : Nat) : Int)), ← Int.emod_bmod (x := ((a * 4294967296 : Nat) : Int))]
    exact congrArg (fun x => Int.bmod x 18446744073709551616) (by omega)
theorem lN_neg0 {E : Nat} (h : E < 18446744073709551616) : lg_cmp (lN E) 0 < 0 ↔ 9223372036854775808 ≤ E := by
  rcases Nat.lt_or_ge E 9223372036854775808 with h1 | h1
  · rw [lN_lI, lI_lt0 (by omega) (by omega)]
    omega
  · have e2 : lN E = lI ((E : Int) - 18446744073709551616) := by
      rw [lN_lI]
      apply Int64.toInt_inj.mp
      show (Int64.ofInt _).toInt = (Int64.ofInt _).toInt
      rw [Int64.toInt_ofInt, Int64.toInt_ofInt]
      show Int.bmod _ 18446744073709551616 = Int.bmod _ 18446744073709551616
      rw [← Int.emod_bmod (x := (E : Int)), ← Int.emod_bmod (x := (E : Int) - 18446744073709551616)]
      exact congrArg (fun x => Int.bmod x 18446744073709551616) (by omega)
    rw [e2, lI_lt0 (by omega) (by omega)]
    omega
