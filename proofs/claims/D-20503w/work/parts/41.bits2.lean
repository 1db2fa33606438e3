/-! ## bits of ints as whole numbers -/
set_option maxRecDepth 100000
theorem i31 {k : Nat} (hk : k < 32) : (nI k &&& 31) = nI k := by
  have : ∀ k, k < 32 → (nI k &&& 31) = nI k := by decide +kernel
  exact this k hk
theorem iu31 {k : Nat} (hk : k < 32) : ((nI k).toUInt32 &&& Int32.toUInt32 31) = UInt32.ofNat k := by
  have : ∀ k, k < 32 → ((nI k).toUInt32 &&& Int32.toUInt32 31) = UInt32.ofNat k := by decide +kernel
  exact this k hk
theorem ai_ushr {x y : Int32} {a k : Nat} (hx : x = nI a) (hy : y = nI k) (ha : a < 4294967296) (hk : k < 32) : ((x).toUInt32 >>> ((y).toUInt32 &&& Int32.toUInt32 31)).toInt32 = nI (a / 2 ^ k) := by
  subst hx hy
  rw [iu31 hk]
  apply Int32.toBitVec_inj.mp
  apply BitVec.eq_of_toNat_eq
  show ((nI a).toUInt32 >>> (UInt32.ofNat k)).toNat = (BitVec.ofNat 32 _).toNat
  rw [UInt32.toNat_shiftRight, BitVec.toNat_ofNat]
  have e1 : (nI a).toUInt32.toNat = a := by
    show (BitVec.ofNat 32 a).toNat = a
    rw [BitVec.toNat_ofNat]
    omega
  have e2 : (UInt32.ofNat k).toNat = k := by
    rw [UInt32.toNat_ofNat']
    omega
  have h : a / 2 ^ k ≤ a := Nat.div_le_self _ _
  rw [e1, e2, Nat.mod_eq_of_lt hk, Nat.shiftRight_eq_div_pow, Nat.mod_eq_of_lt (by omega)]
theorem ai_shlv {x y : Int32} {a k : Nat} (hx : x = nI a) (hy : y = nI k) (hk : k < 32) : x <<< (y &&& 31) = nI (a * 2 ^ k) := ai_shl hx k hk hy
theorem nI_or (a b : Nat) (ha : a < 4294967296) (hb : b < 4294967296) : nI a ||| nI b = nI (a ||| b) := by
  apply Int32.toBitVec_inj.mp
  apply BitVec.eq_of_toNat_eq
  show ((nI a).toBitVec ||| (nI b).toBitVec).toNat = (BitVec.ofNat 32 _).toNat
  rw [BitVec.toNat_or]
  show (BitVec.ofNat 32 a).toNat ||| (BitVec.ofNat 32 b).toNat = _
  rw [BitVec.toNat_ofNat, BitVec.toNat_ofNat, BitVec.toNat_ofNat, Nat.mod_eq_of_lt ha, Nat.mod_eq_of_lt hb, Nat.mod_eq_of_lt]
  exact Nat.or_lt_two_pow ha hb
theorem nI_and (a b : Nat) (ha : a < 4294967296) (hb : b < 4294967296) : nI a &&& nI b = nI (a &&& b) := by
  apply Int32.toBitVec_inj.mp
  apply BitVec.eq_of_toNat_eq
  show ((nI a).toBitVec &&& (nI b).toBitVec).toNat = (BitVec.ofNat 32 _).toNat
  rw [BitVec.toNat_and]
  show (BitVec.ofNat 32 a).toNat &&& (BitVec.ofNat 32 b).toNat = _
  rw [BitVec.toNat_ofNat, BitVec.toNat_ofNat, BitVec.toNat_ofNat, Nat.mod_eq_of_lt ha, Nat.mod_eq_of_lt hb, Nat.mod_eq_of_lt]
  exact Nat.and_lt_two_pow _ hb
theorem pow_split {s : Nat} (h : s ≤ 32) : 2 ^ s * 2 ^ (32 - s) = 4294967296 := by
  rw [← Nat.pow_add, show s + (32 - s) = 32 by omega]
theorem or_add {a b s : Nat} (hs : s ≤ 32) (hb : b < 2 ^ s) : ((a * 2 ^ s) % 4294967296) ||| b = (a * 2 ^ s) % 4294967296 + b := by
  have e : (a * 2 ^ s) % 4294967296 = 2 ^ s * (a % 2 ^ (32 - s)) := by
    rw [← pow_split hs, Nat.mul_comm a, Nat.mul_mod_mul_left]
  rw [e, Nat.two_pow_add_eq_or_of_lt hb]
/-- one digit and the next, moved up by s bits -/
theorem sh_dig {a b s : Nat} (hs : s < 32) (hs0 : 0 < s) (hb : b < 4294967296) : nI (a * 2 ^ s) ||| nI (b / 2 ^ (32 - s)) = nI ((a * 2 ^ s) % 4294967296 + b / 2 ^ (32 - s)) ∧ b / 2 ^ (32 - s) < 2 ^ s ∧ (a * 2 ^ s) % 4294967296 + b / 2 ^ (32 - s) < 4294967296 := by
  have h1 : b / 2 ^ (32 - s) < 2 ^ s := by
    rw [Nat.div_lt_iff_lt_mul (Nat.two_pow_pos _), pow_split (by omega)]
    exact hb
  have h3 : (a * 2 ^ s) % 4294967296 + b / 2 ^ (32 - s) < 4294967296 := by
    rw [← or_add (by omega) h1]
    exact Nat.or_lt_two_pow (n := 32) (Nat.mod_lt _ (by decide)) (Nat.lt_of_lt_of_le h1 (Nat.pow_le_pow_right (by decide) (by omega)))
  refine ⟨?_, h1, h3⟩
  rw [← nI_mod (a * 2 ^ s), nI_or _ _ (Nat.mod_lt _ (by decide)) (by omega), or_add (by omega) h1]
/-- digits moved up by s bits: d's first n; from o on -/
def shl (d : Nat → Nat) (s n : Nat) : Nat → Nat := fun i => (d i * 2 ^ s) % 4294967296 + (if i + 1 < n then d (i + 1) / 2 ^ (32 - s) else 0)
theorem shl_lt {d : Nat → Nat} (hd : ∀ i, d i < 4294967296) {s n : Nat} (hs : s < 32) (hs0 : 0 < s) (i : Nat) : shl d s n i < 4294967296 := by
  unfold shl
  split
  · exact (sh_dig hs hs0 (hd (i + 1))).2.2
  · have : (d i * 2 ^ s) % 4294967296 < 4294967296 := Nat.mod_lt _ (by decide)
    omega
theorem shl_val {d : Nat → Nat} (hd : ∀ i, d i < 4294967296) {s : Nat} (hs : s < 32) (n : Nat) : ∀ t o, o + t = n → 0 < t → d o / 2 ^ (32 - s) * 4294967296 ^ t + seg (shl d s n) o t = seg d o t * 2 ^ s
  | 0, _, _, h => by omega
  | t + 1, o, ho, _ => by
    have e2 := Nat.div_add_mod (d o * 2 ^ s) 4294967296
    have e3 : d o * 2 ^ s / 4294967296 = d o / 2 ^ (32 - s) := by
      rw [← pow_split (s := s) (by omega), Nat.mul_comm (d o), Nat.mul_div_mul_left _ _ (Nat.two_pow_pos s)]
    rw [seg_l, seg_l]
    rcases Nat.eq_zero_or_pos t with h | h
    · subst h
      rw [seg_z, seg_z]
      unfold shl
      rw [if_neg (by omega)]
      simp
      omega
    · have ih := shl_val hd hs n t (o + 1) (by omega) h
      unfold shl at *
      rw [if_pos (by omega), Nat.pow_succ]
      generalize 4294967296 ^ t = Q at *
      generalize seg d (o + 1) t = D at *
      generalize d (o + 1) / 2 ^ (32 - s) = R at *
      generalize d o * 2 ^ s % 4294967296 = M at *
      generalize 2 ^ s = E at *
      generalize d o / 2 ^ (32 - s) = C at *
      generalize seg (fun i => d i * E % 4294967296 + if i + 1 < n then d (i + 1) / 2 ^ (32 - s) else 0) (o + 1) t = G at *
      grind
/-- bytes of a number -/
theorem and_byte (x y m n : Nat) (hx : x < 256) (hm : m < 256) : (x + 256 * y) &&& (m + 256 * n) = (x &&& m) + 256 * (y &&& n) := by
  have h1 : ((x + 256 * y) &&& (m + 256 * n)) % 2 ^ 8 = (x &&& m) := by
    rw [Nat.and_mod_two_pow]
    congr 1 <;> omega
  have h2 : ((x + 256 * y) &&& (m + 256 * n)) / 2 ^ 8 = (y &&& n) := by
    rw [Nat.and_div_two_pow]
    congr 1 <;> omega
  omega
def pop8 (x : Nat) : Nat := x % 2 + x / 2 % 2 + x / 4 % 2 + x / 8 % 2 + x / 16 % 2 + x / 32 % 2 + x / 64 % 2 + x / 128 % 2
def pp1 (x : Nat) : Nat := x - (x / 2 &&& 85)
def pp2 (x : Nat) : Nat := (pp1 x &&& 51) + (pp1 x / 4 &&& 51)
theorem pp1_k : ∀ x, x < 256 → ∀ y, y < 2 → ((x / 2 + 128 * y) &&& 85) = (x / 2 &&& 85) ∧ (x / 2 &&& 85) ≤ x ∧ pp1 x < 256 := by decide +kernel
theorem pp2_k : ∀ x, x < 256 → ∀ y, y < 4 → ((pp1 x / 4 + 64 * y) &&& 51) = (pp1 x / 4 &&& 51) ∧ pp2 x ≤ 68 ∧ pp2 x % 16 ≤ 4 := by decide +kernel
theorem pp3_k : ∀ x, x < 256 → ∀ y, y < 5 → ((pp2 x + (pp2 x / 16 + 16 * y)) &&& 15) = pop8 x ∧ pop8 x ≤ 8 := by decide +kernel
theorem pop8_1 : ∀ x, x < 256 → (pop8 x = 1 → x = 1 ∨ x = 2 ∨ x = 4 ∨ x = 8 ∨ x = 16 ∨ x = 32 ∨ x = 64 ∨ x = 128) ∧ (pop8 x = 0 → x = 0) := by decide +kernel
theorem bytes (Y : Nat) (h : Y < 4294967296) : ∃ a b c d, a < 256 ∧ b < 256 ∧ c < 256 ∧ d < 256 ∧ Y = a + 256 * (b + 256 * (c + 256 * d)) := ⟨Y % 256, Y / 256 % 256, Y / 65536 % 256, Y / 16777216, by omega, by omega, by omega, by omega, by omega⟩
theorem pow_2 {Y a b c d : Nat} (ha : a < 256) (hb : b < 256) (hc : c < 256) (hd : d < 256) (hY : Y = a + 256 * (b + 256 * (c + 256 * d))) (h : pop8 a + pop8 b + pop8 c + pop8 d = 1) : ∃ k, k < 32 ∧ Y = 2 ^ k := by
  have q1 := pop8_1 a ha
  have q2 := pop8_1 b hb
  have q3 := pop8_1 c hc
  have q4 := pop8_1 d hd
  have key : ∀ x, (x = 1 ∨ x = 2 ∨ x = 4 ∨ x = 8 ∨ x = 16 ∨ x = 32 ∨ x = 64 ∨ x = 128) → ∃ k, k < 8 ∧ x = 2 ^ k := by
    intro x hx
    rcases hx with e | e | e | e | e | e | e | e <;> subst e
    · exact ⟨0, by decide, rfl⟩
    · exact ⟨1, by decide, rfl⟩
    · exact ⟨2, by decide, rfl⟩
    · exact ⟨3, by decide, rfl⟩
    · exact ⟨4, by decide, rfl⟩
    · exact ⟨5, by decide, rfl⟩
    · exact ⟨6, by decide, rfl⟩
    · exact ⟨7, by decide, rfl⟩
  rcases Nat.lt_or_ge 0 (pop8 a) with h1 | h1
  · obtain ⟨k, hk, e⟩ := key a (q1.1 (by omega))
    exact ⟨k, by omega, by rw [← e, hY, q2.2 (by omega), q3.2 (by omega), q4.2 (by omega)]; omega⟩
  rcases Nat.lt_or_ge 0 (pop8 b) with h2 | h2
  · obtain ⟨k, hk, e⟩ := key b (q2.1 (by omega))
    refine ⟨8 + k, by omega, ?_⟩
    rw [Nat.pow_add, ← e, hY, q1.2 (by omega), q3.2 (by omega), q4.2 (by omega)]
    omega
  rcases Nat.lt_or_ge 0 (pop8 c) with h3 | h3
  · obtain ⟨k, hk, e⟩ := key c (q3.1 (by omega))
    refine ⟨16 + k, by omega, ?_⟩
    rw [Nat.pow_add, ← e, hY, q1.2 (by omega), q2.2 (by omega), q4.2 (by omega)]
    omega
  · obtain ⟨k, hk, e⟩ := key d (q4.1 (by omega))
    refine ⟨24 + k, by omega, ?_⟩
    rw [Nat.pow_add, ← e, hY, q1.2 (by omega), q2.2 (by omega), q3.2 (by omega)]
    omega
/-- what bitCount works out -/
def bc1 (Y : Nat) : Nat := Y - (Y / 2 &&& 1431655765)
def bc2 (Y : Nat) : Nat := (bc1 Y &&& 858993459) + (bc1 Y / 4 &&& 858993459)
def bc3 (Y : Nat) : Nat := (bc2 Y + bc2 Y / 16) &&& 252645135
def bc4 (Y : Nat) : Nat := bc3 Y + bc3 Y / 256
def bc5 (Y : Nat) : Nat := (bc4 Y + bc4 Y / 65536) % 64
theorem bc_all {Y a b c d : Nat} (ha : a < 256) (hb : b < 256) (hc : c < 256) (hd : d < 256) (hY : Y = a + 256 * (b + 256 * (c + 256 * d))) : bc1 Y ≤ Y ∧ (Y / 2 &&& 1431655765) ≤ Y ∧ bc1 Y < 4294967296 ∧ bc2 Y < 2147483648 ∧ bc3 Y < 268435456 ∧ bc4 Y < 536870912 ∧ bc5 Y = pop8 a + pop8 b + pop8 c + pop8 d := by
  have a1 := pp1_k a ha (b % 2) (by omega)
  have b1 := pp1_k b hb (c % 2) (by omega)
  have c1 := pp1_k c hc (d % 2) (by omega)
  have d1 := pp1_k d hd 0 (by omega)
  have e1 : (Y / 2 &&& 1431655765) = (a / 2 &&& 85) + 256 * ((b / 2 &&& 85) + 256 * ((c / 2 &&& 85) + 256 * (d / 2 &&& 85))) := by
    rw [show Y / 2 = (a / 2 + 128 * (b % 2)) + 256 * ((b / 2 + 128 * (c % 2)) + 256 * ((c / 2 + 128 * (d % 2)) + 256 * (d / 2))) by omega, show 1431655765 = 85 + 256 * (85 + 256 * (85 + 256 * 85)) by rfl, and_byte _ _ _ _ (by omega) (by omega), and_byte _ _ _ _ (by omega) (by omega), and_byte _ _ _ _ (by omega) (by omega), a1.1, b1.1, c1.1]
  have f1 : bc1 Y = pp1 a + 256 * (pp1 b + 256 * (pp1 c + 256 * pp1 d)) := by
    unfold bc1
    rw [e1, hY]
    unfold pp1
    omega
  have a2 := pp2_k a ha (pp1 b % 4) (by omega)
  have b2 := pp2_k b hb (pp1 c % 4) (by omega)
  have c2 := pp2_k c hc (pp1 d % 4) (by omega)
  have d2 := pp2_k d hd 0 (by omega)
  have f2 : bc2 Y = pp2 a + 256 * (pp2 b + 256 * (pp2 c + 256 * pp2 d)) := by
    unfold bc2
    rw [f1, show (pp1 a + 256 * (pp1 b + 256 * (pp1 c + 256 * pp1 d))) / 4 = (pp1 a / 4 + 64 * (pp1 b % 4)) + 256 * ((pp1 b / 4 + 64 * (pp1 c % 4)) + 256 * ((pp1 c / 4 + 64 * (pp1 d % 4)) + 256 * (pp1 d / 4))) by omega, show 858993459 = 51 + 256 * (51 + 256 * (51 + 256 * 51)) by rfl, and_byte _ _ _ _ (by omega) (by omega), and_byte _ _ _ _ (by omega) (by omega), and_byte _ _ _ _ (by omega) (by omega), and_byte _ _ _ _ (by omega) (by omega), and_byte _ _ _ _ (by omega) (by omega), and_byte _ _ _ _ (by omega) (by omega), a2.1, b2.1, c2.1]
    unfold pp2
    omega
  have a3 := pp3_k a ha (pp2 b % 16) (by omega)
  have b3 := pp3_k b hb (pp2 c % 16) (by omega)
  have c3 := pp3_k c hc (pp2 d % 16) (by omega)
  have d3 := pp3_k d hd 0 (by omega)
  have f3 : bc3 Y = pop8 a + 256 * (pop8 b + 256 * (pop8 c + 256 * pop8 d)) := by
    unfold bc3
    rw [f2, show pp2 a + 256 * (pp2 b + 256 * (pp2 c + 256 * pp2 d)) + (pp2 a + 256 * (pp2 b + 256 * (pp2 c + 256 * pp2 d))) / 16 = (pp2 a + (pp2 a / 16 + 16 * (pp2 b % 16))) + 256 * ((pp2 b + (pp2 b / 16 + 16 * (pp2 c % 16))) + 256 * ((pp2 c + (pp2 c / 16 + 16 * (pp2 d % 16))) + 256 * (pp2 d + (pp2 d / 16 + 16 * 0)))) by omega, show 252645135 = 15 + 256 * (15 + 256 * (15 + 256 * 15)) by rfl, and_byte _ _ _ _ (by omega) (by omega), and_byte _ _ _ _ (by omega) (by omega), and_byte _ _ _ _ (by omega) (by omega), a3.1, b3.1, c3.1, d3.1]
  have f4 : bc4 Y = (pop8 a + pop8 b) + 256 * ((pop8 b + pop8 c) + 256 * ((pop8 c + pop8 d) + 256 * pop8 d)) := by
    unfold bc4
    rw [show bc3 Y / 256 = pop8 b + 256 * (pop8 c + 256 * pop8 d) by omega]
    omega
  have f5 : bc4 Y / 65536 = (pop8 c + pop8 d) + 256 * pop8 d := by omega
  refine ⟨?_, ?_, ?_, ?_, ?_, ?_, ?_⟩
  · unfold bc1; omega
  · omega
  · omega
  · omega
  · omega
  · omega
  · unfold bc5
    rw [f5, f4]
    omega
