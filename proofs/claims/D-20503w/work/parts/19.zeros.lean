/-! ## walks (written by tools) -/
set_option maxRecDepth 100000
def dkwJ17_numberOfTrailingZeros_3 : List UInt8 := [5, 124, 59, 27, 26, 4, 124, 96, 172]
abbrev dktJ17_numberOfTrailingZeros_3 : List UInt8 := dkwJ17_numberOfTrailingZeros_3 ++ []
def dkwJ17_numberOfTrailingZeros_2 : List UInt8 := [124, 59, 26, 16, 16, 164, 0, 10, 132, 1, 4, 26, 7, 124, 59, 26, 7, 164, 0, 10, 132, 1, 2, 26]
abbrev dktJ17_numberOfTrailingZeros_2 : List UInt8 := dkwJ17_numberOfTrailingZeros_2 ++ dktJ17_numberOfTrailingZeros_3
def dkwJ17_numberOfTrailingZeros_1 : List UInt8 := [164, 0, 11, 132, 1, 16, 26, 16, 16, 124, 59, 26, 17, 1, 0, 164, 0, 11, 132, 1, 8, 26, 16, 8]
abbrev dktJ17_numberOfTrailingZeros_1 : List UInt8 := dkwJ17_numberOfTrailingZeros_1 ++ dktJ17_numberOfTrailingZeros_2
def dkwJ17_numberOfTrailingZeros_0 : List UInt8 := [26, 2, 130, 26, 4, 100, 126, 59, 26, 157, 0, 8, 26, 16, 32, 126, 172, 4, 60, 26, 19, 1, 8]
abbrev dktJ17_numberOfTrailingZeros_0 : List UInt8 := dkwJ17_numberOfTrailingZeros_0 ++ dktJ17_numberOfTrailingZeros_1
theorem dksJ17_numberOfTrailingZeros_0 : cJ17_numberOfTrailingZeros.data.toList.drop 0 = dktJ17_numberOfTrailingZeros_0 := by decide +kernel
theorem dksJ17_numberOfTrailingZeros_1 : cJ17_numberOfTrailingZeros.data.toList.drop 23 = dktJ17_numberOfTrailingZeros_1 := dk_seg dksJ17_numberOfTrailingZeros_0 23 rfl rfl
theorem dksJ17_numberOfTrailingZeros_2 : cJ17_numberOfTrailingZeros.data.toList.drop 47 = dktJ17_numberOfTrailingZeros_2 := dk_seg dksJ17_numberOfTrailingZeros_1 24 rfl rfl
theorem dksJ17_numberOfTrailingZeros_3 : cJ17_numberOfTrailingZeros.data.toList.drop 71 = dktJ17_numberOfTrailingZeros_3 := dk_seg dksJ17_numberOfTrailingZeros_2 24 rfl rfl
theorem dJ17_numberOfTrailingZeros_0 : decode cJ17_numberOfTrailingZeros 0 = .ok (.iload_n 0, 1) := dk_26 (dk_at dksJ17_numberOfTrailingZeros_0 0 rfl rfl)
theorem dJ17_numberOfTrailingZeros_1 : decode cJ17_numberOfTrailingZeros 1 = .ok (.iconst (-1), 1) := dk_2 (dk_at dksJ17_numberOfTrailingZeros_0 1 rfl rfl)
theorem dJ17_numberOfTrailingZeros_2 : decode cJ17_numberOfTrailingZeros 2 = .ok (.ixor, 1) := dk_130 (dk_at dksJ17_numberOfTrailingZeros_0 2 rfl rfl)
theorem dJ17_numberOfTrailingZeros_3 : decode cJ17_numberOfTrailingZeros 3 = .ok (.iload_n 0, 1) := dk_26 (dk_at dksJ17_numberOfTrailingZeros_0 3 rfl rfl)
theorem dJ17_numberOfTrailingZeros_4 : decode cJ17_numberOfTrailingZeros 4 = .ok (.iconst 1, 1) := dk_4 (dk_at dksJ17_numberOfTrailingZeros_0 4 rfl rfl)
theorem dJ17_numberOfTrailingZeros_5 : decode cJ17_numberOfTrailingZeros 5 = .ok (.isub, 1) := dk_100 (dk_at dksJ17_numberOfTrailingZeros_0 5 rfl rfl)
theorem dJ17_numberOfTrailingZeros_6 : decode cJ17_numberOfTrailingZeros 6 = .ok (.iand, 1) := dk_126 (dk_at dksJ17_numberOfTrailingZeros_0 6 rfl rfl)
theorem dJ17_numberOfTrailingZeros_7 : decode cJ17_numberOfTrailingZeros 7 = .ok (.istore_n 0, 1) := dk_59 (dk_at dksJ17_numberOfTrailingZeros_0 7 rfl rfl)
theorem dJ17_numberOfTrailingZeros_8 : decode cJ17_numberOfTrailingZeros 8 = .ok (.iload_n 0, 1) := dk_26 (dk_at dksJ17_numberOfTrailingZeros_0 8 rfl rfl)
theorem dJ17_numberOfTrailingZeros_9 : decode cJ17_numberOfTrailingZeros 9 = .ok (.ifCond .gt 8, 3) := dk_157 0 8 (dk_at dksJ17_numberOfTrailingZeros_0 9 rfl rfl)
theorem dJ17_numberOfTrailingZeros_12 : decode cJ17_numberOfTrailingZeros 12 = .ok (.iload_n 0, 1) := dk_26 (dk_at dksJ17_numberOfTrailingZeros_0 12 rfl rfl)
theorem dJ17_numberOfTrailingZeros_13 : decode cJ17_numberOfTrailingZeros 13 = .ok (.bipush 32, 2) := dk_16 32 (dk_at dksJ17_numberOfTrailingZeros_0 13 rfl rfl)
theorem dJ17_numberOfTrailingZeros_15 : decode cJ17_numberOfTrailingZeros 15 = .ok (.iand, 1) := dk_126 (dk_at dksJ17_numberOfTrailingZeros_0 15 rfl rfl)
theorem dJ17_numberOfTrailingZeros_16 : decode cJ17_numberOfTrailingZeros 16 = .ok (.ireturn, 1) := dk_172 (dk_at dksJ17_numberOfTrailingZeros_0 16 rfl rfl)
theorem dJ17_numberOfTrailingZeros_17 : decode cJ17_numberOfTrailingZeros 17 = .ok (.iconst 1, 1) := dk_4 (dk_at dksJ17_numberOfTrailingZeros_0 17 rfl rfl)
theorem dJ17_numberOfTrailingZeros_18 : decode cJ17_numberOfTrailingZeros 18 = .ok (.istore_n 1, 1) := dk_60 (dk_at dksJ17_numberOfTrailingZeros_0 18 rfl rfl)
theorem dJ17_numberOfTrailingZeros_19 : decode cJ17_numberOfTrailingZeros 19 = .ok (.iload_n 0, 1) := dk_26 (dk_at dksJ17_numberOfTrailingZeros_0 19 rfl rfl)
theorem dJ17_numberOfTrailingZeros_20 : decode cJ17_numberOfTrailingZeros 20 = .ok (.ldc_w 264, 3) := dk_19 1 8 (dk_at dksJ17_numberOfTrailingZeros_0 20 rfl rfl)
theorem dJ17_numberOfTrailingZeros_23 : decode cJ17_numberOfTrailingZeros 23 = .ok (.if_icmp .le 11, 3) := dk_164 0 11 (dk_at dksJ17_numberOfTrailingZeros_1 0 rfl rfl)
theorem dJ17_numberOfTrailingZeros_26 : decode cJ17_numberOfTrailingZeros 26 = .ok (.iinc 1 16, 3) := dk_132 1 16 (dk_at dksJ17_numberOfTrailingZeros_1 3 rfl rfl)
theorem dJ17_numberOfTrailingZeros_29 : decode cJ17_numberOfTrailingZeros 29 = .ok (.iload_n 0, 1) := dk_26 (dk_at dksJ17_numberOfTrailingZeros_1 6 rfl rfl)
theorem dJ17_numberOfTrailingZeros_30 : decode cJ17_numberOfTrailingZeros 30 = .ok (.bipush 16, 2) := dk_16 16 (dk_at dksJ17_numberOfTrailingZeros_1 7 rfl rfl)
theorem dJ17_numberOfTrailingZeros_32 : decode cJ17_numberOfTrailingZeros 32 = .ok (.iushr, 1) := dk_124 (dk_at dksJ17_numberOfTrailingZeros_1 9 rfl rfl)
theorem dJ17_numberOfTrailingZeros_33 : decode cJ17_numberOfTrailingZeros 33 = .ok (.istore_n 0, 1) := dk_59 (dk_at dksJ17_numberOfTrailingZeros_1 10 rfl rfl)
theorem dJ17_numberOfTrailingZeros_34 : decode cJ17_numberOfTrailingZeros 34 = .ok (.iload_n 0, 1) := dk_26 (dk_at dksJ17_numberOfTrailingZeros_1 11 rfl rfl)
theorem dJ17_numberOfTrailingZeros_35 : decode cJ17_numberOfTrailingZeros 35 = .ok (.sipush 256, 3) := dk_17 1 0 (dk_at dksJ17_numberOfTrailingZeros_1 12 rfl rfl)
theorem dJ17_numberOfTrailingZeros_38 : decode cJ17_numberOfTrailingZeros 38 = .ok (.if_icmp .le 11, 3) := dk_164 0 11 (dk_at dksJ17_numberOfTrailingZeros_1 15 rfl rfl)
theorem dJ17_numberOfTrailingZeros_41 : decode cJ17_numberOfTrailingZeros 41 = .ok (.iinc 1 8, 3) := dk_132 1 8 (dk_at dksJ17_numberOfTrailingZeros_1 18 rfl rfl)
theorem dJ17_numberOfTrailingZeros_44 : decode cJ17_numberOfTrailingZeros 44 = .ok (.iload_n 0, 1) := dk_26 (dk_at dksJ17_numberOfTrailingZeros_1 21 rfl rfl)
theorem dJ17_numberOfTrailingZeros_45 : decode cJ17_numberOfTrailingZeros 45 = .ok (.bipush 8, 2) := dk_16 8 (dk_at dksJ17_numberOfTrailingZeros_1 22 rfl rfl)
theorem dJ17_numberOfTrailingZeros_47 : decode cJ17_numberOfTrailingZeros 47 = .ok (.iushr, 1) := dk_124 (dk_at dksJ17_numberOfTrailingZeros_2 0 rfl rfl)
theorem dJ17_numberOfTrailingZeros_48 : decode cJ17_numberOfTrailingZeros 48 = .ok (.istore_n 0, 1) := dk_59 (dk_at dksJ17_numberOfTrailingZeros_2 1 rfl rfl)
theorem dJ17_numberOfTrailingZeros_49 : decode cJ17_numberOfTrailingZeros 49 = .ok (.iload_n 0, 1) := dk_26 (dk_at dksJ17_numberOfTrailingZeros_2 2 rfl rfl)
theorem dJ17_numberOfTrailingZeros_50 : decode cJ17_numberOfTrailingZeros 50 = .ok (.bipush 16, 2) := dk_16 16 (dk_at dksJ17_numberOfTrailingZeros_2 3 rfl rfl)
theorem dJ17_numberOfTrailingZeros_52 : decode cJ17_numberOfTrailingZeros 52 = .ok (.if_icmp .le 10, 3) := dk_164 0 10 (dk_at dksJ17_numberOfTrailingZeros_2 5 rfl rfl)
theorem dJ17_numberOfTrailingZeros_55 : decode cJ17_numberOfTrailingZeros 55 = .ok (.iinc 1 4, 3) := dk_132 1 4 (dk_at dksJ17_numberOfTrailingZeros_2 8 rfl rfl)
theorem dJ17_numberOfTrailingZeros_58 : decode cJ17_numberOfTrailingZeros 58 = .ok (.iload_n 0, 1) := dk_26 (dk_at dksJ17_numberOfTrailingZeros_2 11 rfl rfl)
theorem dJ17_numberOfTrailingZeros_59 : decode cJ17_numberOfTrailingZeros 59 = .ok (.iconst 4, 1) := dk_7 (dk_at dksJ17_numberOfTrailingZeros_2 12 rfl rfl)
theorem dJ17_numberOfTrailingZeros_60 : decode cJ17_numberOfTrailingZeros 60 = .ok (.iushr, 1) := dk_124 (dk_at dksJ17_numberOfTrailingZeros_2 13 rfl rfl)
theorem dJ17_numberOfTrailingZeros_61 : decode cJ17_numberOfTrailingZeros 61 = .ok (.istore_n 0, 1) := dk_59 (dk_at dksJ17_numberOfTrailingZeros_2 14 rfl rfl)
theorem dJ17_numberOfTrailingZeros_62 : decode cJ17_numberOfTrailingZeros 62 = .ok (.iload_n 0, 1) := dk_26 (dk_at dksJ17_numberOfTrailingZeros_2 15 rfl rfl)
theorem dJ17_numberOfTrailingZeros_63 : decode cJ17_numberOfTrailingZeros 63 = .ok (.iconst 4, 1) := dk_7 (dk_at dksJ17_numberOfTrailingZeros_2 16 rfl rfl)
theorem dJ17_numberOfTrailingZeros_64 : decode cJ17_numberOfTrailingZeros 64 = .ok (.if_icmp .le 10, 3) := dk_164 0 10 (dk_at dksJ17_numberOfTrailingZeros_2 17 rfl rfl)
theorem dJ17_numberOfTrailingZeros_67 : decode cJ17_numberOfTrailingZeros 67 = .ok (.iinc 1 2, 3) := dk_132 1 2 (dk_at dksJ17_numberOfTrailingZeros_2 20 rfl rfl)
theorem dJ17_numberOfTrailingZeros_70 : decode cJ17_numberOfTrailingZeros 70 = .ok (.iload_n 0, 1) := dk_26 (dk_at dksJ17_numberOfTrailingZeros_2 23 rfl rfl)
theorem dJ17_numberOfTrailingZeros_71 : decode cJ17_numberOfTrailingZeros 71 = .ok (.iconst 2, 1) := dk_5 (dk_at dksJ17_numberOfTrailingZeros_3 0 rfl rfl)
theorem dJ17_numberOfTrailingZeros_72 : decode cJ17_numberOfTrailingZeros 72 = .ok (.iushr, 1) := dk_124 (dk_at dksJ17_numberOfTrailingZeros_3 1 rfl rfl)
theorem dJ17_numberOfTrailingZeros_73 : decode cJ17_numberOfTrailingZeros 73 = .ok (.istore_n 0, 1) := dk_59 (dk_at dksJ17_numberOfTrailingZeros_3 2 rfl rfl)
theorem dJ17_numberOfTrailingZeros_74 : decode cJ17_numberOfTrailingZeros 74 = .ok (.iload_n 1, 1) := dk_27 (dk_at dksJ17_numberOfTrailingZeros_3 3 rfl rfl)
theorem dJ17_numberOfTrailingZeros_75 : decode cJ17_numberOfTrailingZeros 75 = .ok (.iload_n 0, 1) := dk_26 (dk_at dksJ17_numberOfTrailingZeros_3 4 rfl rfl)
theorem dJ17_numberOfTrailingZeros_76 : decode cJ17_numberOfTrailingZeros 76 = .ok (.iconst 1, 1) := dk_4 (dk_at dksJ17_numberOfTrailingZeros_3 5 rfl rfl)
theorem dJ17_numberOfTrailingZeros_77 : decode cJ17_numberOfTrailingZeros 77 = .ok (.iushr, 1) := dk_124 (dk_at dksJ17_numberOfTrailingZeros_3 6 rfl rfl)
theorem dJ17_numberOfTrailingZeros_78 : decode cJ17_numberOfTrailingZeros 78 = .ok (.iadd, 1) := dk_96 (dk_at dksJ17_numberOfTrailingZeros_3 7 rfl rfl)
theorem dJ17_numberOfTrailingZeros_79 : decode cJ17_numberOfTrailingZeros 79 = .ok (.ireturn, 1) := dk_172 (dk_at dksJ17_numberOfTrailingZeros_3 8 rfl rfl)
def dkwJ16_numberOfTrailingZeros_1 : List UInt8 := [184, 1, 55, 172]
abbrev dktJ16_numberOfTrailingZeros_1 : List UInt8 := dkwJ16_numberOfTrailingZeros_1 ++ []
def dkwJ16_numberOfTrailingZeros_0 : List UInt8 := [30, 136, 61, 28, 154, 0, 17, 16, 32, 30, 16, 32, 125, 136, 184, 1, 55, 96, 167, 0, 7, 28]
abbrev dktJ16_numberOfTrailingZeros_0 : List UInt8 := dkwJ16_numberOfTrailingZeros_0 ++ dktJ16_numberOfTrailingZeros_1
theorem dksJ16_numberOfTrailingZeros_0 : cJ16_numberOfTrailingZeros.data.toList.drop 0 = dktJ16_numberOfTrailingZeros_0 := by decide +kernel
theorem dksJ16_numberOfTrailingZeros_1 : cJ16_numberOfTrailingZeros.data.toList.drop 22 = dktJ16_numberOfTrailingZeros_1 := dk_seg dksJ16_numberOfTrailingZeros_0 22 rfl rfl
theorem dJ16_numberOfTrailingZeros_0 : decode cJ16_numberOfTrailingZeros 0 = .ok (.lload_n 0, 1) := dk_30 (dk_at dksJ16_numberOfTrailingZeros_0 0 rfl rfl)
theorem dJ16_numberOfTrailingZeros_1 : decode cJ16_numberOfTrailingZeros 1 = .ok (.l2i, 1) := dk_136 (dk_at dksJ16_numberOfTrailingZeros_0 1 rfl rfl)
theorem dJ16_numberOfTrailingZeros_2 : decode cJ16_numberOfTrailingZeros 2 = .ok (.istore_n 2, 1) := dk_61 (dk_at dksJ16_numberOfTrailingZeros_0 2 rfl rfl)
theorem dJ16_numberOfTrailingZeros_3 : decode cJ16_numberOfTrailingZeros 3 = .ok (.iload_n 2, 1) := dk_28 (dk_at dksJ16_numberOfTrailingZeros_0 3 rfl rfl)
theorem dJ16_numberOfTrailingZeros_4 : decode cJ16_numberOfTrailingZeros 4 = .ok (.ifCond .ne 17, 3) := dk_154 0 17 (dk_at dksJ16_numberOfTrailingZeros_0 4 rfl rfl)
theorem dJ16_numberOfTrailingZeros_7 : decode cJ16_numberOfTrailingZeros 7 = .ok (.bipush 32, 2) := dk_16 32 (dk_at dksJ16_numberOfTrailingZeros_0 7 rfl rfl)
theorem dJ16_numberOfTrailingZeros_9 : decode cJ16_numberOfTrailingZeros 9 = .ok (.lload_n 0, 1) := dk_30 (dk_at dksJ16_numberOfTrailingZeros_0 9 rfl rfl)
theorem dJ16_numberOfTrailingZeros_10 : decode cJ16_numberOfTrailingZeros 10 = .ok (.bipush 32, 2) := dk_16 32 (dk_at dksJ16_numberOfTrailingZeros_0 10 rfl rfl)
theorem dJ16_numberOfTrailingZeros_12 : decode cJ16_numberOfTrailingZeros 12 = .ok (.lushr, 1) := dk_125 (dk_at dksJ16_numberOfTrailingZeros_0 12 rfl rfl)
theorem dJ16_numberOfTrailingZeros_13 : decode cJ16_numberOfTrailingZeros 13 = .ok (.l2i, 1) := dk_136 (dk_at dksJ16_numberOfTrailingZeros_0 13 rfl rfl)
theorem dJ16_numberOfTrailingZeros_14 : decode cJ16_numberOfTrailingZeros 14 = .ok (.invokestatic 311, 3) := dk_184 1 55 (dk_at dksJ16_numberOfTrailingZeros_0 14 rfl rfl)
theorem dJ16_numberOfTrailingZeros_17 : decode cJ16_numberOfTrailingZeros 17 = .ok (.iadd, 1) := dk_96 (dk_at dksJ16_numberOfTrailingZeros_0 17 rfl rfl)
theorem dJ16_numberOfTrailingZeros_18 : decode cJ16_numberOfTrailingZeros 18 = .ok (.goto 7, 3) := dk_167 0 7 (dk_at dksJ16_numberOfTrailingZeros_0 18 rfl rfl)
theorem dJ16_numberOfTrailingZeros_21 : decode cJ16_numberOfTrailingZeros 21 = .ok (.iload_n 2, 1) := dk_28 (dk_at dksJ16_numberOfTrailingZeros_0 21 rfl rfl)
theorem dJ16_numberOfTrailingZeros_22 : decode cJ16_numberOfTrailingZeros 22 = .ok (.invokestatic 311, 3) := dk_184 1 55 (dk_at dksJ16_numberOfTrailingZeros_1 0 rfl rfl)
theorem dJ16_numberOfTrailingZeros_25 : decode cJ16_numberOfTrailingZeros 25 = .ok (.ireturn, 1) := dk_172 (dk_at dksJ16_numberOfTrailingZeros_1 3 rfl rfl)
theorem yd_J17_numberOfTrailingZeros : yJ17_numberOfTrailingZeros.cls ≠ "java/lang/invoke/MethodHandle" ∧ yJ17_numberOfTrailingZeros.cls ≠ "java/lang/invoke/VarHandle" ∧ (parseMethodDescriptor yJ17_numberOfTrailingZeros.desc).map (fun d => d.parameters.length) = some 1 := by decide +kernel
def ntzC (v : Int32) : Int32 :=
  let n0 : Int32 := if v ≤ 65536 then 1 else 1 + 16
  let v0 : Int32 := if v ≤ 65536 then v else (v.toUInt32 >>> ((16 : Int32).toUInt32 &&& Int32.toUInt32 31)).toInt32
  let n1 : Int32 := if v0 ≤ 256 then n0 else n0 + 8
  let v1 : Int32 := if v0 ≤ 256 then v0 else (v0.toUInt32 >>> ((8 : Int32).toUInt32 &&& Int32.toUInt32 31)).toInt32
  let n2 : Int32 := if v1 ≤ 16 then n1 else n1 + 4
  let v2 : Int32 := if v1 ≤ 16 then v1 else (v1.toUInt32 >>> ((4 : Int32).toUInt32 &&& Int32.toUInt32 31)).toInt32
  let n3 : Int32 := if v2 ≤ 4 then n2 else n2 + 2
  let v3 : Int32 := if v2 ≤ 4 then v2 else (v2.toUInt32 >>> ((2 : Int32).toUInt32 &&& Int32.toUInt32 31)).toInt32
  n3 + (v3.toUInt32 >>> ((1 : Int32).toUInt32 &&& Int32.toUInt32 31)).toInt32
def ntzI (v : Int32) : Int32 := if 0 < ((v ^^^ (-1)) &&& (v - 1)) then ntzC ((v ^^^ (-1)) &&& (v - 1)) else ((v ^^^ (-1)) &&& (v - 1)) &&& 32
/-- trailing zeros of n, at most f -/
def tzF : Nat → Nat → Nat
  | 0, _ => 0
  | f + 1, n => if n % 2 = 1 then 0 else tzF f (n / 2) + 1
def tz (n : Nat) : Nat := tzF 64 n
theorem tzF_spec : ∀ (f n : Nat), 0 < n → n < 2 ^ f → tzF f n < f ∧ n % 2 ^ tzF f n = 0 ∧ n / 2 ^ tzF f n % 2 = 1 := by
  intro f
  induction f with
  | zero => intro n h1 h2; simp at h2; omega
  | succ f ih =>
    intro n h1 h2
    unfold tzF
    by_cases h : n % 2 = 1
    · rw [if_pos h]
      simp
      omega
    · rw [if_neg h]
      have h3 : n / 2 < 2 ^ f := by rw [Nat.pow_succ] at h2; omega
      obtain ⟨a, b, c⟩ := ih (n / 2) (by omega) h3
      refine ⟨by omega, ?_, ?_⟩
      · rw [Nat.pow_succ, Nat.mul_comm, Nat.mod_mul, b]
        omega
      · rw [Nat.pow_succ, Nat.mul_comm, ← Nat.div_div_eq_div_mul]
        exact c
theorem tz_uniq {n a b : Nat} (ha : n % 2 ^ a = 0) (ha2 : n / 2 ^ a % 2 = 1) (hb : n % 2 ^ b = 0) (hb2 : n / 2 ^ b % 2 = 1) : a = b := by
  have key : ∀ a b : Nat, n / 2 ^ a % 2 = 1 → n % 2 ^ b = 0 → ¬ a < b := by
    intro a b h1 h2 h3
    obtain ⟨d, rfl⟩ : ∃ d, b = a + 1 + d := ⟨b - a - 1, by omega⟩
    have h4 : 2 ^ (a + 1) ∣ n := Nat.dvd_trans ⟨2 ^ d, by rw [Nat.pow_add]⟩ (Nat.dvd_of_mod_eq_zero h2)
    obtain ⟨q, rfl⟩ := h4
    rw [Nat.pow_succ, Nat.mul_assoc, Nat.mul_div_cancel_left _ (Nat.two_pow_pos a)] at h1
    omega
  have := key a b ha2 hb
  have := key b a hb2 ha
  omega
theorem tz_spec {n : Nat} (h1 : 0 < n) (h2 : n < 2 ^ 64) : tz n < 64 ∧ n % 2 ^ tz n = 0 ∧ n / 2 ^ tz n % 2 = 1 := tzF_spec 64 n h1 h2
theorem tz_eq {n t : Nat} (h1 : 0 < n) (h2 : n < 2 ^ 64) (ht : n % 2 ^ t = 0) (ht2 : n / 2 ^ t % 2 = 1) : tz n = t := by
  obtain ⟨a, b, c⟩ := tz_spec h1 h2
  exact tz_uniq b c ht ht2
theorem ntzC_ok : ∀ t, t < 32 → 0 < t → ntzC (nI (2 ^ t - 1)) = nI t := by decide +kernel
theorem low_mask {n t : Nat} (hn : n < 2 ^ 32) (h0 : 0 < n) (ht : n % 2 ^ t = 0) (ht2 : n / 2 ^ t % 2 = 1) : ((nI n ^^^ (-1)) &&& (nI n - 1)) = nI (2 ^ t - 1) := by
  have ht32 : t < 32 := by
    rcases Nat.lt_or_ge t 32 with q | q
    · exact q
    · have : n < 2 ^ t := Nat.lt_of_lt_of_le hn (Nat.pow_le_pow_right (by decide) q)
      rw [Nat.div_eq_of_lt this] at ht2
      omega
  obtain ⟨q, rfl⟩ := Nat.dvd_of_mod_eq_zero ht
  rw [Nat.mul_div_cancel_left _ (Nat.two_pow_pos t)] at ht2
  have e1 : nI (2 ^ t * q) - 1 = nI (2 ^ t * q - 1) := by
    have := nI_pred (2 ^ t * q - 1)
    rw [show 2 ^ t * q - 1 + 1 = 2 ^ t * q by omega] at this
    exact this
  rw [e1]
  apply Int32.toBitVec_inj.mp
  apply BitVec.eq_of_getLsbD_eq
  intro i hi
  show (((nI (2 ^ t * q)).toBitVec ^^^ (-1 : Int32).toBitVec) &&& (nI (2 ^ t * q - 1)).toBitVec).getLsbD i = (nI (2 ^ t - 1)).toBitVec.getLsbD i
  rw [BitVec.getLsbD_and, BitVec.getLsbD_xor]
  have hb : ∀ m : Nat, (nI m).toBitVec.getLsbD i = m.testBit i := by
    intro m
    show (BitVec.ofNat 32 m).getLsbD i = _
    rw [BitVec.getLsbD_ofNat]
    simp [hi]
  have hm1 : ((-1 : Int32).toBitVec).getLsbD i = true := by
    show (BitVec.allOnes 32).getLsbD i = true
    rw [BitVec.getLsbD_allOnes]
    simp [hi]
  rw [hb, hb, hb, hm1]
  have e2 : 2 ^ t * q - 1 = 2 ^ t * (q - 1) + (2 ^ t - 1) := by
    have h9 : 2 ^ t * q = 2 ^ t * (q - 1) + 2 ^ t := by
      obtain ⟨r, rfl⟩ : ∃ r, q = r + 1 := ⟨q - 1, by omega⟩
      simp [Nat.mul_add]
    have := Nat.two_pow_pos t
    omega
  rw [e2, Nat.testBit_two_pow_mul_add _ (by have := Nat.two_pow_pos t; omega), Nat.testBit_two_pow_mul]
  by_cases hit : i < t
  · rw [if_pos hit]
    simp [hit]
    try omega
  · rw [if_neg hit, Nat.testBit_two_pow_sub_one]
    have h1 : t ≤ i := by omega
    simp [h1, hit]
    rcases Nat.eq_zero_or_pos (i - t) with z | z
    · rw [z]
      intro _
      simp [Nat.testBit_zero]
      omega
    · obtain ⟨j, hj⟩ : ∃ j, i - t = j + 1 := ⟨i - t - 1, by omega⟩
      rw [hj, Nat.testBit_succ, Nat.testBit_succ, show q / 2 = (q - 1) / 2 by omega]
      simp
theorem ntzI_ok {n t : Nat} (hn : n < 2 ^ 32) (h0 : 0 < n) (ht : n % 2 ^ t = 0) (ht2 : n / 2 ^ t % 2 = 1) : ntzI (nI n) = nI t := by
  have ht32 : t < 32 := by
    rcases Nat.lt_or_ge t 32 with q | q
    · exact q
    · have : n < 2 ^ t := Nat.lt_of_lt_of_le hn (Nat.pow_le_pow_right (by decide) q)
      rw [Nat.div_eq_of_lt this] at ht2
      omega
  unfold ntzI
  rw [low_mask hn h0 ht ht2]
  rcases Nat.eq_zero_or_pos t with z | z
  · subst z
    decide
  · have hp : (2 : Nat) ^ t ≤ 2 ^ 31 := Nat.pow_le_pow_right (by decide) (by omega)
    have hp2 : (2 : Nat) ^ 1 ≤ 2 ^ t := Nat.pow_le_pow_right (by decide) z
    rw [if_pos]
    · exact ntzC_ok t ht32 z
    · exact nI_lt (a := 0) (by omega) (by omega)

set_option maxHeartbeats 1000000 in
theorem m_ntzI (l : Launch) (z : State) (H0 : Heap) (v : Int32)   : Met l yJ17_numberOfTrailingZeros (ws_ yJ17_numberOfTrailingZeros cJ17_numberOfTrailingZeros 2 (some .int)) { frames := 0, cells := 0, slots := 0, locals := 0 } (gPc z H0 [.int v]) (gPi H0 (fun r => r = ntzI v)) 0 0 gno := by
  refine g_start (by decide +kernel) (Nat.le_of_ble_eq_true rfl) ?_
  intro p e s m below meth c ls hx hb hr hlocks hml hown hname hts hwm hl
  have hown : s.vm.findClass "java/lang/Integer" = some m.cls := hown
  have hal : z.vm.Alike s.vm := hwm.alike
  have hCF : CallFix p m c cJ17_numberOfTrailingZeros 2 s [.int v].toArray lw_all "java/lang/Integer" := ⟨hx, hb, hml, hown, hts⟩
  have hl : lv_has ls 2 [(0, .int v)] := hl
  refine lv_iload_n hx hb dJ17_numberOfTrailingZeros_0 rfl (lv_at hl 0 rfl) ?_
  refine lv_iconst (v := -1) hx hb dJ17_numberOfTrailingZeros_1 (by decide) ?_
  refine lv_ixor hx hb dJ17_numberOfTrailingZeros_2 ?_
  refine lv_iload_n hx hb dJ17_numberOfTrailingZeros_3 rfl (lv_at hl 0 rfl) ?_
  refine lv_iconst (v := 1) hx hb dJ17_numberOfTrailingZeros_4 (by decide) ?_
  refine lv_isub hx hb dJ17_numberOfTrailingZeros_5 ?_
  refine lv_iand hx hb dJ17_numberOfTrailingZeros_6 ?_
  refine lv_topi (fun u eu => ?_)
  refine lv_istore_n hx hb dJ17_numberOfTrailingZeros_7 rfl hl (by decide) rfl (fun ls hl => ?_)
  have hl : lv_has ls 2 [(0, .int u)] := hl
  refine lv_iload_n hx hb dJ17_numberOfTrailingZeros_8 rfl (lv_at hl 0 rfl) ?_
  refine lv_if_gt (tgt := 17) hx hb dJ17_numberOfTrailingZeros_9 (by decide) (fun c_9 => ?_) (fun c_9 => ?_)
  · skip
    refine lv_iconst (v := 1) hx hb dJ17_numberOfTrailingZeros_17 (by decide) ?_
    refine lv_istore_n hx hb dJ17_numberOfTrailingZeros_18 rfl hl (by decide) rfl (fun ls hl => ?_)
    have hl : lv_has ls 2 [(1, .int 1), (0, .int u)] := hl
    refine lv_iload_n hx hb dJ17_numberOfTrailingZeros_19 rfl (lv_at hl 1 rfl) ?_
    refine lv_ldcw (v := 65536) hx hb hown (hts _ q390) dJ17_numberOfTrailingZeros_20 ?_
    refine lv_icmp_le (tgt := 34) hx hb dJ17_numberOfTrailingZeros_23 (by decide) (fun c_23 => ?_) (fun c_23 => ?_)
    · skip
      refine lv_iload_n hx hb dJ17_numberOfTrailingZeros_34 rfl (lv_at hl 1 rfl) ?_
      refine lv_sipush (v := 256) hx hb dJ17_numberOfTrailingZeros_35 (by decide) ?_
      refine lv_icmp_le (tgt := 49) hx hb dJ17_numberOfTrailingZeros_38 (by decide) (fun c_38 => ?_) (fun c_38 => ?_)
      · skip
        refine lv_iload_n hx hb dJ17_numberOfTrailingZeros_49 rfl (lv_at hl 1 rfl) ?_
        refine lv_bipush (v := 16) hx hb dJ17_numberOfTrailingZeros_50 (by decide) ?_
        refine lv_icmp_le (tgt := 62) hx hb dJ17_numberOfTrailingZeros_52 (by decide) (fun c_52 => ?_) (fun c_52 => ?_)
        · skip
          refine lv_iload_n hx hb dJ17_numberOfTrailingZeros_62 rfl (lv_at hl 1 rfl) ?_
          refine lv_iconst (v := 4) hx hb dJ17_numberOfTrailingZeros_63 (by decide) ?_
          refine lv_icmp_le (tgt := 74) hx hb dJ17_numberOfTrailingZeros_64 (by decide) (fun c_64 => ?_) (fun c_64 => ?_)
          · skip
            refine lv_iload_n hx hb dJ17_numberOfTrailingZeros_74 rfl (lv_at hl 0 rfl) ?_
            refine lv_iload_n hx hb dJ17_numberOfTrailingZeros_75 rfl (lv_at hl 1 rfl) ?_
            refine lv_iconst (v := 1) hx hb dJ17_numberOfTrailingZeros_76 (by decide) ?_
            refine lv_iushr hx hb dJ17_numberOfTrailingZeros_77 rfl ?_
            refine lv_iadd hx hb dJ17_numberOfTrailingZeros_78 ?_
            refine g_iretP hx hb hr hlocks ?_ dJ17_numberOfTrailingZeros_79
            unfold ntzI
            subst_vars
            rw [if_pos c_9]
            unfold ntzC
            simp only [c_23, c_38, c_52, c_64, if_true, if_false, ite_true, ite_false]
          · skip
            refine lv_iinc (k := 0) (v := (1 + 2)) hx hb dJ17_numberOfTrailingZeros_67 hl rfl (rfl) (by decide) rfl (fun ls hl => ?_)
            have hl : lv_has ls 2 [(1, .int (1 + 2)), (0, .int u)] := hl
            refine lv_iload_n hx hb dJ17_numberOfTrailingZeros_70 rfl (lv_at hl 1 rfl) ?_
            refine lv_iconst (v := 2) hx hb dJ17_numberOfTrailingZeros_71 (by decide) ?_
            refine lv_iushr hx hb dJ17_numberOfTrailingZeros_72 rfl ?_
            refine lv_topi (fun x_1 ex_1 => ?_)
            refine lv_istore_n hx hb dJ17_numberOfTrailingZeros_73 rfl hl (by decide) rfl (fun ls hl => ?_)
            have hl : lv_has ls 2 [(0, .int x_1), (1, .int (1 + 2))] := hl
            refine lv_iload_n hx hb dJ17_numberOfTrailingZeros_74 rfl (lv_at hl 1 rfl) ?_
            refine lv_iload_n hx hb dJ17_numberOfTrailingZeros_75 rfl (lv_at hl 0 rfl) ?_
            refine lv_iconst (v := 1) hx hb dJ17_numberOfTrailingZeros_76 (by decide) ?_
            refine lv_iushr hx hb dJ17_numberOfTrailingZeros_77 rfl ?_
            refine lv_iadd hx hb dJ17_numberOfTrailingZeros_78 ?_
            refine g_iretP hx hb hr hlocks ?_ dJ17_numberOfTrailingZeros_79
            unfold ntzI
            subst_vars
            rw [if_pos c_9]
            unfold ntzC
            simp only [c_23, c_38, c_52, c_64, if_true, if_false, ite_true, ite_false]
        · skip
          refine lv_iinc (k := 0) (v := (1 + 4)) hx hb dJ17_numberOfTrailingZeros_55 hl rfl (rfl) (by decide) rfl (fun ls hl => ?_)
          have hl : lv_has ls 2 [(1, .int (1 + 4)), (0, .int u)] := hl
          refine lv_iload_n hx hb dJ17_numberOfTrailingZeros_58 rfl (lv_at hl 1 rfl) ?_
          refine lv_iconst (v := 4) hx hb dJ17_numberOfTrailingZeros_59 (by decide) ?_
          refine lv_iushr hx hb dJ17_numberOfTrailingZeros_60 rfl ?_
          refine lv_topi (fun x_2 ex_2 => ?_)
          refine lv_istore_n hx hb dJ17_numberOfTrailingZeros_61 rfl hl (by decide) rfl (fun ls hl => ?_)
          have hl : lv_has ls 2 [(0, .int x_2), (1, .int (1 + 4))] := hl
          refine lv_iload_n hx hb dJ17_numberOfTrailingZeros_62 rfl (lv_at hl 0 rfl) ?_
          refine lv_iconst (v := 4) hx hb dJ17_numberOfTrailingZeros_63 (by decide) ?_
          refine lv_icmp_le (tgt := 74) hx hb dJ17_numberOfTrailingZeros_64 (by decide) (fun c_64 => ?_) (fun c_64 => ?_)
          · skip
            refine lv_iload_n hx hb dJ17_numberOfTrailingZeros_74 rfl (lv_at hl 1 rfl) ?_
            refine lv_iload_n hx hb dJ17_numberOfTrailingZeros_75 rfl (lv_at hl 0 rfl) ?_
            refine lv_iconst (v := 1) hx hb dJ17_numberOfTrailingZeros_76 (by decide) ?_
            refine lv_iushr hx hb dJ17_numberOfTrailingZeros_77 rfl ?_
            refine lv_iadd hx hb dJ17_numberOfTrailingZeros_78 ?_
            refine g_iretP hx hb hr hlocks ?_ dJ17_numberOfTrailingZeros_79
            unfold ntzI
            subst_vars
            rw [if_pos c_9]
            unfold ntzC
            simp only [c_23, c_38, c_52, c_64, if_true, if_false, ite_true, ite_false]
          · skip
            refine lv_iinc (k := 1) (v := ((1 + 4) + 2)) hx hb dJ17_numberOfTrailingZeros_67 hl rfl (rfl) (by decide) rfl (fun ls hl => ?_)
            have hl : lv_has ls 2 [(1, .int ((1 + 4) + 2)), (0, .int x_2)] := hl
            refine lv_iload_n hx hb dJ17_numberOfTrailingZeros_70 rfl (lv_at hl 1 rfl) ?_
            refine lv_iconst (v := 2) hx hb dJ17_numberOfTrailingZeros_71 (by decide) ?_
            refine lv_iushr hx hb dJ17_numberOfTrailingZeros_72 rfl ?_
            refine lv_topi (fun x_3 ex_3 => ?_)
            refine lv_istore_n hx hb dJ17_numberOfTrailingZeros_73 rfl hl (by decide) rfl (fun ls hl => ?_)
            have hl : lv_has ls 2 [(0, .int x_3), (1, .int ((1 + 4) + 2))] := hl
            refine lv_iload_n hx hb dJ17_numberOfTrailingZeros_74 rfl (lv_at hl 1 rfl) ?_
            refine lv_iload_n hx hb dJ17_numberOfTrailingZeros_75 rfl (lv_at hl 0 rfl) ?_
            refine lv_iconst (v := 1) hx hb dJ17_numberOfTrailingZeros_76 (by decide) ?_
            refine lv_iushr hx hb dJ17_numberOfTrailingZeros_77 rfl ?_
            refine lv_iadd hx hb dJ17_numberOfTrailingZeros_78 ?_
            refine g_iretP hx hb hr hlocks ?_ dJ17_numberOfTrailingZeros_79
            unfold ntzI
            subst_vars
            rw [if_pos c_9]
            unfold ntzC
            simp only [c_23, c_38, c_52, c_64, if_true, if_false, ite_true, ite_false]
      · skip
        refine lv_iinc (k := 0) (v := (1 + 8)) hx hb dJ17_numberOfTrailingZeros_41 hl rfl (rfl) (by decide) rfl (fun ls hl => ?_)
        have hl : lv_has ls 2 [(1, .int (1 + 8)), (0, .int u)] := hl
        refine lv_iload_n hx hb dJ17_numberOfTrailingZeros_44 rfl (lv_at hl 1 rfl) ?_
        refine lv_bipush (v := 8) hx hb dJ17_numberOfTrailingZeros_45 (by decide) ?_
        refine lv_iushr hx hb dJ17_numberOfTrailingZeros_47 rfl ?_
        refine lv_topi (fun x_4 ex_4 => ?_)
        refine lv_istore_n hx hb dJ17_numberOfTrailingZeros_48 rfl hl (by decide) rfl (fun ls hl => ?_)
        have hl : lv_has ls 2 [(0, .int x_4), (1, .int (1 + 8))] := hl
        refine lv_iload_n hx hb dJ17_numberOfTrailingZeros_49 rfl (lv_at hl 0 rfl) ?_
        refine lv_bipush (v := 16) hx hb dJ17_numberOfTrailingZeros_50 (by decide) ?_
        refine lv_icmp_le (tgt := 62) hx hb dJ17_numberOfTrailingZeros_52 (by decide) (fun c_52 => ?_) (fun c_52 => ?_)
        · skip
          refine lv_iload_n hx hb dJ17_numberOfTrailingZeros_62 rfl (lv_at hl 0 rfl) ?_
          refine lv_iconst (v := 4) hx hb dJ17_numberOfTrailingZeros_63 (by decide) ?_
          refine lv_icmp_le (tgt := 74) hx hb dJ17_numberOfTrailingZeros_64 (by decide) (fun c_64 => ?_) (fun c_64 => ?_)
          · skip
            refine lv_iload_n hx hb dJ17_numberOfTrailingZeros_74 rfl (lv_at hl 1 rfl) ?_
            refine lv_iload_n hx hb dJ17_numberOfTrailingZeros_75 rfl (lv_at hl 0 rfl) ?_
            refine lv_iconst (v := 1) hx hb dJ17_numberOfTrailingZeros_76 (by decide) ?_
            refine lv_iushr hx hb dJ17_numberOfTrailingZeros_77 rfl ?_
            refine lv_iadd hx hb dJ17_numberOfTrailingZeros_78 ?_
            refine g_iretP hx hb hr hlocks ?_ dJ17_numberOfTrailingZeros_79
            unfold ntzI
            subst_vars
            rw [if_pos c_9]
            unfold ntzC
            simp only [c_23, c_38, c_52, c_64, if_true, if_false, ite_true, ite_false]
          · skip
            refine lv_iinc (k := 1) (v := ((1 + 8) + 2)) hx hb dJ17_numberOfTrailingZeros_67 hl rfl (rfl) (by decide) rfl (fun ls hl => ?_)
            have hl : lv_has ls 2 [(1, .int ((1 + 8) + 2)), (0, .int x_4)] := hl
            refine lv_iload_n hx hb dJ17_numberOfTrailingZeros_70 rfl (lv_at hl 1 rfl) ?_
            refine lv_iconst (v := 2) hx hb dJ17_numberOfTrailingZeros_71 (by decide) ?_
            refine lv_iushr hx hb dJ17_numberOfTrailingZeros_72 rfl ?_
            refine lv_topi (fun x_5 ex_5 => ?_)
            refine lv_istore_n hx hb dJ17_numberOfTrailingZeros_73 rfl hl (by decide) rfl (fun ls hl => ?_)
            have hl : lv_has ls 2 [(0, .int x_5), (1, .int ((1 + 8) + 2))] := hl
            refine lv_iload_n hx hb dJ17_numberOfTrailingZeros_74 rfl (lv_at hl 1 rfl) ?_
            refine lv_iload_n hx hb dJ17_numberOfTrailingZeros_75 rfl (lv_at hl 0 rfl) ?_
            refine lv_iconst (v := 1) hx hb dJ17_numberOfTrailingZeros_76 (by decide) ?_
            refine lv_iushr hx hb dJ17_numberOfTrailingZeros_77 rfl ?_
            refine lv_iadd hx hb dJ17_numberOfTrailingZeros_78 ?_
            refine g_iretP hx hb hr hlocks ?_ dJ17_numberOfTrailingZeros_79
            unfold ntzI
            subst_vars
            rw [if_pos c_9]
            unfold ntzC
            simp only [c_23, c_38, c_52, c_64, if_true, if_false, ite_true, ite_false]
        · skip
          refine lv_iinc (k := 1) (v := ((1 + 8) + 4)) hx hb dJ17_numberOfTrailingZeros_55 hl rfl (rfl) (by decide) rfl (fun ls hl => ?_)
          have hl : lv_has ls 2 [(1, .int ((1 + 8) + 4)), (0, .int x_4)] := hl
          refine lv_iload_n hx hb dJ17_numberOfTrailingZeros_58 rfl (lv_at hl 1 rfl) ?_
          refine lv_iconst (v := 4) hx hb dJ17_numberOfTrailingZeros_59 (by decide) ?_
          refine lv_iushr hx hb dJ17_numberOfTrailingZeros_60 rfl ?_
          refine lv_topi (fun x_6 ex_6 => ?_)
          refine lv_istore_n hx hb dJ17_numberOfTrailingZeros_61 rfl hl (by decide) rfl (fun ls hl => ?_)
          have hl : lv_has ls 2 [(0, .int x_6), (1, .int ((1 + 8) + 4))] := hl
          refine lv_iload_n hx hb dJ17_numberOfTrailingZeros_62 rfl (lv_at hl 0 rfl) ?_
          refine lv_iconst (v := 4) hx hb dJ17_numberOfTrailingZeros_63 (by decide) ?_
          refine lv_icmp_le (tgt := 74) hx hb dJ17_numberOfTrailingZeros_64 (by decide) (fun c_64 => ?_) (fun c_64 => ?_)
          · skip
            refine lv_iload_n hx hb dJ17_numberOfTrailingZeros_74 rfl (lv_at hl 1 rfl) ?_
            refine lv_iload_n hx hb dJ17_numberOfTrailingZeros_75 rfl (lv_at hl 0 rfl) ?_
            refine lv_iconst (v := 1) hx hb dJ17_numberOfTrailingZeros_76 (by decide) ?_
            refine lv_iushr hx hb dJ17_numberOfTrailingZeros_77 rfl ?_
            refine lv_iadd hx hb dJ17_numberOfTrailingZeros_78 ?_
            refine g_iretP hx hb hr hlocks ?_ dJ17_numberOfTrailingZeros_79
            unfold ntzI
            subst_vars
            rw [if_pos c_9]
            unfold ntzC
            simp only [c_23, c_38, c_52, c_64, if_true, if_false, ite_true, ite_false]
          · skip
            refine lv_iinc (k := 1) (v := (((1 + 8) + 4) + 2)) hx hb dJ17_numberOfTrailingZeros_67 hl rfl (rfl) (by decide) rfl (fun ls hl => ?_)
            have hl : lv_has ls 2 [(1, .int (((1 + 8) + 4) + 2)), (0, .int x_6)] := hl
            refine lv_iload_n hx hb dJ17_numberOfTrailingZeros_70 rfl (lv_at hl 1 rfl) ?_
            refine lv_iconst (v := 2) hx hb dJ17_numberOfTrailingZeros_71 (by decide) ?_
            refine lv_iushr hx hb dJ17_numberOfTrailingZeros_72 rfl ?_
            refine lv_topi (fun x_7 ex_7 => ?_)
            refine lv_istore_n hx hb dJ17_numberOfTrailingZeros_73 rfl hl (by decide) rfl (fun ls hl => ?_)
            have hl : lv_has ls 2 [(0, .int x_7), (1, .int (((1 + 8) + 4) + 2))] := hl
            refine lv_iload_n hx hb dJ17_numberOfTrailingZeros_74 rfl (lv_at hl 1 rfl) ?_
            refine lv_iload_n hx hb dJ17_numberOfTrailingZeros_75 rfl (lv_at hl 0 rfl) ?_
            refine lv_iconst (v := 1) hx hb dJ17_numberOfTrailingZeros_76 (by decide) ?_
            refine lv_iushr hx hb dJ17_numberOfTrailingZeros_77 rfl ?_
            refine lv_iadd hx hb dJ17_numberOfTrailingZeros_78 ?_
            refine g_iretP hx hb hr hlocks ?_ dJ17_numberOfTrailingZeros_79
            unfold ntzI
            subst_vars
            rw [if_pos c_9]
            unfold ntzC
            simp only [c_23, c_38, c_52, c_64, if_true, if_false, ite_true, ite_false]
    · skip
      refine lv_iinc (k := 0) (v := (1 + 16)) hx hb dJ17_numberOfTrailingZeros_26 hl rfl (rfl) (by decide) rfl (fun ls hl => ?_)
      have hl : lv_has ls 2 [(1, .int (1 + 16)), (0, .int u)] := hl
      refine lv_iload_n hx hb dJ17_numberOfTrailingZeros_29 rfl (lv_at hl 1 rfl) ?_
      refine lv_bipush (v := 16) hx hb dJ17_numberOfTrailingZeros_30 (by decide) ?_
      refine lv_iushr hx hb dJ17_numberOfTrailingZeros_32 rfl ?_
      refine lv_topi (fun x_8 ex_8 => ?_)
      refine lv_istore_n hx hb dJ17_numberOfTrailingZeros_33 rfl hl (by decide) rfl (fun ls hl => ?_)
      have hl : lv_has ls 2 [(0, .int x_8), (1, .int (1 + 16))] := hl
      refine lv_iload_n hx hb dJ17_numberOfTrailingZeros_34 rfl (lv_at hl 0 rfl) ?_
      refine lv_sipush (v := 256) hx hb dJ17_numberOfTrailingZeros_35 (by decide) ?_
      refine lv_icmp_le (tgt := 49) hx hb dJ17_numberOfTrailingZeros_38 (by decide) (fun c_38 => ?_) (fun c_38 => ?_)
      · skip
        refine lv_iload_n hx hb dJ17_numberOfTrailingZeros_49 rfl (lv_at hl 0 rfl) ?_
        refine lv_bipush (v := 16) hx hb dJ17_numberOfTrailingZeros_50 (by decide) ?_
        refine lv_icmp_le (tgt := 62) hx hb dJ17_numberOfTrailingZeros_52 (by decide) (fun c_52 => ?_) (fun c_52 => ?_)
        · skip
          refine lv_iload_n hx hb dJ17_numberOfTrailingZeros_62 rfl (lv_at hl 0 rfl) ?_
          refine lv_iconst (v := 4) hx hb dJ17_numberOfTrailingZeros_63 (by decide) ?_
          refine lv_icmp_le (tgt := 74) hx hb dJ17_numberOfTrailingZeros_64 (by decide) (fun c_64 => ?_) (fun c_64 => ?_)
          · skip
            refine lv_iload_n hx hb dJ17_numberOfTrailingZeros_74 rfl (lv_at hl 1 rfl) ?_
            refine lv_iload_n hx hb dJ17_numberOfTrailingZeros_75 rfl (lv_at hl 0 rfl) ?_
            refine lv_iconst (v := 1) hx hb dJ17_numberOfTrailingZeros_76 (by decide) ?_
            refine lv_iushr hx hb dJ17_numberOfTrailingZeros_77 rfl ?_
            refine lv_iadd hx hb dJ17_numberOfTrailingZeros_78 ?_
            refine g_iretP hx hb hr hlocks ?_ dJ17_numberOfTrailingZeros_79
            unfold ntzI
            subst_vars
            rw [if_pos c_9]
            unfold ntzC
            simp only [c_23, c_38, c_52, c_64, if_true, if_false, ite_true, ite_false]
          · skip
            refine lv_iinc (k := 1) (v := ((1 + 16) + 2)) hx hb dJ17_numberOfTrailingZeros_67 hl rfl (rfl) (by decide) rfl (fun ls hl => ?_)
            have hl : lv_has ls 2 [(1, .int ((1 + 16) + 2)), (0, .int x_8)] := hl
            refine lv_iload_n hx hb dJ17_numberOfTrailingZeros_70 rfl (lv_at hl 1 rfl) ?_
            refine lv_iconst (v := 2) hx hb dJ17_numberOfTrailingZeros_71 (by decide) ?_
            refine lv_iushr hx hb dJ17_numberOfTrailingZeros_72 rfl ?_
            refine lv_topi (fun x_9 ex_9 => ?_)
            refine lv_istore_n hx hb dJ17_numberOfTrailingZeros_73 rfl hl (by decide) rfl (fun ls hl => ?_)
            have hl : lv_has ls 2 [(0, .int x_9), (1, .int ((1 + 16) + 2))] := hl
            refine lv_iload_n hx hb dJ17_numberOfTrailingZeros_74 rfl (lv_at hl 1 rfl) ?_
            refine lv_iload_n hx hb dJ17_numberOfTrailingZeros_75 rfl (lv_at hl 0 rfl) ?_
            refine lv_iconst (v := 1) hx hb dJ17_numberOfTrailingZeros_76 (by decide) ?_
            refine lv_iushr hx hb dJ17_numberOfTrailingZeros_77 rfl ?_
            refine lv_iadd hx hb dJ17_numberOfTrailingZeros_78 ?_
            refine g_iretP hx hb hr hlocks ?_ dJ17_numberOfTrailingZeros_79
            unfold ntzI
            subst_vars
            rw [if_pos c_9]
            unfold ntzC
            simp only [c_23, c_38, c_52, c_64, if_true, if_false, ite_true, ite_false]
        · skip
          refine lv_iinc (k := 1) (v := ((1 + 16) + 4)) hx hb dJ17_numberOfTrailingZeros_55 hl rfl (rfl) (by decide) rfl (fun ls hl => ?_)
          have hl : lv_has ls 2 [(1, .int ((1 + 16) + 4)), (0, .int x_8)] := hl
          refine lv_iload_n hx hb dJ17_numberOfTrailingZeros_58 rfl (lv_at hl 1 rfl) ?_
          refine lv_iconst (v := 4) hx hb dJ17_numberOfTrailingZeros_59 (by decide) ?_
          refine lv_iushr hx hb dJ17_numberOfTrailingZeros_60 rfl ?_
          refine lv_topi (fun x_10 ex_10 => ?_)
          refine lv_istore_n hx hb dJ17_numberOfTrailingZeros_61 rfl hl (by decide) rfl (fun ls hl => ?_)
          have hl : lv_has ls 2 [(0, .int x_10), (1, .int ((1 + 16) + 4))] := hl
          refine lv_iload_n hx hb dJ17_numberOfTrailingZeros_62 rfl (lv_at hl 0 rfl) ?_
          refine lv_iconst (v := 4) hx hb dJ17_numberOfTrailingZeros_63 (by decide) ?_
          refine lv_icmp_le (tgt := 74) hx hb dJ17_numberOfTrailingZeros_64 (by decide) (fun c_64 => ?_) (fun c_64 => ?_)
          · skip
            refine lv_iload_n hx hb dJ17_numberOfTrailingZeros_74 rfl (lv_at hl 1 rfl) ?_
            refine lv_iload_n hx hb dJ17_numberOfTrailingZeros_75 rfl (lv_at hl 0 rfl) ?_
            refine lv_iconst (v := 1) hx hb dJ17_numberOfTrailingZeros_76 (by decide) ?_
            refine lv_iushr hx hb dJ17_numberOfTrailingZeros_77 rfl ?_
            refine lv_iadd hx hb dJ17_numberOfTrailingZeros_78 ?_
            refine g_iretP hx hb hr hlocks ?_ dJ17_numberOfTrailingZeros_79
            unfold ntzI
            subst_vars
            rw [if_pos c_9]
            unfold ntzC
            simp only [c_23, c_38, c_52, c_64, if_true, if_false, ite_true, ite_false]
          · skip
            refine lv_iinc (k := 1) (v := (((1 + 16) + 4) + 2)) hx hb dJ17_numberOfTrailingZeros_67 hl rfl (rfl) (by decide) rfl (fun ls hl => ?_)
            have hl : lv_has ls 2 [(1, .int (((1 + 16) + 4) + 2)), (0, .int x_10)] := hl
            refine lv_iload_n hx hb dJ17_numberOfTrailingZeros_70 rfl (lv_at hl 1 rfl) ?_
            refine lv_iconst (v := 2) hx hb dJ17_numberOfTrailingZeros_71 (by decide) ?_
            refine lv_iushr hx hb dJ17_numberOfTrailingZeros_72 rfl ?_
            refine lv_topi (fun x_11 ex_11 => ?_)
            refine lv_istore_n hx hb dJ17_numberOfTrailingZeros_73 rfl hl (by decide) rfl (fun ls hl => ?_)
            have hl : lv_has ls 2 [(0, .int x_11), (1, .int (((1 + 16) + 4) + 2))] := hl
            refine lv_iload_n hx hb dJ17_numberOfTrailingZeros_74 rfl (lv_at hl 1 rfl) ?_
            refine lv_iload_n hx hb dJ17_numberOfTrailingZeros_75 rfl (lv_at hl 0 rfl) ?_
            refine lv_iconst (v := 1) hx hb dJ17_numberOfTrailingZeros_76 (by decide) ?_
            refine lv_iushr hx hb dJ17_numberOfTrailingZeros_77 rfl ?_
            refine lv_iadd hx hb dJ17_numberOfTrailingZeros_78 ?_
            refine g_iretP hx hb hr hlocks ?_ dJ17_numberOfTrailingZeros_79
            unfold ntzI
            subst_vars
            rw [if_pos c_9]
            unfold ntzC
            simp only [c_23, c_38, c_52, c_64, if_true, if_false, ite_true, ite_false]
      · skip
        refine lv_iinc (k := 1) (v := ((1 + 16) + 8)) hx hb dJ17_numberOfTrailingZeros_41 hl rfl (rfl) (by decide) rfl (fun ls hl => ?_)
        have hl : lv_has ls 2 [(1, .int ((1 + 16) + 8)), (0, .int x_8)] := hl
        refine lv_iload_n hx hb dJ17_numberOfTrailingZeros_44 rfl (lv_at hl 1 rfl) ?_
        refine lv_bipush (v := 8) hx hb dJ17_numberOfTrailingZeros_45 (by decide) ?_
        refine lv_iushr hx hb dJ17_numberOfTrailingZeros_47 rfl ?_
        refine lv_topi (fun x_12 ex_12 => ?_)
        refine lv_istore_n hx hb dJ17_numberOfTrailingZeros_48 rfl hl (by decide) rfl (fun ls hl => ?_)
        have hl : lv_has ls 2 [(0, .int x_12), (1, .int ((1 + 16) + 8))] := hl
        refine lv_iload_n hx hb dJ17_numberOfTrailingZeros_49 rfl (lv_at hl 0 rfl) ?_
        refine lv_bipush (v := 16) hx hb dJ17_numberOfTrailingZeros_50 (by decide) ?_
        refine lv_icmp_le (tgt := 62) hx hb dJ17_numberOfTrailingZeros_52 (by decide) (fun c_52 => ?_) (fun c_52 => ?_)
        · skip
          refine lv_iload_n hx hb dJ17_numberOfTrailingZeros_62 rfl (lv_at hl 0 rfl) ?_
          refine lv_iconst (v := 4) hx hb dJ17_numberOfTrailingZeros_63 (by decide) ?_
          refine lv_icmp_le (tgt := 74) hx hb dJ17_numberOfTrailingZeros_64 (by decide) (fun c_64 => ?_) (fun c_64 => ?_)
          · skip
            refine lv_iload_n hx hb dJ17_numberOfTrailingZeros_74 rfl (lv_at hl 1 rfl) ?_
            refine lv_iload_n hx hb dJ17_numberOfTrailingZeros_75 rfl (lv_at hl 0 rfl) ?_
            refine lv_iconst (v := 1) hx hb dJ17_numberOfTrailingZeros_76 (by decide) ?_
            refine lv_iushr hx hb dJ17_numberOfTrailingZeros_77 rfl ?_
            refine lv_iadd hx hb dJ17_numberOfTrailingZeros_78 ?_
            refine g_iretP hx hb hr hlocks ?_ dJ17_numberOfTrailingZeros_79
            unfold ntzI
            subst_vars
            rw [if_pos c_9]
            unfold ntzC
            simp only [c_23, c_38, c_52, c_64, if_true, if_false, ite_true, ite_false]
          · skip
            refine lv_iinc (k := 1) (v := (((1 + 16) + 8) + 2)) hx hb dJ17_numberOfTrailingZeros_67 hl rfl (rfl) (by decide) rfl (fun ls hl => ?_)
            have hl : lv_has ls 2 [(1, .int (((1 + 16) + 8) + 2)), (0, .int x_12)] := hl
            refine lv_iload_n hx hb dJ17_numberOfTrailingZeros_70 rfl (lv_at hl 1 rfl) ?_
            refine lv_iconst (v := 2) hx hb dJ17_numberOfTrailingZeros_71 (by decide) ?_
            refine lv_iushr hx hb dJ17_numberOfTrailingZeros_72 rfl ?_
            refine lv_topi (fun x_13 ex_13 => ?_)
            refine lv_istore_n hx hb dJ17_numberOfTrailingZeros_73 rfl hl (by decide) rfl (fun ls hl => ?_)
            have hl : lv_has ls 2 [(0, .int x_13), (1, .int (((1 + 16) + 8) + 2))] := hl
            refine lv_iload_n hx hb dJ17_numberOfTrailingZeros_74 rfl (lv_at hl 1 rfl) ?_
            refine lv_iload_n hx hb dJ17_numberOfTrailingZeros_75 rfl (lv_at hl 0 rfl) ?_
            refine lv_iconst (v := 1) hx hb dJ17_numberOfTrailingZeros_76 (by decide) ?_
            refine lv_iushr hx hb dJ17_numberOfTrailingZeros_77 rfl ?_
            refine lv_iadd hx hb dJ17_numberOfTrailingZeros_78 ?_
            refine g_iretP hx hb hr hlocks ?_ dJ17_numberOfTrailingZeros_79
            unfold ntzI
            subst_vars
            rw [if_pos c_9]
            unfold ntzC
            simp only [c_23, c_38, c_52, c_64, if_true, if_false, ite_true, ite_false]
        · skip
          refine lv_iinc (k := 1) (v := (((1 + 16) + 8) + 4)) hx hb dJ17_numberOfTrailingZeros_55 hl rfl (rfl) (by decide) rfl (fun ls hl => ?_)
          have hl : lv_has ls 2 [(1, .int (((1 + 16) + 8) + 4)), (0, .int x_12)] := hl
          refine lv_iload_n hx hb dJ17_numberOfTrailingZeros_58 rfl (lv_at hl 1 rfl) ?_
          refine lv_iconst (v := 4) hx hb dJ17_numberOfTrailingZeros_59 (by decide) ?_
          refine lv_iushr hx hb dJ17_numberOfTrailingZeros_60 rfl ?_
          refine lv_topi (fun x_14 ex_14 => ?_)
          refine lv_istore_n hx hb dJ17_numberOfTrailingZeros_61 rfl hl (by decide) rfl (fun ls hl => ?_)
          have hl : lv_has ls 2 [(0, .int x_14), (1, .int (((1 + 16) + 8) + 4))] := hl
          refine lv_iload_n hx hb dJ17_numberOfTrailingZeros_62 rfl (lv_at hl 0 rfl) ?_
          refine lv_iconst (v := 4) hx hb dJ17_numberOfTrailingZeros_63 (by decide) ?_
          refine lv_icmp_le (tgt := 74) hx hb dJ17_numberOfTrailingZeros_64 (by decide) (fun c_64 => ?_) (fun c_64 => ?_)
          · skip
            refine lv_iload_n hx hb dJ17_numberOfTrailingZeros_74 rfl (lv_at hl 1 rfl) ?_
            refine lv_iload_n hx hb dJ17_numberOfTrailingZeros_75 rfl (lv_at hl 0 rfl) ?_
            refine lv_iconst (v := 1) hx hb dJ17_numberOfTrailingZeros_76 (by decide) ?_
            refine lv_iushr hx hb dJ17_numberOfTrailingZeros_77 rfl ?_
            refine lv_iadd hx hb dJ17_numberOfTrailingZeros_78 ?_
            refine g_iretP hx hb hr hlocks ?_ dJ17_numberOfTrailingZeros_79
            unfold ntzI
            subst_vars
            rw [if_pos c_9]
            unfold ntzC
            simp only [c_23, c_38, c_52, c_64, if_true, if_false, ite_true, ite_false]
          · skip
            refine lv_iinc (k := 1) (v := ((((1 + 16) + 8) + 4) + 2)) hx hb dJ17_numberOfTrailingZeros_67 hl rfl (rfl) (by decide) rfl (fun ls hl => ?_)
            have hl : lv_has ls 2 [(1, .int ((((1 + 16) + 8) + 4) + 2)), (0, .int x_14)] := hl
            refine lv_iload_n hx hb dJ17_numberOfTrailingZeros_70 rfl (lv_at hl 1 rfl) ?_
            refine lv_iconst (v := 2) hx hb dJ17_numberOfTrailingZeros_71 (by decide) ?_
            refine lv_iushr hx hb dJ17_numberOfTrailingZeros_72 rfl ?_
            refine lv_topi (fun x_15 ex_15 => ?_)
            refine lv_istore_n hx hb dJ17_numberOfTrailingZeros_73 rfl hl (by decide) rfl (fun ls hl => ?_)
            have hl : lv_has ls 2 [(0, .int x_15), (1, .int ((((1 + 16) + 8) + 4) + 2))] := hl
            refine lv_iload_n hx hb dJ17_numberOfTrailingZeros_74 rfl (lv_at hl 1 rfl) ?_
            refine lv_iload_n hx hb dJ17_numberOfTrailingZeros_75 rfl (lv_at hl 0 rfl) ?_
            refine lv_iconst (v := 1) hx hb dJ17_numberOfTrailingZeros_76 (by decide) ?_
            refine lv_iushr hx hb dJ17_numberOfTrailingZeros_77 rfl ?_
            refine lv_iadd hx hb dJ17_numberOfTrailingZeros_78 ?_
            refine g_iretP hx hb hr hlocks ?_ dJ17_numberOfTrailingZeros_79
            unfold ntzI
            subst_vars
            rw [if_pos c_9]
            unfold ntzC
            simp only [c_23, c_38, c_52, c_64, if_true, if_false, ite_true, ite_false]
  · skip
    refine lv_iload_n hx hb dJ17_numberOfTrailingZeros_12 rfl (lv_at hl 0 rfl) ?_
    refine lv_bipush (v := 32) hx hb dJ17_numberOfTrailingZeros_13 (by decide) ?_
    refine lv_iand hx hb dJ17_numberOfTrailingZeros_15 ?_
    refine g_iretP hx hb hr hlocks ?_ dJ17_numberOfTrailingZeros_16
    subst eu
    unfold ntzI
    rw [if_neg c_9]
set_option maxHeartbeats 1000000 in
theorem m_ntzL (l : Launch) (z : State) (H0 : Heap)  (n : Nat) (h0 : 0 < n) (hn : n < 18446744073709551616) : Met l yJ16_numberOfTrailingZeros (ws_ yJ16_numberOfTrailingZeros cJ16_numberOfTrailingZeros 3 (some .int)) { frames := 1, cells := 0, slots := 0, locals := 21 } (gPc z H0 [.long (lN n)]) (gPi H0 (fun r => r = nI (tz n))) 0 0 gno := by
  refine g_start (by decide +kernel) (Nat.le_of_ble_eq_true rfl) ?_
  intro p e s m below meth c ls hx hb hr hlocks hml hown hname hts hwm hl
  have hown : s.vm.findClass "java/lang/Long" = some m.cls := hown
  have hal : z.vm.Alike s.vm := hwm.alike
  have hCF : CallFix p m c cJ16_numberOfTrailingZeros 3 s [.long (lN n)].toArray lw_all "java/lang/Long" := ⟨hx, hb, hml, hown, hts⟩
  have hl : lv_has ls 3 [(0, .long (lN n))] := hl
  refine lv_lload_n hx hb dJ16_numberOfTrailingZeros_0 rfl (lv_at hl 0 rfl) ?_
  refine lv_l2i hx hb dJ16_numberOfTrailingZeros_1 rfl ?_
  refine lv_topi (fun u eu => ?_)
  refine lv_istore_n hx hb dJ16_numberOfTrailingZeros_2 rfl hl (by decide) rfl (fun ls hl => ?_)
  have hl : lv_has ls 3 [(2, .int u), (0, .long (lN n))] := hl
  refine lv_iload_n hx hb dJ16_numberOfTrailingZeros_3 rfl (lv_at hl 0 rfl) ?_
  refine lv_if_ne (tgt := 21) hx hb dJ16_numberOfTrailingZeros_4 (by decide) (fun c_4 => ?_) (fun c_4 => ?_)
  · skip
    refine lv_iload_n hx hb dJ16_numberOfTrailingZeros_21 rfl (lv_at hl 0 rfl) ?_
    refine gcS1_iP hCF hwm hl.1 (m_ntzI l z H0 u  ) (lw_S q387 q388 q78 q389) yd_J17_numberOfTrailingZeros ⟨Nat.le_of_ble_eq_true rfl, Nat.le_of_ble_eq_true rfl⟩ ⟨Nat.le_of_ble_eq_true rfl, Nat.le_of_ble_eq_true rfl⟩ (Nat.le_of_ble_eq_true rfl) dJ16_numberOfTrailingZeros_22 (fun r_1 hp => ?_)
    subst hp
    refine g_iretP hx hb hr hlocks ?_ dJ16_numberOfTrailingZeros_25
    obtain ⟨ht, ht1, ht2⟩ := tz_spec h0 hn
    have e : u = nI (n % 4294967296) := by
      rw [eu, lN_i]
      apply Int32.toBitVec_inj.mp
      show BitVec.ofNat 32 n = BitVec.ofNat 32 (n % 4294967296)
      apply BitVec.eq_of_toNat_eq
      rw [BitVec.toNat_ofNat, BitVec.toNat_ofNat]
      omega
    have hp : 0 < n % 4294967296 := by
      rcases Nat.eq_zero_or_pos (n % 4294967296) with q | q
      · rw [q] at e; exact absurd e c_4
      · exact q
    obtain ⟨a1, a2, a3⟩ := tz_spec (n := n % 4294967296) hp (by omega)
    have ha : tz (n % 4294967296) < 32 := by
      rcases Nat.lt_or_ge (tz (n % 4294967296)) 32 with q | q
      · exact q
      · have h3 : (2 : Nat) ^ 32 ≤ 2 ^ tz (n % 4294967296) := Nat.pow_le_pow_right (by decide) q
        rw [Nat.div_eq_of_lt (by omega)] at a3
        omega
    have hdiv : (4294967296 : Nat) = 2 ^ tz (n % 4294967296) * 2 ^ (32 - tz (n % 4294967296)) := by rw [← Nat.pow_add]; rw [show tz (n % 4294967296) + (32 - tz (n % 4294967296)) = 32 by omega]
    have hn2 : n = n / 4294967296 * 4294967296 + n % 4294967296 := by omega
    have heq : tz n = tz (n % 4294967296) := by
      obtain ⟨q, hq⟩ := Nat.dvd_of_mod_eq_zero a2
      rw [Nat.div_eq_of_eq_mul_right (Nat.two_pow_pos _) hq] at a3
      generalize tz (n % 4294967296) = T at *
      have h10 : n = 2 ^ T * (2 ^ (32 - T) * (n / 4294967296) + q) := by
        rw [Nat.mul_add, ← Nat.mul_assoc, ← hdiv, ← hq]
        omega
      have h11 : 2 ^ (32 - T) = 2 * 2 ^ (31 - T) := by rw [← Nat.pow_succ']; congr 1; omega
      refine tz_eq h0 hn (by rw [h10]; exact Nat.mul_mod_right _ _) ?_
      rw [h10, Nat.mul_div_cancel_left _ (Nat.two_pow_pos _), h11, Nat.mul_assoc]
      omega
    rw [e, ntzI_ok (t := tz n) (by omega) hp (by rw [heq]; exact a2) (by rw [heq]; exact a3)]
  · skip
    refine lv_bipush (v := 32) hx hb dJ16_numberOfTrailingZeros_7 (by decide) ?_
    refine lv_lload_n hx hb dJ16_numberOfTrailingZeros_9 rfl (lv_at hl 1 rfl) ?_
    refine lv_bipush (v := 32) hx hb dJ16_numberOfTrailingZeros_10 (by decide) ?_
    refine lv_lushr hx hb dJ16_numberOfTrailingZeros_12 rfl ?_
    refine lv_l2i hx hb dJ16_numberOfTrailingZeros_13 rfl ?_
    refine g_topi (v := (nI (n / 4294967296))) ((congrArg Int64.toInt32 (wb_shr (n := n) (k := 32) (by omega) (by decide))).trans (lN_i _)) ?_
    refine gcS1_iP hCF hwm hl.1 (m_ntzI l z H0 (nI (n / 4294967296))  ) (lw_S q387 q388 q78 q389) yd_J17_numberOfTrailingZeros ⟨Nat.le_of_ble_eq_true rfl, Nat.le_of_ble_eq_true rfl⟩ ⟨Nat.le_of_ble_eq_true rfl, Nat.le_of_ble_eq_true rfl⟩ (Nat.le_of_ble_eq_true rfl) dJ16_numberOfTrailingZeros_14 (fun r_2 hp => ?_)
    subst hp
    refine lv_iadd hx hb dJ16_numberOfTrailingZeros_17 ?_
    refine lv_goto (tgt := 25) hx hb dJ16_numberOfTrailingZeros_18 (by decide) ?_
    refine g_iretP hx hb hr hlocks ?_ dJ16_numberOfTrailingZeros_25
    obtain ⟨ht, ht1, ht2⟩ := tz_spec h0 hn
    have hu : n % 4294967296 = 0 := by
      have h9 : nI n = 0 := by rw [← lN_i, ← eu]; exact c_4
      have h8 := congrArg (fun y : Int32 => y.toBitVec.toNat) h9
      have h7 : (nI n).toBitVec.toNat = n % 2 ^ 32 := by show (BitVec.ofNat 32 n).toNat = _; rw [BitVec.toNat_ofNat]
      simp only [h7] at h8
      exact h8
    have h32 : 32 ≤ tz n := by
      rcases Nat.lt_or_ge (tz n) 32 with q | q
      · exfalso
        obtain ⟨d, hd⟩ : ∃ d, 32 = tz n + 1 + d := ⟨31 - tz n, by omega⟩
        have e : (4294967296 : Nat) = 2 ^ (tz n + 1 + d) := by rw [← hd]
        have h5 : 2 ^ (tz n + 1) ∣ n := Nat.dvd_trans ⟨2 ^ d, by rw [e, Nat.pow_add]⟩ (Nat.dvd_of_mod_eq_zero hu)
        obtain ⟨q2, hq2⟩ := h5
        rw [Nat.pow_succ, Nat.mul_assoc] at hq2
        rw [Nat.div_eq_of_eq_mul_right (Nat.two_pow_pos _) hq2] at ht2
        omega
      · exact q
    have e : n / 4294967296 = n / 2 ^ 32 := rfl
    have h6 : 2 ^ tz n = 2 ^ 32 * 2 ^ (tz n - 32) := by rw [← Nat.pow_add]; congr 1; omega
    rw [ntzI_ok (n := n / 4294967296) (t := tz n - 32) (by omega) (by omega) (by
      rw [e]
      obtain ⟨q3, hq3⟩ := Nat.dvd_of_mod_eq_zero ht1
      rw [h6, Nat.mul_assoc] at hq3
      rw [Nat.div_eq_of_eq_mul_right (by decide) hq3]
      exact Nat.mul_mod_right _ _) (by
      rw [e, Nat.div_div_eq_div_mul, ← h6]
      exact ht2)]
    have h4 := nI_add 32 (tz n - 32)
    rw [show 32 + (tz n - 32) = tz n by omega] at h4
    exact h4
