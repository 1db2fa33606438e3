/-! ## walks (written by tools) -/
set_option maxRecDepth 100000
def dkwJ24_mulsub_4 : List UInt8 := [3, 133, 97, 55, 8, 132, 10, 255, 167, 255, 177, 22, 8, 136, 172]
abbrev dktJ24_mulsub_4 : List UInt8 := dkwJ24_mulsub_4 ++ []
def dkwJ24_mulsub_3 : List UInt8 := [22, 13, 20, 0, 52, 127, 22, 11, 136, 2, 130, 133, 20, 0, 52, 127, 148, 158, 0, 7, 4, 167, 0, 4]
abbrev dktJ24_mulsub_3 : List UInt8 := dkwJ24_mulsub_3 ++ dktJ24_mulsub_4
def dkwJ24_mulsub_2 : List UInt8 := [21, 5, 46, 133, 22, 11, 101, 55, 13, 43, 21, 5, 132, 5, 255, 22, 13, 136, 79, 22, 11, 16, 32, 125]
abbrev dktJ24_mulsub_2 : List UInt8 := dkwJ24_mulsub_2 ++ dktJ24_mulsub_3
def dkwJ24_mulsub_1 : List UInt8 := [21, 10, 155, 0, 80, 44, 21, 10, 46, 133, 20, 0, 52, 127, 22, 6, 105, 22, 8, 97, 55, 11, 43]
abbrev dktJ24_mulsub_1 : List UInt8 := dkwJ24_mulsub_1 ++ dktJ24_mulsub_2
def dkwJ24_mulsub_0 : List UInt8 := [29, 133, 20, 0, 52, 127, 55, 6, 9, 55, 8, 21, 5, 21, 4, 96, 54, 5, 21, 4, 4, 100, 54, 10]
abbrev dktJ24_mulsub_0 : List UInt8 := dkwJ24_mulsub_0 ++ dktJ24_mulsub_1
theorem dksJ24_mulsub_0 : cJ24_mulsub.data.toList.drop 0 = dktJ24_mulsub_0 := by decide +kernel
theorem dksJ24_mulsub_1 : cJ24_mulsub.data.toList.drop 24 = dktJ24_mulsub_1 := dk_seg dksJ24_mulsub_0 24 rfl rfl
theorem dksJ24_mulsub_2 : cJ24_mulsub.data.toList.drop 47 = dktJ24_mulsub_2 := dk_seg dksJ24_mulsub_1 23 rfl rfl
theorem dksJ24_mulsub_3 : cJ24_mulsub.data.toList.drop 71 = dktJ24_mulsub_3 := dk_seg dksJ24_mulsub_2 24 rfl rfl
theorem dksJ24_mulsub_4 : cJ24_mulsub.data.toList.drop 95 = dktJ24_mulsub_4 := dk_seg dksJ24_mulsub_3 24 rfl rfl
theorem dJ24_mulsub_0 : decode cJ24_mulsub 0 = .ok (.iload_n 3, 1) := dk_29 (dk_at dksJ24_mulsub_0 0 rfl rfl)
theorem dJ24_mulsub_1 : decode cJ24_mulsub 1 = .ok (.i2l, 1) := dk_133 (dk_at dksJ24_mulsub_0 1 rfl rfl)
theorem dJ24_mulsub_2 : decode cJ24_mulsub 2 = .ok (.ldc2_w 52, 3) := dk_20 0 52 (dk_at dksJ24_mulsub_0 2 rfl rfl)
theorem dJ24_mulsub_5 : decode cJ24_mulsub 5 = .ok (.land, 1) := dk_127 (dk_at dksJ24_mulsub_0 5 rfl rfl)
theorem dJ24_mulsub_6 : decode cJ24_mulsub 6 = .ok (.lstore 6, 2) := dk_55 6 (dk_at dksJ24_mulsub_0 6 rfl rfl)
theorem dJ24_mulsub_8 : decode cJ24_mulsub 8 = .ok (.lconst 0, 1) := dk_9 (dk_at dksJ24_mulsub_0 8 rfl rfl)
theorem dJ24_mulsub_9 : decode cJ24_mulsub 9 = .ok (.lstore 8, 2) := dk_55 8 (dk_at dksJ24_mulsub_0 9 rfl rfl)
theorem dJ24_mulsub_11 : decode cJ24_mulsub 11 = .ok (.iload 5, 2) := dk_21 5 (dk_at dksJ24_mulsub_0 11 rfl rfl)
theorem dJ24_mulsub_13 : decode cJ24_mulsub 13 = .ok (.iload 4, 2) := dk_21 4 (dk_at dksJ24_mulsub_0 13 rfl rfl)
theorem dJ24_mulsub_15 : decode cJ24_mulsub 15 = .ok (.iadd, 1) := dk_96 (dk_at dksJ24_mulsub_0 15 rfl rfl)
theorem dJ24_mulsub_16 : decode cJ24_mulsub 16 = .ok (.istore 5, 2) := dk_54 5 (dk_at dksJ24_mulsub_0 16 rfl rfl)
theorem dJ24_mulsub_18 : decode cJ24_mulsub 18 = .ok (.iload 4, 2) := dk_21 4 (dk_at dksJ24_mulsub_0 18 rfl rfl)
theorem dJ24_mulsub_20 : decode cJ24_mulsub 20 = .ok (.iconst 1, 1) := dk_4 (dk_at dksJ24_mulsub_0 20 rfl rfl)
theorem dJ24_mulsub_21 : decode cJ24_mulsub 21 = .ok (.isub, 1) := dk_100 (dk_at dksJ24_mulsub_0 21 rfl rfl)
theorem dJ24_mulsub_22 : decode cJ24_mulsub 22 = .ok (.istore 10, 2) := dk_54 10 (dk_at dksJ24_mulsub_0 22 rfl rfl)
theorem dJ24_mulsub_24 : decode cJ24_mulsub 24 = .ok (.iload 10, 2) := dk_21 10 (dk_at dksJ24_mulsub_1 0 rfl rfl)
theorem dJ24_mulsub_26 : decode cJ24_mulsub 26 = .ok (.ifCond .lt 80, 3) := dk_155 0 80 (dk_at dksJ24_mulsub_1 2 rfl rfl)
theorem dJ24_mulsub_29 : decode cJ24_mulsub 29 = .ok (.aload_n 2, 1) := dk_44 (dk_at dksJ24_mulsub_1 5 rfl rfl)
theorem dJ24_mulsub_30 : decode cJ24_mulsub 30 = .ok (.iload 10, 2) := dk_21 10 (dk_at dksJ24_mulsub_1 6 rfl rfl)
theorem dJ24_mulsub_32 : decode cJ24_mulsub 32 = .ok (.iaload, 1) := dk_46 (dk_at dksJ24_mulsub_1 8 rfl rfl)
theorem dJ24_mulsub_33 : decode cJ24_mulsub 33 = .ok (.i2l, 1) := dk_133 (dk_at dksJ24_mulsub_1 9 rfl rfl)
theorem dJ24_mulsub_34 : decode cJ24_mulsub 34 = .ok (.ldc2_w 52, 3) := dk_20 0 52 (dk_at dksJ24_mulsub_1 10 rfl rfl)
theorem dJ24_mulsub_37 : decode cJ24_mulsub 37 = .ok (.land, 1) := dk_127 (dk_at dksJ24_mulsub_1 13 rfl rfl)
theorem dJ24_mulsub_38 : decode cJ24_mulsub 38 = .ok (.lload 6, 2) := dk_22 6 (dk_at dksJ24_mulsub_1 14 rfl rfl)
theorem dJ24_mulsub_40 : decode cJ24_mulsub 40 = .ok (.lmul, 1) := dk_105 (dk_at dksJ24_mulsub_1 16 rfl rfl)
theorem dJ24_mulsub_41 : decode cJ24_mulsub 41 = .ok (.lload 8, 2) := dk_22 8 (dk_at dksJ24_mulsub_1 17 rfl rfl)
theorem dJ24_mulsub_43 : decode cJ24_mulsub 43 = .ok (.ladd, 1) := dk_97 (dk_at dksJ24_mulsub_1 19 rfl rfl)
theorem dJ24_mulsub_44 : decode cJ24_mulsub 44 = .ok (.lstore 11, 2) := dk_55 11 (dk_at dksJ24_mulsub_1 20 rfl rfl)
theorem dJ24_mulsub_46 : decode cJ24_mulsub 46 = .ok (.aload_n 1, 1) := dk_43 (dk_at dksJ24_mulsub_1 22 rfl rfl)
theorem dJ24_mulsub_47 : decode cJ24_mulsub 47 = .ok (.iload 5, 2) := dk_21 5 (dk_at dksJ24_mulsub_2 0 rfl rfl)
theorem dJ24_mulsub_49 : decode cJ24_mulsub 49 = .ok (.iaload, 1) := dk_46 (dk_at dksJ24_mulsub_2 2 rfl rfl)
theorem dJ24_mulsub_50 : decode cJ24_mulsub 50 = .ok (.i2l, 1) := dk_133 (dk_at dksJ24_mulsub_2 3 rfl rfl)
theorem dJ24_mulsub_51 : decode cJ24_mulsub 51 = .ok (.lload 11, 2) := dk_22 11 (dk_at dksJ24_mulsub_2 4 rfl rfl)
theorem dJ24_mulsub_53 : decode cJ24_mulsub 53 = .ok (.lsub, 1) := dk_101 (dk_at dksJ24_mulsub_2 6 rfl rfl)
theorem dJ24_mulsub_54 : decode cJ24_mulsub 54 = .ok (.lstore 13, 2) := dk_55 13 (dk_at dksJ24_mulsub_2 7 rfl rfl)
theorem dJ24_mulsub_56 : decode cJ24_mulsub 56 = .ok (.aload_n 1, 1) := dk_43 (dk_at dksJ24_mulsub_2 9 rfl rfl)
theorem dJ24_mulsub_57 : decode cJ24_mulsub 57 = .ok (.iload 5, 2) := dk_21 5 (dk_at dksJ24_mulsub_2 10 rfl rfl)
theorem dJ24_mulsub_59 : decode cJ24_mulsub 59 = .ok (.iinc 5 (-1), 3) := dk_132 5 255 (dk_at dksJ24_mulsub_2 12 rfl rfl)
theorem dJ24_mulsub_62 : decode cJ24_mulsub 62 = .ok (.lload 13, 2) := dk_22 13 (dk_at dksJ24_mulsub_2 15 rfl rfl)
theorem dJ24_mulsub_64 : decode cJ24_mulsub 64 = .ok (.l2i, 1) := dk_136 (dk_at dksJ24_mulsub_2 17 rfl rfl)
theorem dJ24_mulsub_65 : decode cJ24_mulsub 65 = .ok (.iastore, 1) := dk_79 (dk_at dksJ24_mulsub_2 18 rfl rfl)
theorem dJ24_mulsub_66 : decode cJ24_mulsub 66 = .ok (.lload 11, 2) := dk_22 11 (dk_at dksJ24_mulsub_2 19 rfl rfl)
theorem dJ24_mulsub_68 : decode cJ24_mulsub 68 = .ok (.bipush 32, 2) := dk_16 32 (dk_at dksJ24_mulsub_2 21 rfl rfl)
theorem dJ24_mulsub_70 : decode cJ24_mulsub 70 = .ok (.lushr, 1) := dk_125 (dk_at dksJ24_mulsub_2 23 rfl rfl)
theorem dJ24_mulsub_71 : decode cJ24_mulsub 71 = .ok (.lload 13, 2) := dk_22 13 (dk_at dksJ24_mulsub_3 0 rfl rfl)
theorem dJ24_mulsub_73 : decode cJ24_mulsub 73 = .ok (.ldc2_w 52, 3) := dk_20 0 52 (dk_at dksJ24_mulsub_3 2 rfl rfl)
theorem dJ24_mulsub_76 : decode cJ24_mulsub 76 = .ok (.land, 1) := dk_127 (dk_at dksJ24_mulsub_3 5 rfl rfl)
theorem dJ24_mulsub_77 : decode cJ24_mulsub 77 = .ok (.lload 11, 2) := dk_22 11 (dk_at dksJ24_mulsub_3 6 rfl rfl)
theorem dJ24_mulsub_79 : decode cJ24_mulsub 79 = .ok (.l2i, 1) := dk_136 (dk_at dksJ24_mulsub_3 8 rfl rfl)
theorem dJ24_mulsub_80 : decode cJ24_mulsub 80 = .ok (.iconst (-1), 1) := dk_2 (dk_at dksJ24_mulsub_3 9 rfl rfl)
theorem dJ24_mulsub_81 : decode cJ24_mulsub 81 = .ok (.ixor, 1) := dk_130 (dk_at dksJ24_mulsub_3 10 rfl rfl)
theorem dJ24_mulsub_82 : decode cJ24_mulsub 82 = .ok (.i2l, 1) := dk_133 (dk_at dksJ24_mulsub_3 11 rfl rfl)
theorem dJ24_mulsub_83 : decode cJ24_mulsub 83 = .ok (.ldc2_w 52, 3) := dk_20 0 52 (dk_at dksJ24_mulsub_3 12 rfl rfl)
theorem dJ24_mulsub_86 : decode cJ24_mulsub 86 = .ok (.land, 1) := dk_127 (dk_at dksJ24_mulsub_3 15 rfl rfl)
theorem dJ24_mulsub_87 : decode cJ24_mulsub 87 = .ok (.lcmp, 1) := dk_148 (dk_at dksJ24_mulsub_3 16 rfl rfl)
theorem dJ24_mulsub_88 : decode cJ24_mulsub 88 = .ok (.ifCond .le 7, 3) := dk_158 0 7 (dk_at dksJ24_mulsub_3 17 rfl rfl)
theorem dJ24_mulsub_91 : decode cJ24_mulsub 91 = .ok (.iconst 1, 1) := dk_4 (dk_at dksJ24_mulsub_3 20 rfl rfl)
theorem dJ24_mulsub_92 : decode cJ24_mulsub 92 = .ok (.goto 4, 3) := dk_167 0 4 (dk_at dksJ24_mulsub_3 21 rfl rfl)
theorem dJ24_mulsub_95 : decode cJ24_mulsub 95 = .ok (.iconst 0, 1) := dk_3 (dk_at dksJ24_mulsub_4 0 rfl rfl)
theorem dJ24_mulsub_96 : decode cJ24_mulsub 96 = .ok (.i2l, 1) := dk_133 (dk_at dksJ24_mulsub_4 1 rfl rfl)
theorem dJ24_mulsub_97 : decode cJ24_mulsub 97 = .ok (.ladd, 1) := dk_97 (dk_at dksJ24_mulsub_4 2 rfl rfl)
theorem dJ24_mulsub_98 : decode cJ24_mulsub 98 = .ok (.lstore 8, 2) := dk_55 8 (dk_at dksJ24_mulsub_4 3 rfl rfl)
theorem dJ24_mulsub_100 : decode cJ24_mulsub 100 = .ok (.iinc 10 (-1), 3) := dk_132 10 255 (dk_at dksJ24_mulsub_4 5 rfl rfl)
theorem dJ24_mulsub_103 : decode cJ24_mulsub 103 = .ok (.goto (-79), 3) := dk_167 255 177 (dk_at dksJ24_mulsub_4 8 rfl rfl)
theorem dJ24_mulsub_106 : decode cJ24_mulsub 106 = .ok (.lload 8, 2) := dk_22 8 (dk_at dksJ24_mulsub_4 11 rfl rfl)
theorem dJ24_mulsub_108 : decode cJ24_mulsub 108 = .ok (.l2i, 1) := dk_136 (dk_at dksJ24_mulsub_4 13 rfl rfl)
theorem dJ24_mulsub_109 : decode cJ24_mulsub 109 = .ok (.ireturn, 1) := dk_172 (dk_at dksJ24_mulsub_4 14 rfl rfl)
/-! ### parts of division -/
theorem nI_subm {a b : Nat} (ha : a < 4294967296) : nI a - nI b = nI ((a + (4294967296 - b % 4294967296)) % 4294967296) := by
  apply Int32.toBitVec_inj.mp
  apply BitVec.eq_of_toNat_eq
  rw [Int32.toBitVec_sub]
  show ((BitVec.ofNat 32 a) - (BitVec.ofNat 32 b)).toNat = (BitVec.ofNat 32 _).toNat
  rw [BitVec.toNat_sub, BitVec.toNat_ofNat, BitVec.toNat_ofNat, BitVec.toNat_ofNat]
  omega
theorem and_of_i32 {y : Int64} {n : Nat} (h : y.toInt32 = nI n) (hn : n < 4294967296) : y &&& 4294967295 = lN n := by
  apply Int64.toBitVec_inj.mp
  apply BitVec.eq_of_toNat_eq
  rw [Int64.toBitVec_and, BitVec.toNat_and]
  show y.toBitVec.toNat &&& (2 ^ 32 - 1) = (BitVec.ofNat 64 n).toNat
  rw [Nat.and_two_pow_sub_one_eq_mod, BitVec.toNat_ofNat]
  have h2 : y.toInt32.toBitVec.toNat = n := by
    rw [h]
    show (BitVec.ofNat 32 n).toNat = n
    rw [BitVec.toNat_ofNat]
    omega
  rw [Int64.toBitVec_toInt32, BitVec.signExtend_eq_setWidth_of_le _ (by decide), BitVec.toNat_setWidth] at h2
  omega
/-- the digit of a difference -/
def dfd (q P : Nat) : Nat := (q + (4294967296 - P % 4294967296)) % 4294967296
theorem dif_i {q P : Nat} (hq : q < 4294967296) : ((nI q).toInt64 - lN P).toInt32 = nI (dfd q P) := by
  rw [Int64.toInt32_sub, Int32.toInt32_toInt64, lN_i]
  exact nI_subm hq
theorem dif_m {q P : Nat} (hq : q < 4294967296) : ((nI q).toInt64 - lN P) &&& 4294967295 = lN (dfd q P) := and_of_i32 (dif_i hq) (Nat.mod_lt _ (by decide))
theorem nI_not {a : Nat} (ha : a < 4294967296) : nI a ^^^ (-1) = nI (4294967295 - a) := by
  rw [show (-1 : Int32) = nI 4294967295 by decide]
  apply Int32.toBitVec_inj.mp
  apply BitVec.eq_of_toNat_eq
  rw [Int32.toBitVec_xor]
  show ((BitVec.ofNat 32 a) ^^^ (BitVec.ofNat 32 4294967295)).toNat = (BitVec.ofNat 32 _).toNat
  have e : BitVec.ofNat 32 4294967295 = BitVec.allOnes 32 := by decide
  rw [e, BitVec.xor_allOnes, BitVec.toNat_not, BitVec.toNat_ofNat, BitVec.toNat_ofNat]
  omega
theorem ms_step {g d q' : Nat → Nat} {b k k' o oy t P : Nat} (hq : g o < 4294967296) (hP : P = d oy * b + k) (h : seg q' (o + 1) t + b * seg d (oy + 1) t = seg g (o + 1) t + k * 4294967296 ^ t) (h0 : q' o = dfd (g o) P) (hk : k' = P / 4294967296 + (if 4294967295 - P % 4294967296 < dfd (g o) P then 1 else 0)) :
    seg q' o (t + 1) + b * seg d oy (t + 1) = seg g o (t + 1) + k' * 4294967296 ^ (t + 1) := by
  rw [seg_l q' o, seg_l g o, seg_l d oy, Nat.pow_succ]
  have e0 : q' o + P = g o + k' * 4294967296 := by
    rw [h0, hk]
    unfold dfd
    split <;> omega
  generalize seg q' (o + 1) t = S' at *
  generalize seg g (o + 1) t = S at *
  generalize seg d (oy + 1) t = Y at *
  generalize 4294967296 ^ t = E at *
  generalize q' o = X at *
  generalize g o = G at *
  generalize d oy = D at *
  subst hP
  clear h0 hk hq
  have e1 : (X + (D * b + k)) * E = (G + k' * 4294967296) * E := by rw [e0]
  grind
theorem ms_carry {a b k q : Nat} (ha : a < 4294967296) (hb : b < 4294967296) (hk : k < 4294967296) (hq : q < 4294967296) : (a * b + k) / 4294967296 + (if 4294967295 - (a * b + k) % 4294967296 < dfd q (a * b + k) then 1 else 0) < 4294967296 := by
  have h : a * b ≤ 4294967295 * 4294967295 := Nat.mul_le_mul (by omega) (by omega)
  generalize a * b = X at *
  unfold dfd
  split <;> omega
theorem ms_A {g e d : Nat → Nat} {b k o t P y : Nat} (hg : ∀ i, g i < 4294967296) (hy : 1 ≤ y) (hP : P = d (y - 1) * b + k) (hgo : e (o + y - 1) = g (o + y - 1)) (h : seg e (o + y) t + b * seg d y t = seg g (o + y) t + k * 4294967296 ^ t) :
    seg (dup e (o + y - 1) (dfd (g (o + y - 1)) P % 4294967296)) (o + y - 1) (t + 1) + b * seg d (y - 1) (t + 1) = seg g (o + y - 1) (t + 1) + (P / 4294967296 + (if 4294967295 - P % 4294967296 < dfd (g (o + y - 1)) P then 1 else 0)) * 4294967296 ^ (t + 1) := by
  refine ms_step (k := k) (hg _) hP ?_ ?_ rfl
  · rw [show o + y - 1 + 1 = o + y by omega, show y - 1 + 1 = y by omega, seg_cg (d := dup e (o + y - 1) _) (e := e) (fun i h1 h2 => dup_n (by omega)), h]
  · rw [dup_s]
    unfold dfd
    rw [Nat.mod_mod]
/-- what is read of a difference's digits alone -/
theorem ms_B {g d : Nat → Nat} {b k o t P y : Nat} {X : Nat} (hg : ∀ i, g i < 4294967296) (hy : 1 ≤ y) (hP : P = d (y - 1) * b + k) (h : X + b * seg d y t = seg g (o + y) t + k * 4294967296 ^ t) :
    (dfd (g (o + y - 1)) P * 4294967296 ^ t + X) + b * seg d (y - 1) (t + 1) = seg g (o + y - 1) (t + 1) + (P / 4294967296 + (if 4294967295 - P % 4294967296 < dfd (g (o + y - 1)) P then 1 else 0)) * 4294967296 ^ (t + 1) := by
  rw [seg_l g, seg_l d, Nat.pow_succ, show o + y - 1 + 1 = o + y by omega, show y - 1 + 1 = y by omega]
  have e0 : dfd (g (o + y - 1)) P + P = g (o + y - 1) + (P / 4294967296 + (if 4294967295 - P % 4294967296 < dfd (g (o + y - 1)) P then 1 else 0)) * 4294967296 := by
    have := hg (o + y - 1)
    unfold dfd
    split <;> omega
  generalize dfd (g (o + y - 1)) P = A at *
  generalize (P / 4294967296 + (if 4294967295 - P % 4294967296 < A then 1 else 0)) = K at *
  generalize seg g (o + y) t = S at *
  generalize seg d y t = Y at *
  generalize 4294967296 ^ t = E at *
  generalize g (o + y - 1) = G at *
  generalize d (y - 1) = D at *
  subst hP
  have e1 : (A + (D * b + k)) * E = (G + K * 4294967296) * E := by rw [e0]
  clear e0
  grind

set_option maxHeartbeats 1000000 in
theorem m_mulsub (l : Launch) (z : State) (H0 : Heap) (a : Nat) (zr : Nat) (x : Nat) (L o n K nx : Nat) (w wt : Bool) (g d : Nat → Nat) (vt : Nat) (nt ot : Int32) (hzx : zr ≠ x) (hL : L < 1000000) (hnx9 : nx < 1000000) (hon : o + 1 + n ≤ L) (hnx : n ≤ nx) (hK : K < 4294967296) (hg : ∀ i, g i < 4294967296) (hd : ∀ i, d i < 4294967296) (hZ : gI z true .int H0 zr L (dI g)) (hX : gI z w .int H0 x nx (dI d)) (hT : gO z wt RJ24 TJ24 3 H0 a [.ref vt, .int nt, .int ot]) : Met l yJ24_mulsub (ws_ yJ24_mulsub cJ24_mulsub 15 (some .int)) { frames := 0, cells := 0, slots := 0, locals := 0 } (gPc z H0 [.ref a, .ref zr, .ref x, .int (nI K), .int (nI n), .int (nI o)]) (gRi (fun q => q = zr) H0 (fun r H1 => ∃ kk gg, r = nI kk ∧ kk < 4294967296 ∧ (∀ i, gg i < 4294967296) ∧ (∀ i, (i < o + 1 ∨ o + 1 + n ≤ i) → gg i = g i) ∧ seg gg (o + 1) n + K * seg d 0 n = seg g (o + 1) n + kk * 4294967296 ^ n ∧ gI z true .int H1 zr L (dI gg))) 0 0 (fun q => q = zr) := by
  refine g_start (by decide +kernel) (Nat.le_of_ble_eq_true rfl) ?_
  intro p e s m below meth c ls hx hb hr hlocks hml hown hname hts hwm hl
  have hown : s.vm.findClass "java/math/MutableBigInteger" = some m.cls := hown
  have hal : z.vm.Alike s.vm := hwm.alike
  have hCF : CallFix p m c cJ24_mulsub 15 s [.ref a, .ref zr, .ref x, .int (nI K), .int (nI n), .int (nI o)].toArray lw_all "java/math/MutableBigInteger" := ⟨hx, hb, hml, hown, hts⟩
  have hl : lv_has ls 15 [(0, .ref a), (1, .ref zr), (2, .ref x), (3, .int (nI K)), (4, .int (nI n)), (5, .int (nI o))] := hl
  have hS : va_S (fun q => q = zr) H0 H0 [] := va_S.rf
  have lt_zr := hZ.lt
  have lt_x := hX.lt
  refine lv_iload_n hx hb dJ24_mulsub_0 rfl (lv_at hl 3 rfl) ?_
  refine lv_i2l hx hb dJ24_mulsub_1 rfl ?_
  refine lv_ldc2 (v := 4294967295) hx hb hown (hts _ q1035) dJ24_mulsub_2 ?_
  refine lv_land hx hb dJ24_mulsub_5 ?_
  refine g_topl (v := lN K) (mk32 (a := K) (rfl) (hK)) ?_
  refine lv_lstore hx hb dJ24_mulsub_6 hl (by decide) rfl (fun ls hl => ?_)
  have hl : lv_has ls 15 [(6, .long (lN K)), (0, .ref a), (1, .ref zr), (2, .ref x), (3, .int (nI K)), (4, .int (nI n)), (5, .int (nI o))] := hl
  refine lv_lconst (v := 0) hx hb dJ24_mulsub_8 (by decide) ?_
  refine lv_lstore hx hb dJ24_mulsub_9 hl (by decide) rfl (fun ls hl => ?_)
  have hl : lv_has ls 15 [(8, .long 0), (6, .long (lN K)), (0, .ref a), (1, .ref zr), (2, .ref x), (3, .int (nI K)), (4, .int (nI n)), (5, .int (nI o))] := hl
  refine lv_iload hx hb dJ24_mulsub_11 (lv_at hl 7 rfl) ?_
  refine lv_iload hx hb dJ24_mulsub_13 (lv_at hl 6 rfl) ?_
  refine lv_iadd hx hb dJ24_mulsub_15 ?_
  refine g_topi (v := (nI (o + n))) (nI_add _ _) ?_
  refine lv_istore hx hb dJ24_mulsub_16 hl (by decide) rfl (fun ls hl => ?_)
  have hl : lv_has ls 15 [(5, .int (nI (o + n))), (8, .long 0), (6, .long (lN K)), (0, .ref a), (1, .ref zr), (2, .ref x), (3, .int (nI K)), (4, .int (nI n))] := hl
  refine lv_iload hx hb dJ24_mulsub_18 (lv_at hl 7 rfl) ?_
  refine lv_iconst (v := 1) hx hb dJ24_mulsub_20 (by decide) ?_
  refine lv_isub hx hb dJ24_mulsub_21 ?_
  refine g_topi (v := iI ((n : Nat) - 1)) (ai_subI (a := (n : Nat)) (b := 1) (nI_iI _) (by decide)) ?_
  refine lv_istore hx hb dJ24_mulsub_22 hl (by decide) rfl (fun ls hl => ?_)
  have hl : lv_has ls 15 [(10, .int (iI ((n : Nat) - 1))), (5, .int (nI (o + n))), (8, .long 0), (6, .long (lN K)), (0, .ref a), (1, .ref zr), (2, .ref x), (3, .int (nI K)), (4, .int (nI n))] := hl
  replace hl : lv_has ls 15 [(10, .int (iI ((n : Int) - 1))), (5, .int (nI (o + n))), (8, .long (lN 0)), (6, .long (lN K)), (0, .ref a), (1, .ref zr), (2, .ref x), (3, .int (nI K)), (4, .int (nI n))] := by
    exact hl
  have loopA : ∀ (n_ : Nat) (t kk : Nat) (gg : Nat → Nat), (t ≤ n) → (kk < 4294967296) → (∀ i, gg i < 4294967296) → (∀ i, (i < o + 1 + t ∨ o + 1 + n ≤ i) → gg i = g i) → (seg gg (o + 1 + t) (n - t) + K * seg d t (n - t) = seg g (o + 1 + t) (n - t) + kk * 4294967296 ^ (n - t)) → (t) < n_ → ∀ (H_1 : Heap) (locs : List Loc), va_S (fun q => q = zr) H0 H_1 locs → gI z true .int H_1 zr L (dI gg) → gI z w .int H_1 x nx (dI d) → ∀ (ls : Array Slot), lv_has ls 15 [(10, .int (iI ((t : Int) - 1))), (5, .int (nI (o + t))), (8, .long (lN kk)), (6, .long (lN K)), (0, .ref a), (1, .ref zr), (2, .ref x), (3, .int (nI K)), (4, .int (nI n))] → W p l e { frames := 0, cells := 0, slots := 0, locals := 0 } s m [.ref a, .ref zr, .ref x, .int (nI K), .int (nI n), .int (nI o)].toArray below meth c H_1 locs 0 0 (MQ below (gRi (fun q => q = zr) H0 (fun r H1 => ∃ kk gg, r = nI kk ∧ kk < 4294967296 ∧ (∀ i, gg i < 4294967296) ∧ (∀ i, (i < o + 1 ∨ o + 1 + n ≤ i) → gg i = g i) ∧ seg gg (o + 1) n + K * seg d 0 n = seg g (o + 1) n + kk * 4294967296 ^ n ∧ gI z true .int H1 zr L (dI gg))) [.ref a, .ref zr, .ref x, .int (nI K), .int (nI n), .int (nI o)].toArray s 0 0 (fun q => q = zr)) (F0 m 24 ls []) := by
    intro n_
    induction n_ with
    | zero => intro t kk gg ht hkk hgg hgo hs hm_; exact absurd hm_ (Nat.not_lt_zero _)
    | succ n_ ih_loopA =>
      intro t kk gg ht hkk hgg hgo hs hm_ H_1 locs hS hZ hX ls hl
      refine lv_iload hx hb dJ24_mulsub_24 (lv_at hl 0 rfl) ?_
      refine lv_if_lt (tgt := 106) hx hb dJ24_mulsub_26 (by decide) (fun c_26 => ?_) (fun c_26 => ?_)
      · skip
        have c_26 := (ai_ltI (a := ((t : Int) - 1)) (b := 0) (rfl) (by decide) (by omega) (by omega) (by omega) (by omega)).mp c_26
        refine lv_lload hx hb dJ24_mulsub_106 (lv_at hl 2 rfl) ?_
        refine lv_l2i hx hb dJ24_mulsub_108 rfl ?_
        refine g_topi (v := nI kk) (ai_l2i (rfl)) ?_
        refine g_iret hx hb hr hlocks hS (Nat.le_of_ble_eq_true rfl) (Nat.le_of_ble_eq_true rfl) ?_ dJ24_mulsub_109
        have e0 : t = 0 := by omega
        subst e0
        rw [Nat.sub_zero, Nat.add_zero] at hs
        exact ⟨kk, gg, rfl, hkk, hgg, fun i hi => hgo i (by omega), hs, hZ⟩
      · skip
        have c_26 := mt (ai_ltI (a := ((t : Int) - 1)) (b := 0) (rfl) (by decide) (by omega) (by omega) (by omega) (by omega)).mpr c_26
        replace hl : lv_has ls 15 [(10, .int (nI (t - 1))), (5, .int (nI (o + t))), (8, .long (lN kk)), (6, .long (lN K)), (0, .ref a), (1, .ref zr), (2, .ref x), (3, .int (nI K)), (4, .int (nI n))] := by
          rw [show nI (t - 1) = iI ((t : Int) - 1) by rw [nI_iI]; exact congrArg iI (by omega)]
          exact hl
        refine lv_aload_n hx hb dJ24_mulsub_29 rfl (lv_at hl 6 rfl) ?_
        refine lv_iload hx hb dJ24_mulsub_30 (lv_at hl 0 rfl) ?_
        refine gw_iald hx hb hal hX (t - 1) (rfl) (by omega) (by omega) dJ24_mulsub_32 ?_
        refine g_topi (v := (nI (d (t - 1)))) rfl ?_
        refine lv_i2l hx hb dJ24_mulsub_33 rfl ?_
        refine lv_ldc2 (v := 4294967295) hx hb hown (hts _ q1035) dJ24_mulsub_34 ?_
        refine lv_land hx hb dJ24_mulsub_37 ?_
        refine g_topl (v := lN (d (t - 1))) (mk32 (a := (d (t - 1))) (rfl) (hd _)) ?_
        refine lv_lload hx hb dJ24_mulsub_38 (lv_at hl 3 rfl) ?_
        refine lv_lmul hx hb dJ24_mulsub_40 ?_
        refine g_topl (v := lN ((d (t - 1)) * K)) (ai_mulL (a := (d (t - 1))) (b := K) (rfl) (rfl)) ?_
        refine lv_lload hx hb dJ24_mulsub_41 (lv_at hl 2 rfl) ?_
        refine lv_ladd hx hb dJ24_mulsub_43 ?_
        refine g_topl (v := lN (((d (t - 1)) * K) + kk)) (ai_addL (a := ((d (t - 1)) * K)) (b := kk) (rfl) (rfl)) ?_
        obtain ⟨P, hP⟩ : ∃ P : Nat, P = (((d (t - 1)) * K) + kk) := ⟨_, rfl⟩
        refine g_topl (v := lN P) (by rw [hP]) ?_
        have hP9 : P < 18446744073709551616 := by rw [hP]; have := mul_bd (hd (t - 1)) hK (show 0 < 4294967296 by decide) hkk; omega
        have hgot : gg (o + t) = g (o + 1 + t - 1) := by rw [show o + t = o + 1 + t - 1 by omega]; exact hgo _ (by omega)
        have hgb := hg (o + 1 + t - 1)
        refine lv_lstore hx hb dJ24_mulsub_44 hl (by decide) rfl (fun ls hl => ?_)
        have hl : lv_has ls 15 [(11, .long (lN P)), (10, .int (nI (t - 1))), (5, .int (nI (o + t))), (8, .long (lN kk)), (6, .long (lN K)), (0, .ref a), (1, .ref zr), (2, .ref x), (3, .int (nI K)), (4, .int (nI n))] := hl
        refine lv_aload_n hx hb dJ24_mulsub_46 rfl (lv_at hl 6 rfl) ?_
        refine lv_iload hx hb dJ24_mulsub_47 (lv_at hl 2 rfl) ?_
        refine gw_iald hx hb hal hZ (o + t) (rfl) (by omega) (by omega) dJ24_mulsub_49 ?_
        refine g_topi (v := (nI (gg (o + t)))) rfl ?_
        refine lv_i2l hx hb dJ24_mulsub_50 rfl ?_
        refine lv_lload hx hb dJ24_mulsub_51 (lv_at hl 0 rfl) ?_
        refine lv_lsub hx hb dJ24_mulsub_53 ?_
        refine lv_lstore hx hb dJ24_mulsub_54 hl (by decide) rfl (fun ls hl => ?_)
        have hl : lv_has ls 15 [(13, .long ((nI (gg (o + t))).toInt64 - lN P)), (11, .long (lN P)), (10, .int (nI (t - 1))), (5, .int (nI (o + t))), (8, .long (lN kk)), (6, .long (lN K)), (0, .ref a), (1, .ref zr), (2, .ref x), (3, .int (nI K)), (4, .int (nI n))] := hl
        refine lv_aload_n hx hb dJ24_mulsub_56 rfl (lv_at hl 7 rfl) ?_
        refine lv_iload hx hb dJ24_mulsub_57 (lv_at hl 3 rfl) ?_
        refine lv_iinc (k := 3) (v := (nI ((o + t) - 1))) hx hb dJ24_mulsub_59 hl rfl (ai_sbn (a := (o + t)) (b := 1) (rfl) (show Int32.ofInt (-1) = -nI 1 by decide) (by omega)) (by decide) rfl (fun ls hl => ?_)
        have hl : lv_has ls 15 [(5, .int (nI ((o + t) - 1))), (13, .long ((nI (gg (o + t))).toInt64 - lN P)), (11, .long (lN P)), (10, .int (nI (t - 1))), (8, .long (lN kk)), (6, .long (lN K)), (0, .ref a), (1, .ref zr), (2, .ref x), (3, .int (nI K)), (4, .int (nI n))] := hl
        refine lv_lload hx hb dJ24_mulsub_62 (lv_at hl 1 rfl) ?_
        refine lv_l2i hx hb dJ24_mulsub_64 rfl ?_
        refine g_topi (v := (nI (dfd (g (o + 1 + t - 1)) P))) (by rw [hgot]; exact dif_i hgb) ?_
        refine gw_iast (f := (dI gg)) hx hb hal hZ hS (by have hsz := hS.1; (try dsimp only [gfr]) <;> omega) (o + t) (rfl) (by omega) (by omega) dJ24_mulsub_65 (fun H_2 locs h_new hch hS => ?_)
        have hX := hX.ch hch (by omega)
        have sz_H_2 := hch.1
        clear hch
        have hZ : gI z true .int H_2 zr L (upd (dI gg) (o + t) (nI (dfd (g (o + 1 + t - 1)) P))) := h_new
        replace hZ : gI z true .int H_2 zr L (dI (dup gg (o + t) ((dfd (g (o + 1 + t - 1)) P) % 4294967296))) := by
          have q := hZ
          rw [dI_put] at q
          exact q
        have bd_3 : ∀ i, (dup gg (o + t) ((dfd (g (o + 1 + t - 1)) P) % 4294967296)) i < 4294967296 := dup_lt hgg (Nat.mod_lt _ (by decide))
        refine lv_lload hx hb dJ24_mulsub_66 (lv_at hl 2 rfl) ?_
        refine lv_bipush (v := 32) hx hb dJ24_mulsub_68 (by decide) ?_
        refine lv_lushr hx hb dJ24_mulsub_70 rfl ?_
        refine g_topl (v := lN (P / 4294967296)) (lN_shr32 (a := P) (hP9)) ?_
        have hdf : dfd (g (o + 1 + t - 1)) P < 4294967296 := Nat.mod_lt _ (by decide)
        refine lv_lload hx hb dJ24_mulsub_71 (lv_at hl 1 rfl) ?_
        refine lv_ldc2 (v := 4294967295) hx hb hown (hts _ q1035) dJ24_mulsub_73 ?_
        refine lv_land hx hb dJ24_mulsub_76 ?_
        refine g_topl (v := (lN (dfd (g (o + 1 + t - 1)) P))) (by rw [hgot]; exact dif_m hgb) ?_
        refine lv_lload hx hb dJ24_mulsub_77 (lv_at hl 2 rfl) ?_
        refine lv_l2i hx hb dJ24_mulsub_79 rfl ?_
        refine g_topi (v := nI P) (ai_l2i (rfl)) ?_
        refine lv_iconst (v := -1) hx hb dJ24_mulsub_80 (by decide) ?_
        refine lv_ixor hx hb dJ24_mulsub_81 ?_
        refine g_topi (v := (nI (4294967295 - P % 4294967296))) (by rw [← nI_mod P]; exact nI_not (Nat.mod_lt _ (by decide))) ?_
        refine lv_i2l hx hb dJ24_mulsub_82 rfl ?_
        refine lv_ldc2 (v := 4294967295) hx hb hown (hts _ q1035) dJ24_mulsub_83 ?_
        refine lv_land hx hb dJ24_mulsub_86 ?_
        refine g_topl (v := lN (4294967295 - P % 4294967296)) (mk32 (a := (4294967295 - P % 4294967296)) (rfl) (by omega)) ?_
        refine W.lcmp hx hb dJ24_mulsub_87 ?_
        refine lv_if_le (tgt := 95) hx hb dJ24_mulsub_88 (by decide) (fun c_88 => ?_) (fun c_88 => ?_)
        · skip
          have c_88 := (ai_cle (a := ((dfd (g (o + 1 + t - 1)) P) : Nat)) (b := ((4294967295 - P % 4294967296) : Nat)) (lN_lI _) (lN_lI _) (by omega) (by omega) (by omega) (by omega)).mp c_88
          have hcc : (P / 4294967296 + (if 4294967295 - P % 4294967296 < dfd (g (o + 1 + t - 1)) P then 1 else 0)) = P / 4294967296 := by rw [if_neg (by omega), Nat.add_zero]
          refine lv_iconst (v := 0) hx hb dJ24_mulsub_95 (by decide) ?_
          refine lv_i2l hx hb dJ24_mulsub_96 rfl ?_
          refine g_topl (v := lN 0) (ai_i2l (rfl) (by omega)) ?_
          refine lv_ladd hx hb dJ24_mulsub_97 ?_
          refine g_topl (v := (lN (P / 4294967296 + (if 4294967295 - P % 4294967296 < dfd (g (o + 1 + t - 1)) P then 1 else 0)))) ?_ ?_
          · skip
            rw [hcc]
            exact lN_add _ _
          refine lv_lstore hx hb dJ24_mulsub_98 hl (by decide) rfl (fun ls hl => ?_)
          have hl : lv_has ls 15 [(8, .long (lN (P / 4294967296 + (if 4294967295 - P % 4294967296 < dfd (g (o + 1 + t - 1)) P then 1 else 0)))), (5, .int (nI ((o + t) - 1))), (13, .long ((nI (gg (o + t))).toInt64 - lN P)), (11, .long (lN P)), (10, .int (nI (t - 1))), (6, .long (lN K)), (0, .ref a), (1, .ref zr), (2, .ref x), (3, .int (nI K)), (4, .int (nI n))] := hl
          refine lv_iinc (k := 4) (v := (iI (((t - 1 : Nat) : Int) - 1))) hx hb dJ24_mulsub_100 hl rfl (by rw [nI_iI, show Int32.ofInt (-1) = iI (-1) from rfl, iI_add]; exact congrArg iI (by omega)) (by decide) rfl (fun ls hl => ?_)
          have hl : lv_has ls 15 [(10, .int (iI (((t - 1 : Nat) : Int) - 1))), (8, .long (lN (P / 4294967296 + (if 4294967295 - P % 4294967296 < dfd (g (o + 1 + t - 1)) P then 1 else 0)))), (5, .int (nI ((o + t) - 1))), (13, .long ((nI (gg (o + t))).toInt64 - lN P)), (11, .long (lN P)), (6, .long (lN K)), (0, .ref a), (1, .ref zr), (2, .ref x), (3, .int (nI K)), (4, .int (nI n))] := hl
          refine lv_goto (tgt := 24) hx hb dJ24_mulsub_103 (by decide) ?_
          replace hl : lv_has ls 15 [(10, .int (iI (((t - 1 : Nat) : Int) - 1))), (8, .long (lN (P / 4294967296 + (if 4294967295 - P % 4294967296 < dfd (g (o + 1 + t - 1)) P then 1 else 0)))), (5, .int (nI (o + (t - 1)))), (13, .long ((nI (gg (o + t))).toInt64 - lN P)), (11, .long (lN P)), (6, .long (lN K)), (0, .ref a), (1, .ref zr), (2, .ref x), (3, .int (nI K)), (4, .int (nI n))] := by
            rw [show o + (t - 1) = o + t - 1 by omega]
            exact hl
          exact ih_loopA (t - 1) (P / 4294967296 + (if 4294967295 - P % 4294967296 < dfd (g (o + 1 + t - 1)) P then 1 else 0)) (dup gg (o + t) ((dfd (g (o + 1 + t - 1)) P) % 4294967296)) (by omega) (by rw [hP]; exact ms_carry (hd _) hK hkk (hg _)) bd_3 (fun i hi => by rw [dup_n (by omega)]; exact hgo i (by omega)) (by have q := ms_A (e := gg) (o := o + 1) (t := n - t) hg (by omega) hP (hgo _ (by omega)) hs; rw [show o + 1 + (t - 1) = o + 1 + t - 1 by omega, show n - (t - 1) = n - t + 1 by omega, show o + t = o + 1 + t - 1 by omega]; exact q) (by omega) H_2 _ hS hZ hX ls (lv_sub hl [0, 2, 1, 5, 6, 7, 8, 9, 10] rfl)
        · skip
          have c_88 := mt (ai_cle (a := ((dfd (g (o + 1 + t - 1)) P) : Nat)) (b := ((4294967295 - P % 4294967296) : Nat)) (lN_lI _) (lN_lI _) (by omega) (by omega) (by omega) (by omega)).mpr c_88
          have hcc : (P / 4294967296 + (if 4294967295 - P % 4294967296 < dfd (g (o + 1 + t - 1)) P then 1 else 0)) = P / 4294967296 + 1 := by rw [if_pos (by omega)]
          refine lv_iconst (v := 1) hx hb dJ24_mulsub_91 (by decide) ?_
          refine lv_goto (tgt := 96) hx hb dJ24_mulsub_92 (by decide) ?_
          refine lv_i2l hx hb dJ24_mulsub_96 rfl ?_
          refine g_topl (v := lN 1) (ai_i2l (rfl) (by omega)) ?_
          refine lv_ladd hx hb dJ24_mulsub_97 ?_
          refine g_topl (v := (lN (P / 4294967296 + (if 4294967295 - P % 4294967296 < dfd (g (o + 1 + t - 1)) P then 1 else 0)))) ?_ ?_
          · skip
            rw [hcc]
            exact lN_add _ _
          refine lv_lstore hx hb dJ24_mulsub_98 hl (by decide) rfl (fun ls hl => ?_)
          have hl : lv_has ls 15 [(8, .long (lN (P / 4294967296 + (if 4294967295 - P % 4294967296 < dfd (g (o + 1 + t - 1)) P then 1 else 0)))), (5, .int (nI ((o + t) - 1))), (13, .long ((nI (gg (o + t))).toInt64 - lN P)), (11, .long (lN P)), (10, .int (nI (t - 1))), (6, .long (lN K)), (0, .ref a), (1, .ref zr), (2, .ref x), (3, .int (nI K)), (4, .int (nI n))] := hl
          refine lv_iinc (k := 4) (v := (iI (((t - 1 : Nat) : Int) - 1))) hx hb dJ24_mulsub_100 hl rfl (by rw [nI_iI, show Int32.ofInt (-1) = iI (-1) from rfl, iI_add]; exact congrArg iI (by omega)) (by decide) rfl (fun ls hl => ?_)
          have hl : lv_has ls 15 [(10, .int (iI (((t - 1 : Nat) : Int) - 1))), (8, .long (lN (P / 4294967296 + (if 4294967295 - P % 4294967296 < dfd (g (o + 1 + t - 1)) P then 1 else 0)))), (5, .int (nI ((o + t) - 1))), (13, .long ((nI (gg (o + t))).toInt64 - lN P)), (11, .long (lN P)), (6, .long (lN K)), (0, .ref a), (1, .ref zr), (2, .ref x), (3, .int (nI K)), (4, .int (nI n))] := hl
          refine lv_goto (tgt := 24) hx hb dJ24_mulsub_103 (by decide) ?_
          replace hl : lv_has ls 15 [(10, .int (iI (((t - 1 : Nat) : Int) - 1))), (8, .long (lN (P / 4294967296 + (if 4294967295 - P % 4294967296 < dfd (g (o + 1 + t - 1)) P then 1 else 0)))), (5, .int (nI (o + (t - 1)))), (13, .long ((nI (gg (o + t))).toInt64 - lN P)), (11, .long (lN P)), (6, .long (lN K)), (0, .ref a), (1, .ref zr), (2, .ref x), (3, .int (nI K)), (4, .int (nI n))] := by
            rw [show o + (t - 1) = o + t - 1 by omega]
            exact hl
          exact ih_loopA (t - 1) (P / 4294967296 + (if 4294967295 - P % 4294967296 < dfd (g (o + 1 + t - 1)) P then 1 else 0)) (dup gg (o + t) ((dfd (g (o + 1 + t - 1)) P) % 4294967296)) (by omega) (by rw [hP]; exact ms_carry (hd _) hK hkk (hg _)) bd_3 (fun i hi => by rw [dup_n (by omega)]; exact hgo i (by omega)) (by have q := ms_A (e := gg) (o := o + 1) (t := n - t) hg (by omega) hP (hgo _ (by omega)) hs; rw [show o + 1 + (t - 1) = o + 1 + t - 1 by omega, show n - (t - 1) = n - t + 1 by omega, show o + t = o + 1 + t - 1 by omega]; exact q) (by omega) H_2 _ hS hZ hX ls (lv_sub hl [0, 2, 1, 5, 6, 7, 8, 9, 10] rfl)
  exact loopA _ n 0 g (Nat.le_refl _) (by decide) hg (fun _ _ => rfl) (by simp [seg_z]) (Nat.lt_succ_self _) H0 _ hS hZ hX ls (lv_sub hl [0, 1, 2, 3, 4, 5, 6, 7, 8] rfl)
