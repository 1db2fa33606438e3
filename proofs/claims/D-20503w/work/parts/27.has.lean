/-! ## walks (written by tools) -/
set_option maxRecDepth 100000
def dkwX1_has_7 : List UInt8 := [4, 167, 0, 4, 3, 172]
abbrev dktX1_has_7 : List UInt8 := dkwX1_has_7 ++ []
def dkwX1_has_6 : List UInt8 := [155, 0, 7, 4, 167, 0, 4, 3, 172, 39, 14, 151, 155, 0, 16, 39, 184, 0, 198, 41, 151, 155, 0, 7]
abbrev dktX1_has_6 : List UInt8 := dkwX1_has_6 ++ dktX1_has_7
def dkwX1_has_5 : List UInt8 := [3, 172, 39, 4, 184, 0, 184, 41, 151, 155, 0, 7, 4, 167, 0, 4, 3, 172, 39, 184, 0, 164, 41, 151]
abbrev dktX1_has_5 : List UInt8 := dkwX1_has_5 ++ dktX1_has_6
def dkwX1_has_4 : List UInt8 := [184, 0, 188, 161, 0, 7, 4, 167, 0, 4, 3, 172, 41, 39, 99, 41, 151, 158, 0, 7, 4, 167, 0, 4]
abbrev dktX1_has_4 : List UInt8 := dkwX1_has_4 ++ dktX1_has_5
def dkwX1_has_3 : List UInt8 := [184, 0, 198, 151, 155, 0, 7, 4, 167, 0, 4, 3, 172, 39, 14, 151, 155, 0, 18, 39, 184, 0, 188, 41]
abbrev dktX1_has_3 : List UInt8 := dkwX1_has_3 ++ dktX1_has_4
def dkwX1_has_2 : List UInt8 := [39, 41, 151, 155, 0, 7, 4, 167, 0, 4, 3, 172, 39, 14, 151, 155, 0, 19, 39, 184, 0, 198, 41]
abbrev dktX1_has_2 : List UInt8 := dkwX1_has_2 ++ dktX1_has_3
def dkwX1_has_1 : List UInt8 := [170, 0, 0, 0, 0, 0, 143, 0, 0, 0, 0, 0, 0, 0, 5, 0, 0, 0, 39, 0, 0, 0, 51, 0, 0, 0, 75, 0, 0, 0, 98, 0, 0, 0, 112, 0, 0, 0, 128]
abbrev dktX1_has_1 : List UInt8 := dkwX1_has_1 ++ dktX1_has_2
def dkwX1_has_0 : List UInt8 := [26]
abbrev dktX1_has_0 : List UInt8 := dkwX1_has_0 ++ dktX1_has_1
theorem dksX1_has_0 : cX1_has.data.toList.drop 0 = dktX1_has_0 := by decide +kernel
theorem dksX1_has_1 : cX1_has.data.toList.drop 1 = dktX1_has_1 := dk_seg dksX1_has_0 1 rfl rfl
theorem dksX1_has_2 : cX1_has.data.toList.drop 40 = dktX1_has_2 := dk_seg dksX1_has_1 39 rfl rfl
theorem dksX1_has_3 : cX1_has.data.toList.drop 63 = dktX1_has_3 := dk_seg dksX1_has_2 23 rfl rfl
theorem dksX1_has_4 : cX1_has.data.toList.drop 87 = dktX1_has_4 := dk_seg dksX1_has_3 24 rfl rfl
theorem dksX1_has_5 : cX1_has.data.toList.drop 111 = dktX1_has_5 := dk_seg dksX1_has_4 24 rfl rfl
theorem dksX1_has_6 : cX1_has.data.toList.drop 135 = dktX1_has_6 := dk_seg dksX1_has_5 24 rfl rfl
theorem dksX1_has_7 : cX1_has.data.toList.drop 159 = dktX1_has_7 := dk_seg dksX1_has_6 24 rfl rfl
theorem dX1_has_0 : decode cX1_has 0 = .ok (.iload_n 0, 1) := dk_26 (dk_at dksX1_has_0 0 rfl rfl)
theorem dX1_has_1 : decode cX1_has 1 = .ok (.tableswitch 143 0 5 #[39, 51, 75, 98, 112, 128], 39) := by decide +kernel
theorem dX1_has_40 : decode cX1_has 40 = .ok (.dload_n 1, 1) := dk_39 (dk_at dksX1_has_2 0 rfl rfl)
theorem dX1_has_41 : decode cX1_has 41 = .ok (.dload_n 3, 1) := dk_41 (dk_at dksX1_has_2 1 rfl rfl)
theorem dX1_has_42 : decode cX1_has 42 = .ok (.dcmp .l, 1) := dk_151 (dk_at dksX1_has_2 2 rfl rfl)
theorem dX1_has_43 : decode cX1_has 43 = .ok (.ifCond .lt 7, 3) := dk_155 0 7 (dk_at dksX1_has_2 3 rfl rfl)
theorem dX1_has_46 : decode cX1_has 46 = .ok (.iconst 1, 1) := dk_4 (dk_at dksX1_has_2 6 rfl rfl)
theorem dX1_has_47 : decode cX1_has 47 = .ok (.goto 4, 3) := dk_167 0 4 (dk_at dksX1_has_2 7 rfl rfl)
theorem dX1_has_50 : decode cX1_has 50 = .ok (.iconst 0, 1) := dk_3 (dk_at dksX1_has_2 10 rfl rfl)
theorem dX1_has_51 : decode cX1_has 51 = .ok (.ireturn, 1) := dk_172 (dk_at dksX1_has_2 11 rfl rfl)
theorem dX1_has_52 : decode cX1_has 52 = .ok (.dload_n 1, 1) := dk_39 (dk_at dksX1_has_2 12 rfl rfl)
theorem dX1_has_53 : decode cX1_has 53 = .ok (.dconst 0, 1) := dk_14 (dk_at dksX1_has_2 13 rfl rfl)
theorem dX1_has_54 : decode cX1_has 54 = .ok (.dcmp .l, 1) := dk_151 (dk_at dksX1_has_2 14 rfl rfl)
theorem dX1_has_55 : decode cX1_has 55 = .ok (.ifCond .lt 19, 3) := dk_155 0 19 (dk_at dksX1_has_2 15 rfl rfl)
theorem dX1_has_58 : decode cX1_has 58 = .ok (.dload_n 1, 1) := dk_39 (dk_at dksX1_has_2 18 rfl rfl)
theorem dX1_has_59 : decode cX1_has 59 = .ok (.invokestatic 198, 3) := dk_184 0 198 (dk_at dksX1_has_2 19 rfl rfl)
theorem dX1_has_62 : decode cX1_has 62 = .ok (.dload_n 3, 1) := dk_41 (dk_at dksX1_has_2 22 rfl rfl)
theorem dX1_has_63 : decode cX1_has 63 = .ok (.invokestatic 198, 3) := dk_184 0 198 (dk_at dksX1_has_3 0 rfl rfl)
theorem dX1_has_66 : decode cX1_has 66 = .ok (.dcmp .l, 1) := dk_151 (dk_at dksX1_has_3 3 rfl rfl)
theorem dX1_has_67 : decode cX1_has 67 = .ok (.ifCond .lt 7, 3) := dk_155 0 7 (dk_at dksX1_has_3 4 rfl rfl)
theorem dX1_has_70 : decode cX1_has 70 = .ok (.iconst 1, 1) := dk_4 (dk_at dksX1_has_3 7 rfl rfl)
theorem dX1_has_71 : decode cX1_has 71 = .ok (.goto 4, 3) := dk_167 0 4 (dk_at dksX1_has_3 8 rfl rfl)
theorem dX1_has_74 : decode cX1_has 74 = .ok (.iconst 0, 1) := dk_3 (dk_at dksX1_has_3 11 rfl rfl)
theorem dX1_has_75 : decode cX1_has 75 = .ok (.ireturn, 1) := dk_172 (dk_at dksX1_has_3 12 rfl rfl)
theorem dX1_has_76 : decode cX1_has 76 = .ok (.dload_n 1, 1) := dk_39 (dk_at dksX1_has_3 13 rfl rfl)
theorem dX1_has_77 : decode cX1_has 77 = .ok (.dconst 0, 1) := dk_14 (dk_at dksX1_has_3 14 rfl rfl)
theorem dX1_has_78 : decode cX1_has 78 = .ok (.dcmp .l, 1) := dk_151 (dk_at dksX1_has_3 15 rfl rfl)
theorem dX1_has_79 : decode cX1_has 79 = .ok (.ifCond .lt 18, 3) := dk_155 0 18 (dk_at dksX1_has_3 16 rfl rfl)
theorem dX1_has_82 : decode cX1_has 82 = .ok (.dload_n 1, 1) := dk_39 (dk_at dksX1_has_3 19 rfl rfl)
theorem dX1_has_83 : decode cX1_has 83 = .ok (.invokestatic 188, 3) := dk_184 0 188 (dk_at dksX1_has_3 20 rfl rfl)
theorem dX1_has_86 : decode cX1_has 86 = .ok (.dload_n 3, 1) := dk_41 (dk_at dksX1_has_3 23 rfl rfl)
theorem dX1_has_87 : decode cX1_has 87 = .ok (.invokestatic 188, 3) := dk_184 0 188 (dk_at dksX1_has_4 0 rfl rfl)
theorem dX1_has_90 : decode cX1_has 90 = .ok (.if_icmp .lt 7, 3) := dk_161 0 7 (dk_at dksX1_has_4 3 rfl rfl)
theorem dX1_has_93 : decode cX1_has 93 = .ok (.iconst 1, 1) := dk_4 (dk_at dksX1_has_4 6 rfl rfl)
theorem dX1_has_94 : decode cX1_has 94 = .ok (.goto 4, 3) := dk_167 0 4 (dk_at dksX1_has_4 7 rfl rfl)
theorem dX1_has_97 : decode cX1_has 97 = .ok (.iconst 0, 1) := dk_3 (dk_at dksX1_has_4 10 rfl rfl)
theorem dX1_has_98 : decode cX1_has 98 = .ok (.ireturn, 1) := dk_172 (dk_at dksX1_has_4 11 rfl rfl)
theorem dX1_has_99 : decode cX1_has 99 = .ok (.dload_n 3, 1) := dk_41 (dk_at dksX1_has_4 12 rfl rfl)
theorem dX1_has_100 : decode cX1_has 100 = .ok (.dload_n 1, 1) := dk_39 (dk_at dksX1_has_4 13 rfl rfl)
theorem dX1_has_101 : decode cX1_has 101 = .ok (.dadd, 1) := dk_99 (dk_at dksX1_has_4 14 rfl rfl)
theorem dX1_has_102 : decode cX1_has 102 = .ok (.dload_n 3, 1) := dk_41 (dk_at dksX1_has_4 15 rfl rfl)
theorem dX1_has_103 : decode cX1_has 103 = .ok (.dcmp .l, 1) := dk_151 (dk_at dksX1_has_4 16 rfl rfl)
theorem dX1_has_104 : decode cX1_has 104 = .ok (.ifCond .le 7, 3) := dk_158 0 7 (dk_at dksX1_has_4 17 rfl rfl)
theorem dX1_has_107 : decode cX1_has 107 = .ok (.iconst 1, 1) := dk_4 (dk_at dksX1_has_4 20 rfl rfl)
theorem dX1_has_108 : decode cX1_has 108 = .ok (.goto 4, 3) := dk_167 0 4 (dk_at dksX1_has_4 21 rfl rfl)
theorem dX1_has_111 : decode cX1_has 111 = .ok (.iconst 0, 1) := dk_3 (dk_at dksX1_has_5 0 rfl rfl)
theorem dX1_has_112 : decode cX1_has 112 = .ok (.ireturn, 1) := dk_172 (dk_at dksX1_has_5 1 rfl rfl)
theorem dX1_has_113 : decode cX1_has 113 = .ok (.dload_n 1, 1) := dk_39 (dk_at dksX1_has_5 2 rfl rfl)
theorem dX1_has_114 : decode cX1_has 114 = .ok (.iconst 1, 1) := dk_4 (dk_at dksX1_has_5 3 rfl rfl)
theorem dX1_has_115 : decode cX1_has 115 = .ok (.invokestatic 184, 3) := dk_184 0 184 (dk_at dksX1_has_5 4 rfl rfl)
theorem dX1_has_118 : decode cX1_has 118 = .ok (.dload_n 3, 1) := dk_41 (dk_at dksX1_has_5 7 rfl rfl)
theorem dX1_has_119 : decode cX1_has 119 = .ok (.dcmp .l, 1) := dk_151 (dk_at dksX1_has_5 8 rfl rfl)
theorem dX1_has_120 : decode cX1_has 120 = .ok (.ifCond .lt 7, 3) := dk_155 0 7 (dk_at dksX1_has_5 9 rfl rfl)
theorem dX1_has_123 : decode cX1_has 123 = .ok (.iconst 1, 1) := dk_4 (dk_at dksX1_has_5 12 rfl rfl)
theorem dX1_has_124 : decode cX1_has 124 = .ok (.goto 4, 3) := dk_167 0 4 (dk_at dksX1_has_5 13 rfl rfl)
theorem dX1_has_127 : decode cX1_has 127 = .ok (.iconst 0, 1) := dk_3 (dk_at dksX1_has_5 16 rfl rfl)
theorem dX1_has_128 : decode cX1_has 128 = .ok (.ireturn, 1) := dk_172 (dk_at dksX1_has_5 17 rfl rfl)
theorem dX1_has_129 : decode cX1_has 129 = .ok (.dload_n 1, 1) := dk_39 (dk_at dksX1_has_5 18 rfl rfl)
theorem dX1_has_130 : decode cX1_has 130 = .ok (.invokestatic 164, 3) := dk_184 0 164 (dk_at dksX1_has_5 19 rfl rfl)
theorem dX1_has_133 : decode cX1_has 133 = .ok (.dload_n 3, 1) := dk_41 (dk_at dksX1_has_5 22 rfl rfl)
theorem dX1_has_134 : decode cX1_has 134 = .ok (.dcmp .l, 1) := dk_151 (dk_at dksX1_has_5 23 rfl rfl)
theorem dX1_has_135 : decode cX1_has 135 = .ok (.ifCond .lt 7, 3) := dk_155 0 7 (dk_at dksX1_has_6 0 rfl rfl)
theorem dX1_has_138 : decode cX1_has 138 = .ok (.iconst 1, 1) := dk_4 (dk_at dksX1_has_6 3 rfl rfl)
theorem dX1_has_139 : decode cX1_has 139 = .ok (.goto 4, 3) := dk_167 0 4 (dk_at dksX1_has_6 4 rfl rfl)
theorem dX1_has_142 : decode cX1_has 142 = .ok (.iconst 0, 1) := dk_3 (dk_at dksX1_has_6 7 rfl rfl)
theorem dX1_has_143 : decode cX1_has 143 = .ok (.ireturn, 1) := dk_172 (dk_at dksX1_has_6 8 rfl rfl)
theorem dX1_has_144 : decode cX1_has 144 = .ok (.dload_n 1, 1) := dk_39 (dk_at dksX1_has_6 9 rfl rfl)
theorem dX1_has_145 : decode cX1_has 145 = .ok (.dconst 0, 1) := dk_14 (dk_at dksX1_has_6 10 rfl rfl)
theorem dX1_has_146 : decode cX1_has 146 = .ok (.dcmp .l, 1) := dk_151 (dk_at dksX1_has_6 11 rfl rfl)
theorem dX1_has_147 : decode cX1_has 147 = .ok (.ifCond .lt 16, 3) := dk_155 0 16 (dk_at dksX1_has_6 12 rfl rfl)
theorem dX1_has_150 : decode cX1_has 150 = .ok (.dload_n 1, 1) := dk_39 (dk_at dksX1_has_6 15 rfl rfl)
theorem dX1_has_151 : decode cX1_has 151 = .ok (.invokestatic 198, 3) := dk_184 0 198 (dk_at dksX1_has_6 16 rfl rfl)
theorem dX1_has_154 : decode cX1_has 154 = .ok (.dload_n 3, 1) := dk_41 (dk_at dksX1_has_6 19 rfl rfl)
theorem dX1_has_155 : decode cX1_has 155 = .ok (.dcmp .l, 1) := dk_151 (dk_at dksX1_has_6 20 rfl rfl)
theorem dX1_has_156 : decode cX1_has 156 = .ok (.ifCond .lt 7, 3) := dk_155 0 7 (dk_at dksX1_has_6 21 rfl rfl)
theorem dX1_has_159 : decode cX1_has 159 = .ok (.iconst 1, 1) := dk_4 (dk_at dksX1_has_7 0 rfl rfl)
theorem dX1_has_160 : decode cX1_has 160 = .ok (.goto 4, 3) := dk_167 0 4 (dk_at dksX1_has_7 1 rfl rfl)
theorem dX1_has_163 : decode cX1_has 163 = .ok (.iconst 0, 1) := dk_3 (dk_at dksX1_has_7 4 rfl rfl)
theorem dX1_has_164 : decode cX1_has 164 = .ok (.ireturn, 1) := dk_172 (dk_at dksX1_has_7 5 rfl rfl)
theorem yd_J12_nextUp : yJ12_nextUp.cls ≠ "java/lang/invoke/MethodHandle" ∧ yJ12_nextUp.cls ≠ "java/lang/invoke/VarHandle" ∧ (parseMethodDescriptor yJ12_nextUp.desc).map (fun d => d.parameters.length) = some 1 := by decide +kernel
section TSW
variable {p : Program} {l : Launch} {e : Env} {R : Room} {s : State} {m : MethodId} {args : Array Value} {below : List Frame} {meth : Method} {c : Code} {H : Heap} {locs : List Loc} {cells slots : Nat} {Q : State → Prop}
theorem g_tsw {cc : ByteArray} {pc tgt : Nat} {ls : Array Slot} {rest : List Value} {k : Int32} {df low high off : Int} {offs : Array Int} {len : Nat} (hx : p.tables.exec = Jvm.exec) (hb : c.code = cc) (hdg : decode cc pc = .ok (.tableswitch df low high offs, len))
    (h : (¬ (k.toInt < low ∨ k.toInt > high) ∧ offs[(k.toInt - low).toNat]? = some off) ∨ ((k.toInt < low ∨ k.toInt > high) ∧ df = off)) (ht : (pc : Int) + off = (tgt : Int))
    (kk : W p l e R s m args below meth c H locs cells slots Q (F0 m tgt ls rest)) : W p l e R s m args below meth c H locs cells slots Q (F0 m pc ls (.int k :: rest)) := by
  intro T hT X
  obtain ⟨t, a, b⟩ := kk T hT X
  refine ⟨t, ?_, b⟩
  rcases h with ⟨h1, h2⟩ | ⟨h1, h2⟩
  · refine X.tableswitchIn hx rfl (k := k) (rest := rest) rfl (by rw [hb]; exact hdg) h1 h2 (by show 0 ≤ (pc : Int) + off; omega) t ?_
    rw [show ((F0 m pc ls (.int k :: rest)).pc : Int) + off = (tgt : Int) from ht]
    exact a
  · subst h2
    refine X.tableswitchOut hx rfl (k := k) (rest := rest) rfl (by rw [hb]; exact hdg) h1 (by show 0 ≤ (pc : Int) + df; omega) t ?_
    rw [show ((F0 m pc ls (.int k :: rest)).pc : Int) + df = (tgt : Int) from ht]
    exact a
end TSW
/-- a number's property beside the one held -/
def hasB (n : Nat) (x h : UInt64) : Bool := if n = 0 then decide (dK h ≤ dK x) else if n = 1 then decide (0 ≤ dK x ∧ dK (dUl h) ≤ dK (dUl x)) else if n = 2 then decide (0 ≤ dK x ∧ dE h ≤ dE x) else if n = 3 then decide (dK h < dK (FP.dadd h x)) else if n = 4 then decide (dK h ≤ dK (dScb x 1)) else if n = 5 then decide (dK h ≤ dK (dUp x)) else decide (0 ≤ dK x ∧ dK h ≤ dK (dUl x))
theorem dK00 : dK FP.dconst0 = 0 := by decide
theorem exp_le {a b : Nat} (ha : a ≤ 2047) (hb : b ≤ 2047) : iI ((a : Int) - 1023) ≤ iI ((b : Int) - 1023) ↔ a ≤ b := by
  rw [iI_le (by omega) (by omega) (by omega) (by omega)]
  omega
theorem exp_lt {a b : Nat} (ha : a ≤ 2047) (hb : b ≤ 2047) : iI ((a : Int) - 1023) < iI ((b : Int) - 1023) ↔ a < b := by
  rw [iI_lt (by omega) (by omega) (by omega) (by omega)]
  omega
theorem hasB_0 (x h : UInt64) : hasB 0 x h = decide (dK h ≤ dK x) := by
  unfold hasB
  rw [if_pos rfl]
theorem hasB_1 (x h : UInt64) : hasB 1 x h = decide (0 ≤ dK x ∧ dK (dUl h) ≤ dK (dUl x)) := by
  unfold hasB
  rw [if_neg (by decide), if_pos rfl]
theorem hasB_2 (x h : UInt64) : hasB 2 x h = decide (0 ≤ dK x ∧ dE h ≤ dE x) := by
  unfold hasB
  rw [if_neg (by decide), if_neg (by decide), if_pos rfl]
theorem hasB_3 (x h : UInt64) : hasB 3 x h = decide (dK h < dK (FP.dadd h x)) := by
  unfold hasB
  rw [if_neg (by decide), if_neg (by decide), if_neg (by decide), if_pos rfl]
theorem hasB_4 (x h : UInt64) : hasB 4 x h = decide (dK h ≤ dK (dScb x 1)) := by
  unfold hasB
  rw [if_neg (by decide), if_neg (by decide), if_neg (by decide), if_neg (by decide), if_pos rfl]
theorem hasB_5 (x h : UInt64) : hasB 5 x h = decide (dK h ≤ dK (dUp x)) := by
  unfold hasB
  rw [if_neg (by decide), if_neg (by decide), if_neg (by decide), if_neg (by decide), if_neg (by decide), if_pos rfl]
theorem hasB_6 (x h : UInt64) : hasB 6 x h = decide (0 ≤ dK x ∧ dK h ≤ dK (dUl x)) := by
  unfold hasB
  rw [if_neg (by decide), if_neg (by decide), if_neg (by decide), if_neg (by decide), if_neg (by decide), if_neg (by decide)]

set_option maxHeartbeats 1000000 in
theorem m_has_0 (l : Launch) (z : State) (H0 : Heap) (x : UInt64) (h : UInt64)  {A : Nat → Prop} (k : Nat → Nat) (hx0 : dFin x) (hh0 : dFin h) (hk : sN z k A H0) : Met l yX1_has (ws_ yX1_has cX1_has 5 (some .boolean)) { frames := 6, cells := 0, slots := 0, locals := 200 } (gPc z H0 [.int (nI 0), .double x, .double h]) (gPi H0 (fun r => r = gb (hasB 0 x h))) 0 0 gno := by
  refine g_start (by decide +kernel) (Nat.le_of_ble_eq_true rfl) ?_
  intro p e s m below meth c ls hx hb hr hlocks hml hown hname hts hwm hl
  have hown : s.vm.findClass "Nearplaces" = some m.cls := hown
  have hal : z.vm.Alike s.vm := hwm.alike
  have hCF : CallFix p m c cX1_has 5 s [.int (nI 0), .double x, .double h].toArray lw_all "Nearplaces" := ⟨hx, hb, hml, hown, hts⟩
  have hl : lv_has ls 5 [(0, .int (nI 0)), (1, .double x), (3, .double h)] := hl
  refine lv_iload_n hx hb dX1_has_0 rfl (lv_at hl 0 rfl) ?_
  refine g_tsw (off := 39) (tgt := 40) hx hb dX1_has_1 (by decide +kernel) (by decide) ?_
  refine lv_dload_n hx hb dX1_has_40 rfl (lv_at hl 1 rfl) ?_
  refine lv_dload_n hx hb dX1_has_41 rfl (lv_at hl 2 rfl) ?_
  refine lv_dcmp hx hb dX1_has_42 ?_
  refine g_topi (v := (cK x h)) (cK_of hx0.num hh0.num) ?_
  refine lv_if_lt (tgt := 50) hx hb dX1_has_43 (by decide) (fun c_43 => ?_) (fun c_43 => ?_)
  · skip
    refine lv_iconst (v := 0) hx hb dX1_has_50 (by decide) ?_
    refine g_zretP hx hb hr hlocks (rfl) ?_ dX1_has_51
    have hx1 := dE_max hx0.num
    have hh1 := dE_max hh0.num
    simp only [cK_lt, cK_ge, cK_le, cK_gt, dK00, exp_le hh1 hx1, exp_lt hx1 hh1, Int32.not_lt, Int32.not_le] at *
    rw [hasB_0]
    first | (rw [decide_eq_true (by omega)]; rfl) | (rw [decide_eq_false (by omega)]; rfl)
  · skip
    refine lv_iconst (v := 1) hx hb dX1_has_46 (by decide) ?_
    refine lv_goto (tgt := 51) hx hb dX1_has_47 (by decide) ?_
    refine g_zretP hx hb hr hlocks (rfl) ?_ dX1_has_51
    have hx1 := dE_max hx0.num
    have hh1 := dE_max hh0.num
    simp only [cK_lt, cK_ge, cK_le, cK_gt, dK00, exp_le hh1 hx1, exp_lt hx1 hh1, Int32.not_lt, Int32.not_le] at *
    rw [hasB_0]
    first | (rw [decide_eq_true (by omega)]; rfl) | (rw [decide_eq_false (by omega)]; rfl)
set_option maxHeartbeats 1000000 in
theorem m_has_1 (l : Launch) (z : State) (H0 : Heap) (x : UInt64) (h : UInt64)  {A : Nat → Prop} (k : Nat → Nat) (hx0 : dFin x) (hh0 : dFin h) (hk : sN z k A H0) : Met l yX1_has (ws_ yX1_has cX1_has 5 (some .boolean)) { frames := 6, cells := 0, slots := 0, locals := 200 } (gPc z H0 [.int (nI 1), .double x, .double h]) (gPi H0 (fun r => r = gb (hasB 1 x h))) 0 0 gno := by
  refine g_start (by decide +kernel) (Nat.le_of_ble_eq_true rfl) ?_
  intro p e s m below meth c ls hx hb hr hlocks hml hown hname hts hwm hl
  have hown : s.vm.findClass "Nearplaces" = some m.cls := hown
  have hal : z.vm.Alike s.vm := hwm.alike
  have hCF : CallFix p m c cX1_has 5 s [.int (nI 1), .double x, .double h].toArray lw_all "Nearplaces" := ⟨hx, hb, hml, hown, hts⟩
  have hl : lv_has ls 5 [(0, .int (nI 1)), (1, .double x), (3, .double h)] := hl
  refine lv_iload_n hx hb dX1_has_0 rfl (lv_at hl 0 rfl) ?_
  refine g_tsw (off := 51) (tgt := 52) hx hb dX1_has_1 (by decide +kernel) (by decide) ?_
  refine lv_dload_n hx hb dX1_has_52 rfl (lv_at hl 1 rfl) ?_
  refine lv_dconst0 hx hb dX1_has_53 ?_
  refine lv_dcmp hx hb dX1_has_54 ?_
  refine g_topi (v := (cK x FP.dconst0)) (cK_of hx0.num num0) ?_
  refine lv_if_lt (tgt := 74) hx hb dX1_has_55 (by decide) (fun c_55 => ?_) (fun c_55 => ?_)
  · skip
    refine lv_iconst (v := 0) hx hb dX1_has_74 (by decide) ?_
    refine g_zretP hx hb hr hlocks (rfl) ?_ dX1_has_75
    have hx1 := dE_max hx0.num
    have hh1 := dE_max hh0.num
    simp only [cK_lt, cK_ge, cK_le, cK_gt, dK00, exp_le hh1 hx1, exp_lt hx1 hh1, Int32.not_lt, Int32.not_le] at *
    rw [hasB_1]
    first | (rw [decide_eq_true (by omega)]; rfl) | (rw [decide_eq_false (by omega)]; rfl)
  · skip
    refine lv_dload_n hx hb dX1_has_58 rfl (lv_at hl 1 rfl) ?_
    refine gcS1_dP hCF hwm hl.1 (m_ulp l z H0 x k hx0 hk ) (lw_S q2144 q2145 q72 q2146) yd_J12_ulp ⟨Nat.le_of_ble_eq_true rfl, Nat.le_of_ble_eq_true rfl⟩ ⟨Nat.le_of_ble_eq_true rfl, Nat.le_of_ble_eq_true rfl⟩ (Nat.le_of_ble_eq_true rfl) dX1_has_59 (fun r_1 hp => ?_)
    subst hp
    refine lv_dload_n hx hb dX1_has_62 rfl (lv_at hl 2 rfl) ?_
    refine gcS1_dP hCF hwm hl.1 (m_ulp l z H0 h k hh0 hk ) (lw_S q2144 q2145 q72 q2146) yd_J12_ulp ⟨Nat.le_of_ble_eq_true rfl, Nat.le_of_ble_eq_true rfl⟩ ⟨Nat.le_of_ble_eq_true rfl, Nat.le_of_ble_eq_true rfl⟩ (Nat.le_of_ble_eq_true rfl) dX1_has_63 (fun r_2 hp => ?_)
    subst hp
    refine lv_dcmp hx hb dX1_has_66 ?_
    refine g_topi (v := (cK (dUl x) (dUl h))) (cK_of (dUl_P hx0).2.2.num (dUl_P hh0).2.2.num) ?_
    refine lv_if_lt (tgt := 74) hx hb dX1_has_67 (by decide) (fun c_67 => ?_) (fun c_67 => ?_)
    · skip
      refine lv_iconst (v := 0) hx hb dX1_has_74 (by decide) ?_
      refine g_zretP hx hb hr hlocks (rfl) ?_ dX1_has_75
      have hx1 := dE_max hx0.num
      have hh1 := dE_max hh0.num
      simp only [cK_lt, cK_ge, cK_le, cK_gt, dK00, exp_le hh1 hx1, exp_lt hx1 hh1, Int32.not_lt, Int32.not_le] at *
      rw [hasB_1]
      first | (rw [decide_eq_true (by omega)]; rfl) | (rw [decide_eq_false (by omega)]; rfl)
    · skip
      refine lv_iconst (v := 1) hx hb dX1_has_70 (by decide) ?_
      refine lv_goto (tgt := 75) hx hb dX1_has_71 (by decide) ?_
      refine g_zretP hx hb hr hlocks (rfl) ?_ dX1_has_75
      have hx1 := dE_max hx0.num
      have hh1 := dE_max hh0.num
      simp only [cK_lt, cK_ge, cK_le, cK_gt, dK00, exp_le hh1 hx1, exp_lt hx1 hh1, Int32.not_lt, Int32.not_le] at *
      rw [hasB_1]
      first | (rw [decide_eq_true (by omega)]; rfl) | (rw [decide_eq_false (by omega)]; rfl)
set_option maxHeartbeats 1000000 in
theorem m_has_2 (l : Launch) (z : State) (H0 : Heap) (x : UInt64) (h : UInt64)  {A : Nat → Prop} (k : Nat → Nat) (hx0 : dFin x) (hh0 : dFin h) (hk : sN z k A H0) : Met l yX1_has (ws_ yX1_has cX1_has 5 (some .boolean)) { frames := 6, cells := 0, slots := 0, locals := 200 } (gPc z H0 [.int (nI 2), .double x, .double h]) (gPi H0 (fun r => r = gb (hasB 2 x h))) 0 0 gno := by
  refine g_start (by decide +kernel) (Nat.le_of_ble_eq_true rfl) ?_
  intro p e s m below meth c ls hx hb hr hlocks hml hown hname hts hwm hl
  have hown : s.vm.findClass "Nearplaces" = some m.cls := hown
  have hal : z.vm.Alike s.vm := hwm.alike
  have hCF : CallFix p m c cX1_has 5 s [.int (nI 2), .double x, .double h].toArray lw_all "Nearplaces" := ⟨hx, hb, hml, hown, hts⟩
  have hl : lv_has ls 5 [(0, .int (nI 2)), (1, .double x), (3, .double h)] := hl
  refine lv_iload_n hx hb dX1_has_0 rfl (lv_at hl 0 rfl) ?_
  refine g_tsw (off := 75) (tgt := 76) hx hb dX1_has_1 (by decide +kernel) (by decide) ?_
  refine lv_dload_n hx hb dX1_has_76 rfl (lv_at hl 1 rfl) ?_
  refine lv_dconst0 hx hb dX1_has_77 ?_
  refine lv_dcmp hx hb dX1_has_78 ?_
  refine g_topi (v := (cK x FP.dconst0)) (cK_of hx0.num num0) ?_
  refine lv_if_lt (tgt := 97) hx hb dX1_has_79 (by decide) (fun c_79 => ?_) (fun c_79 => ?_)
  · skip
    refine lv_iconst (v := 0) hx hb dX1_has_97 (by decide) ?_
    refine g_zretP hx hb hr hlocks (rfl) ?_ dX1_has_98
    have hx1 := dE_max hx0.num
    have hh1 := dE_max hh0.num
    simp only [cK_lt, cK_ge, cK_le, cK_gt, dK00, exp_le hh1 hx1, exp_lt hx1 hh1, Int32.not_lt, Int32.not_le] at *
    rw [hasB_2]
    first | (rw [decide_eq_true (by omega)]; rfl) | (rw [decide_eq_false (by omega)]; rfl)
  · skip
    refine lv_dload_n hx hb dX1_has_82 rfl (lv_at hl 1 rfl) ?_
    refine gcS1_iP hCF hwm hl.1 (m_getExponent l z H0 x hx0.num ) (lw_S q2160 q885 q72 q886) yd_J12_getExponent ⟨Nat.le_of_ble_eq_true rfl, Nat.le_of_ble_eq_true rfl⟩ ⟨Nat.le_of_ble_eq_true rfl, Nat.le_of_ble_eq_true rfl⟩ (Nat.le_of_ble_eq_true rfl) dX1_has_83 (fun r_1 hp => ?_)
    subst hp
    refine lv_dload_n hx hb dX1_has_86 rfl (lv_at hl 2 rfl) ?_
    refine gcS1_iP hCF hwm hl.1 (m_getExponent l z H0 h hh0.num ) (lw_S q2160 q885 q72 q886) yd_J12_getExponent ⟨Nat.le_of_ble_eq_true rfl, Nat.le_of_ble_eq_true rfl⟩ ⟨Nat.le_of_ble_eq_true rfl, Nat.le_of_ble_eq_true rfl⟩ (Nat.le_of_ble_eq_true rfl) dX1_has_87 (fun r_2 hp => ?_)
    subst hp
    refine lv_icmp_lt (tgt := 97) hx hb dX1_has_90 (by decide) (fun c_90 => ?_) (fun c_90 => ?_)
    · skip
      refine lv_iconst (v := 0) hx hb dX1_has_97 (by decide) ?_
      refine g_zretP hx hb hr hlocks (rfl) ?_ dX1_has_98
      have hx1 := dE_max hx0.num
      have hh1 := dE_max hh0.num
      simp only [cK_lt, cK_ge, cK_le, cK_gt, dK00, exp_le hh1 hx1, exp_lt hx1 hh1, Int32.not_lt, Int32.not_le] at *
      rw [hasB_2]
      first | (rw [decide_eq_true (by omega)]; rfl) | (rw [decide_eq_false (by omega)]; rfl)
    · skip
      refine lv_iconst (v := 1) hx hb dX1_has_93 (by decide) ?_
      refine lv_goto (tgt := 98) hx hb dX1_has_94 (by decide) ?_
      refine g_zretP hx hb hr hlocks (rfl) ?_ dX1_has_98
      have hx1 := dE_max hx0.num
      have hh1 := dE_max hh0.num
      simp only [cK_lt, cK_ge, cK_le, cK_gt, dK00, exp_le hh1 hx1, exp_lt hx1 hh1, Int32.not_lt, Int32.not_le] at *
      rw [hasB_2]
      first | (rw [decide_eq_true (by omega)]; rfl) | (rw [decide_eq_false (by omega)]; rfl)
set_option maxHeartbeats 1000000 in
theorem m_has_3 (l : Launch) (z : State) (H0 : Heap) (x : UInt64) (h : UInt64)  {A : Nat → Prop} (k : Nat → Nat) (hx0 : dFin x) (hh0 : dFin h) (hk : sN z k A H0) : Met l yX1_has (ws_ yX1_has cX1_has 5 (some .boolean)) { frames := 6, cells := 0, slots := 0, locals := 200 } (gPc z H0 [.int (nI 3), .double x, .double h]) (gPi H0 (fun r => r = gb (hasB 3 x h))) 0 0 gno := by
  refine g_start (by decide +kernel) (Nat.le_of_ble_eq_true rfl) ?_
  intro p e s m below meth c ls hx hb hr hlocks hml hown hname hts hwm hl
  have hown : s.vm.findClass "Nearplaces" = some m.cls := hown
  have hal : z.vm.Alike s.vm := hwm.alike
  have hCF : CallFix p m c cX1_has 5 s [.int (nI 3), .double x, .double h].toArray lw_all "Nearplaces" := ⟨hx, hb, hml, hown, hts⟩
  have hl : lv_has ls 5 [(0, .int (nI 3)), (1, .double x), (3, .double h)] := hl
  refine lv_iload_n hx hb dX1_has_0 rfl (lv_at hl 0 rfl) ?_
  refine g_tsw (off := 98) (tgt := 99) hx hb dX1_has_1 (by decide +kernel) (by decide) ?_
  refine lv_dload_n hx hb dX1_has_99 rfl (lv_at hl 2 rfl) ?_
  refine lv_dload_n hx hb dX1_has_100 rfl (lv_at hl 1 rfl) ?_
  refine lv_dadd hx hb dX1_has_101 (n64 (dadd_num hh0 hx0)) ?_
  refine lv_dload_n hx hb dX1_has_102 rfl (lv_at hl 2 rfl) ?_
  refine lv_dcmp hx hb dX1_has_103 ?_
  refine g_topi (v := (cK (FP.dadd h x) h)) (cK_of (dadd_num hh0 hx0) hh0.num) ?_
  refine lv_if_le (tgt := 111) hx hb dX1_has_104 (by decide) (fun c_104 => ?_) (fun c_104 => ?_)
  · skip
    refine lv_iconst (v := 0) hx hb dX1_has_111 (by decide) ?_
    refine g_zretP hx hb hr hlocks (rfl) ?_ dX1_has_112
    have hx1 := dE_max hx0.num
    have hh1 := dE_max hh0.num
    simp only [cK_lt, cK_ge, cK_le, cK_gt, dK00, exp_le hh1 hx1, exp_lt hx1 hh1, Int32.not_lt, Int32.not_le] at *
    rw [hasB_3]
    first | (rw [decide_eq_true (by omega)]; rfl) | (rw [decide_eq_false (by omega)]; rfl)
  · skip
    refine lv_iconst (v := 1) hx hb dX1_has_107 (by decide) ?_
    refine lv_goto (tgt := 112) hx hb dX1_has_108 (by decide) ?_
    refine g_zretP hx hb hr hlocks (rfl) ?_ dX1_has_112
    have hx1 := dE_max hx0.num
    have hh1 := dE_max hh0.num
    simp only [cK_lt, cK_ge, cK_le, cK_gt, dK00, exp_le hh1 hx1, exp_lt hx1 hh1, Int32.not_lt, Int32.not_le] at *
    rw [hasB_3]
    first | (rw [decide_eq_true (by omega)]; rfl) | (rw [decide_eq_false (by omega)]; rfl)
set_option maxHeartbeats 1000000 in
theorem m_has_4 (l : Launch) (z : State) (H0 : Heap) (x : UInt64) (h : UInt64)  {A : Nat → Prop} (k : Nat → Nat) (hx0 : dFin x) (hh0 : dFin h) (hk : sN z k A H0) : Met l yX1_has (ws_ yX1_has cX1_has 5 (some .boolean)) { frames := 6, cells := 0, slots := 0, locals := 200 } (gPc z H0 [.int (nI 4), .double x, .double h]) (gPi H0 (fun r => r = gb (hasB 4 x h))) 0 0 gno := by
  refine g_start (by decide +kernel) (Nat.le_of_ble_eq_true rfl) ?_
  intro p e s m below meth c ls hx hb hr hlocks hml hown hname hts hwm hl
  have hown : s.vm.findClass "Nearplaces" = some m.cls := hown
  have hal : z.vm.Alike s.vm := hwm.alike
  have hCF : CallFix p m c cX1_has 5 s [.int (nI 4), .double x, .double h].toArray lw_all "Nearplaces" := ⟨hx, hb, hml, hown, hts⟩
  have hl : lv_has ls 5 [(0, .int (nI 4)), (1, .double x), (3, .double h)] := hl
  refine lv_iload_n hx hb dX1_has_0 rfl (lv_at hl 0 rfl) ?_
  refine g_tsw (off := 112) (tgt := 113) hx hb dX1_has_1 (by decide +kernel) (by decide) ?_
  refine lv_dload_n hx hb dX1_has_113 rfl (lv_at hl 1 rfl) ?_
  refine lv_iconst (v := 1) hx hb dX1_has_114 (by decide) ?_
  refine g_topi (v := (iI 1)) (rfl) ?_
  refine gcS2_dP hCF hwm hl.1 (m_scalb l z H0 x 1 k hx0 (by decide) (by decide) hk ) (lw_S q1460 q1461 q72 q1462) yd_J12_scalb ⟨Nat.le_of_ble_eq_true rfl, Nat.le_of_ble_eq_true rfl⟩ ⟨Nat.le_of_ble_eq_true rfl, Nat.le_of_ble_eq_true rfl⟩ (Nat.le_of_ble_eq_true rfl) dX1_has_115 (fun r_1 hp => ?_)
  subst hp
  refine lv_dload_n hx hb dX1_has_118 rfl (lv_at hl 2 rfl) ?_
  refine lv_dcmp hx hb dX1_has_119 ?_
  refine g_topi (v := (cK (dScb x 1) h)) (cK_of (dScb_num _ _) hh0.num) ?_
  refine lv_if_lt (tgt := 127) hx hb dX1_has_120 (by decide) (fun c_120 => ?_) (fun c_120 => ?_)
  · skip
    refine lv_iconst (v := 0) hx hb dX1_has_127 (by decide) ?_
    refine g_zretP hx hb hr hlocks (rfl) ?_ dX1_has_128
    have hx1 := dE_max hx0.num
    have hh1 := dE_max hh0.num
    simp only [cK_lt, cK_ge, cK_le, cK_gt, dK00, exp_le hh1 hx1, exp_lt hx1 hh1, Int32.not_lt, Int32.not_le] at *
    rw [hasB_4]
    first | (rw [decide_eq_true (by omega)]; rfl) | (rw [decide_eq_false (by omega)]; rfl)
  · skip
    refine lv_iconst (v := 1) hx hb dX1_has_123 (by decide) ?_
    refine lv_goto (tgt := 128) hx hb dX1_has_124 (by decide) ?_
    refine g_zretP hx hb hr hlocks (rfl) ?_ dX1_has_128
    have hx1 := dE_max hx0.num
    have hh1 := dE_max hh0.num
    simp only [cK_lt, cK_ge, cK_le, cK_gt, dK00, exp_le hh1 hx1, exp_lt hx1 hh1, Int32.not_lt, Int32.not_le] at *
    rw [hasB_4]
    first | (rw [decide_eq_true (by omega)]; rfl) | (rw [decide_eq_false (by omega)]; rfl)
set_option maxHeartbeats 1000000 in
theorem m_has_5 (l : Launch) (z : State) (H0 : Heap) (x : UInt64) (h : UInt64)  {A : Nat → Prop} (k : Nat → Nat) (hx0 : dFin x) (hh0 : dFin h) (hk : sN z k A H0) : Met l yX1_has (ws_ yX1_has cX1_has 5 (some .boolean)) { frames := 6, cells := 0, slots := 0, locals := 200 } (gPc z H0 [.int (nI 5), .double x, .double h]) (gPi H0 (fun r => r = gb (hasB 5 x h))) 0 0 gno := by
  refine g_start (by decide +kernel) (Nat.le_of_ble_eq_true rfl) ?_
  intro p e s m below meth c ls hx hb hr hlocks hml hown hname hts hwm hl
  have hown : s.vm.findClass "Nearplaces" = some m.cls := hown
  have hal : z.vm.Alike s.vm := hwm.alike
  have hCF : CallFix p m c cX1_has 5 s [.int (nI 5), .double x, .double h].toArray lw_all "Nearplaces" := ⟨hx, hb, hml, hown, hts⟩
  have hl : lv_has ls 5 [(0, .int (nI 5)), (1, .double x), (3, .double h)] := hl
  refine lv_iload_n hx hb dX1_has_0 rfl (lv_at hl 0 rfl) ?_
  refine g_tsw (off := 128) (tgt := 129) hx hb dX1_has_1 (by decide +kernel) (by decide) ?_
  refine lv_dload_n hx hb dX1_has_129 rfl (lv_at hl 1 rfl) ?_
  refine gcS1_dP hCF hwm hl.1 (m_nextUp l z H0 x hx0 ) (lw_S q1999 q2000 q72 q2001) yd_J12_nextUp ⟨Nat.le_of_ble_eq_true rfl, Nat.le_of_ble_eq_true rfl⟩ ⟨Nat.le_of_ble_eq_true rfl, Nat.le_of_ble_eq_true rfl⟩ (Nat.le_of_ble_eq_true rfl) dX1_has_130 (fun r_1 hp => ?_)
  subst hp
  refine lv_dload_n hx hb dX1_has_133 rfl (lv_at hl 2 rfl) ?_
  refine lv_dcmp hx hb dX1_has_134 ?_
  refine g_topi (v := (cK (dUp x) h)) (cK_of (dUp_num hx0) hh0.num) ?_
  refine lv_if_lt (tgt := 142) hx hb dX1_has_135 (by decide) (fun c_135 => ?_) (fun c_135 => ?_)
  · skip
    refine lv_iconst (v := 0) hx hb dX1_has_142 (by decide) ?_
    refine g_zretP hx hb hr hlocks (rfl) ?_ dX1_has_143
    have hx1 := dE_max hx0.num
    have hh1 := dE_max hh0.num
    simp only [cK_lt, cK_ge, cK_le, cK_gt, dK00, exp_le hh1 hx1, exp_lt hx1 hh1, Int32.not_lt, Int32.not_le] at *
    rw [hasB_5]
    first | (rw [decide_eq_true (by omega)]; rfl) | (rw [decide_eq_false (by omega)]; rfl)
  · skip
    refine lv_iconst (v := 1) hx hb dX1_has_138 (by decide) ?_
    refine lv_goto (tgt := 143) hx hb dX1_has_139 (by decide) ?_
    refine g_zretP hx hb hr hlocks (rfl) ?_ dX1_has_143
    have hx1 := dE_max hx0.num
    have hh1 := dE_max hh0.num
    simp only [cK_lt, cK_ge, cK_le, cK_gt, dK00, exp_le hh1 hx1, exp_lt hx1 hh1, Int32.not_lt, Int32.not_le] at *
    rw [hasB_5]
    first | (rw [decide_eq_true (by omega)]; rfl) | (rw [decide_eq_false (by omega)]; rfl)
set_option maxHeartbeats 1000000 in
theorem m_has_6 (l : Launch) (z : State) (H0 : Heap) (x : UInt64) (h : UInt64)  {A : Nat → Prop} (k : Nat → Nat) (hx0 : dFin x) (hh0 : dFin h) (hk : sN z k A H0) : Met l yX1_has (ws_ yX1_has cX1_has 5 (some .boolean)) { frames := 6, cells := 0, slots := 0, locals := 200 } (gPc z H0 [.int (nI 6), .double x, .double h]) (gPi H0 (fun r => r = gb (hasB 6 x h))) 0 0 gno := by
  refine g_start (by decide +kernel) (Nat.le_of_ble_eq_true rfl) ?_
  intro p e s m below meth c ls hx hb hr hlocks hml hown hname hts hwm hl
  have hown : s.vm.findClass "Nearplaces" = some m.cls := hown
  have hal : z.vm.Alike s.vm := hwm.alike
  have hCF : CallFix p m c cX1_has 5 s [.int (nI 6), .double x, .double h].toArray lw_all "Nearplaces" := ⟨hx, hb, hml, hown, hts⟩
  have hl : lv_has ls 5 [(0, .int (nI 6)), (1, .double x), (3, .double h)] := hl
  refine lv_iload_n hx hb dX1_has_0 rfl (lv_at hl 0 rfl) ?_
  refine g_tsw (off := 143) (tgt := 144) hx hb dX1_has_1 (by decide +kernel) (by decide) ?_
  refine lv_dload_n hx hb dX1_has_144 rfl (lv_at hl 1 rfl) ?_
  refine lv_dconst0 hx hb dX1_has_145 ?_
  refine lv_dcmp hx hb dX1_has_146 ?_
  refine g_topi (v := (cK x FP.dconst0)) (cK_of hx0.num num0) ?_
  refine lv_if_lt (tgt := 163) hx hb dX1_has_147 (by decide) (fun c_147 => ?_) (fun c_147 => ?_)
  · skip
    refine lv_iconst (v := 0) hx hb dX1_has_163 (by decide) ?_
    refine g_zretP hx hb hr hlocks (rfl) ?_ dX1_has_164
    have hx1 := dE_max hx0.num
    have hh1 := dE_max hh0.num
    simp only [cK_lt, cK_ge, cK_le, cK_gt, dK00, exp_le hh1 hx1, exp_lt hx1 hh1, Int32.not_lt, Int32.not_le] at *
    rw [hasB_6]
    first | (rw [decide_eq_true (by omega)]; rfl) | (rw [decide_eq_false (by omega)]; rfl)
  · skip
    refine lv_dload_n hx hb dX1_has_150 rfl (lv_at hl 1 rfl) ?_
    refine gcS1_dP hCF hwm hl.1 (m_ulp l z H0 x k hx0 hk ) (lw_S q2144 q2145 q72 q2146) yd_J12_ulp ⟨Nat.le_of_ble_eq_true rfl, Nat.le_of_ble_eq_true rfl⟩ ⟨Nat.le_of_ble_eq_true rfl, Nat.le_of_ble_eq_true rfl⟩ (Nat.le_of_ble_eq_true rfl) dX1_has_151 (fun r_1 hp => ?_)
    subst hp
    refine lv_dload_n hx hb dX1_has_154 rfl (lv_at hl 2 rfl) ?_
    refine lv_dcmp hx hb dX1_has_155 ?_
    refine g_topi (v := (cK (dUl x) h)) (cK_of (dUl_P hx0).2.2.num hh0.num) ?_
    refine lv_if_lt (tgt := 163) hx hb dX1_has_156 (by decide) (fun c_156 => ?_) (fun c_156 => ?_)
    · skip
      refine lv_iconst (v := 0) hx hb dX1_has_163 (by decide) ?_
      refine g_zretP hx hb hr hlocks (rfl) ?_ dX1_has_164
      have hx1 := dE_max hx0.num
      have hh1 := dE_max hh0.num
      simp only [cK_lt, cK_ge, cK_le, cK_gt, dK00, exp_le hh1 hx1, exp_lt hx1 hh1, Int32.not_lt, Int32.not_le] at *
      rw [hasB_6]
      first | (rw [decide_eq_true (by omega)]; rfl) | (rw [decide_eq_false (by omega)]; rfl)
    · skip
      refine lv_iconst (v := 1) hx hb dX1_has_159 (by decide) ?_
      refine lv_goto (tgt := 164) hx hb dX1_has_160 (by decide) ?_
      refine g_zretP hx hb hr hlocks (rfl) ?_ dX1_has_164
      have hx1 := dE_max hx0.num
      have hh1 := dE_max hh0.num
      simp only [cK_lt, cK_ge, cK_le, cK_gt, dK00, exp_le hh1 hx1, exp_lt hx1 hh1, Int32.not_lt, Int32.not_le] at *
      rw [hasB_6]
      first | (rw [decide_eq_true (by omega)]; rfl) | (rw [decide_eq_false (by omega)]; rfl)
theorem m_has (l : Launch) (z : State) (H0 : Heap) (x h : UInt64) (n : Nat) {A : Nat → Prop} (k : Nat → Nat) (hn : n ≤ 6) (hx0 : dFin x) (hh0 : dFin h) (hk : sN z k A H0) : Met l yX1_has (ws_ yX1_has cX1_has 5 (some .boolean)) { frames := 6, cells := 0, slots := 0, locals := 200 } (gPc z H0 [.int (nI n), .double x, .double h]) (gPi H0 (fun r => r = gb (hasB n x h))) 0 0 gno := by
  rcases (by omega : n = 0 ∨ n = 1 ∨ n = 2 ∨ n = 3 ∨ n = 4 ∨ n = 5 ∨ n = 6) with e | e | e | e | e | e | e <;> subst e
  · exact m_has_0 l z H0 x h k hx0 hh0 hk
  · exact m_has_1 l z H0 x h k hx0 hh0 hk
  · exact m_has_2 l z H0 x h k hx0 hh0 hk
  · exact m_has_3 l z H0 x h k hx0 hh0 hk
  · exact m_has_4 l z H0 x h k hx0 hh0 hk
  · exact m_has_5 l z H0 x h k hx0 hh0 hk
  · exact m_has_6 l z H0 x h k hx0 hh0 hk
