/-! ===== THE JDK: Long.bitCount ===== -/
theorem bsw8 {X : Nat} (hX : X < 18446744073709551616) : ∃ p0 p1 p2 p3 p4 p5 p6 p7 : Nat, (p0 ≤ 8 ∧ p1 ≤ 8 ∧ p2 ≤ 8 ∧ p3 ≤ 8) ∧ (p4 ≤ 8 ∧ p5 ≤ 8 ∧ p6 ≤ 8 ∧ p7 ≤ 8) ∧ bsw 8 X = p0 + 256 * (p1 + 256 * (p2 + 256 * (p3 + 256 * (p4 + 256 * (p5 + 256 * (p6 + 256 * p7)))))) ∧ ct X.testBit 64 = p0 + (p1 + (p2 + (p3 + (p4 + (p5 + (p6 + p7)))))) := by
  have h0 : X % 256 < 256 := Nat.mod_lt _ (by decide)
  have h1 : X / 256 % 256 < 256 := Nat.mod_lt _ (by decide)
  have h2 : X / 65536 % 256 < 256 := Nat.mod_lt _ (by decide)
  have h3 : X / 16777216 % 256 < 256 := Nat.mod_lt _ (by decide)
  have h4 : X / 4294967296 % 256 < 256 := Nat.mod_lt _ (by decide)
  have h5 : X / 1099511627776 % 256 < 256 := Nat.mod_lt _ (by decide)
  have h6 : X / 281474976710656 % 256 < 256 := Nat.mod_lt _ (by decide)
  have h7 : X / 72057594037927936 < 256 := by omega
  refine ⟨_, _, _, _, _, _, _, _, ⟨bpc_le h0, bpc_le h1, bpc_le h2, bpc_le h3⟩, ⟨bpc_le h4, bpc_le h5, bpc_le h6, bpc_le h7⟩, ?_, ?_⟩
  · have e : X = X % 256 + 256 * (X / 256 % 256 + 256 * (X / 65536 % 256 + 256 * (X / 16777216 % 256 + 256 * (X / 4294967296 % 256 + 256 * (X / 1099511627776 % 256 + 256 * (X / 281474976710656 % 256 + 256 * (X / 72057594037927936 + 256 * 0))))))) := by omega
    conv => lhs; rw [e]
    rw [bsw_s h0, bsw_s h1, bsw_s h2, bsw_s h3, bsw_s h4, bsw_s h5, bsw_s h6, bsw_s h7]
    rfl
  · have e : X = X % 256 + 256 * (X / 256 % 256 + 256 * (X / 65536 % 256 + 256 * (X / 16777216 % 256 + 256 * (X / 4294967296 % 256 + 256 * (X / 1099511627776 % 256 + 256 * (X / 281474976710656 % 256 + 256 * (X / 72057594037927936 + 256 * 0))))))) := by omega
    conv => lhs; rw [e]
    rw [show 64 = 8 + (8 + (8 + (8 + (8 + (8 + (8 + (8 + 0))))))) from rfl, ct8 h0, ct8 h1, ct8 h2, ct8 h3, ct8 h4, ct8 h5, ct8 h6, ct8 h7]
    rfl
theorem lu_nat (x : Int64) (k : Int32) (m : Nat) (hk : ((k.toInt64.toUInt64 &&& Int64.toUInt64 63).toBitVec % 64).toNat = m) : ((x.toUInt64 >>> (k.toInt64.toUInt64 &&& Int64.toUInt64 63)).toInt64).toBitVec.toNat = x.toBitVec.toNat >>> m := by
  show (x.toUInt64 >>> (k.toInt64.toUInt64 &&& Int64.toUInt64 63)).toBitVec.toNat = _
  rw [UInt64.toBitVec_shiftRight, BitVec.ushiftRight_eq', BitVec.toNat_ushiftRight, hk]
  rfl
abbrev lNn (x : Int64) : Nat := x.toBitVec.toNat
theorem lNn_add (x y : Int64) : lNn (x + y) = (lNn x + lNn y) % 18446744073709551616 := by
  show (x + y).toBitVec.toNat = _
  rw [Int64.toBitVec_add, BitVec.toNat_add]
theorem lNn_and (x y : Int64) : lNn (x &&& y) = lNn x &&& lNn y := by
  show (x &&& y).toBitVec.toNat = _
  rw [Int64.toBitVec_and, BitVec.toNat_and]
theorem lNn_sub {x y : Int64} (h : lNn y ≤ lNn x) : lNn (x - y) = lNn x - lNn y := by
  show (x - y).toBitVec.toNat = _
  rw [Int64.toBitVec_sub, BitVec.toNat_sub_of_le h]
theorem lNn_lt (x : Int64) : lNn x < 18446744073709551616 := x.toBitVec.isLt
theorem bits_l (x : Int64) : ct (lNn x).testBit 64 = lc x := ct_cong fun i _ => rfl
theorem lc_1 (x : Int64) : lNn (x - ((x.toUInt64 >>> ((1 : Int32).toInt64.toUInt64 &&& Int64.toUInt64 63)).toInt64 &&& 6148914691236517205)) = bs1 8 (lNn x) := by
  have e : lNn ((x.toUInt64 >>> ((1 : Int32).toInt64.toUInt64 &&& Int64.toUInt64 63)).toInt64 &&& 6148914691236517205) = (lNn x >>> 1) &&& bk 85 8 := by
    rw [lNn_and, show lNn 6148914691236517205 = bk 85 8 by decide]
    exact congrArg (· &&& _) (lu_nat x 1 1 (by decide))
  rw [lNn_sub (by rw [e]; exact Nat.le_trans Nat.and_le_left (Nat.shiftRight_le _ _)), e]
  rfl
theorem lc_2 (x : Int64) : lNn ((x &&& 3689348814741910323) + ((x.toUInt64 >>> ((2 : Int32).toInt64.toUInt64 &&& Int64.toUInt64 63)).toInt64 &&& 3689348814741910323)) = bs2 8 (lNn x) ∧ bs2 8 (lNn x) ≤ 7378697629483820646 := by
  have e : lNn ((x.toUInt64 >>> ((2 : Int32).toInt64.toUInt64 &&& Int64.toUInt64 63)).toInt64 &&& 3689348814741910323) = (lNn x >>> 2) &&& bk 51 8 := by
    rw [lNn_and, show lNn 3689348814741910323 = bk 51 8 by decide]
    exact congrArg (· &&& _) (lu_nat x 2 2 (by decide))
  have h1 : lNn x &&& bk 51 8 ≤ bk 51 8 := Nat.and_le_right
  have h2 : (lNn x >>> 2) &&& bk 51 8 ≤ bk 51 8 := Nat.and_le_right
  have h3 : bk 51 8 = 3689348814741910323 := by decide
  rw [lNn_add, e, lNn_and, show lNn 3689348814741910323 = bk 51 8 by decide]
  unfold bs2
  omega
theorem lc_3 (x : Int64) (hx : lNn x ≤ 7378697629483820646) : lNn ((x + (x.toUInt64 >>> ((4 : Int32).toInt64.toUInt64 &&& Int64.toUInt64 63)).toInt64) &&& 1085102592571150095) = bs3 8 (lNn x) := by
  have e : lNn ((x.toUInt64 >>> ((4 : Int32).toInt64.toUInt64 &&& Int64.toUInt64 63)).toInt64) = lNn x >>> 4 := lu_nat x 4 4 (by decide)
  have h1 : lNn x >>> 4 ≤ lNn x := Nat.shiftRight_le _ _
  have h2 : lNn x >>> 4 = lNn x / 16 := by rw [Nat.shiftRight_eq_div_pow]
  rw [lNn_and, lNn_add, e, show lNn 1085102592571150095 = bk 15 8 by decide, Nat.mod_eq_of_lt (by omega)]
  rfl
theorem lc_n (x : Int64) (k : Int32) (m : Nat) (hk : ((k.toInt64.toUInt64 &&& Int64.toUInt64 63).toBitVec % 64).toNat = m) (h : lNn x + lNn x / 2 ^ m < 18446744073709551616) : lNn (x + (x.toUInt64 >>> (k.toInt64.toUInt64 &&& Int64.toUInt64 63)).toInt64) = lNn x + lNn x / 2 ^ m := by
  have e : lNn ((x.toUInt64 >>> (k.toInt64.toUInt64 &&& Int64.toUInt64 63)).toInt64) = lNn x >>> m := lu_nat x k m hk
  rw [lNn_add, e, Nat.shiftRight_eq_div_pow, Nat.mod_eq_of_lt h]
theorem na_ad {x a y z c w : Nat} (h : x = a + 256 * y) (h2 : z = c + 256 * w) : x + z = (a + c) + 256 * (y + w) := by omega
theorem na_2 {x a y b z : Nat} (h : x = a + 256 * y) (h2 : y = b + 256 * z) (ha : a ≤ 16) (hb : b ≤ 16) : x / 65536 = z := by omega
theorem na_4 {x a y b z c u d v : Nat} (h : x = a + 256 * y) (h2 : y = b + 256 * z) (h3 : z = c + 256 * u) (h4 : u = d + 256 * v) (ha : a ≤ 32) (hb : b ≤ 32) (hc : c ≤ 32) (hd : d ≤ 32) : x / 4294967296 = v := by omega
theorem na_1 {x a y : Nat} (h : x = a + 256 * y) (ha : a ≤ 8) : x / 256 = y := by omega
theorem na_m {x a y : Nat} (h : x = a + 256 * y) (ha : a ≤ 64) : x % 128 = a := by omega
theorem na_b {x a y M : Nat} (h : x = a + 256 * y) (ha : a ≤ 8) (hy : y ≤ M) : x ≤ 8 + 256 * M := by omega
theorem na_s {a b : Nat} {m k : Nat} (ha : a ≤ m) (hb : b ≤ k) : a + b ≤ m + k := Nat.add_le_add ha hb
theorem na_lt {x M : Nat} (m : Nat) (h : x < M) : x + x / 2 ^ m < M + M := by
  have := Nat.div_le_self x (2 ^ m)
  omega
theorem na_f (V : Nat) : V % 4294967296 % 128 = V % 128 := by omega
theorem na_a (p0 p1 p2 p3 p4 p5 p6 p7 : Nat) : p0 + (p1 + (p2 + (p3 + (p4 + (p5 + (p6 + p7)))))) = p0 + p1 + (p2 + p3) + (p4 + p5 + (p6 + p7)) := by omega
theorem lc_end (p0 p1 p2 p3 p4 p5 p6 p7 R1 R2 R3 R4 R5 R6 R7 Y : Nat) (h0 : p0 ≤ 8 ∧ p1 ≤ 8 ∧ p2 ≤ 8 ∧ p3 ≤ 8) (h1 : p4 ≤ 8 ∧ p5 ≤ 8 ∧ p6 ≤ 8 ∧ p7 ≤ 8) (e0 : Y = p0 + 256 * R1) (e1 : R1 = p1 + 256 * R2) (e2 : R2 = p2 + 256 * R3) (e3 : R3 = p3 + 256 * R4) (e4 : R4 = p4 + 256 * R5) (e5 : R5 = p5 + 256 * R6) (e6 : R6 = p6 + 256 * R7) (e7 : R7 = p7 + 256 * 0) :
    Y < 1152921504606846976 ∧ (Y + Y / 256 + (Y + Y / 256) / 65536 + (Y + Y / 256 + (Y + Y / 256) / 65536) / 4294967296) % 128 = p0 + p1 + (p2 + p3) + (p4 + p5 + (p6 + p7)) := by
  obtain ⟨a0, a1, a2, a3⟩ := h0
  obtain ⟨a4, a5, a6, a7⟩ := h1
  have z8 : (0 : Nat) = 0 + 256 * 0 := rfl
  have q0 := na_ad e0 e1
  have q1 := na_ad e1 e2
  have q2 := na_ad e2 e3
  have q3 := na_ad e3 e4
  have q4 := na_ad e4 e5
  have q5 := na_ad e5 e6
  have q6 := na_ad e6 e7
  have q7 := na_ad e7 z8
  have u0 := na_ad q0 q2
  have u1 := na_ad q1 q3
  have u2 := na_ad q2 q4
  have u3 := na_ad q3 q5
  have u4 := na_ad q4 q6
  have t0 := na_ad u0 u4
  have b1 : Y / 256 = R1 := na_1 e0 a0
  have b2 : (Y + R1) / 65536 = R2 + R3 := na_2 q0 q1 (na_s a0 a1) (na_s a1 a2)
  have b3 : (Y + R1 + (R2 + R3)) / 4294967296 = R4 + R5 + (R6 + R7) := na_4 u0 u1 u2 u3 (na_s (na_s a0 a1) (na_s a2 a3)) (na_s (na_s a1 a2) (na_s a3 a4)) (na_s (na_s a2 a3) (na_s a4 a5)) (na_s (na_s a3 a4) (na_s a5 a6))
  refine ⟨Nat.lt_of_le_of_lt (na_b e0 a0 (na_b e1 a1 (na_b e2 a2 (na_b e3 a3 (na_b e4 a4 (na_b e5 a5 (na_b e6 a6 (na_b e7 a7 (Nat.le_refl 0))))))))) (by decide), ?_⟩
  rw [b1, b2, b3]
  exact na_m t0 (na_s (na_s (na_s a0 a1) (na_s a2 a3)) (na_s (na_s a4 a5) (na_s a6 a7)))
theorem j_lbits (x : Int64) (g : zg_G) (n : zg_N) : PW zm_J19_bitCount 1 (zE (some (.int (nI (lc x)))) g n) 0 0 0 [(0, .long x)] [] g n := by
  have e1 := lc_1 x
  generalize hx1 : x - ((x.toUInt64 >>> ((1 : Int32).toInt64.toUInt64 &&& Int64.toUInt64 63)).toInt64 &&& 6148914691236517205) = x1 at e1
  obtain ⟨e2, b2⟩ := lc_2 x1
  generalize hx2 : (x1 &&& 3689348814741910323) + ((x1.toUInt64 >>> ((2 : Int32).toInt64.toUInt64 &&& Int64.toUInt64 63)).toInt64 &&& 3689348814741910323) = x2 at e2
  have e3 := lc_3 x2 (by rw [e2]; exact b2)
  generalize hx3 : (x2 + (x2.toUInt64 >>> ((4 : Int32).toInt64.toUInt64 &&& Int64.toUInt64 63)).toInt64) &&& 1085102592571150095 = x3 at e3
  have e4 : lNn x3 = bsw 8 (lNn x) := by rw [e3, e2, e1]; rfl
  obtain ⟨p0, p1, p2, p3, p4, p5, p6, p7, q0, q1, q4, q5⟩ := bsw8 (lNn_lt x)
  rw [q4] at e4
  obtain ⟨r1, r2⟩ := lc_end p0 p1 p2 p3 p4 p5 p6 p7 _ _ _ _ _ _ p7 _ q0 q1 e4 rfl rfl rfl rfl rfl rfl rfl
  have w3 := na_lt 8 r1
  have e5 := lc_n x3 8 8 (by decide) (Nat.lt_trans w3 (by decide))
  generalize hx4 : x3 + (x3.toUInt64 >>> ((8 : Int32).toInt64.toUInt64 &&& Int64.toUInt64 63)).toInt64 = x4 at e5
  rw [← e5] at w3
  have w4 := na_lt 16 w3
  have e6 := lc_n x4 16 16 (by decide) (Nat.lt_trans w4 (by decide))
  generalize hx5 : x4 + (x4.toUInt64 >>> ((16 : Int32).toInt64.toUInt64 &&& Int64.toUInt64 63)).toInt64 = x5 at e6
  rw [← e6] at w4
  have w5 := na_lt 32 w4
  have e7 := lc_n x5 32 32 (by decide) (Nat.lt_trans w5 (by decide))
  generalize hx6 : x5 + (x5.toUInt64 >>> ((32 : Int32).toInt64.toUInt64 &&& Int64.toUInt64 63)).toInt64 = x6 at e7
  have e8 : x6.toInt32 &&& 127 = nI (lc x) := iN_inj (by
    have e9 : iN x6.toInt32 = lNn x6 % 4294967296 := by
      show x6.toInt32.toBitVec.toNat = _
      rw [Int64.toBitVec_toInt32, BitVec.signExtend_eq_setWidth_of_le _ (by decide), BitVec.toNat_setWidth]
    rw [iN_and, show iN 127 = 2 ^ 7 - 1 by decide, Nat.and_two_pow_sub_one_eq_mod, iN_nI (Nat.lt_of_le_of_lt (lc_le x) (by decide)), e9, e7, e6, e5, ← bits_l, q5]
    rw [na_a, ← r2]
    exact na_f _)
  refine pw_lload_n dJ19_bitCount_0 0 rfl rfl ?_
  refine pw_lload_n dJ19_bitCount_1 0 rfl rfl ?_
  refine pw_iconst (v := 1) dJ19_bitCount_2 (by decide) ?_
  refine pw_lushr dJ19_bitCount_3 ?_
  refine pw_ldc2 q863 dJ19_bitCount_4 ?_
  refine pw_land dJ19_bitCount_7 ?_
  refine pw_lsub dJ19_bitCount_8 ?_
  rw [hx1]
  refine pw_lstore_n (ls' := [(0, _)]) dJ19_bitCount_9 rfl (by decide) rfl ?_
  refine pw_lload_n dJ19_bitCount_10 0 rfl rfl ?_
  refine pw_ldc2 q864 dJ19_bitCount_11 ?_
  refine pw_land dJ19_bitCount_14 ?_
  refine pw_lload_n dJ19_bitCount_15 0 rfl rfl ?_
  refine pw_iconst (v := 2) dJ19_bitCount_16 (by decide) ?_
  refine pw_lushr dJ19_bitCount_17 ?_
  refine pw_ldc2 q864 dJ19_bitCount_18 ?_
  refine pw_land dJ19_bitCount_21 ?_
  refine pw_ladd dJ19_bitCount_22 ?_
  rw [hx2]
  refine pw_lstore_n (ls' := [(0, _)]) dJ19_bitCount_23 rfl (by decide) rfl ?_
  refine pw_lload_n dJ19_bitCount_24 0 rfl rfl ?_
  refine pw_lload_n dJ19_bitCount_25 0 rfl rfl ?_
  refine pw_iconst (v := 4) dJ19_bitCount_26 (by decide) ?_
  refine pw_lushr dJ19_bitCount_27 ?_
  refine pw_ladd dJ19_bitCount_28 ?_
  refine pw_ldc2 q865 dJ19_bitCount_29 ?_
  refine pw_land dJ19_bitCount_32 ?_
  rw [hx3]
  refine pw_lstore_n (ls' := [(0, _)]) dJ19_bitCount_33 rfl (by decide) rfl ?_
  refine pw_lload_n dJ19_bitCount_34 0 rfl rfl ?_
  refine pw_lload_n dJ19_bitCount_35 0 rfl rfl ?_
  refine pw_bipush (v := 8) dJ19_bitCount_36 (by decide) ?_
  refine pw_lushr dJ19_bitCount_38 ?_
  refine pw_ladd dJ19_bitCount_39 ?_
  rw [hx4]
  refine pw_lstore_n (ls' := [(0, _)]) dJ19_bitCount_40 rfl (by decide) rfl ?_
  refine pw_lload_n dJ19_bitCount_41 0 rfl rfl ?_
  refine pw_lload_n dJ19_bitCount_42 0 rfl rfl ?_
  refine pw_bipush (v := 16) dJ19_bitCount_43 (by decide) ?_
  refine pw_lushr dJ19_bitCount_45 ?_
  refine pw_ladd dJ19_bitCount_46 ?_
  rw [hx5]
  refine pw_lstore_n (ls' := [(0, _)]) dJ19_bitCount_47 rfl (by decide) rfl ?_
  refine pw_lload_n dJ19_bitCount_48 0 rfl rfl ?_
  refine pw_lload_n dJ19_bitCount_49 0 rfl rfl ?_
  refine pw_bipush (v := 32) dJ19_bitCount_50 (by decide) ?_
  refine pw_lushr dJ19_bitCount_52 ?_
  refine pw_ladd dJ19_bitCount_53 ?_
  rw [hx6]
  refine pw_lstore_n (ls' := [(0, _)]) dJ19_bitCount_54 rfl (by decide) rfl ?_
  refine pw_lload_n dJ19_bitCount_55 0 rfl rfl ?_
  refine pw_l2i dJ19_bitCount_56 ?_
  refine pw_bipush (v := 127) dJ19_bitCount_57 (by decide) ?_
  refine pw_iand dJ19_bitCount_59 ?_
  rw [e8]
  refine pw_iret rfl dJ19_bitCount_60 ?_
  exact ⟨rfl, rfl, rfl⟩

