/-! ===== THE JDK: bitCount ===== -/
abbrev zm_J17_stringSize : zY := (yJ17_stringSize, RJ17, cJ17_stringSize, 4, (some (.int)), [])
theorem zmM_J17_stringSize : zM zm_J17_stringSize 1 := ⟨by decide +kernel, rfl, by decide +kernel, by decide +kernel, by decide +kernel, by decide⟩
abbrev zm_J17_getChars : zY := (yJ17_getChars, RJ17, cJ17_getChars, 7, (some (.int)), [])
theorem zmM_J17_getChars : zM zm_J17_getChars 3 := ⟨by decide +kernel, rfl, by decide +kernel, by decide +kernel, by decide +kernel, by decide⟩
abbrev zm_J17_intValue : zY := (yJ17_intValue, RJ17, cJ17_intValue, 1, (some (.int)), [])
theorem zmM_J17_intValue : zM zm_J17_intValue 0 := ⟨by decide +kernel, rfl, by decide +kernel, by decide +kernel, by decide +kernel, by decide⟩
abbrev zm_J17_bitCount : zY := (yJ17_bitCount, RJ17, cJ17_bitCount, 1, (some (.int)), [])
theorem zmM_J17_bitCount : zM zm_J17_bitCount 1 := ⟨by decide +kernel, rfl, by decide +kernel, by decide +kernel, by decide +kernel, by decide⟩
abbrev zm_J17_valueOf : zY := (yJ17_valueOf, RJ17, cJ17_valueOf, 1, (some (.object "java/lang/Integer")), [])
theorem zmM_J17_valueOf : zM zm_J17_valueOf 1 := ⟨by decide +kernel, rfl, by decide +kernel, by decide +kernel, by decide +kernel, by decide⟩
abbrev zm_J17_init : zY := (yJ17_init, RJ17, cJ17_init, 2, none, [])
theorem zmM_J17_init : zM zm_J17_init 1 := ⟨by decide +kernel, rfl, by decide +kernel, by decide +kernel, by decide +kernel, by decide⟩
abbrev zm_J17_numberOfTrailingZeros : zY := (yJ17_numberOfTrailingZeros, RJ17, cJ17_numberOfTrailingZeros, 2, (some (.int)), [])
theorem zmM_J17_numberOfTrailingZeros : zM zm_J17_numberOfTrailingZeros 1 := ⟨by decide +kernel, rfl, by decide +kernel, by decide +kernel, by decide +kernel, by decide⟩
abbrev zm_J19_bitCount : zY := (yJ19_bitCount, RJ19, cJ19_bitCount, 2, (some (.int)), [])
theorem zmM_J19_bitCount : zM zm_J19_bitCount 1 := ⟨by decide +kernel, rfl, by decide +kernel, by decide +kernel, by decide +kernel, by decide⟩
theorem bsw4 {X : Nat} (hX : X < 4294967296) : ∃ p0 p1 p2 p3 : Nat, p0 ≤ 8 ∧ p1 ≤ 8 ∧ p2 ≤ 8 ∧ p3 ≤ 8 ∧ bsw 4 X = p0 + 256 * (p1 + 256 * (p2 + 256 * p3)) ∧ ct X.testBit 32 = p0 + (p1 + (p2 + p3)) := by
  have h0 : X % 256 < 256 := Nat.mod_lt _ (by decide)
  have h1 : X / 256 % 256 < 256 := Nat.mod_lt _ (by decide)
  have h2 : X / 65536 % 256 < 256 := Nat.mod_lt _ (by decide)
  have h3 : X / 16777216 < 256 := by omega
  refine ⟨_, _, _, _, bpc_le h0, bpc_le h1, bpc_le h2, bpc_le h3, ?_, ?_⟩
  · have e : X = X % 256 + 256 * (X / 256 % 256 + 256 * (X / 65536 % 256 + 256 * (X / 16777216 + 256 * 0))) := by omega
    conv => lhs; rw [e]
    rw [bsw_s h0, bsw_s h1, bsw_s h2, bsw_s h3]
    rfl
  · have e : X = X % 256 + 256 * (X / 256 % 256 + 256 * (X / 65536 % 256 + 256 * (X / 16777216 + 256 * 0))) := by omega
    conv => lhs; rw [e]
    rw [show 32 = 8 + (8 + (8 + (8 + 0))) from rfl, ct8 h0, ct8 h1, ct8 h2, ct8 h3]
    rfl
theorem iu_nat (x k : Int32) (m : Nat) (hk : ((k.toUInt32 &&& Int32.toUInt32 31).toBitVec % 32).toNat = m) : ((x.toUInt32 >>> (k.toUInt32 &&& Int32.toUInt32 31)).toInt32).toBitVec.toNat = x.toBitVec.toNat >>> m := by
  show (x.toUInt32 >>> (k.toUInt32 &&& Int32.toUInt32 31)).toBitVec.toNat = _
  rw [UInt32.toBitVec_shiftRight, BitVec.ushiftRight_eq', BitVec.toNat_ushiftRight, hk]
  rfl
abbrev iN (x : Int32) : Nat := x.toBitVec.toNat
theorem iN_add (x y : Int32) : iN (x + y) = (iN x + iN y) % 4294967296 := by
  show (x + y).toBitVec.toNat = _
  rw [Int32.toBitVec_add, BitVec.toNat_add]
theorem iN_and (x y : Int32) : iN (x &&& y) = iN x &&& iN y := by
  show (x &&& y).toBitVec.toNat = _
  rw [Int32.toBitVec_and, BitVec.toNat_and]
theorem iN_sub {x y : Int32} (h : iN y ≤ iN x) : iN (x - y) = iN x - iN y := by
  show (x - y).toBitVec.toNat = _
  rw [Int32.toBitVec_sub, BitVec.toNat_sub_of_le h]
theorem iN_lt (x : Int32) : iN x < 4294967296 := x.toBitVec.isLt
theorem iN_inj {x y : Int32} (h : iN x = iN y) : x = y := Int32.toBitVec_inj.mp (BitVec.eq_of_toNat_eq h)
theorem iN_nI {k : Nat} (hk : k < 4294967296) : iN (nI k) = k := by
  show (Int32.ofNat k).toBitVec.toNat = k
  rw [show (Int32.ofNat k).toBitVec = BitVec.ofNat 32 k from rfl, BitVec.toNat_ofNat]
  omega
theorem bits_i (x : Int32) : ct (iN x).testBit 32 = ic x := ct_cong fun i _ => rfl
/-- the five lines of Integer.bitCount -/
theorem bc_1 (x : Int32) : iN (x - ((x.toUInt32 >>> ((1 : Int32).toUInt32 &&& Int32.toUInt32 31)).toInt32 &&& 1431655765)) = bs1 4 (iN x) := by
  have e : iN ((x.toUInt32 >>> ((1 : Int32).toUInt32 &&& Int32.toUInt32 31)).toInt32 &&& 1431655765) = (iN x >>> 1) &&& bk 85 4 := by
    rw [iN_and, show iN 1431655765 = bk 85 4 by decide]
    exact congrArg (· &&& _) (iu_nat x 1 1 (by decide))
  rw [iN_sub (by rw [e]; exact Nat.le_trans Nat.and_le_left (Nat.shiftRight_le _ _)), e]
  rfl
theorem bc_2 (x : Int32) : iN ((x &&& 858993459) + ((x.toUInt32 >>> ((2 : Int32).toUInt32 &&& Int32.toUInt32 31)).toInt32 &&& 858993459)) = bs2 4 (iN x) ∧ bs2 4 (iN x) ≤ 1717986918 := by
  have e : iN ((x.toUInt32 >>> ((2 : Int32).toUInt32 &&& Int32.toUInt32 31)).toInt32 &&& 858993459) = (iN x >>> 2) &&& bk 51 4 := by
    rw [iN_and, show iN 858993459 = bk 51 4 by decide]
    exact congrArg (· &&& _) (iu_nat x 2 2 (by decide))
  have h1 : iN x &&& bk 51 4 ≤ bk 51 4 := Nat.and_le_right
  have h2 : (iN x >>> 2) &&& bk 51 4 ≤ bk 51 4 := Nat.and_le_right
  have h3 : bk 51 4 = 858993459 := by decide
  rw [iN_add, e, iN_and, show iN 858993459 = bk 51 4 by decide]
  unfold bs2
  omega
theorem bc_3 (x : Int32) (hx : iN x ≤ 1717986918) : iN ((x + (x.toUInt32 >>> ((4 : Int32).toUInt32 &&& Int32.toUInt32 31)).toInt32) &&& 252645135) = bs3 4 (iN x) := by
  have e : iN (x.toUInt32 >>> ((4 : Int32).toUInt32 &&& Int32.toUInt32 31)).toInt32 = iN x >>> 4 := iu_nat x 4 4 (by decide)
  have h1 : iN x >>> 4 ≤ iN x := Nat.shiftRight_le _ _
  have h2 : iN x >>> 4 = iN x / 16 := by rw [Nat.shiftRight_eq_div_pow]
  rw [iN_and, iN_add, e, show iN 252645135 = bk 15 4 by decide, Nat.mod_eq_of_lt (by omega)]
  rfl
theorem bc_n (x : Int32) (k : Int32) (m : Nat) (hk : ((k.toUInt32 &&& Int32.toUInt32 31).toBitVec % 32).toNat = m) (h : iN x + iN x / 2 ^ m < 4294967296) : iN (x + (x.toUInt32 >>> (k.toUInt32 &&& Int32.toUInt32 31)).toInt32) = iN x + iN x / 2 ^ m := by
  have e : iN (x.toUInt32 >>> (k.toUInt32 &&& Int32.toUInt32 31)).toInt32 = iN x >>> m := iu_nat x k m hk
  rw [iN_add, e, Nat.shiftRight_eq_div_pow, Nat.mod_eq_of_lt h]
theorem bc_end (p0 p1 p2 p3 Y : Nat) (h0 : p0 ≤ 8) (h1 : p1 ≤ 8) (h2 : p2 ≤ 8) (h3 : p3 ≤ 8) (hY : Y = p0 + 256 * (p1 + 256 * (p2 + 256 * p3))) : (Y + Y / 256 + (Y + Y / 256) / 65536) % 64 = p0 + (p1 + (p2 + p3)) := by
  have a1 : Y / 256 = p1 + 256 * (p2 + 256 * p3) := by omega
  have a2 : (Y + Y / 256) / 65536 = p2 + p3 + 256 * p3 := by rw [a1, hY]; omega
  rw [a2, a1, hY]
  omega
theorem j_bits (x : Int32) (g : zg_G) (n : zg_N) : PW zm_J17_bitCount 1 (zE (some (.int (nI (ic x)))) g n) 0 0 0 [(0, .int x)] [] g n := by
  have e1 := bc_1 x
  generalize hx1 : x - ((x.toUInt32 >>> ((1 : Int32).toUInt32 &&& Int32.toUInt32 31)).toInt32 &&& 1431655765) = x1 at e1
  obtain ⟨e2, b2⟩ := bc_2 x1
  generalize hx2 : (x1 &&& 858993459) + ((x1.toUInt32 >>> ((2 : Int32).toUInt32 &&& Int32.toUInt32 31)).toInt32 &&& 858993459) = x2 at e2
  have e3 := bc_3 x2 (by rw [e2]; exact b2)
  generalize hx3 : (x2 + (x2.toUInt32 >>> ((4 : Int32).toUInt32 &&& Int32.toUInt32 31)).toInt32) &&& 252645135 = x3 at e3
  have e4 : iN x3 = bsw 4 (iN x) := by rw [e3, e2, e1]; rfl
  obtain ⟨p0, p1, p2, p3, q0, q1, q2, q3, q4, q5⟩ := bsw4 (iN_lt x)
  rw [q4] at e4
  have e5 := bc_n x3 8 8 (by decide) (by rw [e4]; omega)
  generalize hx4 : x3 + (x3.toUInt32 >>> ((8 : Int32).toUInt32 &&& Int32.toUInt32 31)).toInt32 = x4 at e5
  have e6 := bc_n x4 16 16 (by decide) (by rw [e5, e4]; omega)
  generalize hx5 : x4 + (x4.toUInt32 >>> ((16 : Int32).toUInt32 &&& Int32.toUInt32 31)).toInt32 = x5 at e6
  have e7 : x5 &&& 63 = nI (ic x) := iN_inj (by
    rw [iN_and, show iN 63 = 2 ^ 6 - 1 by decide, Nat.and_two_pow_sub_one_eq_mod, iN_nI (by have := ic_le x; omega), e6, e5, e4, ← bits_i, q5]
    exact bc_end p0 p1 p2 p3 _ q0 q1 q2 q3 rfl)
  refine pw_iload_n dJ17_bitCount_0 0 rfl rfl ?_
  refine pw_iload_n dJ17_bitCount_1 0 rfl rfl ?_
  refine pw_iconst (v := 1) dJ17_bitCount_2 (by decide) ?_
  refine pw_iushr dJ17_bitCount_3 ?_
  refine pw_ldcw q958 dJ17_bitCount_4 ?_
  refine pw_iand dJ17_bitCount_7 ?_
  refine pw_isub dJ17_bitCount_8 ?_
  rw [hx1]
  refine pw_istore_n (ls' := [(0, _)]) dJ17_bitCount_9 rfl (by decide) rfl ?_
  refine pw_iload_n dJ17_bitCount_10 0 rfl rfl ?_
  refine pw_ldcw q959 dJ17_bitCount_11 ?_
  refine pw_iand dJ17_bitCount_14 ?_
  refine pw_iload_n dJ17_bitCount_15 0 rfl rfl ?_
  refine pw_iconst (v := 2) dJ17_bitCount_16 (by decide) ?_
  refine pw_iushr dJ17_bitCount_17 ?_
  refine pw_ldcw q959 dJ17_bitCount_18 ?_
  refine pw_iand dJ17_bitCount_21 ?_
  refine pw_iadd dJ17_bitCount_22 ?_
  rw [hx2]
  refine pw_istore_n (ls' := [(0, _)]) dJ17_bitCount_23 rfl (by decide) rfl ?_
  refine pw_iload_n dJ17_bitCount_24 0 rfl rfl ?_
  refine pw_iload_n dJ17_bitCount_25 0 rfl rfl ?_
  refine pw_iconst (v := 4) dJ17_bitCount_26 (by decide) ?_
  refine pw_iushr dJ17_bitCount_27 ?_
  refine pw_iadd dJ17_bitCount_28 ?_
  refine pw_ldcw q960 dJ17_bitCount_29 ?_
  refine pw_iand dJ17_bitCount_32 ?_
  rw [hx3]
  refine pw_istore_n (ls' := [(0, _)]) dJ17_bitCount_33 rfl (by decide) rfl ?_
  refine pw_iload_n dJ17_bitCount_34 0 rfl rfl ?_
  refine pw_iload_n dJ17_bitCount_35 0 rfl rfl ?_
  refine pw_bipush (v := 8) dJ17_bitCount_36 (by decide) ?_
  refine pw_iushr dJ17_bitCount_38 ?_
  refine pw_iadd dJ17_bitCount_39 ?_
  rw [hx4]
  refine pw_istore_n (ls' := [(0, _)]) dJ17_bitCount_40 rfl (by decide) rfl ?_
  refine pw_iload_n dJ17_bitCount_41 0 rfl rfl ?_
  refine pw_iload_n dJ17_bitCount_42 0 rfl rfl ?_
  refine pw_bipush (v := 16) dJ17_bitCount_43 (by decide) ?_
  refine pw_iushr dJ17_bitCount_45 ?_
  refine pw_iadd dJ17_bitCount_46 ?_
  rw [hx5]
  refine pw_istore_n (ls' := [(0, _)]) dJ17_bitCount_47 rfl (by decide) rfl ?_
  refine pw_iload_n dJ17_bitCount_48 0 rfl rfl ?_
  refine pw_bipush (v := 63) dJ17_bitCount_49 (by decide) ?_
  refine pw_iand dJ17_bitCount_51 ?_
  rw [e7]
  refine pw_iret rfl dJ17_bitCount_52 ?_
  exact ⟨rfl, rfl, rfl⟩

