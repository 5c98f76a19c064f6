/-! ===== numbers: bits of ints and longs; truth as an int ===== -/
def zb (p : Prop) [Decidable p] : Int32 := if p then 1 else 0
theorem zb_t {p : Prop} [Decidable p] (h : p) : zb p = 1 := if_pos h
theorem zb_f {p : Prop} [Decidable p] (h : ¬ p) : zb p = 0 := if_neg h
theorem zb_0 {p : Prop} [Decidable p] : zb p = 0 ↔ ¬ p := by
  unfold zb; split <;> simp_all
theorem zb_n0 {p : Prop} [Decidable p] : ¬ zb p = 0 ↔ p := by
  unfold zb; split <;> simp_all
theorem zb_1 {p : Prop} [Decidable p] : zb p = 1 ↔ p := by
  unfold zb; split <;> simp_all
theorem zb_c {p q : Prop} [Decidable p] [Decidable q] (h : p ↔ q) : zb p = zb q := by
  unfold zb; simp [h]
theorem zb_nar {p : Prop} [Decidable p] : narrow .boolean (.int (zb p)) = .int (zb p) := by
  unfold zb; split <;> rfl
def ib (x : Int32) (i : Nat) : Bool := x.toBitVec.getLsbD i
def lb (x : Int64) (i : Nat) : Bool := x.toBitVec.getLsbD i
theorem ib_ext {x y : Int32} (h : ∀ i, i < 32 → ib x i = ib y i) : x = y := Int32.toBitVec_inj.mp (BitVec.eq_of_getLsbD_eq (fun i hi => h i hi))
theorem lb_ext {x y : Int64} (h : ∀ i, i < 64 → lb x i = lb y i) : x = y := Int64.toBitVec_inj.mp (BitVec.eq_of_getLsbD_eq (fun i hi => h i hi))
theorem ib_or (x y : Int32) (i : Nat) : ib (x ||| y) i = (ib x i || ib y i) := by unfold ib; rw [Int32.toBitVec_or, BitVec.getLsbD_or]
theorem ib_and (x y : Int32) (i : Nat) : ib (x &&& y) i = (ib x i && ib y i) := by unfold ib; rw [Int32.toBitVec_and, BitVec.getLsbD_and]
theorem ib_xor (x y : Int32) (i : Nat) : ib (x ^^^ y) i = (ib x i ^^ ib y i) := by unfold ib; rw [Int32.toBitVec_xor, BitVec.getLsbD_xor]
theorem lb_or (x y : Int64) (i : Nat) : lb (x ||| y) i = (lb x i || lb y i) := by unfold lb; rw [Int64.toBitVec_or, BitVec.getLsbD_or]
theorem lb_and (x y : Int64) (i : Nat) : lb (x &&& y) i = (lb x i && lb y i) := by unfold lb; rw [Int64.toBitVec_and, BitVec.getLsbD_and]
theorem lb_xor (x y : Int64) (i : Nat) : lb (x ^^^ y) i = (lb x i ^^ lb y i) := by unfold lb; rw [Int64.toBitVec_xor, BitVec.getLsbD_xor]
theorem ib_big {x : Int32} {i : Nat} (h : 32 ≤ i) : ib x i = false := BitVec.getLsbD_of_ge _ _ h
theorem lb_big {x : Int64} {i : Nat} (h : 64 ≤ i) : lb x i = false := BitVec.getLsbD_of_ge _ _ h
theorem ib_0 (i : Nat) : ib 0 i = false := BitVec.getLsbD_zero
theorem lb_0 (i : Nat) : lb 0 i = false := BitVec.getLsbD_zero
theorem ib_m1 : ∀ i, i < 32 → ib (-1) i = true := by decide +kernel
theorem lb_m1 : ∀ i, i < 64 → lb (-1) i = true := by decide +kernel
theorem ib_1 (i : Nat) : ib 1 i = decide (i = 0) := by
  rcases Nat.lt_or_ge i 32 with h | h
  · exact (by decide +kernel : ∀ i, i < 32 → ib 1 i = decide (i = 0)) i h
  · rw [ib_big h, decide_eq_false (by omega)]
theorem lb_1 (i : Nat) : lb 1 i = decide (i = 0) := by
  rcases Nat.lt_or_ge i 64 with h | h
  · exact (by decide +kernel : ∀ i, i < 64 → lb 1 i = decide (i = 0)) i h
  · rw [lb_big h, decide_eq_false (by omega)]
theorem is_l : ∀ n, n < 32 → ((nI n &&& 31).toBitVec.smod 32).toNat = n := by decide +kernel
theorem ls_l : ∀ n, n < 64 → (((nI n).toInt64 &&& 63).toBitVec.smod 64).toNat = n := by decide +kernel
theorem ib_shl (n : Nat) (hn : n < 32) (x : Int32) {i : Nat} (hi : i < 32) : ib (x <<< (nI n &&& 31)) i = (decide (n ≤ i) && ib x (i - n)) := by
  unfold ib
  rw [Int32.toBitVec_shiftLeft]
  show (x.toBitVec <<< ((nI n &&& 31).toBitVec.smod 32).toNat).getLsbD i = _
  rw [is_l n hn, BitVec.getLsbD_shiftLeft]
  rcases Nat.lt_or_ge i n with h | h
  · simp [h, Nat.not_le.mpr h]
  · simp [hi, h, Nat.not_lt.mpr h]
theorem lb_shl (n : Nat) (hn : n < 64) (x : Int64) {i : Nat} (hi : i < 64) : lb (x <<< ((nI n).toInt64 &&& 63)) i = (decide (n ≤ i) && lb x (i - n)) := by
  unfold lb
  rw [Int64.toBitVec_shiftLeft]
  show (x.toBitVec <<< (((nI n).toInt64 &&& 63).toBitVec.smod 64).toNat).getLsbD i = _
  rw [ls_l n hn, BitVec.getLsbD_shiftLeft]
  rcases Nat.lt_or_ge i n with h | h
  · simp [h, Nat.not_le.mpr h]
  · simp [hi, h, Nat.not_lt.mpr h]
theorem ib_shr (n : Nat) (hn : n < 32) (x : Int32) {i : Nat} (hi : i < 32) : ib (x >>> (nI n &&& 31)) i = if n + i < 32 then ib x (n + i) else ib x 31 := by
  unfold ib
  rw [Int32.toBitVec_shiftRight]
  show (x.toBitVec.sshiftRight ((nI n &&& 31).toBitVec.smod 32).toNat).getLsbD i = _
  rw [is_l n hn, BitVec.getLsbD_sshiftRight, BitVec.msb_eq_getLsbD_last]
  simp [hi]
theorem lb_shr (n : Nat) (hn : n < 64) (x : Int64) {i : Nat} (hi : i < 64) : lb (x >>> ((nI n).toInt64 &&& 63)) i = if n + i < 64 then lb x (n + i) else lb x 63 := by
  unfold lb
  rw [Int64.toBitVec_shiftRight]
  show (x.toBitVec.sshiftRight (((nI n).toInt64 &&& 63).toBitVec.smod 64).toNat).getLsbD i = _
  rw [ls_l n hn, BitVec.getLsbD_sshiftRight, BitVec.msb_eq_getLsbD_last]
  simp [hi]
/-- one bit, as a number -/
theorem ib_bit (x : Int32) {n : Nat} (hn : n < 32) : (x >>> (nI n &&& 31)) &&& 1 = if ib x n then 1 else 0 := by
  apply ib_ext
  intro i hi
  rw [ib_and, ib_1, ib_shr n hn x hi]
  by_cases h : i = 0
  · subst h
    rw [Nat.add_zero, if_pos hn]
    cases ib x n <;> simp [ib_1, ib_0]
  · cases hx : ib x n <;> simp [h, ib_1, ib_0]
theorem lb_bit (x : Int64) {n : Nat} (hn : n < 64) : (x >>> ((nI n).toInt64 &&& 63)) &&& 1 = if lb x n then 1 else 0 := by
  apply lb_ext
  intro i hi
  rw [lb_and, lb_1, lb_shr n hn x hi]
  by_cases h : i = 0
  · subst h
    rw [Nat.add_zero, if_pos hn]
    cases lb x n <;> simp [lb_1, lb_0]
  · cases hx : lb x n <;> simp [h, lb_1, lb_0]
theorem ib_nI {n i : Nat} (hi : i < 32) : ib (nI n) i = n.testBit i := by
  show (BitVec.ofNat 32 n).getLsbD i = _
  rw [BitVec.getLsbD_ofNat]
  simp [hi]
theorem lb_lN {n i : Nat} (hi : i < 64) : lb (lN n) i = n.testBit i := by
  show (BitVec.ofNat 64 n).getLsbD i = _
  rw [BitVec.getLsbD_ofNat]
  simp [hi]
theorem ishl1 {n : Nat} (hn : n < 32) : (1 : Int32) <<< (nI n &&& 31) = nI (2 ^ n) := by
  apply ib_ext
  intro i hi
  rw [ib_shl n hn _ hi, ib_1, ib_nI hi, Nat.testBit_two_pow]
  by_cases h : n = i
  · subst h; simp
  · by_cases h2 : n ≤ i
    · simp [h, h2]; omega
    · simp [h, h2]
theorem lshl1 {n : Nat} (hn : n < 64) : (1 : Int64) <<< ((nI n).toInt64 &&& 63) = lN (2 ^ n) := by
  apply lb_ext
  intro i hi
  rw [lb_shl n hn _ hi, lb_1, lb_lN hi, Nat.testBit_two_pow]
  by_cases h : n = i
  · subst h; simp
  · by_cases h2 : n ≤ i
    · simp [h, h2]; omega
    · simp [h, h2]
/-- how many of the first n bits -/
def ct (p : Nat → Bool) : Nat → Nat
  | 0 => 0
  | n + 1 => ct p n + if p n then 1 else 0
theorem ct_le (p : Nat → Bool) : ∀ n, ct p n ≤ n
  | 0 => Nat.le_refl _
  | n + 1 => by have := ct_le p n; simp only [ct]; split <;> omega
/-- the ones of a long, of an int -/
def lc (x : Int64) : Nat := ct (lb x) 64
def ic (x : Int32) : Nat := ct (ib x) 32
theorem lc_le (x : Int64) : lc x ≤ 64 := ct_le _ _
theorem ic_le (x : Int32) : ic x ≤ 32 := ct_le _ _
/-- comparisons -/
theorem nI_ge_iff {a b : Nat} (ha : a < 2147483648) (hb : b < 2147483648) : nI b ≤ nI a ↔ b ≤ a := nI_leI (by omega) (by omega)
theorem nI_lt_iff {a b : Nat} (ha : a < 2147483648) (hb : b < 2147483648) : nI a < nI b ↔ a < b := nI_ltI (by omega) (by omega)
theorem nI_eq_iff {a b : Nat} (ha : a < 2147483648) (hb : b < 2147483648) : nI a = nI b ↔ a = b := nI_eq (by omega) (by omega)
theorem lg_eq {x y : Int64} : lg_cmp x y = 0 ↔ x = y := by
  unfold lg_cmp
  by_cases h : x = y
  · subst h; simp
  · simp only [h, if_false, iff_false]
    split <;> first | decide | (split <;> first | decide | simp_all)
/-! ===== frames: what a method may have written ===== -/
def zFr (F : Nat → Nat → Prop) (A : Nat → Prop) (n n' : zg_N) : Prop :=
  (∀ a k, ¬ F a k → zfi n' a k = zfi n a k ∧ zfl n' a k = zfl n a k) ∧ ∀ a, ¬ A a → ∀ j, zai n' a j = zai n a j ∧ zal n' a j = zal n a j
theorem zFr.rf {F : Nat → Nat → Prop} {A : Nat → Prop} {n : zg_N} : zFr F A n n := ⟨fun _ _ _ => ⟨rfl, rfl⟩, fun _ _ _ => ⟨rfl, rfl⟩⟩
theorem zFr.tr {F : Nat → Nat → Prop} {A : Nat → Prop} {n n1 n2 : zg_N} (h : zFr F A n n1) (h2 : zFr F A n1 n2) : zFr F A n n2 :=
  ⟨fun a k q => ⟨(h2.1 a k q).1.trans (h.1 a k q).1, (h2.1 a k q).2.trans (h.1 a k q).2⟩, fun a q j => ⟨(h2.2 a q j).1.trans (h.2 a q j).1, (h2.2 a q j).2.trans (h.2 a q j).2⟩⟩
theorem zFr.mono {F F' : Nat → Nat → Prop} {A A' : Nat → Prop} {n n' : zg_N} (h : zFr F A n n') (hF : ∀ a k, F a k → F' a k) (hA : ∀ a, A a → A' a) : zFr F' A' n n' :=
  ⟨fun a k q => h.1 a k (fun z => q (hF a k z)), fun a q => h.2 a (fun z => q (hA a z))⟩
theorem zfi_p (n : zg_N) (a k : Nat) (v : Int32) (b j : Nat) : zfi (zpfi n a k v) b j = if b = a ∧ j = k then v else zfi n b j := rfl
theorem zfi_pl (n : zg_N) (a k : Nat) (v : Int64) (b j : Nat) : zfi (zpfl n a k v) b j = zfi n b j := rfl
theorem zfi_pa (n : zg_N) (a k : Nat) (v : Int32) (b j : Nat) : zfi (zpai n a k v) b j = zfi n b j := rfl
theorem zfi_pb (n : zg_N) (a k : Nat) (v : Int64) (b j : Nat) : zfi (zpal n a k v) b j = zfi n b j := rfl
theorem zfl_p (n : zg_N) (a k : Nat) (v : Int64) (b j : Nat) : zfl (zpfl n a k v) b j = if b = a ∧ j = k then v else zfl n b j := rfl
theorem zfl_pi (n : zg_N) (a k : Nat) (v : Int32) (b j : Nat) : zfl (zpfi n a k v) b j = zfl n b j := rfl
theorem zfl_pa (n : zg_N) (a k : Nat) (v : Int32) (b j : Nat) : zfl (zpai n a k v) b j = zfl n b j := rfl
theorem zfl_pb (n : zg_N) (a k : Nat) (v : Int64) (b j : Nat) : zfl (zpal n a k v) b j = zfl n b j := rfl
theorem zai_p (n : zg_N) (a k : Nat) (v : Int32) (b j : Nat) : zai (zpai n a k v) b j = if b = a ∧ j = k then v else zai n b j := rfl
theorem zai_pi (n : zg_N) (a k : Nat) (v : Int32) (b j : Nat) : zai (zpfi n a k v) b j = zai n b j := rfl
theorem zai_pl (n : zg_N) (a k : Nat) (v : Int64) (b j : Nat) : zai (zpfl n a k v) b j = zai n b j := rfl
theorem zai_pb (n : zg_N) (a k : Nat) (v : Int64) (b j : Nat) : zai (zpal n a k v) b j = zai n b j := rfl
theorem zal_p (n : zg_N) (a k : Nat) (v : Int64) (b j : Nat) : zal (zpal n a k v) b j = if b = a ∧ j = k then v else zal n b j := rfl
theorem zal_pi (n : zg_N) (a k : Nat) (v : Int32) (b j : Nat) : zal (zpfi n a k v) b j = zal n b j := rfl
theorem zal_pl (n : zg_N) (a k : Nat) (v : Int64) (b j : Nat) : zal (zpfl n a k v) b j = zal n b j := rfl
theorem zal_pa (n : zg_N) (a k : Nat) (v : Int32) (b j : Nat) : zal (zpai n a k v) b j = zal n b j := rfl
theorem zFr.pfi {F : Nat → Nat → Prop} {A : Nat → Prop} {n n' : zg_N} (h : zFr F A n n') {a k : Nat} {v : Int32} (hf : F a k) : zFr F A n (zpfi n' a k v) :=
  h.tr ⟨fun b j q => ⟨if_neg (fun z => q (by rw [z.1, z.2]; exact hf)), rfl⟩, fun _ _ _ => ⟨rfl, rfl⟩⟩
theorem zFr.pfl {F : Nat → Nat → Prop} {A : Nat → Prop} {n n' : zg_N} (h : zFr F A n n') {a k : Nat} {v : Int64} (hf : F a k) : zFr F A n (zpfl n' a k v) :=
  h.tr ⟨fun b j q => ⟨rfl, if_neg (fun z => q (by rw [z.1, z.2]; exact hf))⟩, fun _ _ _ => ⟨rfl, rfl⟩⟩
theorem zFr.pai {F : Nat → Nat → Prop} {A : Nat → Prop} {n n' : zg_N} (h : zFr F A n n') {a k : Nat} {v : Int32} (hf : A a) : zFr F A n (zpai n' a k v) :=
  h.tr ⟨fun _ _ _ => ⟨rfl, rfl⟩, fun b q j => ⟨if_neg (fun z => q (by rw [z.1]; exact hf)), rfl⟩⟩
theorem zFr.pal {F : Nat → Nat → Prop} {A : Nat → Prop} {n n' : zg_N} (h : zFr F A n n') {a k : Nat} {v : Int64} (hf : A a) : zFr F A n (zpal n' a k v) :=
  h.tr ⟨fun _ _ _ => ⟨rfl, rfl⟩, fun b q j => ⟨rfl, if_neg (fun z => q (by rw [z.1]; exact hf))⟩⟩
-- long constants
section PWK
variable {Y : zY} {d : Nat} {P : zP} {bc bs pc : Nat} {ls : List (Nat × Value)} {st : List Value} {g : zg_G} {n : zg_N}
theorem pw_ldc {idx : Nat} {v : Int32} (hk : Cond.constant Y.2.1 idx v ∈ lw_all) (dd : decode Y.2.2.1 pc = .ok (.ldc idx, 2)) (k : PW Y d P bc bs (pc + 2) ls (.int v :: st) g n) : PW Y d P bc bs pc ls st g n := by
  intro p l e R s m args below meth c D fz N0 C H locs cells slots lr V
  exact lv_ldc C.1 C.2.1 C.own (C.hts _ hk) dd (k p l e R s m args below meth c D fz N0 C H locs cells slots lr V)
theorem pw_ldcw {idx : Nat} {v : Int32} (hk : Cond.constant Y.2.1 idx v ∈ lw_all) (dd : decode Y.2.2.1 pc = .ok (.ldc_w idx, 3)) (k : PW Y d P bc bs (pc + 3) ls (.int v :: st) g n) : PW Y d P bc bs pc ls st g n := by
  intro p l e R s m args below meth c D fz N0 C H locs cells slots lr V
  exact lv_ldcw C.1 C.2.1 C.own (C.hts _ hk) dd (k p l e R s m args below meth c D fz N0 C H locs cells slots lr V)
theorem pw_ldc2 {idx : Nat} {v : Int64} (hk : Cond.constantLong Y.2.1 idx v ∈ lw_all) (dd : decode Y.2.2.1 pc = .ok (.ldc2_w idx, 3)) (k : PW Y d P bc bs (pc + 3) ls (.long v :: st) g n) : PW Y d P bc bs pc ls st g n := by
  intro p l e R s m args below meth c D fz N0 C H locs cells slots lr V
  exact lv_ldc2 C.1 C.2.1 C.own (C.hts _ hk) dd (k p l e R s m args below meth c D fz N0 C H locs cells slots lr V)
theorem pw_iinc1 {i j k : Nat} {ls' : List (Nat × Value)} (dd : decode Y.2.2.1 pc = .ok (.iinc i 1, 3)) (hj : ls[j]? = some (i, .int (nI k))) (hn : i < Y.2.2.2.1) (hl : zst1 ls i (.int (nI (k + 1))) = ls') (kk : PW Y d P bc bs (pc + 3) ls' st g n) : PW Y d P bc bs pc ls st g n := pw_iinc dd hj (nI_1 k) hn hl kk
theorem pw_iincm {i j k : Nat} {ls' : List (Nat × Value)} (dd : decode Y.2.2.1 pc = .ok (.iinc i (-1), 3)) (hj : ls[j]? = some (i, .int (nI (k + 1)))) (hn : i < Y.2.2.2.1) (hl : zst1 ls i (.int (nI k)) = ls') (kk : PW Y d P bc bs (pc + 3) ls' st g n) : PW Y d P bc bs pc ls st g n := pw_iinc dd hj (pk_m1 k) hn hl kk
theorem pw_topi {x : Int32} (k : ∀ y : Int32, y = x → PW Y d P bc bs pc ls (.int y :: st) g n) : PW Y d P bc bs pc ls (.int x :: st) g n := k x rfl
theorem pw_topl {x : Int64} (k : ∀ y : Int64, y = x → PW Y d P bc bs pc ls (.long y :: st) g n) : PW Y d P bc bs pc ls (.long x :: st) g n := k x rfl
theorem pw_toi {x : Int32} (y : Int32) (h : x = y) (k : PW Y d P bc bs pc ls (.int y :: st) g n) : PW Y d P bc bs pc ls (.int x :: st) g n := by rw [h]; exact k
theorem pw_tol {x : Int64} (y : Int64) (h : x = y) (k : PW Y d P bc bs pc ls (.long y :: st) g n) : PW Y d P bc bs pc ls (.long x :: st) g n := by rw [h]; exact k
theorem pw_nn (n' : zg_N) (h : n = n') (k : PW Y d P bc bs pc ls st g n') : PW Y d P bc bs pc ls st g n := by rw [h]; exact k
theorem pw_icmp_eq_N {a b : Nat} {off : Int} (tgt : Nat) (dd : decode Y.2.2.1 pc = .ok (.if_icmp .eq off, 3)) (ht : (pc : Int) + off = (tgt : Int)) (ha : a < 2147483648) (hb : b < 2147483648) (kt : a = b → PW Y d P bc bs tgt ls st g n) (kf : ¬ a = b → PW Y d P bc bs (pc + 3) ls st g n) : PW Y d P bc bs pc ls (.int (nI b) :: .int (nI a) :: st) g n := pw_icmp_eq tgt dd ht (fun c => kt ((nI_eq_iff ha hb).mp c)) (fun c => kf (fun h => c ((nI_eq_iff ha hb).mpr h)))
theorem pw_icmp_ne_N {a b : Nat} {off : Int} (tgt : Nat) (dd : decode Y.2.2.1 pc = .ok (.if_icmp .ne off, 3)) (ht : (pc : Int) + off = (tgt : Int)) (ha : a < 2147483648) (hb : b < 2147483648) (kt : ¬ a = b → PW Y d P bc bs tgt ls st g n) (kf : a = b → PW Y d P bc bs (pc + 3) ls st g n) : PW Y d P bc bs pc ls (.int (nI b) :: .int (nI a) :: st) g n := pw_icmp_ne tgt dd ht (fun c => kt (fun h => c ((nI_eq_iff ha hb).mpr h))) (fun c => kf ((nI_eq_iff ha hb).mp c))
theorem pw_icmp_lt_N {a b : Nat} {off : Int} (tgt : Nat) (dd : decode Y.2.2.1 pc = .ok (.if_icmp .lt off, 3)) (ht : (pc : Int) + off = (tgt : Int)) (ha : a < 2147483648) (hb : b < 2147483648) (kt : a < b → PW Y d P bc bs tgt ls st g n) (kf : b ≤ a → PW Y d P bc bs (pc + 3) ls st g n) : PW Y d P bc bs pc ls (.int (nI b) :: .int (nI a) :: st) g n := pw_icmp_lt tgt dd ht (fun c => kt ((nI_lt_iff ha hb).mp c)) (fun c => kf (Nat.not_lt.mp (fun h => c ((nI_lt_iff ha hb).mpr h))))
theorem pw_icmp_ge_N {a b : Nat} {off : Int} (tgt : Nat) (dd : decode Y.2.2.1 pc = .ok (.if_icmp .ge off, 3)) (ht : (pc : Int) + off = (tgt : Int)) (ha : a < 2147483648) (hb : b < 2147483648) (kt : b ≤ a → PW Y d P bc bs tgt ls st g n) (kf : a < b → PW Y d P bc bs (pc + 3) ls st g n) : PW Y d P bc bs pc ls (.int (nI b) :: .int (nI a) :: st) g n := pw_icmp_ge tgt dd ht (fun c => kt ((nI_ge_iff ha hb).mp c)) (fun c => kf (Nat.not_le.mp (fun h => c ((nI_ge_iff ha hb).mpr h))))
theorem pw_icmp_gt_N {a b : Nat} {off : Int} (tgt : Nat) (dd : decode Y.2.2.1 pc = .ok (.if_icmp .gt off, 3)) (ht : (pc : Int) + off = (tgt : Int)) (ha : a < 2147483648) (hb : b < 2147483648) (kt : b < a → PW Y d P bc bs tgt ls st g n) (kf : a ≤ b → PW Y d P bc bs (pc + 3) ls st g n) : PW Y d P bc bs pc ls (.int (nI b) :: .int (nI a) :: st) g n := pw_icmp_gt tgt dd ht (fun c => kt ((nI_lt_iff hb ha).mp c)) (fun c => kf (Nat.not_lt.mp (fun h => c ((nI_lt_iff hb ha).mpr h))))
theorem pw_icmp_le_N {a b : Nat} {off : Int} (tgt : Nat) (dd : decode Y.2.2.1 pc = .ok (.if_icmp .le off, 3)) (ht : (pc : Int) + off = (tgt : Int)) (ha : a < 2147483648) (hb : b < 2147483648) (kt : a ≤ b → PW Y d P bc bs tgt ls st g n) (kf : b < a → PW Y d P bc bs (pc + 3) ls st g n) : PW Y d P bc bs pc ls (.int (nI b) :: .int (nI a) :: st) g n := pw_icmp_le tgt dd ht (fun c => kt ((nI_ge_iff hb ha).mp c)) (fun c => kf (Nat.not_le.mp (fun h => c ((nI_ge_iff hb ha).mpr h))))
theorem pw_if_eq_N {a : Nat} {off : Int} (tgt : Nat) (dd : decode Y.2.2.1 pc = .ok (.ifCond .eq off, 3)) (ht : (pc : Int) + off = (tgt : Int)) (ha : a < 2147483648) (kt : a = 0 → PW Y d P bc bs tgt ls st g n) (kf : ¬ a = 0 → PW Y d P bc bs (pc + 3) ls st g n) : PW Y d P bc bs pc ls (.int (nI a) :: st) g n := pw_if_eq tgt dd ht (fun c => kt ((nI_eq_iff ha (by decide)).mp c)) (fun c => kf (fun h => c ((nI_eq_iff ha (b := 0) (by decide)).mpr h)))
theorem pw_if_ne_N {a : Nat} {off : Int} (tgt : Nat) (dd : decode Y.2.2.1 pc = .ok (.ifCond .ne off, 3)) (ht : (pc : Int) + off = (tgt : Int)) (ha : a < 2147483648) (kt : ¬ a = 0 → PW Y d P bc bs tgt ls st g n) (kf : a = 0 → PW Y d P bc bs (pc + 3) ls st g n) : PW Y d P bc bs pc ls (.int (nI a) :: st) g n := pw_if_ne tgt dd ht (fun c => kt (fun h => c ((nI_eq_iff ha (b := 0) (by decide)).mpr h))) (fun c => kf ((nI_eq_iff ha (b := 0) (by decide)).mp c))
theorem pw_if_lt_N {a : Nat} {off : Int} (tgt : Nat) (dd : decode Y.2.2.1 pc = .ok (.ifCond .lt off, 3)) (ht : (pc : Int) + off = (tgt : Int)) (ha : a < 2147483648) (kt : False → PW Y d P bc bs tgt ls st g n) (kf : True → PW Y d P bc bs (pc + 3) ls st g n) : PW Y d P bc bs pc ls (.int (nI a) :: st) g n := pw_if_lt tgt dd ht (fun c => kt (absurd ((nI_lt_iff ha (b := 0) (by decide)).mp c) (Nat.not_lt_zero _))) (fun c => kf (trivial))
theorem pw_if_ge_N {a : Nat} {off : Int} (tgt : Nat) (dd : decode Y.2.2.1 pc = .ok (.ifCond .ge off, 3)) (ht : (pc : Int) + off = (tgt : Int)) (ha : a < 2147483648) (kt : True → PW Y d P bc bs tgt ls st g n) (kf : False → PW Y d P bc bs (pc + 3) ls st g n) : PW Y d P bc bs pc ls (.int (nI a) :: st) g n := pw_if_ge tgt dd ht (fun c => kt (trivial)) (fun c => kf (c ((nI_ge_iff ha (b := 0) (by decide)).mpr (Nat.zero_le _))))
theorem pw_if_gt_N {a : Nat} {off : Int} (tgt : Nat) (dd : decode Y.2.2.1 pc = .ok (.ifCond .gt off, 3)) (ht : (pc : Int) + off = (tgt : Int)) (ha : a < 2147483648) (kt : 0 < a → PW Y d P bc bs tgt ls st g n) (kf : a = 0 → PW Y d P bc bs (pc + 3) ls st g n) : PW Y d P bc bs pc ls (.int (nI a) :: st) g n := pw_if_gt tgt dd ht (fun c => kt ((nI_lt_iff (a := 0) (by decide) ha).mp c)) (fun c => kf (Nat.eq_zero_of_not_pos (fun h => c ((nI_lt_iff (a := 0) (by decide) ha).mpr h))))
theorem pw_if_le_N {a : Nat} {off : Int} (tgt : Nat) (dd : decode Y.2.2.1 pc = .ok (.ifCond .le off, 3)) (ht : (pc : Int) + off = (tgt : Int)) (ha : a < 2147483648) (kt : a = 0 → PW Y d P bc bs tgt ls st g n) (kf : 0 < a → PW Y d P bc bs (pc + 3) ls st g n) : PW Y d P bc bs pc ls (.int (nI a) :: st) g n := pw_if_le tgt dd ht (fun c => kt (Nat.le_zero.mp ((nI_ge_iff (a := 0) (by decide) ha).mp c))) (fun c => kf (Nat.pos_of_ne_zero (fun h => c ((nI_ge_iff (a := 0) (by decide) ha).mpr (Nat.le_of_eq h)))))
theorem pw_if_eq_B {p : Prop} [Decidable p] {off : Int} (tgt : Nat) (dd : decode Y.2.2.1 pc = .ok (.ifCond .eq off, 3)) (ht : (pc : Int) + off = (tgt : Int)) (kt : ¬ p → PW Y d P bc bs tgt ls st g n) (kf : p → PW Y d P bc bs (pc + 3) ls st g n) : PW Y d P bc bs pc ls (.int (zb p) :: st) g n := pw_if_eq tgt dd ht (fun c => kt (zb_0.mp c)) (fun c => kf (zb_n0.mp c))
theorem pw_if_ne_B {p : Prop} [Decidable p] {off : Int} (tgt : Nat) (dd : decode Y.2.2.1 pc = .ok (.ifCond .ne off, 3)) (ht : (pc : Int) + off = (tgt : Int)) (kt : p → PW Y d P bc bs tgt ls st g n) (kf : ¬ p → PW Y d P bc bs (pc + 3) ls st g n) : PW Y d P bc bs pc ls (.int (zb p) :: st) g n := pw_if_ne tgt dd ht (fun c => kt (zb_n0.mp c)) (fun c => kf (zb_0.mp c))
theorem pw_if_eq_L {x y : Int64} {off : Int} (tgt : Nat) (dd : decode Y.2.2.1 pc = .ok (.ifCond .eq off, 3)) (ht : (pc : Int) + off = (tgt : Int)) (kt : x = y → PW Y d P bc bs tgt ls st g n) (kf : ¬ x = y → PW Y d P bc bs (pc + 3) ls st g n) : PW Y d P bc bs pc ls (.int (lg_cmp x y) :: st) g n := pw_if_eq tgt dd ht (fun c => kt (lg_eq.mp c)) (fun c => kf (fun h => c (lg_eq.mpr h)))
theorem pw_if_ne_L {x y : Int64} {off : Int} (tgt : Nat) (dd : decode Y.2.2.1 pc = .ok (.ifCond .ne off, 3)) (ht : (pc : Int) + off = (tgt : Int)) (kt : ¬ x = y → PW Y d P bc bs tgt ls st g n) (kf : x = y → PW Y d P bc bs (pc + 3) ls st g n) : PW Y d P bc bs pc ls (.int (lg_cmp x y) :: st) g n := pw_if_ne tgt dd ht (fun c => kt (fun h => c (lg_eq.mpr h))) (fun c => kf (lg_eq.mp c))
theorem zl_up {P : Nat → Prop} (N : Nat) (h : ∀ k, k ≤ N → (∀ k', k < k' → k' ≤ N → P k') → P k) : ∀ k, k ≤ N → P k := by
  have key : ∀ m k, k ≤ N → N - k ≤ m → P k := by
    intro m
    induction m with
    | zero => intro k hk hm; exact h k hk (fun k' h1 h2 => by omega)
    | succ m ih => intro k hk hm; exact h k hk (fun k' h1 h2 => ih k' h2 (by omega))
  exact fun k hk => key (N - k) k hk (Nat.le_refl _)
end PWK
