/-! ===== THE JDK: how many bits are set ===== -/
/-- a mask: the same byte, so many times -/
def bk (m : Nat) : Nat → Nat
  | 0 => 0
  | B + 1 => m + 256 * bk m B
def bs1 (B X : Nat) : Nat := X - ((X >>> 1) &&& bk 85 B)
def bs2 (B X : Nat) : Nat := (X &&& bk 51 B) + ((X >>> 2) &&& bk 51 B)
def bs3 (B X : Nat) : Nat := (X + (X >>> 4)) &&& bk 15 B
def bf1 (b : Nat) : Nat := b - ((b >>> 1) &&& 85)
def bf2 (b : Nat) : Nat := (b &&& 51) + ((b >>> 2) &&& 51)
theorem nat_and8 {b m r M : Nat} (hb : b < 256) (hm : m < 256) : (b + 256 * r) &&& (m + 256 * M) = (b &&& m) + 256 * (r &&& M) := by
  have hbm : b &&& m < 2 ^ 8 := Nat.and_lt_two_pow _ hm
  refine Nat.eq_of_testBit_eq fun i => ?_
  rw [Nat.testBit_and, Nat.add_comm b, Nat.add_comm m, Nat.add_comm (b &&& m), show 256 = 2 ^ 8 from rfl, Nat.testBit_two_pow_mul_add _ hb, Nat.testBit_two_pow_mul_add _ hm, Nat.testBit_two_pow_mul_add _ hbm]
  split <;> rw [Nat.testBit_and]
theorem nat_shr8 {b m r M : Nat} (k : Nat) (hk : k ≤ 8) (hb : b < 256) (hm : m < 2 ^ (8 - k)) : ((b + 256 * r) >>> k) &&& (m + 256 * M) = ((b >>> k) &&& m) + 256 * ((r >>> k) &&& M) := by
  have hm8 : m < 2 ^ 8 := Nat.lt_of_lt_of_le hm (Nat.pow_le_pow_right (by decide) (by omega))
  have hbm : (b >>> k) &&& m < 2 ^ 8 := Nat.and_lt_two_pow _ hm8
  refine Nat.eq_of_testBit_eq fun i => ?_
  rw [Nat.testBit_and, Nat.testBit_shiftRight, Nat.add_comm b, Nat.add_comm m, Nat.add_comm ((b >>> k) &&& m), show 256 = 2 ^ 8 from rfl, Nat.testBit_two_pow_mul_add _ hb, Nat.testBit_two_pow_mul_add _ hm8, Nat.testBit_two_pow_mul_add _ hbm]
  by_cases h : i < 8
  · rw [if_pos h, if_pos h, Nat.testBit_and, Nat.testBit_shiftRight]
    by_cases h2 : k + i < 8
    · rw [if_pos h2]
    · rw [if_neg h2, Nat.testBit_lt_two_pow (Nat.lt_of_lt_of_le hm (Nat.pow_le_pow_right (by decide) (by omega : 8 - k ≤ i))), Bool.and_false, Bool.and_false]
  · rw [if_neg h, if_neg h, if_neg (by omega), Nat.testBit_and, Nat.testBit_shiftRight, show k + i - 8 = k + (i - 8) by omega]
theorem bs1_s {B b r : Nat} (hb : b < 256) : bs1 (B + 1) (b + 256 * r) = bf1 b + 256 * bs1 B r := by
  unfold bs1 bf1
  rw [bk, nat_shr8 1 (by decide) hb (by decide)]
  have h1 : (b >>> 1) &&& 85 ≤ b := Nat.le_trans Nat.and_le_left (Nat.shiftRight_le _ _)
  have h2 : (r >>> 1) &&& bk 85 B ≤ r := Nat.le_trans Nat.and_le_left (Nat.shiftRight_le _ _)
  omega
theorem bf1_lt : ∀ b, b < 256 → bf1 b < 256 := by decide +kernel
theorem bs2_s {B b r : Nat} (hb : b < 256) : bs2 (B + 1) (b + 256 * r) = bf2 b + 256 * bs2 B r := by
  unfold bs2 bf2
  rw [bk, nat_shr8 2 (by decide) hb (by decide), nat_and8 hb (by decide)]
  omega
theorem bf2_lt : ∀ b, b < 256 → bf2 (bf1 b) < 256 ∧ bf2 (bf1 b) % 16 ≤ 4 ∧ bf2 (bf1 b) / 16 ≤ 4 := by decide +kernel
theorem bs3_s {B b r : Nat} (hb : b % 16 ≤ 4) (hb2 : b / 16 ≤ 4) (hr : r % 16 ≤ 4) : bs3 (B + 1) (b + 256 * r) = (b + b / 16) % 16 + 256 * bs3 B r := by
  unfold bs3
  have e1 : (b + 256 * r) >>> 4 = b / 16 + 16 * r := by rw [Nat.shiftRight_eq_div_pow]; omega
  have e2 : b + 256 * r + (b / 16 + 16 * r) = (b + b / 16 + 16 * (r % 16)) + 256 * (r + r / 16) := by omega
  rw [e1, e2, bk, nat_and8 (by omega) (by decide), show (15 : Nat) = 2 ^ 4 - 1 from rfl, Nat.and_two_pow_sub_one_eq_mod, Nat.shiftRight_eq_div_pow]
  rw [show (b + b / 16 + 16 * (r % 16)) % 2 ^ 4 = (b + b / 16) % 16 by omega]
def bpc (b : Nat) : Nat := (bf2 (bf1 b) + bf2 (bf1 b) / 16) % 16
theorem bpc_ct : ∀ b, b < 256 → bpc b = ct b.testBit 8 := by decide +kernel
theorem bs2_m {B r : Nat} : bs2 B (bs1 B r) % 16 ≤ 4 := by
  cases B with
  | zero => simp [bs2, bk]
  | succ B =>
    have h : r % 256 < 256 := Nat.mod_lt _ (by decide)
    rw [show r = r % 256 + 256 * (r / 256) by omega, bs1_s h, bs2_s (bf1_lt _ h)]
    have := (bf2_lt _ h).2.1
    omega
def bsw (B X : Nat) : Nat := bs3 B (bs2 B (bs1 B X))
theorem bsw_s {B b r : Nat} (hb : b < 256) : bsw (B + 1) (b + 256 * r) = bpc b + 256 * bsw B r := by
  unfold bsw
  obtain ⟨h1, h2, h3⟩ := bf2_lt b hb
  rw [bs1_s hb, bs2_s (bf1_lt b hb), bs3_s h2 h3 bs2_m]
  rfl
theorem ct_split (p : Nat → Bool) (m : Nat) : ∀ k, ct p (m + k) = ct p m + ct (fun i => p (m + i)) k
  | 0 => rfl
  | k + 1 => by
    show ct p (m + k + 1) = _
    simp only [ct]
    rw [ct_split p m k]
    omega
theorem ct8 {b r : Nat} (hb : b < 256) (k : Nat) : ct (b + 256 * r).testBit (8 + k) = bpc b + ct r.testBit k := by
  rw [ct_split, bpc_ct b hb]
  congr 1
  · refine ct_cong fun i hi => ?_
    rw [Nat.add_comm b, show 256 = 2 ^ 8 from rfl, Nat.testBit_two_pow_mul_add _ hb, if_pos hi]
  · refine ct_cong fun i hi => ?_
    rw [Nat.add_comm b, show 256 = 2 ^ 8 from rfl, Nat.testBit_two_pow_mul_add _ hb, if_neg (by omega), show 8 + i - 8 = i by omega]
theorem bpc_le {b : Nat} (hb : b < 256) : bpc b ≤ 8 := by rw [bpc_ct b hb]; exact ct_le _ _
theorem bytes {X : Nat} : X = X % 256 + 256 * (X / 256) := by omega

