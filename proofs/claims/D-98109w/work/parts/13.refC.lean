/-! ===== the reference: all orders ===== -/
/-! what a year holds was drawn -/
def yFrom (d : Nat → Option Nat) (m : Nat) (L : List Nat) : Prop := ∀ b, b ∈ L → b < m
theorem yKl_sub {S : zS} {w : Nat} : ∀ (r pre : List Nat) (A : zYa) (b : Nat), b ∈ (yKl S w pre r A).1 → b ∈ pre ∨ b ∈ r
  | [], pre, A, b, h => Or.inl h
  | k :: r, pre, A, b, h => by
    rw [yKl] at h
    split at h
    · exact (yKl_sub r pre _ b h).imp id (List.mem_cons_of_mem _)
    · rcases yKl_sub r (pre ++ [k]) A b h with h1 | h1
      · rcases List.mem_append.mp h1 with h2 | h2
        · exact Or.inl h2
        · exact Or.inr (by rw [List.mem_singleton.mp h2]; exact List.mem_cons_self)
      · exact Or.inr (List.mem_cons_of_mem _ h1)
theorem yMt_sub {S : zS} {law w k : Nat} : ∀ (r pre : List Nat) (A : zYa) (b : Nat), b ∈ (yMt S law w k pre r A).1 → b ∈ pre ∨ b ∈ r ∨ b = k
  | [], pre, A, b, h => by
    rw [yMt] at h
    replace h : b ∈ (if A 1 k = -1 then pre ++ [k] else pre) := h
    split at h
    · rcases List.mem_append.mp h with h1 | h1
      · exact Or.inl h1
      · exact Or.inr (Or.inr (List.mem_singleton.mp h1))
    · exact Or.inl h
  | o :: r, pre, A, b, h => by
    have hall : b ∈ pre ++ o :: r → b ∈ pre ∨ b ∈ o :: r ∨ b = k := fun h => (List.mem_append.mp h).imp id Or.inl
    rw [yMt] at h
    split at h
    · exact hall h
    · split at h
      · rcases yMt_sub r (pre ++ [o]) A b h with h1 | h1 | h1
        · rcases List.mem_append.mp h1 with h2 | h2
          · exact Or.inl h2
          · exact Or.inr (Or.inl (by rw [List.mem_singleton.mp h2]; exact List.mem_cons_self))
        · exact Or.inr (Or.inl (List.mem_cons_of_mem _ h1))
        · exact Or.inr (Or.inr h1)
      · split at h
        · rcases yMt_sub r pre (yDrop A o k w) b h with h1 | h1 | h1
          · exact Or.inl h1
          · exact Or.inr (Or.inl (List.mem_cons_of_mem _ h1))
          · exact Or.inr (Or.inr h1)
        · split at h
          · exact hall h
          · exact (List.mem_append.mp h).imp id (fun z => Or.inl (List.mem_cons_of_mem _ z))
theorem yRun_sub {S : zS} {law m : Nat} {d : Nat → Option Nat} (hd : ∀ w k, d w = some k → k < m) : ∀ w b, b ∈ (yRun S law d w).1 → b < m
  | 0, b, h => nomatch h
  | w + 1, b, h => by
    have hk : ∀ c, c ∈ (yKl S w [] (yRun S law d w).1 (yRun S law d w).2).1 → c < m := fun c hc => by
      rcases yKl_sub _ _ _ c hc with h1 | h1
      · exact nomatch h1
      · exact yRun_sub hd w c h1
    replace h : b ∈ (yMon S law w (d w) (yRun S law d w)).1 := h
    cases hdw : d w with
    | none => rw [hdw] at h; exact hk b h
    | some k =>
      rw [hdw] at h
      replace h : b ∈ (yMeet S law w k (yKl S w [] (yRun S law d w).1 (yRun S law d w).2)).1 := h
      unfold yMeet at h
      split at h
      · exact hk b h
      · rcases yMt_sub _ _ _ b h with h1 | h1 | h1
        · exact nomatch h1
        · exact hk b h1
        · rw [h1]; exact hd w k hdw
theorem yBitsF_bit : ∀ (L : List Nat) (B : Int32) (i : Nat), i < 32 → (∀ b, b ∈ L → b < 32) → (ib (yBitsF B L) i = true ↔ ib B i = true ∨ i ∈ L)
  | [], B, i, _, _ => ⟨Or.inl, fun h => h.elim id (fun z => nomatch z)⟩
  | k :: r, B, i, hi, hL => by
    rw [yBitsF, yBitsF_bit r _ i hi (fun b hb => hL b (List.mem_cons_of_mem _ hb)), ib_or, Bool.or_eq_true, ib_nI hi, Nat.testBit_two_pow, decide_eq_true_eq, List.mem_cons]
    constructor
    · rintro ((h | h) | h)
      · exact Or.inl h
      · exact Or.inr (Or.inl h.symm)
      · exact Or.inr (Or.inr h)
    · rintro (h | h | h)
      · exact Or.inl (Or.inl h)
      · exact Or.inl (Or.inr h.symm)
      · exact Or.inr h
/-- the end of a year as a set of the first m -/
theorem yEnd_lt {L : List Nat} {m : Nat} (hm : m ≤ 12) (hL : ∀ b, b ∈ L → b < m) : ∃ e, e < 2 ^ m ∧ yBits L &&& 4095 = nI e := by
  have hb : ∀ i, i < 32 → m ≤ i → ib (yBits L &&& 4095) i = false := fun i h1 h2 => by
    rw [ib_and]
    have : ib (yBits L) i = false := by
      cases h : ib (yBits L) i
      · rfl
      · rcases (yBitsF_bit L 0 i h1 (fun b hb => by have := hL b hb; omega)).mp h with h3 | h3
        · rw [ib_0] at h3; exact absurd h3 (by decide)
        · have := hL i h3; omega
    rw [this, Bool.false_and]
  obtain ⟨j, hj, he⟩ := nI_of (x := yBits L &&& 4095) (fun z => by rw [i32_neg, hb 31 (by decide) (by omega)] at z; exact absurd z (by decide))
  refine ⟨j, ?_, he⟩
  apply Nat.lt_pow_two_of_testBit
  intro i hi
  by_cases h : i < 32
  · have := hb i h hi
    rw [he, ib_nI h] at this; exact this
  · exact Nat.testBit_lt_two_pow (Nat.lt_of_lt_of_le hj (Nat.pow_le_pow_right (by decide) (by omega)))
abbrev pEnd (S : zS) (law : Nat) (L : List Nat) : Int32 := yBits (yRun S law (yLst L) 52).1 &&& 4095
abbrev pTru (S : zS) (law : Nat) (L : List Nat) : Int32 := nI (spTru S (pEnd S law L))
abbrev pHur (S : zS) (law : Nat) (L : List Nat) : Int32 := (yRun S law (yLst L) 52).2 5 2
/-- what an order adds: 0 ends that there were, 1 how often held, 2 the best row, 3 the worst, 4 always, ever, unlike, trues, most true, most hurt -/
def pLeaf (S : zS) (law : Nat) (L : List Nat) (A : zYa) : zYa := fun a k =>
  if a = 0 then (if k = (pEnd S law L).toNatClampNeg then 1 else A 0 k)
  else if a = 1 then (if k < L.length then A 1 k + zb (ib (pEnd S law L) k = true) else A 1 k)
  else if a = 2 then (if A 4 4 < pTru S law L ∧ k < L.length then nI (L.getD k 0) else A 2 k)
  else if a = 3 then (if A 4 5 < pHur S law L ∧ k < L.length then nI (L.getD k 0) else A 3 k)
  else if a = 4 then (if k = 0 then A 4 0 &&& pEnd S law L else if k = 1 then A 4 1 ||| pEnd S law L else if k = 2 then A 4 2 + (if A 0 (pEnd S law L).toNatClampNeg = 0 then 1 else 0)
    else if k = 3 then A 4 3 + pTru S law L else if k = 4 then (if A 4 4 < pTru S law L then pTru S law L else A 4 4) else if k = 5 then (if A 4 5 < pHur S law L then pHur S law L else A 4 5) else A 4 k)
  else A a k
def oLp {α : Type} (f : Nat → α → α) : Nat → α → α
  | 0, x => x
  | k + 1, x => f k (oLp f k x)
def oVis {α : Type} (m : Nat) (F : List Nat → α → α) : Nat → List Nat → α → α
  | 0, L, x => F L x
  | r + 1, L, x => oLp (fun k x => if k ∈ L then x else oVis m F r (L ++ [k]) x) m x

/-! ===== the reference: one order's end, counted ===== -/
def pF (a k : Nat) : Prop := gF a k ∨ (a = aT ∧ tf_always ≤ k ∧ k ≤ tf_worstHurts)
def pA (a : Nat) : Prop := gA a ∨ (1537 ≤ a ∧ a ≤ 1540)
theorem pF_tF : ∀ a k, pF a k → tF a k := fun a k h => by
  rcases h with h | ⟨rfl, h1, h2⟩
  · exact gF_tF a k h
  · have : 52 ≤ k := h1
    have : k ≤ 57 := h2
    refine ⟨rfl, ?_, ?_, ?_, ?_, ?_⟩
    · show k ≠ 1; omega
    · show k ≠ 3; omega
    · show k ≠ tf_question; intro z; rw [z] at h1; revert h1; decide
    · show k ≠ 22; omega
    · show k ≠ tf_whos; intro z; rw [z] at h1; revert h1; decide
theorem pA_tA : ∀ a, pA a → tA a := fun a h => by
  rcases h with h | h
  · exact gA_tA a h
  · unfold tA
    refine ⟨by show 1045 < a; omega, by omega, ?_⟩
    show a ≠ 1046 ∧ a ≠ 1047 ∧ a ≠ 1049 ∧ a ≠ 1051 ∧ a ≠ 1053 ∧ a ≠ 1055 ∧ a ≠ 1056 ∧ a ≠ 1057 ∧ ¬ (1058 < a ∧ a ≤ 1058 + 3) ∧ ¬ (1062 < a ∧ a ≤ 1062 + 10) ∧ ¬ (1084 < a ∧ a ≤ 1084 + 220)
    omega
def TPo (n : zg_N) (A : zYa) : Prop := (∀ a, a < 4 → ∀ k, k < (if a = 0 then 128 else 7) → zai n (at_been + a) k = A a k) ∧ ∀ c, c < 6 → zfi n aT (tf_always + c) = A 4 c
theorem TPo.put {n : zg_N} {A : zYa} (h : TPo n A) (a k : Nat) (v : Int32) (ha : a < 4) : TPo (zpai n (at_been + a) k v) (zu2 A a k v) := by
  refine ⟨fun b hb j hj => ?_, fun c hc => ?_⟩
  · rw [zai_p, zu2]
    by_cases e : b = a ∧ j = k
    · rw [if_pos e, if_pos ⟨by rw [e.1], e.2⟩]
    · rw [if_neg e, if_neg (fun z => e ⟨by have := z.1; omega, z.2⟩)]; exact h.1 b hb j hj
  · rw [zu2, if_neg (fun z => by have := z.1; omega)]; exact h.2 c hc
theorem TPo.cnt {n : zg_N} {A : zYa} (h : TPo n A) (c : Nat) (v : Int32) : TPo (zpfi n aT (tf_always + c) v) (zu2 A 4 c v) := by
  refine ⟨fun b hb j hj => ?_, fun c2 hc => ?_⟩
  · rw [zu2, if_neg (fun z => by have := z.1; omega)]; exact h.1 b hb j hj
  · rw [zfi_p, zu2]
    by_cases e : c2 = c
    · rw [if_pos ⟨rfl, by rw [e]⟩, if_pos ⟨rfl, e⟩]
    · rw [if_neg (fun z => e (by have := z.2; omega)), if_neg (fun z => e z.2)]; exact h.2 c2 hc
theorem TPo.keep {n n' : zg_N} {A : zYa} (h : TPo n A) {F : Nat → Nat → Prop} {B : Nat → Prop} (hf : zFr F B n n') (hF : ∀ c, c < 6 → ¬ F aT (tf_always + c)) (hB : ∀ a, a < 4 → ¬ B (at_been + a)) : TPo n' A :=
  ⟨fun a ha k hk => ((hf.2 _ (hB a ha) k).1).trans (h.1 a ha k hk), fun c hc => ((hf.1 _ _ (hF c hc)).1).trans (h.2 c hc)⟩
theorem TPo.gk {n n' : zg_N} {A : zYa} (h : TPo n A) (hf : zFr gF gA n n') : TPo n' A := h.keep hf (fun c hc z => by
  rcases z with (⟨_, z⟩ | ⟨_, z⟩) | ⟨_, z⟩
  · have : 52 + c = 44 ∨ 52 + c = 45 ∨ 52 + c = 46 ∨ 52 + c = 47 := z; omega
  · have : 52 + c = 48 := z; omega
  · have : 52 + c = 43 := z; omega) (fun a ha z => by
  rcases z with (z | z | z) | z
  · unfold yA1 at z; have : 1537 + a = 1526 ∨ (1528 ≤ 1537 + a ∧ 1537 + a ≤ 1533) ∨ 1537 + a = 1536 := z; omega
  · have : 1537 + a = 1534 := z; omega
  · have : 1537 + a = 1535 := z; omega
  · have : 1537 + a = 1527 := z; omega)
theorem TPo.cg {n : zg_N} {A A' : zYa} (h : TPo n A) (e : ∀ a k, A a k = A' a k) : TPo n A' := (show A = A' from funext fun a => funext fun k => e a k) ▸ h
theorem pA_i (a : Nat) (ha : a < 4) : pA (at_been + a) := Or.inr ⟨by show 1537 ≤ 1537 + a; omega, by show 1537 + a ≤ 1540; omega⟩
theorem pF_i (c : Nat) (hc : c < 6) : pF aT (tf_always + c) := Or.inr ⟨rfl, by show 52 ≤ 52 + c; omega, by show 52 + c ≤ 57; omega⟩
theorem t_onesM (z y : Int32) (g : zg_G) (n : zg_N) : PW zm_X6_ones 1 (zE (some (.int (nI (ic (z &&& 4095 &&& y))))) g n) 0 0 0 [(0, .long (z &&& 4095 &&& y).toInt64)] [] g n := by
  rw [← lc_ic2 (x := z &&& 4095 &&& y) (by rw [ib_and, ib_and, ib_4095 31 (by decide)]; simp)]; exact t_ones _ g n
/-- parts of what an order adds, one behind the other -/
def pl1 (A : zYa) (e : Nat) (r : Int32) : zYa := zu2 (zu2 (zu2 (zu2 (zu2 A 4 2 (A 4 2 + (if A 0 e = 0 then 1 else 0))) 0 e 1) 4 0 (A 4 0 &&& nI e)) 4 1 (A 4 1 ||| nI e)) 4 3 (A 4 3 + r)
def pl2 (A : zYa) (e k : Nat) : zYa := fun a j => if a = 1 ∧ j < k then A 1 j + zb (ib (nI e) j = true) else A a j
def pl3 (A : zYa) (b : Nat) (L : List Nat) (k : Nat) : zYa := fun a j => if a = b ∧ j < k then nI (L.getD j 0) else A a j
theorem t_pTail {g : zg_G} {n : zg_N} {S : zS} (hM : TSh g) (A : zYa) (L : List Nat) (hL7 : L.length ≤ 7) (B law e : Int32) (r : Int32) (h : Int32) (hA : TPo n A) (hrow : ∀ i b, L[i]? = some b → zai n at_row i = nI b) (hh : zfi n aT tf_hurts = h) :
    PW zm_X6_permutes 8 (fun o g1 n1 => o = .inl none ∧ g1 = g ∧ TPo n1 (if (if A 4 4 < r then pl3 (zu2 A 4 4 r) 2 L L.length else A) 4 5 < h then pl3 (zu2 (if A 4 4 < r then pl3 (zu2 A 4 4 r) 2 L L.length else A) 4 5 h) 3 L L.length else (if A 4 4 < r then pl3 (zu2 A 4 4 r) 2 L L.length else A)) ∧ zFr (fun a k => a = aT ∧ (k = tf_bestTrues ∨ k = tf_worstHurts)) (fun a => a = at_bestRow ∨ a = at_worstRow) n n1) 0 0 198
      [(0, .ref aT), (1, .int B), (2, .int (nI L.length)), (3, .int law), (4, .int e), (5, .int r), (6, .int (nI L.length))] [] g n := by
  have hget : ∀ i, i < L.length → L[i]? = some (L.getD i 0) := fun i hi => by rw [List.getD_eq_getElem?_getD, List.getElem?_eq_getElem hi]; rfl
  have h264 : ∀ (A1 : zYa) (v : Int32) (n0 : zg_N), zFr (fun a k => a = aT ∧ (k = tf_bestTrues ∨ k = tf_worstHurts)) (fun a => a = at_bestRow ∨ a = at_worstRow) n n0 → A1 4 5 < h → ∀ k, k ≤ L.length → ∀ n1, TPo n1 (pl3 (zu2 A1 4 5 h) 3 L k) → zFr (fun a k => a = aT ∧ (k = tf_bestTrues ∨ k = tf_worstHurts)) (fun a => a = at_bestRow ∨ a = at_worstRow) n n1 →
      PW zm_X6_permutes 8 (fun o g1 n1 => o = .inl none ∧ g1 = g ∧ TPo n1 (if A1 4 5 < h then pl3 (zu2 A1 4 5 h) 3 L L.length else A1) ∧ zFr (fun a k => a = aT ∧ (k = tf_bestTrues ∨ k = tf_worstHurts)) (fun a => a = at_bestRow ∨ a = at_worstRow) n n1) 0 0 264
      [(0, .ref aT), (1, .int B), (2, .int (nI L.length)), (3, .int law), (4, .int e), (5, .int r), (6, .int (nI k))] [] g n1 := by
    intro A1 v n0 hf0 hlt
    refine zl_up _ (fun k hk ih n1 hP hf => ?_)
    refine pw_iload dX6_permutes_264 6 rfl ?_
    refine pw_iload_n dX6_permutes_266 2 rfl rfl ?_
    refine pw_icmp_ge_N 290 dX6_permutes_267 (by decide) (by omega) (by omega) (fun c_267 => ?_) (fun c_267 => ?_)
    · refine pw_vret rfl dX6_permutes_290 ?_
      exact ⟨rfl, rfl, by rw [if_pos hlt]; rw [show k = L.length by omega] at hP; exact hP, hf⟩
    · refine pw_aload_n dX6_permutes_270 0 rfl rfl ?_
      refine pw_getr 59 zc_X6 (ts_this hM) (by decide) q2045 (Or.inr ⟨_, rfl⟩) (tr_worstRow hM) dX6_permutes_271 ?_
      refine pw_iload dX6_permutes_274 6 rfl ?_
      refine pw_aload_n dX6_permutes_276 0 rfl rfl ?_
      refine pw_getr 34 zc_X6 (ts_this hM) (by decide) q2020 (Or.inr ⟨_, rfl⟩) (tr_row hM) dX6_permutes_277 ?_
      refine pw_iload dX6_permutes_280 6 rfl ?_
      refine pw_iald k rfl (ts_row hM) (by omega) (by decide) dX6_permutes_282 ?_
      rw [(hf.2 at_row (by decide) k).1, hrow k _ (hget k c_267)]
      refine pw_iast k rfl (ts_worstRow hM) (by decide) (by omega) (by decide) dX6_permutes_283 ?_
      refine pw_iinc1 (j := 6) (ls' := [(6, _), (0, _), (1, _), (2, _), (3, _), (4, _), (5, _)]) dX6_permutes_284 rfl (by decide) rfl ?_
      refine pw_ls [1, 2, 3, 4, 5, 6, 0] (ls' := [(0, _), (1, _), (2, _), (3, _), (4, _), (5, _), (6, _)]) rfl ?_
      refine pw_goto 264 dX6_permutes_287 (by decide) ?_
      refine ih (k + 1) (by omega) (by omega) _ ((hP.put 3 k (nI (L.getD k 0)) (by decide)).cg (fun a j => ?_)) (zFr.pai hf (Or.inr rfl))
      unfold pl3
      rw [zu2]
      by_cases e1 : a = 3
      · subst e1
        by_cases e2 : j = k
        · subst e2; rw [if_pos ⟨rfl, rfl⟩, if_pos ⟨rfl, by omega⟩]
        · rw [if_neg (fun z => e2 z.2)]
          by_cases e3 : j < k
          · rw [if_pos ⟨rfl, e3⟩, if_pos ⟨rfl, by omega⟩]
          · rw [if_neg (fun z => e3 z.2), if_neg (fun z => by omega)]
      · rw [if_neg (fun z => e1 z.1), if_neg (fun z => e1 z.1), if_neg (fun z => e1 z.1)]
  have h242 : ∀ (A1 : zYa) (x6 : Int32) (n1 : zg_N), TPo n1 A1 → zFr (fun a k => a = aT ∧ (k = tf_bestTrues ∨ k = tf_worstHurts)) (fun a => a = at_bestRow ∨ a = at_worstRow) n n1 →
      PW zm_X6_permutes 8 (fun o g1 n1 => o = .inl none ∧ g1 = g ∧ TPo n1 (if A1 4 5 < h then pl3 (zu2 A1 4 5 h) 3 L L.length else A1) ∧ zFr (fun a k => a = aT ∧ (k = tf_bestTrues ∨ k = tf_worstHurts)) (fun a => a = at_bestRow ∨ a = at_worstRow) n n1) 0 0 242
      [(0, .ref aT), (1, .int B), (2, .int (nI L.length)), (3, .int law), (4, .int e), (5, .int r), (6, .int x6)] [] g n1 := by
    intro A1 x6 n1 hP hf
    have hh1 : zfi n1 aT tf_hurts = h := ((hf.1 aT tf_hurts (fun z => by rcases z.2 with z | z <;> (revert z; decide))).1).trans hh
    have hw1 : zfi n1 aT tf_worstHurts = A1 4 5 := hP.2 5 (by decide)
    refine pw_aload_n dX6_permutes_242 0 rfl rfl ?_
    refine pw_geti 47 zc_X6 (ts_this hM) (by decide) q2033 (Or.inl rfl) dX6_permutes_243 ?_
    rw [hh1]
    refine pw_aload_n dX6_permutes_246 0 rfl rfl ?_
    refine pw_geti 57 zc_X6 (ts_this hM) (by decide) q2043 (Or.inl rfl) dX6_permutes_247 ?_
    rw [hw1]
    refine pw_icmp_le 290 dX6_permutes_250 (by decide) (fun c_250 => ?_) (fun c_250 => ?_)
    · refine pw_vret rfl dX6_permutes_290 ?_
      exact ⟨rfl, rfl, by rw [if_neg (Int32.not_lt.mpr c_250)]; exact hP, hf⟩
    · refine pw_aload_n dX6_permutes_253 0 rfl rfl ?_
      refine pw_aload_n dX6_permutes_254 0 rfl rfl ?_
      refine pw_geti 47 zc_X6 (ts_this hM) (by decide) q2033 (Or.inl rfl) dX6_permutes_255 ?_
      rw [hh1]
      refine pw_puti 57 zc_X6 (ts_this hM) (by decide) (by decide) q2043 rfl (Or.inl rfl) rfl rfl dX6_permutes_258 ?_
      refine pw_iconst (v := 0) dX6_permutes_261 (by decide) ?_
      refine pw_istore (ls' := [(6, _), (0, _), (1, _), (2, _), (3, _), (4, _), (5, _)]) dX6_permutes_262 (by decide) rfl ?_
      refine pw_ls [1, 2, 3, 4, 5, 6, 0] (ls' := [(0, _), (1, _), (2, _), (3, _), (4, _), (5, _), (6, _)]) rfl ?_
      exact h264 A1 0 n1 hf (Int32.not_le.mp c_250) 0 (Nat.zero_le _) _ ((hP.cnt 5 h).cg (fun a j => by unfold pl3; rw [if_neg (fun z => absurd z.2 (Nat.not_lt_zero _))])) (zFr.pfi hf ⟨rfl, Or.inr rfl⟩)
  have h216 : A 4 4 < r → ∀ k, k ≤ L.length → ∀ n1, TPo n1 (pl3 (zu2 A 4 4 r) 2 L k) → zFr (fun a k => a = aT ∧ (k = tf_bestTrues ∨ k = tf_worstHurts)) (fun a => a = at_bestRow ∨ a = at_worstRow) n n1 →
      PW zm_X6_permutes 8 (fun o g1 n1 => o = .inl none ∧ g1 = g ∧ TPo n1 (if (if A 4 4 < r then pl3 (zu2 A 4 4 r) 2 L L.length else A) 4 5 < h then pl3 (zu2 (if A 4 4 < r then pl3 (zu2 A 4 4 r) 2 L L.length else A) 4 5 h) 3 L L.length else (if A 4 4 < r then pl3 (zu2 A 4 4 r) 2 L L.length else A)) ∧ zFr (fun a k => a = aT ∧ (k = tf_bestTrues ∨ k = tf_worstHurts)) (fun a => a = at_bestRow ∨ a = at_worstRow) n n1) 0 0 216
      [(0, .ref aT), (1, .int B), (2, .int (nI L.length)), (3, .int law), (4, .int e), (5, .int r), (6, .int (nI k))] [] g n1 := by
    intro hlt
    refine zl_up _ (fun k hk ih n1 hP hf => ?_)
    refine pw_iload dX6_permutes_216 6 rfl ?_
    refine pw_iload_n dX6_permutes_218 2 rfl rfl ?_
    refine pw_icmp_ge_N 242 dX6_permutes_219 (by decide) (by omega) (by omega) (fun c_219 => ?_) (fun c_219 => ?_)
    · have := h242 (pl3 (zu2 A 4 4 r) 2 L L.length) (nI k) n1 (by rw [show k = L.length by omega] at hP; exact hP) hf
      rw [if_pos hlt]
      exact this
    · refine pw_aload_n dX6_permutes_222 0 rfl rfl ?_
      refine pw_getr 58 zc_X6 (ts_this hM) (by decide) q2044 (Or.inr ⟨_, rfl⟩) (tr_bestRow hM) dX6_permutes_223 ?_
      refine pw_iload dX6_permutes_226 6 rfl ?_
      refine pw_aload_n dX6_permutes_228 0 rfl rfl ?_
      refine pw_getr 34 zc_X6 (ts_this hM) (by decide) q2020 (Or.inr ⟨_, rfl⟩) (tr_row hM) dX6_permutes_229 ?_
      refine pw_iload dX6_permutes_232 6 rfl ?_
      refine pw_iald k rfl (ts_row hM) (by omega) (by decide) dX6_permutes_234 ?_
      rw [(hf.2 at_row (by decide) k).1, hrow k _ (hget k c_219)]
      refine pw_iast k rfl (ts_bestRow hM) (by decide) (by omega) (by decide) dX6_permutes_235 ?_
      refine pw_iinc1 (j := 6) (ls' := [(6, _), (0, _), (1, _), (2, _), (3, _), (4, _), (5, _)]) dX6_permutes_236 rfl (by decide) rfl ?_
      refine pw_ls [1, 2, 3, 4, 5, 6, 0] (ls' := [(0, _), (1, _), (2, _), (3, _), (4, _), (5, _), (6, _)]) rfl ?_
      refine pw_goto 216 dX6_permutes_239 (by decide) ?_
      refine ih (k + 1) (by omega) (by omega) _ ((hP.put 2 k (nI (L.getD k 0)) (by decide)).cg (fun a j => ?_)) (zFr.pai hf (Or.inl rfl))
      unfold pl3
      rw [zu2]
      by_cases e1 : a = 2
      · subst e1
        by_cases e2 : j = k
        · subst e2; rw [if_pos ⟨rfl, rfl⟩, if_pos ⟨rfl, by omega⟩]
        · rw [if_neg (fun z => e2 z.2)]
          by_cases e3 : j < k
          · rw [if_pos ⟨rfl, e3⟩, if_pos ⟨rfl, by omega⟩]
          · rw [if_neg (fun z => e3 z.2), if_neg (fun z => by omega)]
      · rw [if_neg (fun z => e1 z.1), if_neg (fun z => e1 z.1), if_neg (fun z => e1 z.1)]
  have hb1 : zfi n aT tf_bestTrues = A 4 4 := hA.2 4 (by decide)
  refine pw_iload dX6_permutes_198 5 rfl ?_
  refine pw_aload_n dX6_permutes_200 0 rfl rfl ?_
  refine pw_geti 56 zc_X6 (ts_this hM) (by decide) q2042 (Or.inl rfl) dX6_permutes_201 ?_
  rw [hb1]
  refine pw_icmp_le 242 dX6_permutes_204 (by decide) (fun c_204 => ?_) (fun c_204 => ?_)
  · have := h242 A (nI L.length) n hA zFr.rf
    rw [if_neg (Int32.not_lt.mpr c_204)]
    exact this
  · refine pw_aload_n dX6_permutes_207 0 rfl rfl ?_
    refine pw_iload dX6_permutes_208 5 rfl ?_
    refine pw_puti 56 zc_X6 (ts_this hM) (by decide) (by decide) q2042 rfl (Or.inl rfl) rfl rfl dX6_permutes_210 ?_
    refine pw_iconst (v := 0) dX6_permutes_213 (by decide) ?_
    refine pw_istore (ls' := [(6, _), (0, _), (1, _), (2, _), (3, _), (4, _), (5, _)]) dX6_permutes_214 (by decide) rfl ?_
    refine pw_ls [1, 2, 3, 4, 5, 6, 0] (ls' := [(0, _), (1, _), (2, _), (3, _), (4, _), (5, _), (6, _)]) rfl ?_
    exact h216 (Int32.not_le.mp c_204) 0 (Nat.zero_le _) _ ((hA.cnt 4 r).cg (fun a j => by unfold pl3; rw [if_neg (fun z => absurd z.2 (Nat.not_lt_zero _))])) (zFr.pfi zFr.rf ⟨rfl, Or.inl rfl⟩)

/-! ===== the reference: all orders, gone through ===== -/
theorem t_onesQ {e : Nat} (he : e < 4096) (y : Int32) (g : zg_G) (n : zg_N) : PW zm_X6_ones 1 (zE (some (.int (nI (ic (nI e &&& y))))) g n) 0 0 0 [(0, .long (nI e &&& y).toInt64)] [] g n := by
  rw [← lc_ic2 (x := nI e &&& y) (by rw [ib_and, ib_nI (by decide), Nat.testBit_lt_two_pow (Nat.lt_of_lt_of_le he (by decide)), Bool.false_and])]; exact t_ones _ g n
def pA0 (a : Nat) : Prop := yA a ∨ (1537 ≤ a ∧ a ≤ 1540)
theorem pA0_pA : ∀ a, pA0 a → pA a := fun a h => h.imp Or.inl id
/-- what an order adds, in parts -/
def plR (A : zYa) (e : Nat) (L : List Nat) (r h : Int32) : zYa :=
  if (if (pl2 (pl1 A e r) e L.length) 4 4 < r then pl3 (zu2 (pl2 (pl1 A e r) e L.length) 4 4 r) 2 L L.length else (pl2 (pl1 A e r) e L.length)) 4 5 < h then pl3 (zu2 (if (pl2 (pl1 A e r) e L.length) 4 4 < r then pl3 (zu2 (pl2 (pl1 A e r) e L.length) 4 4 r) 2 L L.length else (pl2 (pl1 A e r) e L.length)) 4 5 h) 3 L L.length else (if (pl2 (pl1 A e r) e L.length) 4 4 < r then pl3 (zu2 (pl2 (pl1 A e r) e L.length) 4 4 r) 2 L L.length else (pl2 (pl1 A e r) e L.length))
theorem t_pLeaf0 {g : zg_G} {n : zg_N} {S : zS} (hM : TSh g) (hT : TW n S) (hW : WF S) (A : zYa) (L : List Nat) (hL7 : L.length ≤ 7) (hok : yOk S L) (B : Int32) (law : Nat) (hl4 : law ≤ 4) (x : Int32) (e : Nat) (he : e < 128) (hend : pEnd S law L = nI e) (hA : TPo n A) (hrow : ∀ i b, L[i]? = some b → zai n at_row i = nI b) :
    PW zm_X6_permutes 8 (fun o g1 n1 => o = .inl none ∧ g1 = g ∧ TPo n1 (plR A e L (pTru S law L) (pHur S law L)) ∧ zFr pF pA0 n n1) 0 0 76
      [(0, .ref aT), (1, .int B), (2, .int (nI L.length)), (3, .int (nI law)), (4, .int x)] [] g n := by
  have hr0 : pTru S law L = nI (ic (nI e &&& spTr S (sN S 0 1))) := by unfold pTru spTru; rw [hend]
  generalize hrd : pTru S law L = r at hr0 ⊢
  have h169 : ∀ n0 : zg_N, zFr pF pA0 n n0 → zfi n0 aT tf_hurts = pHur S law L → (∀ i b, L[i]? = some b → zai n0 at_row i = nI b) → ∀ k, k ≤ L.length → ∀ n1, TPo n1 (pl2 (pl1 A e r) e k) → zFr zB0 (fun a => a = at_holds) n0 n1 →
      PW zm_X6_permutes 8 (fun o g1 n1 => o = .inl none ∧ g1 = g ∧ TPo n1 (plR A e L r (pHur S law L)) ∧ zFr pF pA0 n n1) 0 0 169
      [(0, .ref aT), (1, .int B), (2, .int (nI L.length)), (3, .int (nI law)), (4, .int (nI e)), (5, .int r), (6, .int (nI k))] [] g n1 := by
    intro n0 hf0 hhur hrow0
    refine zl_up _ (fun k hk ih n1 hP hf => ?_)
    have hhk : k < L.length → zai n1 at_holds k = pl2 (pl1 A e r) e k 1 k := fun h => hP.1 1 (by decide) k (by rw [if_neg (by decide)]; omega)
    refine pw_iload dX6_permutes_169 6 rfl ?_
    refine pw_iload_n dX6_permutes_171 2 rfl rfl ?_
    refine pw_icmp_ge_N 198 dX6_permutes_172 (by decide) (by omega) (by omega) (fun c_172 => ?_) (fun c_172 => ?_)
    · have hkl : k = L.length := by omega
      subst hkl
      refine pw_mono (fun o g2 n2 hq => ?_) (t_pTail (S := S) hM (pl2 (pl1 A e r) e L.length) L hL7 B (nI law) (nI e) r (pHur S law L) hP (fun i b h => ((hf.2 at_row (by decide) i).1).trans (hrow0 i b h)) (((hf.1 aT tf_hurts (fun z => z)).1).trans hhur))
      obtain ⟨q1, q2, q3, q4⟩ := hq
      exact ⟨q1, q2, q3, (hf0.tr (hf.mono (fun _ _ z => z.elim) (fun a z => by subst z; exact Or.inr (by decide)))).tr (q4.mono (fun a k z => by obtain ⟨rfl, z | z⟩ := z <;> (subst z; first | exact pF_i 4 (by decide) | exact pF_i 5 (by decide))) (fun a z => by rcases z with z | z <;> (subst z; exact Or.inr (by decide))))⟩
    · refine pw_aload_n dX6_permutes_175 0 rfl rfl ?_
      refine pw_getr 51 zc_X6 (ts_this hM) (by decide) q2037 (Or.inr ⟨_, rfl⟩) (tr_holds hM) dX6_permutes_176 ?_
      refine pw_iload dX6_permutes_179 6 rfl ?_
      refine pw_dup2_11 dX6_permutes_181 rfl rfl ?_
      refine pw_iald k rfl (ts_holds hM) (by omega) (by decide) dX6_permutes_182 ?_
      rw [hhk c_172]
      refine pw_iload dX6_permutes_183 4 rfl ?_
      refine pw_iload dX6_permutes_185 6 rfl ?_
      refine pw_ishr dX6_permutes_187 ?_
      refine pw_iconst (v := 1) dX6_permutes_188 (by decide) ?_
      refine pw_iand dX6_permutes_189 ?_
      rw [ib_z (show k < 32 by omega)]
      refine pw_iadd dX6_permutes_190 ?_
      refine pw_iast k rfl (ts_holds hM) (by decide) (by omega) (by decide) dX6_permutes_191 ?_
      refine pw_iinc1 (j := 6) (ls' := [(6, _), (0, _), (1, _), (2, _), (3, _), (4, _), (5, _)]) dX6_permutes_192 rfl (by decide) rfl ?_
      refine pw_ls [1, 2, 3, 4, 5, 6, 0] (ls' := [(0, _), (1, _), (2, _), (3, _), (4, _), (5, _), (6, _)]) rfl ?_
      refine pw_goto 169 dX6_permutes_195 (by decide) ?_
      refine ih (k + 1) (by omega) (by omega) _ ((hP.put 1 k _ (by decide)).cg (fun a j => ?_)) (zFr.pai hf rfl)
      unfold pl2
      rw [zu2]
      by_cases e1 : a = 1
      · subst e1
        by_cases e2 : j = k
        · subst e2; rw [if_pos ⟨rfl, rfl⟩, if_neg (fun z => absurd z.2 (Nat.lt_irrefl _)), if_pos ⟨rfl, by omega⟩]
        · rw [if_neg (fun z => e2 z.2)]
          by_cases e3 : j < k
          · rw [if_pos ⟨rfl, e3⟩, if_pos ⟨rfl, by omega⟩]
          · rw [if_neg (fun z => e3 z.2), if_neg (fun z => by omega)]
      · rw [if_neg (fun z => e1 z.1), if_neg (fun z => e1 z.1), if_neg (fun z => e1 z.1)]
  have h121 : ∀ n2 : zg_N, zFr pF pA0 n n2 → TPo n2 A → zfi n2 aT tf_hurts = pHur S law L → (∀ i b, L[i]? = some b → zai n2 at_row i = nI b) → ∀ v : Int32, v = (if A 0 e = 0 then 1 else 0) →
      PW zm_X6_permutes 8 (fun o g1 n1 => o = .inl none ∧ g1 = g ∧ TPo n1 (plR A e L r (pHur S law L)) ∧ zFr pF pA0 n n1) 0 0 121
      [(0, .ref aT), (1, .int B), (2, .int (nI L.length)), (3, .int (nI law)), (4, .int (nI e)), (5, .int r)] [.int v, .int (A 4 2), .ref aT] g n2 := by
    intro n2 hf2 hP2 hhur hrow2 v hv
    subst hv
    refine pw_iadd dX6_permutes_121 ?_
    refine pw_puti 54 zc_X6 (ts_this hM) (by decide) (by decide) q2040 rfl (Or.inl rfl) rfl rfl dX6_permutes_122 ?_
    refine pw_aload_n dX6_permutes_125 0 rfl rfl ?_
    refine pw_getr 50 zc_X6 (ts_this hM) (by decide) q2036 (Or.inr ⟨_, rfl⟩) (tr_been hM) dX6_permutes_126 ?_
    refine pw_iload dX6_permutes_129 4 rfl ?_
    refine pw_iconst (v := 1) dX6_permutes_131 (by decide) ?_
    refine pw_zast e rfl (ts_been hM) (by decide) (by omega) (by decide) dX6_permutes_132 ?_
    have hP3 := (hP2.cnt 2 (A 4 2 + if A 0 e = 0 then 1 else 0)).put 0 e 1 (by decide)
    rw [show vp_nar .boolean 1 = 1 from by decide]
    refine pw_aload_n dX6_permutes_133 0 rfl rfl ?_
    refine pw_dup dX6_permutes_134 rfl ?_
    refine pw_geti 52 zc_X6 (ts_this hM) (by decide) q2038 (Or.inl rfl) dX6_permutes_135 ?_
    rw [show zfi (zpai (zpfi n2 aT tf_unlike (A 4 2 + if A 0 e = 0 then 1 else 0)) at_been e 1) aT tf_always = A 4 0 from hP3.2 0 (by decide)]
    refine pw_iload dX6_permutes_138 4 rfl ?_
    refine pw_iand dX6_permutes_140 ?_
    refine pw_puti 52 zc_X6 (ts_this hM) (by decide) (by decide) q2038 rfl (Or.inl rfl) rfl rfl dX6_permutes_141 ?_
    have hP4 := hP3.cnt 0 (A 4 0 &&& nI e)
    refine pw_aload_n dX6_permutes_144 0 rfl rfl ?_
    refine pw_dup dX6_permutes_145 rfl ?_
    refine pw_geti 53 zc_X6 (ts_this hM) (by decide) q2039 (Or.inl rfl) dX6_permutes_146 ?_
    rw [show zfi (zpfi (zpai (zpfi n2 aT tf_unlike (A 4 2 + if A 0 e = 0 then 1 else 0)) at_been e 1) aT tf_always (A 4 0 &&& nI e)) aT tf_ever = A 4 1 from hP4.2 1 (by decide)]
    refine pw_iload dX6_permutes_149 4 rfl ?_
    refine pw_ior dX6_permutes_151 ?_
    refine pw_puti 53 zc_X6 (ts_this hM) (by decide) (by decide) q2039 rfl (Or.inl rfl) rfl rfl dX6_permutes_152 ?_
    have hP5 := hP4.cnt 1 (A 4 1 ||| nI e)
    refine pw_aload_n dX6_permutes_155 0 rfl rfl ?_
    refine pw_dup dX6_permutes_156 rfl ?_
    refine pw_geti 55 zc_X6 (ts_this hM) (by decide) q2041 (Or.inl rfl) dX6_permutes_157 ?_
    rw [show zfi (zpfi (zpfi (zpai (zpfi n2 aT tf_unlike (A 4 2 + if A 0 e = 0 then 1 else 0)) at_been e 1) aT tf_always (A 4 0 &&& nI e)) aT tf_ever (A 4 1 ||| nI e)) aT tf_trues = A 4 3 from hP5.2 3 (by decide)]
    refine pw_iload dX6_permutes_160 5 rfl ?_
    refine pw_iadd dX6_permutes_162 ?_
    refine pw_puti 55 zc_X6 (ts_this hM) (by decide) (by decide) q2041 rfl (Or.inl rfl) rfl rfl dX6_permutes_163 ?_
    have hP6 := hP5.cnt 3 (A 4 3 + r)
    refine pw_iconst (v := 0) dX6_permutes_166 (by decide) ?_
    refine pw_istore (ls' := [(6, _), (0, _), (1, _), (2, _), (3, _), (4, _), (5, _)]) dX6_permutes_167 (by decide) rfl ?_
    refine pw_ls [1, 2, 3, 4, 5, 6, 0] (ls' := [(0, _), (1, _), (2, _), (3, _), (4, _), (5, _), (6, _)]) rfl ?_
    exact h169 _ (zFr.pfi (zFr.pfi (zFr.pfi (zFr.pai (zFr.pfi hf2 (pF_i 2 (by decide))) (Or.inr (by decide))) (pF_i 0 (by decide))) (pF_i 1 (by decide))) (pF_i 3 (by decide))) (by exact hhur) (by exact hrow2) 0 (Nat.zero_le _) _ (hP6.cg (fun a j => by unfold pl2; rw [if_neg (show ¬ (a = 1 ∧ j < 0) from fun z => absurd z.2 (Nat.not_lt_zero _))]; rfl)) zFr.rf
  have hf1 : zFr pF pA0 n (zpfi n aT tf_rowMany (nI L.length)) := zFr.pfi zFr.rf (Or.inl (Or.inr ⟨rfl, rfl⟩))
  have hT1 : TW (zpfi n aT tf_rowMany (nI L.length)) S := hT.keep hW (hf1.mono pF_tF (fun a z => pA_tA a (pA0_pA a z)))
  have hR1 : TRl (zpfi n aT tf_rowMany (nI L.length)) L := ⟨by rw [zfi_p, if_pos ⟨rfl, rfl⟩], hrow⟩
  refine pw_aload_n dX6_permutes_76 0 rfl rfl ?_
  refine pw_iload_n dX6_permutes_77 2 rfl rfl ?_
  refine pw_puti 43 zc_X6 (ts_this hM) (by decide) (by decide) q2029 rfl (Or.inl rfl) rfl rfl dX6_permutes_78 ?_
  refine pw_aload_n dX6_permutes_81 0 rfl rfl ?_
  refine pw_iload_n dX6_permutes_82 3 rfl rfl ?_
  refine pw_callV1 zmM_X6_goes rfl (lw_V q2408 q2410 qs96 q150 q2411) rfl (ts_this hM) zc_X6 (t_goes hM hT1 hW law hl4 (hR1.row (S := S) (by omega) hok)) (by decide) (Nat.le_refl _) (Nat.le_refl _) rfl (Nat.le_of_ble_eq_true rfl) (Nat.le_of_ble_eq_true rfl) dX6_permutes_83 (by intros; rintro ⟨h, _⟩; cases h) (fun v1 g1 n2 h2 => ?_)
  obtain ⟨h1, rfl, hY, hfg⟩ := h2
  cases h1
  rw [yRow_lst] at hY
  have hf2 : zFr pF pA0 n n2 := hf1.tr (hfg.mono (fun _ _ z => Or.inl (Or.inl z)) (fun _ z => Or.inl z))
  have hT2 : TW n2 S := hT.keep hW (hf2.mono pF_tF (fun a z => pA_tA a (pA0_pA a z)))
  have hP2 : TPo n2 A := hA.gk ((zFr.pfi zFr.rf (Or.inr ⟨rfl, rfl⟩)).tr (zFgF hfg))
  have hrow2 : ∀ i b, L[i]? = some b → zai n2 at_row i = nI b := fun i b h => ((hfg.2 at_row (fun z => by rcases z with z | z | z; (unfold yA1 at z; revert z; decide); (revert z; decide); (revert z; decide)) i).1).trans (hrow i b h)
  rw [yRow_lst, show yBits (yRun S law (yLst L) 52).1 &&& 4095 = nI e from hend]
  refine pw_istore (ls' := [(4, _), (0, _), (1, _), (2, _), (3, _)]) dX6_permutes_86 (by decide) rfl ?_
  refine pw_ls [1, 2, 3, 4, 0] (ls' := [(0, _), (1, _), (2, _), (3, _), (4, _)]) rfl ?_
  refine pw_iload dX6_permutes_88 4 rfl ?_
  refine pw_aload_n dX6_permutes_90 0 rfl rfl ?_
  refine pw_callV0 zmM_X6_truthsNow rfl (lw_V q2367 q2369 qs92 q150 q2370) rfl (ts_this hM) zc_X6 (t_truthsNow hM hT2 hW) (by decide) (Nat.le_refl _) (Nat.le_refl _) rfl (Nat.le_of_ble_eq_true rfl) (Nat.le_of_ble_eq_true rfl) dX6_permutes_91 zE.nx (zE_kk ?_)
  refine pw_iand dX6_permutes_94 ?_
  refine pw_i2l dX6_permutes_95 ?_
  refine pw_callS1 zmM_X6_ones rfl (lw_S q2277 q2278 q150 q2279) (t_onesQ (by omega) _ g1 n2) (by decide) (Nat.le_refl _) (Nat.le_refl _) rfl (Nat.le_of_ble_eq_true rfl) (Nat.le_of_ble_eq_true rfl) dX6_permutes_96 zE.nx (zE_kk ?_)
  rw [← hr0]
  refine pw_istore (ls' := [(5, _), (0, _), (1, _), (2, _), (3, _), (4, _)]) dX6_permutes_99 (by decide) rfl ?_
  refine pw_ls [1, 2, 3, 4, 5, 0] (ls' := [(0, _), (1, _), (2, _), (3, _), (4, _), (5, _)]) rfl ?_
  refine pw_aload_n dX6_permutes_101 0 rfl rfl ?_
  refine pw_dup dX6_permutes_102 rfl ?_
  refine pw_geti 54 zc_X6 (ts_this hM) (by decide) q2040 (Or.inl rfl) dX6_permutes_103 ?_
  rw [show zfi n2 aT tf_unlike = A 4 2 from hP2.2 2 (by decide)]
  refine pw_aload_n dX6_permutes_106 0 rfl rfl ?_
  refine pw_getr 50 zc_X6 (ts_this hM) (by decide) q2036 (Or.inr ⟨_, rfl⟩) (tr_been hM) dX6_permutes_107 ?_
  refine pw_iload dX6_permutes_110 4 rfl ?_
  refine pw_zald e rfl (ts_been hM) (by omega) (by decide) dX6_permutes_112 ?_
  rw [show zai n2 at_been e = A 0 e from hP2.1 0 (by decide) e (by rw [if_pos rfl]; omega)]
  refine pw_if_eq 120 dX6_permutes_113 (by decide) (fun c_113 => ?_) (fun c_113 => ?_)
  · refine pw_iconst (v := 1) dX6_permutes_120 (by decide) ?_
    exact h121 n2 hf2 hP2 (hY.1.2.2 2 (by decide)) hrow2 _ (if_pos c_113).symm
  · refine pw_iconst (v := 0) dX6_permutes_116 (by decide) ?_
    refine pw_goto 121 dX6_permutes_117 (by decide) ?_
    exact h121 n2 hf2 hP2 (hY.1.2.2 2 (by decide)) hrow2 _ (if_neg c_113).symm

/-! ===== the reference: permutes, allOrders ===== -/
def pLf (S : zS) (law : Nat) (L : List Nat) (A : zYa) : zYa := plR A (pEnd S law L).toNatClampNeg L (pTru S law L) (pHur S law L)
def tPm (g : zg_G) (n : zg_N) (l : Nat) (A : zYa) : zP := fun o g1 n1 => o = .inl none ∧ g1 = g ∧ TPo n1 A ∧ zFr pF pA n n1 ∧ ∀ i, i < l → zai n1 at_row i = zai n at_row i
theorem pEnd_nI {S : zS} (law : Nat) {L : List Nat} {m : Nat} (hm : m ≤ 7) (hL : ∀ b, b ∈ L → b < m) : ∃ e, e < 128 ∧ pEnd S law L = nI e := by
  have hd : ∀ w k, yLst L w = some k → k < m := fun w k h => hL k (List.mem_of_getElem? h)
  obtain ⟨e, he, h⟩ := yEnd_lt (m := m) (by omega) (yRun_sub (S := S) (law := law) hd 52)
  exact ⟨e, Nat.lt_of_lt_of_le he (Nat.le_trans (Nat.pow_le_pow_right (by decide) hm) (by decide)), h⟩
theorem t_permutes {g : zg_G} {S : zS} (hM : TSh g) (hW : WF S) (h7 : sN S 0 1 ≤ 7) (law : Nat) (hl4 : law ≤ 4) : ∀ (r : Nat) (L : List Nat) (A : zYa) (n : zg_N) (B : Int32), L.length + r = sN S 0 1 → (∀ b, b ∈ L → b < sN S 0 1) → (∀ i, i < 32 → (ib B i = true ↔ i ∈ L)) → TW n S → TPo n A → (∀ i b, L[i]? = some b → zai n at_row i = nI b) →
    PW zm_X6_permutes (8 + r) (tPm g n L.length (oVis (sN S 0 1) (pLf S law) r L A)) 0 0 0 [(0, .ref aT), (1, .int B), (2, .int (nI L.length)), (3, .int (nI law))] [] g n := by
  intro r
  induction r with
  | zero =>
    intro L A n B hlr hL hB hT hA hrow
    obtain ⟨e, he, hend⟩ := pEnd_nI (S := S) law h7 hL
    have hcl : (pEnd S law L).toNatClampNeg = e := by rw [hend, nI_clamp (by omega)]
    have h65 : ∀ x : Int32, PW zm_X6_permutes (8 + 0) (tPm g n L.length (oVis (sN S 0 1) (pLf S law) 0 L A)) 0 0 65 [(0, .ref aT), (1, .int B), (2, .int (nI L.length)), (3, .int (nI law)), (4, .int x)] [] g n := by
      intro x
      refine pw_iload_n dX6_permutes_65 2 rfl rfl ?_
      refine pw_aload_n dX6_permutes_66 0 rfl rfl ?_
      refine pw_getr 12 zc_X6 (ts_this hM) (by decide) q1998 (Or.inr ⟨_, rfl⟩) (tr_told hM) dX6_permutes_67 ?_
      refine pw_iconst (v := 1) dX6_permutes_70 (by decide) ?_
      refine pw_iald 1 rfl (ts_told hM) (by decide) (by decide) dX6_permutes_71 ?_
      rw [hT.told (k := 1) (by decide)]
      refine pw_icmp_ge_N 76 dX6_permutes_72 (by decide) (by omega) (by omega) (fun c_72 => ?_) (fun c_72 => ?_)
      · refine pw_mono (fun o g2 n2 hq => ?_) (t_pLeaf0 hM hT hW A L (by omega) (fun b hb => Or.inl (hL b hb)) B law hl4 x e he hend hA hrow)
        obtain ⟨q1, q2, q3, q4⟩ := hq
        refine ⟨q1, q2, ?_, q4.mono (fun _ _ z => z) pA0_pA, fun i hi => (q4.2 at_row (fun z => by rcases z with (z | z | z) | z; (unfold yA1 at z; revert z; decide); (revert z; decide); (revert z; decide); (revert z; decide)) i).1⟩
        show TPo n2 (pLf S law L A)
        unfold pLf
        rw [hcl]; exact q3
      · exact absurd c_72 (by omega)
    refine pw_iconst (v := 0) dX6_permutes_0 (by decide) ?_
    refine pw_istore (ls' := [(4, _), (0, _), (1, _), (2, _), (3, _)]) dX6_permutes_1 (by decide) rfl ?_
    refine pw_ls [1, 2, 3, 4, 0] (ls' := [(0, _), (1, _), (2, _), (3, _), (4, _)]) rfl ?_
    refine pw_iload dX6_permutes_3 4 rfl ?_
    refine pw_aload_n dX6_permutes_5 0 rfl rfl ?_
    refine pw_getr 12 zc_X6 (ts_this hM) (by decide) q1998 (Or.inr ⟨_, rfl⟩) (tr_told hM) dX6_permutes_6 ?_
    refine pw_iconst (v := 1) dX6_permutes_9 (by decide) ?_
    refine pw_iald 1 rfl (ts_told hM) (by decide) (by decide) dX6_permutes_10 ?_
    rw [hT.told (k := 1) (by decide)]
    refine pw_icmp_ge 65 dX6_permutes_11 (by decide) (fun c_11 => ?_) (fun c_11 => ?_)
    · exact h65 _
    · refine pw_iload_n dX6_permutes_14 2 rfl rfl ?_
      refine pw_aload_n dX6_permutes_15 0 rfl rfl ?_
      refine pw_getr 12 zc_X6 (ts_this hM) (by decide) q1998 (Or.inr ⟨_, rfl⟩) (tr_told hM) dX6_permutes_16 ?_
      refine pw_iconst (v := 1) dX6_permutes_19 (by decide) ?_
      refine pw_iald 1 rfl (ts_told hM) (by decide) (by decide) dX6_permutes_20 ?_
      rw [hT.told (k := 1) (by decide)]
      refine pw_icmp_ge_N 65 dX6_permutes_21 (by decide) (by omega) (by omega) (fun c_21 => ?_) (fun c_21 => ?_)
      · exact h65 _
      · exact absurd c_21 (by omega)
  | succ r ih =>
    intro L A n B hlr hL hB hT hA hrow
    have hlp : ∀ k, k ≤ sN S 0 1 → ∀ n1, TPo n1 (oLp (fun k x => if k ∈ L then x else oVis (sN S 0 1) (pLf S law) r (L ++ [k]) x) k A) → zFr pF pA n n1 → (∀ i, i < L.length → zai n1 at_row i = zai n at_row i) →
        PW zm_X6_permutes (8 + (r + 1)) (tPm g n L.length (oVis (sN S 0 1) (pLf S law) (r + 1) L A)) 0 0 3 [(0, .ref aT), (1, .int B), (2, .int (nI L.length)), (3, .int (nI law)), (4, .int (nI k))] [] g n1 := by
      refine zl_up _ (fun k hk ih2 n1 hP hf hr => ?_)
      have hT1 := hT.keep hW (hf.mono pF_tF pA_tA)
      refine pw_iload dX6_permutes_3 4 rfl ?_
      refine pw_aload_n dX6_permutes_5 0 rfl rfl ?_
      refine pw_getr 12 zc_X6 (ts_this hM) (by decide) q1998 (Or.inr ⟨_, rfl⟩) (tr_told hM) dX6_permutes_6 ?_
      refine pw_iconst (v := 1) dX6_permutes_9 (by decide) ?_
      refine pw_iald 1 rfl (ts_told hM) (by decide) (by decide) dX6_permutes_10 ?_
      rw [hT1.told (k := 1) (by decide)]
      refine pw_icmp_ge_N 65 dX6_permutes_11 (by decide) (by omega) (by omega) (fun c_11 => ?_) (fun c_11 => ?_)
      · refine pw_iload_n dX6_permutes_65 2 rfl rfl ?_
        refine pw_aload_n dX6_permutes_66 0 rfl rfl ?_
        refine pw_getr 12 zc_X6 (ts_this hM) (by decide) q1998 (Or.inr ⟨_, rfl⟩) (tr_told hM) dX6_permutes_67 ?_
        refine pw_iconst (v := 1) dX6_permutes_70 (by decide) ?_
        refine pw_iald 1 rfl (ts_told hM) (by decide) (by decide) dX6_permutes_71 ?_
        rw [hT1.told (k := 1) (by decide)]
        refine pw_icmp_ge_N 76 dX6_permutes_72 (by decide) (by omega) (by omega) (fun c_72 => ?_) (fun c_72 => ?_)
        · exact absurd c_72 (by omega)
        · refine pw_vret rfl dX6_permutes_75 ?_
          refine ⟨rfl, rfl, ?_, hf, hr⟩
          rw [show k = sN S 0 1 by omega] at hP
          exact hP
      · refine pw_iload_n dX6_permutes_14 2 rfl rfl ?_
        refine pw_aload_n dX6_permutes_15 0 rfl rfl ?_
        refine pw_getr 12 zc_X6 (ts_this hM) (by decide) q1998 (Or.inr ⟨_, rfl⟩) (tr_told hM) dX6_permutes_16 ?_
        refine pw_iconst (v := 1) dX6_permutes_19 (by decide) ?_
        refine pw_iald 1 rfl (ts_told hM) (by decide) (by decide) dX6_permutes_20 ?_
        rw [hT1.told (k := 1) (by decide)]
        refine pw_icmp_ge_N 65 dX6_permutes_21 (by decide) (by omega) (by omega) (fun c_21 => ?_) (fun c_21 => ?_)
        · exact absurd c_21 (by omega)
        · refine pw_iload_n dX6_permutes_24 1 rfl rfl ?_
          refine pw_iload dX6_permutes_25 4 rfl ?_
          refine pw_ishr dX6_permutes_27 ?_
          refine pw_iconst (v := 1) dX6_permutes_28 (by decide) ?_
          refine pw_iand dX6_permutes_29 ?_
          refine pw_iconst (v := 1) dX6_permutes_30 (by decide) ?_
          refine pw_icmp_ne 37 dX6_permutes_31 (by decide) (fun c_31 => ?_) (fun c_31 => ?_)
          · refine pw_aload_n dX6_permutes_37 0 rfl rfl ?_
            refine pw_getr 34 zc_X6 (ts_this hM) (by decide) q2020 (Or.inr ⟨_, rfl⟩) (tr_row hM) dX6_permutes_38 ?_
            refine pw_iload_n dX6_permutes_41 2 rfl rfl ?_
            refine pw_iload dX6_permutes_42 4 rfl ?_
            refine pw_iast L.length rfl (ts_row hM) (by decide) (by omega) (by decide) dX6_permutes_44 ?_
            have hin : ¬ k ∈ L := fun z => c_31 ((ib_eq1 (by omega)).mpr ((hB k (by omega)).mpr z))
            have hf2 : zFr pF pA n (zpai n1 at_row L.length (nI k)) := zFr.pai hf (Or.inl (Or.inr rfl))
            have hT2 := hT.keep hW (hf2.mono pF_tF pA_tA)
            have hP2 := hP.gk (n' := zpai n1 at_row L.length (nI k)) (zFr.pai zFr.rf (Or.inr rfl))
            have hrw2 : ∀ i b, (L ++ [k])[i]? = some b → zai (zpai n1 at_row L.length (nI k)) at_row i = nI b := fun i b hi => by
              rw [zai_p]
              by_cases e : i = L.length
              · subst e
                rw [List.getElem?_append_right (Nat.le_refl _), Nat.sub_self] at hi
                cases hi
                rw [if_pos ⟨rfl, rfl⟩]
              · rw [if_neg (fun z => e z.2)]
                have hil := (List.getElem?_eq_some_iff.mp hi).1
                rw [List.length_append] at hil
                simp only [List.length_cons, List.length_nil] at hil
                rw [List.getElem?_append_left (by omega)] at hi
                rw [hr i (by omega)]
                exact hrow i b hi
            refine pw_aload_n dX6_permutes_45 0 rfl rfl ?_
            refine pw_iload_n dX6_permutes_46 1 rfl rfl ?_
            refine pw_iconst (v := 1) dX6_permutes_47 (by decide) ?_
            refine pw_iload dX6_permutes_48 4 rfl ?_
            refine pw_ishl dX6_permutes_50 ?_
            rw [ishl1 (by omega)]
            refine pw_ior dX6_permutes_51 ?_
            refine pw_iload_n dX6_permutes_52 2 rfl rfl ?_
            refine pw_iconst (v := 1) dX6_permutes_53 (by decide) ?_
            refine pw_iadd dX6_permutes_54 ?_
            rw [show nI L.length + 1 = nI (L ++ [k]).length from by rw [nI_1, List.length_append]; rfl]
            refine pw_iload_n dX6_permutes_55 3 rfl rfl ?_
            refine pw_callV3 zmM_X6_permutes rfl (lw_V q2515 q2517 qs112 q150 q2518) rfl (ts_this hM) zc_X6 (ih (L ++ [k]) _ _ (B ||| nI (2 ^ k)) (by rw [List.length_append]; simp only [List.length_cons, List.length_nil]; omega) (fun b hb => (List.mem_append.mp hb).elim (hL b) (fun z => by rw [List.mem_singleton.mp z]; exact c_11)) (fun i hi => by rw [ib_or, Bool.or_eq_true, hB i hi, ib_nI hi, Nat.testBit_two_pow, decide_eq_true_eq, List.mem_append, List.mem_singleton]; exact ⟨fun h => h.imp id Eq.symm, fun h => h.imp id Eq.symm⟩) hT2 hP2 hrw2) (by omega) (Nat.le_refl _) (Nat.le_refl _) rfl (Nat.le_of_ble_eq_true rfl) (Nat.le_of_ble_eq_true rfl) dX6_permutes_56 (by intros; rintro ⟨h, _⟩; cases h) (fun v1 g1 n2 h2 => ?_)
            obtain ⟨h1, rfl, hP3, hf3, hr3⟩ := h2
            cases h1
            refine pw_iinc1 (j := 4) (ls' := [(4, _), (0, _), (1, _), (2, _), (3, _)]) dX6_permutes_59 rfl (by decide) rfl ?_
            refine pw_ls [1, 2, 3, 4, 0] (ls' := [(0, _), (1, _), (2, _), (3, _), (4, _)]) rfl ?_
            refine pw_goto 3 dX6_permutes_62 (by decide) ?_
            have := ih2 (k + 1) (by omega) (by omega) n2
            rw [oLp, if_neg hin] at this
            refine this hP3 (hf2.tr hf3) (fun i hi => ?_)
            rw [hr3 i (by rw [List.length_append]; omega), zai_p, if_neg (fun z => by omega)]
            exact hr i hi
          · refine pw_goto 59 dX6_permutes_34 (by decide) ?_
            refine pw_iinc1 (j := 4) (ls' := [(4, _), (0, _), (1, _), (2, _), (3, _)]) dX6_permutes_59 rfl (by decide) rfl ?_
            refine pw_ls [1, 2, 3, 4, 0] (ls' := [(0, _), (1, _), (2, _), (3, _), (4, _)]) rfl ?_
            refine pw_goto 3 dX6_permutes_62 (by decide) ?_
            have hin : k ∈ L := (hB k (by omega)).mp ((ib_eq1 (by omega)).mp c_31)
            have := ih2 (k + 1) (by omega) (by omega) n1
            rw [oLp, if_pos hin] at this
            exact this hP hf hr
    refine pw_iconst (v := 0) dX6_permutes_0 (by decide) ?_
    refine pw_istore (ls' := [(4, _), (0, _), (1, _), (2, _), (3, _)]) dX6_permutes_1 (by decide) rfl ?_
    refine pw_ls [1, 2, 3, 4, 0] (ls' := [(0, _), (1, _), (2, _), (3, _), (4, _)]) rfl ?_
    exact hlp 0 (Nat.zero_le _) n hA zFr.rf (fun _ _ => rfl)

/-! ===== the reference: what the orders add up to ===== -/
theorem plR_eq (A : zYa) (e : Nat) (L : List Nat) (r h : Int32) (a k : Nat) : plR A e L r h a k =
    if a = 0 then (if k = e then 1 else A 0 k)
    else if a = 1 then (if k < L.length then A 1 k + zb (ib (nI e) k = true) else A 1 k)
    else if a = 2 then (if A 4 4 < r ∧ k < L.length then nI (L.getD k 0) else A 2 k)
    else if a = 3 then (if A 4 5 < h ∧ k < L.length then nI (L.getD k 0) else A 3 k)
    else if a = 4 then (if k = 0 then A 4 0 &&& nI e else if k = 1 then A 4 1 ||| nI e else if k = 2 then A 4 2 + (if A 0 e = 0 then 1 else 0)
      else if k = 3 then A 4 3 + r else if k = 4 then (if A 4 4 < r then r else A 4 4) else if k = 5 then (if A 4 5 < h then h else A 4 5) else A 4 k)
    else A a k := by
  have x44 : pl2 (pl1 A e r) e L.length 4 4 = A 4 4 := rfl
  have x45 : (if pl2 (pl1 A e r) e L.length 4 4 < r then pl3 (zu2 (pl2 (pl1 A e r) e L.length) 4 4 r) 2 L L.length else pl2 (pl1 A e r) e L.length) 4 5 = A 4 5 := by split <;> rfl
  unfold plR
  rw [x45, x44]
  have base : ∀ a k, pl2 (pl1 A e r) e L.length a k = if a = 0 then (if k = e then 1 else A 0 k) else if a = 1 then (if k < L.length then A 1 k + zb (ib (nI e) k = true) else A 1 k) else if a = 4 then (if k = 0 then A 4 0 &&& nI e else if k = 1 then A 4 1 ||| nI e else if k = 2 then A 4 2 + (if A 0 e = 0 then 1 else 0) else if k = 3 then A 4 3 + r else A 4 k) else A a k := by
    intro a k
    unfold pl2 pl1
    simp only [zu2]
    by_cases a0 : a = 0
    · subst a0; simp
    · by_cases a1 : a = 1
      · subst a1; simp
      · by_cases a4 : a = 4
        · subst a4
          by_cases k0 : k = 0
          · subst k0; simp
          · by_cases k1 : k = 1
            · subst k1; simp
            · by_cases k2 : k = 2
              · subst k2; simp
              · by_cases k3 : k = 3
                · subst k3; simp
                · simp [k0, k1, k2, k3]
        · simp [a0, a1, a4]
  by_cases c1 : A 4 4 < r <;> by_cases c2 : A 4 5 < h <;> simp only [c1, c2, if_true, if_false, true_and, false_and, pl3, zu2, base]
  all_goals
    by_cases a0 : a = 0
    · subst a0; simp
    · by_cases a1 : a = 1
      · subst a1; simp
      · by_cases a2 : a = 2
        · subst a2; simp
        · by_cases a3 : a = 3
          · subst a3; simp
          · by_cases a4 : a = 4
            · subst a4
              by_cases k4 : k = 4
              · subst k4; simp
              · by_cases k5 : k = 5
                · subst k5; simp
                · simp [k4, k5]
            · simp [a0, a1, a2, a3, a4]
/-- alike but for rows that are not there yet -/
def pSim (m : Nat) (A A' : zYa) : Prop := (∀ a k, a ≠ 2 → a ≠ 3 → A a k = A' a k) ∧ (A 4 4 = -1 ∨ ∀ k, k < m → A 2 k = A' 2 k) ∧ (A 4 5 = -1 ∨ ∀ k, k < m → A 3 k = A' 3 k)
theorem oLp_rel {α β : Type} {R : α → β → Prop} {f : Nat → α → α} {f' : Nat → β → β} (N : Nat) (hf : ∀ k x x', k < N → R x x' → R (f k x) (f' k x')) : ∀ k, k ≤ N → ∀ x x', R x x' → R (oLp f k x) (oLp f' k x')
  | 0, _, _, _, h => h
  | k + 1, hk, x, x', h => hf k _ _ (by omega) (oLp_rel N hf k (by omega) x x' h)
theorem oVis_rel {α β : Type} {R : α → β → Prop} {m : Nat} {F : List Nat → α → α} {F' : List Nat → β → β} (hF : ∀ L x x', L.length = m → (∀ b, b ∈ L → b < m) → L.Nodup → R x x' → R (F L x) (F' L x')) : ∀ r L x x', L.length + r = m → (∀ b, b ∈ L → b < m) → L.Nodup → R x x' → R (oVis m F r L x) (oVis m F' r L x')
  | 0, L, x, x', hl, hL, hn, h => hF L x x' (by omega) hL hn h
  | r + 1, L, x, x', hl, hL, hn, h => by
    rw [oVis, oVis]
    refine oLp_rel m (fun k y y' hk hy => ?_) m (Nat.le_refl _) x x' h
    by_cases hin : k ∈ L
    · rw [if_pos hin, if_pos hin]; exact hy
    · rw [if_neg hin, if_neg hin]
      refine oVis_rel hF r (L ++ [k]) y y' (by rw [List.length_append]; simp only [List.length_cons, List.length_nil]; omega) (fun b hb => ?_) ?_ hy
      · rcases List.mem_append.mp hb with h1 | h1
        · exact hL b h1
        · rw [List.mem_singleton.mp h1]; exact hk
      · rw [List.nodup_append]
        exact ⟨hn, by simp, fun a ha b hb => by rw [List.mem_singleton.mp hb]; exact fun z => hin (z ▸ ha)⟩
theorem pLf_sim {S : zS} {law m : Nat} {L : List Nat} (hl : L.length = m) {A A' : zYa} (s : pSim m A A') : pSim m (pLf S law L A) (pLf S law L A') := by
  obtain ⟨s1, s2, s3⟩ := s
  have e44 := s1 4 4 (by decide) (by decide)
  have e45 := s1 4 5 (by decide) (by decide)
  have e0 : ∀ k, A 0 k = A' 0 k := fun k => s1 0 k (by decide) (by decide)
  have e1 : ∀ k, A 1 k = A' 1 k := fun k => s1 1 k (by decide) (by decide)
  have e4 : ∀ k, A 4 k = A' 4 k := fun k => s1 4 k (by decide) (by decide)
  unfold pLf
  refine ⟨fun a k h2 h3 => ?_, ?_, ?_⟩
  · rw [plR_eq, plR_eq]
    simp only [e0, e1, e4, h2, h3, if_false, s1 a k h2 h3]
  · have t44 : ∀ A : zYa, plR A (pEnd S law L).toNatClampNeg L (pTru S law L) (pHur S law L) 4 4 = if A 4 4 < pTru S law L then pTru S law L else A 4 4 := fun A => by rw [plR_eq]; simp
    have t2 : ∀ (A : zYa) k, plR A (pEnd S law L).toNatClampNeg L (pTru S law L) (pHur S law L) 2 k = if A 4 4 < pTru S law L ∧ k < L.length then nI (L.getD k 0) else A 2 k := fun A k => by rw [plR_eq]; simp
    rw [t44]
    by_cases c : A 4 4 < pTru S law L
    · right
      intro k hk
      rw [t2, t2, if_pos ⟨c, by omega⟩, if_pos ⟨by rw [← e44]; exact c, by omega⟩]
    · rw [if_neg c]
      rcases s2 with z | z
      · exact Or.inl z
      · right
        intro k hk
        rw [t2, t2, if_neg (fun w => c w.1), if_neg (fun w => c (by rw [e44]; exact w.1))]
        exact z k hk
  · have t45 : ∀ A : zYa, plR A (pEnd S law L).toNatClampNeg L (pTru S law L) (pHur S law L) 4 5 = if A 4 5 < pHur S law L then pHur S law L else A 4 5 := fun A => by rw [plR_eq]; simp
    have t3 : ∀ (A : zYa) k, plR A (pEnd S law L).toNatClampNeg L (pTru S law L) (pHur S law L) 3 k = if A 4 5 < pHur S law L ∧ k < L.length then nI (L.getD k 0) else A 3 k := fun A k => by rw [plR_eq]; simp
    rw [t45]
    by_cases c : A 4 5 < pHur S law L
    · right
      intro k hk
      rw [t3, t3, if_pos ⟨c, by omega⟩, if_pos ⟨by rw [← e45]; exact c, by omega⟩]
    · rw [if_neg c]
      rcases s3 with z | z
      · exact Or.inl z
      · right
        intro k hk
        rw [t3, t3, if_neg (fun w => c w.1), if_neg (fun w => c (by rw [e45]; exact w.1))]
        exact z k hk

/-! ===== the reference: allOrders, and what is asked of it ===== -/
def pIni (S : zS) (J2 J3 : Nat → Int32) : zYa := fun a k => if a = 0 then 0 else if a = 1 then 0 else if a = 2 then J2 k else if a = 3 then J3 k else if k = 0 then nI (2 ^ sN S 0 1 - 1) else if k < 4 then 0 else -1
/-- all orders, counted -/
abbrev pAll (S : zS) (law : Nat) (A : zYa) : zYa := oVis (sN S 0 1) (pLf S law) (sN S 0 1) [] A
theorem t_allOrders {g : zg_G} {n : zg_N} {S : zS} (hM : TSh g) (hT : TW n S) (hW : WF S) (h7 : sN S 0 1 ≤ 7) (law : Nat) (hl4 : law ≤ 4) : PW zm_X6_allOrders 16 (fun o g1 n1 => o = .inl none ∧ g1 = g ∧ TPo n1 (pAll S law (pIni S (zai n at_bestRow) (zai n at_worstRow))) ∧ zFr pF pA n n1) 0 0 0 [(0, .ref aT), (1, .int (nI law))] [] g n := by
  have h24 : ∀ k, k ≤ 7 → ∀ n1, zFr pF pA n n1 → (∀ e, e < 128 → zai n1 at_been e = 0) → (∀ j, j < k → zai n1 at_holds j = 0) → (∀ j, zai n1 at_bestRow j = zai n at_bestRow j) → (∀ j, zai n1 at_worstRow j = zai n at_worstRow j) →
      PW zm_X6_allOrders 16 (fun o g1 n1 => o = .inl none ∧ g1 = g ∧ TPo n1 (pAll S law (pIni S (zai n at_bestRow) (zai n at_worstRow))) ∧ zFr pF pA n n1) 0 0 24 [(0, .ref aT), (1, .int (nI law)), (2, .int (nI k))] [] g n1 := by
    refine zl_up _ (fun k hk ih n1 hf hb hh h2 h3 => ?_)
    have hT1 := hT.keep hW (hf.mono pF_tF pA_tA)
    refine pw_iload_n dX6_allOrders_24 2 rfl rfl ?_
    refine pw_bipush (v := 7) dX6_allOrders_25 (by decide) ?_
    refine pw_icmp_ge_N (b := 7) 43 dX6_allOrders_27 (by decide) (by omega) (by omega) (fun c_27 => ?_) (fun c_27 => ?_)
    · refine pw_aload_n dX6_allOrders_43 0 rfl rfl ?_
      refine pw_iconst (v := 1) dX6_allOrders_44 (by decide) ?_
      refine pw_aload_n dX6_allOrders_45 0 rfl rfl ?_
      refine pw_getr 12 zc_X6 (ts_this hM) (by decide) q1998 (Or.inr ⟨_, rfl⟩) (tr_told hM) dX6_allOrders_46 ?_
      refine pw_iconst (v := 1) dX6_allOrders_49 (by decide) ?_
      refine pw_iald 1 rfl (ts_told hM) (by decide) (by decide) dX6_allOrders_50 ?_
      rw [hT1.told (k := 1) (by decide)]
      refine pw_ishl dX6_allOrders_51 ?_
      rw [ishl1 (by omega)]
      refine pw_iconst (v := 1) dX6_allOrders_52 (by decide) ?_
      refine pw_isub dX6_allOrders_53 ?_
      rw [show nI (2 ^ sN S 0 1) - 1 = nI (2 ^ sN S 0 1 - 1) from nI_sub (Nat.one_le_two_pow)]
      refine pw_puti 52 zc_X6 (ts_this hM) (by decide) (by decide) q2038 rfl (Or.inl rfl) rfl rfl dX6_allOrders_54 ?_
      refine pw_aload_n dX6_allOrders_57 0 rfl rfl ?_
      refine pw_iconst (v := 0) dX6_allOrders_58 (by decide) ?_
      refine pw_puti 53 zc_X6 (ts_this hM) (by decide) (by decide) q2039 rfl (Or.inl rfl) rfl rfl dX6_allOrders_59 ?_
      refine pw_aload_n dX6_allOrders_62 0 rfl rfl ?_
      refine pw_iconst (v := 0) dX6_allOrders_63 (by decide) ?_
      refine pw_puti 54 zc_X6 (ts_this hM) (by decide) (by decide) q2040 rfl (Or.inl rfl) rfl rfl dX6_allOrders_64 ?_
      refine pw_aload_n dX6_allOrders_67 0 rfl rfl ?_
      refine pw_iconst (v := 0) dX6_allOrders_68 (by decide) ?_
      refine pw_puti 55 zc_X6 (ts_this hM) (by decide) (by decide) q2041 rfl (Or.inl rfl) rfl rfl dX6_allOrders_69 ?_
      refine pw_aload_n dX6_allOrders_72 0 rfl rfl ?_
      refine pw_iconst (v := (-1)) dX6_allOrders_73 (by decide) ?_
      refine pw_puti 56 zc_X6 (ts_this hM) (by decide) (by decide) q2042 rfl (Or.inl rfl) rfl rfl dX6_allOrders_74 ?_
      refine pw_aload_n dX6_allOrders_77 0 rfl rfl ?_
      refine pw_iconst (v := (-1)) dX6_allOrders_78 (by decide) ?_
      refine pw_puti 57 zc_X6 (ts_this hM) (by decide) (by decide) q2043 rfl (Or.inl rfl) rfl rfl dX6_allOrders_79 ?_
      have hk7 : k = 7 := by omega
      subst hk7
      have hf2 : zFr pF pA n1 (zpfi (zpfi (zpfi (zpfi (zpfi (zpfi n1 aT tf_always (nI (2 ^ sN S 0 1 - 1))) aT tf_ever 0) aT tf_unlike 0) aT tf_trues 0) aT tf_bestTrues (-1)) aT tf_worstHurts (-1)) := zFr.pfi (zFr.pfi (zFr.pfi (zFr.pfi (zFr.pfi (zFr.pfi zFr.rf (pF_i 0 (by decide))) (pF_i 1 (by decide))) (pF_i 2 (by decide))) (pF_i 3 (by decide))) (pF_i 4 (by decide))) (pF_i 5 (by decide))
      have hP : TPo (zpfi (zpfi (zpfi (zpfi (zpfi (zpfi n1 aT tf_always (nI (2 ^ sN S 0 1 - 1))) aT tf_ever 0) aT tf_unlike 0) aT tf_trues 0) aT tf_bestTrues (-1)) aT tf_worstHurts (-1)) (pIni S (zai n at_bestRow) (zai n at_worstRow)) := by
        refine ⟨fun a ha j hj => ?_, fun c hc => ?_⟩
        · rcases (by omega : a = 0 ∨ a = 1 ∨ a = 2 ∨ a = 3) with rfl | rfl | rfl | rfl
          · exact hb j hj
          · exact hh j hj
          · exact h2 j
          · exact h3 j
        · rcases (by omega : c = 0 ∨ c = 1 ∨ c = 2 ∨ c = 3 ∨ c = 4 ∨ c = 5) with rfl | rfl | rfl | rfl | rfl | rfl <;> rfl
      have hf3 := hf.tr hf2
      generalize zpfi (zpfi (zpfi (zpfi (zpfi (zpfi n1 aT tf_always (nI (2 ^ sN S 0 1 - 1))) aT tf_ever 0) aT tf_unlike 0) aT tf_trues 0) aT tf_bestTrues (-1)) aT tf_worstHurts (-1) = n2 at hP hf3 ⊢
      refine pw_aload_n dX6_allOrders_82 0 rfl rfl ?_
      refine pw_iconst (v := 0) dX6_allOrders_83 (by decide) ?_
      refine pw_iconst (v := 0) dX6_allOrders_84 (by decide) ?_
      refine pw_iload_n dX6_allOrders_85 1 rfl rfl ?_
      refine pw_callV3 zmM_X6_permutes rfl (lw_V q2515 q2517 qs112 q150 q2518) rfl (ts_this hM) zc_X6 (t_permutes hM hW h7 law hl4 (sN S 0 1) [] _ n2 0 (by simp) (fun b hb => nomatch hb) (fun i hi => by rw [ib_0]; exact ⟨fun h => absurd h (by decide), fun h => nomatch h⟩) (hT.keep hW (hf3.mono pF_tF pA_tA)) hP (fun i b h => nomatch h)) (by omega) (Nat.le_refl _) (Nat.le_refl _) rfl (Nat.le_of_ble_eq_true rfl) (Nat.le_of_ble_eq_true rfl) dX6_allOrders_86 (by intros; rintro ⟨h, _⟩; cases h) (fun v1 g1 n3 h4 => ?_)
      obtain ⟨h1, rfl, hP3, hf4, -⟩ := h4
      cases h1
      refine pw_vret rfl dX6_allOrders_89 ?_
      exact ⟨rfl, rfl, hP3, hf3.tr hf4⟩
    · refine pw_aload_n dX6_allOrders_30 0 rfl rfl ?_
      refine pw_getr 51 zc_X6 (ts_this hM) (by decide) q2037 (Or.inr ⟨_, rfl⟩) (tr_holds hM) dX6_allOrders_31 ?_
      refine pw_iload_n dX6_allOrders_34 2 rfl rfl ?_
      refine pw_iconst (v := 0) dX6_allOrders_35 (by decide) ?_
      refine pw_iast k rfl (ts_holds hM) (by decide) (by omega) (by decide) dX6_allOrders_36 ?_
      refine pw_iinc1 (j := 2) (ls' := [(2, _), (0, _), (1, _)]) dX6_allOrders_37 rfl (by decide) rfl ?_
      refine pw_ls [1, 2, 0] (ls' := [(0, _), (1, _), (2, _)]) rfl ?_
      refine pw_goto 24 dX6_allOrders_40 (by decide) ?_
      refine ih (k + 1) (by omega) (by omega) _ (zFr.pai hf (pA_i 1 (by decide))) hb (fun j hj => ?_) h2 h3
      rw [zai_p]
      by_cases e : j = k
      · subst e; rw [if_pos ⟨rfl, rfl⟩]
      · rw [if_neg (fun z => e z.2)]; exact hh j (by omega)
  have h2 : ∀ k, k ≤ 128 → ∀ n1, zFr pF pA n n1 → (∀ e, e < k → zai n1 at_been e = 0) → (∀ j, zai n1 at_bestRow j = zai n at_bestRow j) → (∀ j, zai n1 at_worstRow j = zai n at_worstRow j) →
      PW zm_X6_allOrders 16 (fun o g1 n1 => o = .inl none ∧ g1 = g ∧ TPo n1 (pAll S law (pIni S (zai n at_bestRow) (zai n at_worstRow))) ∧ zFr pF pA n n1) 0 0 2 [(0, .ref aT), (1, .int (nI law)), (2, .int (nI k))] [] g n1 := by
    refine zl_up _ (fun k hk ih n1 hf hb h2 h3 => ?_)
    refine pw_iload_n dX6_allOrders_2 2 rfl rfl ?_
    refine pw_sipush (v := 128) dX6_allOrders_3 (by decide) ?_
    refine pw_icmp_ge_N (b := 128) 22 dX6_allOrders_6 (by decide) (by omega) (by omega) (fun c_6 => ?_) (fun c_6 => ?_)
    · refine pw_iconst (v := 0) dX6_allOrders_22 (by decide) ?_
      refine pw_istore_n (ls' := [(2, _), (0, _), (1, _)]) dX6_allOrders_23 rfl (by decide) rfl ?_
      refine pw_ls [1, 2, 0] (ls' := [(0, _), (1, _), (2, _)]) rfl ?_
      exact h24 0 (Nat.zero_le _) n1 hf (fun e he => hb e (by omega)) (fun j hj => absurd hj (Nat.not_lt_zero _)) h2 h3
    · refine pw_aload_n dX6_allOrders_9 0 rfl rfl ?_
      refine pw_getr 50 zc_X6 (ts_this hM) (by decide) q2036 (Or.inr ⟨_, rfl⟩) (tr_been hM) dX6_allOrders_10 ?_
      refine pw_iload_n dX6_allOrders_13 2 rfl rfl ?_
      refine pw_iconst (v := 0) dX6_allOrders_14 (by decide) ?_
      refine pw_zast k rfl (ts_been hM) (by decide) (by omega) (by decide) dX6_allOrders_15 ?_
      refine pw_iinc1 (j := 2) (ls' := [(2, _), (0, _), (1, _)]) dX6_allOrders_16 rfl (by decide) rfl ?_
      refine pw_ls [1, 2, 0] (ls' := [(0, _), (1, _), (2, _)]) rfl ?_
      refine pw_goto 2 dX6_allOrders_19 (by decide) ?_
      refine ih (k + 1) (by omega) (by omega) _ (zFr.pai hf (pA_i 0 (by decide))) (fun j hj => ?_) h2 h3
      rw [zai_p]
      by_cases e : j = k
      · subst e; rw [if_pos ⟨rfl, rfl⟩]; rfl
      · rw [if_neg (fun z => e z.2)]; exact hb j (by omega)
  refine pw_iconst (v := 0) dX6_allOrders_0 (by decide) ?_
  refine pw_istore_n (ls' := [(2, _), (0, _), (1, _)]) dX6_allOrders_1 rfl (by decide) rfl ?_
  refine pw_ls [1, 2, 0] (ls' := [(0, _), (1, _), (2, _)]) rfl ?_
  exact h2 0 (Nat.zero_le _) n zFr.rf (fun e he => absurd he (Nat.not_lt_zero _)) (fun _ => rfl) (fun _ => rfl)

/-! ===== the reference: ends, orders, compared ===== -/
abbrev pFin (S : zS) (law : Nat) : zYa := pAll S law (pIni S (fun _ => 0) (fun _ => 0))
theorem pIni_sim (S : zS) (J2 J3 J2' J3' : Nat → Int32) (m : Nat) : pSim m (pIni S J2 J3) (pIni S J2' J3') := ⟨fun a k h2 h3 => by unfold pIni; simp only [h2, h3, if_false], Or.inl rfl, Or.inl rfl⟩
theorem pAll_sim (S : zS) (law : Nat) (J2 J3 : Nat → Int32) : pSim (sN S 0 1) (pAll S law (pIni S J2 J3)) (pFin S law) :=
  oVis_rel (R := pSim (sN S 0 1)) (fun L x x' hl _ _ h => pLf_sim hl h) (sN S 0 1) [] _ _ (by simp) (fun b hb => nomatch hb) List.nodup_nil (pIni_sim S J2 J3 _ _ _)
theorem pF_thrown : ¬ pF aT tf_thrown := fun h => by
  rcases h with h | ⟨_, h, _⟩
  · exact gF_thrown h
  · revert h; decide
theorem t_after3 {n n0 n1 : zg_N} {S : zS} (hT0 : TW n0 S) (hW : WF S) (hth : zfi n0 aT tf_thrown = 0) (hf0 : zFr tXF tXA n n0) (hf : zFr pF pA n0 n1) : TW n1 S ∧ zfi n1 aT tf_thrown = 0 ∧ zFr tXF tXA n n1 :=
  ⟨hT0.keep hW (hf.mono pF_tF pA_tA), ((hf.1 _ _ pF_thrown).1).trans hth, hf0.tr (hf.mono (fun a k h => tF_X a k (pF_tF a k h)) (fun a h => tA_X a (pA_tA a h)))⟩
def sp_compared (S : zS) (x : Int32) : Int32 × Value × zS := spNeed S (inB x 5) 1 1 (.int 0) (spNeed S (decide (sN S 0 1 ≤ 7)) 2 2 (.int 0) (0, .int (pFin S x.toNatClampNeg 4 3), S))
theorem t_compared {g : zg_G} {n : zg_N} {S : zS} (hM : TSh g) (hT : TW n S) (hW : WF S) (x : Int32) : PW zm_X6_compared 17 (tQ g n (sp_compared S x)) 0 0 0 [(0, .ref aT), (1, .int x)] [] g n := by
  have hs := hW.slips
  refine pw_aload_n dX6_compared_0 0 rfl rfl ?_
  refine pw_iconst (v := 0) dX6_compared_1 (by decide) ?_
  refine pw_puti 0 zc_X6 (ts_this hM) (by decide) (by decide) q1986 rfl (Or.inl rfl) rfl rfl dX6_compared_2 ?_
  obtain ⟨hT0, hth, hf0⟩ := t_start hT hW; generalize zpfi n aT 0 0 = n0 at hT0 hth hf0 ⊢
  refine pw_aload_n dX6_compared_5 0 rfl rfl ?_
  refine pw_iload_n dX6_compared_6 1 rfl rfl ?_
  refine pw_iconst (v := 0) dX6_compared_7 (by decide) ?_
  refine pw_iconst (v := 4) dX6_compared_8 (by decide) ?_
  refine pw_callS3 zmM_X6_in rfl (lw_S q2185 q2186 q150 q2187) (t_in _ _ _ _ _) (by decide) (Nat.le_refl _) (Nat.le_refl _) rfl (Nat.le_of_ble_eq_true rfl) (Nat.le_of_ble_eq_true rfl) dX6_compared_9 zE.nx (zE_kk ?_)
  refine pw_if_ne_B 19 dX6_compared_12 (by decide) (fun c_12 => ?_) (fun c_12 => ?_)
  · refine pw_iconst (v := 0) dX6_compared_19 (by decide) ?_
    refine pw_iconst (v := 1) dX6_compared_20 (by decide) ?_
    refine pw_iconst (v := 1) dX6_compared_21 (by decide) ?_
    refine pw_callV3 zmM_X6_bad rfl (lw_V q2188 q2190 qs62 q150 q2191) rfl (ts_this hM) zc_X6 (t_bad0 hM 1 (by decide) 1 (by decide) hth) (by decide) (Nat.le_refl _) (Nat.le_refl _) rfl (Nat.le_of_ble_eq_true rfl) (Nat.le_of_ble_eq_true rfl) dX6_compared_22 zE.nx (zE_kk ?_)
    refine pw_if_ne 53 dX6_compared_25 (by decide) (fun c_25 => ?_) (fun c_25 => ?_)
    · exact absurd rfl c_25
    · refine pw_aload_n dX6_compared_28 0 rfl rfl ?_
      refine pw_aload_n dX6_compared_29 0 rfl rfl ?_
      refine pw_getr 12 zc_X6 (ts_this hM) (by decide) q1998 (Or.inr ⟨_, rfl⟩) (tr_told hM) dX6_compared_30 ?_
      refine pw_iconst (v := 1) dX6_compared_33 (by decide) ?_
      refine pw_iald 1 rfl (ts_told hM) (by decide) (by decide) dX6_compared_34 ?_
      rw [hT0.told (k := 1) (by decide)]
      refine pw_bipush (v := 7) dX6_compared_35 (by decide) ?_
      refine pw_icmp_le_N (b := 7) 44 dX6_compared_37 (by decide) (by omega) (by omega) (fun c_37 => ?_) (fun c_37 => ?_)
      · refine pw_iconst (v := 0) dX6_compared_44 (by decide) ?_
        refine pw_iconst (v := 2) dX6_compared_45 (by decide) ?_
        refine pw_iconst (v := 2) dX6_compared_46 (by decide) ?_
        refine pw_callV3 zmM_X6_bad rfl (lw_V q2188 q2190 qs62 q150 q2191) rfl (ts_this hM) zc_X6 (t_bad0 hM 2 (by decide) 2 (by decide) hth) (by decide) (Nat.le_refl _) (Nat.le_refl _) rfl (Nat.le_of_ble_eq_true rfl) (Nat.le_of_ble_eq_true rfl) dX6_compared_47 zE.nx (zE_kk ?_)
        refine pw_if_eq 55 dX6_compared_50 (by decide) (fun c_50 => ?_) (fun c_50 => ?_)
        · have hx := (inB_le (m := 4) (by decide)).mpr c_12
          obtain ⟨law, hlaw, rfl⟩ := inB_ex (by decide) hx
          rw [show sp_compared S (nI law) = (0, .int (pFin S law 4 3), S) from ((spNeed_t hx).trans (spNeed_t (decide_eq_true c_37))).trans (by rw [nI_clamp (by omega)])]
          refine pw_aload_n dX6_compared_55 0 rfl rfl ?_
          refine pw_iload_n dX6_compared_56 1 rfl rfl ?_
          refine pw_callV1 zmM_X6_allOrders rfl (lw_V q2511 q2513 qs111 q150 q2514) rfl (ts_this hM) zc_X6 (t_allOrders hM hT0 hW c_37 law (by omega)) (by decide) (Nat.le_refl _) (Nat.le_refl _) rfl (Nat.le_of_ble_eq_true rfl) (Nat.le_of_ble_eq_true rfl) dX6_compared_57 (by intros; rintro ⟨h, _⟩; cases h) (fun v1 g1 n1 h1 => ?_)
          obtain ⟨h1, rfl, hP, hfg⟩ := h1; cases h1; obtain ⟨hT1, hth1, hf1⟩ := t_after3 hT0 hW hth hf0 hfg
          refine pw_aload_n dX6_compared_60 0 rfl rfl ?_
          refine pw_geti 55 zc_X6 (ts_this hM) (by decide) q2041 (Or.inl rfl) dX6_compared_61 ?_
          rw [show zfi n1 aT tf_trues = pFin S law 4 3 from (hP.2 3 (by decide)).trans ((pAll_sim S law _ _).1 4 3 (by decide) (by decide))]
          refine pw_iret rfl dX6_compared_64 ?_
          exact t_qok hT1 hth1 hf1 _
        · exact absurd rfl c_50
      · refine pw_iconst (v := 1) dX6_compared_40 (by decide) ?_
        refine pw_goto 45 dX6_compared_41 (by decide) ?_
        refine pw_iconst (v := 2) dX6_compared_45 (by decide) ?_
        refine pw_iconst (v := 2) dX6_compared_46 (by decide) ?_
        refine pw_callV3 zmM_X6_bad rfl (lw_V q2188 q2190 qs62 q150 q2191) rfl (ts_this hM) zc_X6 (t_bad1 hM 2 (by decide) 2 (by decide) hth) (by decide) (Nat.le_refl _) (Nat.le_refl _) rfl (Nat.le_of_ble_eq_true rfl) (Nat.le_of_ble_eq_true rfl) dX6_compared_47 zE.nx (zE_kk ?_)
        refine pw_if_eq 55 dX6_compared_50 (by decide) (fun c_50 => ?_) (fun c_50 => ?_)
        · exact absurd c_50 (by decide)
        · refine pw_iconst (v := 0) dX6_compared_53 (by decide) ?_
          refine pw_iret rfl dX6_compared_54 ?_
          exact tQ_eq ((spNeed_t ((inB_le (m := 4) (by decide)).mpr c_12)).trans (spNeed_f (by rw [decide_eq_true_eq]; omega))) (t_qbad hT0 hW hf0 2 2 (by decide) _)
  · refine pw_iconst (v := 1) dX6_compared_15 (by decide) ?_
    refine pw_goto 20 dX6_compared_16 (by decide) ?_
    refine pw_iconst (v := 1) dX6_compared_20 (by decide) ?_
    refine pw_iconst (v := 1) dX6_compared_21 (by decide) ?_
    refine pw_callV3 zmM_X6_bad rfl (lw_V q2188 q2190 qs62 q150 q2191) rfl (ts_this hM) zc_X6 (t_bad1 hM 1 (by decide) 1 (by decide) hth) (by decide) (Nat.le_refl _) (Nat.le_refl _) rfl (Nat.le_of_ble_eq_true rfl) (Nat.le_of_ble_eq_true rfl) dX6_compared_22 zE.nx (zE_kk ?_)
    refine pw_if_ne 53 dX6_compared_25 (by decide) (fun c_25 => ?_) (fun c_25 => ?_)
    · refine pw_iconst (v := 0) dX6_compared_53 (by decide) ?_
      refine pw_iret rfl dX6_compared_54 ?_
      exact tQ_eq (spNeed_f (fun h => c_12 ((inB_le (m := 4) (by decide)).mp h))) (t_qbad hT0 hW hf0 1 1 (by decide) _)
    · exact absurd c_25 (by decide)
def sp_orders (S : zS) (x : Int32) : Int32 × Value × zS := spNeed S (inB x (sN S 0 1)) 1 0 (.int 0) (spNeed S (decide (sN S 0 1 ≤ 7)) 2 2 (.int 0) (0, .int (pFin S (sN S 0 5) 1 x.toNatClampNeg), S))
theorem t_orders {g : zg_G} {n : zg_N} {S : zS} (hM : TSh g) (hT : TW n S) (hW : WF S) (x : Int32) : PW zm_X6_orders 17 (tQ g n (sp_orders S x)) 0 0 0 [(0, .ref aT), (1, .int x)] [] g n := by
  have hs := hW.slips
  refine pw_aload_n dX6_orders_0 0 rfl rfl ?_
  refine pw_iconst (v := 0) dX6_orders_1 (by decide) ?_
  refine pw_puti 0 zc_X6 (ts_this hM) (by decide) (by decide) q1986 rfl (Or.inl rfl) rfl rfl dX6_orders_2 ?_
  obtain ⟨hT0, hth, hf0⟩ := t_start hT hW; generalize zpfi n aT 0 0 = n0 at hT0 hth hf0 ⊢
  refine pw_aload_n dX6_orders_5 0 rfl rfl ?_
  refine pw_aload_n dX6_orders_6 0 rfl rfl ?_
  refine pw_iload_n dX6_orders_7 1 rfl rfl ?_
  refine pw_callV1 zmM_X6_isSlip rfl (lw_V q2336 q2338 qs90 q150 q2339) rfl (ts_this hM) zc_X6 (t_isSlip hM hT0 hW x) (by decide) (Nat.le_refl _) (Nat.le_refl _) rfl (Nat.le_of_ble_eq_true rfl) (Nat.le_of_ble_eq_true rfl) dX6_orders_8 zE.nx (zE_kk ?_)
  refine pw_if_ne_B 18 dX6_orders_11 (by decide) (fun c_11 => ?_) (fun c_11 => ?_)
  · refine pw_iconst (v := 0) dX6_orders_18 (by decide) ?_
    refine pw_iconst (v := 1) dX6_orders_19 (by decide) ?_
    refine pw_iconst (v := 0) dX6_orders_20 (by decide) ?_
    refine pw_callV3 zmM_X6_bad rfl (lw_V q2188 q2190 qs62 q150 q2191) rfl (ts_this hM) zc_X6 (t_bad0 hM 1 (by decide) 0 (by decide) hth) (by decide) (Nat.le_refl _) (Nat.le_refl _) rfl (Nat.le_of_ble_eq_true rfl) (Nat.le_of_ble_eq_true rfl) dX6_orders_21 zE.nx (zE_kk ?_)
    refine pw_if_ne 52 dX6_orders_24 (by decide) (fun c_24 => ?_) (fun c_24 => ?_)
    · exact absurd rfl c_24
    · refine pw_aload_n dX6_orders_27 0 rfl rfl ?_
      refine pw_aload_n dX6_orders_28 0 rfl rfl ?_
      refine pw_getr 12 zc_X6 (ts_this hM) (by decide) q1998 (Or.inr ⟨_, rfl⟩) (tr_told hM) dX6_orders_29 ?_
      refine pw_iconst (v := 1) dX6_orders_32 (by decide) ?_
      refine pw_iald 1 rfl (ts_told hM) (by decide) (by decide) dX6_orders_33 ?_
      rw [hT0.told (k := 1) (by decide)]
      refine pw_bipush (v := 7) dX6_orders_34 (by decide) ?_
      refine pw_icmp_le_N (b := 7) 43 dX6_orders_36 (by decide) (by omega) (by omega) (fun c_36 => ?_) (fun c_36 => ?_)
      · refine pw_iconst (v := 0) dX6_orders_43 (by decide) ?_
        refine pw_iconst (v := 2) dX6_orders_44 (by decide) ?_
        refine pw_iconst (v := 2) dX6_orders_45 (by decide) ?_
        refine pw_callV3 zmM_X6_bad rfl (lw_V q2188 q2190 qs62 q150 q2191) rfl (ts_this hM) zc_X6 (t_bad0 hM 2 (by decide) 2 (by decide) hth) (by decide) (Nat.le_refl _) (Nat.le_refl _) rfl (Nat.le_of_ble_eq_true rfl) (Nat.le_of_ble_eq_true rfl) dX6_orders_46 zE.nx (zE_kk ?_)
        refine pw_if_eq 54 dX6_orders_49 (by decide) (fun c_49 => ?_) (fun c_49 => ?_)
        · obtain ⟨k, hk, rfl⟩ := inB_ex (by omega) c_11
          rw [show sp_orders S (nI k) = (0, .int (pFin S (sN S 0 5) 1 k), S) from ((spNeed_t c_11).trans (spNeed_t (decide_eq_true c_36))).trans (by rw [nI_clamp (by omega)])]
          refine pw_aload_n dX6_orders_54 0 rfl rfl ?_
          refine pw_aload_n dX6_orders_55 0 rfl rfl ?_
          refine pw_getr 12 zc_X6 (ts_this hM) (by decide) q1998 (Or.inr ⟨_, rfl⟩) (tr_told hM) dX6_orders_56 ?_
          refine pw_iconst (v := 5) dX6_orders_59 (by decide) ?_
          refine pw_iald 5 rfl (ts_told hM) (by decide) (by decide) dX6_orders_60 ?_
          rw [hT0.told (k := 5) (by decide)]
          refine pw_callV1 zmM_X6_allOrders rfl (lw_V q2511 q2513 qs111 q150 q2514) rfl (ts_this hM) zc_X6 (t_allOrders hM hT0 hW c_36 _ hW.law) (by decide) (Nat.le_refl _) (Nat.le_refl _) rfl (Nat.le_of_ble_eq_true rfl) (Nat.le_of_ble_eq_true rfl) dX6_orders_61 (by intros; rintro ⟨h, _⟩; cases h) (fun v1 g1 n1 h1 => ?_)
          obtain ⟨h1, rfl, hP, hfg⟩ := h1; cases h1; obtain ⟨hT1, hth1, hf1⟩ := t_after3 hT0 hW hth hf0 hfg
          refine pw_aload_n dX6_orders_64 0 rfl rfl ?_
          refine pw_getr 51 zc_X6 (ts_this hM) (by decide) q2037 (Or.inr ⟨_, rfl⟩) (tr_holds hM) dX6_orders_65 ?_
          refine pw_iload_n dX6_orders_68 1 rfl rfl ?_
          refine pw_iald k rfl (ts_holds hM) (by omega) (by decide) dX6_orders_69 ?_
          rw [show zai n1 at_holds k = pFin S (sN S 0 5) 1 k from (hP.1 1 (by decide) k (by rw [if_neg (by decide)]; omega)).trans ((pAll_sim S _ _ _).1 1 k (by decide) (by decide))]
          refine pw_iret rfl dX6_orders_70 ?_
          exact t_qok hT1 hth1 hf1 _
        · exact absurd rfl c_49
      · refine pw_iconst (v := 1) dX6_orders_39 (by decide) ?_
        refine pw_goto 44 dX6_orders_40 (by decide) ?_
        refine pw_iconst (v := 2) dX6_orders_44 (by decide) ?_
        refine pw_iconst (v := 2) dX6_orders_45 (by decide) ?_
        refine pw_callV3 zmM_X6_bad rfl (lw_V q2188 q2190 qs62 q150 q2191) rfl (ts_this hM) zc_X6 (t_bad1 hM 2 (by decide) 2 (by decide) hth) (by decide) (Nat.le_refl _) (Nat.le_refl _) rfl (Nat.le_of_ble_eq_true rfl) (Nat.le_of_ble_eq_true rfl) dX6_orders_46 zE.nx (zE_kk ?_)
        refine pw_if_eq 54 dX6_orders_49 (by decide) (fun c_49 => ?_) (fun c_49 => ?_)
        · exact absurd c_49 (by decide)
        · refine pw_iconst (v := 0) dX6_orders_52 (by decide) ?_
          refine pw_iret rfl dX6_orders_53 ?_
          exact tQ_eq ((spNeed_t c_11).trans (spNeed_f (by rw [decide_eq_true_eq]; omega))) (t_qbad hT0 hW hf0 2 2 (by decide) _)
  · refine pw_iconst (v := 1) dX6_orders_14 (by decide) ?_
    refine pw_goto 19 dX6_orders_15 (by decide) ?_
    refine pw_iconst (v := 1) dX6_orders_19 (by decide) ?_
    refine pw_iconst (v := 0) dX6_orders_20 (by decide) ?_
    refine pw_callV3 zmM_X6_bad rfl (lw_V q2188 q2190 qs62 q150 q2191) rfl (ts_this hM) zc_X6 (t_bad1 hM 1 (by decide) 0 (by decide) hth) (by decide) (Nat.le_refl _) (Nat.le_refl _) rfl (Nat.le_of_ble_eq_true rfl) (Nat.le_of_ble_eq_true rfl) dX6_orders_21 zE.nx (zE_kk ?_)
    refine pw_if_ne 52 dX6_orders_24 (by decide) (fun c_24 => ?_) (fun c_24 => ?_)
    · refine pw_iconst (v := 0) dX6_orders_52 (by decide) ?_
      refine pw_iret rfl dX6_orders_53 ?_
      exact tQ_eq (spNeed_f c_11) (t_qbad hT0 hW hf0 1 0 (by decide) _)
    · exact absurd c_24 (by decide)
def sp_ends (S : zS) (x : Int32) : Int32 × Value × zS := spNeed S (inB x 3) 1 1 (.int 0) (spNeed S (decide (sN S 0 1 ≤ 7)) 2 2 (.int 0) (0, .int (if x = 0 then pFin S (sN S 0 5) 4 2 else if x = 1 then pFin S (sN S 0 5) 4 0 else nI (2 ^ sN S 0 1 - 1) &&& (pFin S (sN S 0 5) 4 1 ^^^ -1)), S))
theorem t_ends {g : zg_G} {n : zg_N} {S : zS} (hM : TSh g) (hT : TW n S) (hW : WF S) (x : Int32) : PW zm_X6_ends 17 (tQ g n (sp_ends S x)) 0 0 0 [(0, .ref aT), (1, .int x)] [] g n := by
  have hs := hW.slips
  refine pw_aload_n dX6_ends_0 0 rfl rfl ?_
  refine pw_iconst (v := 0) dX6_ends_1 (by decide) ?_
  refine pw_puti 0 zc_X6 (ts_this hM) (by decide) (by decide) q1986 rfl (Or.inl rfl) rfl rfl dX6_ends_2 ?_
  obtain ⟨hT0, hth, hf0⟩ := t_start hT hW; generalize zpfi n aT 0 0 = n0 at hT0 hth hf0 ⊢
  refine pw_aload_n dX6_ends_5 0 rfl rfl ?_
  refine pw_iload_n dX6_ends_6 1 rfl rfl ?_
  refine pw_iconst (v := 0) dX6_ends_7 (by decide) ?_
  refine pw_iconst (v := 2) dX6_ends_8 (by decide) ?_
  refine pw_callS3 zmM_X6_in rfl (lw_S q2185 q2186 q150 q2187) (t_in _ _ _ _ _) (by decide) (Nat.le_refl _) (Nat.le_refl _) rfl (Nat.le_of_ble_eq_true rfl) (Nat.le_of_ble_eq_true rfl) dX6_ends_9 zE.nx (zE_kk ?_)
  refine pw_if_ne_B 19 dX6_ends_12 (by decide) (fun c_12 => ?_) (fun c_12 => ?_)
  · refine pw_iconst (v := 0) dX6_ends_19 (by decide) ?_
    refine pw_iconst (v := 1) dX6_ends_20 (by decide) ?_
    refine pw_iconst (v := 1) dX6_ends_21 (by decide) ?_
    refine pw_callV3 zmM_X6_bad rfl (lw_V q2188 q2190 qs62 q150 q2191) rfl (ts_this hM) zc_X6 (t_bad0 hM 1 (by decide) 1 (by decide) hth) (by decide) (Nat.le_refl _) (Nat.le_refl _) rfl (Nat.le_of_ble_eq_true rfl) (Nat.le_of_ble_eq_true rfl) dX6_ends_22 zE.nx (zE_kk ?_)
    refine pw_if_ne 53 dX6_ends_25 (by decide) (fun c_25 => ?_) (fun c_25 => ?_)
    · exact absurd rfl c_25
    · refine pw_aload_n dX6_ends_28 0 rfl rfl ?_
      refine pw_aload_n dX6_ends_29 0 rfl rfl ?_
      refine pw_getr 12 zc_X6 (ts_this hM) (by decide) q1998 (Or.inr ⟨_, rfl⟩) (tr_told hM) dX6_ends_30 ?_
      refine pw_iconst (v := 1) dX6_ends_33 (by decide) ?_
      refine pw_iald 1 rfl (ts_told hM) (by decide) (by decide) dX6_ends_34 ?_
      rw [hT0.told (k := 1) (by decide)]
      refine pw_bipush (v := 7) dX6_ends_35 (by decide) ?_
      refine pw_icmp_le_N (b := 7) 44 dX6_ends_37 (by decide) (by omega) (by omega) (fun c_37 => ?_) (fun c_37 => ?_)
      · refine pw_iconst (v := 0) dX6_ends_44 (by decide) ?_
        refine pw_iconst (v := 2) dX6_ends_45 (by decide) ?_
        refine pw_iconst (v := 2) dX6_ends_46 (by decide) ?_
        refine pw_callV3 zmM_X6_bad rfl (lw_V q2188 q2190 qs62 q150 q2191) rfl (ts_this hM) zc_X6 (t_bad0 hM 2 (by decide) 2 (by decide) hth) (by decide) (Nat.le_refl _) (Nat.le_refl _) rfl (Nat.le_of_ble_eq_true rfl) (Nat.le_of_ble_eq_true rfl) dX6_ends_47 zE.nx (zE_kk ?_)
        refine pw_if_eq 55 dX6_ends_50 (by decide) (fun c_50 => ?_) (fun c_50 => ?_)
        · rw [show sp_ends S x = _ from (spNeed_t ((inB_le (m := 2) (by decide)).mpr c_12)).trans (spNeed_t (decide_eq_true c_37))]
          refine pw_aload_n dX6_ends_55 0 rfl rfl ?_
          refine pw_aload_n dX6_ends_56 0 rfl rfl ?_
          refine pw_getr 12 zc_X6 (ts_this hM) (by decide) q1998 (Or.inr ⟨_, rfl⟩) (tr_told hM) dX6_ends_57 ?_
          refine pw_iconst (v := 5) dX6_ends_60 (by decide) ?_
          refine pw_iald 5 rfl (ts_told hM) (by decide) (by decide) dX6_ends_61 ?_
          rw [hT0.told (k := 5) (by decide)]
          refine pw_callV1 zmM_X6_allOrders rfl (lw_V q2511 q2513 qs111 q150 q2514) rfl (ts_this hM) zc_X6 (t_allOrders hM hT0 hW c_37 _ hW.law) (by decide) (Nat.le_refl _) (Nat.le_refl _) rfl (Nat.le_of_ble_eq_true rfl) (Nat.le_of_ble_eq_true rfl) dX6_ends_62 (by intros; rintro ⟨h, _⟩; cases h) (fun v1 g1 n1 h1 => ?_)
          obtain ⟨h1, rfl, hP, hfg⟩ := h1; cases h1; obtain ⟨hT1, hth1, hf1⟩ := t_after3 hT0 hW hth hf0 hfg
          have hS := (pAll_sim S (sN S 0 5) (zai n0 at_bestRow) (zai n0 at_worstRow)).1
          refine pw_iload_n dX6_ends_65 1 rfl rfl ?_
          refine pw_if_ne 76 dX6_ends_66 (by decide) (fun c_66 => ?_) (fun c_66 => ?_)
          · refine pw_iload_n dX6_ends_76 1 rfl rfl ?_
            refine pw_iconst (v := 1) dX6_ends_77 (by decide) ?_
            refine pw_icmp_ne 88 dX6_ends_78 (by decide) (fun c_78 => ?_) (fun c_78 => ?_)
            · refine pw_iconst (v := 1) dX6_ends_88 (by decide) ?_
              refine pw_aload_n dX6_ends_89 0 rfl rfl ?_
              refine pw_getr 12 zc_X6 (ts_this hM) (by decide) q1998 (Or.inr ⟨_, rfl⟩) (tr_told hM) dX6_ends_90 ?_
              refine pw_iconst (v := 1) dX6_ends_93 (by decide) ?_
              refine pw_iald 1 rfl (ts_told hM) (by decide) (by decide) dX6_ends_94 ?_
              rw [hT1.told (k := 1) (by decide)]
              refine pw_ishl dX6_ends_95 ?_
              rw [ishl1 (by omega)]
              refine pw_iconst (v := 1) dX6_ends_96 (by decide) ?_
              refine pw_isub dX6_ends_97 ?_
              rw [show nI (2 ^ sN S 0 1) - 1 = nI (2 ^ sN S 0 1 - 1) from nI_sub (Nat.one_le_two_pow)]
              refine pw_aload_n dX6_ends_98 0 rfl rfl ?_
              refine pw_geti 53 zc_X6 (ts_this hM) (by decide) q2039 (Or.inl rfl) dX6_ends_99 ?_
              rw [show zfi n1 aT tf_ever = pFin S (sN S 0 5) 4 1 from (hP.2 1 (by decide)).trans (hS 4 1 (by decide) (by decide))]
              refine pw_iconst (v := (-1)) dX6_ends_102 (by decide) ?_
              refine pw_ixor dX6_ends_103 ?_
              refine pw_iand dX6_ends_104 ?_
              refine pw_iret rfl dX6_ends_105 ?_
              exact tQ_eq (by rw [if_neg c_66, if_neg c_78]) (t_qok hT1 hth1 hf1 _)
            · refine pw_aload_n dX6_ends_81 0 rfl rfl ?_
              refine pw_geti 52 zc_X6 (ts_this hM) (by decide) q2038 (Or.inl rfl) dX6_ends_82 ?_
              rw [show zfi n1 aT tf_always = pFin S (sN S 0 5) 4 0 from (hP.2 0 (by decide)).trans (hS 4 0 (by decide) (by decide))]
              refine pw_goto 105 dX6_ends_85 (by decide) ?_
              refine pw_iret rfl dX6_ends_105 ?_
              exact tQ_eq (by rw [if_neg c_66, if_pos c_78]) (t_qok hT1 hth1 hf1 _)
          · refine pw_aload_n dX6_ends_69 0 rfl rfl ?_
            refine pw_geti 54 zc_X6 (ts_this hM) (by decide) q2040 (Or.inl rfl) dX6_ends_70 ?_
            rw [show zfi n1 aT tf_unlike = pFin S (sN S 0 5) 4 2 from (hP.2 2 (by decide)).trans (hS 4 2 (by decide) (by decide))]
            refine pw_goto 105 dX6_ends_73 (by decide) ?_
            refine pw_iret rfl dX6_ends_105 ?_
            exact tQ_eq (by rw [if_pos c_66]) (t_qok hT1 hth1 hf1 _)
        · exact absurd rfl c_50
      · refine pw_iconst (v := 1) dX6_ends_40 (by decide) ?_
        refine pw_goto 45 dX6_ends_41 (by decide) ?_
        refine pw_iconst (v := 2) dX6_ends_45 (by decide) ?_
        refine pw_iconst (v := 2) dX6_ends_46 (by decide) ?_
        refine pw_callV3 zmM_X6_bad rfl (lw_V q2188 q2190 qs62 q150 q2191) rfl (ts_this hM) zc_X6 (t_bad1 hM 2 (by decide) 2 (by decide) hth) (by decide) (Nat.le_refl _) (Nat.le_refl _) rfl (Nat.le_of_ble_eq_true rfl) (Nat.le_of_ble_eq_true rfl) dX6_ends_47 zE.nx (zE_kk ?_)
        refine pw_if_eq 55 dX6_ends_50 (by decide) (fun c_50 => ?_) (fun c_50 => ?_)
        · exact absurd c_50 (by decide)
        · refine pw_iconst (v := 0) dX6_ends_53 (by decide) ?_
          refine pw_iret rfl dX6_ends_54 ?_
          exact tQ_eq ((spNeed_t ((inB_le (m := 2) (by decide)).mpr c_12)).trans (spNeed_f (by rw [decide_eq_true_eq]; omega))) (t_qbad hT0 hW hf0 2 2 (by decide) _)
  · refine pw_iconst (v := 1) dX6_ends_15 (by decide) ?_
    refine pw_goto 20 dX6_ends_16 (by decide) ?_
    refine pw_iconst (v := 1) dX6_ends_20 (by decide) ?_
    refine pw_iconst (v := 1) dX6_ends_21 (by decide) ?_
    refine pw_callV3 zmM_X6_bad rfl (lw_V q2188 q2190 qs62 q150 q2191) rfl (ts_this hM) zc_X6 (t_bad1 hM 1 (by decide) 1 (by decide) hth) (by decide) (Nat.le_refl _) (Nat.le_refl _) rfl (Nat.le_of_ble_eq_true rfl) (Nat.le_of_ble_eq_true rfl) dX6_ends_22 zE.nx (zE_kk ?_)
    refine pw_if_ne 53 dX6_ends_25 (by decide) (fun c_25 => ?_) (fun c_25 => ?_)
    · refine pw_iconst (v := 0) dX6_ends_53 (by decide) ?_
      refine pw_iret rfl dX6_ends_54 ?_
      exact tQ_eq (spNeed_f (fun h => c_12 ((inB_le (m := 2) (by decide)).mp h))) (t_qbad hT0 hW hf0 1 1 (by decide) _)
    · exact absurd c_25 (by decide)

/-! ===== an order is visited ===== -/
theorem pg_free {L : List Nat} {m : Nat} (h : L.length < m) : ∃ k, k < m ∧ ¬ k ∈ L := by
  by_cases hc : ∃ k, k < m ∧ ¬ k ∈ L
  · exact hc
  · exfalso
    have hall : ∀ k, k < m → k ∈ L := fun k hk => Classical.byContradiction (fun z => hc ⟨k, hk, z⟩)
    have hne : 0 < L.length := by
      have := hall 0 (by omega)
      exact List.length_pos_of_mem this
    have hp := pg_si m (fun k => if k < L.length then L.getD k 0 else L.getD 0 0) (fun d hd => by
      obtain ⟨i, hi, he⟩ := List.mem_iff_getElem.mp (hall d hd)
      refine ⟨i, by omega, ?_⟩
      show (if i < L.length then L.getD i 0 else L.getD 0 0) = d
      rw [if_pos hi, List.getD_eq_getElem?_getD, List.getElem?_eq_getElem hi]
      exact he)
    have := hp.2 0 L.length (by omega) h (by
      show (if 0 < L.length then L.getD 0 0 else L.getD 0 0) = (if L.length < L.length then L.getD L.length 0 else L.getD 0 0)
      rw [if_pos hne, if_neg (Nat.lt_irrefl _)])
    omega
theorem oLp_hit {α : Type} {Q : α → Prop} {f : Nat → α → α} (hk : ∀ k x, Q x → Q (f k x)) (k0 : Nat) (h0 : ∀ x, Q (f k0 x)) : ∀ N x, k0 < N → Q (oLp f N x)
  | 0, _, h => absurd h (Nat.not_lt_zero _)
  | N + 1, x, h => by
    rw [oLp]
    by_cases e : k0 = N
    · subst e; exact h0 _
    · exact hk _ _ (oLp_hit hk k0 h0 N x (by omega))
theorem oVis_keep {α : Type} {Q : α → Prop} {m : Nat} {F : List Nat → α → α} (hF : ∀ L x, Q x → Q (F L x)) : ∀ r L x, Q x → Q (oVis m F r L x)
  | 0, L, x, h => hF L x h
  | r + 1, L, x, h => by
    rw [oVis]
    refine oLp_rel (R := fun (y : α) (_ : α) => Q y) m (f' := fun _ y => y) (fun k y y' _ hy => ?_) m (Nat.le_refl _) x x h
    split
    · exact hy
    · exact oVis_keep hF r _ y hy
theorem oVis_hit {α : Type} {Q : α → Prop} {m : Nat} {F : List Nat → α → α} (hF : ∀ L x, Q (F L x)) : ∀ r L x, L.length + r = m → Q (oVis m F r L x)
  | 0, L, x, _ => hF L x
  | r + 1, L, x, hl => by
    obtain ⟨k, hk, hn⟩ := pg_free (L := L) (m := m) (by omega)
    rw [oVis]
    refine oLp_hit (fun j y hy => ?_) k (fun y => ?_) m x hk
    · split
      · exact hy
      · exact oVis_keep (fun L x _ => hF L x) r _ y hy
    · rw [if_neg hn]
      exact oVis_hit hF r (L ++ [k]) y (by rw [List.length_append]; simp only [List.length_cons, List.length_nil]; omega)

/-! ===== the reference: best, worst ===== -/
theorem pLf_44 (S : zS) (law : Nat) (L : List Nat) (A : zYa) : ¬ pLf S law L A 4 4 = -1 := by
  have e : pLf S law L A 4 4 = if A 4 4 < pTru S law L then pTru S law L else A 4 4 := by unfold pLf; rw [plR_eq]; simp
  have hr : (pTru S law L).toInt = (spTru S (pEnd S law L) : Int) := nI_toInt (by have := spTru_le S (pEnd S law L); omega)
  rw [e]
  split
  · intro h
    have := congrArg Int32.toInt h
    rw [hr, show (-1 : Int32).toInt = -1 from by decide] at this
    omega
  · next h =>
    intro h2
    rw [h2, Int32.lt_iff_toInt_lt, hr, show (-1 : Int32).toInt = -1 from by decide] at h
    omega
/-- the best row, once there is one, is an order -/
def pBp (m : Nat) (A : zYa) : Prop := A 4 4 = -1 ∨ ∃ L : List Nat, L.length = m ∧ (∀ b, b ∈ L → b < m) ∧ L.Nodup ∧ ∀ k, k < m → A 2 k = nI (L.getD k 0)
theorem pLf_bp {S : zS} {law m : Nat} {L : List Nat} (hl : L.length = m) (hL : ∀ b, b ∈ L → b < m) (hn : L.Nodup) {A : zYa} (h : pBp m A) : pBp m (pLf S law L A) := by
  have e : pLf S law L A 4 4 = if A 4 4 < pTru S law L then pTru S law L else A 4 4 := by unfold pLf; rw [plR_eq]; simp
  have e2 : ∀ k, pLf S law L A 2 k = if A 4 4 < pTru S law L ∧ k < L.length then nI (L.getD k 0) else A 2 k := fun k => by unfold pLf; rw [plR_eq]; simp
  by_cases c : A 4 4 < pTru S law L
  · exact Or.inr ⟨L, hl, hL, hn, fun k hk => by rw [e2, if_pos ⟨c, by omega⟩]⟩
  · rcases h with h | ⟨L', a1, a2, a3, a4⟩
    · exact Or.inl (by rw [e, if_neg c]; exact h)
    · exact Or.inr ⟨L', a1, a2, a3, fun k hk => by rw [e2, if_neg (fun w => c w.1)]; exact a4 k hk⟩
theorem getD_perm {L : List Nat} {m : Nat} (hl : L.length = m) (hL : ∀ b, b ∈ L → b < m) (hn : L.Nodup) : isPerm (fun k => L.getD k 0) m := by
  have g : ∀ k (hk : k < L.length), L.getD k 0 = L[k] := fun k hk => by rw [List.getD_eq_getElem?_getD, List.getElem?_eq_getElem hk]; rfl
  refine ⟨fun k hk => ?_, fun i j hi hj e => ?_⟩
  · show L.getD k 0 < m
    rw [g k (by omega)]; exact hL _ (List.getElem_mem _)
  · replace e : L.getD i 0 = L.getD j 0 := e
    rw [g i (by omega), g j (by omega)] at e
    exact (List.getElem_inj hn).mp e
theorem pFin_best {S : zS} (law : Nat) : ¬ pFin S law 4 4 = -1 ∧ ∃ f : Nat → Nat, isPerm f (sN S 0 1) ∧ ∀ k, k < sN S 0 1 → pFin S law 2 k = nI (f k) := by
  have h1 : ¬ pFin S law 4 4 = -1 := oVis_hit (Q := fun A : zYa => ¬ A 4 4 = -1) (pLf_44 S law) (sN S 0 1) [] _ (by simp)
  refine ⟨h1, ?_⟩
  have h2 : pBp (sN S 0 1) (pFin S law) := oVis_rel (R := fun (A : zYa) (_ : zYa) => pBp (sN S 0 1) A) (F' := fun _ y => y) (fun L x x' a b c h => pLf_bp a b c h) (sN S 0 1) [] _ (pIni S (fun _ => 0) (fun _ => 0)) (by simp) (fun b hb => nomatch hb) List.nodup_nil (Or.inl rfl)
  rcases h2 with h2 | ⟨L, a1, a2, a3, a4⟩
  · exact absurd h2 h1
  · exact ⟨fun k => L.getD k 0, getD_perm a1 a2 a3, a4⟩
def bstF (S : zS) (k : Nat) : Nat := if k < sN S 0 1 then (pFin S (sN S 0 5) 2 k).toNatClampNeg else sN S 2 k
def sp_best (S : zS) : Int32 × Value × zS := spNeed S (decide (sN S 0 1 ≤ 7)) 1 2 (.int 0) (0, .int (pFin S (sN S 0 5) 4 4), sOrd S (bstF S))
theorem t_best {g : zg_G} {n : zg_N} {S : zS} (hM : TSh g) (hT : TW n S) (hW : WF S) : PW zm_X6_best 17 (tQ g n (sp_best S)) 0 0 0 [(0, .ref aT)] [] g n := by
  have hs := hW.slips
  obtain ⟨hne, f, hfp, hff⟩ := pFin_best (S := S) (sN S 0 5)
  have hlp : ∀ n1, TW n1 S → zfi n1 aT tf_thrown = 0 → zFr tXF tXA n n1 → zfi n1 aT tf_bestTrues = pFin S (sN S 0 5) 4 4 → (∀ k, k < sN S 0 1 → zai n1 at_bestRow k = pFin S (sN S 0 5) 2 k) → ∀ k, k ≤ sN S 0 1 → ∀ n2, zFr (fun _ _ => False) (fun a => a = at_order) n1 n2 → (∀ j, zal n2 at_order j = zal n1 at_order j) → (∀ j, zai n2 at_order j = if j < k then pFin S (sN S 0 5) 2 j else zai n1 at_order j) →
      PW zm_X6_best 17 (tQ g n (0, .int (pFin S (sN S 0 5) 4 4), sOrd S (bstF S))) 0 0 44 [(0, .ref aT), (1, .int (nI k))] [] g n2 := by
    intro n1 hT1 hth1 hf1 hbt hbr
    refine zl_up _ (fun k hk ih n2 hf2 hl2 ho2 => ?_)
    have htold : zai n2 at_told 1 = nI (sN S 0 1) := ((hf2.2 at_told (by decide) 1).1).trans (hT1.told (by decide))
    refine pw_iload_n dX6_best_44 1 rfl rfl ?_
    refine pw_aload_n dX6_best_45 0 rfl rfl ?_
    refine pw_getr 12 zc_X6 (ts_this hM) (by decide) q1998 (Or.inr ⟨_, rfl⟩) (tr_told hM) dX6_best_46 ?_
    refine pw_iconst (v := 1) dX6_best_49 (by decide) ?_
    refine pw_iald 1 rfl (ts_told hM) (by decide) (by decide) dX6_best_50 ?_
    rw [htold]
    refine pw_icmp_ge_N 72 dX6_best_51 (by decide) (by omega) (by omega) (fun c_51 => ?_) (fun c_51 => ?_)
    · refine pw_aload_n dX6_best_72 0 rfl rfl ?_
      refine pw_geti 56 zc_X6 (ts_this hM) (by decide) q2042 (Or.inl rfl) dX6_best_73 ?_
      rw [(hf2.1 aT tf_bestTrues (fun z => z)).1, hbt]
      refine pw_iret rfl dX6_best_76 ?_
      have hks : k = sN S 0 1 := by omega
      subst hks
      refine ⟨rfl, rfl, hT1.ord hW _ hf2 hl2 (fun j hj => ?_), (hf2.1 aT tf_thrown (fun q => q)).1.trans hth1, hf1.tr (hf2.mono (fun _ _ q => q.elim) (fun a ha => by subst ha; constructor <;> decide))⟩
      rw [ho2 j]
      unfold bstF
      by_cases h2 : j < sN S 0 1
      · rw [if_pos h2, if_pos h2, hff j h2, nI_clamp (by have := hfp.1 j h2; omega)]
      · rw [if_neg h2, if_neg h2]; exact hT1.od hj
    · refine pw_aload_n dX6_best_54 0 rfl rfl ?_
      refine pw_getr 21 zc_X6 (ts_this hM) (by decide) q2007 (Or.inr ⟨_, rfl⟩) (tr_order hM) dX6_best_55 ?_
      refine pw_iload_n dX6_best_58 1 rfl rfl ?_
      refine pw_aload_n dX6_best_59 0 rfl rfl ?_
      refine pw_getr 58 zc_X6 (ts_this hM) (by decide) q2044 (Or.inr ⟨_, rfl⟩) (tr_bestRow hM) dX6_best_60 ?_
      refine pw_iload_n dX6_best_63 1 rfl rfl ?_
      refine pw_iald k rfl (ts_bestRow hM) (by omega) (by decide) dX6_best_64 ?_
      rw [(hf2.2 at_bestRow (by decide) k).1, hbr k c_51]
      refine pw_iast k rfl (ts_order hM) (by decide) (by omega) (by decide) dX6_best_65 ?_
      refine pw_iinc1 (j := 1) (ls' := [(1, _), (0, _)]) dX6_best_66 rfl (by decide) rfl ?_
      refine pw_ls [1, 0] (ls' := [(0, _), (1, _)]) rfl ?_
      refine pw_goto 44 dX6_best_69 (by decide) ?_
      exact ih (k + 1) (by omega) (by omega) _ (hf2.pai rfl) hl2 (fun j => by
        rw [zai_p]
        by_cases hj : j = k
        · subst hj; rw [if_pos ⟨rfl, rfl⟩, if_pos (by omega)]
        · rw [if_neg (fun z => hj z.2), ho2 j]
          by_cases h2 : j < k
          · rw [if_pos h2, if_pos (by omega)]
          · rw [if_neg h2, if_neg (by omega)])
  refine pw_aload_n dX6_best_0 0 rfl rfl ?_
  refine pw_iconst (v := 0) dX6_best_1 (by decide) ?_
  refine pw_puti 0 zc_X6 (ts_this hM) (by decide) (by decide) q1986 rfl (Or.inl rfl) rfl rfl dX6_best_2 ?_
  obtain ⟨hT0, hth, hf0⟩ := t_start hT hW; generalize zpfi n aT 0 0 = n0 at hT0 hth hf0 ⊢
  refine pw_aload_n dX6_best_5 0 rfl rfl ?_
  refine pw_aload_n dX6_best_6 0 rfl rfl ?_
  refine pw_getr 12 zc_X6 (ts_this hM) (by decide) q1998 (Or.inr ⟨_, rfl⟩) (tr_told hM) dX6_best_7 ?_
  refine pw_iconst (v := 1) dX6_best_10 (by decide) ?_
  refine pw_iald 1 rfl (ts_told hM) (by decide) (by decide) dX6_best_11 ?_
  rw [hT0.told (k := 1) (by decide)]
  refine pw_bipush (v := 7) dX6_best_12 (by decide) ?_
  refine pw_icmp_le_N (b := 7) 21 dX6_best_14 (by decide) (by omega) (by omega) (fun c_14 => ?_) (fun c_14 => ?_)
  · refine pw_iconst (v := 0) dX6_best_21 (by decide) ?_
    refine pw_iconst (v := 1) dX6_best_22 (by decide) ?_
    refine pw_iconst (v := 2) dX6_best_23 (by decide) ?_
    refine pw_callV3 zmM_X6_bad rfl (lw_V q2188 q2190 qs62 q150 q2191) rfl (ts_this hM) zc_X6 (t_bad0 hM 1 (by decide) 2 (by decide) hth) (by decide) (Nat.le_refl _) (Nat.le_refl _) rfl (Nat.le_of_ble_eq_true rfl) (Nat.le_of_ble_eq_true rfl) dX6_best_24 zE.nx (zE_kk ?_)
    refine pw_if_eq 32 dX6_best_27 (by decide) (fun c_27 => ?_) (fun c_27 => ?_)
    · rw [show sp_best S = _ from spNeed_t (decide_eq_true c_14)]
      refine pw_aload_n dX6_best_32 0 rfl rfl ?_
      refine pw_aload_n dX6_best_33 0 rfl rfl ?_
      refine pw_getr 12 zc_X6 (ts_this hM) (by decide) q1998 (Or.inr ⟨_, rfl⟩) (tr_told hM) dX6_best_34 ?_
      refine pw_iconst (v := 5) dX6_best_37 (by decide) ?_
      refine pw_iald 5 rfl (ts_told hM) (by decide) (by decide) dX6_best_38 ?_
      rw [hT0.told (k := 5) (by decide)]
      refine pw_callV1 zmM_X6_allOrders rfl (lw_V q2511 q2513 qs111 q150 q2514) rfl (ts_this hM) zc_X6 (t_allOrders hM hT0 hW c_14 _ hW.law) (by decide) (Nat.le_refl _) (Nat.le_refl _) rfl (Nat.le_of_ble_eq_true rfl) (Nat.le_of_ble_eq_true rfl) dX6_best_39 (by intros; rintro ⟨h, _⟩; cases h) (fun v1 g1 n1 h1 => ?_)
      obtain ⟨h1, rfl, hP, hfg⟩ := h1; cases h1; obtain ⟨hT1, hth1, hf1⟩ := t_after3 hT0 hW hth hf0 hfg
      have hS := pAll_sim S (sN S 0 5) (zai n0 at_bestRow) (zai n0 at_worstRow)
      refine pw_iconst (v := 0) dX6_best_42 (by decide) ?_
      refine pw_istore_n (ls' := [(1, _), (0, _)]) dX6_best_43 rfl (by decide) rfl ?_
      refine pw_ls [1, 0] (ls' := [(0, _), (1, _)]) rfl ?_
      have e44 := hS.1 4 4 (by decide) (by decide)
      exact hlp n1 hT1 hth1 hf1 ((hP.2 4 (by decide)).trans e44) (fun k hk => (hP.1 2 (by decide) k (by rw [if_neg (by decide)]; omega)).trans (hS.2.1.elim (fun z => absurd (e44.symm.trans z) hne) (fun z => z k hk))) 0 (Nat.zero_le _) n1 zFr.rf (fun _ => rfl) (fun j => by rw [if_neg (Nat.not_lt_zero _)])
    · exact absurd rfl c_27
  · refine pw_iconst (v := 1) dX6_best_17 (by decide) ?_
    refine pw_goto 22 dX6_best_18 (by decide) ?_
    refine pw_iconst (v := 1) dX6_best_22 (by decide) ?_
    refine pw_iconst (v := 2) dX6_best_23 (by decide) ?_
    refine pw_callV3 zmM_X6_bad rfl (lw_V q2188 q2190 qs62 q150 q2191) rfl (ts_this hM) zc_X6 (t_bad1 hM 1 (by decide) 2 (by decide) hth) (by decide) (Nat.le_refl _) (Nat.le_refl _) rfl (Nat.le_of_ble_eq_true rfl) (Nat.le_of_ble_eq_true rfl) dX6_best_24 zE.nx (zE_kk ?_)
    refine pw_if_eq 32 dX6_best_27 (by decide) (fun c_27 => ?_) (fun c_27 => ?_)
    · exact absurd c_27 (by decide)
    · refine pw_iconst (v := 0) dX6_best_30 (by decide) ?_
      refine pw_iret rfl dX6_best_31 ?_
      exact tQ_eq (spNeed_f (by rw [decide_eq_true_eq]; omega)) (t_qbad hT0 hW hf0 1 2 (by decide) _)
theorem WF.best {S : zS} (hW : WF S) : WF (sOrd S (bstF S)) := by
  have hs := hW.slips
  obtain ⟨-, f, hfp, hff⟩ := pFin_best (S := S) (sN S 0 5)
  have e : ∀ k, k < sN S 0 1 → bstF S k = f k := fun k hk => by unfold bstF; rw [if_pos hk, hff k hk, nI_clamp (by have := hfp.1 k hk; omega)]
  refine hW.ordd _ (fun k hk => ?_) ⟨fun k hk => by rw [e k hk]; exact hfp.1 k hk, fun i j hi hj h => hfp.2 i j hi hj (by rw [e i hi, e j hj] at h; exact h)⟩
  by_cases h : k < sN S 0 1
  · rw [e k h]; have := hfp.1 k h; omega
  · unfold bstF; rw [if_neg h]; exact hW.ord hk

/-! ===== how often it hurts in a year ===== -/
theorem yKill_52 (A : zYa) (k w : Nat) : yKill A k w 5 2 = A 5 2 := by simp [yKill, zu2]
theorem yDrop_52 (A : zYa) (k b w : Nat) : yDrop A k b w 5 2 = A 5 2 := by simp [yDrop, zu2]
theorem yKl_52 {S : zS} {w : Nat} : ∀ (r pre : List Nat) (A : zYa), (yKl S w pre r A).2 5 2 = A 5 2
  | [], _, _ => rfl
  | k :: r, pre, A => by
    rw [yKl]; split
    · rw [yKl_52 r, yKill_52]
    · rw [yKl_52 r]
theorem yMt_52 {S : zS} {law w k : Nat} : ∀ (r pre : List Nat) (A : zYa), (yMt S law w k pre r A).2 5 2 = A 5 2
  | [], _, _ => rfl
  | o :: r, pre, A => by
    rw [yMt]; split
    · rfl
    · split
      · rw [yMt_52 r]
      · split
        · rw [yMt_52 r, yDrop_52]
        · split
          · show yDrop A k o w 5 2 = A 5 2
            rw [yDrop_52]
          · show yDrop (yDrop A k o w) o k w 5 2 = A 5 2
            rw [yDrop_52, yDrop_52]
theorem yAg_52 {S : zS} : ∀ (L : List Nat) (A : zYa) (c : Nat), A 5 2 = nI c → ∃ c2, c2 ≤ c + L.length ∧ yAg S L A 5 2 = nI c2
  | [], _, c, h => ⟨c, by simp, h⟩
  | k :: r, A, c, h => by
    rw [yAg]
    have h1 : ∃ c1, c1 ≤ c + 1 ∧ yAg1 S A k 5 2 = nI c1 := by
      unfold yAg1
      split
      · exact ⟨c, by omega, by simp [zu2, h]⟩
      · exact ⟨c + 1, by omega, by simp [yHurt, zu2, h]; exact nI_1 c⟩
    obtain ⟨c1, h2, h3⟩ := h1
    obtain ⟨c2, h4, h5⟩ := yAg_52 r _ c1 h3
    exact ⟨c2, by simp only [List.length_cons]; omega, h5⟩
theorem yRun_52 {S : zS} {law : Nat} {d : Nat → Option Nat} (hd : ∀ w k, d w = some k → okb S k ∧ w < 17) : ∀ w, ∃ c, c ≤ 17 * w ∧ (yRun S law d w).2 5 2 = nI c
  | 0 => ⟨0, by omega, rfl⟩
  | w + 1 => by
    obtain ⟨c, hc, he⟩ := yRun_52 (law := law) hd w
    have hm : (yMon S law w (d w) (yRun S law d w)).2 5 2 = nI c := by
      cases hdw : d w with
      | none => exact (yKl_52 _ _ _).trans he
      | some k =>
        show (yMeet S law w k (yKl S w [] (yRun S law d w).1 (yRun S law d w).2)).2 5 2 = nI c
        unfold yMeet
        split
        · show yKill (zu2 (yKl S w [] (yRun S law d w).1 (yRun S law d w).2).2 0 k (nI w)) k w 5 2 = nI c
          rw [yKill_52, zu2, if_neg (fun z => absurd z.1 (by decide)), yKl_52]; exact he
        · rw [yMt_52, zu2, if_neg (fun z => absurd z.1 (by decide)), yKl_52]; exact he
    obtain ⟨c2, h1, h2⟩ := yAg_52 (S := S) (yMon S law w (d w) (yRun S law d w)).1 _ c hm
    have hl : (yMon S law w (d w) (yRun S law d w)).1.length ≤ 17 := (yRun_ok (law := law) hd (w + 1)).2.2
    exact ⟨c2, by omega, h2⟩

