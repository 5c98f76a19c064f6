/-! ===== WHAT IS TOLD: the abstract state that the class and the reference share =====
 numbers: group 0: 0 atoms, 1 slips, 2 seeings, 3 salts, 4 world, 5 law, 6 images, 7 bytes on the tape; 1: weeks of seeings; 2: the order; 3: the tape; 10 + i: image i (world, law, order)
 worlds: 0 models (salts from 12 on), 1 what is seen, 2 what is left in a week, 3 the question at 0
 ints: 0 refused, 1 the place of the fault at 0;  the tongue: who falls, on what ground -/
abbrev zG : Type := (Nat → Int32) → Bool
abbrev zS : Type := (Nat → Nat → Nat) × (Nat → Nat → Int64) × (Nat → Nat → Int32) × List (Nat × zG)
abbrev sN (S : zS) (a k : Nat) : Nat := S.1 a k
abbrev sL (S : zS) (a k : Nat) : Int64 := S.2.1 a k
abbrev sI (S : zS) (a k : Nat) : Int32 := S.2.2.1 a k
abbrev sT (S : zS) : List (Nat × zG) := S.2.2.2
/-- a belief that there is: a slip, or a salt -/
def okb (S : zS) (k : Nat) : Prop := k < sN S 0 1 ∨ (12 ≤ k ∧ k < 12 + sN S 0 3)
/-- all worlds of so many atoms -/
def wAll (a : Nat) : Int64 := if a = 6 then -1 else lN (2 ^ 2 ^ a) - 1
/-- a row that puts the first m in an order -/
def isPerm (f : Nat → Nat) (m : Nat) : Prop := (∀ k, k < m → f k < m) ∧ ∀ i j, i < m → j < m → f i = f j → i = j
def WF (S : zS) : Prop :=
  (1 ≤ sN S 0 0 ∧ sN S 0 0 ≤ 6 ∧ sN S 0 1 ≤ 12 ∧ sN S 0 2 ≤ 12 ∧ sN S 0 3 ≤ 5 ∧ sN S 0 4 < 2 ^ sN S 0 0 ∧ sN S 0 5 ≤ 4 ∧ sN S 0 6 ≤ 3 ∧ sN S 0 7 ≤ 600) ∧
  (∀ k, k < sN S 0 2 → sN S 1 k < 52) ∧ ((∀ k, k < 12 → sN S 2 k < 12) ∧ isPerm (sN S 2) (sN S 0 1)) ∧ (∀ k, k < sN S 0 7 → sN S 3 k < 256) ∧
  (∀ i, i < sN S 0 6 → sN S (10 + i) 0 < 2 ^ sN S 0 0 ∧ sN S (10 + i) 1 ≤ 4 ∧ (∀ k, k < 12 → sN S (10 + i) (2 + k) < 12) ∧ isPerm (fun k => sN S (10 + i) (2 + k)) (sN S 0 1)) ∧
  (∀ k, okb S k → sL S 0 k &&& wAll (sN S 0 0) = sL S 0 k) ∧ (∀ w, w < 52 → sL S 2 w &&& wAll (sN S 0 0) = sL S 2 w) ∧
  (sT S).length ≤ 10 ∧ ∀ q ∈ sT S, q.1 ≤ 2
theorem WF.atoms {S : zS} (h : WF S) : 1 ≤ sN S 0 0 ∧ sN S 0 0 ≤ 6 := ⟨h.1.1, h.1.2.1⟩
theorem WF.slips {S : zS} (h : WF S) : sN S 0 1 ≤ 12 := h.1.2.2.1
theorem WF.sees {S : zS} (h : WF S) : sN S 0 2 ≤ 12 := h.1.2.2.2.1
theorem WF.salts {S : zS} (h : WF S) : sN S 0 3 ≤ 5 := h.1.2.2.2.2.1
theorem WF.world {S : zS} (h : WF S) : sN S 0 4 < 2 ^ sN S 0 0 := h.1.2.2.2.2.2.1
theorem WF.law {S : zS} (h : WF S) : sN S 0 5 ≤ 4 := h.1.2.2.2.2.2.2.1
theorem WF.imgs {S : zS} (h : WF S) : sN S 0 6 ≤ 3 := h.1.2.2.2.2.2.2.2.1
theorem WF.taped {S : zS} (h : WF S) : sN S 0 7 ≤ 600 := h.1.2.2.2.2.2.2.2.2
theorem WF.week {S : zS} (h : WF S) {k : Nat} (hk : k < sN S 0 2) : sN S 1 k < 52 := h.2.1 k hk
theorem WF.ord {S : zS} (h : WF S) {k : Nat} (hk : k < 12) : sN S 2 k < 12 := h.2.2.1.1 k hk
theorem WF.perm {S : zS} (h : WF S) : isPerm (sN S 2) (sN S 0 1) := h.2.2.1.2
theorem WF.byte {S : zS} (h : WF S) {k : Nat} (hk : k < sN S 0 7) : sN S 3 k < 256 := h.2.2.2.1 k hk
theorem WF.modAll {S : zS} (h : WF S) {k : Nat} (hk : okb S k) : sL S 0 k &&& wAll (sN S 0 0) = sL S 0 k := h.2.2.2.2.2.1 k hk
theorem WF.leftAll {S : zS} (h : WF S) {w : Nat} (hw : w < 52) : sL S 2 w &&& wAll (sN S 0 0) = sL S 2 w := h.2.2.2.2.2.2.1 w hw
theorem WF.tl {S : zS} (h : WF S) : (sT S).length ≤ 10 := h.2.2.2.2.2.2.2.1
theorem WF.who {S : zS} (h : WF S) {q : Nat × zG} (hq : q ∈ sT S) : q.1 ≤ 2 := h.2.2.2.2.2.2.2.2 q hq
theorem WF.world64 {S : zS} (h : WF S) : sN S 0 4 < 64 := Nat.lt_of_lt_of_le h.world (Nat.pow_le_pow_right (by decide) h.atoms.2)
theorem okb.lt {S : zS} (h : WF S) {k : Nat} (hk : okb S k) : k < 17 := by
  have := h.slips; have := h.salts
  rcases hk with h | h <;> omega
/-! the codes of a tongue, run: a stack of ints (its top first) -/
def tBy (how : Nat) (u v : Int32) : Int32 :=
  if how = 2 then u + v else if how = 3 then u - v else if how = 4 then u * v else if how = 5 then zb (u < v) else if how = 6 then zb (v < u) else if how = 7 then zb (u = v) else if how = 9 then u * v else zb (0 < u + v)
def tStep (fc : Nat → Int32) (c : Nat × Int32) (st : List Int32) : List Int32 :=
  if c.1 = 0 then c.2 :: st else if c.1 = 1 then fc c.2.toNatClampNeg :: st else if c.1 = 8 then (match st with | u :: r => (1 - u) :: r | [] => []) else (match st with | v :: u :: r => tBy c.1 u v :: r | _ => [])
def tRun (fc : Nat → Int32) (c : Nat → Nat × Int32) : Nat → Nat → List Int32 → List Int32
  | _, 0, st => st
  | i, m + 1, st => tRun fc c (i + 1) m (tStep fc (c i) st)
/-- the codes from i on, so many, are well made: the stack, h high at first, is h' high in the end and never asks for more than there is -/
def tOk (c : Nat → Nat × Int32) : Nat → Nat → Nat → Nat → Prop
  | _, 0, h, h' => h' = h
  | i, m + 1, h, h' => ((c i).1 = 0 ∧ tOk c (i + 1) m (h + 1) h') ∨ ((c i).1 = 1 ∧ (∃ k, k < 10 ∧ (c i).2 = nI k) ∧ tOk c (i + 1) m (h + 1) h') ∨ ((c i).1 = 8 ∧ 1 ≤ h ∧ tOk c (i + 1) m h h') ∨ ((c i).1 ≠ 8 ∧ 2 ≤ (c i).1 ∧ (c i).1 ≤ 10 ∧ 2 ≤ h ∧ tOk c (i + 1) m (h - 1) h')
/-- what a ground's codes say -/
def tGr (c : Nat → Nat × Int32) (i m : Nat) (f : zG) : Prop := tOk c i m 0 1 ∧ ∀ fc, tRun fc c i m [] = [if f fc then 1 else 0]
/-! the reference's numbers represent the state -/
def tCd (n : zg_N) (c : Nat → Nat × Int32) (N : Nat) : Prop := ∀ i, i < N → zai n (at_code + 1 + i) 0 = nI (c i).1 ∧ zai n (at_code + 1 + i) 1 = (c i).2
def TWg (n : zg_N) (T : List (Nat × zG)) : Prop := zfi n aT tf_whos = nI T.length ∧ ∃ (c : Nat → Nat × Int32) (N : Nat), N ≤ 200 ∧ tCd n c N ∧ ∀ (k : Nat) (q : Nat × zG), T[k]? = some q → ∃ i m, i + m ≤ N ∧ zai n (at_who + 1 + k) 0 = nI q.1 ∧ zai n (at_who + 1 + k) 1 = nI i ∧ zai n (at_who + 1 + k) 2 = nI (i + m) ∧ tGr c i m q.2
def TW (n : zg_N) (S : zS) : Prop :=
  (∀ k, k < 6 → zai n at_told k = nI (sN S 0 k)) ∧ (∀ k, okb S k → zal n at_models k = sL S 0 k) ∧ (∀ k, k < sN S 0 2 → zai n at_seeWeek k = nI (sN S 1 k) ∧ zal n at_seen k = sL S 1 k) ∧
  (∀ w, w < 52 → zal n at_leftIn w = sL S 2 w) ∧ (∀ k, k < 12 → zai n at_order k = nI (sN S 2 k)) ∧ zfl n aT tf_question = sL S 3 0 ∧
  (zfi n aT tf_images = nI (sN S 0 6) ∧ ∀ i, i < sN S 0 6 → ∀ j, j < 14 → zai n (at_kept + 1 + i) j = nI (sN S (10 + i) j)) ∧
  (zfi n aT tf_tape = nI (sN S 0 7) ∧ ∀ k, k < sN S 0 7 → zai n at_fed k = nI (sN S 3 k)) ∧ zfi n aT tf_place = sI S 1 0 ∧ (∀ k, k < 3 → zai n at_refused k = sI S 0 k) ∧ TWg n (sT S)
theorem TW.told {n : zg_N} {S : zS} (h : TW n S) {k : Nat} (hk : k < 6) : zai n at_told k = nI (sN S 0 k) := h.1 k hk
theorem TW.md {n : zg_N} {S : zS} (h : TW n S) {k : Nat} (hk : okb S k) : zal n at_models k = sL S 0 k := h.2.1 k hk
theorem TW.sw {n : zg_N} {S : zS} (h : TW n S) {k : Nat} (hk : k < sN S 0 2) : zai n at_seeWeek k = nI (sN S 1 k) := (h.2.2.1 k hk).1
theorem TW.sm {n : zg_N} {S : zS} (h : TW n S) {k : Nat} (hk : k < sN S 0 2) : zal n at_seen k = sL S 1 k := (h.2.2.1 k hk).2
theorem TW.lf {n : zg_N} {S : zS} (h : TW n S) {w : Nat} (hw : w < 52) : zal n at_leftIn w = sL S 2 w := h.2.2.2.1 w hw
theorem TW.od {n : zg_N} {S : zS} (h : TW n S) {k : Nat} (hk : k < 12) : zai n at_order k = nI (sN S 2 k) := h.2.2.2.2.1 k hk
theorem TW.qu {n : zg_N} {S : zS} (h : TW n S) : zfl n aT tf_question = sL S 3 0 := h.2.2.2.2.2.1
theorem TW.im {n : zg_N} {S : zS} (h : TW n S) : zfi n aT tf_images = nI (sN S 0 6) := h.2.2.2.2.2.2.1.1
theorem TW.kept {n : zg_N} {S : zS} (h : TW n S) {i : Nat} (hi : i < sN S 0 6) {j : Nat} (hj : j < 14) : zai n (at_kept + 1 + i) j = nI (sN S (10 + i) j) := h.2.2.2.2.2.2.1.2 i hi j hj
theorem TW.tape {n : zg_N} {S : zS} (h : TW n S) : zfi n aT tf_tape = nI (sN S 0 7) := h.2.2.2.2.2.2.2.1.1
theorem TW.fed {n : zg_N} {S : zS} (h : TW n S) {k : Nat} (hk : k < sN S 0 7) : zai n at_fed k = nI (sN S 3 k) := h.2.2.2.2.2.2.2.1.2 k hk
theorem TW.place {n : zg_N} {S : zS} (h : TW n S) : zfi n aT tf_place = sI S 1 0 := h.2.2.2.2.2.2.2.2.1
theorem TW.ref {n : zg_N} {S : zS} (h : TW n S) {k : Nat} (hk : k < 3) : zai n at_refused k = sI S 0 k := h.2.2.2.2.2.2.2.2.2.1 k hk
theorem TW.tg {n : zg_N} {S : zS} (h : TW n S) : TWg n (sT S) := h.2.2.2.2.2.2.2.2.2.2
theorem ct_cong {p q : Nat → Bool} : ∀ {n : Nat}, (∀ k, k < n → p k = q k) → ct p n = ct q n
  | 0, _ => rfl
  | n + 1, h => by simp only [ct]; rw [ct_cong (fun k hk => h k (by omega)), h n (by omega)]
/-- what stands of the state: fields and arrays of the reference that no query writes -/
def tF (a k : Nat) : Prop := a = aT ∧ k ≠ tf_tape ∧ k ≠ tf_place ∧ k ≠ tf_question ∧ k ≠ tf_images ∧ k ≠ tf_whos
def tA (a : Nat) : Prop := aT < a ∧ a < 1545 ∧ a ≠ at_fed ∧ a ≠ at_refused ∧ a ≠ at_told ∧ a ≠ at_seeWeek ∧ a ≠ at_models ∧ a ≠ at_seen ∧ a ≠ at_leftIn ∧ a ≠ at_order ∧ ¬ (at_kept < a ∧ a ≤ at_kept + 3) ∧ ¬ (at_who < a ∧ a ≤ at_who + 10) ∧ ¬ (at_code < a ∧ a ≤ at_code + 220)
theorem TW.keep {n n' : zg_N} {S : zS} (h : TW n S) (hW : WF S) (hf : zFr tF tA n n') : TW n' S := by
  have hi : ∀ k, ¬ tF aT k → zfi n' aT k = zfi n aT k := fun k q => (hf.1 _ _ q).1
  have hl : ∀ k, ¬ tF aT k → zfl n' aT k = zfl n aT k := fun k q => (hf.1 _ _ q).2
  have ha : ∀ a, ¬ tA a → ∀ j, zai n' a j = zai n a j := fun a q j => (hf.2 a q j).1
  have hb : ∀ a, ¬ tA a → ∀ j, zal n' a j = zal n a j := fun a q j => (hf.2 a q j).2
  obtain ⟨h1, h2, h3, h4, h5, h6, ⟨h7, h8⟩, ⟨h9, h10⟩, h11, h12, h13, c, N, h14, h15, h16⟩ := h
  have hw10 : (sT S).length ≤ 10 := hW.tl
  have hi3 : sN S 0 6 ≤ 3 := hW.imgs
  refine ⟨fun k hk => ?_, fun k hk => ?_, fun k hk => ⟨?_, ?_⟩, fun k hk => ?_, fun k hk => ?_, ?_, ⟨?_, fun i hi2 j hj => ?_⟩, ⟨?_, fun k hk => ?_⟩, ?_, fun k hk => ?_, ?_, c, N, h14, fun i hi2 => ⟨?_, ?_⟩, fun k q hq => ?_⟩
  · rw [ha at_told (by unfold tA; omega)]; exact h1 k hk
  · rw [hb at_models (by unfold tA; omega)]; exact h2 k hk
  · rw [ha at_seeWeek (by unfold tA; omega)]; exact (h3 k hk).1
  · rw [hb at_seen (by unfold tA; omega)]; exact (h3 k hk).2
  · rw [hb at_leftIn (by unfold tA; omega)]; exact h4 k hk
  · rw [ha at_order (by unfold tA; omega)]; exact h5 k hk
  · rw [hl tf_question (by unfold tF; omega)]; exact h6
  · rw [hi tf_images (by unfold tF; omega)]; exact h7
  · rw [ha (at_kept + 1 + i) (by unfold tA; omega)]; exact h8 i hi2 j hj
  · rw [hi tf_tape (by unfold tF; omega)]; exact h9
  · rw [ha at_fed (by unfold tA; omega)]; exact h10 k hk
  · rw [hi tf_place (by unfold tF; omega)]; exact h11
  · rw [ha at_refused (by unfold tA; omega)]; exact h12 k hk
  · rw [hi tf_whos (by unfold tF; omega)]; exact h13
  · rw [ha (at_code + 1 + i) (by unfold tA; omega)]; exact (h15 i hi2).1
  · rw [ha (at_code + 1 + i) (by unfold tA; omega)]; exact (h15 i hi2).2
  · have hk : k < (sT S).length := (List.getElem?_eq_some_iff.mp hq).1
    obtain ⟨i, m, a1, a2, a3, a4, a5⟩ := h16 k q hq
    have := ha (at_who + 1 + k) (by unfold tA; omega)
    exact ⟨i, m, a1, (this 0).trans a2, (this 1).trans a3, (this 2).trans a4, a5⟩
