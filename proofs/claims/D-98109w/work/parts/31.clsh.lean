/-! ===== THE CLASS: a school ===== -/
def uF (a : Nat) (b _ : Nat) : Prop := b = a
def uA (a b : Nat) : Prop := a + 1 ≤ b ∧ b ≤ a + 7
def CYa (n : zg_N) (a : Nat) (A : zYa) : Prop := (∀ b, b < 5 → ∀ k, k < 17 → zai n (a + (2 + b)) k = A b k) ∧ zfi n a sf_falls = A 5 0 ∧ zfi n a sf_kills = A 5 1
def CYl (n : zg_N) (a : Nat) (L : List Nat) : Prop := zfi n a sf_many = nI L.length ∧ ∀ i b, L[i]? = some b → zai n (a + 1) i = nI b
def CY (n : zg_N) (a : Nat) (y : zYr) : Prop := CYl n a y.1 ∧ CYa n a y.2
theorem CYa.put {n : zg_N} {a : Nat} {A : zYa} (h : CYa n a A) (b k : Nat) (v : Int32) (hb : b < 5) : CYa (zpai n (a + (2 + b)) k v) a (zu2 A b k v) := by
  refine ⟨fun c hc j hj => ?_, ?_, ?_⟩
  · rw [zai_p, zu2]
    by_cases e : c = b ∧ j = k
    · rw [if_pos e, if_pos ⟨by rw [e.1], e.2⟩]
    · rw [if_neg e, if_neg (fun z => e ⟨by have := z.1; omega, z.2⟩)]; exact h.1 c hc j hj
  · rw [zu2, if_neg (fun z => by have := z.1; omega)]; exact h.2.1
  · rw [zu2, if_neg (fun z => by have := z.1; omega)]; exact h.2.2
theorem CYa.fl {n : zg_N} {a : Nat} {A : zYa} (h : CYa n a A) (v : Int32) : CYa (zpfi n a sf_falls v) a (zu2 A 5 0 v) :=
  ⟨fun c hc j hj => by rw [zu2, if_neg (fun z => by have := z.1; omega)]; exact h.1 c hc j hj, by rw [zfi_p, if_pos ⟨rfl, rfl⟩]; rfl, by rw [zfi_p, if_neg (fun z => absurd z.2 (by decide))]; exact h.2.2⟩
theorem CYa.kl {n : zg_N} {a : Nat} {A : zYa} (h : CYa n a A) (v : Int32) : CYa (zpfi n a sf_kills v) a (zu2 A 5 1 v) :=
  ⟨fun c hc j hj => by rw [zu2, if_neg (fun z => by have := z.1; omega)]; exact h.1 c hc j hj, by rw [zfi_p, if_neg (fun z => absurd z.2 (by decide))]; exact h.2.1, by rw [zfi_p, if_pos ⟨rfl, rfl⟩]; rfl⟩
/-- the sum of what hurts is no number of the class -/
theorem CYa.sum {n : zg_N} {a : Nat} {A : zYa} (h : CYa n a A) (v : Int32) : CYa n a (zu2 A 5 2 v) :=
  ⟨fun c hc j hj => by rw [zu2, if_neg (fun z => by have := z.1; omega)]; exact h.1 c hc j hj, h.2.1, h.2.2⟩
theorem CYl.put {n : zg_N} {a : Nat} {L : List Nat} (h : CYl n a L) (b k : Nat) (v : Int32) (hb : ¬ b = a + 1) : CYl (zpai n b k v) a L :=
  ⟨h.1, fun i c hi => (if_neg (fun z => hb z.1.symm)).trans (h.2 i c hi)⟩
theorem CYl.fld {n : zg_N} {a : Nat} {L : List Nat} (h : CYl n a L) (k : Nat) (v : Int32) (hk : k ≠ sf_many) : CYl (zpfi n a k v) a L :=
  ⟨(if_neg (fun z => hk z.2.symm)).trans h.1, h.2⟩
theorem CYa.keep {n n1 : zg_N} {a : Nat} {A : zYa} (h : CYa n a A) (h1 : ∀ b k, 2 ≤ b → b < 7 → zai n1 (a + b) k = zai n (a + b) k) (h2 : zfi n1 a sf_falls = zfi n a sf_falls) (h3 : zfi n1 a sf_kills = zfi n a sf_kills) : CYa n1 a A :=
  ⟨fun b hb k hk => (h1 (2 + b) k (by omega) (by omega)).trans (h.1 b hb k hk), h2.trans h.2.1, h3.trans h.2.2⟩
def cY (a : Nat) (g : zg_G) (n : zg_N) (y : zYr) : zP := fun o g1 n1 => o = .inl none ∧ g1 = g ∧ CY n1 a y ∧ zFr (uF a) (uA a) n n1
section SCH
variable {g : zg_G} {n : zg_N} {a : Nat}
theorem u_kills (hC : CSh g) (hs : isSch a) {L : List Nat} {A : zYa} (hY : CY n a (L, A)) (k w : Nat) (hk : k < 17) : PW zm_X5_kills 1 (cY a g n (L, yKill A k w)) 0 0 0 [(0, .ref a), (1, .int (nI k)), (2, .int (nI w))] [] g n := by
  refine pw_aload_n dX5_kills_0 0 rfl rfl ?_
  refine pw_getr 2 zc_X5 (cs_sch hC hs) (by decide) q612 (Or.inr ⟨_, rfl⟩) (cr_fell hC hs) dX5_kills_1 ?_
  refine pw_iload_n dX5_kills_4 1 rfl rfl ?_
  refine pw_iload_n dX5_kills_5 2 rfl rfl ?_
  refine pw_iast k rfl (cs_fell hC hs) (hs.gek 3) (by omega) (by decide) dX5_kills_6 ?_
  refine pw_aload_n dX5_kills_7 0 rfl rfl ?_
  refine pw_dup dX5_kills_8 rfl ?_
  refine pw_geti 9 zc_X5 (cs_sch hC hs) (by decide) q625 (Or.inl rfl) dX5_kills_9 ?_
  rw [show zfi (zpai n (a + 3) k (nI w)) a sf_kills = A 5 1 from hY.2.2.2]
  refine pw_iconst (v := 1) dX5_kills_12 (by decide) ?_
  refine pw_iadd dX5_kills_13 ?_
  refine pw_puti 9 zc_X5 (cs_sch hC hs) hs.ge (by decide) q625 rfl (Or.inl rfl) rfl rfl dX5_kills_14 ?_
  refine pw_vret rfl dX5_kills_17 ?_
  exact ⟨rfl, rfl, ⟨(hY.1.put (a + 3) k (nI w) (by omega)).fld sf_kills _ (by decide), (hY.2.put 1 k (nI w) (by decide)).kl _⟩, (zFr.rf.pai (by unfold uA; omega)).pfi rfl⟩
theorem u_falls (hC : CSh g) (hs : isSch a) {L : List Nat} {A : zYa} (hY : CY n a (L, A)) (k w b : Nat) (hk : k < 17) : PW zm_X5_falls 1 (cY a g n (L, yDrop A k b w)) 0 0 0 [(0, .ref a), (1, .int (nI k)), (2, .int (nI w)), (3, .int (nI b))] [] g n := by
  refine pw_aload_n dX5_falls_0 0 rfl rfl ?_
  refine pw_getr 2 zc_X5 (cs_sch hC hs) (by decide) q612 (Or.inr ⟨_, rfl⟩) (cr_fell hC hs) dX5_falls_1 ?_
  refine pw_iload_n dX5_falls_4 1 rfl rfl ?_
  refine pw_iload_n dX5_falls_5 2 rfl rfl ?_
  refine pw_iast k rfl (cs_fell hC hs) (hs.gek 3) (by omega) (by decide) dX5_falls_6 ?_
  refine pw_aload_n dX5_falls_7 0 rfl rfl ?_
  refine pw_getr 3 zc_X5 (cs_sch hC hs) (by decide) q614 (Or.inr ⟨_, rfl⟩) (cr_by hC hs) dX5_falls_8 ?_
  refine pw_iload_n dX5_falls_11 1 rfl rfl ?_
  refine pw_iload_n dX5_falls_12 3 rfl rfl ?_
  refine pw_iast k rfl (cs_by hC hs) (hs.gek 4) (by omega) (by decide) dX5_falls_13 ?_
  refine pw_aload_n dX5_falls_14 0 rfl rfl ?_
  refine pw_dup dX5_falls_15 rfl ?_
  refine pw_geti 8 zc_X5 (cs_sch hC hs) (by decide) q623 (Or.inl rfl) dX5_falls_16 ?_
  rw [show zfi (zpai (zpai n (a + 3) k (nI w)) (a + 4) k (nI b)) a sf_falls = A 5 0 from hY.2.2.1]
  refine pw_iconst (v := 1) dX5_falls_19 (by decide) ?_
  refine pw_iadd dX5_falls_20 ?_
  refine pw_puti 8 zc_X5 (cs_sch hC hs) hs.ge (by decide) q623 rfl (Or.inl rfl) rfl rfl dX5_falls_21 ?_
  refine pw_vret rfl dX5_falls_24 ?_
  exact ⟨rfl, rfl, ⟨((hY.1.put (a + 3) k (nI w) (by omega)).put (a + 4) k (nI b) (by omega)).fld sf_falls _ (by decide), ((hY.2.put 1 k (nI w) (by decide)).put 2 k (nI b) (by decide)).fl _⟩, ((zFr.rf.pai (by unfold uA; omega)).pai (by unfold uA; omega)).pfi rfl⟩
end SCH

