/-! ===== the reference: a year ===== -/
def yF1 (a k : Nat) : Prop := a = aT ∧ (k = tf_heldMany ∨ k = tf_fell ∨ k = tf_killed ∨ k = tf_hurts)
def yA1 (a : Nat) : Prop := a = 1526 ∨ (1528 ≤ a ∧ a ≤ 1533) ∨ a = 1536
theorem yF1_tF : ∀ a k, yF1 a k → tF a k := fun a k h => by
  obtain ⟨h1, h2⟩ := h
  refine ⟨h1, ?_⟩
  rcases h2 with rfl | rfl | rfl | rfl <;> decide
theorem yA1_tA : ∀ a, yA1 a → tA a := fun a h => by
  unfold yA1 at h
  unfold tA
  refine ⟨by show 1045 < a; omega, by omega, ?_⟩
  show a ≠ 1046 ∧ a ≠ 1047 ∧ a ≠ 1049 ∧ a ≠ 1051 ∧ a ≠ 1053 ∧ a ≠ 1055 ∧ a ≠ 1056 ∧ a ≠ 1057 ∧ ¬ (1058 < a ∧ a ≤ 1058 + 3) ∧ ¬ (1062 < a ∧ a ≤ 1062 + 10) ∧ ¬ (1084 < a ∧ a ≤ 1084 + 220)
  omega
theorem zBm_y : ∀ a, zBm a → yA1 a := fun a h => by rcases h with rfl | rfl <;> (unfold yA1; decide)
theorem zB0_y : ∀ a k, zB0 a k → yF1 a k := fun _ _ h => h.elim
/-- a year's numbers -/
def TYa (n : zg_N) (A : zYa) : Prop := (∀ a, a < 5 → ∀ k, k < 17 → zai n (at_drawnIn + a) k = A a k) ∧ ∀ c, c < 3 → zfi n aT (tf_fell + c) = A 5 c
def TYl (n : zg_N) (L : List Nat) : Prop := zfi n aT tf_heldMany = nI L.length ∧ ∀ i b, L[i]? = some b → zai n at_heldRow i = nI b
def TY (n : zg_N) (y : zYr) : Prop := TYl n y.1 ∧ TYa n y.2
theorem TYa.put {n : zg_N} {A : zYa} (h : TYa n A) (a k : Nat) (v : Int32) (ha : a < 5) : TYa (zpai n (at_drawnIn + a) k v) (zu2 A a k v) := by
  refine ⟨fun b hb j hj => ?_, fun c hc => ?_⟩
  · rw [zai_p, zu2]
    by_cases e : b = a ∧ j = k
    · rw [if_pos e, if_pos ⟨by rw [e.1], e.2⟩]
    · rw [if_neg e, if_neg (fun z => e ⟨by have := z.1; omega, z.2⟩)]; exact h.1 b hb j hj
  · rw [zu2, if_neg (fun z => by have := z.1; omega)]; exact h.2 c hc
theorem TYa.cnt {n : zg_N} {A : zYa} (h : TYa n A) (c : Nat) (v : Int32) : TYa (zpfi n aT (tf_fell + c) v) (zu2 A 5 c v) := by
  refine ⟨fun b hb j hj => ?_, fun c2 hc => ?_⟩
  · rw [zu2, if_neg (fun z => by have := z.1; omega)]; exact h.1 b hb j hj
  · rw [zfi_p, zu2]
    by_cases e : c2 = c
    · rw [if_pos ⟨rfl, by rw [e]⟩, if_pos ⟨rfl, e⟩]
    · rw [if_neg (fun z => e (by have := z.2; omega)), if_neg (fun z => e z.2)]; exact h.2 c2 hc
theorem TYa.keep {n n' : zg_N} {A : zYa} (h : TYa n A) {F : Nat → Nat → Prop} {B : Nat → Prop} (hf : zFr F B n n') (hF : ∀ c, c < 3 → ¬ F aT (tf_fell + c)) (hB : ∀ a, a < 5 → ¬ B (at_drawnIn + a)) : TYa n' A :=
  ⟨fun a ha k hk => ((hf.2 _ (hB a ha) k).1).trans (h.1 a ha k hk), fun c hc => ((hf.1 _ _ (hF c hc)).1).trans (h.2 c hc)⟩
theorem TYl.keep {n n' : zg_N} {L : List Nat} (h : TYl n L) {F : Nat → Nat → Prop} {B : Nat → Prop} (hf : zFr F B n n') (hF : ¬ F aT tf_heldMany) (hB : ¬ B at_heldRow) : TYl n' L :=
  ⟨((hf.1 _ _ hF).1).trans h.1, fun i b hi => ((hf.2 _ hB i).1).trans (h.2 i b hi)⟩
theorem TYl.put {n : zg_N} {L : List Nat} (h : TYl n L) (a k : Nat) (v : Int32) (ha : a ≠ at_heldRow) : TYl (zpai n a k v) L :=
  ⟨h.1, fun i b hi => (if_neg (fun z => ha z.1.symm)).trans (h.2 i b hi)⟩
theorem TYl.fld {n : zg_N} {L : List Nat} (h : TYl n L) (k : Nat) (v : Int32) (hk : k ≠ tf_heldMany) : TYl (zpfi n aT k v) L :=
  ⟨(if_neg (fun z => hk z.2.symm)).trans h.1, h.2⟩
/-- ends with this year -/
def tY (g : zg_G) (n : zg_N) (y : zYr) : zP := fun o g1 n1 => o = .inl none ∧ g1 = g ∧ TY n1 y ∧ zFr yF1 yA1 n n1
theorem t_drops {g : zg_G} {n : zg_N} (hM : TSh g) {L : List Nat} {A : zYa} (hY : TY n (L, A)) (k b w : Nat) (hk : k < 17) : PW zm_X6_drops 1 (tY g n (L, yDrop A k b w)) 0 0 0 [(0, .ref aT), (1, .int (nI k)), (2, .int (nI b)), (3, .int (nI w))] [] g n := by
  have hc : zfi n aT tf_fell = A 5 0 := hY.2.2 0 (by decide)
  refine pw_aload_n dX6_drops_0 0 rfl rfl ?_
  refine pw_getr 37 zc_X6 (ts_this hM) (by decide) q2023 (Or.inr ⟨_, rfl⟩) (tr_fellIn hM) dX6_drops_1 ?_
  refine pw_iload_n dX6_drops_4 1 rfl rfl ?_
  refine pw_iload_n dX6_drops_5 3 rfl rfl ?_
  refine pw_iast _ rfl (ts_fellIn hM) (by decide) (by omega) (by decide) dX6_drops_6 ?_
  refine pw_aload_n dX6_drops_7 0 rfl rfl ?_
  refine pw_getr 38 zc_X6 (ts_this hM) (by decide) q2024 (Or.inr ⟨_, rfl⟩) (tr_fellBy hM) dX6_drops_8 ?_
  refine pw_iload_n dX6_drops_11 1 rfl rfl ?_
  refine pw_iload_n dX6_drops_12 2 rfl rfl ?_
  refine pw_iast _ rfl (ts_fellBy hM) (by decide) (by omega) (by decide) dX6_drops_13 ?_
  refine pw_aload_n dX6_drops_14 0 rfl rfl ?_
  refine pw_dup dX6_drops_15 rfl ?_
  refine pw_geti 45 zc_X6 (ts_this hM) (by decide) q2031 (Or.inl rfl) dX6_drops_16 ?_
  rw [show zfi (zpai (zpai n at_fellIn k (nI w)) at_fellBy k (nI b)) aT tf_fell = A 5 0 from hc]
  refine pw_iconst (v := 1) dX6_drops_19 (by decide) ?_
  refine pw_iadd dX6_drops_20 ?_
  refine pw_puti 45 zc_X6 (ts_this hM) (by decide) (by decide) q2031 rfl (Or.inl rfl) rfl rfl dX6_drops_21 ?_
  refine pw_vret rfl dX6_drops_24 ?_
  exact ⟨rfl, rfl, ⟨((hY.1.put at_fellIn k (nI w) (by decide)).put at_fellBy k (nI b) (by decide)).fld tf_fell _ (by decide), ((hY.2.put 1 k (nI w) (by decide)).put 2 k (nI b) (by decide)).cnt 0 _⟩, ((zFr.rf.pai (by unfold yA1; decide)).pai (by unfold yA1; decide)).pfi ⟨rfl, Or.inr (Or.inl rfl)⟩⟩
theorem lst_at {L : List Nat} {i : Nat} (h : i < L.length) : ∃ b, L[i]? = some b := ⟨L[i], List.getElem?_eq_getElem h⟩
theorem t_leaves {g : zg_G} {n : zg_N} (hM : TSh g) {pre r : List Nat} {b : Nat} {A : zYa} (hY : TY n (pre ++ b :: r, A)) (hl : (pre ++ b :: r).length ≤ 17) : PW zm_X6_leaves 1 (tY g n (pre ++ r, A)) 0 0 0 [(0, .ref aT), (1, .int (nI pre.length))] [] g n := by
  obtain ⟨⟨hn, hr⟩, hA⟩ := hY
  have hlen : (pre ++ b :: r).length = pre.length + r.length + 1 := by simp only [List.length_append, List.length_cons]; omega
  rw [hlen] at hn hl
  have hlp : ∀ j, j ≤ pre.length + r.length → pre.length ≤ j → ∀ n1, zFr (fun a k => a = aT ∧ k = tf_heldMany) (fun a => a = at_heldRow) n n1 → zfi n1 aT tf_heldMany = nI (pre.length + r.length) → (∀ t, zai n1 at_heldRow t = if pre.length ≤ t ∧ t < j then zai n at_heldRow (t + 1) else zai n at_heldRow t) →
      PW zm_X6_leaves 1 (tY g n (pre ++ r, A)) 0 0 12 [(0, .ref aT), (1, .int (nI pre.length)), (2, .int (nI j))] [] g n1 := by
    refine zl_up _ (fun j hj ih hpj n1 hf hm ht => ?_)
    refine pw_iload_n dX6_leaves_12 2 rfl rfl ?_
    refine pw_aload_n dX6_leaves_13 0 rfl rfl ?_
    refine pw_geti 44 zc_X6 (ts_this hM) (by decide) q2030 (Or.inl rfl) dX6_leaves_14 ?_
    rw [hm]
    refine pw_icmp_ge_N 40 dX6_leaves_17 (by decide) (by omega) (by omega) (fun c_17 => ?_) (fun c_17 => ?_)
    · refine pw_vret rfl dX6_leaves_40 ?_
      refine ⟨rfl, rfl, ⟨⟨hm.trans (by rw [List.length_append]), fun i c hi => ?_⟩, hA.keep hf (fun c hc z => by have := z.2; have : 45 + c = 44 := this; omega) (fun a ha z => by have : 1529 + a = 1528 := z; omega)⟩, hf.mono (fun a k h => ⟨h.1, Or.inl h.2⟩) (fun a h => by subst h; unfold yA1; decide)⟩
      have hil : i < pre.length + r.length := by have := (List.getElem?_eq_some_iff.mp hi).1; rw [List.length_append] at this; exact this
      rw [ht i]
      by_cases e : pre.length ≤ i
      · rw [if_pos ⟨e, by omega⟩]
        refine hr (i + 1) c ?_
        rw [List.getElem?_append_right e] at hi
        rw [List.getElem?_append_right (by omega), show i + 1 - pre.length = (i - pre.length) + 1 by omega, List.getElem?_cons_succ]
        exact hi
      · rw [if_neg (fun z => e z.1)]
        refine hr i c ?_
        rw [List.getElem?_append_left (by omega)] at hi ⊢
        exact hi
    · refine pw_aload_n dX6_leaves_20 0 rfl rfl ?_
      refine pw_getr 35 zc_X6 (ts_this hM) (by decide) q2021 (Or.inr ⟨_, rfl⟩) (tr_heldRow hM) dX6_leaves_21 ?_
      refine pw_iload_n dX6_leaves_24 2 rfl rfl ?_
      refine pw_aload_n dX6_leaves_25 0 rfl rfl ?_
      refine pw_getr 35 zc_X6 (ts_this hM) (by decide) q2021 (Or.inr ⟨_, rfl⟩) (tr_heldRow hM) dX6_leaves_26 ?_
      refine pw_iload_n dX6_leaves_29 2 rfl rfl ?_
      refine pw_iconst (v := 1) dX6_leaves_30 (by decide) ?_
      refine pw_iadd dX6_leaves_31 ?_
      rw [nI_1]
      refine pw_iald (j + 1) rfl (ts_heldRow hM) (by omega) (by decide) dX6_leaves_32 ?_
      rw [ht (j + 1), if_neg (by omega)]
      refine pw_iast j rfl (ts_heldRow hM) (by decide) (by omega) (by decide) dX6_leaves_33 ?_
      refine pw_iinc1 (j := 2) (ls' := [(2, _), (0, _), (1, _)]) dX6_leaves_34 rfl (by decide) rfl ?_
      refine pw_ls [1, 2, 0] (ls' := [(0, _), (1, _), (2, _)]) rfl ?_
      refine pw_goto 12 dX6_leaves_37 (by decide) ?_
      exact ih (j + 1) (by omega) (by omega) (by omega) _ (hf.pai rfl) hm (fun t => by
        rw [zai_p]
        by_cases e : t = j
        · subst e; rw [if_pos ⟨rfl, rfl⟩, if_pos ⟨hpj, by omega⟩]
        · rw [if_neg (fun z => e z.2), ht t]
          by_cases e2 : pre.length ≤ t ∧ t < j
          · rw [if_pos e2, if_pos ⟨e2.1, by omega⟩]
          · rw [if_neg e2, if_neg (fun z => e2 ⟨z.1, by omega⟩)])
  refine pw_aload_n dX6_leaves_0 0 rfl rfl ?_
  refine pw_dup dX6_leaves_1 rfl ?_
  refine pw_geti 44 zc_X6 (ts_this hM) (by decide) q2030 (Or.inl rfl) dX6_leaves_2 ?_
  rw [hn]
  refine pw_iconst (v := 1) dX6_leaves_5 (by decide) ?_
  refine pw_isub dX6_leaves_6 ?_
  rw [nI_pred]
  refine pw_puti 44 zc_X6 (ts_this hM) (by decide) (by decide) q2030 rfl (Or.inl rfl) rfl rfl dX6_leaves_7 ?_
  refine pw_iload_n dX6_leaves_10 1 rfl rfl ?_
  refine pw_istore_n (ls' := [(2, _), (0, _), (1, _)]) dX6_leaves_11 rfl (by decide) rfl ?_
  refine pw_ls [1, 2, 0] (ls' := [(0, _), (1, _), (2, _)]) rfl ?_
  exact hlp pre.length (by omega) (Nat.le_refl _) _ (zFr.rf.pfi ⟨rfl, rfl⟩) (by rw [zfi_p, if_pos ⟨rfl, rfl⟩]) (fun t => by rw [if_neg (by omega)]; rfl)
theorem app_mid (pre : List Nat) (k : Nat) (r : List Nat) : (pre ++ [k]) ++ r = pre ++ k :: r := by simp
theorem get_mid (pre : List Nat) (k : Nat) (r : List Nat) : (pre ++ k :: r)[pre.length]? = some k := by rw [List.getElem?_append_right (Nat.le_refl _), Nat.sub_self]; rfl
theorem t_kills {g : zg_G} {n : zg_N} {S : zS} (hM : TSh g) (hT : TW n S) (hW : WF S) {y : zYr} (hY : TY n y) (hl : y.1.length ≤ 17) (hok : yOk S y.1) (w : Nat) (hw : w < 52) : PW zm_X6_kills 2 (tY g n (yKl S w [] y.1 y.2)) 0 0 0 [(0, .ref aT), (1, .int (nI w))] [] g n := by
  have hlp : ∀ (r pre : List Nat) (A : zYa) (n1 : zg_N), (pre ++ r).length ≤ 17 → yOk S r → TY n1 (pre ++ r, A) → zFr yF1 yA1 n n1 → yKl S w pre r A = yKl S w [] y.1 y.2 →
      PW zm_X6_kills 2 (tY g n (yKl S w [] y.1 y.2)) 0 0 2 [(0, .ref aT), (1, .int (nI w)), (2, .int (nI pre.length))] [] g n1 := by
    intro r
    induction r with
    | nil =>
      intro pre A n1 hlen hr hY1 hf hR
      rw [List.append_nil] at hlen hY1
      refine pw_iload_n dX6_kills_2 2 rfl rfl ?_
      refine pw_aload_n dX6_kills_3 0 rfl rfl ?_
      refine pw_geti 44 zc_X6 (ts_this hM) (by decide) q2030 (Or.inl rfl) dX6_kills_4 ?_
      rw [show zfi n1 aT tf_heldMany = nI pre.length from hY1.1.1]
      refine pw_icmp_ge_N 57 dX6_kills_7 (by decide) (by omega) (by omega) (fun c_7 => ?_) (fun c_7 => ?_)
      · refine pw_vret rfl dX6_kills_57 ?_
        exact ⟨rfl, rfl, by rw [← hR]; exact hY1, hf⟩
      · exact absurd c_7 (Nat.lt_irrefl _)
    | cons k r ih =>
      intro pre A n1 hlen hr hY1 hf hR
      have hT1 := hT.keep hW (hf.mono yF1_tF yA1_tA)
      have hk := hr k List.mem_cons_self
      have hk17 := hk.lt hW
      have hlen2 : (pre ++ k :: r).length = pre.length + r.length + 1 := by simp only [List.length_append, List.length_cons]; omega
      have hcn : zfi n1 aT tf_killed = A 5 1 := hY1.2.2 1 (by decide)
      refine pw_iload_n dX6_kills_2 2 rfl rfl ?_
      refine pw_aload_n dX6_kills_3 0 rfl rfl ?_
      refine pw_geti 44 zc_X6 (ts_this hM) (by decide) q2030 (Or.inl rfl) dX6_kills_4 ?_
      rw [hY1.1.1, hlen2]
      refine pw_icmp_ge_N 57 dX6_kills_7 (by decide) (by omega) (by omega) (fun c_7 => ?_) (fun c_7 => ?_)
      · exact absurd c_7 (by omega)
      · refine pw_aload_n dX6_kills_10 0 rfl rfl ?_
        refine pw_getr 35 zc_X6 (ts_this hM) (by decide) q2021 (Or.inr ⟨_, rfl⟩) (tr_heldRow hM) dX6_kills_11 ?_
        refine pw_iload_n dX6_kills_14 2 rfl rfl ?_
        refine pw_iald pre.length rfl (ts_heldRow hM) (by omega) (by decide) dX6_kills_15 ?_
        rw [hY1.1.2 _ _ (get_mid pre k r)]
        refine pw_istore_n (ls' := [(3, _), (0, _), (1, _), (2, _)]) dX6_kills_16 rfl (by decide) rfl ?_
        refine pw_ls [1, 2, 3, 0] (ls' := [(0, _), (1, _), (2, _), (3, _)]) rfl ?_
        refine pw_aload_n dX6_kills_17 0 rfl rfl ?_
        refine pw_iload_n dX6_kills_18 3 rfl rfl ?_
        refine pw_iload_n dX6_kills_19 1 rfl rfl ?_
        refine pw_callV2 zmM_X6_isDead rfl (lw_V q2420 q2422 qs99 q150 q2423) rfl (ts_this hM) zc_X6 (t_isDead hM hT1 hW k w hk hw) (by decide) (Nat.le_refl _) (Nat.le_refl _) rfl (Nat.le_of_ble_eq_true rfl) (Nat.le_of_ble_eq_true rfl) dX6_kills_20 zE.nx (zE_kk ?_)
        refine pw_if_eq_B 51 dX6_kills_23 (by decide) (fun c_23 => ?_) (fun c_23 => ?_)
        · refine pw_iinc1 (j := 2) (ls' := [(2, _), (0, _), (1, _), (3, _)]) dX6_kills_51 rfl (by decide) rfl ?_
          refine pw_ls [1, 2, 0, 3] (ls' := [(0, _), (1, _), (2, _), (3, _)]) rfl ?_
          refine pw_goto 2 dX6_kills_54 (by decide) ?_
          refine pw_ls [0, 1, 2] (ls' := [(0, _), (1, _), (2, _)]) rfl ?_
          have := ih (pre ++ [k]) A n1 (by rw [app_mid]; exact hlen) (fun b hb => hr b (List.mem_cons_of_mem _ hb)) (by rw [app_mid]; exact hY1) hf (by rw [← hR, yKl, if_neg c_23])
          rw [List.length_append] at this
          exact this
        · refine pw_aload_n dX6_kills_26 0 rfl rfl ?_
          refine pw_getr 37 zc_X6 (ts_this hM) (by decide) q2023 (Or.inr ⟨_, rfl⟩) (tr_fellIn hM) dX6_kills_27 ?_
          refine pw_iload_n dX6_kills_30 3 rfl rfl ?_
          refine pw_iload_n dX6_kills_31 1 rfl rfl ?_
          refine pw_iast k rfl (ts_fellIn hM) (by decide) (by omega) (by decide) dX6_kills_32 ?_
          refine pw_aload_n dX6_kills_33 0 rfl rfl ?_
          refine pw_dup dX6_kills_34 rfl ?_
          refine pw_geti 46 zc_X6 (ts_this hM) (by decide) q2032 (Or.inl rfl) dX6_kills_35 ?_
          rw [show zfi (zpai n1 at_fellIn k (nI w)) aT tf_killed = A 5 1 from hcn]
          refine pw_iconst (v := 1) dX6_kills_38 (by decide) ?_
          refine pw_iadd dX6_kills_39 ?_
          refine pw_puti 46 zc_X6 (ts_this hM) (by decide) (by decide) q2032 rfl (Or.inl rfl) rfl rfl dX6_kills_40 ?_
          refine pw_aload_n dX6_kills_43 0 rfl rfl ?_
          refine pw_iload_n dX6_kills_44 2 rfl rfl ?_
          refine pw_callV1 zmM_X6_leaves rfl (lw_V q2424 q2426 qs100 q150 q2427) rfl (ts_this hM) zc_X6 (t_leaves hM (pre := pre) (b := k) (r := r) (A := yKill A k w) ⟨(hY1.1.put at_fellIn k (nI w) (by decide)).fld tf_killed _ (by decide), (hY1.2.put 1 k (nI w) (by decide)).cnt 1 _⟩ hlen) (by decide) (Nat.le_refl _) (Nat.le_refl _) rfl (Nat.le_of_ble_eq_true rfl) (Nat.le_of_ble_eq_true rfl) dX6_kills_45 (by intros; rintro ⟨h, _⟩; cases h) (fun v1 g1 n2 hh => ?_)
          obtain ⟨h1, rfl, hY2, hf2⟩ := hh
          cases h1
          refine pw_goto 54 dX6_kills_48 (by decide) ?_
          refine pw_goto 2 dX6_kills_54 (by decide) ?_
          refine pw_ls [0, 1, 2] (ls' := [(0, _), (1, _), (2, _)]) rfl ?_
          exact ih pre (yKill A k w) n2 (by rw [List.length_append]; omega) (fun b hb => hr b (List.mem_cons_of_mem _ hb)) hY2 (hf.tr (zFr.tr ((zFr.rf.pai (by unfold yA1; decide)).pfi ⟨rfl, Or.inr (Or.inr (Or.inl rfl))⟩) hf2)) (by rw [← hR, yKl, if_pos c_23])
  refine pw_iconst (v := 0) dX6_kills_0 (by decide) ?_
  refine pw_istore_n (ls' := [(2, _), (0, _), (1, _)]) dX6_kills_1 rfl (by decide) rfl ?_
  refine pw_ls [1, 2, 0] (ls' := [(0, _), (1, _), (2, _)]) rfl ?_
  exact hlp y.1 [] y.2 n (by rw [List.nil_append]; exact hl) hok hY zFr.rf rfl

/-! ===== the reference: a year, its weeks ===== -/
theorem t_whoFalls {g : zg_G} {n : zg_N} {S : zS} (hM : TSh g) (hT : TW n S) (hW : WF S) {L : List Nat} {A : zYa} (hY : TY n (L, A)) (law : Nat) (hlaw : zfi n aT tf_yearLaw = nI law) (hl4 : law ≤ 4) (o k w : Nat) (ho : okb S o) (hk : okb S k) (hw : w < 52) : PW zm_X6_whoFalls 5 (fun q g1 n1 => q = .inl (some (.int (nI (yWho S law A L.length o k w)))) ∧ g1 = g ∧ zFr zB0 zBm n n1) 0 0 0 [(0, .ref aT), (1, .int (nI o)), (2, .int (nI k)), (3, .int (nI w))] [] g n := by
  have ho2 := ho.lt hW
  have hk2 := hk.lt hW
  have q1 := lc_le (sL S 0 o)
  have q2 := lc_le (sL S 0 k)
  refine pw_aload_n dX6_whoFalls_0 0 rfl rfl ?_
  refine pw_geti 48 zc_X6 (ts_this hM) (by decide) q2034 (Or.inl rfl) dX6_whoFalls_1 ?_
  rw [hlaw]
  refine pw_case_N 0 (by omega) (by decide) (fun c_4 => ?_) (fun n_4_0 => ?_)
  · refine pw_tableIn 36 dX6_whoFalls_4 (by decide) (by decide) rfl (by decide) ?_
    refine pw_iconst (v := 0) dX6_whoFalls_36 (by decide) ?_
    refine pw_iret rfl dX6_whoFalls_37 ?_
    subst c_4; exact ⟨rfl, rfl, zFr.rf⟩
  refine pw_case_N 1 (by omega) (by decide) (fun c_4 => ?_) (fun n_4_1 => ?_)
  · refine pw_tableIn 38 dX6_whoFalls_4 (by decide) (by decide) rfl (by decide) ?_
    refine pw_iconst (v := 1) dX6_whoFalls_38 (by decide) ?_
    refine pw_iret rfl dX6_whoFalls_39 ?_
    subst c_4; exact ⟨rfl, rfl, zFr.rf⟩
  refine pw_case_N 2 (by omega) (by decide) (fun c_4 => ?_) (fun n_4_2 => ?_)
  · refine pw_tableIn 40 dX6_whoFalls_4 (by decide) (by decide) rfl (by decide) ?_
    refine pw_iconst (v := 2) dX6_whoFalls_40 (by decide) ?_
    refine pw_iret rfl dX6_whoFalls_41 ?_
    subst c_4; exact ⟨rfl, rfl, zFr.rf⟩
  refine pw_case_N 3 (by omega) (by decide) (fun c_4 => ?_) (fun n_4_3 => ?_)
  · refine pw_tableIn 42 dX6_whoFalls_4 (by decide) (by decide) rfl (by decide) ?_
    refine pw_aload_n dX6_whoFalls_42 0 rfl rfl ?_
    refine pw_getr 16 zc_X6 (ts_this hM) (by decide) q2002 (Or.inr ⟨_, rfl⟩) (tr_models hM) dX6_whoFalls_43 ?_
    refine pw_iload_n dX6_whoFalls_46 1 rfl rfl ?_
    refine pw_lald _ rfl (ts_models hM) (by omega) (by decide) dX6_whoFalls_47 ?_
    rw [hT.md ho]
    refine pw_callS1 zmM_X6_ones rfl (lw_S q2277 q2278 q150 q2279) (t_ones _ g n) (by decide) (Nat.le_refl _) (Nat.le_refl _) rfl (Nat.le_of_ble_eq_true rfl) (Nat.le_of_ble_eq_true rfl) dX6_whoFalls_48 zE.nx (zE_kk ?_)
    refine pw_aload_n dX6_whoFalls_51 0 rfl rfl ?_
    refine pw_getr 16 zc_X6 (ts_this hM) (by decide) q2002 (Or.inr ⟨_, rfl⟩) (tr_models hM) dX6_whoFalls_52 ?_
    refine pw_iload_n dX6_whoFalls_55 2 rfl rfl ?_
    refine pw_lald _ rfl (ts_models hM) (by omega) (by decide) dX6_whoFalls_56 ?_
    rw [hT.md hk]
    refine pw_callS1 zmM_X6_ones rfl (lw_S q2277 q2278 q150 q2279) (t_ones _ g n) (by decide) (Nat.le_refl _) (Nat.le_refl _) rfl (Nat.le_of_ble_eq_true rfl) (Nat.le_of_ble_eq_true rfl) dX6_whoFalls_57 zE.nx (zE_kk ?_)
    refine pw_icmp_ge_N 67 dX6_whoFalls_60 (by decide) (by omega) (by omega) (fun c_60 => ?_) (fun c_60 => ?_)
    · refine pw_iconst (v := 1) dX6_whoFalls_67 (by decide) ?_
      refine pw_iret rfl dX6_whoFalls_68 ?_
      subst c_4; exact ⟨by show _ = Sum.inl (some (Value.int (nI (if lc (sL S 0 o) < lc (sL S 0 k) then 2 else 1)))); rw [if_neg (by omega)]; rfl, rfl, zFr.rf⟩
    · refine pw_iconst (v := 2) dX6_whoFalls_63 (by decide) ?_
      refine pw_goto 68 dX6_whoFalls_64 (by decide) ?_
      refine pw_iret rfl dX6_whoFalls_68 ?_
      subst c_4; exact ⟨by show _ = Sum.inl (some (Value.int (nI (if lc (sL S 0 o) < lc (sL S 0 k) then 2 else 1)))); rw [if_pos (by omega)]; rfl, rfl, zFr.rf⟩
  refine pw_tableOut 69 dX6_whoFalls_4 (by rw [nI_toInt (by omega)]; omega) (by decide) ?_
  refine pw_aload_n dX6_whoFalls_69 0 rfl rfl ?_
  refine pw_iload_n dX6_whoFalls_70 1 rfl rfl ?_
  refine pw_iload_n dX6_whoFalls_71 2 rfl rfl ?_
  refine pw_aload_n dX6_whoFalls_72 0 rfl rfl ?_
  refine pw_getr 39 zc_X6 (ts_this hM) (by decide) q2025 (Or.inr ⟨_, rfl⟩) (tr_weeksOf hM) dX6_whoFalls_73 ?_
  refine pw_iload_n dX6_whoFalls_76 1 rfl rfl ?_
  refine pw_iald o rfl (ts_weeksOf hM) (by omega) (by decide) dX6_whoFalls_77 ?_
  rw [show zai n at_weeksOf o = A 3 o from hY.2.1 3 (by decide) o ho2]
  refine pw_aload_n dX6_whoFalls_78 0 rfl rfl ?_
  refine pw_getr 40 zc_X6 (ts_this hM) (by decide) q2026 (Or.inr ⟨_, rfl⟩) (tr_hurtsOf hM) dX6_whoFalls_79 ?_
  refine pw_iload_n dX6_whoFalls_82 1 rfl rfl ?_
  refine pw_iald o rfl (ts_hurtsOf hM) (by omega) (by decide) dX6_whoFalls_83 ?_
  rw [show zai n at_hurtsOf o = A 4 o from hY.2.1 4 (by decide) o ho2]
  refine pw_aload_n dX6_whoFalls_84 0 rfl rfl ?_
  refine pw_geti 44 zc_X6 (ts_this hM) (by decide) q2030 (Or.inl rfl) dX6_whoFalls_85 ?_
  rw [hY.1.1]
  refine pw_iload_n dX6_whoFalls_88 3 rfl rfl ?_
  refine pw_callV6 zmM_X6_byTongue rfl (lw_V q2436 q2438 qs103 q150 q2439) rfl (ts_this hM) zc_X6 (t_byTongue hM hT hW (A 3 o) (A 4 o) (nI L.length) ho hk hw) (by decide) (Nat.le_refl _) (Nat.le_refl _) rfl (Nat.le_of_ble_eq_true rfl) (Nat.le_of_ble_eq_true rfl) dX6_whoFalls_89 (by intros; rintro ⟨h, _⟩; cases h) (fun v1 g1 n2 hh => ?_)
  obtain ⟨h1, rfl, hf2⟩ := hh
  cases h1
  refine pw_iret rfl dX6_whoFalls_92 ?_
  exact ⟨by rw [yWho, if_neg n_4_0, if_neg n_4_1, if_neg n_4_2, if_neg n_4_3], rfl, hf2⟩
theorem yDrop_fell (A : zYa) (k b w : Nat) (hw : w < 52) : ¬ yDrop A k b w 1 k = -1 := by
  have e : yDrop A k b w 1 k = nI w := by simp [yDrop, zu2]
  rw [e]; intro h
  have := congrArg Int32.toInt h
  rw [nI_toInt (by omega), show (-1 : Int32).toInt = -1 from by decide] at this
  omega
theorem yDrop_fell2 (A : zYa) (k o b w : Nat) (hw : w < 52) (h : ¬ A 1 k = -1) : ¬ yDrop A o b w 1 k = -1 := by
  by_cases e : k = o
  · subst e; exact yDrop_fell A k b w hw
  · have e2 : yDrop A o b w 1 k = A 1 k := by simp [yDrop, zu2, e]
    rw [e2]; exact h
theorem t_draws {g : zg_G} {n : zg_N} {S : zS} (hM : TSh g) (hT : TW n S) (hW : WF S) {y : zYr} (hY : TY n y) (law : Nat) (hlaw : zfi n aT tf_yearLaw = nI law) (hl4 : law ≤ 4) (hl : y.1.length < 17) (hok : yOk S y.1) (k w : Nat) (hk : okb S k) (hw : w < 52) : PW zm_X6_draws 6 (tY g n (yMeet S law w k y)) 0 0 0 [(0, .ref aT), (1, .int (nI k)), (2, .int (nI w))] [] g n := by
  have hk17 := hk.lt hW
  have hend : ∀ (R : zYr) (i : Nat) (L : List Nat) (A : zYa) (n1 : zg_N), L.length ≤ 17 → i ≤ 17 → TY n1 (L, A) → zFr yF1 yA1 n n1 → ¬ A 1 k = -1 → (L, A) = R → PW zm_X6_draws 6 (tY g n R) 0 0 36 [(0, .ref aT), (1, .int (nI k)), (2, .int (nI w)), (3, .int (nI i))] [] g n1 := by
    intro R i L A n1 hL hi hY1 hf hA hR
    have hfl : zai n1 at_fellIn k = A 1 k := hY1.2.1 1 (by decide) k hk17
    refine pw_iload_n dX6_draws_36 3 rfl rfl ?_
    refine pw_aload_n dX6_draws_37 0 rfl rfl ?_
    refine pw_geti 44 zc_X6 (ts_this hM) (by decide) q2030 (Or.inl rfl) dX6_draws_38 ?_
    rw [show zfi n1 aT tf_heldMany = nI L.length from hY1.1.1]
    refine pw_icmp_ge_N 131 dX6_draws_41 (by decide) (by omega) (by omega) (fun c_41 => ?_) (fun c_41 => ?_)
    · refine pw_aload_n dX6_draws_131 0 rfl rfl ?_
      refine pw_getr 37 zc_X6 (ts_this hM) (by decide) q2023 (Or.inr ⟨_, rfl⟩) (tr_fellIn hM) dX6_draws_132 ?_
      refine pw_iload_n dX6_draws_135 1 rfl rfl ?_
      refine pw_iald _ rfl (ts_fellIn hM) (by omega) (by decide) dX6_draws_136 ?_
      rw [hfl]
      refine pw_iconst (v := (-1)) dX6_draws_137 (by decide) ?_
      refine pw_icmp_eq 142 dX6_draws_138 (by decide) (fun c_138 => ?_) (fun c_138 => ?_)
      · exact absurd c_138 hA
      · refine pw_vret rfl dX6_draws_141 ?_
        exact ⟨rfl, rfl, by rw [← hR]; exact hY1, hf⟩
    · refine pw_aload_n dX6_draws_44 0 rfl rfl ?_
      refine pw_getr 37 zc_X6 (ts_this hM) (by decide) q2023 (Or.inr ⟨_, rfl⟩) (tr_fellIn hM) dX6_draws_45 ?_
      refine pw_iload_n dX6_draws_48 1 rfl rfl ?_
      refine pw_iald _ rfl (ts_fellIn hM) (by omega) (by decide) dX6_draws_49 ?_
      rw [hfl]
      refine pw_iconst (v := (-1)) dX6_draws_50 (by decide) ?_
      refine pw_icmp_ne 131 dX6_draws_51 (by decide) (fun c_51 => ?_) (fun c_51 => ?_)
      · refine pw_aload_n dX6_draws_131 0 rfl rfl ?_
        refine pw_getr 37 zc_X6 (ts_this hM) (by decide) q2023 (Or.inr ⟨_, rfl⟩) (tr_fellIn hM) dX6_draws_132 ?_
        refine pw_iload_n dX6_draws_135 1 rfl rfl ?_
        refine pw_iald _ rfl (ts_fellIn hM) (by omega) (by decide) dX6_draws_136 ?_
        rw [hfl]
        refine pw_iconst (v := (-1)) dX6_draws_137 (by decide) ?_
        refine pw_icmp_eq 142 dX6_draws_138 (by decide) (fun c_138 => ?_) (fun c_138 => ?_)
        · exact absurd c_138 hA
        · refine pw_vret rfl dX6_draws_141 ?_
          exact ⟨rfl, rfl, by rw [← hR]; exact hY1, hf⟩
      · exact absurd c_51 hA
  have hlp : ∀ (R : zYr) (r pre : List Nat) (A : zYa) (n1 : zg_N), (pre ++ r).length < 17 → yOk S r → TY n1 (pre ++ r, A) → zFr yF1 yA1 n n1 → yMt S law w k pre r A = R →
      PW zm_X6_draws 6 (tY g n R) 0 0 36 [(0, .ref aT), (1, .int (nI k)), (2, .int (nI w)), (3, .int (nI pre.length))] [] g n1 := by
    intro R r
    induction r with
    | nil =>
      intro pre A n1 hlen hr hY1 hf hR
      rw [List.append_nil] at hlen hY1
      have hfl : zai n1 at_fellIn k = A 1 k := hY1.2.1 1 (by decide) k hk17
      have hmn : zfi n1 aT tf_heldMany = nI pre.length := hY1.1.1
      refine pw_iload_n dX6_draws_36 3 rfl rfl ?_
      refine pw_aload_n dX6_draws_37 0 rfl rfl ?_
      refine pw_geti 44 zc_X6 (ts_this hM) (by decide) q2030 (Or.inl rfl) dX6_draws_38 ?_
      rw [hmn]
      refine pw_icmp_ge_N 131 dX6_draws_41 (by decide) (by omega) (by omega) (fun c_41 => ?_) (fun c_41 => ?_)
      · refine pw_aload_n dX6_draws_131 0 rfl rfl ?_
        refine pw_getr 37 zc_X6 (ts_this hM) (by decide) q2023 (Or.inr ⟨_, rfl⟩) (tr_fellIn hM) dX6_draws_132 ?_
        refine pw_iload_n dX6_draws_135 1 rfl rfl ?_
        refine pw_iald _ rfl (ts_fellIn hM) (by omega) (by decide) dX6_draws_136 ?_
        rw [hfl]
        refine pw_iconst (v := (-1)) dX6_draws_137 (by decide) ?_
        refine pw_icmp_eq 142 dX6_draws_138 (by decide) (fun c_138 => ?_) (fun c_138 => ?_)
        · refine pw_aload_n dX6_draws_142 0 rfl rfl ?_
          refine pw_getr 35 zc_X6 (ts_this hM) (by decide) q2021 (Or.inr ⟨_, rfl⟩) (tr_heldRow hM) dX6_draws_143 ?_
          refine pw_aload_n dX6_draws_146 0 rfl rfl ?_
          refine pw_geti 44 zc_X6 (ts_this hM) (by decide) q2030 (Or.inl rfl) dX6_draws_147 ?_
          rw [hmn]
          refine pw_iload_n dX6_draws_150 1 rfl rfl ?_
          refine pw_iast pre.length rfl (ts_heldRow hM) (by decide) (by omega) (by decide) dX6_draws_151 ?_
          refine pw_aload_n dX6_draws_152 0 rfl rfl ?_
          refine pw_dup dX6_draws_153 rfl ?_
          refine pw_geti 44 zc_X6 (ts_this hM) (by decide) q2030 (Or.inl rfl) dX6_draws_154 ?_
          rw [show zfi (zpai n1 at_heldRow pre.length (nI k)) aT tf_heldMany = nI pre.length from hmn]
          refine pw_iconst (v := 1) dX6_draws_157 (by decide) ?_
          refine pw_iadd dX6_draws_158 ?_
          rw [nI_1]
          refine pw_puti 44 zc_X6 (ts_this hM) (by decide) (by decide) q2030 rfl (Or.inl rfl) rfl rfl dX6_draws_159 ?_
          refine pw_vret rfl dX6_draws_162 ?_
          refine ⟨rfl, rfl, ?_, (hf.pai (by unfold yA1; decide)).pfi ⟨rfl, Or.inl rfl⟩⟩
          rw [← hR, yMt, if_pos c_138]
          have hfx : zFr (fun a k => a = aT ∧ k = tf_heldMany) (fun a => a = at_heldRow) n1 (zpfi (zpai n1 at_heldRow pre.length (nI k)) aT tf_heldMany (nI (pre.length + 1))) := by refine zFr.pfi (zFr.pai zFr.rf ?_) ?_; exact rfl; exact ⟨rfl, rfl⟩
          refine ⟨⟨by show zfi (zpfi (zpai n1 at_heldRow pre.length (nI k)) aT tf_heldMany (nI (pre.length + 1))) aT tf_heldMany = nI (pre ++ [k]).length; rw [zfi_p, if_pos ⟨rfl, rfl⟩, List.length_append]; rfl, fun i b hi => ?_⟩, hY1.2.keep hfx (fun c hc z => by have := z.2; have : 45 + c = 44 := this; omega) (fun a ha z => by have : 1529 + a = 1528 := z; omega)⟩
          show zai (zpai n1 at_heldRow pre.length (nI k)) at_heldRow i = nI b
          rw [zai_p]
          by_cases e : i = pre.length
          · subst e
            rw [List.getElem?_append_right (Nat.le_refl _), Nat.sub_self] at hi
            cases hi
            rw [if_pos ⟨rfl, rfl⟩]
          · rw [if_neg (fun z => e z.2)]
            have hil := (List.getElem?_eq_some_iff.mp hi).1
            rw [List.length_append] at hil
            simp only [List.length_cons, List.length_nil] at hil
            rw [List.getElem?_append_left (by omega)] at hi
            exact hY1.1.2 i b hi
        · refine pw_vret rfl dX6_draws_141 ?_
          exact ⟨rfl, rfl, by rw [← hR, yMt, if_neg c_138]; exact hY1, hf⟩
      · exact absurd c_41 (Nat.lt_irrefl _)
    | cons o r ih =>
      intro pre A n1 hlen hr hY1 hf hR
      have hT1 := hT.keep hW (hf.mono yF1_tF yA1_tA)
      have ho := hr o List.mem_cons_self
      have ho17 := ho.lt hW
      have hr2 : yOk S r := fun b hb => hr b (List.mem_cons_of_mem _ hb)
      have hlen2 : (pre ++ o :: r).length = pre.length + r.length + 1 := by simp only [List.length_append, List.length_cons]; omega
      have hfl : zai n1 at_fellIn k = A 1 k := hY1.2.1 1 (by decide) k hk17
      have hlaw1 : zfi n1 aT tf_yearLaw = nI law := ((hf.1 aT tf_yearLaw (fun z => by have := z.2; revert this; decide)).1).trans hlaw
      have hwle := yWho_le hW law A (pre ++ o :: r).length o k w
      refine pw_iload_n dX6_draws_36 3 rfl rfl ?_
      refine pw_aload_n dX6_draws_37 0 rfl rfl ?_
      refine pw_geti 44 zc_X6 (ts_this hM) (by decide) q2030 (Or.inl rfl) dX6_draws_38 ?_
      rw [show zfi n1 aT tf_heldMany = nI (pre ++ o :: r).length from hY1.1.1, hlen2]
      refine pw_icmp_ge_N 131 dX6_draws_41 (by decide) (by omega) (by omega) (fun c_41 => ?_) (fun c_41 => ?_)
      · exact absurd c_41 (by omega)
      · refine pw_aload_n dX6_draws_44 0 rfl rfl ?_
        refine pw_getr 37 zc_X6 (ts_this hM) (by decide) q2023 (Or.inr ⟨_, rfl⟩) (tr_fellIn hM) dX6_draws_45 ?_
        refine pw_iload_n dX6_draws_48 1 rfl rfl ?_
        refine pw_iald _ rfl (ts_fellIn hM) (by omega) (by decide) dX6_draws_49 ?_
        rw [hfl]
        refine pw_iconst (v := (-1)) dX6_draws_50 (by decide) ?_
        refine pw_icmp_ne 131 dX6_draws_51 (by decide) (fun c_51 => ?_) (fun c_51 => ?_)
        · refine pw_aload_n dX6_draws_131 0 rfl rfl ?_
          refine pw_getr 37 zc_X6 (ts_this hM) (by decide) q2023 (Or.inr ⟨_, rfl⟩) (tr_fellIn hM) dX6_draws_132 ?_
          refine pw_iload_n dX6_draws_135 1 rfl rfl ?_
          refine pw_iald _ rfl (ts_fellIn hM) (by omega) (by decide) dX6_draws_136 ?_
          rw [hfl]
          refine pw_iconst (v := (-1)) dX6_draws_137 (by decide) ?_
          refine pw_icmp_eq 142 dX6_draws_138 (by decide) (fun c_138 => ?_) (fun c_138 => ?_)
          · exact absurd c_138 c_51
          · refine pw_vret rfl dX6_draws_141 ?_
            exact ⟨rfl, rfl, by rw [← hR, yMt, if_pos c_51]; exact hY1, hf⟩
        · refine pw_aload_n dX6_draws_54 0 rfl rfl ?_
          refine pw_getr 35 zc_X6 (ts_this hM) (by decide) q2021 (Or.inr ⟨_, rfl⟩) (tr_heldRow hM) dX6_draws_55 ?_
          refine pw_iload_n dX6_draws_58 3 rfl rfl ?_
          refine pw_iald pre.length rfl (ts_heldRow hM) (by omega) (by decide) dX6_draws_59 ?_
          rw [hY1.1.2 _ _ (get_mid pre o r)]
          refine pw_istore (ls' := [(4, _), (0, _), (1, _), (2, _), (3, _)]) dX6_draws_60 (by decide) rfl ?_
          refine pw_ls [1, 2, 3, 4, 0] (ls' := [(0, _), (1, _), (2, _), (3, _), (4, _)]) rfl ?_
          refine pw_aload_n dX6_draws_62 0 rfl rfl ?_
          refine pw_iload dX6_draws_63 4 rfl ?_
          refine pw_iload_n dX6_draws_65 1 rfl rfl ?_
          refine pw_iload_n dX6_draws_66 2 rfl rfl ?_
          refine pw_callV3 zmM_X6_falls rfl (lw_V q2359 q2361 qs91 q150 q2362) rfl (ts_this hM) zc_X6 (t_falls hM hT1 hW o k w ho hk hw) (by decide) (Nat.le_refl _) (Nat.le_refl _) rfl (Nat.le_of_ble_eq_true rfl) (Nat.le_of_ble_eq_true rfl) dX6_draws_67 zE.nx (zE_kk ?_)
          refine pw_if_ne_B 79 dX6_draws_70 (by decide) (fun c_70 => ?_) (fun c_70 => ?_)
          · refine pw_aload_n dX6_draws_79 0 rfl rfl ?_
            refine pw_iload dX6_draws_80 4 rfl ?_
            refine pw_iload_n dX6_draws_82 1 rfl rfl ?_
            refine pw_iload_n dX6_draws_83 2 rfl rfl ?_
            refine pw_callV3 zmM_X6_whoFalls rfl (lw_V q2432 q2434 qs102 q150 q2435) rfl (ts_this hM) zc_X6 (t_whoFalls hM hT1 hW hY1 law hlaw1 hl4 o k w ho hk hw) (by decide) (Nat.le_refl _) (Nat.le_refl _) rfl (Nat.le_of_ble_eq_true rfl) (Nat.le_of_ble_eq_true rfl) dX6_draws_84 (by intros; rintro ⟨h, _⟩; cases h) (fun v1 g1 n2 hh => ?_)
            obtain ⟨h1, rfl, hf2⟩ := hh
            cases h1
            have hY2 : TY n2 (pre ++ o :: r, A) := ⟨hY1.1.keep hf2 (fun z => z) (by unfold zBm; decide), hY1.2.keep hf2 (fun _ _ z => z) (fun a ha z => by rcases z with z | z; have : 1529 + a = 1526 := z; omega; have : 1529 + a = 1536 := z; omega)⟩
            have hf3 := hf.tr (hf2.mono zB0_y zBm_y)
            refine pw_istore (ls' := [(5, _), (0, _), (1, _), (2, _), (3, _), (4, _)]) dX6_draws_87 (by decide) rfl ?_
            refine pw_ls [1, 2, 3, 4, 5, 0] (ls' := [(0, _), (1, _), (2, _), (3, _), (4, _), (5, _)]) rfl ?_
            refine pw_iload dX6_draws_89 5 rfl ?_
            refine pw_iconst (v := 2) dX6_draws_91 (by decide) ?_
            refine pw_icmp_eq_N (b := 2) 103 dX6_draws_92 (by decide) (by omega) (by omega) (fun c_92 => ?_) (fun c_92 => ?_)
            · refine pw_iload dX6_draws_103 5 rfl ?_
              refine pw_iconst (v := 1) dX6_draws_105 (by decide) ?_
              refine pw_icmp_ne_N (b := 1) 115 dX6_draws_106 (by decide) (by omega) (by omega) (fun c_106 => ?_) (fun c_106 => ?_)
              · refine pw_aload_n dX6_draws_115 0 rfl rfl ?_
                refine pw_iload dX6_draws_116 4 rfl ?_
                refine pw_iload_n dX6_draws_118 1 rfl rfl ?_
                refine pw_iload_n dX6_draws_119 2 rfl rfl ?_
                refine pw_callV3 zmM_X6_drops rfl (lw_V q2451 q2453 qs106 q150 q2454) rfl (ts_this hM) zc_X6 (t_drops hM hY2 o k w ho17) (by decide) (Nat.le_refl _) (Nat.le_refl _) rfl (Nat.le_of_ble_eq_true rfl) (Nat.le_of_ble_eq_true rfl) dX6_draws_120 (by intros; rintro ⟨h, _⟩; cases h) (fun v1 g1 n4 hh => ?_)
                obtain ⟨h1, rfl, hY4, hf6⟩ := hh
                cases h1
                have hf7 := hf3.tr hf6
                refine pw_aload_n dX6_draws_123 0 rfl rfl ?_
                refine pw_iload_n dX6_draws_124 3 rfl rfl ?_
                refine pw_callV1 zmM_X6_leaves rfl (lw_V q2424 q2426 qs100 q150 q2427) rfl (ts_this hM) zc_X6 (t_leaves hM hY4 (by omega)) (by decide) (Nat.le_refl _) (Nat.le_refl _) rfl (Nat.le_of_ble_eq_true rfl) (Nat.le_of_ble_eq_true rfl) dX6_draws_125 (by intros; rintro ⟨h, _⟩; cases h) (fun v1 g1 n5 hh => ?_)
                obtain ⟨h1, rfl, hY5, hf8⟩ := hh
                cases h1
                first | skip
                refine pw_goto 36 dX6_draws_128 (by decide) ?_
                refine pw_ls [0, 1, 2, 3] (ls' := [(0, _), (1, _), (2, _), (3, _)]) rfl ?_
                first
                  | exact ih pre _ n5 (by rw [List.length_append]; omega) hr2 hY5 (hf7.tr hf8) (by rw [← hR, yMt, if_neg (fun z => z c_51), if_neg (fun z => z c_70), if_pos c_92])
                  | exact hend R pre.length _ _ n5 (by rw [List.length_append]; omega) (by omega) hY5 (hf7.tr hf8) (yDrop_fell2 _ k o k w hw (yDrop_fell A k o w hw)) (by rw [← hR, yMt, if_neg (fun z => z c_51), if_neg (fun z => z c_70), if_neg c_92, if_neg c_106])
              · exact absurd c_106 (by omega)
            · refine pw_aload_n dX6_draws_95 0 rfl rfl ?_
              refine pw_iload_n dX6_draws_96 1 rfl rfl ?_
              refine pw_iload dX6_draws_97 4 rfl ?_
              refine pw_iload_n dX6_draws_99 2 rfl rfl ?_
              refine pw_callV3 zmM_X6_drops rfl (lw_V q2451 q2453 qs106 q150 q2454) rfl (ts_this hM) zc_X6 (t_drops hM hY2 k o w hk17) (by decide) (Nat.le_refl _) (Nat.le_refl _) rfl (Nat.le_of_ble_eq_true rfl) (Nat.le_of_ble_eq_true rfl) dX6_draws_100 (by intros; rintro ⟨h, _⟩; cases h) (fun v1 g1 n3 hh => ?_)
              obtain ⟨h1, rfl, hY3, hf4⟩ := hh
              cases h1
              have hf5 := hf3.tr hf4
              refine pw_iload dX6_draws_103 5 rfl ?_
              refine pw_iconst (v := 1) dX6_draws_105 (by decide) ?_
              refine pw_icmp_ne_N (b := 1) 115 dX6_draws_106 (by decide) (by omega) (by omega) (fun c_106 => ?_) (fun c_106 => ?_)
              · refine pw_aload_n dX6_draws_115 0 rfl rfl ?_
                refine pw_iload dX6_draws_116 4 rfl ?_
                refine pw_iload_n dX6_draws_118 1 rfl rfl ?_
                refine pw_iload_n dX6_draws_119 2 rfl rfl ?_
                refine pw_callV3 zmM_X6_drops rfl (lw_V q2451 q2453 qs106 q150 q2454) rfl (ts_this hM) zc_X6 (t_drops hM hY3 o k w ho17) (by decide) (Nat.le_refl _) (Nat.le_refl _) rfl (Nat.le_of_ble_eq_true rfl) (Nat.le_of_ble_eq_true rfl) dX6_draws_120 (by intros; rintro ⟨h, _⟩; cases h) (fun v1 g1 n4 hh => ?_)
                obtain ⟨h1, rfl, hY4, hf6⟩ := hh
                cases h1
                have hf7 := hf5.tr hf6
                refine pw_aload_n dX6_draws_123 0 rfl rfl ?_
                refine pw_iload_n dX6_draws_124 3 rfl rfl ?_
                refine pw_callV1 zmM_X6_leaves rfl (lw_V q2424 q2426 qs100 q150 q2427) rfl (ts_this hM) zc_X6 (t_leaves hM hY4 (by omega)) (by decide) (Nat.le_refl _) (Nat.le_refl _) rfl (Nat.le_of_ble_eq_true rfl) (Nat.le_of_ble_eq_true rfl) dX6_draws_125 (by intros; rintro ⟨h, _⟩; cases h) (fun v1 g1 n5 hh => ?_)
                obtain ⟨h1, rfl, hY5, hf8⟩ := hh
                cases h1
                first | skip
                refine pw_goto 36 dX6_draws_128 (by decide) ?_
                refine pw_ls [0, 1, 2, 3] (ls' := [(0, _), (1, _), (2, _), (3, _)]) rfl ?_
                first
                  | exact ih pre _ n5 (by rw [List.length_append]; omega) hr2 hY5 (hf7.tr hf8) (by rw [← hR, yMt, if_neg (fun z => z c_51), if_neg (fun z => z c_70), if_pos c_92])
                  | exact hend R pre.length _ _ n5 (by rw [List.length_append]; omega) (by omega) hY5 (hf7.tr hf8) (yDrop_fell2 _ k o k w hw (yDrop_fell A k o w hw)) (by rw [← hR, yMt, if_neg (fun z => z c_51), if_neg (fun z => z c_70), if_neg c_92, if_neg c_106])
              · refine pw_iinc1 (j := 3) (ls' := [(3, _), (0, _), (1, _), (2, _), (4, _), (5, _)]) dX6_draws_109 rfl (by decide) rfl ?_
                refine pw_ls [1, 2, 3, 0, 4, 5] (ls' := [(0, _), (1, _), (2, _), (3, _), (4, _), (5, _)]) rfl ?_
                refine pw_goto 36 dX6_draws_112 (by decide) ?_
                refine pw_ls [0, 1, 2, 3] (ls' := [(0, _), (1, _), (2, _), (3, _)]) rfl ?_
                exact hend R (pre.length + 1) _ _ n3 (by omega) (by omega) hY3 hf5 (yDrop_fell A k o w hw) (by rw [← hR, yMt, if_neg (fun z => z c_51), if_neg (fun z => z c_70), if_neg c_92, if_pos c_106])
          · refine pw_iinc1 (j := 3) (ls' := [(3, _), (0, _), (1, _), (2, _), (4, _)]) dX6_draws_73 rfl (by decide) rfl ?_
            refine pw_ls [1, 2, 3, 0, 4] (ls' := [(0, _), (1, _), (2, _), (3, _), (4, _)]) rfl ?_
            refine pw_goto 36 dX6_draws_76 (by decide) ?_
            refine pw_ls [0, 1, 2, 3] (ls' := [(0, _), (1, _), (2, _), (3, _)]) rfl ?_
            have := ih (pre ++ [o]) A n1 (by rw [app_mid]; exact hlen) hr2 (by rw [app_mid]; exact hY1) hf (by rw [← hR, yMt, if_neg (fun z => z c_51), if_pos c_70])
            rw [List.length_append] at this
            exact this
  have hkn : zfi n aT tf_killed = y.2 5 1 := hY.2.2 1 (by decide)
  refine pw_aload_n dX6_draws_0 0 rfl rfl ?_
  refine pw_getr 36 zc_X6 (ts_this hM) (by decide) q2022 (Or.inr ⟨_, rfl⟩) (tr_drawnIn hM) dX6_draws_1 ?_
  refine pw_iload_n dX6_draws_4 1 rfl rfl ?_
  refine pw_iload_n dX6_draws_5 2 rfl rfl ?_
  refine pw_iast k rfl (ts_drawnIn hM) (by decide) (by omega) (by decide) dX6_draws_6 ?_
  have hY0 : TY (zpai n at_drawnIn k (nI w)) (y.1, zu2 y.2 0 k (nI w)) := ⟨hY.1.put _ _ _ (by decide), hY.2.put 0 k (nI w) (by decide)⟩
  have hf0 : zFr yF1 yA1 n (zpai n at_drawnIn k (nI w)) := zFr.rf.pai (by unfold yA1; decide)
  have hT0 := hT.keep hW (hf0.mono yF1_tF yA1_tA)
  have hkn0 : zfi (zpai n at_drawnIn k (nI w)) aT tf_killed = y.2 5 1 := hkn
  generalize zpai n at_drawnIn k (nI w) = n0 at hY0 hf0 hT0 hkn0 ⊢
  refine pw_aload_n dX6_draws_7 0 rfl rfl ?_
  refine pw_iload_n dX6_draws_8 1 rfl rfl ?_
  refine pw_iload_n dX6_draws_9 2 rfl rfl ?_
  refine pw_callV2 zmM_X6_isDead rfl (lw_V q2420 q2422 qs99 q150 q2423) rfl (ts_this hM) zc_X6 (t_isDead hM hT0 hW k w hk hw) (by decide) (Nat.le_refl _) (Nat.le_refl _) rfl (Nat.le_of_ble_eq_true rfl) (Nat.le_of_ble_eq_true rfl) dX6_draws_10 zE.nx (zE_kk ?_)
  refine pw_if_eq_B 34 dX6_draws_13 (by decide) (fun c_13 => ?_) (fun c_13 => ?_)
  · refine pw_iconst (v := 0) dX6_draws_34 (by decide) ?_
    refine pw_istore_n (ls' := [(3, _), (0, _), (1, _), (2, _)]) dX6_draws_35 rfl (by decide) rfl ?_
    refine pw_ls [1, 2, 3, 0] (ls' := [(0, _), (1, _), (2, _), (3, _)]) rfl ?_
    rw [yMeet, if_neg c_13]
    exact hlp _ y.1 [] _ n0 (by rw [List.nil_append]; exact hl) hok hY0 hf0 rfl
  · refine pw_aload_n dX6_draws_16 0 rfl rfl ?_
    refine pw_getr 37 zc_X6 (ts_this hM) (by decide) q2023 (Or.inr ⟨_, rfl⟩) (tr_fellIn hM) dX6_draws_17 ?_
    refine pw_iload_n dX6_draws_20 1 rfl rfl ?_
    refine pw_iload_n dX6_draws_21 2 rfl rfl ?_
    refine pw_iast _ rfl (ts_fellIn hM) (by decide) (by omega) (by decide) dX6_draws_22 ?_
    refine pw_aload_n dX6_draws_23 0 rfl rfl ?_
    refine pw_dup dX6_draws_24 rfl ?_
    refine pw_geti 46 zc_X6 (ts_this hM) (by decide) q2032 (Or.inl rfl) dX6_draws_25 ?_
    rw [show zfi (zpai n0 at_fellIn k (nI w)) aT tf_killed = y.2 5 1 from hkn0]
    refine pw_iconst (v := 1) dX6_draws_28 (by decide) ?_
    refine pw_iadd dX6_draws_29 ?_
    refine pw_puti 46 zc_X6 (ts_this hM) (by decide) (by decide) q2032 rfl (Or.inl rfl) rfl rfl dX6_draws_30 ?_
    refine pw_vret rfl dX6_draws_33 ?_
    rw [yMeet, if_pos c_13]
    exact ⟨rfl, rfl, ⟨(hY0.1.put at_fellIn k (nI w) (by decide)).fld tf_killed _ (by decide), (hY0.2.put 1 k (nI w) (by decide)).cnt 1 _⟩, (hf0.pai (by unfold yA1; decide)).pfi ⟨rfl, Or.inr (Or.inr (Or.inl rfl))⟩⟩

/-! ===== the reference: a year gone through ===== -/
theorem t_ages {g : zg_G} {n : zg_N} {S : zS} (hM : TSh g) (hT : TW n S) (hW : WF S) {L : List Nat} {A : zYa} (hY : TY n (L, A)) (hl : L.length ≤ 17) (hok : yOk S L) : PW zm_X6_ages 2 (tY g n (L, yAg S L A)) 0 0 0 [(0, .ref aT)] [] g n := by
  have hlp : ∀ (r pre : List Nat) (A1 : zYa) (n1 : zg_N), pre ++ r = L → TY n1 (L, A1) → zFr yF1 yA1 n n1 → yAg S r A1 = yAg S L A →
      PW zm_X6_ages 2 (tY g n (L, yAg S L A)) 0 0 2 [(0, .ref aT), (1, .int (nI pre.length))] [] g n1 := by
    intro r
    induction r with
    | nil =>
      intro pre A1 n1 hL hY1 hf hR
      rw [List.append_nil] at hL
      have hlL : pre.length = L.length := by rw [hL]
      refine pw_iload_n dX6_ages_2 1 rfl rfl ?_
      refine pw_aload_n dX6_ages_3 0 rfl rfl ?_
      refine pw_geti 44 zc_X6 (ts_this hM) (by decide) q2030 (Or.inl rfl) dX6_ages_4 ?_
      rw [show zfi n1 aT tf_heldMany = nI pre.length from by rw [hL]; exact hY1.1.1]
      refine pw_icmp_ge_N 64 dX6_ages_7 (by decide) (by omega) (by omega) (fun c_7 => ?_) (fun c_7 => ?_)
      · refine pw_vret rfl dX6_ages_64 ?_
        exact ⟨rfl, rfl, by rw [← hR]; exact hY1, hf⟩
      · exact absurd c_7 (Nat.lt_irrefl _)
    | cons k r ih =>
      intro pre A1 n1 hL hY1 hf hR
      have hT1 := hT.keep hW (hf.mono yF1_tF yA1_tA)
      have hk := hok k (by rw [← hL]; exact List.mem_append_right _ List.mem_cons_self)
      have hk17 := hk.lt hW
      have hlen2 : L.length = pre.length + r.length + 1 := by rw [← hL]; simp only [List.length_append, List.length_cons]; omega
      have hwk : zai n1 at_weeksOf k = A1 3 k := hY1.2.1 3 (by decide) k hk17
      have hhk : zai n1 at_hurtsOf k = A1 4 k := hY1.2.1 4 (by decide) k hk17
      have hhc : zfi n1 aT tf_hurts = A1 5 2 := hY1.2.2 2 (by decide)
      refine pw_iload_n dX6_ages_2 1 rfl rfl ?_
      refine pw_aload_n dX6_ages_3 0 rfl rfl ?_
      refine pw_geti 44 zc_X6 (ts_this hM) (by decide) q2030 (Or.inl rfl) dX6_ages_4 ?_
      rw [show zfi n1 aT tf_heldMany = nI L.length from hY1.1.1, hlen2]
      refine pw_icmp_ge_N 64 dX6_ages_7 (by decide) (by omega) (by omega) (fun c_7 => ?_) (fun c_7 => ?_)
      · exact absurd c_7 (by omega)
      · refine pw_aload_n dX6_ages_10 0 rfl rfl ?_
        refine pw_getr 35 zc_X6 (ts_this hM) (by decide) q2021 (Or.inr ⟨_, rfl⟩) (tr_heldRow hM) dX6_ages_11 ?_
        refine pw_iload_n dX6_ages_14 1 rfl rfl ?_
        refine pw_iald pre.length rfl (ts_heldRow hM) (by omega) (by decide) dX6_ages_15 ?_
        rw [hY1.1.2 _ _ (by rw [← hL]; exact get_mid pre k r)]
        refine pw_istore_n (ls' := [(2, _), (0, _), (1, _)]) dX6_ages_16 rfl (by decide) rfl ?_
        refine pw_ls [1, 2, 0] (ls' := [(0, _), (1, _), (2, _)]) rfl ?_
        refine pw_aload_n dX6_ages_17 0 rfl rfl ?_
        refine pw_getr 39 zc_X6 (ts_this hM) (by decide) q2025 (Or.inr ⟨_, rfl⟩) (tr_weeksOf hM) dX6_ages_18 ?_
        refine pw_iload_n dX6_ages_21 2 rfl rfl ?_
        refine pw_dup2_11 dX6_ages_22 rfl rfl ?_
        refine pw_iald k rfl (ts_weeksOf hM) (by omega) (by decide) dX6_ages_23 ?_
        rw [hwk]
        refine pw_iconst (v := 1) dX6_ages_24 (by decide) ?_
        refine pw_iadd dX6_ages_25 ?_
        refine pw_iast k rfl (ts_weeksOf hM) (by decide) (by omega) (by decide) dX6_ages_26 ?_
        have hY2 : TY (zpai n1 at_weeksOf k (A1 3 k + 1)) (L, zu2 A1 3 k (A1 3 k + 1)) := ⟨hY1.1.put _ _ _ (by decide), hY1.2.put 3 k _ (by decide)⟩
        have hf2 : zFr yF1 yA1 n (zpai n1 at_weeksOf k (A1 3 k + 1)) := hf.pai (by unfold yA1; decide)
        have hT2 := hT.keep hW (hf2.mono yF1_tF yA1_tA)
        have hhk2 : zai (zpai n1 at_weeksOf k (A1 3 k + 1)) at_hurtsOf k = A1 4 k := hhk
        have hhc2 : zfi (zpai n1 at_weeksOf k (A1 3 k + 1)) aT tf_hurts = A1 5 2 := hhc
        generalize zpai n1 at_weeksOf k (A1 3 k + 1) = n2 at hY2 hf2 hT2 hhk2 hhc2 ⊢
        refine pw_aload_n dX6_ages_27 0 rfl rfl ?_
        refine pw_iload_n dX6_ages_28 2 rfl rfl ?_
        refine pw_callV1 zmM_X6_isTrue rfl (lw_V q2371 q2373 qs93 q150 q2374) rfl (ts_this hM) zc_X6 (t_isTrue hM hT2 hW k hk) (by decide) (Nat.le_refl _) (Nat.le_refl _) rfl (Nat.le_of_ble_eq_true rfl) (Nat.le_of_ble_eq_true rfl) dX6_ages_29 zE.nx (zE_kk ?_)
        refine pw_if_eq_B 38 dX6_ages_32 (by decide) (fun c_32 => ?_) (fun c_32 => ?_)
        · refine pw_aload_n dX6_ages_38 0 rfl rfl ?_
          refine pw_getr 40 zc_X6 (ts_this hM) (by decide) q2026 (Or.inr ⟨_, rfl⟩) (tr_hurtsOf hM) dX6_ages_39 ?_
          refine pw_iload_n dX6_ages_42 2 rfl rfl ?_
          refine pw_dup2_11 dX6_ages_43 rfl rfl ?_
          refine pw_iald k rfl (ts_hurtsOf hM) (by omega) (by decide) dX6_ages_44 ?_
          rw [hhk2]
          refine pw_iconst (v := 1) dX6_ages_45 (by decide) ?_
          refine pw_iadd dX6_ages_46 ?_
          refine pw_iast k rfl (ts_hurtsOf hM) (by decide) (by omega) (by decide) dX6_ages_47 ?_
          refine pw_aload_n dX6_ages_48 0 rfl rfl ?_
          refine pw_dup dX6_ages_49 rfl ?_
          refine pw_geti 47 zc_X6 (ts_this hM) (by decide) q2033 (Or.inl rfl) dX6_ages_50 ?_
          rw [show zfi (zpai n2 at_hurtsOf k (A1 4 k + 1)) aT tf_hurts = A1 5 2 from hhc2]
          refine pw_iconst (v := 1) dX6_ages_53 (by decide) ?_
          refine pw_iadd dX6_ages_54 ?_
          refine pw_puti 47 zc_X6 (ts_this hM) (by decide) (by decide) q2033 rfl (Or.inl rfl) rfl rfl dX6_ages_55 ?_
          refine pw_iinc1 (j := 1) (ls' := [(1, _), (0, _), (2, _)]) dX6_ages_58 rfl (by decide) rfl ?_
          refine pw_ls [1, 0, 2] (ls' := [(0, _), (1, _), (2, _)]) rfl ?_
          refine pw_goto 2 dX6_ages_61 (by decide) ?_
          refine pw_ls [0, 1] (ls' := [(0, _), (1, _)]) rfl ?_
          have := ih (pre ++ [k]) (yHurt (zu2 A1 3 k (A1 3 k + 1)) k) _ (by rw [app_mid]; exact hL) ⟨(hY2.1.put at_hurtsOf k (A1 4 k + 1) (by decide)).fld tf_hurts (A1 5 2 + 1) (by decide), (hY2.2.put 4 k (A1 4 k + 1) (by decide)).cnt 2 (A1 5 2 + 1)⟩ ((hf2.pai (a := at_hurtsOf) (k := k) (v := A1 4 k + 1) (by unfold yA1; decide)).pfi (a := aT) (k := tf_hurts) (v := A1 5 2 + 1) ⟨rfl, Or.inr (Or.inr (Or.inr rfl))⟩) (by rw [← hR, yAg, yAg1, if_neg c_32])
          rw [List.length_append] at this
          exact this
        · refine pw_goto 58 dX6_ages_35 (by decide) ?_
          refine pw_iinc1 (j := 1) (ls' := [(1, _), (0, _), (2, _)]) dX6_ages_58 rfl (by decide) rfl ?_
          refine pw_ls [1, 0, 2] (ls' := [(0, _), (1, _), (2, _)]) rfl ?_
          refine pw_goto 2 dX6_ages_61 (by decide) ?_
          refine pw_ls [0, 1] (ls' := [(0, _), (1, _)]) rfl ?_
          have := ih (pre ++ [k]) _ n2 (by rw [app_mid]; exact hL) hY2 hf2 (by rw [← hR, yAg, yAg1, if_pos c_32])
          rw [List.length_append] at this
          exact this
  refine pw_iconst (v := 0) dX6_ages_0 (by decide) ?_
  refine pw_istore_n (ls' := [(1, _), (0, _)]) dX6_ages_1 rfl (by decide) rfl ?_
  refine pw_ls [1, 0] (ls' := [(0, _), (1, _)]) rfl ?_
  exact hlp L [] A n rfl hY zFr.rf rfl
theorem t_heldNow {g : zg_G} {n : zg_N} {S : zS} (hM : TSh g) (hW : WF S) {L : List Nat} (hY : TYl n L) (hl : L.length ≤ 17) (hok : yOk S L) : PW zm_X6_heldNow 1 (zE (some (.int (yBits L))) g n) 0 0 0 [(0, .ref aT)] [] g n := by
  have hlp : ∀ (r pre : List Nat) (B : Int32), pre ++ r = L → yBitsF B r = yBits L →
      PW zm_X6_heldNow 1 (zE (some (.int (yBits L))) g n) 0 0 4 [(0, .ref aT), (1, .int B), (2, .int (nI pre.length))] [] g n := by
    intro r
    induction r with
    | nil =>
      intro pre B hL hR
      rw [List.append_nil] at hL
      have hlL : pre.length = L.length := by rw [hL]
      refine pw_iload_n dX6_heldNow_4 2 rfl rfl ?_
      refine pw_aload_n dX6_heldNow_5 0 rfl rfl ?_
      refine pw_geti 44 zc_X6 (ts_this hM) (by decide) q2030 (Or.inl rfl) dX6_heldNow_6 ?_
      rw [show zfi n aT tf_heldMany = nI pre.length from by rw [hL]; exact hY.1]
      refine pw_icmp_ge_N 29 dX6_heldNow_9 (by decide) (by omega) (by omega) (fun c_9 => ?_) (fun c_9 => ?_)
      · refine pw_iload_n dX6_heldNow_29 1 rfl rfl ?_
        refine pw_iret rfl dX6_heldNow_30 ?_
        exact ⟨by rw [← hR]; rfl, rfl, rfl⟩
      · exact absurd c_9 (Nat.lt_irrefl _)
    | cons k r ih =>
      intro pre B hL hR
      have hk := hok k (by rw [← hL]; exact List.mem_append_right _ List.mem_cons_self)
      have hk17 := hk.lt hW
      have hlen2 : L.length = pre.length + r.length + 1 := by rw [← hL]; simp only [List.length_append, List.length_cons]; omega
      refine pw_iload_n dX6_heldNow_4 2 rfl rfl ?_
      refine pw_aload_n dX6_heldNow_5 0 rfl rfl ?_
      refine pw_geti 44 zc_X6 (ts_this hM) (by decide) q2030 (Or.inl rfl) dX6_heldNow_6 ?_
      rw [hY.1, hlen2]
      refine pw_icmp_ge_N 29 dX6_heldNow_9 (by decide) (by omega) (by omega) (fun c_9 => ?_) (fun c_9 => ?_)
      · exact absurd c_9 (by omega)
      · refine pw_iload_n dX6_heldNow_12 1 rfl rfl ?_
        refine pw_iconst (v := 1) dX6_heldNow_13 (by decide) ?_
        refine pw_aload_n dX6_heldNow_14 0 rfl rfl ?_
        refine pw_getr 35 zc_X6 (ts_this hM) (by decide) q2021 (Or.inr ⟨_, rfl⟩) (tr_heldRow hM) dX6_heldNow_15 ?_
        refine pw_iload_n dX6_heldNow_18 2 rfl rfl ?_
        refine pw_iald pre.length rfl (ts_heldRow hM) (by omega) (by decide) dX6_heldNow_19 ?_
        rw [hY.2 _ _ (by rw [← hL]; exact get_mid pre k r)]
        refine pw_ishl dX6_heldNow_20 ?_
        rw [ishl1 (by omega)]
        refine pw_ior dX6_heldNow_21 ?_
        refine pw_istore_n (ls' := [(1, _), (0, _), (2, _)]) dX6_heldNow_22 rfl (by decide) rfl ?_
        refine pw_ls [1, 0, 2] (ls' := [(0, _), (1, _), (2, _)]) rfl ?_
        refine pw_iinc1 (j := 2) (ls' := [(2, _), (0, _), (1, _)]) dX6_heldNow_23 rfl (by decide) rfl ?_
        refine pw_ls [1, 2, 0] (ls' := [(0, _), (1, _), (2, _)]) rfl ?_
        refine pw_goto 4 dX6_heldNow_26 (by decide) ?_
        have := ih (pre ++ [k]) (B ||| nI (2 ^ k)) (by rw [app_mid]; exact hL) hR
        rw [List.length_append] at this
        exact this
  refine pw_iconst (v := 0) dX6_heldNow_0 (by decide) ?_
  refine pw_istore_n (ls' := [(1, _), (0, _)]) dX6_heldNow_1 rfl (by decide) rfl ?_
  refine pw_ls [1, 0] (ls' := [(0, _), (1, _)]) rfl ?_
  refine pw_iconst (v := 0) dX6_heldNow_2 (by decide) ?_
  refine pw_istore_n (ls' := [(2, _), (0, _), (1, _)]) dX6_heldNow_3 rfl (by decide) rfl ?_
  refine pw_ls [1, 2, 0] (ls' := [(0, _), (1, _), (2, _)]) rfl ?_
  exact hlp L [] 0 rfl rfl
def yF (a k : Nat) : Prop := yF1 a k ∨ (a = aT ∧ k = tf_yearLaw)
def yA (a : Nat) : Prop := yA1 a ∨ a = 1534 ∨ a = 1535
theorem yF_tF : ∀ a k, yF a k → tF a k := fun a k h => by
  rcases h with h | ⟨rfl, rfl⟩
  · exact yF1_tF a k h
  · exact ⟨rfl, by decide, by decide, by decide, by decide, by decide⟩
theorem yA_tA : ∀ a, yA a → tA a := fun a h => by
  rcases h with h | rfl | rfl
  · exact yA1_tA a h
  · unfold tA; decide
  · unfold tA; decide
theorem t_begins {g : zg_G} {n : zg_N} (hM : TSh g) (law : Nat) : PW zm_X6_begins 1 (fun o g1 n1 => o = .inl none ∧ g1 = g ∧ TY n1 ([], yA0) ∧ zfi n1 aT tf_yearLaw = nI law ∧ zFr yF yA n n1) 0 0 0 [(0, .ref aT), (1, .int (nI law))] [] g n := by
  have hlp : ∀ k, k ≤ 17 → ∀ n1, (∀ a, a < 5 → ∀ j, j < k → zai n1 (at_drawnIn + a) j = yA0 a j) → (zfi n1 aT tf_heldMany = 0 ∧ zfi n1 aT tf_fell = 0 ∧ zfi n1 aT tf_killed = 0 ∧ zfi n1 aT tf_hurts = 0 ∧ zfi n1 aT tf_yearLaw = nI law) → zFr yF yA n n1 →
      PW zm_X6_begins 1 (fun o g1 n1 => o = .inl none ∧ g1 = g ∧ TY n1 ([], yA0) ∧ zfi n1 aT tf_yearLaw = nI law ∧ zFr yF yA n n1) 0 0 27 [(0, .ref aT), (1, .int (nI law)), (2, .int (nI k))] [] g n1 := by
    refine zl_up _ (fun k hk ih n1 ha hc hf => ?_)
    refine pw_iload_n dX6_begins_27 2 rfl rfl ?_
    refine pw_bipush (v := 17) dX6_begins_28 (by decide) ?_
    refine pw_icmp_ge_N (b := 17) 74 dX6_begins_30 (by decide) (by omega) (by omega) (fun c_30 => ?_) (fun c_30 => ?_)
    · refine pw_vret rfl dX6_begins_74 ?_
      exact ⟨rfl, rfl, ⟨⟨hc.1, fun i b h => nomatch h⟩, fun a h5 j hj => ha a h5 j (by omega), fun c h3 => by
        rcases (by omega : c = 0 ∨ c = 1 ∨ c = 2) with rfl | rfl | rfl
        · exact hc.2.1
        · exact hc.2.2.1
        · exact hc.2.2.2.1⟩, hc.2.2.2.2, hf⟩
    · refine pw_aload_n dX6_begins_33 0 rfl rfl ?_
      refine pw_getr 36 zc_X6 (ts_this hM) (by decide) q2022 (Or.inr ⟨_, rfl⟩) (tr_drawnIn hM) dX6_begins_34 ?_
      refine pw_iload_n dX6_begins_37 2 rfl rfl ?_
      refine pw_iconst (v := (-1)) dX6_begins_38 (by decide) ?_
      refine pw_iast k rfl (ts_drawnIn hM) (by decide) (by omega) (by decide) dX6_begins_39 ?_
      refine pw_aload_n dX6_begins_40 0 rfl rfl ?_
      refine pw_getr 37 zc_X6 (ts_this hM) (by decide) q2023 (Or.inr ⟨_, rfl⟩) (tr_fellIn hM) dX6_begins_41 ?_
      refine pw_iload_n dX6_begins_44 2 rfl rfl ?_
      refine pw_iconst (v := (-1)) dX6_begins_45 (by decide) ?_
      refine pw_iast k rfl (ts_fellIn hM) (by decide) (by omega) (by decide) dX6_begins_46 ?_
      refine pw_aload_n dX6_begins_47 0 rfl rfl ?_
      refine pw_getr 38 zc_X6 (ts_this hM) (by decide) q2024 (Or.inr ⟨_, rfl⟩) (tr_fellBy hM) dX6_begins_48 ?_
      refine pw_iload_n dX6_begins_51 2 rfl rfl ?_
      refine pw_iconst (v := (-1)) dX6_begins_52 (by decide) ?_
      refine pw_iast k rfl (ts_fellBy hM) (by decide) (by omega) (by decide) dX6_begins_53 ?_
      refine pw_aload_n dX6_begins_54 0 rfl rfl ?_
      refine pw_getr 39 zc_X6 (ts_this hM) (by decide) q2025 (Or.inr ⟨_, rfl⟩) (tr_weeksOf hM) dX6_begins_55 ?_
      refine pw_iload_n dX6_begins_58 2 rfl rfl ?_
      refine pw_iconst (v := 0) dX6_begins_59 (by decide) ?_
      refine pw_iast k rfl (ts_weeksOf hM) (by decide) (by omega) (by decide) dX6_begins_60 ?_
      refine pw_aload_n dX6_begins_61 0 rfl rfl ?_
      refine pw_getr 40 zc_X6 (ts_this hM) (by decide) q2026 (Or.inr ⟨_, rfl⟩) (tr_hurtsOf hM) dX6_begins_62 ?_
      refine pw_iload_n dX6_begins_65 2 rfl rfl ?_
      refine pw_iconst (v := 0) dX6_begins_66 (by decide) ?_
      refine pw_iast k rfl (ts_hurtsOf hM) (by decide) (by omega) (by decide) dX6_begins_67 ?_
      refine pw_iinc1 (j := 2) (ls' := [(2, _), (0, _), (1, _)]) dX6_begins_68 rfl (by decide) rfl ?_
      refine pw_ls [1, 2, 0] (ls' := [(0, _), (1, _), (2, _)]) rfl ?_
      refine pw_goto 27 dX6_begins_71 (by decide) ?_
      refine ih (k + 1) (by omega) (by omega) _ (fun a h5 j hj => ?_) hc (((((hf.pai ?_).pai ?_).pai ?_).pai ?_).pai ?_)
      · simp only [zai_p]
        by_cases e : j = k
        · subst e
          rcases (by omega : a = 0 ∨ a = 1 ∨ a = 2 ∨ a = 3 ∨ a = 4) with rfl | rfl | rfl | rfl | rfl <;> (simp only [and_true]; rfl)
        · simp only [e, and_false, if_false]
          exact ha a h5 j (by omega)
      all_goals (left; unfold yA1; decide)
  refine pw_aload_n dX6_begins_0 0 rfl rfl ?_
  refine pw_iload_n dX6_begins_1 1 rfl rfl ?_
  refine pw_puti 48 zc_X6 (ts_this hM) (by decide) (by decide) q2034 rfl (Or.inl rfl) rfl rfl dX6_begins_2 ?_
  refine pw_aload_n dX6_begins_5 0 rfl rfl ?_
  refine pw_iconst (v := 0) dX6_begins_6 (by decide) ?_
  refine pw_puti 44 zc_X6 (ts_this hM) (by decide) (by decide) q2030 rfl (Or.inl rfl) rfl rfl dX6_begins_7 ?_
  refine pw_aload_n dX6_begins_10 0 rfl rfl ?_
  refine pw_iconst (v := 0) dX6_begins_11 (by decide) ?_
  refine pw_puti 45 zc_X6 (ts_this hM) (by decide) (by decide) q2031 rfl (Or.inl rfl) rfl rfl dX6_begins_12 ?_
  refine pw_aload_n dX6_begins_15 0 rfl rfl ?_
  refine pw_iconst (v := 0) dX6_begins_16 (by decide) ?_
  refine pw_puti 46 zc_X6 (ts_this hM) (by decide) (by decide) q2032 rfl (Or.inl rfl) rfl rfl dX6_begins_17 ?_
  refine pw_aload_n dX6_begins_20 0 rfl rfl ?_
  refine pw_iconst (v := 0) dX6_begins_21 (by decide) ?_
  refine pw_puti 47 zc_X6 (ts_this hM) (by decide) (by decide) q2033 rfl (Or.inl rfl) rfl rfl dX6_begins_22 ?_
  refine pw_iconst (v := 0) dX6_begins_25 (by decide) ?_
  refine pw_istore_n (ls' := [(2, _), (0, _), (1, _)]) dX6_begins_26 rfl (by decide) rfl ?_
  refine pw_ls [1, 2, 0] (ls' := [(0, _), (1, _), (2, _)]) rfl ?_
  refine hlp 0 (Nat.zero_le _) _ (fun a _ j hj => absurd hj (Nat.not_lt_zero _)) ⟨rfl, rfl, rfl, rfl, rfl⟩ (((((zFr.rf.pfi ?_).pfi ?_).pfi ?_).pfi ?_).pfi ?_)
  · exact Or.inr ⟨rfl, rfl⟩
  · exact Or.inl ⟨rfl, Or.inl rfl⟩
  · exact Or.inl ⟨rfl, Or.inr (Or.inl rfl)⟩
  · exact Or.inl ⟨rfl, Or.inr (Or.inr (Or.inl rfl))⟩
  · exact Or.inl ⟨rfl, Or.inr (Or.inr (Or.inr rfl))⟩
def yHead : List Nat → Int32
  | [] => -1
  | k :: _ => nI k
/-- the row to be drawn -/
abbrev yRow (r : Nat → Nat) (R w : Nat) : Option Nat := if w < R then some (r w) else none
def TRow (n : zg_N) (S : zS) (r : Nat → Nat) (R : Nat) : Prop := zfi n aT tf_rowMany = nI R ∧ R ≤ 17 ∧ ∀ i, i < R → zai n at_row i = nI (r i) ∧ okb S (r i)
theorem TRow.keep {n n' : zg_N} {S : zS} {r : Nat → Nat} {R : Nat} (h : TRow n S r R) (hf : zFr yF yA n n') : TRow n' S r R := by
  have e1 : zfi n' aT tf_rowMany = zfi n aT tf_rowMany := (hf.1 aT tf_rowMany (fun z => by
    rcases z with ⟨_, z⟩ | ⟨_, z⟩
    · revert z; decide
    · revert z; decide)).1
  have e2 : ∀ i, zai n' at_row i = zai n at_row i := fun i => (hf.2 at_row (fun z => by
    rcases z with z | z | z
    · unfold yA1 at z; revert z; decide
    · revert z; decide
    · revert z; decide) i).1
  exact ⟨e1.trans h.1, h.2.1, fun i hi => ⟨(e2 i).trans (h.2.2 i hi).1, (h.2.2 i hi).2⟩⟩
theorem yRow_ok {n : zg_N} {S : zS} {r : Nat → Nat} {R : Nat} (h : TRow n S r R) : ∀ w k, yRow r R w = some k → okb S k ∧ w < 17 := fun w k e => by
  unfold yRow at e
  split at e
  · next hw => cases e; exact ⟨(h.2.2 w hw).2, Nat.lt_of_lt_of_le hw h.2.1⟩
  · exact nomatch e
/-- a year gone through -/
def TYr (n : zg_N) (S : zS) (law : Nat) (d : Nat → Option Nat) : Prop := TY n (yRun S law d 52) ∧ ∀ w, w < 52 → zai n at_heldBehind w = yBits (yRun S law d (w + 1)).1 ∧ zai n at_eldestBehind w = yHead (yRun S law d (w + 1)).1
theorem zF1F {n n' : zg_N} (h : zFr yF1 yA1 n n') : zFr yF yA n n' := h.mono (fun _ _ z => Or.inl z) (fun _ z => Or.inl z)
theorem t_goes {g : zg_G} {n : zg_N} {S : zS} (hM : TSh g) (hT : TW n S) (hW : WF S) (law : Nat) (hl4 : law ≤ 4) {r : Nat → Nat} {R : Nat} (hr : TRow n S r R) : PW zm_X6_goes 7 (fun o g1 n1 => o = .inl (some (.int (yBits (yRun S law (yRow r R) 52).1 &&& 4095))) ∧ g1 = g ∧ TYr n1 S law (yRow r R) ∧ zFr yF yA n n1) 0 0 0 [(0, .ref aT), (1, .int (nI law))] [] g n := by
  have hro := yRun_ok (law := law) (yRow_ok hr)
  have hR17 := hr.2.1
  have hlp : ∀ w, w ≤ 52 → ∀ n1, TY n1 (yRun S law (yRow r R) w) → (∀ v, v < w → zai n1 at_heldBehind v = yBits (yRun S law (yRow r R) (v + 1)).1 ∧ zai n1 at_eldestBehind v = yHead (yRun S law (yRow r R) (v + 1)).1) → zfi n1 aT tf_yearLaw = nI law → zFr yF yA n n1 →
      PW zm_X6_goes 7 (fun o g1 n1 => o = .inl (some (.int (yBits (yRun S law (yRow r R) 52).1 &&& 4095))) ∧ g1 = g ∧ TYr n1 S law (yRow r R) ∧ zFr yF yA n n1) 0 0 7 [(0, .ref aT), (1, .int (nI law)), (2, .int (nI w))] [] g n1 := by
    refine zl_up _ (fun w hw ih n1 hY hh hlw hf => ?_)
    have h37 : w < 52 → ∀ n3, TY n3 (yMon S law w (yRow r R w) (yRun S law (yRow r R) w)) → zFr yF1 yA1 n1 n3 →
        PW zm_X6_goes 7 (fun o g1 n1 => o = .inl (some (.int (yBits (yRun S law (yRow r R) 52).1 &&& 4095))) ∧ g1 = g ∧ TYr n1 S law (yRow r R) ∧ zFr yF yA n n1) 0 0 37 [(0, .ref aT), (1, .int (nI law)), (2, .int (nI w))] [] g n3 := by
      intro hw1 n3 hY3 hf3
      have hT3 := hT.keep hW ((hf.tr (zF1F hf3)).mono yF_tF yA_tA)
      have hk := hro (w + 1)
      have e1 : (yRun S law (yRow r R) (w + 1)).1 = (yMon S law w (yRow r R w) (yRun S law (yRow r R) w)).1 := rfl
      have e2 : ((yMon S law w (yRow r R w) (yRun S law (yRow r R) w)).1, yAg S (yMon S law w (yRow r R w) (yRun S law (yRow r R) w)).1 (yMon S law w (yRow r R w) (yRun S law (yRow r R) w)).2) = yRun S law (yRow r R) (w + 1) := rfl
      rw [e1] at hk
      have hfin : ∀ n4 n5 : zg_N, zFr yF1 yA1 n1 n4 → TY n4 (yRun S law (yRow r R) (w + 1)) → n5 = zpai (zpai n4 at_heldBehind w (yBits (yRun S law (yRow r R) (w + 1)).1)) at_eldestBehind w (yHead (yRun S law (yRow r R) (w + 1)).1) →
          PW zm_X6_goes 7 (fun o g1 n1 => o = .inl (some (.int (yBits (yRun S law (yRow r R) 52).1 &&& 4095))) ∧ g1 = g ∧ TYr n1 S law (yRow r R) ∧ zFr yF yA n n1) 0 0 7 [(0, .ref aT), (1, .int (nI law)), (2, .int (nI (w + 1)))] [] g n5 := by
        intro n4 n5 hf4 hY4 h5
        have hf45 : zFr zB0 (fun a => a = 1534 ∨ a = 1535) n4 n5 := by rw [h5]; refine zFr.pai (zFr.pai zFr.rf ?_) ?_; exact Or.inl rfl; exact Or.inr rfl
        have hnl : ∀ a, ¬ (a = 1534 ∨ a = 1535) → ∀ j, zai n5 a j = zai n4 a j := fun a h j => (hf45.2 a h j).1
        refine ih (w + 1) (by omega) (by omega) n5 ⟨hY4.1.keep hf45 (fun z => z) (by decide), hY4.2.keep hf45 (fun _ _ z => z) (fun a ha z => by have : 1529 + a = 1534 ∨ 1529 + a = 1535 := z; omega)⟩ (fun v hv => ?_) ?_ ?_
        · by_cases e : v = w
          · subst e; rw [h5]; exact ⟨rfl |>.trans (by rw [zai_p, if_neg (fun z => absurd z.1 (by decide)), zai_p, if_pos ⟨rfl, rfl⟩]), by rw [zai_p, if_pos ⟨rfl, rfl⟩]⟩
          · have h1 := hh v (by omega)
            have g1 : zai n4 at_heldBehind v = zai n1 at_heldBehind v := (hf4.2 at_heldBehind (by unfold yA1; decide) v).1
            have g2 : zai n4 at_eldestBehind v = zai n1 at_eldestBehind v := (hf4.2 at_eldestBehind (by unfold yA1; decide) v).1
            rw [h5]
            refine ⟨?_, ?_⟩
            · rw [zai_p, if_neg (fun z => absurd z.1 (by decide)), zai_p, if_neg (fun z => e z.2), g1]; exact h1.1
            · rw [zai_p, if_neg (fun z => e z.2), zai_p, if_neg (fun z => absurd z.1 (by decide)), g2]; exact h1.2
        · rw [(hf45.1 aT tf_yearLaw (fun z => z)).1, (hf4.1 aT tf_yearLaw (fun z => by have := z.2; revert this; decide)).1]; exact hlw
        · exact (hf.tr (zF1F hf4)).tr (hf45.mono (fun _ _ z => z.elim) (fun a z => Or.inr z))
      refine pw_aload_n dX6_goes_37 0 rfl rfl ?_
      refine pw_callV0 zmM_X6_ages rfl (lw_V q2455 q2457 qs107 q150 q2458) rfl (ts_this hM) zc_X6 (t_ages hM hT3 hW hY3 hk.2.2 hk.1) (by decide) (Nat.le_refl _) (Nat.le_refl _) rfl (Nat.le_of_ble_eq_true rfl) (Nat.le_of_ble_eq_true rfl) dX6_goes_38 (by intros; rintro ⟨h, _⟩; cases h) (fun v1 g1 n4 h4 => ?_)
      obtain ⟨h1, rfl, hY4, hf4⟩ := h4
      cases h1
      replace hY4 : TY n4 (yRun S law (yRow r R) (w + 1)) := hY4
      have hf5 := hf3.tr hf4
      refine pw_aload_n dX6_goes_41 0 rfl rfl ?_
      refine pw_getr 41 zc_X6 (ts_this hM) (by decide) q2027 (Or.inr ⟨_, rfl⟩) (tr_heldBehind hM) dX6_goes_42 ?_
      refine pw_iload_n dX6_goes_45 2 rfl rfl ?_
      refine pw_aload_n dX6_goes_46 0 rfl rfl ?_
      refine pw_callV0 zmM_X6_heldNow rfl (lw_V q2459 q2461 qs108 q150 q2462) rfl (ts_this hM) zc_X6 (t_heldNow hM hW hY4.1 (hro (w + 1)).2.2 (hro (w + 1)).1) (by decide) (Nat.le_refl _) (Nat.le_refl _) rfl (Nat.le_of_ble_eq_true rfl) (Nat.le_of_ble_eq_true rfl) dX6_goes_47 zE.nx (zE_kk ?_)
      refine pw_iast w rfl (ts_heldBehind hM) (by decide) (by omega) (by decide) dX6_goes_50 ?_
      refine pw_aload_n dX6_goes_51 0 rfl rfl ?_
      refine pw_getr 42 zc_X6 (ts_this hM) (by decide) q2028 (Or.inr ⟨_, rfl⟩) (tr_eldestBehind hM) dX6_goes_52 ?_
      refine pw_iload_n dX6_goes_55 2 rfl rfl ?_
      refine pw_aload_n dX6_goes_56 0 rfl rfl ?_
      refine pw_geti 44 zc_X6 (ts_this hM) (by decide) q2030 (Or.inl rfl) dX6_goes_57 ?_
      rw [show zfi (zpai n4 at_heldBehind w (yBits (yRun S law (yRow r R) (w + 1)).1)) aT tf_heldMany = nI (yRun S law (yRow r R) (w + 1)).1.length from hY4.1.1]
      have hlw17 := (hro (w + 1)).2.2
      refine pw_if_ne_N 67 dX6_goes_60 (by decide) (by omega) (fun c_60 => ?_) (fun c_60 => ?_)
      · refine pw_aload_n dX6_goes_67 0 rfl rfl ?_
        refine pw_getr 35 zc_X6 (ts_this hM) (by decide) q2021 (Or.inr ⟨_, rfl⟩) (tr_heldRow hM) dX6_goes_68 ?_
        refine pw_iconst (v := 0) dX6_goes_71 (by decide) ?_
        refine pw_iald 0 rfl (ts_heldRow hM) (by decide) (by decide) dX6_goes_72 ?_
        refine pw_iast w rfl (ts_eldestBehind hM) (by decide) (by omega) (by decide) dX6_goes_73 ?_
        refine pw_iinc1 (j := 2) (ls' := [(2, _), (0, _), (1, _)]) dX6_goes_74 rfl (by decide) rfl ?_
        refine pw_ls [1, 2, 0] (ls' := [(0, _), (1, _), (2, _)]) rfl ?_
        refine pw_goto 7 dX6_goes_77 (by decide) ?_
        refine hfin n4 _ hf5 hY4 ?_
        obtain ⟨k0, r0, e0⟩ : ∃ k0 r0, (yRun S law (yRow r R) (w + 1)).1 = k0 :: r0 := by cases h : (yRun S law (yRow r R) (w + 1)).1; rw [h] at c_60; exact absurd rfl c_60; exact ⟨_, _, rfl⟩
        have hz : zai n4 at_heldRow 0 = nI k0 := hY4.1.2 0 k0 (by rw [e0]; rfl)
        have hz2 : zai (zpai n4 at_heldBehind w (yBits (yRun S law (yRow r R) (w + 1)).1)) at_heldRow 0 = nI k0 := hz
        rw [e0] at hz2 ⊢
        rw [hz2]; rfl
      · refine pw_iconst (v := (-1)) dX6_goes_63 (by decide) ?_
        refine pw_goto 73 dX6_goes_64 (by decide) ?_
        refine pw_iast w rfl (ts_eldestBehind hM) (by decide) (by omega) (by decide) dX6_goes_73 ?_
        refine pw_iinc1 (j := 2) (ls' := [(2, _), (0, _), (1, _)]) dX6_goes_74 rfl (by decide) rfl ?_
        refine pw_ls [1, 2, 0] (ls' := [(0, _), (1, _), (2, _)]) rfl ?_
        refine pw_goto 7 dX6_goes_77 (by decide) ?_
        refine hfin n4 _ hf5 hY4 ?_
        have e0 : (yRun S law (yRow r R) (w + 1)).1 = [] := List.eq_nil_of_length_eq_zero c_60
        rw [e0]; rfl
    have hT1 := hT.keep hW (hf.mono yF_tF yA_tA)
    have hr1 := hr.keep hf
    refine pw_iload_n dX6_goes_7 2 rfl rfl ?_
    refine pw_bipush (v := 52) dX6_goes_8 (by decide) ?_
    refine pw_icmp_ge_N (b := 52) 80 dX6_goes_10 (by decide) (by omega) (by omega) (fun c_10 => ?_) (fun c_10 => ?_)
    · refine pw_aload_n dX6_goes_80 0 rfl rfl ?_
      refine pw_getr 41 zc_X6 (ts_this hM) (by decide) q2027 (Or.inr ⟨_, rfl⟩) (tr_heldBehind hM) dX6_goes_81 ?_
      refine pw_bipush (v := 51) dX6_goes_84 (by decide) ?_
      refine pw_iald 51 rfl (ts_heldBehind hM) (by decide) (by decide) dX6_goes_86 ?_
      refine pw_sipush (v := 4095) dX6_goes_87 (by decide) ?_
      refine pw_iand dX6_goes_90 ?_
      refine pw_iret rfl dX6_goes_91 ?_
      have hw52 : w = 52 := by omega
      subst hw52
      exact ⟨by rw [(hh 51 (by decide)).1], rfl, ⟨hY, hh⟩, hf⟩
    · refine pw_aload_n dX6_goes_13 0 rfl rfl ?_
      refine pw_iload_n dX6_goes_14 2 rfl rfl ?_
      refine pw_callV1 zmM_X6_kills rfl (lw_V q2416 q2418 qs98 q150 q2419) rfl (ts_this hM) zc_X6 (t_kills hM hT1 hW hY (hro w).2.2 (hro w).1 w c_10) (by decide) (Nat.le_refl _) (Nat.le_refl _) rfl (Nat.le_of_ble_eq_true rfl) (Nat.le_of_ble_eq_true rfl) dX6_goes_15 (by intros; rintro ⟨h, _⟩; cases h) (fun v1 g1 n2 h2 => ?_)
      obtain ⟨h1, rfl, hY2, hf2⟩ := h2
      cases h1
      have hr2 := hr1.keep (zF1F hf2)
      refine pw_iload_n dX6_goes_18 2 rfl rfl ?_
      refine pw_aload_n dX6_goes_19 0 rfl rfl ?_
      refine pw_geti 43 zc_X6 (ts_this hM) (by decide) q2029 (Or.inl rfl) dX6_goes_20 ?_
      rw [hr2.1]
      refine pw_icmp_ge_N 37 dX6_goes_23 (by decide) (by omega) (by omega) (fun c_23 => ?_) (fun c_23 => ?_)
      · refine h37 c_10 n2 ?_ hf2
        rw [show yRow r R w = none from if_neg (by omega)]
        exact hY2
      · refine pw_aload_n dX6_goes_26 0 rfl rfl ?_
        refine pw_aload_n dX6_goes_27 0 rfl rfl ?_
        refine pw_getr 34 zc_X6 (ts_this hM) (by decide) q2020 (Or.inr ⟨_, rfl⟩) (tr_row hM) dX6_goes_28 ?_
        refine pw_iload_n dX6_goes_31 2 rfl rfl ?_
        refine pw_iald w rfl (ts_row hM) (by omega) (by decide) dX6_goes_32 ?_
        rw [(hr2.2.2 w c_23).1]
        refine pw_iload_n dX6_goes_33 2 rfl rfl ?_
        refine pw_callV2 zmM_X6_draws rfl (lw_V q2428 q2430 qs101 q150 q2431) rfl (ts_this hM) zc_X6 (t_draws hM (hT.keep hW ((hf.tr (zF1F hf2)).mono yF_tF yA_tA)) hW hY2 law ((hf2.1 aT tf_yearLaw (fun z => by have := z.2; revert this; decide)).1.trans hlw) hl4 (by have := (yKl_ok (w := w) (yRun S law (yRow r R) w).1 [] (yRun S law (yRow r R) w).2 (fun b hb => nomatch hb) (hro w).1).2; have := (hro w).2.1; simp only [List.length_nil] at *; omega) (yKl_ok (w := w) (yRun S law (yRow r R) w).1 [] (yRun S law (yRow r R) w).2 (fun b hb => nomatch hb) (hro w).1).1 (r w) w (hr2.2.2 w c_23).2 c_10) (by decide) (Nat.le_refl _) (Nat.le_refl _) rfl (Nat.le_of_ble_eq_true rfl) (Nat.le_of_ble_eq_true rfl) dX6_goes_34 (by intros; rintro ⟨h, _⟩; cases h) (fun v1 g1 n3 h3 => ?_)
        obtain ⟨h1, rfl, hY3, hf3⟩ := h3
        cases h1
        refine h37 c_10 n3 ?_ (hf2.tr hf3)
        rw [show yRow r R w = some (r w) from if_pos c_23]
        exact hY3
  refine pw_aload_n dX6_goes_0 0 rfl rfl ?_
  refine pw_iload_n dX6_goes_1 1 rfl rfl ?_
  refine pw_callV1 zmM_X6_begins rfl (lw_V q2412 q2414 qs97 q150 q2415) rfl (ts_this hM) zc_X6 (t_begins hM law) (by decide) (Nat.le_refl _) (Nat.le_refl _) rfl (Nat.le_of_ble_eq_true rfl) (Nat.le_of_ble_eq_true rfl) dX6_goes_2 (by intros; rintro ⟨h, _⟩; cases h) (fun v1 g1 n1 h1 => ?_)
  obtain ⟨h1, rfl, hY, hlw, hf⟩ := h1
  cases h1
  refine pw_iconst (v := 0) dX6_goes_5 (by decide) ?_
  refine pw_istore_n (ls' := [(2, _), (0, _), (1, _)]) dX6_goes_6 rfl (by decide) rfl ?_
  refine pw_ls [1, 2, 0] (ls' := [(0, _), (1, _), (2, _)]) rfl ?_
  exact hlp 0 (Nat.zero_le _) n1 hY (fun v hv => absurd hv (Nat.not_lt_zero _)) hlw hf

/-! ===== the reference: what is asked of a year ===== -/
def gF (a k : Nat) : Prop := yF a k ∨ (a = aT ∧ k = tf_rowMany)
def gA (a : Nat) : Prop := yA a ∨ a = 1527
theorem gF_tF : ∀ a k, gF a k → tF a k := fun a k h => by
  rcases h with h | ⟨rfl, rfl⟩
  · exact yF_tF a k h
  · exact ⟨rfl, by decide, by decide, by decide, by decide, by decide⟩
theorem gA_tA : ∀ a, gA a → tA a := fun a h => by
  rcases h with h | rfl
  · exact yA_tA a h
  · unfold tA; decide
theorem gF_thrown : ¬ gF aT tf_thrown := fun h => by
  rcases h with (⟨_, h⟩ | ⟨_, h⟩) | ⟨_, h⟩ <;> (revert h; decide)
theorem t_after {n n0 n1 : zg_N} {S : zS} (hT0 : TW n0 S) (hW : WF S) (hth : zfi n0 aT tf_thrown = 0) (hf0 : zFr tXF tXA n n0) (hf : zFr gF gA n0 n1) : TW n1 S ∧ zfi n1 aT tf_thrown = 0 ∧ zFr tXF tXA n n1 :=
  ⟨hT0.keep hW (hf.mono gF_tF gA_tA), ((hf.1 _ _ gF_thrown).1).trans hth, hf0.tr (hf.mono (fun a k h => tF_X a k (gF_tF a k h)) (fun a h => tA_X a (gA_tA a h)))⟩
theorem zFgF {n n' : zg_N} (h : zFr yF yA n n') : zFr gF gA n n' := h.mono (fun _ _ z => Or.inl z) (fun _ z => Or.inl z)
abbrev yDr (S : zS) (f : Nat → Nat) : Nat → Option Nat := yRow f (sN S 0 1)
abbrev yEndF (S : zS) (law : Nat) (f : Nat → Nat) : Int32 := yBits (yRun S law (yDr S f) 52).1 &&& 4095
abbrev yNow (S : zS) (w : Nat) : zYr := yRun S (sN S 0 5) (yDr S (sN S 2)) w
abbrev yEnd (S : zS) : Int32 := yEndF S (sN S 0 5) (sN S 2)
theorem t_rowAsOrder {g : zg_G} {n : zg_N} {S : zS} (hM : TSh g) (hT : TW n S) (hW : WF S) : PW zm_X6_rowAsOrder 1 (fun o g1 n1 => o = .inl none ∧ g1 = g ∧ TRow n1 S (sN S 2) (sN S 0 1) ∧ zFr gF gA n n1) 0 0 0 [(0, .ref aT)] [] g n := by
  have hs := hW.slips
  have hlp : ∀ k, k ≤ sN S 0 1 → ∀ n1, zFr gF gA n n1 → zfi n1 aT tf_rowMany = nI (sN S 0 1) → (∀ j, j < k → zai n1 at_row j = nI (sN S 2 j)) → PW zm_X6_rowAsOrder 1 (fun o g1 n1 => o = .inl none ∧ g1 = g ∧ TRow n1 S (sN S 2) (sN S 0 1) ∧ zFr gF gA n n1) 0 0 12 [(0, .ref aT), (1, .int (nI k))] [] g n1 := by
    refine zl_up _ (fun k hk ih n1 hf hm hr => ?_)
    have hT1 := hT.keep hW (hf.mono gF_tF gA_tA)
    refine pw_iload_n dX6_rowAsOrder_12 1 rfl rfl ?_
    refine pw_aload_n dX6_rowAsOrder_13 0 rfl rfl ?_
    refine pw_geti 43 zc_X6 (ts_this hM) (by decide) q2029 (Or.inl rfl) dX6_rowAsOrder_14 ?_
    rw [hm]
    refine pw_icmp_ge_N 38 dX6_rowAsOrder_17 (by decide) (by omega) (by omega) (fun c_17 => ?_) (fun c_17 => ?_)
    · refine pw_vret rfl dX6_rowAsOrder_38 ?_
      exact ⟨rfl, rfl, ⟨hm, by omega, fun i hi => ⟨hr i (by omega), Or.inl (hW.perm.1 i hi)⟩⟩, hf⟩
    · refine pw_aload_n dX6_rowAsOrder_20 0 rfl rfl ?_
      refine pw_getr 34 zc_X6 (ts_this hM) (by decide) q2020 (Or.inr ⟨_, rfl⟩) (tr_row hM) dX6_rowAsOrder_21 ?_
      refine pw_iload_n dX6_rowAsOrder_24 1 rfl rfl ?_
      refine pw_aload_n dX6_rowAsOrder_25 0 rfl rfl ?_
      refine pw_getr 21 zc_X6 (ts_this hM) (by decide) q2007 (Or.inr ⟨_, rfl⟩) (tr_order hM) dX6_rowAsOrder_26 ?_
      refine pw_iload_n dX6_rowAsOrder_29 1 rfl rfl ?_
      refine pw_iald k rfl (ts_order hM) (by omega) (by decide) dX6_rowAsOrder_30 ?_
      rw [hT1.od (show k < 12 by omega)]
      refine pw_iast k rfl (ts_row hM) (by decide) (by omega) (by decide) dX6_rowAsOrder_31 ?_
      refine pw_iinc1 (j := 1) (ls' := [(1, _), (0, _)]) dX6_rowAsOrder_32 rfl (by decide) rfl ?_
      refine pw_ls [1, 0] (ls' := [(0, _), (1, _)]) rfl ?_
      refine pw_goto 12 dX6_rowAsOrder_35 (by decide) ?_
      refine ih (k + 1) (by omega) (by omega) _ (hf.pai (Or.inr rfl)) hm (fun j hj => ?_)
      rw [zai_p]
      by_cases e : j = k
      · subst e; rw [if_pos ⟨rfl, rfl⟩]
      · rw [if_neg (fun z => e z.2)]; exact hr j (by omega)
  refine pw_aload_n dX6_rowAsOrder_0 0 rfl rfl ?_
  refine pw_aload_n dX6_rowAsOrder_1 0 rfl rfl ?_
  refine pw_getr 12 zc_X6 (ts_this hM) (by decide) q1998 (Or.inr ⟨_, rfl⟩) (tr_told hM) dX6_rowAsOrder_2 ?_
  refine pw_iconst (v := 1) dX6_rowAsOrder_5 (by decide) ?_
  refine pw_iald 1 rfl (ts_told hM) (by decide) (by decide) dX6_rowAsOrder_6 ?_
  rw [hT.told (k := 1) (by decide)]
  refine pw_puti 43 zc_X6 (ts_this hM) (by decide) (by decide) q2029 rfl (Or.inl rfl) rfl rfl dX6_rowAsOrder_7 ?_
  refine pw_iconst (v := 0) dX6_rowAsOrder_10 (by decide) ?_
  refine pw_istore_n (ls' := [(1, _), (0, _)]) dX6_rowAsOrder_11 rfl (by decide) rfl ?_
  refine pw_ls [1, 0] (ls' := [(0, _), (1, _)]) rfl ?_
  exact hlp 0 (Nat.zero_le _) _ (zFr.rf.pfi (Or.inr ⟨rfl, rfl⟩)) (by rw [zfi_p, if_pos ⟨rfl, rfl⟩]) (fun j hj => absurd hj (Nat.not_lt_zero _))
def tGo (g : zg_G) (n : zg_N) (S : zS) (law : Nat) (d : Nat → Option Nat) : zP := fun o g1 n1 => o = .inl (some (.int (yBits (yRun S law d 52).1 &&& 4095))) ∧ g1 = g ∧ TYr n1 S law d ∧ zFr gF gA n n1
theorem t_goesNow {g : zg_G} {n : zg_N} {S : zS} (hM : TSh g) (hT : TW n S) (hW : WF S) : PW zm_X6_goesNow 8 (tGo g n S (sN S 0 5) (yDr S (sN S 2))) 0 0 0 [(0, .ref aT)] [] g n := by
  refine pw_aload_n dX6_goesNow_0 0 rfl rfl ?_
  refine pw_callV0 zmM_X6_rowAsOrder rfl (lw_V q2404 q2406 qs95 q150 q2407) rfl (ts_this hM) zc_X6 (t_rowAsOrder hM hT hW) (by decide) (Nat.le_refl _) (Nat.le_refl _) rfl (Nat.le_of_ble_eq_true rfl) (Nat.le_of_ble_eq_true rfl) dX6_goesNow_1 (by intros; rintro ⟨h, _⟩; cases h) (fun v1 g1 n1 h1 => ?_)
  obtain ⟨h1, rfl, hr, hf⟩ := h1
  cases h1
  have hT1 := hT.keep hW (hf.mono gF_tF gA_tA)
  refine pw_aload_n dX6_goesNow_4 0 rfl rfl ?_
  refine pw_aload_n dX6_goesNow_5 0 rfl rfl ?_
  refine pw_getr 12 zc_X6 (ts_this hM) (by decide) q1998 (Or.inr ⟨_, rfl⟩) (tr_told hM) dX6_goesNow_6 ?_
  refine pw_iconst (v := 5) dX6_goesNow_9 (by decide) ?_
  refine pw_iald 5 rfl (ts_told hM) (by decide) (by decide) dX6_goesNow_10 ?_
  rw [hT1.told (k := 5) (by decide)]
  refine pw_callV1 zmM_X6_goes rfl (lw_V q2408 q2410 qs96 q150 q2411) rfl (ts_this hM) zc_X6 (t_goes hM hT1 hW _ hW.law hr) (by decide) (Nat.le_refl _) (Nat.le_refl _) rfl (Nat.le_of_ble_eq_true rfl) (Nat.le_of_ble_eq_true rfl) dX6_goesNow_11 (by intros; rintro ⟨h, _⟩; cases h) (fun v2 g2 n2 h2 => ?_)
  obtain ⟨h1, rfl, hY, hf2⟩ := h2
  cases h1
  refine pw_iret rfl dX6_goesNow_14 ?_
  exact ⟨rfl, rfl, hY, hf.tr (zFgF hf2)⟩
def sp_held (S : zS) (w : Int32) : Int32 × Value × zS := spNeed S (inB w 52) 1 1 (.int 0) (0, .int (yBits (yNow S (w.toNatClampNeg + 1)).1), S)
theorem t_held {g : zg_G} {n : zg_N} {S : zS} (hM : TSh g) (hT : TW n S) (hW : WF S) (w : Int32) : PW zm_X6_held 9 (tQ g n (sp_held S w)) 0 0 0 [(0, .ref aT), (1, .int w)] [] g n := by
  refine pw_aload_n dX6_held_0 0 rfl rfl ?_
  refine pw_iconst (v := 0) dX6_held_1 (by decide) ?_
  refine pw_puti 0 zc_X6 (ts_this hM) (by decide) (by decide) q1986 rfl (Or.inl rfl) rfl rfl dX6_held_2 ?_
  obtain ⟨hT0, hth, hf0⟩ := t_start hT hW; generalize zpfi n aT 0 0 = n0 at hT0 hth hf0 ⊢
  refine pw_aload_n dX6_held_5 0 rfl rfl ?_
  refine pw_iload_n dX6_held_6 1 rfl rfl ?_
  refine pw_callS1 zmM_X6_isWeek rfl (lw_S q2348 q2349 q150 q2350) (t_isWeek w _ _) (by decide) (Nat.le_refl _) (Nat.le_refl _) rfl (Nat.le_of_ble_eq_true rfl) (Nat.le_of_ble_eq_true rfl) dX6_held_7 zE.nx (zE_kk ?_)
  refine pw_if_ne_B 17 dX6_held_10 (by decide) (fun c_10 => ?_) (fun c_10 => ?_)
  · refine pw_iconst (v := 0) dX6_held_17 (by decide) ?_
    refine pw_iconst (v := 1) dX6_held_18 (by decide) ?_
    refine pw_iconst (v := 1) dX6_held_19 (by decide) ?_
    refine pw_callV3 zmM_X6_bad rfl (lw_V q2188 q2190 qs62 q150 q2191) rfl (ts_this hM) zc_X6 (t_bad0 hM 1 (by decide) 1 (by decide) hth) (by decide) (Nat.le_refl _) (Nat.le_refl _) rfl (Nat.le_of_ble_eq_true rfl) (Nat.le_of_ble_eq_true rfl) dX6_held_20 zE.nx (zE_kk ?_)
    refine pw_if_eq 28 dX6_held_23 (by decide) (fun c_23 => ?_) (fun c_23 => ?_)
    · obtain ⟨w, hw, rfl⟩ := inB_ex (by decide) c_10
      refine pw_aload_n dX6_held_28 0 rfl rfl ?_
      refine pw_callV0 zmM_X6_goesNow rfl (lw_V q2400 q2402 qs94 q150 q2403) rfl (ts_this hM) zc_X6 (t_goesNow hM hT0 hW) (by decide) (Nat.le_refl _) (Nat.le_refl _) rfl (Nat.le_of_ble_eq_true rfl) (Nat.le_of_ble_eq_true rfl) dX6_held_29 (by intros; rintro ⟨h, _⟩; cases h) (fun v1 g1 n1 h1 => ?_)
      obtain ⟨h1, rfl, hY, hfg⟩ := h1; cases h1; obtain ⟨hT1, hth1, hf1⟩ := t_after hT0 hW hth hf0 hfg
      refine pw_pop dX6_held_32 rfl ?_
      refine pw_aload_n dX6_held_33 0 rfl rfl ?_
      refine pw_getr 41 zc_X6 (ts_this hM) (by decide) q2027 (Or.inr ⟨_, rfl⟩) (tr_heldBehind hM) dX6_held_34 ?_
      refine pw_iload_n dX6_held_37 1 rfl rfl ?_
      refine pw_iald w rfl (ts_heldBehind hM) (by omega) (by decide) dX6_held_38 ?_
      rw [(hY.2 w hw).1]
      refine pw_iret rfl dX6_held_39 ?_
      exact tQ_eq ((spNeed_t c_10).trans (by rw [nI_clamp (by omega)])) (t_qok hT1 hth1 hf1 _)
    · exact absurd rfl c_23
  · refine pw_iconst (v := 1) dX6_held_13 (by decide) ?_
    refine pw_goto 18 dX6_held_14 (by decide) ?_
    refine pw_iconst (v := 1) dX6_held_18 (by decide) ?_
    refine pw_iconst (v := 1) dX6_held_19 (by decide) ?_
    refine pw_callV3 zmM_X6_bad rfl (lw_V q2188 q2190 qs62 q150 q2191) rfl (ts_this hM) zc_X6 (t_bad1 hM 1 (by decide) 1 (by decide) hth) (by decide) (Nat.le_refl _) (Nat.le_refl _) rfl (Nat.le_of_ble_eq_true rfl) (Nat.le_of_ble_eq_true rfl) dX6_held_20 zE.nx (zE_kk ?_)
    refine pw_if_eq 28 dX6_held_23 (by decide) (fun c_23 => ?_) (fun c_23 => ?_)
    · exact absurd c_23 (by decide)
    · refine pw_iconst (v := 0) dX6_held_26 (by decide) ?_
      refine pw_iret rfl dX6_held_27 ?_
      exact tQ_eq (spNeed_f c_10) (t_qbad hT0 hW hf0 1 1 (by decide) _)
def sp_eldest (S : zS) (w : Int32) : Int32 × Value × zS := spNeed S (inB w 52) 1 1 (.int 0) (0, .int (yHead (yNow S (w.toNatClampNeg + 1)).1), S)
theorem t_eldest {g : zg_G} {n : zg_N} {S : zS} (hM : TSh g) (hT : TW n S) (hW : WF S) (w : Int32) : PW zm_X6_eldest 9 (tQ g n (sp_eldest S w)) 0 0 0 [(0, .ref aT), (1, .int w)] [] g n := by
  refine pw_aload_n dX6_eldest_0 0 rfl rfl ?_
  refine pw_iconst (v := 0) dX6_eldest_1 (by decide) ?_
  refine pw_puti 0 zc_X6 (ts_this hM) (by decide) (by decide) q1986 rfl (Or.inl rfl) rfl rfl dX6_eldest_2 ?_
  obtain ⟨hT0, hth, hf0⟩ := t_start hT hW; generalize zpfi n aT 0 0 = n0 at hT0 hth hf0 ⊢
  refine pw_aload_n dX6_eldest_5 0 rfl rfl ?_
  refine pw_iload_n dX6_eldest_6 1 rfl rfl ?_
  refine pw_callS1 zmM_X6_isWeek rfl (lw_S q2348 q2349 q150 q2350) (t_isWeek w _ _) (by decide) (Nat.le_refl _) (Nat.le_refl _) rfl (Nat.le_of_ble_eq_true rfl) (Nat.le_of_ble_eq_true rfl) dX6_eldest_7 zE.nx (zE_kk ?_)
  refine pw_if_ne_B 17 dX6_eldest_10 (by decide) (fun c_10 => ?_) (fun c_10 => ?_)
  · refine pw_iconst (v := 0) dX6_eldest_17 (by decide) ?_
    refine pw_iconst (v := 1) dX6_eldest_18 (by decide) ?_
    refine pw_iconst (v := 1) dX6_eldest_19 (by decide) ?_
    refine pw_callV3 zmM_X6_bad rfl (lw_V q2188 q2190 qs62 q150 q2191) rfl (ts_this hM) zc_X6 (t_bad0 hM 1 (by decide) 1 (by decide) hth) (by decide) (Nat.le_refl _) (Nat.le_refl _) rfl (Nat.le_of_ble_eq_true rfl) (Nat.le_of_ble_eq_true rfl) dX6_eldest_20 zE.nx (zE_kk ?_)
    refine pw_if_eq 28 dX6_eldest_23 (by decide) (fun c_23 => ?_) (fun c_23 => ?_)
    · obtain ⟨w, hw, rfl⟩ := inB_ex (by decide) c_10
      refine pw_aload_n dX6_eldest_28 0 rfl rfl ?_
      refine pw_callV0 zmM_X6_goesNow rfl (lw_V q2400 q2402 qs94 q150 q2403) rfl (ts_this hM) zc_X6 (t_goesNow hM hT0 hW) (by decide) (Nat.le_refl _) (Nat.le_refl _) rfl (Nat.le_of_ble_eq_true rfl) (Nat.le_of_ble_eq_true rfl) dX6_eldest_29 (by intros; rintro ⟨h, _⟩; cases h) (fun v1 g1 n1 h1 => ?_)
      obtain ⟨h1, rfl, hY, hfg⟩ := h1; cases h1; obtain ⟨hT1, hth1, hf1⟩ := t_after hT0 hW hth hf0 hfg
      refine pw_pop dX6_eldest_32 rfl ?_
      refine pw_aload_n dX6_eldest_33 0 rfl rfl ?_
      refine pw_getr 42 zc_X6 (ts_this hM) (by decide) q2028 (Or.inr ⟨_, rfl⟩) (tr_eldestBehind hM) dX6_eldest_34 ?_
      refine pw_iload_n dX6_eldest_37 1 rfl rfl ?_
      refine pw_iald w rfl (ts_eldestBehind hM) (by omega) (by decide) dX6_eldest_38 ?_
      rw [(hY.2 w hw).2]
      refine pw_iret rfl dX6_eldest_39 ?_
      exact tQ_eq ((spNeed_t c_10).trans (by rw [nI_clamp (by omega)])) (t_qok hT1 hth1 hf1 _)
    · exact absurd rfl c_23
  · refine pw_iconst (v := 1) dX6_eldest_13 (by decide) ?_
    refine pw_goto 18 dX6_eldest_14 (by decide) ?_
    refine pw_iconst (v := 1) dX6_eldest_18 (by decide) ?_
    refine pw_iconst (v := 1) dX6_eldest_19 (by decide) ?_
    refine pw_callV3 zmM_X6_bad rfl (lw_V q2188 q2190 qs62 q150 q2191) rfl (ts_this hM) zc_X6 (t_bad1 hM 1 (by decide) 1 (by decide) hth) (by decide) (Nat.le_refl _) (Nat.le_refl _) rfl (Nat.le_of_ble_eq_true rfl) (Nat.le_of_ble_eq_true rfl) dX6_eldest_20 zE.nx (zE_kk ?_)
    refine pw_if_eq 28 dX6_eldest_23 (by decide) (fun c_23 => ?_) (fun c_23 => ?_)
    · exact absurd c_23 (by decide)
    · refine pw_iconst (v := 0) dX6_eldest_26 (by decide) ?_
      refine pw_iret rfl dX6_eldest_27 ?_
      exact tQ_eq (spNeed_f c_10) (t_qbad hT0 hW hf0 1 1 (by decide) _)
def sp_fate (S : zS) (x y : Int32) : Int32 × Value × zS := spNeed S (inB x (sN S 0 1)) 1 0 (.int 0) (spNeed S (inB y 5) 2 1 (.int 0) (0, .int ((yNow S 52).2 y.toNatClampNeg x.toNatClampNeg), S))
theorem t_fate {g : zg_G} {n : zg_N} {S : zS} (hM : TSh g) (hT : TW n S) (hW : WF S) (x y : Int32) : PW zm_X6_fate 9 (tQ g n (sp_fate S x y)) 0 0 0 [(0, .ref aT), (1, .int x), (2, .int y)] [] g n := by
  have hs := hW.slips
  refine pw_aload_n dX6_fate_0 0 rfl rfl ?_
  refine pw_iconst (v := 0) dX6_fate_1 (by decide) ?_
  refine pw_puti 0 zc_X6 (ts_this hM) (by decide) (by decide) q1986 rfl (Or.inl rfl) rfl rfl dX6_fate_2 ?_
  obtain ⟨hT0, hth, hf0⟩ := t_start hT hW; generalize zpfi n aT 0 0 = n0 at hT0 hth hf0 ⊢
  refine pw_aload_n dX6_fate_5 0 rfl rfl ?_
  refine pw_aload_n dX6_fate_6 0 rfl rfl ?_
  refine pw_iload_n dX6_fate_7 1 rfl rfl ?_
  refine pw_callV1 zmM_X6_isSlip rfl (lw_V q2336 q2338 qs90 q150 q2339) rfl (ts_this hM) zc_X6 (t_isSlip hM hT0 hW x) (by decide) (Nat.le_refl _) (Nat.le_refl _) rfl (Nat.le_of_ble_eq_true rfl) (Nat.le_of_ble_eq_true rfl) dX6_fate_8 zE.nx (zE_kk ?_)
  refine pw_if_ne_B 18 dX6_fate_11 (by decide) (fun c_11 => ?_) (fun c_11 => ?_)
  · refine pw_iconst (v := 0) dX6_fate_18 (by decide) ?_
    refine pw_iconst (v := 1) dX6_fate_19 (by decide) ?_
    refine pw_iconst (v := 0) dX6_fate_20 (by decide) ?_
    refine pw_callV3 zmM_X6_bad rfl (lw_V q2188 q2190 qs62 q150 q2191) rfl (ts_this hM) zc_X6 (t_bad0 hM 1 (by decide) 0 (by decide) hth) (by decide) (Nat.le_refl _) (Nat.le_refl _) rfl (Nat.le_of_ble_eq_true rfl) (Nat.le_of_ble_eq_true rfl) dX6_fate_21 zE.nx (zE_kk ?_)
    refine pw_if_ne 50 dX6_fate_24 (by decide) (fun c_24 => ?_) (fun c_24 => ?_)
    · exact absurd rfl c_24
    · refine pw_aload_n dX6_fate_27 0 rfl rfl ?_
      refine pw_iload_n dX6_fate_28 2 rfl rfl ?_
      refine pw_iconst (v := 0) dX6_fate_29 (by decide) ?_
      refine pw_iconst (v := 4) dX6_fate_30 (by decide) ?_
      refine pw_callS3 zmM_X6_in rfl (lw_S q2185 q2186 q150 q2187) (t_in _ _ _ _ _) (by decide) (Nat.le_refl _) (Nat.le_refl _) rfl (Nat.le_of_ble_eq_true rfl) (Nat.le_of_ble_eq_true rfl) dX6_fate_31 zE.nx (zE_kk ?_)
      refine pw_if_ne_B 41 dX6_fate_34 (by decide) (fun c_34 => ?_) (fun c_34 => ?_)
      · refine pw_iconst (v := 0) dX6_fate_41 (by decide) ?_
        refine pw_iconst (v := 2) dX6_fate_42 (by decide) ?_
        refine pw_iconst (v := 1) dX6_fate_43 (by decide) ?_
        refine pw_callV3 zmM_X6_bad rfl (lw_V q2188 q2190 qs62 q150 q2191) rfl (ts_this hM) zc_X6 (t_bad0 hM 2 (by decide) 1 (by decide) hth) (by decide) (Nat.le_refl _) (Nat.le_refl _) rfl (Nat.le_of_ble_eq_true rfl) (Nat.le_of_ble_eq_true rfl) dX6_fate_44 zE.nx (zE_kk ?_)
        refine pw_if_eq 52 dX6_fate_47 (by decide) (fun c_47 => ?_) (fun c_47 => ?_)
        · have c_9 := (inB_le (m := 4) (by decide)).mpr c_34
          obtain ⟨k, hk, rfl⟩ := inB_ex (by omega) c_11
          obtain ⟨a, ha, rfl⟩ := inB_ex (by decide) c_9
          have hcl : sp_fate S (nI k) (nI a) = (0, .int ((yNow S 52).2 a k), S) := ((spNeed_t c_11).trans (spNeed_t c_9)).trans (by rw [nI_clamp (by omega), nI_clamp (by omega)])
          rw [hcl]
          refine pw_aload_n dX6_fate_52 0 rfl rfl ?_
          refine pw_callV0 zmM_X6_goesNow rfl (lw_V q2400 q2402 qs94 q150 q2403) rfl (ts_this hM) zc_X6 (t_goesNow hM hT0 hW) (by decide) (Nat.le_refl _) (Nat.le_refl _) rfl (Nat.le_of_ble_eq_true rfl) (Nat.le_of_ble_eq_true rfl) dX6_fate_53 (by intros; rintro ⟨h, _⟩; cases h) (fun v1 g1 n1 h1 => ?_)
          obtain ⟨h1, rfl, hY, hfg⟩ := h1; cases h1; obtain ⟨hT1, hth1, hf1⟩ := t_after hT0 hW hth hf0 hfg
          refine pw_pop dX6_fate_56 rfl ?_
          refine pw_iload_n dX6_fate_57 2 rfl rfl ?_
          refine pw_case_N 0 (by omega) (by decide) (fun c_58 => ?_) (fun n_58_0 => ?_)
          · refine pw_tableIn 88 dX6_fate_58 (by decide) (by decide) rfl (by decide) ?_
            refine pw_aload_n dX6_fate_88 0 rfl rfl ?_
            refine pw_getr 36 zc_X6 (ts_this hM) (by decide) q2022 (Or.inr ⟨_, rfl⟩) (tr_drawnIn hM) dX6_fate_89 ?_
            refine pw_iload_n dX6_fate_92 1 rfl rfl ?_
            refine pw_iald k rfl (ts_drawnIn hM) (by omega) (by decide) dX6_fate_93 ?_
            rw [show zai n1 at_drawnIn k = (yNow S 52).2 0 k from hY.1.2.1 0 (by decide) k (by omega)]
            refine pw_iret rfl dX6_fate_94 ?_
            subst c_58; exact t_qok hT1 hth1 hf1 _
          refine pw_case_N 1 (by omega) (by decide) (fun c_58 => ?_) (fun n_58_1 => ?_)
          · refine pw_tableIn 95 dX6_fate_58 (by decide) (by decide) rfl (by decide) ?_
            refine pw_aload_n dX6_fate_95 0 rfl rfl ?_
            refine pw_getr 37 zc_X6 (ts_this hM) (by decide) q2023 (Or.inr ⟨_, rfl⟩) (tr_fellIn hM) dX6_fate_96 ?_
            refine pw_iload_n dX6_fate_99 1 rfl rfl ?_
            refine pw_iald k rfl (ts_fellIn hM) (by omega) (by decide) dX6_fate_100 ?_
            rw [show zai n1 at_fellIn k = (yNow S 52).2 1 k from hY.1.2.1 1 (by decide) k (by omega)]
            refine pw_iret rfl dX6_fate_101 ?_
            subst c_58; exact t_qok hT1 hth1 hf1 _
          refine pw_case_N 2 (by omega) (by decide) (fun c_58 => ?_) (fun n_58_2 => ?_)
          · refine pw_tableIn 102 dX6_fate_58 (by decide) (by decide) rfl (by decide) ?_
            refine pw_aload_n dX6_fate_102 0 rfl rfl ?_
            refine pw_getr 38 zc_X6 (ts_this hM) (by decide) q2024 (Or.inr ⟨_, rfl⟩) (tr_fellBy hM) dX6_fate_103 ?_
            refine pw_iload_n dX6_fate_106 1 rfl rfl ?_
            refine pw_iald k rfl (ts_fellBy hM) (by omega) (by decide) dX6_fate_107 ?_
            rw [show zai n1 at_fellBy k = (yNow S 52).2 2 k from hY.1.2.1 2 (by decide) k (by omega)]
            refine pw_iret rfl dX6_fate_108 ?_
            subst c_58; exact t_qok hT1 hth1 hf1 _
          refine pw_case_N 3 (by omega) (by decide) (fun c_58 => ?_) (fun n_58_3 => ?_)
          · refine pw_tableIn 109 dX6_fate_58 (by decide) (by decide) rfl (by decide) ?_
            refine pw_aload_n dX6_fate_109 0 rfl rfl ?_
            refine pw_getr 39 zc_X6 (ts_this hM) (by decide) q2025 (Or.inr ⟨_, rfl⟩) (tr_weeksOf hM) dX6_fate_110 ?_
            refine pw_iload_n dX6_fate_113 1 rfl rfl ?_
            refine pw_iald k rfl (ts_weeksOf hM) (by omega) (by decide) dX6_fate_114 ?_
            rw [show zai n1 at_weeksOf k = (yNow S 52).2 3 k from hY.1.2.1 3 (by decide) k (by omega)]
            refine pw_iret rfl dX6_fate_115 ?_
            subst c_58; exact t_qok hT1 hth1 hf1 _
          refine pw_tableOut 116 dX6_fate_58 (by rw [nI_toInt (by omega)]; omega) (by decide) ?_
          refine pw_aload_n dX6_fate_116 0 rfl rfl ?_
          refine pw_getr 40 zc_X6 (ts_this hM) (by decide) q2026 (Or.inr ⟨_, rfl⟩) (tr_hurtsOf hM) dX6_fate_117 ?_
          refine pw_iload_n dX6_fate_120 1 rfl rfl ?_
          refine pw_iald k rfl (ts_hurtsOf hM) (by omega) (by decide) dX6_fate_121 ?_
          rw [show zai n1 at_hurtsOf k = (yNow S 52).2 4 k from hY.1.2.1 4 (by decide) k (by omega)]
          refine pw_iret rfl dX6_fate_122 ?_
          rw [show a = 4 by omega]; exact t_qok hT1 hth1 hf1 _
        · exact absurd rfl c_47
      · refine pw_iconst (v := 1) dX6_fate_37 (by decide) ?_
        refine pw_goto 42 dX6_fate_38 (by decide) ?_
        refine pw_iconst (v := 2) dX6_fate_42 (by decide) ?_
        refine pw_iconst (v := 1) dX6_fate_43 (by decide) ?_
        refine pw_callV3 zmM_X6_bad rfl (lw_V q2188 q2190 qs62 q150 q2191) rfl (ts_this hM) zc_X6 (t_bad1 hM 2 (by decide) 1 (by decide) hth) (by decide) (Nat.le_refl _) (Nat.le_refl _) rfl (Nat.le_of_ble_eq_true rfl) (Nat.le_of_ble_eq_true rfl) dX6_fate_44 zE.nx (zE_kk ?_)
        refine pw_if_eq 52 dX6_fate_47 (by decide) (fun c_47 => ?_) (fun c_47 => ?_)
        · exact absurd c_47 (by decide)
        · refine pw_iconst (v := 0) dX6_fate_50 (by decide) ?_
          refine pw_iret rfl dX6_fate_51 ?_
          exact tQ_eq ((spNeed_t c_11).trans (spNeed_f (fun h => c_34 ((inB_le (m := 4) (by decide)).mp h)))) (t_qbad hT0 hW hf0 2 1 (by decide) _)
  · refine pw_iconst (v := 1) dX6_fate_14 (by decide) ?_
    refine pw_goto 19 dX6_fate_15 (by decide) ?_
    refine pw_iconst (v := 1) dX6_fate_19 (by decide) ?_
    refine pw_iconst (v := 0) dX6_fate_20 (by decide) ?_
    refine pw_callV3 zmM_X6_bad rfl (lw_V q2188 q2190 qs62 q150 q2191) rfl (ts_this hM) zc_X6 (t_bad1 hM 1 (by decide) 0 (by decide) hth) (by decide) (Nat.le_refl _) (Nat.le_refl _) rfl (Nat.le_of_ble_eq_true rfl) (Nat.le_of_ble_eq_true rfl) dX6_fate_21 zE.nx (zE_kk ?_)
    refine pw_if_ne 50 dX6_fate_24 (by decide) (fun c_24 => ?_) (fun c_24 => ?_)
    · refine pw_iconst (v := 0) dX6_fate_50 (by decide) ?_
      refine pw_iret rfl dX6_fate_51 ?_
      exact tQ_eq (spNeed_f c_11) (t_qbad hT0 hW hf0 1 0 (by decide) _)
    · exact absurd c_24 (by decide)
theorem lc_ic2 {x : Int32} (h : ib x 31 = false) : lc x.toInt64 = ic x := by
  unfold lc ic
  refine (ct_ext _ _ 32 64 (by decide) (fun k hk => ?_) (fun k h1 h2 => ?_)).symm
  · show ib x k = x.toInt64.toBitVec.getLsbD k
    rw [Int32.toBitVec_toInt64, BitVec.getLsbD_signExtend]
    simp [hk, show k < 64 by omega]; rfl
  · show x.toInt64.toBitVec.getLsbD k = false
    rw [Int32.toBitVec_toInt64, BitVec.getLsbD_signExtend]
    simp only [show ¬ k < 32 by omega, if_false, h2, decide_true, Bool.true_and]
    rw [BitVec.msb_eq_getLsbD_last]; exact h
theorem ib_4095 : ∀ i, i < 32 → ib 4095 i = decide (i < 12) := by decide +kernel
theorem yEndF_31 (S : zS) (law : Nat) (f : Nat → Nat) (y : Int32) : ib (yEndF S law f &&& y) 31 = false := by
  rw [ib_and, ib_and, ib_4095 31 (by decide)]; simp
theorem t_onesE (S : zS) (law : Nat) (f : Nat → Nat) (y : Int32) (g : zg_G) (n : zg_N) : PW zm_X6_ones 1 (zE (some (.int (nI (ic (yEndF S law f &&& y))))) g n) 0 0 0 [(0, .long (yEndF S law f &&& y).toInt64)] [] g n := by
  rw [← lc_ic2 (yEndF_31 S law f y)]; exact t_ones _ g n
abbrev spTru (S : zS) (x : Int32) : Nat := ic (x &&& spTr S (sN S 0 1))
def spYear (S : zS) (x : Int32) : Int32 :=
  if x = 0 then yEnd S else if x = 1 then (yNow S 52).2 5 0 else if x = 2 then (yNow S 52).2 5 1 else if x = 3 then (yNow S 52).2 5 2 else if x = 4 then nI (spTru S (yEnd S)) else zb (¬ spTog S (yEnd S) 51 = 0)
def sp_year (S : zS) (x : Int32) : Int32 × Value × zS := spNeed S (inB x 6) 1 1 (.int 0) (0, .int (spYear S x), S)
theorem t_year {g : zg_G} {n : zg_N} {S : zS} (hM : TSh g) (hT : TW n S) (hW : WF S) (x : Int32) : PW zm_X6_year 9 (tQ g n (sp_year S x)) 0 0 0 [(0, .ref aT), (1, .int x)] [] g n := by
  refine pw_aload_n dX6_year_0 0 rfl rfl ?_
  refine pw_iconst (v := 0) dX6_year_1 (by decide) ?_
  refine pw_puti 0 zc_X6 (ts_this hM) (by decide) (by decide) q1986 rfl (Or.inl rfl) rfl rfl dX6_year_2 ?_
  obtain ⟨hT0, hth, hf0⟩ := t_start hT hW; generalize zpfi n aT 0 0 = n0 at hT0 hth hf0 ⊢
  refine pw_aload_n dX6_year_5 0 rfl rfl ?_
  refine pw_iload_n dX6_year_6 1 rfl rfl ?_
  refine pw_iconst (v := 0) dX6_year_7 (by decide) ?_
  refine pw_iconst (v := 5) dX6_year_8 (by decide) ?_
  refine pw_callS3 zmM_X6_in rfl (lw_S q2185 q2186 q150 q2187) (t_in _ _ _ _ _) (by decide) (Nat.le_refl _) (Nat.le_refl _) rfl (Nat.le_of_ble_eq_true rfl) (Nat.le_of_ble_eq_true rfl) dX6_year_9 zE.nx (zE_kk ?_)
  refine pw_if_ne_B 19 dX6_year_12 (by decide) (fun c_12 => ?_) (fun c_12 => ?_)
  · refine pw_iconst (v := 0) dX6_year_19 (by decide) ?_
    refine pw_iconst (v := 1) dX6_year_20 (by decide) ?_
    refine pw_iconst (v := 1) dX6_year_21 (by decide) ?_
    refine pw_callV3 zmM_X6_bad rfl (lw_V q2188 q2190 qs62 q150 q2191) rfl (ts_this hM) zc_X6 (t_bad0 hM 1 (by decide) 1 (by decide) hth) (by decide) (Nat.le_refl _) (Nat.le_refl _) rfl (Nat.le_of_ble_eq_true rfl) (Nat.le_of_ble_eq_true rfl) dX6_year_22 zE.nx (zE_kk ?_)
    refine pw_if_eq 30 dX6_year_25 (by decide) (fun c_25 => ?_) (fun c_25 => ?_)
    · have c_9 := (inB_le (m := 5) (by decide)).mpr c_12
      rw [show sp_year S x = _ from spNeed_t c_9]
      refine pw_aload_n dX6_year_30 0 rfl rfl ?_
      refine pw_callV0 zmM_X6_goesNow rfl (lw_V q2400 q2402 qs94 q150 q2403) rfl (ts_this hM) zc_X6 (t_goesNow hM hT0 hW) (by decide) (Nat.le_refl _) (Nat.le_refl _) rfl (Nat.le_of_ble_eq_true rfl) (Nat.le_of_ble_eq_true rfl) dX6_year_31 (by intros; rintro ⟨h, _⟩; cases h) (fun v1 g1 n1 h1 => ?_)
      obtain ⟨h1, rfl, hY, hfg⟩ := h1; cases h1; obtain ⟨hT1, hth1, hf1⟩ := t_after hT0 hW hth hf0 hfg
      refine pw_istore_n (ls' := [(2, _), (0, _), (1, _)]) dX6_year_34 rfl (by decide) rfl ?_
      refine pw_ls [1, 2, 0] (ls' := [(0, _), (1, _), (2, _)]) rfl ?_
      refine pw_iload_n dX6_year_35 1 rfl rfl ?_
      refine pw_case 0 (fun c_36 => ?_) (fun n_36_0 => ?_)
      · refine pw_tableIn 72 dX6_year_36 (by decide) (by decide) rfl (by decide) ?_
        refine pw_iload_n dX6_year_72 2 rfl rfl ?_
        refine pw_iret rfl dX6_year_73 ?_
        subst c_36; exact t_qok hT1 hth1 hf1 _
      refine pw_case 1 (fun c_36 => ?_) (fun n_36_1 => ?_)
      · refine pw_tableIn 74 dX6_year_36 (by decide) (by decide) rfl (by decide) ?_
        refine pw_aload_n dX6_year_74 0 rfl rfl ?_
        refine pw_geti 45 zc_X6 (ts_this hM) (by decide) q2031 (Or.inl rfl) dX6_year_75 ?_
        rw [show zfi n1 aT tf_fell = (yNow S 52).2 5 0 from hY.1.2.2 0 (by decide)]
        refine pw_iret rfl dX6_year_78 ?_
        subst c_36; exact t_qok hT1 hth1 hf1 _
      refine pw_case 2 (fun c_36 => ?_) (fun n_36_2 => ?_)
      · refine pw_tableIn 79 dX6_year_36 (by decide) (by decide) rfl (by decide) ?_
        refine pw_aload_n dX6_year_79 0 rfl rfl ?_
        refine pw_geti 46 zc_X6 (ts_this hM) (by decide) q2032 (Or.inl rfl) dX6_year_80 ?_
        rw [show zfi n1 aT tf_killed = (yNow S 52).2 5 1 from hY.1.2.2 1 (by decide)]
        refine pw_iret rfl dX6_year_83 ?_
        subst c_36; exact t_qok hT1 hth1 hf1 _
      refine pw_case 3 (fun c_36 => ?_) (fun n_36_3 => ?_)
      · refine pw_tableIn 84 dX6_year_36 (by decide) (by decide) rfl (by decide) ?_
        refine pw_aload_n dX6_year_84 0 rfl rfl ?_
        refine pw_geti 47 zc_X6 (ts_this hM) (by decide) q2033 (Or.inl rfl) dX6_year_85 ?_
        rw [show zfi n1 aT tf_hurts = (yNow S 52).2 5 2 from hY.1.2.2 2 (by decide)]
        refine pw_iret rfl dX6_year_88 ?_
        subst c_36; exact t_qok hT1 hth1 hf1 _
      refine pw_case 4 (fun c_36 => ?_) (fun n_36_4 => ?_)
      · refine pw_tableIn 89 dX6_year_36 (by decide) (by decide) rfl (by decide) ?_
        refine pw_iload_n dX6_year_89 2 rfl rfl ?_
        refine pw_aload_n dX6_year_90 0 rfl rfl ?_
        refine pw_callV0 zmM_X6_truthsNow rfl (lw_V q2367 q2369 qs92 q150 q2370) rfl (ts_this hM) zc_X6 (t_truthsNow hM hT1 hW) (by decide) (Nat.le_refl _) (Nat.le_refl _) rfl (Nat.le_of_ble_eq_true rfl) (Nat.le_of_ble_eq_true rfl) dX6_year_91 zE.nx (zE_kk ?_)
        refine pw_iand dX6_year_94 ?_
        refine pw_i2l dX6_year_95 ?_
        refine pw_callS1 zmM_X6_ones rfl (lw_S q2277 q2278 q150 q2279) (t_onesE S _ _ _ g1 n1) (by decide) (Nat.le_refl _) (Nat.le_refl _) rfl (Nat.le_of_ble_eq_true rfl) (Nat.le_of_ble_eq_true rfl) dX6_year_96 zE.nx (zE_kk ?_)
        refine pw_iret rfl dX6_year_99 ?_
        subst c_36; exact t_qok hT1 hth1 hf1 _
      refine pw_tableOut 100 dX6_year_36 (by have h0 := i32_ne (0 : Int) (by decide) n_36_0; have h1 := i32_ne (1 : Int) (by decide) n_36_1; have h2 := i32_ne (2 : Int) (by decide) n_36_2; have h3 := i32_ne (3 : Int) (by decide) n_36_3; have h4 := i32_ne (4 : Int) (by decide) n_36_4; omega) (by decide) ?_
      refine pw_aload_n dX6_year_100 0 rfl rfl ?_
      refine pw_iload_n dX6_year_101 2 rfl rfl ?_
      refine pw_bipush (v := 51) dX6_year_102 (by decide) ?_
      refine pw_callV2 zmM_X6_togetherIn rfl (lw_V q2475 q2477 qs109 q150 q2478) rfl (ts_this hM) zc_X6 (t_togetherIn hM hT1 hW _ 51 (by decide)) (by decide) (Nat.le_refl _) (Nat.le_refl _) rfl (Nat.le_of_ble_eq_true rfl) (Nat.le_of_ble_eq_true rfl) dX6_year_104 zE.nx (zE_kk ?_)
      refine pw_lconst (v := 0) dX6_year_107 rfl ?_
      refine pw_lcmp dX6_year_108 ?_
      refine pw_if_eq_L 116 dX6_year_109 (by decide) (fun c_109 => ?_) (fun c_109 => ?_)
      · refine pw_iconst (v := 0) dX6_year_116 (by decide) ?_
        refine pw_iret rfl dX6_year_117 ?_
        exact tQ_eq (by rw [spYear, if_neg n_36_0, if_neg n_36_1, if_neg n_36_2, if_neg n_36_3, if_neg n_36_4, zb_f (fun h => h c_109)]) (t_qok hT1 hth1 hf1 _)
      · refine pw_iconst (v := 1) dX6_year_112 (by decide) ?_
        refine pw_goto 117 dX6_year_113 (by decide) ?_
        refine pw_iret rfl dX6_year_117 ?_
        exact tQ_eq (by rw [spYear, if_neg n_36_0, if_neg n_36_1, if_neg n_36_2, if_neg n_36_3, if_neg n_36_4, zb_t c_109]) (t_qok hT1 hth1 hf1 _)
    · exact absurd rfl c_25
  · refine pw_iconst (v := 1) dX6_year_15 (by decide) ?_
    refine pw_goto 20 dX6_year_16 (by decide) ?_
    refine pw_iconst (v := 1) dX6_year_20 (by decide) ?_
    refine pw_iconst (v := 1) dX6_year_21 (by decide) ?_
    refine pw_callV3 zmM_X6_bad rfl (lw_V q2188 q2190 qs62 q150 q2191) rfl (ts_this hM) zc_X6 (t_bad1 hM 1 (by decide) 1 (by decide) hth) (by decide) (Nat.le_refl _) (Nat.le_refl _) rfl (Nat.le_of_ble_eq_true rfl) (Nat.le_of_ble_eq_true rfl) dX6_year_22 zE.nx (zE_kk ?_)
    refine pw_if_eq 30 dX6_year_25 (by decide) (fun c_25 => ?_) (fun c_25 => ?_)
    · exact absurd c_25 (by decide)
    · refine pw_iconst (v := 0) dX6_year_28 (by decide) ?_
      refine pw_iret rfl dX6_year_29 ?_
      exact tQ_eq (spNeed_f (fun h => c_12 ((inB_le (m := 5) (by decide)).mp h))) (t_qbad hT0 hW hf0 1 1 (by decide) _)

/-! ===== the reference: orders changed; humble, killer, grave, canon ===== -/
/-- two change places -/
def swp (f : Nat → Nat) (a b k : Nat) : Nat := if k = a then f b else if k = b then f a else f k
theorem swp_swp (f : Nat → Nat) (a b : Nat) : swp (swp f a b) a b = f := by
  funext k
  unfold swp
  by_cases h1 : k = a
  · subst h1; by_cases h2 : b = k
    · subst h2; simp
    · simp [h2]
  · by_cases h2 : k = b
    · subst h2; simp [h1]
    · simp [h1, h2]
theorem sOrd_id (S : zS) : sOrd S (sN S 2) = S := by
  obtain ⟨N, r⟩ := S
  unfold sOrd
  congr 1
  funext a k
  show (if a = 2 then N 2 k else N a k) = N a k
  split
  · next h => rw [h]
  · rfl
theorem sOrd_2 (S : zS) (f g : Nat → Nat) : sOrd (sOrd S f) g = sOrd S g := by
  unfold sOrd
  congr 1
  funext a k
  show (if a = 2 then g k else if a = 2 then f k else S.1 a k) = _
  split <;> rfl
theorem isPerm_swp {f : Nat → Nat} {m a b : Nat} (h : isPerm f m) (ha : a < m) (hb : b < m) : isPerm (swp f a b) m := by
  refine ⟨fun k hk => ?_, fun i j hi hj e => ?_⟩
  · unfold swp; split
    · exact h.1 b hb
    · split
      · exact h.1 a ha
      · exact h.1 k hk
  · unfold swp at e
    by_cases i1 : i = a
    · by_cases j1 : j = a
      · omega
      · rw [if_pos i1, if_neg j1] at e
        by_cases j2 : j = b
        · rw [if_pos j2] at e; have := h.2 b a hb ha e; omega
        · rw [if_neg j2] at e; have := h.2 b j hb hj e; omega
    · rw [if_neg i1] at e
      by_cases i2 : i = b
      · rw [if_pos i2] at e
        by_cases j1 : j = a
        · rw [if_pos j1] at e; have := h.2 a b ha hb e; omega
        · rw [if_neg j1] at e
          by_cases j2 : j = b
          · omega
          · rw [if_neg j2] at e; have := h.2 a j ha hj e; omega
      · rw [if_neg i2] at e
        by_cases j1 : j = a
        · rw [if_pos j1] at e; have := h.2 i b hi hb e; omega
        · rw [if_neg j1] at e
          by_cases j2 : j = b
          · rw [if_pos j2] at e; have := h.2 i a hi ha e; omega
          · rw [if_neg j2] at e; exact h.2 i j hi hj e
theorem WF.swp {S : zS} (h : WF S) {f : Nat → Nat} (hf : ∀ k, k < 12 → f k < 12) (hp : isPerm f (sN S 0 1)) {a b : Nat} (ha : a < sN S 0 1) (hb : b < sN S 0 1) : WF (sOrd S (swp f a b)) := by
  have hs := h.slips
  refine h.ordd _ (fun k hk => ?_) (isPerm_swp hp ha hb)
  unfold Jvm.Pilot.CLotBeliefsLaw_law_r2283_3e34ab.swp
  split
  · exact hf b (by omega)
  · split
    · exact hf a (by omega)
    · exact hf k hk
/-! a year does not look at the order -/
theorem yKl_o (S : zS) (f : Nat → Nat) (w : Nat) : ∀ (r pre : List Nat) (A : zYa), yKl (sOrd S f) w pre r A = yKl S w pre r A
  | [], _, _ => rfl
  | k :: r, pre, A => by
    show (if spDead S k w then yKl (sOrd S f) w pre r (yKill A k w) else yKl (sOrd S f) w (pre ++ [k]) r A) = _
    rw [yKl_o S f w r, yKl_o S f w r]; rfl
theorem yMt_o (S : zS) (f : Nat → Nat) (law w k : Nat) : ∀ (r pre : List Nat) (A : zYa), yMt (sOrd S f) law w k pre r A = yMt S law w k pre r A
  | [], _, _ => rfl
  | o :: r, pre, A => by
    rw [yMt, yMt, yMt_o S f law w k r, yMt_o S f law w k r]; rfl
theorem yAg_o (S : zS) (f : Nat → Nat) : ∀ (r : List Nat) (A : zYa), yAg (sOrd S f) r A = yAg S r A
  | [], _ => rfl
  | k :: r, A => by
    rw [yAg, yAg, yAg_o S f r]; rfl
theorem yRun_o (S : zS) (f : Nat → Nat) (law : Nat) (d : Nat → Option Nat) : ∀ w, yRun (sOrd S f) law d w = yRun S law d w
  | 0 => rfl
  | w + 1 => by
    have e : yMon (sOrd S f) law w (d w) (yRun S law d w) = yMon S law w (d w) (yRun S law d w) := by
      unfold yMon
      cases d w with
      | none => exact yKl_o S f w _ _ _
      | some k =>
        show yMeet (sOrd S f) law w k (yKl (sOrd S f) w [] _ _) = yMeet S law w k (yKl S w [] _ _)
        rw [yKl_o]
        unfold yMeet
        rw [yMt_o]; rfl
    rw [yRun, yRun, yRun_o S f law d w]
    unfold yWeek
    rw [e, yAg_o]
theorem spTr_o (S : zS) (f : Nat → Nat) : ∀ k, spTr (sOrd S f) k = spTr S k
  | 0 => rfl
  | k + 1 => by rw [spTr, spTr, spTr_o S f k]; rfl
theorem t_changes {g : zg_G} {n : zg_N} {S : zS} (hM : TSh g) (hT : TW n S) (hW : WF S) (a b : Nat) (ha : a < 12) (hb : b < 12) : PW zm_X6_changes 1 (fun o g1 n1 => o = .inl none ∧ g1 = g ∧ TW n1 (sOrd S (swp (sN S 2) a b)) ∧ zFr zB0 (fun a => a = at_order) n n1) 0 0 0 [(0, .ref aT), (1, .int (nI a)), (2, .int (nI b))] [] g n := by
  refine pw_aload_n dX6_changes_0 0 rfl rfl ?_
  refine pw_getr 21 zc_X6 (ts_this hM) (by decide) q2007 (Or.inr ⟨_, rfl⟩) (tr_order hM) dX6_changes_1 ?_
  refine pw_iload_n dX6_changes_4 1 rfl rfl ?_
  refine pw_iald a rfl (ts_order hM) (by omega) (by decide) dX6_changes_5 ?_
  rw [hT.od ha]
  refine pw_istore_n (ls' := [(3, _), (0, _), (1, _), (2, _)]) dX6_changes_6 rfl (by decide) rfl ?_
  refine pw_ls [1, 2, 3, 0] (ls' := [(0, _), (1, _), (2, _), (3, _)]) rfl ?_
  refine pw_aload_n dX6_changes_7 0 rfl rfl ?_
  refine pw_getr 21 zc_X6 (ts_this hM) (by decide) q2007 (Or.inr ⟨_, rfl⟩) (tr_order hM) dX6_changes_8 ?_
  refine pw_iload_n dX6_changes_11 1 rfl rfl ?_
  refine pw_aload_n dX6_changes_12 0 rfl rfl ?_
  refine pw_getr 21 zc_X6 (ts_this hM) (by decide) q2007 (Or.inr ⟨_, rfl⟩) (tr_order hM) dX6_changes_13 ?_
  refine pw_iload_n dX6_changes_16 2 rfl rfl ?_
  refine pw_iald b rfl (ts_order hM) (by omega) (by decide) dX6_changes_17 ?_
  rw [hT.od hb]
  refine pw_iast a rfl (ts_order hM) (by decide) (by omega) (by decide) dX6_changes_18 ?_
  refine pw_aload_n dX6_changes_19 0 rfl rfl ?_
  refine pw_getr 21 zc_X6 (ts_this hM) (by decide) q2007 (Or.inr ⟨_, rfl⟩) (tr_order hM) dX6_changes_20 ?_
  refine pw_iload_n dX6_changes_23 2 rfl rfl ?_
  refine pw_iload_n dX6_changes_24 3 rfl rfl ?_
  refine pw_iast b rfl (ts_order hM) (by decide) (by omega) (by decide) dX6_changes_25 ?_
  refine pw_vret rfl dX6_changes_26 ?_
  have hfx : zFr zB0 (fun a => a = at_order) n (zpai (zpai n at_order a (nI (sN S 2 b))) at_order b (nI (sN S 2 a))) := by refine zFr.pai (zFr.pai zFr.rf ?_) ?_; exact rfl; exact rfl
  refine ⟨rfl, rfl, hT.ord hW _ hfx (fun _ => rfl) (fun k hk => ?_), hfx⟩
  rw [zai_p, zai_p]
  unfold swp
  by_cases h1 : k = b
  · subst h1
    rw [if_pos ⟨rfl, rfl⟩]
    by_cases h2 : k = a
    · subst h2; rw [if_pos rfl]
    · rw [if_neg h2, if_pos rfl]
  · rw [if_neg (fun z => h1 z.2)]
    by_cases h2 : k = a
    · subst h2; rw [if_pos ⟨rfl, rfl⟩, if_pos rfl]
    · rw [if_neg (fun z => h2 z.2), if_neg h2, if_neg h1]; exact hT.od hk
theorem zFo_X {n n' : zg_N} (h : zFr zB0 (fun a => a = at_order) n n') : zFr tXF tXA n n' := h.mono (fun _ _ z => z.elim) (fun a z => by subst z; constructor <;> decide)
/-- an order changed, a year of it, the order changed back -/
theorem t_back {n1 n2 n3 n : zg_N} {S : zS} (hW : WF S) {a b : Nat} (h3 : TW n3 (sOrd (sOrd S (swp (sN S 2) a b)) (swp (sN (sOrd S (swp (sN S 2) a b)) 2) a b))) : TW n3 S := by
  rw [sOrd_2, show swp (sN (sOrd S (swp (sN S 2) a b)) 2) a b = sN S 2 from swp_swp _ a b, sOrd_id] at h3
  exact h3
def sp_touchy (S : zS) : Int32 × Value × zS := (0, .int (nI (ct (fun i => decide (¬ yEndF S (sN S 0 5) (swp (sN S 2) i (i + 1)) = yEnd S)) (sN S 0 1 - 1))), S)
theorem t_touchy {g : zg_G} {n : zg_N} {S : zS} (hM : TSh g) (hT : TW n S) (hW : WF S) : PW zm_X6_touchy 9 (tQ g n (sp_touchy S)) 0 0 0 [(0, .ref aT)] [] g n := by
  have hs := hW.slips
  have hlp : ∀ i, i ≤ sN S 0 1 - 1 → ∀ n1, TW n1 S → zfi n1 aT tf_thrown = 0 → zFr tXF tXA n n1 → PW zm_X6_touchy 9 (tQ g n (sp_touchy S)) 0 0 14 [(0, .ref aT), (1, .int (yEnd S)), (2, .int (nI (ct (fun i => decide (¬ yEndF S (sN S 0 5) (swp (sN S 2) i (i + 1)) = yEnd S)) i))), (3, .int (nI i))] [] g n1 := by
    refine zl_up _ (fun i hi ih n1 hT1 hth1 hf1 => ?_)
    refine pw_iload_n dX6_touchy_14 3 rfl rfl ?_
    refine pw_iconst (v := 1) dX6_touchy_15 (by decide) ?_
    refine pw_iadd dX6_touchy_16 ?_
    rw [nI_1]
    refine pw_aload_n dX6_touchy_17 0 rfl rfl ?_
    refine pw_getr 12 zc_X6 (ts_this hM) (by decide) q1998 (Or.inr ⟨_, rfl⟩) (tr_told hM) dX6_touchy_18 ?_
    refine pw_iconst (v := 1) dX6_touchy_21 (by decide) ?_
    refine pw_iald 1 rfl (ts_told hM) (by decide) (by decide) dX6_touchy_22 ?_
    rw [hT1.told (k := 1) (by decide)]
    refine pw_icmp_ge_N 64 dX6_touchy_23 (by decide) (by omega) (by omega) (fun c_23 => ?_) (fun c_23 => ?_)
    · refine pw_iload_n dX6_touchy_64 2 rfl rfl ?_
      refine pw_iret rfl dX6_touchy_65 ?_
      exact tQ_eq (by rw [sp_touchy, show i = sN S 0 1 - 1 by omega]) (t_qok hT1 hth1 hf1 _)
    · refine pw_aload_n dX6_touchy_26 0 rfl rfl ?_
      refine pw_iload_n dX6_touchy_27 3 rfl rfl ?_
      refine pw_iload_n dX6_touchy_28 3 rfl rfl ?_
      refine pw_iconst (v := 1) dX6_touchy_29 (by decide) ?_
      refine pw_iadd dX6_touchy_30 ?_
      rw [nI_1]
      refine pw_callV2 zmM_X6_changes rfl (lw_V q2483 q2485 qs110 q150 q2486) rfl (ts_this hM) zc_X6 (t_changes hM hT1 hW i (i + 1) (by omega) (by omega)) (by decide) (Nat.le_refl _) (Nat.le_refl _) rfl (Nat.le_of_ble_eq_true rfl) (Nat.le_of_ble_eq_true rfl) dX6_touchy_31 (by intros; rintro ⟨h, _⟩; cases h) (fun v2 g2 n2 h2 => ?_)
      obtain ⟨h1, rfl, hT2, hf2⟩ := h2; cases h1
      have hW2 := hW.swp (fun k hk => hW.ord hk) hW.perm (a := i) (b := i + 1) (by omega) (by omega)
      have hth2 := ((hf2.1 aT tf_thrown (fun z => z)).1).trans hth1
      refine pw_iload_n dX6_touchy_34 2 rfl rfl ?_
      refine pw_aload_n dX6_touchy_35 0 rfl rfl ?_
      refine pw_callV0 zmM_X6_goesNow rfl (lw_V q2400 q2402 qs94 q150 q2403) rfl (ts_this hM) zc_X6 (t_goesNow hM hT2 hW2) (by decide) (Nat.le_refl _) (Nat.le_refl _) rfl (Nat.le_of_ble_eq_true rfl) (Nat.le_of_ble_eq_true rfl) dX6_touchy_36 (by intros; rintro ⟨h, _⟩; cases h) (fun v3 g3 n3 h3 => ?_)
      obtain ⟨h1, rfl, hY, hfg⟩ := h3
      cases h1
      obtain ⟨hT3, hth3, hf3⟩ := t_after hT2 hW2 hth2 (hf1.tr (zFo_X hf2)) hfg
      rw [yRun_o, show yDr (sOrd S (swp (sN S 2) i (i + 1))) (sN (sOrd S (swp (sN S 2) i (i + 1))) 2) = yDr S (swp (sN S 2) i (i + 1)) from rfl, show sN (sOrd S (swp (sN S 2) i (i + 1))) 0 5 = sN S 0 5 from rfl]
      refine pw_iload_n dX6_touchy_39 1 rfl rfl ?_
      refine pw_icmp_eq 47 dX6_touchy_40 (by decide) (fun c_40 => ?_) (fun c_40 => ?_)
      · refine pw_iconst (v := 0) dX6_touchy_47 (by decide) ?_
        refine pw_iadd dX6_touchy_48 ?_
        first | rw [ct_f (p := fun i => decide (¬ yEndF S (sN S 0 5) (swp (sN S 2) i (i + 1)) = yEnd S)) (decide_eq_false (fun h => h c_40))] | rw [ct_t (p := fun i => decide (¬ yEndF S (sN S 0 5) (swp (sN S 2) i (i + 1)) = yEnd S)) (decide_eq_true c_40)]
        refine pw_istore_n (ls' := [(2, _), (0, _), (1, _), (3, _)]) dX6_touchy_49 rfl (by decide) rfl ?_
        refine pw_ls [1, 2, 0, 3] (ls' := [(0, _), (1, _), (2, _), (3, _)]) rfl ?_
        refine pw_aload_n dX6_touchy_50 0 rfl rfl ?_
        refine pw_iload_n dX6_touchy_51 3 rfl rfl ?_
        refine pw_iload_n dX6_touchy_52 3 rfl rfl ?_
        refine pw_iconst (v := 1) dX6_touchy_53 (by decide) ?_
        refine pw_iadd dX6_touchy_54 ?_
        rw [nI_1]
        refine pw_callV2 zmM_X6_changes rfl (lw_V q2483 q2485 qs110 q150 q2486) rfl (ts_this hM) zc_X6 (t_changes hM hT3 hW2 i (i + 1) (by omega) (by omega)) (by decide) (Nat.le_refl _) (Nat.le_refl _) rfl (Nat.le_of_ble_eq_true rfl) (Nat.le_of_ble_eq_true rfl) dX6_touchy_55 (by intros; rintro ⟨h, _⟩; cases h) (fun v4 g4 n4 h4 => ?_)
        obtain ⟨h1, rfl, hT4, hf4⟩ := h4; cases h1
        refine pw_iinc1 (j := 3) (ls' := [(3, _), (0, _), (1, _), (2, _)]) dX6_touchy_58 rfl (by decide) rfl ?_
        refine pw_ls [1, 2, 3, 0] (ls' := [(0, _), (1, _), (2, _), (3, _)]) rfl ?_
        refine pw_goto 14 dX6_touchy_61 (by decide) ?_
        exact ih (i + 1) (by omega) (by omega) n4 (t_back (n1 := n1) (n2 := n2) (n := n) hW hT4) (((hf4.1 aT tf_thrown (fun z => z)).1).trans hth3) (hf3.tr (zFo_X hf4))
      · refine pw_iconst (v := 1) dX6_touchy_43 (by decide) ?_
        refine pw_goto 48 dX6_touchy_44 (by decide) ?_
        refine pw_iadd dX6_touchy_48 ?_
        first | rw [ct_f (p := fun i => decide (¬ yEndF S (sN S 0 5) (swp (sN S 2) i (i + 1)) = yEnd S)) (decide_eq_false (fun h => h c_40))] | rw [ct_t (p := fun i => decide (¬ yEndF S (sN S 0 5) (swp (sN S 2) i (i + 1)) = yEnd S)) (decide_eq_true c_40)]
        refine pw_istore_n (ls' := [(2, _), (0, _), (1, _), (3, _)]) dX6_touchy_49 rfl (by decide) rfl ?_
        refine pw_ls [1, 2, 0, 3] (ls' := [(0, _), (1, _), (2, _), (3, _)]) rfl ?_
        refine pw_aload_n dX6_touchy_50 0 rfl rfl ?_
        refine pw_iload_n dX6_touchy_51 3 rfl rfl ?_
        refine pw_iload_n dX6_touchy_52 3 rfl rfl ?_
        refine pw_iconst (v := 1) dX6_touchy_53 (by decide) ?_
        refine pw_iadd dX6_touchy_54 ?_
        rw [nI_1]
        refine pw_callV2 zmM_X6_changes rfl (lw_V q2483 q2485 qs110 q150 q2486) rfl (ts_this hM) zc_X6 (t_changes hM hT3 hW2 i (i + 1) (by omega) (by omega)) (by decide) (Nat.le_refl _) (Nat.le_refl _) rfl (Nat.le_of_ble_eq_true rfl) (Nat.le_of_ble_eq_true rfl) dX6_touchy_55 (by intros; rintro ⟨h, _⟩; cases h) (fun v4 g4 n4 h4 => ?_)
        obtain ⟨h1, rfl, hT4, hf4⟩ := h4; cases h1
        refine pw_iinc1 (j := 3) (ls' := [(3, _), (0, _), (1, _), (2, _)]) dX6_touchy_58 rfl (by decide) rfl ?_
        refine pw_ls [1, 2, 3, 0] (ls' := [(0, _), (1, _), (2, _), (3, _)]) rfl ?_
        refine pw_goto 14 dX6_touchy_61 (by decide) ?_
        exact ih (i + 1) (by omega) (by omega) n4 (t_back (n1 := n1) (n2 := n2) (n := n) hW hT4) (((hf4.1 aT tf_thrown (fun z => z)).1).trans hth3) (hf3.tr (zFo_X hf4))
  refine pw_aload_n dX6_touchy_0 0 rfl rfl ?_
  refine pw_iconst (v := 0) dX6_touchy_1 (by decide) ?_
  refine pw_puti 0 zc_X6 (ts_this hM) (by decide) (by decide) q1986 rfl (Or.inl rfl) rfl rfl dX6_touchy_2 ?_
  obtain ⟨hT0, hth, hf0⟩ := t_start hT hW; generalize zpfi n aT 0 0 = n0 at hT0 hth hf0 ⊢
  refine pw_aload_n dX6_touchy_5 0 rfl rfl ?_
  refine pw_callV0 zmM_X6_goesNow rfl (lw_V q2400 q2402 qs94 q150 q2403) rfl (ts_this hM) zc_X6 (t_goesNow hM hT0 hW) (by decide) (Nat.le_refl _) (Nat.le_refl _) rfl (Nat.le_of_ble_eq_true rfl) (Nat.le_of_ble_eq_true rfl) dX6_touchy_6 (by intros; rintro ⟨h, _⟩; cases h) (fun v1 g1 n1 h1 => ?_)
  obtain ⟨h1, rfl, hY, hfg⟩ := h1; cases h1; obtain ⟨hT1, hth1, hf1⟩ := t_after hT0 hW hth hf0 hfg
  refine pw_istore_n (ls' := [(1, _), (0, _)]) dX6_touchy_9 rfl (by decide) rfl ?_
  refine pw_ls [1, 0] (ls' := [(0, _), (1, _)]) rfl ?_
  refine pw_iconst (v := 0) dX6_touchy_10 (by decide) ?_
  refine pw_istore_n (ls' := [(2, _), (0, _), (1, _)]) dX6_touchy_11 rfl (by decide) rfl ?_
  refine pw_ls [1, 2, 0] (ls' := [(0, _), (1, _), (2, _)]) rfl ?_
  refine pw_iconst (v := 0) dX6_touchy_12 (by decide) ?_
  refine pw_istore_n (ls' := [(3, _), (0, _), (1, _), (2, _)]) dX6_touchy_13 rfl (by decide) rfl ?_
  refine pw_ls [1, 2, 3, 0] (ls' := [(0, _), (1, _), (2, _), (3, _)]) rfl ?_
  exact hlp 0 (Nat.zero_le _) n1 hT1 hth1 hf1
def spSwV (S : zS) (a b : Nat) : Nat := spTru S (yEndF S (sN S 0 5) (swp (sN S 2) a b))
def spSwI (S : zS) (a : Nat) (p : Int32 × Nat) : Nat → Int32 × Nat
  | 0 => p
  | b + 1 => if a < b ∧ (spSwI S a p b).2 < spSwV S a b then (16 * nI a + nI b, spSwV S a b) else spSwI S a p b
def spSw (S : zS) : Nat → Int32 × Nat
  | 0 => (-1, spTru S (yEnd S))
  | a + 1 => spSwI S a (spSw S a) (sN S 0 1)
theorem spSwI_0 (S : zS) (a : Nat) (p : Int32 × Nat) : ∀ b, b ≤ a + 1 → spSwI S a p b = p
  | 0, _ => rfl
  | b + 1, h => by rw [spSwI, if_neg (fun z => by omega)]; exact spSwI_0 S a p b (by omega)
theorem spTru_le (S : zS) (x : Int32) : spTru S x ≤ 32 := ic_le _
theorem spSwI_le (S : zS) (a : Nat) (p : Int32 × Nat) (hp : p.2 ≤ 32) : ∀ b, (spSwI S a p b).2 ≤ 32
  | 0 => hp
  | b + 1 => by
    rw [spSwI]; split
    · exact spTru_le _ _
    · exact spSwI_le S a p hp b
theorem spSw_le (S : zS) : ∀ a, (spSw S a).2 ≤ 32
  | 0 => spTru_le _ _
  | a + 1 => spSwI_le S a _ (spSw_le S a) _
def sp_swap (S : zS) : Int32 × Value × zS := (0, .int (spSw S (sN S 0 1)).1, S)
theorem t_swap {g : zg_G} {n : zg_N} {S : zS} (hM : TSh g) (hT : TW n S) (hW : WF S) : PW zm_X6_swap 9 (tQ g n (sp_swap S)) 0 0 0 [(0, .ref aT)] [] g n := by
  have hs := hW.slips
  have hlp : ∀ a, a ≤ sN S 0 1 → ∀ n1, TW n1 S → zfi n1 aT tf_thrown = 0 → zFr tXF tXA n n1 → PW zm_X6_swap 9 (tQ g n (sp_swap S)) 0 0 23 [(0, .ref aT), (1, .int (nI (spSw S a).2)), (2, .int (spSw S a).1), (3, .int (nI a))] [] g n1 := by
    refine zl_up _ (fun a ha ih n1 hT1 hth1 hf1 => ?_)
    have hi : a < sN S 0 1 → ∀ b, b ≤ sN S 0 1 → a < b → ∀ n1, TW n1 S → zfi n1 aT tf_thrown = 0 → zFr tXF tXA n n1 → PW zm_X6_swap 9 (tQ g n (sp_swap S)) 0 0 38 [(0, .ref aT), (1, .int (nI (spSwI S a (spSw S a) b).2)), (2, .int (spSwI S a (spSw S a) b).1), (3, .int (nI a)), (4, .int (nI b))] [] g n1 := by
      intro ha1
      refine zl_up _ (fun b hb ih2 hab n1 hT1 hth1 hf1 => ?_)
      have q1 := spSwI_le S a (spSw S a) (spSw_le S a) b
      have q2 : spSwV S a b ≤ 32 := spTru_le _ _
      refine pw_iload dX6_swap_38 4 rfl ?_
      refine pw_aload_n dX6_swap_40 0 rfl rfl ?_
      refine pw_getr 12 zc_X6 (ts_this hM) (by decide) q1998 (Or.inr ⟨_, rfl⟩) (tr_told hM) dX6_swap_41 ?_
      refine pw_iconst (v := 1) dX6_swap_44 (by decide) ?_
      refine pw_iald 1 rfl (ts_told hM) (by decide) (by decide) dX6_swap_45 ?_
      rw [hT1.told (k := 1) (by decide)]
      refine pw_icmp_ge_N 104 dX6_swap_46 (by decide) (by omega) (by omega) (fun c_46 => ?_) (fun c_46 => ?_)
      · refine pw_iinc1 (j := 3) (ls' := [(3, _), (0, _), (1, _), (2, _), (4, _)]) dX6_swap_104 rfl (by decide) rfl ?_
        refine pw_ls [1, 2, 3, 0, 4] (ls' := [(0, _), (1, _), (2, _), (3, _), (4, _)]) rfl ?_
        refine pw_goto 23 dX6_swap_107 (by decide) ?_
        refine pw_ls [0, 1, 2, 3] (ls' := [(0, _), (1, _), (2, _), (3, _)]) rfl ?_
        have := ih (a + 1) (by omega) (by omega) n1 hT1 hth1 hf1
        rw [show b = sN S 0 1 by omega]
        exact this
      · refine pw_aload_n dX6_swap_49 0 rfl rfl ?_
        refine pw_iload_n dX6_swap_50 3 rfl rfl ?_
        refine pw_iload dX6_swap_51 4 rfl ?_
        refine pw_callV2 zmM_X6_changes rfl (lw_V q2483 q2485 qs110 q150 q2486) rfl (ts_this hM) zc_X6 (t_changes hM hT1 hW a b (by omega) (by omega)) (by decide) (Nat.le_refl _) (Nat.le_refl _) rfl (Nat.le_of_ble_eq_true rfl) (Nat.le_of_ble_eq_true rfl) dX6_swap_53 (by intros; rintro ⟨h, _⟩; cases h) (fun v2 g2 n2 h2 => ?_)
        obtain ⟨h1, rfl, hT2, hf2⟩ := h2; cases h1
        have hW2 := hW.swp (fun k hk => hW.ord hk) hW.perm (a := a) (b := b) (by omega) (by omega)
        have hth2 := ((hf2.1 aT tf_thrown (fun z => z)).1).trans hth1
        refine pw_aload_n dX6_swap_56 0 rfl rfl ?_
        refine pw_callV0 zmM_X6_goesNow rfl (lw_V q2400 q2402 qs94 q150 q2403) rfl (ts_this hM) zc_X6 (t_goesNow hM hT2 hW2) (by decide) (Nat.le_refl _) (Nat.le_refl _) rfl (Nat.le_of_ble_eq_true rfl) (Nat.le_of_ble_eq_true rfl) dX6_swap_57 (by intros; rintro ⟨h, _⟩; cases h) (fun v3 g3 n3 h3 => ?_)
        obtain ⟨h1, rfl, hY, hfg⟩ := h3
        cases h1
        obtain ⟨hT3, hth3, hf3⟩ := t_after hT2 hW2 hth2 (hf1.tr (zFo_X hf2)) hfg
        rw [yRun_o, show yDr (sOrd S (swp (sN S 2) a b)) (sN (sOrd S (swp (sN S 2) a b)) 2) = yDr S (swp (sN S 2) a b) from rfl, show sN (sOrd S (swp (sN S 2) a b)) 0 5 = sN S 0 5 from rfl]
        refine pw_aload_n dX6_swap_60 0 rfl rfl ?_
        refine pw_callV0 zmM_X6_truthsNow rfl (lw_V q2367 q2369 qs92 q150 q2370) rfl (ts_this hM) zc_X6 (t_truthsNow hM hT3 hW2) (by decide) (Nat.le_refl _) (Nat.le_refl _) rfl (Nat.le_of_ble_eq_true rfl) (Nat.le_of_ble_eq_true rfl) dX6_swap_61 zE.nx (zE_kk ?_)
        refine pw_iand dX6_swap_64 ?_
        refine pw_i2l dX6_swap_65 ?_
        refine pw_callS1 zmM_X6_ones rfl (lw_S q2277 q2278 q150 q2279) (t_onesE S (sN S 0 5) (swp (sN S 2) a b) (spTr (sOrd S (swp (sN S 2) a b)) (sN S 0 1)) g3 n3) (by decide) (Nat.le_refl _) (Nat.le_refl _) rfl (Nat.le_of_ble_eq_true rfl) (Nat.le_of_ble_eq_true rfl) dX6_swap_66 zE.nx (zE_kk ?_)
        rw [show ic (yEndF S (sN S 0 5) (swp (sN S 2) a b) &&& spTr (sOrd S (swp (sN S 2) a b)) (sN S 0 1)) = spSwV S a b from by rw [spTr_o]; rfl]
        refine pw_istore (ls' := [(5, _), (0, _), (1, _), (2, _), (3, _), (4, _)]) dX6_swap_69 (by decide) rfl ?_
        refine pw_ls [1, 2, 3, 4, 5, 0] (ls' := [(0, _), (1, _), (2, _), (3, _), (4, _), (5, _)]) rfl ?_
        refine pw_aload_n dX6_swap_71 0 rfl rfl ?_
        refine pw_iload_n dX6_swap_72 3 rfl rfl ?_
        refine pw_iload dX6_swap_73 4 rfl ?_
        refine pw_callV2 zmM_X6_changes rfl (lw_V q2483 q2485 qs110 q150 q2486) rfl (ts_this hM) zc_X6 (t_changes hM hT3 hW2 a b (by omega) (by omega)) (by decide) (Nat.le_refl _) (Nat.le_refl _) rfl (Nat.le_of_ble_eq_true rfl) (Nat.le_of_ble_eq_true rfl) dX6_swap_75 (by intros; rintro ⟨h, _⟩; cases h) (fun v4 g4 n4 h4 => ?_)
        obtain ⟨h1, rfl, hT4, hf4⟩ := h4; cases h1
        have hT5 := t_back (n1 := n1) (n2 := n2) (n := n) hW hT4
        refine pw_iload dX6_swap_78 5 rfl ?_
        refine pw_iload_n dX6_swap_80 1 rfl rfl ?_
        refine pw_icmp_gt_N 87 dX6_swap_81 (by decide) (by omega) (by omega) (fun c_81 => ?_) (fun c_81 => ?_)
        · refine pw_bipush (v := 16) dX6_swap_87 (by decide) ?_
          refine pw_iload_n dX6_swap_89 3 rfl rfl ?_
          refine pw_imul dX6_swap_90 ?_
          refine pw_iload dX6_swap_91 4 rfl ?_
          refine pw_iadd dX6_swap_93 ?_
          refine pw_istore_n (ls' := [(2, _), (0, _), (1, _), (3, _), (4, _), (5, _)]) dX6_swap_94 rfl (by decide) rfl ?_
          refine pw_ls [1, 2, 0, 3, 4, 5] (ls' := [(0, _), (1, _), (2, _), (3, _), (4, _), (5, _)]) rfl ?_
          refine pw_iload dX6_swap_95 5 rfl ?_
          refine pw_istore_n (ls' := [(1, _), (0, _), (2, _), (3, _), (4, _), (5, _)]) dX6_swap_97 rfl (by decide) rfl ?_
          refine pw_ls [1, 0, 2, 3, 4, 5] (ls' := [(0, _), (1, _), (2, _), (3, _), (4, _), (5, _)]) rfl ?_
          refine pw_iinc1 (j := 4) (ls' := [(4, _), (0, _), (1, _), (2, _), (3, _), (5, _)]) dX6_swap_98 rfl (by decide) rfl ?_
          refine pw_ls [1, 2, 3, 4, 0, 5] (ls' := [(0, _), (1, _), (2, _), (3, _), (4, _), (5, _)]) rfl ?_
          refine pw_goto 38 dX6_swap_101 (by decide) ?_
          refine pw_ls [0, 1, 2, 3, 4] (ls' := [(0, _), (1, _), (2, _), (3, _), (4, _)]) rfl ?_
          have := ih2 (b + 1) (by omega) (by omega) (by omega) n4 hT5 (((hf4.1 aT tf_thrown (fun z => z)).1).trans hth3) (hf3.tr (zFo_X hf4))
          rw [show spSwI S a (spSw S a) (b + 1) = (16 * nI a + nI b, spSwV S a b) from if_pos ⟨hab, c_81⟩] at this
          exact this
        · refine pw_goto 98 dX6_swap_84 (by decide) ?_
          refine pw_iinc1 (j := 4) (ls' := [(4, _), (0, _), (1, _), (2, _), (3, _), (5, _)]) dX6_swap_98 rfl (by decide) rfl ?_
          refine pw_ls [1, 2, 3, 4, 0, 5] (ls' := [(0, _), (1, _), (2, _), (3, _), (4, _), (5, _)]) rfl ?_
          refine pw_goto 38 dX6_swap_101 (by decide) ?_
          refine pw_ls [0, 1, 2, 3, 4] (ls' := [(0, _), (1, _), (2, _), (3, _), (4, _)]) rfl ?_
          have := ih2 (b + 1) (by omega) (by omega) (by omega) n4 hT5 (((hf4.1 aT tf_thrown (fun z => z)).1).trans hth3) (hf3.tr (zFo_X hf4))
          rw [show spSwI S a (spSw S a) (b + 1) = spSwI S a (spSw S a) b from if_neg (fun z => absurd z.2 (by omega))] at this
          exact this
    refine pw_iload_n dX6_swap_23 3 rfl rfl ?_
    refine pw_aload_n dX6_swap_24 0 rfl rfl ?_
    refine pw_getr 12 zc_X6 (ts_this hM) (by decide) q1998 (Or.inr ⟨_, rfl⟩) (tr_told hM) dX6_swap_25 ?_
    refine pw_iconst (v := 1) dX6_swap_28 (by decide) ?_
    refine pw_iald 1 rfl (ts_told hM) (by decide) (by decide) dX6_swap_29 ?_
    rw [hT1.told (k := 1) (by decide)]
    refine pw_icmp_ge_N 110 dX6_swap_30 (by decide) (by omega) (by omega) (fun c_30 => ?_) (fun c_30 => ?_)
    · refine pw_iload_n dX6_swap_110 2 rfl rfl ?_
      refine pw_iret rfl dX6_swap_111 ?_
      exact tQ_eq (by rw [sp_swap, show a = sN S 0 1 by omega]) (t_qok hT1 hth1 hf1 _)
    · refine pw_iload_n dX6_swap_33 3 rfl rfl ?_
      refine pw_iconst (v := 1) dX6_swap_34 (by decide) ?_
      refine pw_iadd dX6_swap_35 ?_
      rw [nI_1]
      refine pw_istore (ls' := [(4, _), (0, _), (1, _), (2, _), (3, _)]) dX6_swap_36 (by decide) rfl ?_
      refine pw_ls [1, 2, 3, 4, 0] (ls' := [(0, _), (1, _), (2, _), (3, _), (4, _)]) rfl ?_
      have := hi c_30 (a + 1) (by omega) (by omega) n1 hT1 hth1 hf1
      rw [spSwI_0 S a _ (a + 1) (Nat.le_refl _)] at this
      exact this
  refine pw_aload_n dX6_swap_0 0 rfl rfl ?_
  refine pw_iconst (v := 0) dX6_swap_1 (by decide) ?_
  refine pw_puti 0 zc_X6 (ts_this hM) (by decide) (by decide) q1986 rfl (Or.inl rfl) rfl rfl dX6_swap_2 ?_
  obtain ⟨hT0, hth, hf0⟩ := t_start hT hW; generalize zpfi n aT 0 0 = n0 at hT0 hth hf0 ⊢
  refine pw_aload_n dX6_swap_5 0 rfl rfl ?_
  refine pw_callV0 zmM_X6_goesNow rfl (lw_V q2400 q2402 qs94 q150 q2403) rfl (ts_this hM) zc_X6 (t_goesNow hM hT0 hW) (by decide) (Nat.le_refl _) (Nat.le_refl _) rfl (Nat.le_of_ble_eq_true rfl) (Nat.le_of_ble_eq_true rfl) dX6_swap_6 (by intros; rintro ⟨h, _⟩; cases h) (fun v1 g1 n1 h1 => ?_)
  obtain ⟨h1, rfl, hY, hfg⟩ := h1; cases h1; obtain ⟨hT1, hth1, hf1⟩ := t_after hT0 hW hth hf0 hfg
  refine pw_aload_n dX6_swap_9 0 rfl rfl ?_
  refine pw_callV0 zmM_X6_truthsNow rfl (lw_V q2367 q2369 qs92 q150 q2370) rfl (ts_this hM) zc_X6 (t_truthsNow hM hT1 hW) (by decide) (Nat.le_refl _) (Nat.le_refl _) rfl (Nat.le_of_ble_eq_true rfl) (Nat.le_of_ble_eq_true rfl) dX6_swap_10 zE.nx (zE_kk ?_)
  refine pw_iand dX6_swap_13 ?_
  refine pw_i2l dX6_swap_14 ?_
  refine pw_callS1 zmM_X6_ones rfl (lw_S q2277 q2278 q150 q2279) (t_onesE S _ _ _ g1 n1) (by decide) (Nat.le_refl _) (Nat.le_refl _) rfl (Nat.le_of_ble_eq_true rfl) (Nat.le_of_ble_eq_true rfl) dX6_swap_15 zE.nx (zE_kk ?_)
  refine pw_istore_n (ls' := [(1, _), (0, _)]) dX6_swap_18 rfl (by decide) rfl ?_
  refine pw_ls [1, 0] (ls' := [(0, _), (1, _)]) rfl ?_
  refine pw_iconst (v := (-1)) dX6_swap_19 (by decide) ?_
  refine pw_istore_n (ls' := [(2, _), (0, _), (1, _)]) dX6_swap_20 rfl (by decide) rfl ?_
  refine pw_ls [1, 2, 0] (ls' := [(0, _), (1, _), (2, _)]) rfl ?_
  refine pw_iconst (v := 0) dX6_swap_21 (by decide) ?_
  refine pw_istore_n (ls' := [(3, _), (0, _), (1, _), (2, _)]) dX6_swap_22 rfl (by decide) rfl ?_
  refine pw_ls [1, 2, 3, 0] (ls' := [(0, _), (1, _), (2, _), (3, _)]) rfl ?_
  exact hlp 0 (Nat.zero_le _) n1 hT1 hth1 hf1

/-! ===== the reference: humble, killer, grave, canon ===== -/
/-- the order without those left out -/
def hRow (S : zS) (out : Nat) : Nat → List Nat
  | 0 => []
  | k + 1 => if ib (nI out) (sN S 2 k) = true then hRow S out k else hRow S out k ++ [sN S 2 k]
theorem hRow_ok {S : zS} (hW : WF S) (out : Nat) : ∀ k, k ≤ sN S 0 1 → (hRow S out k).length ≤ k ∧ ∀ b, b ∈ hRow S out k → b < sN S 0 1
  | 0, _ => ⟨Nat.le_refl _, fun b hb => nomatch hb⟩
  | k + 1, h => by
    have ih := hRow_ok hW out k (by omega)
    rw [hRow]
    split
    · exact ⟨by omega, ih.2⟩
    · refine ⟨by simp only [List.length_append, List.length_cons, List.length_nil]; omega, fun b hb => ?_⟩
      rcases List.mem_append.mp hb with h1 | h1
      · exact ih.2 b h1
      · rw [List.mem_singleton.mp h1]; exact hW.perm.1 k (by omega)
abbrev yLst (L : List Nat) (w : Nat) : Option Nat := L[w]?
theorem yRow_lst (L : List Nat) : yRow (fun i => L.getD i 0) L.length = yLst L := by
  funext w
  show (if w < L.length then some (L.getD w 0) else none) = L[w]?
  split
  · next h => rw [List.getD_eq_getElem?_getD, List.getElem?_eq_getElem h]; rfl
  · next h => rw [List.getElem?_eq_none (by omega)]
abbrev spHu (S : zS) (out : Nat) : Bool := decide (yBits (yRun S (sN S 0 5) (yLst (hRow S out (sN S 0 1))) 52).1 &&& 4095 = nI (2 ^ sN S 0 1 - 1) &&& (nI out ^^^ -1))
def spHm (S : zS) : Nat → Nat
  | 0 => 2 ^ sN S 0 1 - 1
  | o + 1 => if ic (nI o) < ic (nI (spHm S o)) ∧ spHu S o = true then o else spHm S o
theorem spHm_lt {S : zS} (hW : WF S) : ∀ o, o ≤ 2 ^ sN S 0 1 → spHm S o < 4096
  | 0, _ => by have := pow12 hW.slips; have := Nat.one_le_two_pow (n := sN S 0 1); rw [spHm]; omega
  | o + 1, h => by
    have := pow12 hW.slips
    rw [spHm]; split
    · omega
    · exact spHm_lt hW o (by omega)
def sp_humble (S : zS) : Int32 × Value × zS := (0, .int (nI (spHm S (2 ^ sN S 0 1))), S)
theorem t_humble {g : zg_G} {n : zg_N} {S : zS} (hM : TSh g) (hT : TW n S) (hW : WF S) : PW zm_X6_humble 9 (tQ g n (sp_humble S)) 0 0 0 [(0, .ref aT)] [] g n := by
  have hs := hW.slips
  have hp := pow12 hs
  have hlp : ∀ o, o ≤ 2 ^ sN S 0 1 → ∀ n1, TW n1 S → zfi n1 aT tf_thrown = 0 → zFr tXF tXA n n1 → PW zm_X6_humble 9 (tQ g n (sp_humble S)) 0 0 18 [(0, .ref aT), (1, .int (nI (spHm S o))), (2, .int (nI o))] [] g n1 := by
    refine zl_up _ (fun o ho ih n1 hT1 hth1 hf1 => ?_)
    have hb := spHm_lt hW o ho
    have q0 := ic_le (nI o)
    have q1 := ic_le (nI (spHm S o))
    have hi : o < 2 ^ sN S 0 1 → ic (nI o) < ic (nI (spHm S o)) → ∀ k, k ≤ sN S 0 1 → ∀ n2, zFr gF gA n1 n2 → zfi n2 aT tf_rowMany = nI (hRow S o k).length → (∀ i b, (hRow S o k)[i]? = some b → zai n2 at_row i = nI b) →
        PW zm_X6_humble 9 (tQ g n (sp_humble S)) 0 0 53 [(0, .ref aT), (1, .int (nI (spHm S o))), (2, .int (nI o)), (3, .int (nI k))] [] g n2 := by
      intro ho1 hbt
      refine zl_up _ (fun k hk ih2 n2 hf2 hm hr => ?_)
      obtain ⟨hT2, hth2, hf3⟩ := t_after hT1 hW hth1 hf1 hf2
      have hko := hRow_ok hW o k hk
      refine pw_iload_n dX6_humble_53 3 rfl rfl ?_
      refine pw_aload_n dX6_humble_54 0 rfl rfl ?_
      refine pw_getr 12 zc_X6 (ts_this hM) (by decide) q1998 (Or.inr ⟨_, rfl⟩) (tr_told hM) dX6_humble_55 ?_
      refine pw_iconst (v := 1) dX6_humble_58 (by decide) ?_
      refine pw_iald 1 rfl (ts_told hM) (by decide) (by decide) dX6_humble_59 ?_
      rw [hT2.told (k := 1) (by decide)]
      refine pw_icmp_ge_N 111 dX6_humble_60 (by decide) (by omega) (by omega) (fun c_60 => ?_) (fun c_60 => ?_)
      · refine pw_aload_n dX6_humble_111 0 rfl rfl ?_
        refine pw_aload_n dX6_humble_112 0 rfl rfl ?_
        refine pw_getr 12 zc_X6 (ts_this hM) (by decide) q1998 (Or.inr ⟨_, rfl⟩) (tr_told hM) dX6_humble_113 ?_
        refine pw_iconst (v := 5) dX6_humble_116 (by decide) ?_
        refine pw_iald 5 rfl (ts_told hM) (by decide) (by decide) dX6_humble_117 ?_
        rw [hT2.told (k := 5) (by decide)]
        have hks : k = sN S 0 1 := by omega
        subst hks
        have hrow : TRow n2 S (fun i => (hRow S o (sN S 0 1)).getD i 0) (hRow S o (sN S 0 1)).length := ⟨hm, by omega, fun i hi => by
          have e := List.getElem?_eq_getElem hi
          have e2 : (hRow S o (sN S 0 1)).getD i 0 = (hRow S o (sN S 0 1))[i] := by rw [List.getD_eq_getElem?_getD, e]; rfl
          show zai n2 at_row i = nI ((hRow S o (sN S 0 1)).getD i 0) ∧ okb S ((hRow S o (sN S 0 1)).getD i 0)
          rw [e2]
          exact ⟨hr i _ e, Or.inl (hko.2 _ (List.getElem_mem hi))⟩⟩
        refine pw_callV1 zmM_X6_goes rfl (lw_V q2408 q2410 qs96 q150 q2411) rfl (ts_this hM) zc_X6 (t_goes hM hT2 hW _ hW.law hrow) (by decide) (Nat.le_refl _) (Nat.le_refl _) rfl (Nat.le_of_ble_eq_true rfl) (Nat.le_of_ble_eq_true rfl) dX6_humble_118 (by intros; rintro ⟨h, _⟩; cases h) (fun v1 g1 n3 h1 => ?_)
        obtain ⟨h1, rfl, hY, hfg⟩ := h1
        cases h1
        obtain ⟨hT3, hth3, hf4⟩ := t_after hT2 hW hth2 hf3 (zFgF hfg)
        rw [yRow_lst]
        refine pw_iconst (v := 1) dX6_humble_121 (by decide) ?_
        refine pw_aload_n dX6_humble_122 0 rfl rfl ?_
        refine pw_getr 12 zc_X6 (ts_this hM) (by decide) q1998 (Or.inr ⟨_, rfl⟩) (tr_told hM) dX6_humble_123 ?_
        refine pw_iconst (v := 1) dX6_humble_126 (by decide) ?_
        refine pw_iald 1 rfl (ts_told hM) (by decide) (by decide) dX6_humble_127 ?_
        rw [hT3.told (k := 1) (by decide)]
        refine pw_ishl dX6_humble_128 ?_
        rw [ishl1 (by omega)]
        refine pw_iconst (v := 1) dX6_humble_129 (by decide) ?_
        refine pw_isub dX6_humble_130 ?_
        rw [show nI (2 ^ sN S 0 1) - 1 = nI (2 ^ sN S 0 1 - 1) from nI_sub (Nat.one_le_two_pow)]
        refine pw_iload_n dX6_humble_131 2 rfl rfl ?_
        refine pw_iconst (v := (-1)) dX6_humble_132 (by decide) ?_
        refine pw_ixor dX6_humble_133 ?_
        refine pw_iand dX6_humble_134 ?_
        refine pw_icmp_ne 142 dX6_humble_135 (by decide) (fun c_135 => ?_) (fun c_135 => ?_)
        · refine pw_iload_n dX6_humble_142 1 rfl rfl ?_
          refine pw_istore_n (ls' := [(1, _), (0, _), (2, _), (3, _)]) dX6_humble_143 rfl (by decide) rfl ?_
          refine pw_ls [1, 0, 2] (ls' := [(0, _), (1, _), (2, _)]) rfl ?_
          refine pw_iinc1 (j := 2) (ls' := [(2, _), (0, _), (1, _)]) dX6_humble_144 rfl (by decide) rfl ?_
          refine pw_ls [1, 2, 0] (ls' := [(0, _), (1, _), (2, _)]) rfl ?_
          refine pw_goto 18 dX6_humble_147 (by decide) ?_
          have := ih (o + 1) (by omega) (by omega) n3 hT3 hth3 hf4
          rw [show spHm S (o + 1) = spHm S o from if_neg (fun z => c_135 (of_decide_eq_true z.2))] at this
          exact this
        · refine pw_iload_n dX6_humble_138 2 rfl rfl ?_
          refine pw_goto 143 dX6_humble_139 (by decide) ?_
          refine pw_istore_n (ls' := [(1, _), (0, _), (2, _), (3, _)]) dX6_humble_143 rfl (by decide) rfl ?_
          refine pw_ls [1, 0, 2] (ls' := [(0, _), (1, _), (2, _)]) rfl ?_
          refine pw_iinc1 (j := 2) (ls' := [(2, _), (0, _), (1, _)]) dX6_humble_144 rfl (by decide) rfl ?_
          refine pw_ls [1, 2, 0] (ls' := [(0, _), (1, _), (2, _)]) rfl ?_
          refine pw_goto 18 dX6_humble_147 (by decide) ?_
          have := ih (o + 1) (by omega) (by omega) n3 hT3 hth3 hf4
          rw [show spHm S (o + 1) = o from if_pos ⟨hbt, decide_eq_true c_135⟩] at this
          exact this
      · refine pw_iload_n dX6_humble_63 2 rfl rfl ?_
        refine pw_aload_n dX6_humble_64 0 rfl rfl ?_
        refine pw_getr 21 zc_X6 (ts_this hM) (by decide) q2007 (Or.inr ⟨_, rfl⟩) (tr_order hM) dX6_humble_65 ?_
        refine pw_iload_n dX6_humble_68 3 rfl rfl ?_
        refine pw_iald k rfl (ts_order hM) (by omega) (by decide) dX6_humble_69 ?_
        rw [hT2.od (show k < 12 by omega)]
        have hok12 := hW.perm.1 k c_60
        refine pw_ishr dX6_humble_70 ?_
        refine pw_iconst (v := 1) dX6_humble_71 (by decide) ?_
        refine pw_iand dX6_humble_72 ?_
        refine pw_iconst (v := 1) dX6_humble_73 (by decide) ?_
        refine pw_icmp_ne 80 dX6_humble_74 (by decide) (fun c_74 => ?_) (fun c_74 => ?_)
        · refine pw_aload_n dX6_humble_80 0 rfl rfl ?_
          refine pw_getr 34 zc_X6 (ts_this hM) (by decide) q2020 (Or.inr ⟨_, rfl⟩) (tr_row hM) dX6_humble_81 ?_
          refine pw_aload_n dX6_humble_84 0 rfl rfl ?_
          refine pw_geti 43 zc_X6 (ts_this hM) (by decide) q2029 (Or.inl rfl) dX6_humble_85 ?_
          rw [hm]
          refine pw_aload_n dX6_humble_88 0 rfl rfl ?_
          refine pw_getr 21 zc_X6 (ts_this hM) (by decide) q2007 (Or.inr ⟨_, rfl⟩) (tr_order hM) dX6_humble_89 ?_
          refine pw_iload_n dX6_humble_92 3 rfl rfl ?_
          refine pw_iald k rfl (ts_order hM) (by omega) (by decide) dX6_humble_93 ?_
          rw [hT2.od (show k < 12 by omega)]
          refine pw_iast (hRow S o k).length rfl (ts_row hM) (by decide) (by omega) (by decide) dX6_humble_94 ?_
          refine pw_aload_n dX6_humble_95 0 rfl rfl ?_
          refine pw_dup dX6_humble_96 rfl ?_
          refine pw_geti 43 zc_X6 (ts_this hM) (by decide) q2029 (Or.inl rfl) dX6_humble_97 ?_
          rw [show zfi (zpai n2 at_row (hRow S o k).length (nI (sN S 2 k))) aT tf_rowMany = nI (hRow S o k).length from hm]
          refine pw_iconst (v := 1) dX6_humble_100 (by decide) ?_
          refine pw_iadd dX6_humble_101 ?_
          rw [nI_1]
          refine pw_puti 43 zc_X6 (ts_this hM) (by decide) (by decide) q2029 rfl (Or.inl rfl) rfl rfl dX6_humble_102 ?_
          refine pw_iinc1 (j := 3) (ls' := [(3, _), (0, _), (1, _), (2, _)]) dX6_humble_105 rfl (by decide) rfl ?_
          refine pw_ls [1, 2, 3, 0] (ls' := [(0, _), (1, _), (2, _), (3, _)]) rfl ?_
          refine pw_goto 53 dX6_humble_108 (by decide) ?_
          have := ih2 (k + 1) (by omega) (by omega) (zpfi (zpai n2 at_row (hRow S o k).length (nI (sN S 2 k))) aT tf_rowMany (nI ((hRow S o k).length + 1))) ((hf2.pai (Or.inr rfl)).pfi (Or.inr ⟨rfl, rfl⟩))
          rw [show hRow S o (k + 1) = hRow S o k ++ [sN S 2 k] from if_neg (fun z => c_74 ((ib_eq1 (by omega)).mpr z))] at this
          refine this ?_ (fun i b hi => ?_)
          · rw [zfi_p, if_pos ⟨rfl, rfl⟩, List.length_append]; rfl
          · show zai (zpai n2 at_row (hRow S o k).length (nI (sN S 2 k))) at_row i = nI b
            rw [zai_p]
            by_cases e : i = (hRow S o k).length
            · subst e
              rw [List.getElem?_append_right (Nat.le_refl _), Nat.sub_self] at hi
              cases hi
              rw [if_pos ⟨rfl, rfl⟩]
            · rw [if_neg (fun z => e z.2)]
              have hil := (List.getElem?_eq_some_iff.mp hi).1
              rw [List.length_append] at hil
              simp only [List.length_cons, List.length_nil] at hil
              rw [List.getElem?_append_left (by omega)] at hi
              exact hr i b hi
        · refine pw_goto 105 dX6_humble_77 (by decide) ?_
          refine pw_iinc1 (j := 3) (ls' := [(3, _), (0, _), (1, _), (2, _)]) dX6_humble_105 rfl (by decide) rfl ?_
          refine pw_ls [1, 2, 3, 0] (ls' := [(0, _), (1, _), (2, _), (3, _)]) rfl ?_
          refine pw_goto 53 dX6_humble_108 (by decide) ?_
          have := ih2 (k + 1) (by omega) (by omega) n2 hf2
          rw [show hRow S o (k + 1) = hRow S o k from if_pos ((ib_eq1 (by omega)).mp c_74)] at this
          exact this hm hr
    refine pw_iload_n dX6_humble_18 2 rfl rfl ?_
    refine pw_iconst (v := 1) dX6_humble_19 (by decide) ?_
    refine pw_aload_n dX6_humble_20 0 rfl rfl ?_
    refine pw_getr 12 zc_X6 (ts_this hM) (by decide) q1998 (Or.inr ⟨_, rfl⟩) (tr_told hM) dX6_humble_21 ?_
    refine pw_iconst (v := 1) dX6_humble_24 (by decide) ?_
    refine pw_iald 1 rfl (ts_told hM) (by decide) (by decide) dX6_humble_25 ?_
    rw [hT1.told (k := 1) (by decide)]
    refine pw_ishl dX6_humble_26 ?_
    rw [ishl1 (by omega)]
    refine pw_icmp_ge_N 150 dX6_humble_27 (by decide) (by omega) (by omega) (fun c_27 => ?_) (fun c_27 => ?_)
    · refine pw_iload_n dX6_humble_150 1 rfl rfl ?_
      refine pw_iret rfl dX6_humble_151 ?_
      exact tQ_eq (by rw [sp_humble, show o = 2 ^ sN S 0 1 by omega]) (t_qok hT1 hth1 hf1 _)
    · refine pw_iload_n dX6_humble_30 2 rfl rfl ?_
      refine pw_i2l dX6_humble_31 ?_
      refine pw_callS1 zmM_X6_ones rfl (lw_S q2277 q2278 q150 q2279) (t_onesN (by omega) g n1) (by decide) (Nat.le_refl _) (Nat.le_refl _) rfl (Nat.le_of_ble_eq_true rfl) (Nat.le_of_ble_eq_true rfl) dX6_humble_32 zE.nx (zE_kk ?_)
      refine pw_iload_n dX6_humble_35 1 rfl rfl ?_
      refine pw_i2l dX6_humble_36 ?_
      refine pw_callS1 zmM_X6_ones rfl (lw_S q2277 q2278 q150 q2279) (t_onesN (by omega) g n1) (by decide) (Nat.le_refl _) (Nat.le_refl _) rfl (Nat.le_of_ble_eq_true rfl) (Nat.le_of_ble_eq_true rfl) dX6_humble_37 zE.nx (zE_kk ?_)
      refine pw_icmp_lt_N 46 dX6_humble_40 (by decide) (by omega) (by omega) (fun c_40 => ?_) (fun c_40 => ?_)
      · refine pw_aload_n dX6_humble_46 0 rfl rfl ?_
        refine pw_iconst (v := 0) dX6_humble_47 (by decide) ?_
        refine pw_puti 43 zc_X6 (ts_this hM) (by decide) (by decide) q2029 rfl (Or.inl rfl) rfl rfl dX6_humble_48 ?_
        refine pw_iconst (v := 0) dX6_humble_51 (by decide) ?_
        refine pw_istore_n (ls' := [(3, _), (0, _), (1, _), (2, _)]) dX6_humble_52 rfl (by decide) rfl ?_
        refine pw_ls [1, 2, 3, 0] (ls' := [(0, _), (1, _), (2, _), (3, _)]) rfl ?_
        exact hi c_27 c_40 0 (Nat.zero_le _) _ (zFr.rf.pfi (Or.inr ⟨rfl, rfl⟩)) (by rw [zfi_p, if_pos ⟨rfl, rfl⟩]; rfl) (fun i b h => nomatch h)
      · refine pw_goto 144 dX6_humble_43 (by decide) ?_
        refine pw_iinc1 (j := 2) (ls' := [(2, _), (0, _), (1, _)]) dX6_humble_144 rfl (by decide) rfl ?_
        refine pw_ls [1, 2, 0] (ls' := [(0, _), (1, _), (2, _)]) rfl ?_
        refine pw_goto 18 dX6_humble_147 (by decide) ?_
        have := ih (o + 1) (by omega) (by omega) n1 hT1 hth1 hf1
        rw [show spHm S (o + 1) = spHm S o from if_neg (fun z => absurd z.1 (by omega))] at this
        exact this
  refine pw_aload_n dX6_humble_0 0 rfl rfl ?_
  refine pw_iconst (v := 0) dX6_humble_1 (by decide) ?_
  refine pw_puti 0 zc_X6 (ts_this hM) (by decide) (by decide) q1986 rfl (Or.inl rfl) rfl rfl dX6_humble_2 ?_
  obtain ⟨hT0, hth, hf0⟩ := t_start hT hW; generalize zpfi n aT 0 0 = n0 at hT0 hth hf0 ⊢
  refine pw_iconst (v := 1) dX6_humble_5 (by decide) ?_
  refine pw_aload_n dX6_humble_6 0 rfl rfl ?_
  refine pw_getr 12 zc_X6 (ts_this hM) (by decide) q1998 (Or.inr ⟨_, rfl⟩) (tr_told hM) dX6_humble_7 ?_
  refine pw_iconst (v := 1) dX6_humble_10 (by decide) ?_
  refine pw_iald 1 rfl (ts_told hM) (by decide) (by decide) dX6_humble_11 ?_
  rw [hT0.told (k := 1) (by decide)]
  refine pw_ishl dX6_humble_12 ?_
  rw [ishl1 (by omega)]
  refine pw_iconst (v := 1) dX6_humble_13 (by decide) ?_
  refine pw_isub dX6_humble_14 ?_
  rw [show nI (2 ^ sN S 0 1) - 1 = nI (2 ^ sN S 0 1 - 1) from nI_sub (Nat.one_le_two_pow)]
  refine pw_istore_n (ls' := [(1, _), (0, _)]) dX6_humble_15 rfl (by decide) rfl ?_
  refine pw_ls [1, 0] (ls' := [(0, _), (1, _)]) rfl ?_
  refine pw_iconst (v := 0) dX6_humble_16 (by decide) ?_
  refine pw_istore_n (ls' := [(2, _), (0, _), (1, _)]) dX6_humble_17 rfl (by decide) rfl ?_
  refine pw_ls [1, 2, 0] (ls' := [(0, _), (1, _), (2, _)]) rfl ?_
  exact hlp 0 (Nat.zero_le _) n0 hT0 hth hf0
/-- which seeing leaves nothing of some worlds -/
def spKi (S : zS) (fel : Int32) : Nat → Nat → Int64 → Int32
  | 0, _, _ => -1
  | m + 1, i, v => if fel < nI (sN S 1 i) then spKi S fel m (i + 1) v else if v &&& sL S 1 i = 0 then nI i else spKi S fel m (i + 1) (v &&& sL S 1 i)
def spKil (S : zS) (k : Nat) : Int32 := if (yNow S 52).2 1 k = -1 ∨ ¬ (yNow S 52).2 2 k = -1 then -1 else spKi S ((yNow S 52).2 1 k) (sN S 0 2) 0 (sL S 0 k)
def sp_killer (S : zS) (x : Int32) : Int32 × Value × zS := spNeed S (inB x (sN S 0 1)) 1 0 (.int 0) (0, .int (spKil S x.toNatClampNeg), S)
theorem t_killer {g : zg_G} {n : zg_N} {S : zS} (hM : TSh g) (hT : TW n S) (hW : WF S) (x : Int32) : PW zm_X6_killer 9 (tQ g n (sp_killer S x)) 0 0 0 [(0, .ref aT), (1, .int x)] [] g n := by
  have hs := hW.slips
  have hse := hW.sees
  have hlp : ∀ n1, TW n1 S → zfi n1 aT tf_thrown = 0 → zFr tXF tXA n n1 → ∀ k, k < sN S 0 1 → ∀ fel, zai n1 at_fellIn k = fel → ∀ R, ∀ m i v, i + m = sN S 0 2 → spKi S fel m i v = R → PW zm_X6_killer 9 (tQ g n (0, .int R, S)) 0 0 66 [(0, .ref aT), (1, .int (nI k)), (2, .long v), (4, .int (nI i))] [] g n1 := by
    intro n1 hT1 hth1 hf1 k hk fel hfel R m
    induction m with
    | zero =>
      intro i v him hR
      refine pw_iload dX6_killer_66 3 rfl ?_
      refine pw_aload_n dX6_killer_68 0 rfl rfl ?_
      refine pw_getr 12 zc_X6 (ts_this hM) (by decide) q1998 (Or.inr ⟨_, rfl⟩) (tr_told hM) dX6_killer_69 ?_
      refine pw_iconst (v := 2) dX6_killer_72 (by decide) ?_
      refine pw_iald 2 rfl (ts_told hM) (by decide) (by decide) dX6_killer_73 ?_
      rw [hT1.told (k := 2) (by decide)]
      refine pw_icmp_ge_N 121 dX6_killer_74 (by decide) (by omega) (by omega) (fun c_74 => ?_) (fun c_74 => ?_)
      · refine pw_iconst (v := (-1)) dX6_killer_121 (by decide) ?_
        refine pw_iret rfl dX6_killer_122 ?_
        exact tQ_eq (by rw [← hR]; rfl) (t_qok hT1 hth1 hf1 _)
      · exact absurd c_74 (by omega)
    | succ m ih =>
      intro i v him hR
      rw [spKi] at hR
      refine pw_iload dX6_killer_66 3 rfl ?_
      refine pw_aload_n dX6_killer_68 0 rfl rfl ?_
      refine pw_getr 12 zc_X6 (ts_this hM) (by decide) q1998 (Or.inr ⟨_, rfl⟩) (tr_told hM) dX6_killer_69 ?_
      refine pw_iconst (v := 2) dX6_killer_72 (by decide) ?_
      refine pw_iald 2 rfl (ts_told hM) (by decide) (by decide) dX6_killer_73 ?_
      rw [hT1.told (k := 2) (by decide)]
      refine pw_icmp_ge_N 121 dX6_killer_74 (by decide) (by omega) (by omega) (fun c_74 => ?_) (fun c_74 => ?_)
      · exact absurd c_74 (by omega)
      · refine pw_aload_n dX6_killer_77 0 rfl rfl ?_
        refine pw_getr 14 zc_X6 (ts_this hM) (by decide) q2000 (Or.inr ⟨_, rfl⟩) (tr_seeWeek hM) dX6_killer_78 ?_
        refine pw_iload dX6_killer_81 3 rfl ?_
        refine pw_iald i rfl (ts_seeWeek hM) (by omega) (by decide) dX6_killer_83 ?_
        rw [hT1.sw (show i < sN S 0 2 by omega)]
        refine pw_aload_n dX6_killer_84 0 rfl rfl ?_
        refine pw_getr 37 zc_X6 (ts_this hM) (by decide) q2023 (Or.inr ⟨_, rfl⟩) (tr_fellIn hM) dX6_killer_85 ?_
        refine pw_iload_n dX6_killer_88 1 rfl rfl ?_
        refine pw_iald k rfl (ts_fellIn hM) (by omega) (by decide) dX6_killer_89 ?_
        rw [hfel]
        refine pw_icmp_le 96 dX6_killer_90 (by decide) (fun c_90 => ?_) (fun c_90 => ?_)
        · refine pw_lload_n dX6_killer_96 2 rfl rfl ?_
          refine pw_aload_n dX6_killer_97 0 rfl rfl ?_
          refine pw_getr 18 zc_X6 (ts_this hM) (by decide) q2004 (Or.inr ⟨_, rfl⟩) (tr_seen hM) dX6_killer_98 ?_
          refine pw_iload dX6_killer_101 3 rfl ?_
          refine pw_lald i rfl (ts_seen hM) (by omega) (by decide) dX6_killer_103 ?_
          rw [hT1.sm (show i < sN S 0 2 by omega)]
          refine pw_land dX6_killer_104 ?_
          refine pw_lstore_n (ls' := [(2, _), (0, _), (1, _), (4, _)]) dX6_killer_105 rfl (by decide) rfl ?_
          refine pw_ls [1, 2, 0, 3] (ls' := [(0, _), (1, _), (2, _), (4, _)]) rfl ?_
          refine pw_lload_n dX6_killer_106 2 rfl rfl ?_
          refine pw_lconst (v := 0) dX6_killer_107 rfl ?_
          refine pw_lcmp dX6_killer_108 ?_
          refine pw_if_ne_L 115 dX6_killer_109 (by decide) (fun c_109 => ?_) (fun c_109 => ?_)
          · refine pw_iinc1 (j := 3) (ls' := [(4, _), (0, _), (1, _), (2, _)]) dX6_killer_115 rfl (by decide) rfl ?_
            refine pw_ls [1, 2, 3, 0] (ls' := [(0, _), (1, _), (2, _), (4, _)]) rfl ?_
            refine pw_goto 66 dX6_killer_118 (by decide) ?_
            rw [if_neg (Int32.not_lt.mpr c_90), if_neg c_109] at hR
            exact ih (i + 1) _ (by omega) hR
          · refine pw_iload dX6_killer_112 3 rfl ?_
            refine pw_iret rfl dX6_killer_114 ?_
            rw [if_neg (Int32.not_lt.mpr c_90), if_pos c_109] at hR
            exact tQ_eq (by rw [← hR]) (t_qok hT1 hth1 hf1 _)
        · refine pw_goto 115 dX6_killer_93 (by decide) ?_
          refine pw_iinc1 (j := 3) (ls' := [(4, _), (0, _), (1, _), (2, _)]) dX6_killer_115 rfl (by decide) rfl ?_
          refine pw_ls [1, 2, 3, 0] (ls' := [(0, _), (1, _), (2, _), (4, _)]) rfl ?_
          refine pw_goto 66 dX6_killer_118 (by decide) ?_
          rw [if_pos (Int32.not_le.mp c_90)] at hR
          exact ih (i + 1) v (by omega) hR
  refine pw_aload_n dX6_killer_0 0 rfl rfl ?_
  refine pw_iconst (v := 0) dX6_killer_1 (by decide) ?_
  refine pw_puti 0 zc_X6 (ts_this hM) (by decide) (by decide) q1986 rfl (Or.inl rfl) rfl rfl dX6_killer_2 ?_
  obtain ⟨hT0, hth, hf0⟩ := t_start hT hW; generalize zpfi n aT 0 0 = n0 at hT0 hth hf0 ⊢
  refine pw_aload_n dX6_killer_5 0 rfl rfl ?_
  refine pw_aload_n dX6_killer_6 0 rfl rfl ?_
  refine pw_iload_n dX6_killer_7 1 rfl rfl ?_
  refine pw_callV1 zmM_X6_isSlip rfl (lw_V q2336 q2338 qs90 q150 q2339) rfl (ts_this hM) zc_X6 (t_isSlip hM hT0 hW x) (by decide) (Nat.le_refl _) (Nat.le_refl _) rfl (Nat.le_of_ble_eq_true rfl) (Nat.le_of_ble_eq_true rfl) dX6_killer_8 zE.nx (zE_kk ?_)
  refine pw_if_ne_B 18 dX6_killer_11 (by decide) (fun c_11 => ?_) (fun c_11 => ?_)
  · refine pw_iconst (v := 0) dX6_killer_18 (by decide) ?_
    refine pw_iconst (v := 1) dX6_killer_19 (by decide) ?_
    refine pw_iconst (v := 0) dX6_killer_20 (by decide) ?_
    refine pw_callV3 zmM_X6_bad rfl (lw_V q2188 q2190 qs62 q150 q2191) rfl (ts_this hM) zc_X6 (t_bad0 hM 1 (by decide) 0 (by decide) hth) (by decide) (Nat.le_refl _) (Nat.le_refl _) rfl (Nat.le_of_ble_eq_true rfl) (Nat.le_of_ble_eq_true rfl) dX6_killer_21 zE.nx (zE_kk ?_)
    refine pw_if_eq 29 dX6_killer_24 (by decide) (fun c_24 => ?_) (fun c_24 => ?_)
    · obtain ⟨k, hk, rfl⟩ := inB_ex (by omega) c_11
      rw [show sp_killer S (nI k) = (0, .int (spKil S k), S) from (spNeed_t c_11).trans (by rw [nI_clamp (by omega)])]
      refine pw_aload_n dX6_killer_29 0 rfl rfl ?_
      refine pw_callV0 zmM_X6_goesNow rfl (lw_V q2400 q2402 qs94 q150 q2403) rfl (ts_this hM) zc_X6 (t_goesNow hM hT0 hW) (by decide) (Nat.le_refl _) (Nat.le_refl _) rfl (Nat.le_of_ble_eq_true rfl) (Nat.le_of_ble_eq_true rfl) dX6_killer_30 (by intros; rintro ⟨h, _⟩; cases h) (fun v1 g1 n1 h1 => ?_)
      obtain ⟨h1, rfl, hY, hfg⟩ := h1; cases h1; obtain ⟨hT1, hth1, hf1⟩ := t_after hT0 hW hth hf0 hfg
      have e1 : zai n1 at_fellIn k = (yNow S 52).2 1 k := hY.1.2.1 1 (by decide) k (by omega)
      have e2 : zai n1 at_fellBy k = (yNow S 52).2 2 k := hY.1.2.1 2 (by decide) k (by omega)
      refine pw_pop dX6_killer_33 rfl ?_
      refine pw_aload_n dX6_killer_34 0 rfl rfl ?_
      refine pw_getr 37 zc_X6 (ts_this hM) (by decide) q2023 (Or.inr ⟨_, rfl⟩) (tr_fellIn hM) dX6_killer_35 ?_
      refine pw_iload_n dX6_killer_38 1 rfl rfl ?_
      refine pw_iald k rfl (ts_fellIn hM) (by omega) (by decide) dX6_killer_39 ?_
      rw [e1]
      refine pw_iconst (v := (-1)) dX6_killer_40 (by decide) ?_
      refine pw_icmp_eq 54 dX6_killer_41 (by decide) (fun c_41 => ?_) (fun c_41 => ?_)
      · refine pw_iconst (v := (-1)) dX6_killer_54 (by decide) ?_
        refine pw_iret rfl dX6_killer_55 ?_
        exact tQ_eq (by rw [spKil, if_pos (Or.inl c_41)]) (t_qok hT1 hth1 hf1 _)
      · refine pw_aload_n dX6_killer_44 0 rfl rfl ?_
        refine pw_getr 38 zc_X6 (ts_this hM) (by decide) q2024 (Or.inr ⟨_, rfl⟩) (tr_fellBy hM) dX6_killer_45 ?_
        refine pw_iload_n dX6_killer_48 1 rfl rfl ?_
        refine pw_iald k rfl (ts_fellBy hM) (by omega) (by decide) dX6_killer_49 ?_
        rw [e2]
        refine pw_iconst (v := (-1)) dX6_killer_50 (by decide) ?_
        refine pw_icmp_eq 56 dX6_killer_51 (by decide) (fun c_51 => ?_) (fun c_51 => ?_)
        · refine pw_aload_n dX6_killer_56 0 rfl rfl ?_
          refine pw_getr 16 zc_X6 (ts_this hM) (by decide) q2002 (Or.inr ⟨_, rfl⟩) (tr_models hM) dX6_killer_57 ?_
          refine pw_iload_n dX6_killer_60 1 rfl rfl ?_
          refine pw_lald k rfl (ts_models hM) (by omega) (by decide) dX6_killer_61 ?_
          rw [hT1.md (Or.inl hk)]
          refine pw_lstore_n (ls' := [(2, _), (0, _), (1, _)]) dX6_killer_62 rfl (by decide) rfl ?_
          refine pw_ls [1, 2, 0] (ls' := [(0, _), (1, _), (2, _)]) rfl ?_
          refine pw_iconst (v := 0) dX6_killer_63 (by decide) ?_
          refine pw_istore (ls' := [(4, _), (0, _), (1, _), (2, _)]) dX6_killer_64 (by decide) rfl ?_
          refine pw_ls [1, 2, 3, 0] (ls' := [(0, _), (1, _), (2, _), (4, _)]) rfl ?_
          exact hlp n1 hT1 hth1 hf1 k hk _ e1 _ (sN S 0 2) 0 _ (Nat.zero_add _) (by rw [spKil, if_neg (fun z => z.elim c_41 (fun h => h c_51))])
        · refine pw_iconst (v := (-1)) dX6_killer_54 (by decide) ?_
          refine pw_iret rfl dX6_killer_55 ?_
          exact tQ_eq (by rw [spKil, if_pos (Or.inr c_51)]) (t_qok hT1 hth1 hf1 _)
    · exact absurd rfl c_24
  · refine pw_iconst (v := 1) dX6_killer_14 (by decide) ?_
    refine pw_goto 19 dX6_killer_15 (by decide) ?_
    refine pw_iconst (v := 1) dX6_killer_19 (by decide) ?_
    refine pw_iconst (v := 0) dX6_killer_20 (by decide) ?_
    refine pw_callV3 zmM_X6_bad rfl (lw_V q2188 q2190 qs62 q150 q2191) rfl (ts_this hM) zc_X6 (t_bad1 hM 1 (by decide) 0 (by decide) hth) (by decide) (Nat.le_refl _) (Nat.le_refl _) rfl (Nat.le_of_ble_eq_true rfl) (Nat.le_of_ble_eq_true rfl) dX6_killer_21 zE.nx (zE_kk ?_)
    refine pw_if_eq 29 dX6_killer_24 (by decide) (fun c_24 => ?_) (fun c_24 => ?_)
    · exact absurd c_24 (by decide)
    · refine pw_iconst (v := 0) dX6_killer_27 (by decide) ?_
      refine pw_iret rfl dX6_killer_28 ?_
      exact tQ_eq (spNeed_f c_11) (t_qbad hT0 hW hf0 1 0 (by decide) _)
def spAh (A : zYa) (k j : Nat) : Bool := decide (¬ A 1 j = -1) && (decide (A 3 k < A 3 j) || (decide (A 3 j = A 3 k) && decide (j < k)))
def spGr (A : zYa) (m : Nat) (x : Int32) (k : Nat) : Bool := decide (¬ A 1 k = -1) && decide (nI (ct (spAh A k) m) = x)
def sp_grave (S : zS) (x : Int32) : Int32 × Value × zS := (0, .int (spFst (spGr (yNow S 52).2 (sN S 0 1) x) (sN S 0 1) 0), S)
theorem t_grave {g : zg_G} {n : zg_N} {S : zS} (hM : TSh g) (hT : TW n S) (hW : WF S) (x : Int32) : PW zm_X6_grave 9 (tQ g n (sp_grave S x)) 0 0 0 [(0, .ref aT), (1, .int x)] [] g n := by
  have hs := hW.slips
  have hlp : ∀ n1, TW n1 S → zfi n1 aT tf_thrown = 0 → zFr tXF tXA n n1 → TYa n1 (yNow S 52).2 → ∀ R, ∀ k, k ≤ sN S 0 1 → R = spFst (spGr (yNow S 52).2 (sN S 0 1) x) (sN S 0 1 - k) k → PW zm_X6_grave 9 (tQ g n (0, .int R, S)) 0 0 12 [(0, .ref aT), (1, .int x), (2, .int (nI k))] [] g n1 := by
    intro n1 hT1 hth1 hf1 hA R
    refine zl_up _ (fun k hk ih hR => ?_)
    have e1 : ∀ j, j < 17 → zai n1 at_fellIn j = (yNow S 52).2 1 j := fun j h => hA.1 1 (by decide) j h
    have e3 : ∀ j, j < 17 → zai n1 at_weeksOf j = (yNow S 52).2 3 j := fun j h => hA.1 3 (by decide) j h
    generalize (yNow S 52).2 = A at hA e1 e3 hR ih ⊢
    have hi : k < sN S 0 1 → ¬ A 1 k = -1 → ∀ j, j ≤ sN S 0 1 → PW zm_X6_grave 9 (tQ g n (0, .int R, S)) 0 0 40 [(0, .ref aT), (1, .int x), (2, .int (nI k)), (3, .int (nI (ct (spAh A k) j))), (4, .int (nI j))] [] g n1 := by
      intro hk1 hfk
      refine zl_up _ (fun j hj ih2 => ?_)
      refine pw_iload dX6_grave_40 4 rfl ?_
      refine pw_aload_n dX6_grave_42 0 rfl rfl ?_
      refine pw_getr 12 zc_X6 (ts_this hM) (by decide) q1998 (Or.inr ⟨_, rfl⟩) (tr_told hM) dX6_grave_43 ?_
      refine pw_iconst (v := 1) dX6_grave_46 (by decide) ?_
      refine pw_iald 1 rfl (ts_told hM) (by decide) (by decide) dX6_grave_47 ?_
      rw [hT1.told (k := 1) (by decide)]
      refine pw_icmp_ge_N 114 dX6_grave_48 (by decide) (by omega) (by omega) (fun c_48 => ?_) (fun c_48 => ?_)
      · have hjs : j = sN S 0 1 := by omega
        subst hjs
        refine pw_iload_n dX6_grave_114 3 rfl rfl ?_
        refine pw_iload_n dX6_grave_115 1 rfl rfl ?_
        refine pw_icmp_ne 121 dX6_grave_116 (by decide) (fun c_116 => ?_) (fun c_116 => ?_)
        · refine pw_ls [0, 1, 2] (ls' := [(0, _), (1, _), (2, _)]) rfl ?_
          refine pw_iinc1 (j := 2) (ls' := [(2, _), (0, _), (1, _)]) dX6_grave_121 rfl (by decide) rfl ?_
          refine pw_ls [1, 2, 0] (ls' := [(0, _), (1, _), (2, _)]) rfl ?_
          refine pw_goto 12 dX6_grave_124 (by decide) ?_
          exact ih (k + 1) (by omega) (by omega) (hR.trans (spFst_go hk1 (by simp only [spGr, decide_eq_false c_116, Bool.and_false])))
        · refine pw_iload_n dX6_grave_119 2 rfl rfl ?_
          refine pw_iret rfl dX6_grave_120 ?_
          exact tQ_eq (by rw [hR, spFst_hit hk1 (by simp only [spGr, decide_eq_true c_116, decide_eq_true hfk]; rfl)]) (t_qok hT1 hth1 hf1 _)
      · refine pw_iload_n dX6_grave_51 3 rfl rfl ?_
        refine pw_aload_n dX6_grave_52 0 rfl rfl ?_
        refine pw_getr 37 zc_X6 (ts_this hM) (by decide) q2023 (Or.inr ⟨_, rfl⟩) (tr_fellIn hM) dX6_grave_53 ?_
        refine pw_iload dX6_grave_56 4 rfl ?_
        refine pw_iald j rfl (ts_fellIn hM) (by omega) (by decide) dX6_grave_58 ?_
        rw [e1 j (by omega)]
        refine pw_iconst (v := (-1)) dX6_grave_59 (by decide) ?_
        refine pw_icmp_eq 105 dX6_grave_60 (by decide) (fun c_60 => ?_) (fun c_60 => ?_)
        · refine pw_iconst (v := 0) dX6_grave_105 (by decide) ?_
          refine pw_iadd dX6_grave_106 ?_
          refine pw_istore_n (ls' := [(3, _), (0, _), (1, _), (2, _), (4, _)]) dX6_grave_107 rfl (by decide) rfl ?_
          refine pw_ls [1, 2, 3, 0, 4] (ls' := [(0, _), (1, _), (2, _), (3, _), (4, _)]) rfl ?_
          refine pw_iinc1 (j := 4) (ls' := [(4, _), (0, _), (1, _), (2, _), (3, _)]) dX6_grave_108 rfl (by decide) rfl ?_
          refine pw_ls [1, 2, 3, 4, 0] (ls' := [(0, _), (1, _), (2, _), (3, _), (4, _)]) rfl ?_
          refine pw_goto 40 dX6_grave_111 (by decide) ?_
          rw [ct_f (p := spAh A k) (by simp [spAh, c_60])]; exact ih2 (j + 1) (by omega) (by omega)
        · refine pw_aload_n dX6_grave_63 0 rfl rfl ?_
          refine pw_getr 39 zc_X6 (ts_this hM) (by decide) q2025 (Or.inr ⟨_, rfl⟩) (tr_weeksOf hM) dX6_grave_64 ?_
          refine pw_iload dX6_grave_67 4 rfl ?_
          refine pw_iald j rfl (ts_weeksOf hM) (by omega) (by decide) dX6_grave_69 ?_
          rw [e3 j (by omega)]
          refine pw_aload_n dX6_grave_70 0 rfl rfl ?_
          refine pw_getr 39 zc_X6 (ts_this hM) (by decide) q2025 (Or.inr ⟨_, rfl⟩) (tr_weeksOf hM) dX6_grave_71 ?_
          refine pw_iload_n dX6_grave_74 2 rfl rfl ?_
          refine pw_iald k rfl (ts_weeksOf hM) (by omega) (by decide) dX6_grave_75 ?_
          rw [e3 k (by omega)]
          refine pw_icmp_gt 101 dX6_grave_76 (by decide) (fun c_76 => ?_) (fun c_76 => ?_)
          · refine pw_iconst (v := 1) dX6_grave_101 (by decide) ?_
            refine pw_goto 106 dX6_grave_102 (by decide) ?_
            refine pw_iadd dX6_grave_106 ?_
            refine pw_istore_n (ls' := [(3, _), (0, _), (1, _), (2, _), (4, _)]) dX6_grave_107 rfl (by decide) rfl ?_
            refine pw_ls [1, 2, 3, 0, 4] (ls' := [(0, _), (1, _), (2, _), (3, _), (4, _)]) rfl ?_
            refine pw_iinc1 (j := 4) (ls' := [(4, _), (0, _), (1, _), (2, _), (3, _)]) dX6_grave_108 rfl (by decide) rfl ?_
            refine pw_ls [1, 2, 3, 4, 0] (ls' := [(0, _), (1, _), (2, _), (3, _), (4, _)]) rfl ?_
            refine pw_goto 40 dX6_grave_111 (by decide) ?_
            rw [ct_t (p := spAh A k) (by simp [spAh, c_60, c_76])]; exact ih2 (j + 1) (by omega) (by omega)
          · refine pw_aload_n dX6_grave_79 0 rfl rfl ?_
            refine pw_getr 39 zc_X6 (ts_this hM) (by decide) q2025 (Or.inr ⟨_, rfl⟩) (tr_weeksOf hM) dX6_grave_80 ?_
            refine pw_iload dX6_grave_83 4 rfl ?_
            refine pw_iald j rfl (ts_weeksOf hM) (by omega) (by decide) dX6_grave_85 ?_
            rw [e3 j (by omega)]
            refine pw_aload_n dX6_grave_86 0 rfl rfl ?_
            refine pw_getr 39 zc_X6 (ts_this hM) (by decide) q2025 (Or.inr ⟨_, rfl⟩) (tr_weeksOf hM) dX6_grave_87 ?_
            refine pw_iload_n dX6_grave_90 2 rfl rfl ?_
            refine pw_iald k rfl (ts_weeksOf hM) (by omega) (by decide) dX6_grave_91 ?_
            rw [e3 k (by omega)]
            refine pw_icmp_ne 105 dX6_grave_92 (by decide) (fun c_92 => ?_) (fun c_92 => ?_)
            · refine pw_iconst (v := 0) dX6_grave_105 (by decide) ?_
              refine pw_iadd dX6_grave_106 ?_
              refine pw_istore_n (ls' := [(3, _), (0, _), (1, _), (2, _), (4, _)]) dX6_grave_107 rfl (by decide) rfl ?_
              refine pw_ls [1, 2, 3, 0, 4] (ls' := [(0, _), (1, _), (2, _), (3, _), (4, _)]) rfl ?_
              refine pw_iinc1 (j := 4) (ls' := [(4, _), (0, _), (1, _), (2, _), (3, _)]) dX6_grave_108 rfl (by decide) rfl ?_
              refine pw_ls [1, 2, 3, 4, 0] (ls' := [(0, _), (1, _), (2, _), (3, _), (4, _)]) rfl ?_
              refine pw_goto 40 dX6_grave_111 (by decide) ?_
              rw [ct_f (p := spAh A k) (by simp only [spAh, decide_eq_false c_76, decide_eq_false c_92]; simp)]; exact ih2 (j + 1) (by omega) (by omega)
            · refine pw_iload dX6_grave_95 4 rfl ?_
              refine pw_iload_n dX6_grave_97 2 rfl rfl ?_
              refine pw_icmp_ge_N 105 dX6_grave_98 (by decide) (by omega) (by omega) (fun c_98 => ?_) (fun c_98 => ?_)
              · refine pw_iconst (v := 0) dX6_grave_105 (by decide) ?_
                refine pw_iadd dX6_grave_106 ?_
                refine pw_istore_n (ls' := [(3, _), (0, _), (1, _), (2, _), (4, _)]) dX6_grave_107 rfl (by decide) rfl ?_
                refine pw_ls [1, 2, 3, 0, 4] (ls' := [(0, _), (1, _), (2, _), (3, _), (4, _)]) rfl ?_
                refine pw_iinc1 (j := 4) (ls' := [(4, _), (0, _), (1, _), (2, _), (3, _)]) dX6_grave_108 rfl (by decide) rfl ?_
                refine pw_ls [1, 2, 3, 4, 0] (ls' := [(0, _), (1, _), (2, _), (3, _), (4, _)]) rfl ?_
                refine pw_goto 40 dX6_grave_111 (by decide) ?_
                rw [ct_f (p := spAh A k) (by simp only [spAh, decide_eq_false c_76, decide_eq_false (show ¬ j < k by omega)]; simp)]; exact ih2 (j + 1) (by omega) (by omega)
              · refine pw_iconst (v := 1) dX6_grave_101 (by decide) ?_
                refine pw_goto 106 dX6_grave_102 (by decide) ?_
                refine pw_iadd dX6_grave_106 ?_
                refine pw_istore_n (ls' := [(3, _), (0, _), (1, _), (2, _), (4, _)]) dX6_grave_107 rfl (by decide) rfl ?_
                refine pw_ls [1, 2, 3, 0, 4] (ls' := [(0, _), (1, _), (2, _), (3, _), (4, _)]) rfl ?_
                refine pw_iinc1 (j := 4) (ls' := [(4, _), (0, _), (1, _), (2, _), (3, _)]) dX6_grave_108 rfl (by decide) rfl ?_
                refine pw_ls [1, 2, 3, 4, 0] (ls' := [(0, _), (1, _), (2, _), (3, _), (4, _)]) rfl ?_
                refine pw_goto 40 dX6_grave_111 (by decide) ?_
                rw [ct_t (p := spAh A k) (by simp only [spAh, decide_eq_true c_92, decide_eq_true c_98, decide_eq_true c_60]; simp)]; exact ih2 (j + 1) (by omega) (by omega)
    refine pw_iload_n dX6_grave_12 2 rfl rfl ?_
    refine pw_aload_n dX6_grave_13 0 rfl rfl ?_
    refine pw_getr 12 zc_X6 (ts_this hM) (by decide) q1998 (Or.inr ⟨_, rfl⟩) (tr_told hM) dX6_grave_14 ?_
    refine pw_iconst (v := 1) dX6_grave_17 (by decide) ?_
    refine pw_iald 1 rfl (ts_told hM) (by decide) (by decide) dX6_grave_18 ?_
    rw [hT1.told (k := 1) (by decide)]
    refine pw_icmp_ge_N 127 dX6_grave_19 (by decide) (by omega) (by omega) (fun c_19 => ?_) (fun c_19 => ?_)
    · refine pw_iconst (v := (-1)) dX6_grave_127 (by decide) ?_
      refine pw_iret rfl dX6_grave_128 ?_
      exact tQ_eq (by rw [hR, spFst_end c_19]) (t_qok hT1 hth1 hf1 _)
    · refine pw_aload_n dX6_grave_22 0 rfl rfl ?_
      refine pw_getr 37 zc_X6 (ts_this hM) (by decide) q2023 (Or.inr ⟨_, rfl⟩) (tr_fellIn hM) dX6_grave_23 ?_
      refine pw_iload_n dX6_grave_26 2 rfl rfl ?_
      refine pw_iald k rfl (ts_fellIn hM) (by omega) (by decide) dX6_grave_27 ?_
      rw [e1 k (by omega)]
      refine pw_iconst (v := (-1)) dX6_grave_28 (by decide) ?_
      refine pw_icmp_ne 35 dX6_grave_29 (by decide) (fun c_29 => ?_) (fun c_29 => ?_)
      · refine pw_iconst (v := 0) dX6_grave_35 (by decide) ?_
        refine pw_istore_n (ls' := [(3, _), (0, _), (1, _), (2, _)]) dX6_grave_36 rfl (by decide) rfl ?_
        refine pw_ls [1, 2, 3, 0] (ls' := [(0, _), (1, _), (2, _), (3, _)]) rfl ?_
        refine pw_iconst (v := 0) dX6_grave_37 (by decide) ?_
        refine pw_istore (ls' := [(4, _), (0, _), (1, _), (2, _), (3, _)]) dX6_grave_38 (by decide) rfl ?_
        refine pw_ls [1, 2, 3, 4, 0] (ls' := [(0, _), (1, _), (2, _), (3, _), (4, _)]) rfl ?_
        exact hi c_19 c_29 0 (Nat.zero_le _)
      · refine pw_goto 121 dX6_grave_32 (by decide) ?_
        refine pw_iinc1 (j := 2) (ls' := [(2, _), (0, _), (1, _)]) dX6_grave_121 rfl (by decide) rfl ?_
        refine pw_ls [1, 2, 0] (ls' := [(0, _), (1, _), (2, _)]) rfl ?_
        refine pw_goto 12 dX6_grave_124 (by decide) ?_
        exact ih (k + 1) (by omega) (by omega) (hR.trans (spFst_go c_19 (by simp [spGr, c_29])))
  refine pw_aload_n dX6_grave_0 0 rfl rfl ?_
  refine pw_iconst (v := 0) dX6_grave_1 (by decide) ?_
  refine pw_puti 0 zc_X6 (ts_this hM) (by decide) (by decide) q1986 rfl (Or.inl rfl) rfl rfl dX6_grave_2 ?_
  obtain ⟨hT0, hth, hf0⟩ := t_start hT hW; generalize zpfi n aT 0 0 = n0 at hT0 hth hf0 ⊢
  refine pw_aload_n dX6_grave_5 0 rfl rfl ?_
  refine pw_callV0 zmM_X6_goesNow rfl (lw_V q2400 q2402 qs94 q150 q2403) rfl (ts_this hM) zc_X6 (t_goesNow hM hT0 hW) (by decide) (Nat.le_refl _) (Nat.le_refl _) rfl (Nat.le_of_ble_eq_true rfl) (Nat.le_of_ble_eq_true rfl) dX6_grave_6 (by intros; rintro ⟨h, _⟩; cases h) (fun v1 g1 n1 h1 => ?_)
  obtain ⟨h1, rfl, hY, hfg⟩ := h1; cases h1; obtain ⟨hT1, hth1, hf1⟩ := t_after hT0 hW hth hf0 hfg
  refine pw_pop dX6_grave_9 rfl ?_
  refine pw_iconst (v := 0) dX6_grave_10 (by decide) ?_
  refine pw_istore_n (ls' := [(2, _), (0, _), (1, _)]) dX6_grave_11 rfl (by decide) rfl ?_
  refine pw_ls [1, 2, 0] (ls' := [(0, _), (1, _), (2, _)]) rfl ?_
  exact hlp n1 hT1 hth1 hf1 hY.1.2 _ 0 (Nat.zero_le _) rfl
def spCn (E : Int32) (A : zYa) (x : Int32) : Nat → Int32
  | 0 => 0
  | k + 1 => spCn E A x k ||| (if ib E k = true ∧ x ≤ A 3 k ∧ A 4 k = 0 then nI (2 ^ k) else 0)
def sp_canon (S : zS) (x : Int32) : Int32 × Value × zS := spNeed S (inB x 53) 1 1 (.int 0) (0, .int (spCn (yEnd S) (yNow S 52).2 x (sN S 0 1)), S)
theorem t_canon {g : zg_G} {n : zg_N} {S : zS} (hM : TSh g) (hT : TW n S) (hW : WF S) (x : Int32) : PW zm_X6_canon 9 (tQ g n (sp_canon S x)) 0 0 0 [(0, .ref aT), (1, .int x)] [] g n := by
  have hs := hW.slips
  have hlp : ∀ n1, TW n1 S → zfi n1 aT tf_thrown = 0 → zFr tXF tXA n n1 → TYa n1 (yNow S 52).2 → ∀ k, k ≤ sN S 0 1 → PW zm_X6_canon 9 (tQ g n (0, .int (spCn (yEnd S) (yNow S 52).2 x (sN S 0 1)), S)) 0 0 41 [(0, .ref aT), (1, .int x), (2, .int (yEnd S)), (3, .int (spCn (yEnd S) (yNow S 52).2 x k)), (4, .int (nI k))] [] g n1 := by
    intro n1 hT1 hth1 hf1 hA
    refine zl_up _ (fun k hk ih => ?_)
    have e3 : ∀ j, j < 17 → zai n1 at_weeksOf j = (yNow S 52).2 3 j := fun j h => hA.1 3 (by decide) j h
    have e4 : ∀ j, j < 17 → zai n1 at_hurtsOf j = (yNow S 52).2 4 j := fun j h => hA.1 4 (by decide) j h
    generalize (yNow S 52).2 = A at hA e3 e4 ih ⊢
    refine pw_iload dX6_canon_41 4 rfl ?_
    refine pw_aload_n dX6_canon_43 0 rfl rfl ?_
    refine pw_getr 12 zc_X6 (ts_this hM) (by decide) q1998 (Or.inr ⟨_, rfl⟩) (tr_told hM) dX6_canon_44 ?_
    refine pw_iconst (v := 1) dX6_canon_47 (by decide) ?_
    refine pw_iald 1 rfl (ts_told hM) (by decide) (by decide) dX6_canon_48 ?_
    rw [hT1.told (k := 1) (by decide)]
    refine pw_icmp_ge_N 100 dX6_canon_49 (by decide) (by omega) (by omega) (fun c_49 => ?_) (fun c_49 => ?_)
    · refine pw_iload_n dX6_canon_100 3 rfl rfl ?_
      refine pw_iret rfl dX6_canon_101 ?_
      exact tQ_eq (by rw [show k = sN S 0 1 by omega]) (t_qok hT1 hth1 hf1 _)
    · refine pw_iload_n dX6_canon_52 3 rfl rfl ?_
      refine pw_iload_n dX6_canon_53 2 rfl rfl ?_
      refine pw_iload dX6_canon_54 4 rfl ?_
      refine pw_ishr dX6_canon_56 ?_
      refine pw_iconst (v := 1) dX6_canon_57 (by decide) ?_
      refine pw_iand dX6_canon_58 ?_
      refine pw_iconst (v := 1) dX6_canon_59 (by decide) ?_
      refine pw_icmp_ne 91 dX6_canon_60 (by decide) (fun c_60 => ?_) (fun c_60 => ?_)
      · refine pw_iconst (v := 0) dX6_canon_91 (by decide) ?_
        refine pw_ior dX6_canon_92 ?_
        refine pw_istore_n (ls' := [(3, _), (0, _), (1, _), (2, _), (4, _)]) dX6_canon_93 rfl (by decide) rfl ?_
        refine pw_ls [1, 2, 3, 0, 4] (ls' := [(0, _), (1, _), (2, _), (3, _), (4, _)]) rfl ?_
        refine pw_iinc1 (j := 4) (ls' := [(4, _), (0, _), (1, _), (2, _), (3, _)]) dX6_canon_94 rfl (by decide) rfl ?_
        refine pw_ls [1, 2, 3, 4, 0] (ls' := [(0, _), (1, _), (2, _), (3, _), (4, _)]) rfl ?_
        refine pw_goto 41 dX6_canon_97 (by decide) ?_
        rw [show spCn (yEnd S) A x k ||| 0 = spCn (yEnd S) A x (k + 1) from by rw [spCn, if_neg (fun z => c_60 ((ib_eq1 (by omega)).mpr z.1))]]; exact ih (k + 1) (by omega) (by omega)
      · refine pw_aload_n dX6_canon_63 0 rfl rfl ?_
        refine pw_getr 39 zc_X6 (ts_this hM) (by decide) q2025 (Or.inr ⟨_, rfl⟩) (tr_weeksOf hM) dX6_canon_64 ?_
        refine pw_iload dX6_canon_67 4 rfl ?_
        refine pw_iald k rfl (ts_weeksOf hM) (by omega) (by decide) dX6_canon_69 ?_
        rw [e3 k (by omega)]
        refine pw_iload_n dX6_canon_70 1 rfl rfl ?_
        refine pw_icmp_lt 91 dX6_canon_71 (by decide) (fun c_71 => ?_) (fun c_71 => ?_)
        · refine pw_iconst (v := 0) dX6_canon_91 (by decide) ?_
          refine pw_ior dX6_canon_92 ?_
          refine pw_istore_n (ls' := [(3, _), (0, _), (1, _), (2, _), (4, _)]) dX6_canon_93 rfl (by decide) rfl ?_
          refine pw_ls [1, 2, 3, 0, 4] (ls' := [(0, _), (1, _), (2, _), (3, _), (4, _)]) rfl ?_
          refine pw_iinc1 (j := 4) (ls' := [(4, _), (0, _), (1, _), (2, _), (3, _)]) dX6_canon_94 rfl (by decide) rfl ?_
          refine pw_ls [1, 2, 3, 4, 0] (ls' := [(0, _), (1, _), (2, _), (3, _), (4, _)]) rfl ?_
          refine pw_goto 41 dX6_canon_97 (by decide) ?_
          rw [show spCn (yEnd S) A x k ||| 0 = spCn (yEnd S) A x (k + 1) from by rw [spCn, if_neg (fun z => absurd c_71 (Int32.not_lt.mpr z.2.1))]]; exact ih (k + 1) (by omega) (by omega)
        · refine pw_aload_n dX6_canon_74 0 rfl rfl ?_
          refine pw_getr 40 zc_X6 (ts_this hM) (by decide) q2026 (Or.inr ⟨_, rfl⟩) (tr_hurtsOf hM) dX6_canon_75 ?_
          refine pw_iload dX6_canon_78 4 rfl ?_
          refine pw_iald k rfl (ts_hurtsOf hM) (by omega) (by decide) dX6_canon_80 ?_
          rw [e4 k (by omega)]
          refine pw_if_ne 91 dX6_canon_81 (by decide) (fun c_81 => ?_) (fun c_81 => ?_)
          · refine pw_iconst (v := 0) dX6_canon_91 (by decide) ?_
            refine pw_ior dX6_canon_92 ?_
            refine pw_istore_n (ls' := [(3, _), (0, _), (1, _), (2, _), (4, _)]) dX6_canon_93 rfl (by decide) rfl ?_
            refine pw_ls [1, 2, 3, 0, 4] (ls' := [(0, _), (1, _), (2, _), (3, _), (4, _)]) rfl ?_
            refine pw_iinc1 (j := 4) (ls' := [(4, _), (0, _), (1, _), (2, _), (3, _)]) dX6_canon_94 rfl (by decide) rfl ?_
            refine pw_ls [1, 2, 3, 4, 0] (ls' := [(0, _), (1, _), (2, _), (3, _), (4, _)]) rfl ?_
            refine pw_goto 41 dX6_canon_97 (by decide) ?_
            rw [show spCn (yEnd S) A x k ||| 0 = spCn (yEnd S) A x (k + 1) from by rw [spCn, if_neg (fun z => c_81 z.2.2)]]; exact ih (k + 1) (by omega) (by omega)
          · refine pw_iconst (v := 1) dX6_canon_84 (by decide) ?_
            refine pw_iload dX6_canon_85 4 rfl ?_
            refine pw_ishl dX6_canon_87 ?_
            rw [ishl1 (by omega)]
            refine pw_goto 92 dX6_canon_88 (by decide) ?_
            refine pw_ior dX6_canon_92 ?_
            refine pw_istore_n (ls' := [(3, _), (0, _), (1, _), (2, _), (4, _)]) dX6_canon_93 rfl (by decide) rfl ?_
            refine pw_ls [1, 2, 3, 0, 4] (ls' := [(0, _), (1, _), (2, _), (3, _), (4, _)]) rfl ?_
            refine pw_iinc1 (j := 4) (ls' := [(4, _), (0, _), (1, _), (2, _), (3, _)]) dX6_canon_94 rfl (by decide) rfl ?_
            refine pw_ls [1, 2, 3, 4, 0] (ls' := [(0, _), (1, _), (2, _), (3, _), (4, _)]) rfl ?_
            refine pw_goto 41 dX6_canon_97 (by decide) ?_
            rw [show spCn (yEnd S) A x k ||| nI (2 ^ k) = spCn (yEnd S) A x (k + 1) from by rw [spCn, if_pos ⟨(ib_eq1 (by omega)).mp c_60, Int32.not_lt.mp c_71, c_81⟩]]; exact ih (k + 1) (by omega) (by omega)
  refine pw_aload_n dX6_canon_0 0 rfl rfl ?_
  refine pw_iconst (v := 0) dX6_canon_1 (by decide) ?_
  refine pw_puti 0 zc_X6 (ts_this hM) (by decide) (by decide) q1986 rfl (Or.inl rfl) rfl rfl dX6_canon_2 ?_
  obtain ⟨hT0, hth, hf0⟩ := t_start hT hW; generalize zpfi n aT 0 0 = n0 at hT0 hth hf0 ⊢
  refine pw_aload_n dX6_canon_5 0 rfl rfl ?_
  refine pw_iload_n dX6_canon_6 1 rfl rfl ?_
  refine pw_iconst (v := 0) dX6_canon_7 (by decide) ?_
  refine pw_bipush (v := 52) dX6_canon_8 (by decide) ?_
  refine pw_callS3 zmM_X6_in rfl (lw_S q2185 q2186 q150 q2187) (t_in _ _ _ _ _) (by decide) (Nat.le_refl _) (Nat.le_refl _) rfl (Nat.le_of_ble_eq_true rfl) (Nat.le_of_ble_eq_true rfl) dX6_canon_10 zE.nx (zE_kk ?_)
  refine pw_if_ne_B 20 dX6_canon_13 (by decide) (fun c_13 => ?_) (fun c_13 => ?_)
  · refine pw_iconst (v := 0) dX6_canon_20 (by decide) ?_
    refine pw_iconst (v := 1) dX6_canon_21 (by decide) ?_
    refine pw_iconst (v := 1) dX6_canon_22 (by decide) ?_
    refine pw_callV3 zmM_X6_bad rfl (lw_V q2188 q2190 qs62 q150 q2191) rfl (ts_this hM) zc_X6 (t_bad0 hM 1 (by decide) 1 (by decide) hth) (by decide) (Nat.le_refl _) (Nat.le_refl _) rfl (Nat.le_of_ble_eq_true rfl) (Nat.le_of_ble_eq_true rfl) dX6_canon_23 zE.nx (zE_kk ?_)
    refine pw_if_eq 31 dX6_canon_26 (by decide) (fun c_26 => ?_) (fun c_26 => ?_)
    · have c_9 := (inB_le (m := 52) (by decide)).mpr c_13
      rw [show sp_canon S x = _ from spNeed_t c_9]
      refine pw_aload_n dX6_canon_31 0 rfl rfl ?_
      refine pw_callV0 zmM_X6_goesNow rfl (lw_V q2400 q2402 qs94 q150 q2403) rfl (ts_this hM) zc_X6 (t_goesNow hM hT0 hW) (by decide) (Nat.le_refl _) (Nat.le_refl _) rfl (Nat.le_of_ble_eq_true rfl) (Nat.le_of_ble_eq_true rfl) dX6_canon_32 (by intros; rintro ⟨h, _⟩; cases h) (fun v1 g1 n1 h1 => ?_)
      obtain ⟨h1, rfl, hY, hfg⟩ := h1; cases h1; obtain ⟨hT1, hth1, hf1⟩ := t_after hT0 hW hth hf0 hfg
      refine pw_istore_n (ls' := [(2, _), (0, _), (1, _)]) dX6_canon_35 rfl (by decide) rfl ?_
      refine pw_ls [1, 2, 0] (ls' := [(0, _), (1, _), (2, _)]) rfl ?_
      refine pw_iconst (v := 0) dX6_canon_36 (by decide) ?_
      refine pw_istore_n (ls' := [(3, _), (0, _), (1, _), (2, _)]) dX6_canon_37 rfl (by decide) rfl ?_
      refine pw_ls [1, 2, 3, 0] (ls' := [(0, _), (1, _), (2, _), (3, _)]) rfl ?_
      refine pw_iconst (v := 0) dX6_canon_38 (by decide) ?_
      refine pw_istore (ls' := [(4, _), (0, _), (1, _), (2, _), (3, _)]) dX6_canon_39 (by decide) rfl ?_
      refine pw_ls [1, 2, 3, 4, 0] (ls' := [(0, _), (1, _), (2, _), (3, _), (4, _)]) rfl ?_
      exact hlp n1 hT1 hth1 hf1 hY.1.2 0 (Nat.zero_le _)
    · exact absurd rfl c_26
  · refine pw_iconst (v := 1) dX6_canon_16 (by decide) ?_
    refine pw_goto 21 dX6_canon_17 (by decide) ?_
    refine pw_iconst (v := 1) dX6_canon_21 (by decide) ?_
    refine pw_iconst (v := 1) dX6_canon_22 (by decide) ?_
    refine pw_callV3 zmM_X6_bad rfl (lw_V q2188 q2190 qs62 q150 q2191) rfl (ts_this hM) zc_X6 (t_bad1 hM 1 (by decide) 1 (by decide) hth) (by decide) (Nat.le_refl _) (Nat.le_refl _) rfl (Nat.le_of_ble_eq_true rfl) (Nat.le_of_ble_eq_true rfl) dX6_canon_23 zE.nx (zE_kk ?_)
    refine pw_if_eq 31 dX6_canon_26 (by decide) (fun c_26 => ?_) (fun c_26 => ?_)
    · exact absurd c_26 (by decide)
    · refine pw_iconst (v := 0) dX6_canon_29 (by decide) ?_
      refine pw_iret rfl dX6_canon_30 ?_
      exact tQ_eq (spNeed_f (fun h => c_13 ((inB_le (m := 52) (by decide)).mp h))) (t_qbad hT0 hW hf0 1 1 (by decide) _)

/-! ===== the reference: orders drawn by lot; salts ===== -/
theorem i32_neg {x : Int32} : x < 0 ↔ ib x 31 = true := by
  have h := BitVec.msb_eq_toInt (x := x.toBitVec)
  rw [BitVec.msb_eq_getLsbD_last] at h
  rw [Int32.lt_iff_toInt_lt, Int32.toInt_zero, show ib x 31 = _ from h, decide_eq_true_eq]
  rfl
theorem ib_32767 : ∀ i, i < 32 → ib 32767 i = decide (i < 15) := by decide +kernel
def dwA (x : Int32) : Nat := ((x >>> ((16 : Int32) &&& 31)) &&& 32767).toNatClampNeg
theorem dwA_is (x : Int32) : (x >>> ((16 : Int32) &&& 31)) &&& 32767 = nI (dwA x) ∧ dwA x < 32768 := by
  have hb : ∀ i, i < 32 → 15 ≤ i → ib ((x >>> ((16 : Int32) &&& 31)) &&& 32767) i = false := fun i h1 h2 => by
    rw [ib_and, ib_32767 i h1]; simp; intro _; omega
  obtain ⟨j, hj, he⟩ := nI_of (x := (x >>> ((16 : Int32) &&& 31)) &&& 32767) (fun z => by rw [i32_neg, hb 31 (by decide) (by decide)] at z; exact absurd z (by decide))
  have hd : dwA x = j := by unfold dwA; rw [he, nI_clamp hj]
  rw [hd]
  refine ⟨he, ?_⟩
  rw [show (32768 : Nat) = 2 ^ 15 from rfl]
  apply Nat.lt_pow_two_of_testBit
  intro i hi
  by_cases h : i < 32
  · have := hb i h hi
    rw [he, ib_nI h] at this; exact this
  · exact Nat.testBit_lt_two_pow (Nat.lt_of_lt_of_le hj (Nat.pow_le_pow_right (by decide) (by omega)))
def dwX (x : Int32) : Int32 := x * 1103515245 + 12345
/-- lots are drawn, from the last place down -/
def dwG : Nat → Int32 → (Nat → Nat) → Nat → Nat
  | 0, _, f => f
  | k + 1, x, f => dwG k (dwX x) (swp f (k + 1) (dwA (dwX x) % (k + 2)))
theorem dwG_perm {m : Nat} : ∀ (k : Nat) (x : Int32) (f : Nat → Nat), (k = 0 ∨ k < m) → isPerm f m → isPerm (dwG k x f) m
  | 0, _, _, _, h => h
  | k + 1, x, f, hk, h => dwG_perm k _ _ (by omega) (isPerm_swp h (by omega) (by have := Nat.mod_lt (dwA (dwX x)) (show 0 < k + 2 by omega); omega))
abbrev dwS (S : zS) (seed : Int32) : Nat → Nat := dwG (sN S 0 1 - 1) seed (fun k => k)
theorem dwS_perm (S : zS) (seed : Int32) : isPerm (dwS S seed) (sN S 0 1) := dwG_perm _ _ _ (by omega) ⟨fun k hk => hk, fun _ _ _ _ h => h⟩
theorem t_rowBy {g : zg_G} {n : zg_N} {S : zS} (hM : TSh g) (hT : TW n S) (hW : WF S) (seed : Int32) : PW zm_X6_rowBy 1 (fun o g1 n1 => o = .inl none ∧ g1 = g ∧ TRow n1 S (dwS S seed) (sN S 0 1) ∧ zFr gF gA n n1) 0 0 0 [(0, .ref aT), (1, .int seed)] [] g n := by
  have hs := hW.slips
  have hdn : ∀ (k : Nat) (x : Int32) (f : Nat → Nat) (n1 : zg_N), (k = 0 ∨ k < sN S 0 1) → zFr gF gA n n1 → zfi n1 aT tf_rowMany = nI (sN S 0 1) → (∀ j, j < sN S 0 1 → zai n1 at_row j = nI (f j)) → isPerm f (sN S 0 1) → dwG k x f = dwS S seed → ∀ v : Int32, (0 < k → v = nI k) → (k = 0 → v ≤ 0) →
      PW zm_X6_rowBy 1 (fun o g1 n1 => o = .inl none ∧ g1 = g ∧ TRow n1 S (dwS S seed) (sN S 0 1) ∧ zFr gF gA n n1) 0 0 42 [(0, .ref aT), (1, .int seed), (2, .int x), (3, .int v)] [] g n1 := by
    intro k
    induction k with
    | zero =>
      intro x f n1 hk hf hm hr hp hR v hv hv0
      refine pw_iload_n dX6_rowBy_42 3 rfl rfl ?_
      refine pw_if_le 106 dX6_rowBy_43 (by decide) (fun c_43 => ?_) (fun c_43 => ?_)
      · refine pw_vret rfl dX6_rowBy_106 ?_
        exact ⟨rfl, rfl, ⟨hm, by omega, fun i hi => ⟨by rw [← hR]; exact hr i hi, Or.inl ((dwS_perm S seed).1 i hi)⟩⟩, hf⟩
      · exact absurd (hv0 rfl) c_43
    | succ k ih =>
      intro x f n1 hk hf hm hr hp hR v hv hv0
      rw [hv (by omega)]
      have hj : dwA (dwX x) % (k + 2) < k + 2 := Nat.mod_lt _ (by omega)
      have hA := dwA_is (dwX x)
      have hfk := hr (k + 1) (by omega)
      have hfj := hr (dwA (dwX x) % (k + 2)) (by omega)
      refine pw_iload_n dX6_rowBy_42 3 rfl rfl ?_
      refine pw_if_le_N 106 dX6_rowBy_43 (by decide) (by omega) (fun c_43 => ?_) (fun c_43 => ?_)
      · exact absurd c_43 (by omega)
      · refine pw_iload_n dX6_rowBy_46 2 rfl rfl ?_
        refine pw_ldcw q2544 dX6_rowBy_47 ?_
        refine pw_imul dX6_rowBy_50 ?_
        refine pw_sipush (v := 12345) dX6_rowBy_51 (by decide) ?_
        refine pw_iadd dX6_rowBy_54 ?_
        refine pw_istore_n (ls' := [(2, _), (0, _), (1, _), (3, _)]) dX6_rowBy_55 rfl (by decide) rfl ?_
        refine pw_ls [1, 2, 0, 3] (ls' := [(0, _), (1, _), (2, _), (3, _)]) rfl ?_
        refine pw_iload_n dX6_rowBy_56 2 rfl rfl ?_
        refine pw_bipush (v := 16) dX6_rowBy_57 (by decide) ?_
        refine pw_ishr dX6_rowBy_59 ?_
        refine pw_sipush (v := 32767) dX6_rowBy_60 (by decide) ?_
        refine pw_iand dX6_rowBy_63 ?_
        rw [show ((x * 1103515245 + 12345) >>> ((16 : Int32) &&& 31)) &&& 32767 = nI (dwA (dwX x)) from hA.1]
        refine pw_iload_n dX6_rowBy_64 3 rfl rfl ?_
        refine pw_iconst (v := 1) dX6_rowBy_65 (by decide) ?_
        refine pw_iadd dX6_rowBy_66 ?_
        rw [nI_1]
        refine pw_irem dX6_rowBy_67 (nI_ne0 (by omega) (by omega)) ?_
        rw [pk_rem (by omega) (by omega) (by omega)]
        refine pw_istore (ls' := [(4, _), (0, _), (1, _), (2, _), (3, _)]) dX6_rowBy_68 (by decide) rfl ?_
        refine pw_ls [1, 2, 3, 4, 0] (ls' := [(0, _), (1, _), (2, _), (3, _), (4, _)]) rfl ?_
        refine pw_aload_n dX6_rowBy_70 0 rfl rfl ?_
        refine pw_getr 34 zc_X6 (ts_this hM) (by decide) q2020 (Or.inr ⟨_, rfl⟩) (tr_row hM) dX6_rowBy_71 ?_
        refine pw_iload_n dX6_rowBy_74 3 rfl rfl ?_
        refine pw_iald (k + 1) rfl (ts_row hM) (by omega) (by decide) dX6_rowBy_75 ?_
        rw [hfk]
        refine pw_istore (ls' := [(5, _), (0, _), (1, _), (2, _), (3, _), (4, _)]) dX6_rowBy_76 (by decide) rfl ?_
        refine pw_ls [1, 2, 3, 4, 5, 0] (ls' := [(0, _), (1, _), (2, _), (3, _), (4, _), (5, _)]) rfl ?_
        refine pw_aload_n dX6_rowBy_78 0 rfl rfl ?_
        refine pw_getr 34 zc_X6 (ts_this hM) (by decide) q2020 (Or.inr ⟨_, rfl⟩) (tr_row hM) dX6_rowBy_79 ?_
        refine pw_iload_n dX6_rowBy_82 3 rfl rfl ?_
        refine pw_aload_n dX6_rowBy_83 0 rfl rfl ?_
        refine pw_getr 34 zc_X6 (ts_this hM) (by decide) q2020 (Or.inr ⟨_, rfl⟩) (tr_row hM) dX6_rowBy_84 ?_
        refine pw_iload dX6_rowBy_87 4 rfl ?_
        refine pw_iald (dwA (dwX x) % (k + 2)) rfl (ts_row hM) (by omega) (by decide) dX6_rowBy_89 ?_
        rw [hfj]
        refine pw_iast (k + 1) rfl (ts_row hM) (by decide) (by omega) (by decide) dX6_rowBy_90 ?_
        refine pw_aload_n dX6_rowBy_91 0 rfl rfl ?_
        refine pw_getr 34 zc_X6 (ts_this hM) (by decide) q2020 (Or.inr ⟨_, rfl⟩) (tr_row hM) dX6_rowBy_92 ?_
        refine pw_iload dX6_rowBy_95 4 rfl ?_
        refine pw_iload dX6_rowBy_97 5 rfl ?_
        refine pw_iast (dwA (dwX x) % (k + 2)) rfl (ts_row hM) (by decide) (by omega) (by decide) dX6_rowBy_99 ?_
        refine pw_iincm (j := 3) (ls' := [(3, _), (0, _), (1, _), (2, _), (4, _), (5, _)]) dX6_rowBy_100 rfl (by decide) rfl ?_
        refine pw_ls [1, 2, 3, 0, 4, 5] (ls' := [(0, _), (1, _), (2, _), (3, _), (4, _), (5, _)]) rfl ?_
        refine pw_goto 42 dX6_rowBy_103 (by decide) ?_
        refine pw_ls [0, 1, 2, 3] (ls' := [(0, _), (1, _), (2, _), (3, _)]) rfl ?_
        refine ih (dwX x) (swp f (k + 1) (dwA (dwX x) % (k + 2))) _ (by omega) ((hf.pai (Or.inr rfl)).pai (Or.inr rfl)) hm (fun i hi => ?_) (isPerm_swp hp (by omega) (by omega)) hR _ (fun _ => rfl) (fun h => by rw [h]; decide)
        rw [zai_p, zai_p]
        unfold swp
        by_cases h1 : i = dwA (dwX x) % (k + 2)
        · rw [if_pos ⟨rfl, h1⟩]
          by_cases h2 : i = k + 1
          · rw [if_pos h2, ← h1, h2]
          · rw [if_neg h2, if_pos h1]
        · rw [if_neg (fun z => h1 z.2)]
          by_cases h2 : i = k + 1
          · rw [if_pos ⟨rfl, h2⟩, if_pos h2]
          · rw [if_neg (fun z => h2 z.2), if_neg h2, if_neg h1]; exact hr i hi
  have hup : ∀ k, k ≤ sN S 0 1 → ∀ n1, zFr gF gA n n1 → zfi n1 aT tf_rowMany = nI (sN S 0 1) → (∀ j, j < k → zai n1 at_row j = nI j) → PW zm_X6_rowBy 1 (fun o g1 n1 => o = .inl none ∧ g1 = g ∧ TRow n1 S (dwS S seed) (sN S 0 1) ∧ zFr gF gA n n1) 0 0 14 [(0, .ref aT), (1, .int seed), (2, .int seed), (3, .int (nI k))] [] g n1 := by
    refine zl_up _ (fun k hk ih n1 hf hm hr => ?_)
    refine pw_iload_n dX6_rowBy_14 3 rfl rfl ?_
    refine pw_aload_n dX6_rowBy_15 0 rfl rfl ?_
    refine pw_geti 43 zc_X6 (ts_this hM) (by decide) q2029 (Or.inl rfl) dX6_rowBy_16 ?_
    rw [hm]
    refine pw_icmp_ge_N 35 dX6_rowBy_19 (by decide) (by omega) (by omega) (fun c_19 => ?_) (fun c_19 => ?_)
    · refine pw_aload_n dX6_rowBy_35 0 rfl rfl ?_
      refine pw_geti 43 zc_X6 (ts_this hM) (by decide) q2029 (Or.inl rfl) dX6_rowBy_36 ?_
      rw [hm]
      refine pw_iconst (v := 1) dX6_rowBy_39 (by decide) ?_
      refine pw_isub dX6_rowBy_40 ?_
      refine pw_istore_n (ls' := [(3, _), (0, _), (1, _), (2, _)]) dX6_rowBy_41 rfl (by decide) rfl ?_
      refine pw_ls [1, 2, 3, 0] (ls' := [(0, _), (1, _), (2, _), (3, _)]) rfl ?_
      refine hdn (sN S 0 1 - 1) seed (fun k => k) n1 (by omega) hf hm (fun j hj => hr j (by omega)) ⟨fun k hk => hk, fun _ _ _ _ h => h⟩ rfl _ (fun h => ?_) (fun h => ?_)
      · rw [show sN S 0 1 = (sN S 0 1 - 1) + 1 by omega, nI_pred]; rfl
      · rcases (by omega : sN S 0 1 = 0 ∨ sN S 0 1 = 1) with e | e <;> (rw [e]; decide)
    · refine pw_aload_n dX6_rowBy_22 0 rfl rfl ?_
      refine pw_getr 34 zc_X6 (ts_this hM) (by decide) q2020 (Or.inr ⟨_, rfl⟩) (tr_row hM) dX6_rowBy_23 ?_
      refine pw_iload_n dX6_rowBy_26 3 rfl rfl ?_
      refine pw_iload_n dX6_rowBy_27 3 rfl rfl ?_
      refine pw_iast k rfl (ts_row hM) (by decide) (by omega) (by decide) dX6_rowBy_28 ?_
      refine pw_iinc1 (j := 3) (ls' := [(3, _), (0, _), (1, _), (2, _)]) dX6_rowBy_29 rfl (by decide) rfl ?_
      refine pw_ls [1, 2, 3, 0] (ls' := [(0, _), (1, _), (2, _), (3, _)]) rfl ?_
      refine pw_goto 14 dX6_rowBy_32 (by decide) ?_
      refine ih (k + 1) (by omega) (by omega) _ (hf.pai (Or.inr rfl)) hm (fun j hj => ?_)
      rw [zai_p]
      by_cases e : j = k
      · subst e; rw [if_pos ⟨rfl, rfl⟩]
      · rw [if_neg (fun z => e z.2)]; exact hr j (by omega)
  refine pw_iload_n dX6_rowBy_0 1 rfl rfl ?_
  refine pw_istore_n (ls' := [(2, _), (0, _), (1, _)]) dX6_rowBy_1 rfl (by decide) rfl ?_
  refine pw_ls [1, 2, 0] (ls' := [(0, _), (1, _), (2, _)]) rfl ?_
  refine pw_aload_n dX6_rowBy_2 0 rfl rfl ?_
  refine pw_aload_n dX6_rowBy_3 0 rfl rfl ?_
  refine pw_getr 12 zc_X6 (ts_this hM) (by decide) q1998 (Or.inr ⟨_, rfl⟩) (tr_told hM) dX6_rowBy_4 ?_
  refine pw_iconst (v := 1) dX6_rowBy_7 (by decide) ?_
  refine pw_iald 1 rfl (ts_told hM) (by decide) (by decide) dX6_rowBy_8 ?_
  rw [hT.told (k := 1) (by decide)]
  refine pw_puti 43 zc_X6 (ts_this hM) (by decide) (by decide) q2029 rfl (Or.inl rfl) rfl rfl dX6_rowBy_9 ?_
  refine pw_iconst (v := 0) dX6_rowBy_12 (by decide) ?_
  refine pw_istore_n (ls' := [(3, _), (0, _), (1, _), (2, _)]) dX6_rowBy_13 rfl (by decide) rfl ?_
  refine pw_ls [1, 2, 3, 0] (ls' := [(0, _), (1, _), (2, _), (3, _)]) rfl ?_
  exact hup 0 (Nat.zero_le _) _ (zFr.rf.pfi (Or.inr ⟨rfl, rfl⟩)) (by rw [zfi_p, if_pos ⟨rfl, rfl⟩]) (fun j hj => absurd hj (Nat.not_lt_zero _))
def sp_draw (S : zS) (seed i : Int32) : Int32 × Value × zS := (0, .int (if inB i (sN S 0 1) = true then nI (dwS S seed i.toNatClampNeg) else -1), S)
theorem t_draw {g : zg_G} {n : zg_N} {S : zS} (hM : TSh g) (hT : TW n S) (hW : WF S) (seed i : Int32) : PW zm_X6_draw 9 (tQ g n (sp_draw S seed i)) 0 0 0 [(0, .ref aT), (1, .int seed), (2, .int i)] [] g n := by
  have hs := hW.slips
  refine pw_aload_n dX6_draw_0 0 rfl rfl ?_
  refine pw_iconst (v := 0) dX6_draw_1 (by decide) ?_
  refine pw_puti 0 zc_X6 (ts_this hM) (by decide) (by decide) q1986 rfl (Or.inl rfl) rfl rfl dX6_draw_2 ?_
  obtain ⟨hT0, hth, hf0⟩ := t_start hT hW; generalize zpfi n aT 0 0 = n0 at hT0 hth hf0 ⊢
  refine pw_iload_n dX6_draw_5 2 rfl rfl ?_
  refine pw_iconst (v := 0) dX6_draw_6 (by decide) ?_
  refine pw_aload_n dX6_draw_7 0 rfl rfl ?_
  refine pw_getr 12 zc_X6 (ts_this hM) (by decide) q1998 (Or.inr ⟨_, rfl⟩) (tr_told hM) dX6_draw_8 ?_
  refine pw_iconst (v := 1) dX6_draw_11 (by decide) ?_
  refine pw_iald 1 rfl (ts_told hM) (by decide) (by decide) dX6_draw_12 ?_
  rw [hT0.told (k := 1) (by decide)]
  refine pw_iconst (v := 1) dX6_draw_13 (by decide) ?_
  refine pw_isub dX6_draw_14 ?_
  refine pw_callS3 zmM_X6_in rfl (lw_S q2185 q2186 q150 q2187) (t_in _ _ _ _ _) (by decide) (Nat.le_refl _) (Nat.le_refl _) rfl (Nat.le_of_ble_eq_true rfl) (Nat.le_of_ble_eq_true rfl) dX6_draw_15 zE.nx (zE_kk ?_)
  refine pw_if_ne_B 23 dX6_draw_18 (by decide) (fun c_18 => ?_) (fun c_18 => ?_)
  · have c_9 := (inB_m1 (by omega)).mpr c_18; obtain ⟨j, hj, rfl⟩ := inB_ex (by omega) c_9
    refine pw_aload_n dX6_draw_23 0 rfl rfl ?_
    refine pw_iload_n dX6_draw_24 1 rfl rfl ?_
    refine pw_callV1 zmM_X6_rowBy rfl (lw_V q2540 q2542 qs113 q150 q2543) rfl (ts_this hM) zc_X6 (t_rowBy hM hT0 hW seed) (by decide) (Nat.le_refl _) (Nat.le_refl _) rfl (Nat.le_of_ble_eq_true rfl) (Nat.le_of_ble_eq_true rfl) dX6_draw_25 (by intros; rintro ⟨h, _⟩; cases h) (fun v1 g1 n1 h1 => ?_)
    obtain ⟨h1, rfl, hr, hfg⟩ := h1
    cases h1
    obtain ⟨hT1, hth1, hf1⟩ := t_after hT0 hW hth hf0 hfg
    refine pw_aload_n dX6_draw_28 0 rfl rfl ?_
    refine pw_getr 34 zc_X6 (ts_this hM) (by decide) q2020 (Or.inr ⟨_, rfl⟩) (tr_row hM) dX6_draw_29 ?_
    refine pw_iload_n dX6_draw_32 2 rfl rfl ?_
    refine pw_iald j rfl (ts_row hM) (by omega) (by decide) dX6_draw_33 ?_
    rw [(hr.2.2 j hj).1]
    refine pw_iret rfl dX6_draw_34 ?_
    exact tQ_eq (by rw [sp_draw, if_pos c_9, nI_clamp (by omega)]) (t_qok hT1 hth1 hf1 _)
  · refine pw_iconst (v := (-1)) dX6_draw_21 (by decide) ?_
    refine pw_iret rfl dX6_draw_22 ?_
    exact tQ_eq (by rw [sp_draw, if_neg (fun h => c_18 ((inB_m1 (by omega)).mp h))]) (t_qok hT0 hth hf0 _)
abbrev dwE (S : zS) (law : Nat) (seed : Int32) (k : Nat) : Int32 := yEndF S law (dwS S (seed + nI k))
def dwT (S : zS) (law : Nat) (seed : Int32) : Nat → Int32
  | 0 => 0
  | k + 1 => dwT S law seed k + nI (spTru S (dwE S law seed k))
def sp_drawn (S : zS) (x seed y : Int32) : Int32 × Value × zS := spNeed S (inB x 5 && (decide (1 ≤ y) && decide (y ≤ 60))) 1 1 (.int 0) (0, .int (dwT S x.toNatClampNeg seed y.toNatClampNeg), S)
theorem in_60 {y : Int32} (h1 : 1 ≤ y) (h2 : y ≤ 60) : ∃ j, j ≤ 60 ∧ y = nI j := by
  rw [Int32.le_iff_toInt_le, show (1 : Int32).toInt = 1 from by decide] at h1
  rw [Int32.le_iff_toInt_le, show (60 : Int32).toInt = 60 from by decide] at h2
  obtain ⟨j, hj, he⟩ := nI_of (x := y) (fun z => by rw [Int32.lt_iff_toInt_lt, Int32.toInt_zero] at z; omega)
  subst he
  rw [nI_toInt hj] at h2
  exact ⟨j, by omega, rfl⟩
theorem t_drawn {g : zg_G} {n : zg_N} {S : zS} (hM : TSh g) (hT : TW n S) (hW : WF S) (x seed y : Int32) : PW zm_X6_drawn 9 (tQ g n (sp_drawn S x seed y)) 0 0 0 [(0, .ref aT), (1, .int x), (2, .int seed), (3, .int y)] [] g n := by
  have hlp : ∀ law, law ≤ 4 → ∀ m, m ≤ 60 → ∀ k, k ≤ m → ∀ n1, TW n1 S → zfi n1 aT tf_thrown = 0 → zFr tXF tXA n n1 → PW zm_X6_drawn 9 (tQ g n (0, .int (dwT S law seed m), S)) 0 0 46 [(0, .ref aT), (1, .int (nI law)), (2, .int seed), (3, .int (nI m)), (4, .int (dwT S law seed k)), (5, .int (nI k))] [] g n1 := by
    intro law hlaw m hm
    refine zl_up _ (fun k hk ih n1 hT1 hth1 hf1 => ?_)
    refine pw_iload dX6_drawn_46 5 rfl ?_
    refine pw_iload_n dX6_drawn_48 3 rfl rfl ?_
    refine pw_icmp_ge_N 85 dX6_drawn_49 (by decide) (by omega) (by omega) (fun c_49 => ?_) (fun c_49 => ?_)
    · refine pw_iload dX6_drawn_85 4 rfl ?_
      refine pw_iret rfl dX6_drawn_87 ?_
      exact tQ_eq (by rw [show k = m by omega]) (t_qok hT1 hth1 hf1 _)
    · refine pw_aload_n dX6_drawn_52 0 rfl rfl ?_
      refine pw_iload_n dX6_drawn_53 2 rfl rfl ?_
      refine pw_iload dX6_drawn_54 5 rfl ?_
      refine pw_iadd dX6_drawn_56 ?_
      refine pw_callV1 zmM_X6_rowBy rfl (lw_V q2540 q2542 qs113 q150 q2543) rfl (ts_this hM) zc_X6 (t_rowBy hM hT1 hW (seed + nI k)) (by decide) (Nat.le_refl _) (Nat.le_refl _) rfl (Nat.le_of_ble_eq_true rfl) (Nat.le_of_ble_eq_true rfl) dX6_drawn_57 (by intros; rintro ⟨h, _⟩; cases h) (fun v1 g1 n2 h1 => ?_)
      obtain ⟨h1, rfl, hr, hfg⟩ := h1
      cases h1
      obtain ⟨hT2, hth2, hf2⟩ := t_after hT1 hW hth1 hf1 hfg
      refine pw_iload dX6_drawn_60 4 rfl ?_
      refine pw_aload_n dX6_drawn_62 0 rfl rfl ?_
      refine pw_iload_n dX6_drawn_63 1 rfl rfl ?_
      refine pw_callV1 zmM_X6_goes rfl (lw_V q2408 q2410 qs96 q150 q2411) rfl (ts_this hM) zc_X6 (t_goes hM hT2 hW law hlaw hr) (by decide) (Nat.le_refl _) (Nat.le_refl _) rfl (Nat.le_of_ble_eq_true rfl) (Nat.le_of_ble_eq_true rfl) dX6_drawn_64 (by intros; rintro ⟨h, _⟩; cases h) (fun v2 g2 n3 h2 => ?_)
      obtain ⟨h1, rfl, hY, hfg2⟩ := h2
      cases h1
      obtain ⟨hT3, hth3, hf3⟩ := t_after hT2 hW hth2 hf2 (zFgF hfg2)
      refine pw_aload_n dX6_drawn_67 0 rfl rfl ?_
      refine pw_callV0 zmM_X6_truthsNow rfl (lw_V q2367 q2369 qs92 q150 q2370) rfl (ts_this hM) zc_X6 (t_truthsNow hM hT3 hW) (by decide) (Nat.le_refl _) (Nat.le_refl _) rfl (Nat.le_of_ble_eq_true rfl) (Nat.le_of_ble_eq_true rfl) dX6_drawn_68 zE.nx (zE_kk ?_)
      refine pw_iand dX6_drawn_71 ?_
      refine pw_i2l dX6_drawn_72 ?_
      refine pw_callS1 zmM_X6_ones rfl (lw_S q2277 q2278 q150 q2279) (t_onesE S law _ _ g2 n3) (by decide) (Nat.le_refl _) (Nat.le_refl _) rfl (Nat.le_of_ble_eq_true rfl) (Nat.le_of_ble_eq_true rfl) dX6_drawn_73 zE.nx (zE_kk ?_)
      refine pw_iadd dX6_drawn_76 ?_
      refine pw_istore (ls' := [(4, _), (0, _), (1, _), (2, _), (3, _), (5, _)]) dX6_drawn_77 (by decide) rfl ?_
      refine pw_ls [1, 2, 3, 4, 0, 5] (ls' := [(0, _), (1, _), (2, _), (3, _), (4, _), (5, _)]) rfl ?_
      refine pw_iinc1 (j := 5) (ls' := [(5, _), (0, _), (1, _), (2, _), (3, _), (4, _)]) dX6_drawn_79 rfl (by decide) rfl ?_
      refine pw_ls [1, 2, 3, 4, 5, 0] (ls' := [(0, _), (1, _), (2, _), (3, _), (4, _), (5, _)]) rfl ?_
      refine pw_goto 46 dX6_drawn_82 (by decide) ?_
      exact ih (k + 1) (by omega) (by omega) n3 hT3 hth3 hf3
  refine pw_aload_n dX6_drawn_0 0 rfl rfl ?_
  refine pw_iconst (v := 0) dX6_drawn_1 (by decide) ?_
  refine pw_puti 0 zc_X6 (ts_this hM) (by decide) (by decide) q1986 rfl (Or.inl rfl) rfl rfl dX6_drawn_2 ?_
  obtain ⟨hT0, hth, hf0⟩ := t_start hT hW; generalize zpfi n aT 0 0 = n0 at hT0 hth hf0 ⊢
  refine pw_aload_n dX6_drawn_5 0 rfl rfl ?_
  refine pw_iload_n dX6_drawn_6 1 rfl rfl ?_
  refine pw_iconst (v := 0) dX6_drawn_7 (by decide) ?_
  refine pw_iconst (v := 4) dX6_drawn_8 (by decide) ?_
  refine pw_callS3 zmM_X6_in rfl (lw_S q2185 q2186 q150 q2187) (t_in _ _ _ _ _) (by decide) (Nat.le_refl _) (Nat.le_refl _) rfl (Nat.le_of_ble_eq_true rfl) (Nat.le_of_ble_eq_true rfl) dX6_drawn_9 zE.nx (zE_kk ?_)
  refine pw_if_eq_B 25 dX6_drawn_12 (by decide) (fun c_12 => ?_) (fun c_12 => ?_)
  · refine pw_iconst (v := 1) dX6_drawn_25 (by decide) ?_
    refine pw_goto 30 dX6_drawn_26 (by decide) ?_
    refine pw_iconst (v := 1) dX6_drawn_30 (by decide) ?_
    refine pw_iconst (v := 1) dX6_drawn_31 (by decide) ?_
    refine pw_callV3 zmM_X6_bad rfl (lw_V q2188 q2190 qs62 q150 q2191) rfl (ts_this hM) zc_X6 (t_bad1 hM 1 (by decide) 1 (by decide) hth) (by decide) (Nat.le_refl _) (Nat.le_refl _) rfl (Nat.le_of_ble_eq_true rfl) (Nat.le_of_ble_eq_true rfl) dX6_drawn_32 zE.nx (zE_kk ?_)
    refine pw_if_eq 40 dX6_drawn_35 (by decide) (fun c_35 => ?_) (fun c_35 => ?_)
    · exact absurd c_35 (by decide)
    · refine pw_iconst (v := 0) dX6_drawn_38 (by decide) ?_
      refine pw_iret rfl dX6_drawn_39 ?_
      exact tQ_eq (spNeed_f (fun h => c_12 ((inB_le (m := 4) (by decide)).mp (by simp only [Bool.and_eq_true] at h; exact h.1)))) (t_qbad hT0 hW hf0 1 1 (by decide) _)
  · refine pw_iload_n dX6_drawn_15 3 rfl rfl ?_
    refine pw_iconst (v := 1) dX6_drawn_16 (by decide) ?_
    refine pw_bipush (v := 60) dX6_drawn_17 (by decide) ?_
    refine pw_callS3 zmM_X6_in rfl (lw_S q2185 q2186 q150 q2187) (t_in _ _ _ _ _) (by decide) (Nat.le_refl _) (Nat.le_refl _) rfl (Nat.le_of_ble_eq_true rfl) (Nat.le_of_ble_eq_true rfl) dX6_drawn_19 zE.nx (zE_kk ?_)
    refine pw_if_ne_B 29 dX6_drawn_22 (by decide) (fun c_22 => ?_) (fun c_22 => ?_)
    · refine pw_iconst (v := 0) dX6_drawn_29 (by decide) ?_
      refine pw_iconst (v := 1) dX6_drawn_30 (by decide) ?_
      refine pw_iconst (v := 1) dX6_drawn_31 (by decide) ?_
      refine pw_callV3 zmM_X6_bad rfl (lw_V q2188 q2190 qs62 q150 q2191) rfl (ts_this hM) zc_X6 (t_bad0 hM 1 (by decide) 1 (by decide) hth) (by decide) (Nat.le_refl _) (Nat.le_refl _) rfl (Nat.le_of_ble_eq_true rfl) (Nat.le_of_ble_eq_true rfl) dX6_drawn_32 zE.nx (zE_kk ?_)
      refine pw_if_eq 40 dX6_drawn_35 (by decide) (fun c_35 => ?_) (fun c_35 => ?_)
      · refine pw_iconst (v := 0) dX6_drawn_40 (by decide) ?_
        refine pw_istore (ls' := [(4, _), (0, _), (1, _), (2, _), (3, _)]) dX6_drawn_41 (by decide) rfl ?_
        refine pw_ls [1, 2, 3, 4, 0] (ls' := [(0, _), (1, _), (2, _), (3, _), (4, _)]) rfl ?_
        refine pw_iconst (v := 0) dX6_drawn_43 (by decide) ?_
        refine pw_istore (ls' := [(5, _), (0, _), (1, _), (2, _), (3, _), (4, _)]) dX6_drawn_44 (by decide) rfl ?_
        refine pw_ls [1, 2, 3, 4, 5, 0] (ls' := [(0, _), (1, _), (2, _), (3, _), (4, _), (5, _)]) rfl ?_
        have hx := (inB_le (m := 4) (by decide)).mpr c_12
        have hok : (inB x 5 && (decide (1 ≤ y) && decide (y ≤ 60))) = true := by rw [hx, decide_eq_true c_22.1, decide_eq_true c_22.2]; rfl
        obtain ⟨law, hlaw, rfl⟩ := inB_ex (by decide) hx
        obtain ⟨m, hm, rfl⟩ := in_60 c_22.1 c_22.2
        rw [show sp_drawn S (nI law) seed (nI m) = (0, .int (dwT S law seed m), S) from (spNeed_t hok).trans (by rw [nI_clamp (by omega), nI_clamp (by omega)])]
        exact hlp law (by omega) m hm 0 (Nat.zero_le _) n0 hT0 hth hf0
      · exact absurd rfl c_35
    · refine pw_iconst (v := 1) dX6_drawn_25 (by decide) ?_
      refine pw_goto 30 dX6_drawn_26 (by decide) ?_
      refine pw_iconst (v := 1) dX6_drawn_30 (by decide) ?_
      refine pw_iconst (v := 1) dX6_drawn_31 (by decide) ?_
      refine pw_callV3 zmM_X6_bad rfl (lw_V q2188 q2190 qs62 q150 q2191) rfl (ts_this hM) zc_X6 (t_bad1 hM 1 (by decide) 1 (by decide) hth) (by decide) (Nat.le_refl _) (Nat.le_refl _) rfl (Nat.le_of_ble_eq_true rfl) (Nat.le_of_ble_eq_true rfl) dX6_drawn_32 zE.nx (zE_kk ?_)
      refine pw_if_eq 40 dX6_drawn_35 (by decide) (fun c_35 => ?_) (fun c_35 => ?_)
      · exact absurd c_35 (by decide)
      · refine pw_iconst (v := 0) dX6_drawn_38 (by decide) ?_
        refine pw_iret rfl dX6_drawn_39 ?_
        exact tQ_eq (spNeed_f (fun h => c_22 (by simp only [Bool.and_eq_true, decide_eq_true_eq] at h; exact h.2))) (t_qbad hT0 hW hf0 1 1 (by decide) _)
def dwC (S : zS) (seed : Int32) (s : Nat) : Nat → Nat := ct (fun k => ib (dwE S (sN S 0 5) seed k) s)
def sp_century (S : zS) (x seed y : Int32) : Int32 × Value × zS := spNeed S (inB x (sN S 0 1)) 1 0 (.int 0) (spNeed S (decide (1 ≤ y) && decide (y ≤ 60)) 2 1 (.int 0) (0, .int (nI (dwC S seed x.toNatClampNeg y.toNatClampNeg)), S))
theorem ib_z {x : Int32} {n : Nat} (hn : n < 32) : (x >>> (nI n &&& 31)) &&& 1 = zb (ib x n = true) := by
  rw [ib_bit x hn]; cases ib x n <;> rfl
theorem t_century {g : zg_G} {n : zg_N} {S : zS} (hM : TSh g) (hT : TW n S) (hW : WF S) (x seed y : Int32) : PW zm_X6_century 9 (tQ g n (sp_century S x seed y)) 0 0 0 [(0, .ref aT), (1, .int x), (2, .int seed), (3, .int y)] [] g n := by
  have hs := hW.slips
  have hlp : ∀ s, s < 12 → ∀ m, m ≤ 60 → ∀ k, k ≤ m → ∀ n1, TW n1 S → zfi n1 aT tf_thrown = 0 → zFr tXF tXA n n1 → PW zm_X6_century 9 (tQ g n (0, .int (nI (dwC S seed s m)), S)) 0 0 59 [(0, .ref aT), (1, .int (nI s)), (2, .int seed), (3, .int (nI m)), (4, .int (nI (dwC S seed s k))), (5, .int (nI k))] [] g n1 := by
    intro s hs2 m hm
    refine zl_up _ (fun k hk ih n1 hT1 hth1 hf1 => ?_)
    refine pw_iload dX6_century_59 5 rfl ?_
    refine pw_iload_n dX6_century_61 3 rfl rfl ?_
    refine pw_icmp_ge_N 98 dX6_century_62 (by decide) (by omega) (by omega) (fun c_62 => ?_) (fun c_62 => ?_)
    · refine pw_iload dX6_century_98 4 rfl ?_
      refine pw_iret rfl dX6_century_100 ?_
      exact tQ_eq (by rw [show k = m by omega]) (t_qok hT1 hth1 hf1 _)
    · refine pw_aload_n dX6_century_65 0 rfl rfl ?_
      refine pw_iload_n dX6_century_66 2 rfl rfl ?_
      refine pw_iload dX6_century_67 5 rfl ?_
      refine pw_iadd dX6_century_69 ?_
      refine pw_callV1 zmM_X6_rowBy rfl (lw_V q2540 q2542 qs113 q150 q2543) rfl (ts_this hM) zc_X6 (t_rowBy hM hT1 hW (seed + nI k)) (by decide) (Nat.le_refl _) (Nat.le_refl _) rfl (Nat.le_of_ble_eq_true rfl) (Nat.le_of_ble_eq_true rfl) dX6_century_70 (by intros; rintro ⟨h, _⟩; cases h) (fun v1 g1 n2 h1 => ?_)
      obtain ⟨h1, rfl, hr, hfg⟩ := h1
      cases h1
      obtain ⟨hT2, hth2, hf2⟩ := t_after hT1 hW hth1 hf1 hfg
      refine pw_iload dX6_century_73 4 rfl ?_
      refine pw_aload_n dX6_century_75 0 rfl rfl ?_
      refine pw_aload_n dX6_century_76 0 rfl rfl ?_
      refine pw_getr 12 zc_X6 (ts_this hM) (by decide) q1998 (Or.inr ⟨_, rfl⟩) (tr_told hM) dX6_century_77 ?_
      refine pw_iconst (v := 5) dX6_century_80 (by decide) ?_
      refine pw_iald 5 rfl (ts_told hM) (by decide) (by decide) dX6_century_81 ?_
      rw [hT2.told (k := 5) (by decide)]
      refine pw_callV1 zmM_X6_goes rfl (lw_V q2408 q2410 qs96 q150 q2411) rfl (ts_this hM) zc_X6 (t_goes hM hT2 hW _ hW.law hr) (by decide) (Nat.le_refl _) (Nat.le_refl _) rfl (Nat.le_of_ble_eq_true rfl) (Nat.le_of_ble_eq_true rfl) dX6_century_82 (by intros; rintro ⟨h, _⟩; cases h) (fun v2 g2 n3 h2 => ?_)
      obtain ⟨h1, rfl, hY, hfg2⟩ := h2
      cases h1
      obtain ⟨hT3, hth3, hf3⟩ := t_after hT2 hW hth2 hf2 (zFgF hfg2)
      refine pw_iload_n dX6_century_85 1 rfl rfl ?_
      refine pw_ishr dX6_century_86 ?_
      refine pw_iconst (v := 1) dX6_century_87 (by decide) ?_
      refine pw_iand dX6_century_88 ?_
      rw [ib_z (by omega)]
      refine pw_iadd dX6_century_89 ?_
      rw [show nI (dwC S seed s k) + zb (ib (yBits (yRun S (sN S 0 5) (yRow (dwS S (seed + nI k)) (sN S 0 1)) 52).1 &&& 4095) s = true) = nI (dwC S seed s (k + 1)) from ct_b]
      refine pw_istore (ls' := [(4, _), (0, _), (1, _), (2, _), (3, _), (5, _)]) dX6_century_90 (by decide) rfl ?_
      refine pw_ls [1, 2, 3, 4, 0, 5] (ls' := [(0, _), (1, _), (2, _), (3, _), (4, _), (5, _)]) rfl ?_
      refine pw_iinc1 (j := 5) (ls' := [(5, _), (0, _), (1, _), (2, _), (3, _), (4, _)]) dX6_century_92 rfl (by decide) rfl ?_
      refine pw_ls [1, 2, 3, 4, 5, 0] (ls' := [(0, _), (1, _), (2, _), (3, _), (4, _), (5, _)]) rfl ?_
      refine pw_goto 59 dX6_century_95 (by decide) ?_
      exact ih (k + 1) (by omega) (by omega) n3 hT3 hth3 hf3
  refine pw_aload_n dX6_century_0 0 rfl rfl ?_
  refine pw_iconst (v := 0) dX6_century_1 (by decide) ?_
  refine pw_puti 0 zc_X6 (ts_this hM) (by decide) (by decide) q1986 rfl (Or.inl rfl) rfl rfl dX6_century_2 ?_
  obtain ⟨hT0, hth, hf0⟩ := t_start hT hW; generalize zpfi n aT 0 0 = n0 at hT0 hth hf0 ⊢
  refine pw_aload_n dX6_century_5 0 rfl rfl ?_
  refine pw_aload_n dX6_century_6 0 rfl rfl ?_
  refine pw_iload_n dX6_century_7 1 rfl rfl ?_
  refine pw_callV1 zmM_X6_isSlip rfl (lw_V q2336 q2338 qs90 q150 q2339) rfl (ts_this hM) zc_X6 (t_isSlip hM hT0 hW x) (by decide) (Nat.le_refl _) (Nat.le_refl _) rfl (Nat.le_of_ble_eq_true rfl) (Nat.le_of_ble_eq_true rfl) dX6_century_8 zE.nx (zE_kk ?_)
  refine pw_if_ne_B 18 dX6_century_11 (by decide) (fun c_11 => ?_) (fun c_11 => ?_)
  · refine pw_iconst (v := 0) dX6_century_18 (by decide) ?_
    refine pw_iconst (v := 1) dX6_century_19 (by decide) ?_
    refine pw_iconst (v := 0) dX6_century_20 (by decide) ?_
    refine pw_callV3 zmM_X6_bad rfl (lw_V q2188 q2190 qs62 q150 q2191) rfl (ts_this hM) zc_X6 (t_bad0 hM 1 (by decide) 0 (by decide) hth) (by decide) (Nat.le_refl _) (Nat.le_refl _) rfl (Nat.le_of_ble_eq_true rfl) (Nat.le_of_ble_eq_true rfl) dX6_century_21 zE.nx (zE_kk ?_)
    refine pw_if_ne 51 dX6_century_24 (by decide) (fun c_24 => ?_) (fun c_24 => ?_)
    · exact absurd rfl c_24
    · refine pw_aload_n dX6_century_27 0 rfl rfl ?_
      refine pw_iload_n dX6_century_28 3 rfl rfl ?_
      refine pw_iconst (v := 1) dX6_century_29 (by decide) ?_
      refine pw_bipush (v := 60) dX6_century_30 (by decide) ?_
      refine pw_callS3 zmM_X6_in rfl (lw_S q2185 q2186 q150 q2187) (t_in _ _ _ _ _) (by decide) (Nat.le_refl _) (Nat.le_refl _) rfl (Nat.le_of_ble_eq_true rfl) (Nat.le_of_ble_eq_true rfl) dX6_century_32 zE.nx (zE_kk ?_)
      refine pw_if_ne_B 42 dX6_century_35 (by decide) (fun c_35 => ?_) (fun c_35 => ?_)
      · refine pw_iconst (v := 0) dX6_century_42 (by decide) ?_
        refine pw_iconst (v := 2) dX6_century_43 (by decide) ?_
        refine pw_iconst (v := 1) dX6_century_44 (by decide) ?_
        refine pw_callV3 zmM_X6_bad rfl (lw_V q2188 q2190 qs62 q150 q2191) rfl (ts_this hM) zc_X6 (t_bad0 hM 2 (by decide) 1 (by decide) hth) (by decide) (Nat.le_refl _) (Nat.le_refl _) rfl (Nat.le_of_ble_eq_true rfl) (Nat.le_of_ble_eq_true rfl) dX6_century_45 zE.nx (zE_kk ?_)
        refine pw_if_eq 53 dX6_century_48 (by decide) (fun c_48 => ?_) (fun c_48 => ?_)
        · refine pw_iconst (v := 0) dX6_century_53 (by decide) ?_
          refine pw_istore (ls' := [(4, _), (0, _), (1, _), (2, _), (3, _)]) dX6_century_54 (by decide) rfl ?_
          refine pw_ls [1, 2, 3, 4, 0] (ls' := [(0, _), (1, _), (2, _), (3, _), (4, _)]) rfl ?_
          refine pw_iconst (v := 0) dX6_century_56 (by decide) ?_
          refine pw_istore (ls' := [(5, _), (0, _), (1, _), (2, _), (3, _), (4, _)]) dX6_century_57 (by decide) rfl ?_
          refine pw_ls [1, 2, 3, 4, 5, 0] (ls' := [(0, _), (1, _), (2, _), (3, _), (4, _), (5, _)]) rfl ?_
          have hok : (decide (1 ≤ y) && decide (y ≤ 60)) = true := by rw [decide_eq_true c_35.1, decide_eq_true c_35.2]; rfl
          obtain ⟨s, hs2, rfl⟩ := inB_ex (by omega) c_11
          obtain ⟨m, hm, rfl⟩ := in_60 c_35.1 c_35.2
          rw [show sp_century S (nI s) seed (nI m) = (0, .int (nI (dwC S seed s m)), S) from ((spNeed_t c_11).trans (spNeed_t hok)).trans (by rw [nI_clamp (by omega), nI_clamp (by omega)])]
          exact hlp s (by omega) m hm 0 (Nat.zero_le _) n0 hT0 hth hf0
        · exact absurd rfl c_48
      · refine pw_iconst (v := 1) dX6_century_38 (by decide) ?_
        refine pw_goto 43 dX6_century_39 (by decide) ?_
        refine pw_iconst (v := 2) dX6_century_43 (by decide) ?_
        refine pw_iconst (v := 1) dX6_century_44 (by decide) ?_
        refine pw_callV3 zmM_X6_bad rfl (lw_V q2188 q2190 qs62 q150 q2191) rfl (ts_this hM) zc_X6 (t_bad1 hM 2 (by decide) 1 (by decide) hth) (by decide) (Nat.le_refl _) (Nat.le_refl _) rfl (Nat.le_of_ble_eq_true rfl) (Nat.le_of_ble_eq_true rfl) dX6_century_45 zE.nx (zE_kk ?_)
        refine pw_if_eq 53 dX6_century_48 (by decide) (fun c_48 => ?_) (fun c_48 => ?_)
        · exact absurd c_48 (by decide)
        · refine pw_iconst (v := 0) dX6_century_51 (by decide) ?_
          refine pw_iret rfl dX6_century_52 ?_
          exact tQ_eq ((spNeed_t c_11).trans (spNeed_f (fun h => c_35 (by simp only [Bool.and_eq_true, decide_eq_true_eq] at h; exact h)))) (t_qbad hT0 hW hf0 2 1 (by decide) _)
  · refine pw_iconst (v := 1) dX6_century_14 (by decide) ?_
    refine pw_goto 19 dX6_century_15 (by decide) ?_
    refine pw_iconst (v := 1) dX6_century_19 (by decide) ?_
    refine pw_iconst (v := 0) dX6_century_20 (by decide) ?_
    refine pw_callV3 zmM_X6_bad rfl (lw_V q2188 q2190 qs62 q150 q2191) rfl (ts_this hM) zc_X6 (t_bad1 hM 1 (by decide) 0 (by decide) hth) (by decide) (Nat.le_refl _) (Nat.le_refl _) rfl (Nat.le_of_ble_eq_true rfl) (Nat.le_of_ble_eq_true rfl) dX6_century_21 zE.nx (zE_kk ?_)
    refine pw_if_ne 51 dX6_century_24 (by decide) (fun c_24 => ?_) (fun c_24 => ?_)
    · refine pw_iconst (v := 0) dX6_century_51 (by decide) ?_
      refine pw_iret rfl dX6_century_52 ?_
      exact tQ_eq (spNeed_f c_11) (t_qbad hT0 hW hf0 1 0 (by decide) _)
    · exact absurd c_24 (by decide)

/-! ===== the reference: salts; two schools ===== -/
/-- a row of the year, as a list -/
def TRl (n : zg_N) (L : List Nat) : Prop := zfi n aT tf_rowMany = nI L.length ∧ ∀ i b, L[i]? = some b → zai n at_row i = nI b
theorem TRl.row {n : zg_N} {S : zS} {L : List Nat} (h : TRl n L) (hl : L.length ≤ 17) (hok : yOk S L) : TRow n S (fun i => L.getD i 0) L.length := ⟨h.1, hl, fun i hi => by
  have e := List.getElem?_eq_getElem hi
  have e2 : L.getD i 0 = L[i] := by rw [List.getD_eq_getElem?_getD, e]; rfl
  show zai n at_row i = nI (L.getD i 0) ∧ okb S (L.getD i 0)
  rw [e2]
  exact ⟨h.2 i _ e, hok _ (List.getElem_mem hi)⟩⟩
theorem TRl.push {n : zg_N} {L : List Nat} (h : TRl n L) (b : Nat) : TRl (zpfi (zpai n at_row L.length (nI b)) aT tf_rowMany (nI (L.length + 1))) (L ++ [b]) := by
  refine ⟨by rw [zfi_p, if_pos ⟨rfl, rfl⟩, List.length_append]; rfl, fun i c hi => ?_⟩
  show zai (zpai n at_row L.length (nI b)) at_row i = nI c
  rw [zai_p]
  by_cases e : i = L.length
  · subst e
    rw [List.getElem?_append_right (Nat.le_refl _), Nat.sub_self] at hi
    cases hi
    rw [if_pos ⟨rfl, rfl⟩]
  · rw [if_neg (fun z => e z.2)]
    have hil := (List.getElem?_eq_some_iff.mp hi).1
    rw [List.length_append] at hil
    simp only [List.length_cons, List.length_nil] at hil
    rw [List.getElem?_append_left (by omega)] at hi
    exact h.2 i c hi
/-- salts of a set, then the order -/
def saR (bits : Int32) : Nat → List Nat
  | 0 => []
  | k + 1 => if ib bits k = true then saR bits k ++ [12 + k] else saR bits k
def saO (S : zS) : Nat → List Nat
  | 0 => []
  | k + 1 => saO S k ++ [sN S 2 k]
abbrev saL (S : zS) (bits : Int32) : List Nat := saR bits (sN S 0 3) ++ saO S (sN S 0 1)
theorem saR_ok {S : zS} (bits : Int32) : ∀ k, k ≤ sN S 0 3 → (saR bits k).length ≤ k ∧ yOk S (saR bits k)
  | 0, _ => ⟨Nat.le_refl _, (fun b hb => nomatch hb)⟩
  | k + 1, h => by
    have ih := saR_ok (S := S) bits k (by omega)
    rw [saR]
    split
    · refine ⟨by simp only [List.length_append, List.length_cons, List.length_nil]; omega, fun b hb => ?_⟩
      rcases List.mem_append.mp hb with h1 | h1
      · exact ih.2 b h1
      · rw [List.mem_singleton.mp h1]; exact Or.inr ⟨by omega, by omega⟩
    · exact ⟨by omega, ih.2⟩
theorem saO_ok {S : zS} (hW : WF S) : ∀ k, k ≤ sN S 0 1 → (saO S k).length = k ∧ yOk S (saO S k)
  | 0, _ => ⟨rfl, (fun b hb => nomatch hb)⟩
  | k + 1, h => by
    have ih := saO_ok hW k (by omega)
    rw [saO]
    refine ⟨by simp only [List.length_append, List.length_cons, List.length_nil]; omega, fun b hb => ?_⟩
    rcases List.mem_append.mp hb with h1 | h1
    · exact ih.2 b h1
    · rw [List.mem_singleton.mp h1]; exact Or.inl (hW.perm.1 k (by omega))
abbrev saE (S : zS) (bits : Int32) : Int32 := yBits (yRun S (sN S 0 5) (yLst (saL S bits)) 52).1 &&& 4095
theorem t_goesSalted {g : zg_G} {n : zg_N} {S : zS} (hM : TSh g) (hT : TW n S) (hW : WF S) (bits : Int32) : PW zm_X6_goesSalted 8 (tGo g n S (sN S 0 5) (yLst (saL S bits))) 0 0 0 [(0, .ref aT), (1, .int bits)] [] g n := by
  have hs := hW.slips
  have hsa := hW.salts
  have hR := (saR_ok (S := S) bits (sN S 0 3) (Nat.le_refl _))
  have h2 : ∀ k, k ≤ sN S 0 1 → ∀ n1, zFr gF gA n n1 → TRl n1 (saR bits (sN S 0 3) ++ saO S k) → PW zm_X6_goesSalted 8 (tGo g n S (sN S 0 5) (yLst (saL S bits))) 0 0 59 [(0, .ref aT), (1, .int bits), (2, .int (nI k))] [] g n1 := by
    refine zl_up _ (fun k hk ih n1 hf hL => ?_)
    have hT1 := hT.keep hW (hf.mono gF_tF gA_tA)
    have hO := saO_ok hW k hk
    have hll : (saR bits (sN S 0 3) ++ saO S k).length ≤ 5 + k := by rw [List.length_append]; omega
    refine pw_iload_n dX6_goesSalted_59 2 rfl rfl ?_
    refine pw_aload_n dX6_goesSalted_60 0 rfl rfl ?_
    refine pw_getr 12 zc_X6 (ts_this hM) (by decide) q1998 (Or.inr ⟨_, rfl⟩) (tr_told hM) dX6_goesSalted_61 ?_
    refine pw_iconst (v := 1) dX6_goesSalted_64 (by decide) ?_
    refine pw_iald 1 rfl (ts_told hM) (by decide) (by decide) dX6_goesSalted_65 ?_
    rw [hT1.told (k := 1) (by decide)]
    refine pw_icmp_ge_N 100 dX6_goesSalted_66 (by decide) (by omega) (by omega) (fun c_66 => ?_) (fun c_66 => ?_)
    · refine pw_aload_n dX6_goesSalted_100 0 rfl rfl ?_
      refine pw_aload_n dX6_goesSalted_101 0 rfl rfl ?_
      refine pw_getr 12 zc_X6 (ts_this hM) (by decide) q1998 (Or.inr ⟨_, rfl⟩) (tr_told hM) dX6_goesSalted_102 ?_
      refine pw_iconst (v := 5) dX6_goesSalted_105 (by decide) ?_
      refine pw_iald 5 rfl (ts_told hM) (by decide) (by decide) dX6_goesSalted_106 ?_
      rw [hT1.told (k := 5) (by decide)]
      have hks : k = sN S 0 1 := by omega
      subst hks
      have hrow := hL.row (S := S) (by omega) (fun b hb => (List.mem_append.mp hb).elim (hR.2 b) (hO.2 b))
      refine pw_callV1 zmM_X6_goes rfl (lw_V q2408 q2410 qs96 q150 q2411) rfl (ts_this hM) zc_X6 (t_goes hM hT1 hW _ hW.law hrow) (by decide) (Nat.le_refl _) (Nat.le_refl _) rfl (Nat.le_of_ble_eq_true rfl) (Nat.le_of_ble_eq_true rfl) dX6_goesSalted_107 (by intros; rintro ⟨h, _⟩; cases h) (fun v2 g2 n3 h2 => ?_)
      obtain ⟨h1, rfl, hY, hfg2⟩ := h2
      cases h1
      rw [yRow_lst] at hY
      refine pw_iret rfl dX6_goesSalted_110 ?_
      exact ⟨by rw [yRow_lst], rfl, hY, hf.tr (zFgF hfg2)⟩
    · refine pw_aload_n dX6_goesSalted_69 0 rfl rfl ?_
      refine pw_getr 34 zc_X6 (ts_this hM) (by decide) q2020 (Or.inr ⟨_, rfl⟩) (tr_row hM) dX6_goesSalted_70 ?_
      refine pw_aload_n dX6_goesSalted_73 0 rfl rfl ?_
      refine pw_geti 43 zc_X6 (ts_this hM) (by decide) q2029 (Or.inl rfl) dX6_goesSalted_74 ?_
      rw [hL.1]
      refine pw_aload_n dX6_goesSalted_77 0 rfl rfl ?_
      refine pw_getr 21 zc_X6 (ts_this hM) (by decide) q2007 (Or.inr ⟨_, rfl⟩) (tr_order hM) dX6_goesSalted_78 ?_
      refine pw_iload_n dX6_goesSalted_81 2 rfl rfl ?_
      refine pw_iald k rfl (ts_order hM) (by omega) (by decide) dX6_goesSalted_82 ?_
      rw [hT1.od (show k < 12 by omega)]
      refine pw_iast (saR bits (sN S 0 3) ++ saO S k).length rfl (ts_row hM) (by decide) (by omega) (by decide) dX6_goesSalted_83 ?_
      refine pw_aload_n dX6_goesSalted_84 0 rfl rfl ?_
      refine pw_dup dX6_goesSalted_85 rfl ?_
      refine pw_geti 43 zc_X6 (ts_this hM) (by decide) q2029 (Or.inl rfl) dX6_goesSalted_86 ?_
      rw [show zfi (zpai n1 at_row (saR bits (sN S 0 3) ++ saO S k).length (nI (sN S 2 k))) aT tf_rowMany = nI (saR bits (sN S 0 3) ++ saO S k).length from hL.1]
      refine pw_iconst (v := 1) dX6_goesSalted_89 (by decide) ?_
      refine pw_iadd dX6_goesSalted_90 ?_
      rw [nI_1]
      refine pw_puti 43 zc_X6 (ts_this hM) (by decide) (by decide) q2029 rfl (Or.inl rfl) rfl rfl dX6_goesSalted_91 ?_
      refine pw_iinc1 (j := 2) (ls' := [(2, _), (0, _), (1, _)]) dX6_goesSalted_94 rfl (by decide) rfl ?_
      refine pw_ls [1, 2, 0] (ls' := [(0, _), (1, _), (2, _)]) rfl ?_
      refine pw_goto 59 dX6_goesSalted_97 (by decide) ?_
      have := hL.push (sN S 2 k)
      rw [List.append_assoc] at this
      exact ih (k + 1) (by omega) (by omega) _ ((hf.pai (Or.inr rfl)).pfi (Or.inr ⟨rfl, rfl⟩)) this
  have h1 : ∀ k, k ≤ sN S 0 3 → ∀ n1, zFr gF gA n n1 → TRl n1 (saR bits k) → PW zm_X6_goesSalted 8 (tGo g n S (sN S 0 5) (yLst (saL S bits))) 0 0 7 [(0, .ref aT), (1, .int bits), (2, .int (nI k))] [] g n1 := by
    refine zl_up _ (fun k hk ih n1 hf hL => ?_)
    have hT1 := hT.keep hW (hf.mono gF_tF gA_tA)
    have hO := saR_ok (S := S) bits k hk
    refine pw_iload_n dX6_goesSalted_7 2 rfl rfl ?_
    refine pw_aload_n dX6_goesSalted_8 0 rfl rfl ?_
    refine pw_getr 12 zc_X6 (ts_this hM) (by decide) q1998 (Or.inr ⟨_, rfl⟩) (tr_told hM) dX6_goesSalted_9 ?_
    refine pw_iconst (v := 3) dX6_goesSalted_12 (by decide) ?_
    refine pw_iald 3 rfl (ts_told hM) (by decide) (by decide) dX6_goesSalted_13 ?_
    rw [hT1.told (k := 3) (by decide)]
    refine pw_icmp_ge_N 57 dX6_goesSalted_14 (by decide) (by omega) (by omega) (fun c_14 => ?_) (fun c_14 => ?_)
    · refine pw_iconst (v := 0) dX6_goesSalted_57 (by decide) ?_
      refine pw_istore_n (ls' := [(2, _), (0, _), (1, _)]) dX6_goesSalted_58 rfl (by decide) rfl ?_
      refine pw_ls [1, 2, 0] (ls' := [(0, _), (1, _), (2, _)]) rfl ?_
      have hks : k = sN S 0 3 := by omega
      subst hks
      exact h2 0 (Nat.zero_le _) n1 hf (by rw [saO, List.append_nil]; exact hL)
    · refine pw_iload_n dX6_goesSalted_17 1 rfl rfl ?_
      refine pw_iload_n dX6_goesSalted_18 2 rfl rfl ?_
      refine pw_ishr dX6_goesSalted_19 ?_
      refine pw_iconst (v := 1) dX6_goesSalted_20 (by decide) ?_
      refine pw_iand dX6_goesSalted_21 ?_
      refine pw_if_ne 28 dX6_goesSalted_22 (by decide) (fun c_22 => ?_) (fun c_22 => ?_)
      · refine pw_aload_n dX6_goesSalted_28 0 rfl rfl ?_
        refine pw_getr 34 zc_X6 (ts_this hM) (by decide) q2020 (Or.inr ⟨_, rfl⟩) (tr_row hM) dX6_goesSalted_29 ?_
        refine pw_aload_n dX6_goesSalted_32 0 rfl rfl ?_
        refine pw_geti 43 zc_X6 (ts_this hM) (by decide) q2029 (Or.inl rfl) dX6_goesSalted_33 ?_
        rw [hL.1]
        refine pw_bipush (v := 12) dX6_goesSalted_36 (by decide) ?_
        refine pw_iload_n dX6_goesSalted_38 2 rfl rfl ?_
        refine pw_iadd dX6_goesSalted_39 ?_
        rw [show (12 : Int32) = nI 12 from rfl, nI_add]
        refine pw_iast (saR bits k).length rfl (ts_row hM) (by decide) (by omega) (by decide) dX6_goesSalted_40 ?_
        refine pw_aload_n dX6_goesSalted_41 0 rfl rfl ?_
        refine pw_dup dX6_goesSalted_42 rfl ?_
        refine pw_geti 43 zc_X6 (ts_this hM) (by decide) q2029 (Or.inl rfl) dX6_goesSalted_43 ?_
        rw [show zfi (zpai n1 at_row (saR bits k).length (nI (12 + k))) aT tf_rowMany = nI (saR bits k).length from hL.1]
        refine pw_iconst (v := 1) dX6_goesSalted_46 (by decide) ?_
        refine pw_iadd dX6_goesSalted_47 ?_
        rw [nI_1]
        refine pw_puti 43 zc_X6 (ts_this hM) (by decide) (by decide) q2029 rfl (Or.inl rfl) rfl rfl dX6_goesSalted_48 ?_
        refine pw_iinc1 (j := 2) (ls' := [(2, _), (0, _), (1, _)]) dX6_goesSalted_51 rfl (by decide) rfl ?_
        refine pw_ls [1, 2, 0] (ls' := [(0, _), (1, _), (2, _)]) rfl ?_
        refine pw_goto 7 dX6_goesSalted_54 (by decide) ?_
        have := ih (k + 1) (by omega) (by omega) _ ((hf.pai (a := at_row) (k := (saR bits k).length) (v := nI (12 + k)) (Or.inr rfl)).pfi (a := aT) (k := tf_rowMany) (v := nI ((saR bits k).length + 1)) (Or.inr ⟨rfl, rfl⟩))
        rw [show saR bits (k + 1) = saR bits k ++ [12 + k] from if_pos (by cases hb : ib bits k; exact absurd ((ib_eq0 (by omega)).mpr hb) c_22; rfl)] at this
        exact this (hL.push (12 + k))
      · refine pw_goto 51 dX6_goesSalted_25 (by decide) ?_
        refine pw_iinc1 (j := 2) (ls' := [(2, _), (0, _), (1, _)]) dX6_goesSalted_51 rfl (by decide) rfl ?_
        refine pw_ls [1, 2, 0] (ls' := [(0, _), (1, _), (2, _)]) rfl ?_
        refine pw_goto 7 dX6_goesSalted_54 (by decide) ?_
        have := ih (k + 1) (by omega) (by omega) n1 hf
        rw [show saR bits (k + 1) = saR bits k from if_neg (fun z => by rw [(ib_eq0 (by omega)).mp c_22] at z; exact absurd z (by decide))] at this
        exact this hL
  refine pw_aload_n dX6_goesSalted_0 0 rfl rfl ?_
  refine pw_iconst (v := 0) dX6_goesSalted_1 (by decide) ?_
  refine pw_puti 43 zc_X6 (ts_this hM) (by decide) (by decide) q2029 rfl (Or.inl rfl) rfl rfl dX6_goesSalted_2 ?_
  refine pw_iconst (v := 0) dX6_goesSalted_5 (by decide) ?_
  refine pw_istore_n (ls' := [(2, _), (0, _), (1, _)]) dX6_goesSalted_6 rfl (by decide) rfl ?_
  refine pw_ls [1, 2, 0] (ls' := [(0, _), (1, _), (2, _)]) rfl ?_
  exact h1 0 (Nat.zero_le _) _ (zFr.rf.pfi (Or.inr ⟨rfl, rfl⟩)) ⟨by rw [zfi_p, if_pos ⟨rfl, rfl⟩]; rfl, fun i b h => nomatch h⟩
def sp_salty (S : zS) (x : Int32) : Int32 × Value × zS := spNeed S (inB x (2 ^ sN S 0 3)) 1 1 (.int 0) (0, .int (saE S x), S)
theorem t_salty {g : zg_G} {n : zg_N} {S : zS} (hM : TSh g) (hT : TW n S) (hW : WF S) (x : Int32) : PW zm_X6_salty 9 (tQ g n (sp_salty S x)) 0 0 0 [(0, .ref aT), (1, .int x)] [] g n := by
  have hsa := hW.salts
  have hp : 2 ^ sN S 0 3 ≤ 32 := Nat.le_trans (Nat.pow_le_pow_right (by decide) hsa) (by decide)
  refine pw_aload_n dX6_salty_0 0 rfl rfl ?_
  refine pw_iconst (v := 0) dX6_salty_1 (by decide) ?_
  refine pw_puti 0 zc_X6 (ts_this hM) (by decide) (by decide) q1986 rfl (Or.inl rfl) rfl rfl dX6_salty_2 ?_
  obtain ⟨hT0, hth, hf0⟩ := t_start hT hW; generalize zpfi n aT 0 0 = n0 at hT0 hth hf0 ⊢
  refine pw_aload_n dX6_salty_5 0 rfl rfl ?_
  refine pw_iload_n dX6_salty_6 1 rfl rfl ?_
  refine pw_iconst (v := 0) dX6_salty_7 (by decide) ?_
  refine pw_iconst (v := 1) dX6_salty_8 (by decide) ?_
  refine pw_aload_n dX6_salty_9 0 rfl rfl ?_
  refine pw_getr 12 zc_X6 (ts_this hM) (by decide) q1998 (Or.inr ⟨_, rfl⟩) (tr_told hM) dX6_salty_10 ?_
  refine pw_iconst (v := 3) dX6_salty_13 (by decide) ?_
  refine pw_iald 3 rfl (ts_told hM) (by decide) (by decide) dX6_salty_14 ?_
  rw [hT0.told (k := 3) (by decide)]
  refine pw_ishl dX6_salty_15 ?_
  rw [ishl1 (by omega)]
  refine pw_iconst (v := 1) dX6_salty_16 (by decide) ?_
  refine pw_isub dX6_salty_17 ?_
  refine pw_callS3 zmM_X6_in rfl (lw_S q2185 q2186 q150 q2187) (t_in _ _ _ _ _) (by decide) (Nat.le_refl _) (Nat.le_refl _) rfl (Nat.le_of_ble_eq_true rfl) (Nat.le_of_ble_eq_true rfl) dX6_salty_18 zE.nx (zE_kk ?_)
  refine pw_if_ne_B 28 dX6_salty_21 (by decide) (fun c_21 => ?_) (fun c_21 => ?_)
  · refine pw_iconst (v := 0) dX6_salty_28 (by decide) ?_
    refine pw_iconst (v := 1) dX6_salty_29 (by decide) ?_
    refine pw_iconst (v := 1) dX6_salty_30 (by decide) ?_
    refine pw_callV3 zmM_X6_bad rfl (lw_V q2188 q2190 qs62 q150 q2191) rfl (ts_this hM) zc_X6 (t_bad0 hM 1 (by decide) 1 (by decide) hth) (by decide) (Nat.le_refl _) (Nat.le_refl _) rfl (Nat.le_of_ble_eq_true rfl) (Nat.le_of_ble_eq_true rfl) dX6_salty_31 zE.nx (zE_kk ?_)
    refine pw_if_eq 39 dX6_salty_34 (by decide) (fun c_34 => ?_) (fun c_34 => ?_)
    · have c_9 := (inB_m1 (by omega)).mpr c_21
      refine pw_aload_n dX6_salty_39 0 rfl rfl ?_
      refine pw_iload_n dX6_salty_40 1 rfl rfl ?_
      refine pw_callV1 zmM_X6_goesSalted rfl (lw_V q2621 q2623 qs118 q150 q2624) rfl (ts_this hM) zc_X6 (t_goesSalted hM hT0 hW x) (by decide) (Nat.le_refl _) (Nat.le_refl _) rfl (Nat.le_of_ble_eq_true rfl) (Nat.le_of_ble_eq_true rfl) dX6_salty_41 (by intros; rintro ⟨h, _⟩; cases h) (fun v1 g1 n1 h1 => ?_)
      obtain ⟨h1, rfl, hY, hfg⟩ := h1; cases h1; obtain ⟨hT1, hth1, hf1⟩ := t_after hT0 hW hth hf0 hfg
      refine pw_iret rfl dX6_salty_44 ?_
      exact tQ_eq (spNeed_t c_9) (t_qok hT1 hth1 hf1 _)
    · exact absurd rfl c_34
  · refine pw_iconst (v := 1) dX6_salty_24 (by decide) ?_
    refine pw_goto 29 dX6_salty_25 (by decide) ?_
    refine pw_iconst (v := 1) dX6_salty_29 (by decide) ?_
    refine pw_iconst (v := 1) dX6_salty_30 (by decide) ?_
    refine pw_callV3 zmM_X6_bad rfl (lw_V q2188 q2190 qs62 q150 q2191) rfl (ts_this hM) zc_X6 (t_bad1 hM 1 (by decide) 1 (by decide) hth) (by decide) (Nat.le_refl _) (Nat.le_refl _) rfl (Nat.le_of_ble_eq_true rfl) (Nat.le_of_ble_eq_true rfl) dX6_salty_31 zE.nx (zE_kk ?_)
    refine pw_if_eq 39 dX6_salty_34 (by decide) (fun c_34 => ?_) (fun c_34 => ?_)
    · exact absurd c_34 (by decide)
    · refine pw_iconst (v := 0) dX6_salty_37 (by decide) ?_
      refine pw_iret rfl dX6_salty_38 ?_
      exact tQ_eq (spNeed_f (fun h => c_21 ((inB_m1 (by omega)).mp h))) (t_qbad hT0 hW hf0 1 1 (by decide) _)
abbrev spSaQ (S : zS) (x : Int32) (b : Nat) : Bool := decide (saE S (nI b) &&& x = x)
def sp_salted (S : zS) (x : Int32) : Int32 × Value × zS := spNeed S (inB x (2 ^ sN S 0 1)) 1 1 (.int 0) (0, .int (spPick (spSaQ S x) bLess (2 ^ sN S 0 3)), S)
theorem t_salted {g : zg_G} {n : zg_N} {S : zS} (hM : TSh g) (hT : TW n S) (hW : WF S) (x : Int32) : PW zm_X6_salted 9 (tQ g n (sp_salted S x)) 0 0 0 [(0, .ref aT), (1, .int x)] [] g n := by
  have hsa := hW.salts
  have hp : 2 ^ sN S 0 3 ≤ 32 := Nat.le_trans (Nat.pow_le_pow_right (by decide) hsa) (by decide)
  have hlp : ∀ k, k ≤ 2 ^ sN S 0 3 → ∀ n1, TW n1 S → zfi n1 aT tf_thrown = 0 → zFr tXF tXA n n1 → PW zm_X6_salted 9 (tQ g n (0, .int (spPick (spSaQ S x) bLess (2 ^ sN S 0 3)), S)) 0 0 33 [(0, .ref aT), (1, .int x), (2, .int (spPick (spSaQ S x) bLess k)), (3, .int (nI k))] [] g n1 := by
    refine zl_up _ (fun k hk ih n1 hT1 hth1 hf1 => ?_)
    have q0 := ic_le (nI k)
    have q1 := ic_le (spPick (spSaQ S x) bLess k)
    have h66 : k < 2 ^ sN S 0 3 → (spPick (spSaQ S x) bLess k = -1 ∨ bLess (ic (nI k)) (ic (spPick (spSaQ S x) bLess k)) = true) → PW zm_X6_salted 9 (tQ g n (0, .int (spPick (spSaQ S x) bLess (2 ^ sN S 0 3)), S)) 0 0 66 [(0, .ref aT), (1, .int x), (2, .int (spPick (spSaQ S x) bLess k)), (3, .int (nI k))] [] g n1 := by
      intro hk1 hb
      refine pw_aload_n dX6_salted_66 0 rfl rfl ?_
      refine pw_iload_n dX6_salted_67 3 rfl rfl ?_
      refine pw_callV1 zmM_X6_goesSalted rfl (lw_V q2621 q2623 qs118 q150 q2624) rfl (ts_this hM) zc_X6 (t_goesSalted hM hT1 hW (nI k)) (by decide) (Nat.le_refl _) (Nat.le_refl _) rfl (Nat.le_of_ble_eq_true rfl) (Nat.le_of_ble_eq_true rfl) dX6_salted_68 (by intros; rintro ⟨h, _⟩; cases h) (fun v1 g1 n2 h1 => ?_)
      obtain ⟨h1, rfl, hY, hfg⟩ := h1; cases h1; obtain ⟨hT2, hth2, hf2⟩ := t_after hT1 hW hth1 hf1 hfg
      refine pw_iload_n dX6_salted_71 1 rfl rfl ?_
      refine pw_iand dX6_salted_72 ?_
      refine pw_iload_n dX6_salted_73 1 rfl rfl ?_
      refine pw_icmp_ne 81 dX6_salted_74 (by decide) (fun c_74 => ?_) (fun c_74 => ?_)
      · refine pw_iload_n dX6_salted_81 2 rfl rfl ?_
        refine pw_istore_n (ls' := [(2, _), (0, _), (1, _), (3, _)]) dX6_salted_82 rfl (by decide) rfl ?_
        refine pw_ls [1, 2, 0, 3] (ls' := [(0, _), (1, _), (2, _), (3, _)]) rfl ?_
        refine pw_iinc1 (j := 3) (ls' := [(3, _), (0, _), (1, _), (2, _)]) dX6_salted_83 rfl (by decide) rfl ?_
        refine pw_ls [1, 2, 3, 0] (ls' := [(0, _), (1, _), (2, _), (3, _)]) rfl ?_
        refine pw_goto 33 dX6_salted_86 (by decide) ?_
        have := ih (k + 1) (by omega) (by omega) n2 hT2 hth2 hf2
        rw [spPick_no (q := spSaQ S x) (bt := bLess) (m := k) (decide_eq_false c_74)] at this
        exact this
      · refine pw_iload_n dX6_salted_77 3 rfl rfl ?_
        refine pw_goto 82 dX6_salted_78 (by decide) ?_
        refine pw_istore_n (ls' := [(2, _), (0, _), (1, _), (3, _)]) dX6_salted_82 rfl (by decide) rfl ?_
        refine pw_ls [1, 2, 0, 3] (ls' := [(0, _), (1, _), (2, _), (3, _)]) rfl ?_
        refine pw_iinc1 (j := 3) (ls' := [(3, _), (0, _), (1, _), (2, _)]) dX6_salted_83 rfl (by decide) rfl ?_
        refine pw_ls [1, 2, 3, 0] (ls' := [(0, _), (1, _), (2, _), (3, _)]) rfl ?_
        refine pw_goto 33 dX6_salted_86 (by decide) ?_
        have := ih (k + 1) (by omega) (by omega) n2 hT2 hth2 hf2
        rw [show spPick (spSaQ S x) bLess (k + 1) = nI k from if_pos ⟨decide_eq_true c_74, hb⟩] at this
        exact this
    refine pw_iload_n dX6_salted_33 3 rfl rfl ?_
    refine pw_iconst (v := 1) dX6_salted_34 (by decide) ?_
    refine pw_aload_n dX6_salted_35 0 rfl rfl ?_
    refine pw_getr 12 zc_X6 (ts_this hM) (by decide) q1998 (Or.inr ⟨_, rfl⟩) (tr_told hM) dX6_salted_36 ?_
    refine pw_iconst (v := 3) dX6_salted_39 (by decide) ?_
    refine pw_iald 3 rfl (ts_told hM) (by decide) (by decide) dX6_salted_40 ?_
    rw [hT1.told (k := 3) (by decide)]
    refine pw_ishl dX6_salted_41 ?_
    rw [ishl1 (by omega)]
    refine pw_icmp_ge_N 89 dX6_salted_42 (by decide) (by omega) (by omega) (fun c_42 => ?_) (fun c_42 => ?_)
    · refine pw_iload_n dX6_salted_89 2 rfl rfl ?_
      refine pw_iret rfl dX6_salted_90 ?_
      exact tQ_eq (by rw [show k = 2 ^ sN S 0 3 by omega]) (t_qok hT1 hth1 hf1 _)
    · refine pw_iload_n dX6_salted_45 2 rfl rfl ?_
      refine pw_iconst (v := (-1)) dX6_salted_46 (by decide) ?_
      refine pw_icmp_eq 66 dX6_salted_47 (by decide) (fun c_47 => ?_) (fun c_47 => ?_)
      · exact h66 c_42 (Or.inl c_47)
      · refine pw_iload_n dX6_salted_50 3 rfl rfl ?_
        refine pw_i2l dX6_salted_51 ?_
        refine pw_callS1 zmM_X6_ones rfl (lw_S q2277 q2278 q150 q2279) (t_onesN (by omega) g n1) (by decide) (Nat.le_refl _) (Nat.le_refl _) rfl (Nat.le_of_ble_eq_true rfl) (Nat.le_of_ble_eq_true rfl) dX6_salted_52 zE.nx (zE_kk ?_)
        refine pw_iload_n dX6_salted_55 2 rfl rfl ?_
        refine pw_i2l dX6_salted_56 ?_
        refine pw_callS1 zmM_X6_ones rfl (lw_S q2277 q2278 q150 q2279) (t_onesP (by omega) c_47 g n1) (by decide) (Nat.le_refl _) (Nat.le_refl _) rfl (Nat.le_of_ble_eq_true rfl) (Nat.le_of_ble_eq_true rfl) dX6_salted_57 zE.nx (zE_kk ?_)
        refine pw_icmp_lt_N 66 dX6_salted_60 (by decide) (by omega) (by omega) (fun c_60 => ?_) (fun c_60 => ?_)
        · exact h66 c_42 (Or.inr (decide_eq_true c_60))
        · refine pw_goto 83 dX6_salted_63 (by decide) ?_
          refine pw_iinc1 (j := 3) (ls' := [(3, _), (0, _), (1, _), (2, _)]) dX6_salted_83 rfl (by decide) rfl ?_
          refine pw_ls [1, 2, 3, 0] (ls' := [(0, _), (1, _), (2, _), (3, _)]) rfl ?_
          refine pw_goto 33 dX6_salted_86 (by decide) ?_
          have := ih (k + 1) (by omega) (by omega) n1 hT1 hth1 hf1
          rw [spPick_3 (q := spSaQ S x) (bt := bLess) (m := k) c_47 (decide_eq_false (by omega))] at this
          exact this
  refine pw_aload_n dX6_salted_0 0 rfl rfl ?_
  refine pw_iconst (v := 0) dX6_salted_1 (by decide) ?_
  refine pw_puti 0 zc_X6 (ts_this hM) (by decide) (by decide) q1986 rfl (Or.inl rfl) rfl rfl dX6_salted_2 ?_
  obtain ⟨hT0, hth, hf0⟩ := t_start hT hW; generalize zpfi n aT 0 0 = n0 at hT0 hth hf0 ⊢
  refine pw_aload_n dX6_salted_5 0 rfl rfl ?_
  refine pw_aload_n dX6_salted_6 0 rfl rfl ?_
  refine pw_iload_n dX6_salted_7 1 rfl rfl ?_
  refine pw_callV1 zmM_X6_areSlips rfl (lw_V q2561 q2563 qs115 q150 q2564) rfl (ts_this hM) zc_X6 (t_areSlips hM hT0 hW x) (by decide) (Nat.le_refl _) (Nat.le_refl _) rfl (Nat.le_of_ble_eq_true rfl) (Nat.le_of_ble_eq_true rfl) dX6_salted_8 zE.nx (zE_kk ?_)
  refine pw_if_ne_B 18 dX6_salted_11 (by decide) (fun c_11 => ?_) (fun c_11 => ?_)
  · refine pw_iconst (v := 0) dX6_salted_18 (by decide) ?_
    refine pw_iconst (v := 1) dX6_salted_19 (by decide) ?_
    refine pw_iconst (v := 1) dX6_salted_20 (by decide) ?_
    refine pw_callV3 zmM_X6_bad rfl (lw_V q2188 q2190 qs62 q150 q2191) rfl (ts_this hM) zc_X6 (t_bad0 hM 1 (by decide) 1 (by decide) hth) (by decide) (Nat.le_refl _) (Nat.le_refl _) rfl (Nat.le_of_ble_eq_true rfl) (Nat.le_of_ble_eq_true rfl) dX6_salted_21 zE.nx (zE_kk ?_)
    refine pw_if_eq 29 dX6_salted_24 (by decide) (fun c_24 => ?_) (fun c_24 => ?_)
    · refine pw_iconst (v := (-1)) dX6_salted_29 (by decide) ?_
      refine pw_istore_n (ls' := [(2, _), (0, _), (1, _)]) dX6_salted_30 rfl (by decide) rfl ?_
      refine pw_ls [1, 2, 0] (ls' := [(0, _), (1, _), (2, _)]) rfl ?_
      refine pw_iconst (v := 0) dX6_salted_31 (by decide) ?_
      refine pw_istore_n (ls' := [(3, _), (0, _), (1, _), (2, _)]) dX6_salted_32 rfl (by decide) rfl ?_
      refine pw_ls [1, 2, 3, 0] (ls' := [(0, _), (1, _), (2, _), (3, _)]) rfl ?_
      rw [show sp_salted S x = _ from spNeed_t c_11]
      exact hlp 0 (Nat.zero_le _) n0 hT0 hth hf0
    · exact absurd rfl c_24
  · refine pw_iconst (v := 1) dX6_salted_14 (by decide) ?_
    refine pw_goto 19 dX6_salted_15 (by decide) ?_
    refine pw_iconst (v := 1) dX6_salted_19 (by decide) ?_
    refine pw_iconst (v := 1) dX6_salted_20 (by decide) ?_
    refine pw_callV3 zmM_X6_bad rfl (lw_V q2188 q2190 qs62 q150 q2191) rfl (ts_this hM) zc_X6 (t_bad1 hM 1 (by decide) 1 (by decide) hth) (by decide) (Nat.le_refl _) (Nat.le_refl _) rfl (Nat.le_of_ble_eq_true rfl) (Nat.le_of_ble_eq_true rfl) dX6_salted_21 zE.nx (zE_kk ?_)
    refine pw_if_eq 29 dX6_salted_24 (by decide) (fun c_24 => ?_) (fun c_24 => ?_)
    · exact absurd c_24 (by decide)
    · refine pw_iconst (v := 0) dX6_salted_27 (by decide) ?_
      refine pw_iret rfl dX6_salted_28 ?_
      exact tQ_eq (spNeed_f c_11) (t_qbad hT0 hW hf0 1 1 (by decide) _)

/-! ===== the reference: two schools; judge ===== -/
theorem zK_e {b r : Nat} (h : zK ≤ b) : zK ≤ b + 1 + r := Nat.le_trans h (by omega)
abbrev scD (S : zS) (s w : Nat) : Option Nat := if w < sN S 0 1 ∧ w % 2 = s then some (sN S 2 w) else none
abbrev scR (S : zS) (s w : Nat) : zYr := yRun S (sN S 0 5) (scD S s) w
abbrev scB (S : zS) (s w : Nat) : Int32 := yBits (scR S s (w + 1)).1
theorem scD_ok {S : zS} (hW : WF S) (s : Nat) : ∀ w k, scD S s w = some k → okb S k ∧ w < 17 := fun w k e => by
  have := hW.slips
  unfold scD at e
  split at e
  · next hw => cases e; exact ⟨Or.inl (hW.perm.1 w hw.1), by omega⟩
  · exact nomatch e
def scA (s a : Nat) : Prop := yA a ∨ a = at_schoolBehind + 1 + s
def scA2 (a : Nat) : Prop := yA a ∨ a = at_schoolBehind + 1 ∨ a = at_schoolBehind + 2
theorem scA2_tA : ∀ a, scA2 a → tA a := fun a h => by
  rcases h with h | rfl | rfl
  · exact yA_tA a h
  · unfold tA; decide
  · unfold tA; decide
theorem scA_2 {s : Nat} (hs : s < 2) : ∀ a, scA s a → scA2 a := fun a h => by
  rcases h with h | h
  · exact Or.inl h
  · rcases (by omega : s = 0 ∨ s = 1) with rfl | rfl
    · exact Or.inr (Or.inl h)
    · exact Or.inr (Or.inr h)
theorem t_school1 {g : zg_G} {n : zg_N} {S : zS} (hM : TSh g) (hT : TW n S) (hW : WF S) (s : Nat) (hs2 : s < 2) (P : zP) (hP : ∀ n2, zFr yF (scA s) n n2 → (∀ w, w < 52 → zai n2 (at_schoolBehind + 1 + s) w = scB S s w) → PW zm_X6_schools 7 P 0 0 80 [(0, .ref aT), (1, .int (nI s)), (2, .int 52)] [] g n2) :
    PW zm_X6_schools 7 P 0 0 7 [(0, .ref aT), (1, .int (nI s))] [] g n := by
  have hsl := hW.slips
  have hro := yRun_ok (law := sN S 0 5) (scD_ok hW s)
  have hKt : ∀ {n1 : zg_N}, zFr yF (scA s) n n1 → TW n1 S := fun hf => hT.keep hW (hf.mono yF_tF (fun a h => scA2_tA a (scA_2 hs2 a h)))
  have hlp : ∀ w, w ≤ 52 → ∀ n1, TY n1 (scR S s w) → (∀ v, v < w → zai n1 (at_schoolBehind + 1 + s) v = scB S s v) → zfi n1 aT tf_yearLaw = nI (sN S 0 5) → zFr yF (scA s) n n1 →
      PW zm_X6_schools 7 P 0 0 19 [(0, .ref aT), (1, .int (nI s)), (2, .int (nI w))] [] g n1 := by
    refine zl_up _ (fun w hw ih n1 hY hh hlw hf => ?_)
    have h58 : w < 52 → ∀ n3, TY n3 (yMon S (sN S 0 5) w (scD S s w) (scR S s w)) → zFr yF1 yA1 n1 n3 → PW zm_X6_schools 7 P 0 0 58 [(0, .ref aT), (1, .int (nI s)), (2, .int (nI w))] [] g n3 := by
      intro hw1 n3 hY3 hf3
      have hT3 := hKt (hf.tr (hf3.mono (fun _ _ z => Or.inl z) (fun _ z => Or.inl (Or.inl z))))
      have hk := hro (w + 1)
      refine pw_aload_n dX6_schools_58 0 rfl rfl ?_
      refine pw_callV0 zmM_X6_ages rfl (lw_V q2455 q2457 qs107 q150 q2458) rfl (ts_this hM) zc_X6 (t_ages hM hT3 hW hY3 hk.2.2 hk.1) (by decide) (Nat.le_refl _) (Nat.le_refl _) rfl (Nat.le_of_ble_eq_true rfl) (Nat.le_of_ble_eq_true rfl) dX6_schools_59 (by intros; rintro ⟨h, _⟩; cases h) (fun v1 g1 n4 h4 => ?_)
      obtain ⟨h1, rfl, hY4, hf4⟩ := h4
      cases h1
      replace hY4 : TY n4 (scR S s (w + 1)) := hY4
      have hf5 := hf3.tr hf4
      refine pw_aload_n dX6_schools_62 0 rfl rfl ?_
      refine pw_getr 60 zc_X6 (ts_this hM) (by decide) q2046 (Or.inr ⟨_, rfl⟩) (tr_schoolBehind hM) dX6_schools_63 ?_
      refine pw_iload_n dX6_schools_66 1 rfl rfl ?_
      refine pw_aald s rfl (ts_schoolBehind hM) rfl (Or.inr ⟨_, rfl⟩) (tw_schoolBehind hM s (by omega)) (by omega) (by decide) dX6_schools_67 ?_
      refine pw_iload_n dX6_schools_68 2 rfl rfl ?_
      refine pw_aload_n dX6_schools_69 0 rfl rfl ?_
      refine pw_callV0 zmM_X6_heldNow rfl (lw_V q2459 q2461 qs108 q150 q2462) rfl (ts_this hM) zc_X6 (t_heldNow hM hW hY4.1 (hro (w + 1)).2.2 (hro (w + 1)).1) (by decide) (Nat.le_refl _) (Nat.le_refl _) rfl (Nat.le_of_ble_eq_true rfl) (Nat.le_of_ble_eq_true rfl) dX6_schools_70 zE.nx (zE_kk ?_)
      refine pw_iast w rfl (tv_schoolBehind hM s (by omega)) (zK_e (by decide)) (by omega) (by decide) dX6_schools_73 ?_
      refine pw_iinc1 (j := 2) (ls' := [(2, _), (0, _), (1, _)]) dX6_schools_74 rfl (by decide) rfl ?_
      refine pw_ls [1, 2, 0] (ls' := [(0, _), (1, _), (2, _)]) rfl ?_
      refine pw_goto 19 dX6_schools_77 (by decide) ?_
      refine ih (w + 1) (by omega) (by omega) _ ⟨hY4.1.put _ _ _ (by show 1541 + 1 + s ≠ 1528; omega), hY4.2.keep (F := zB0) (B := fun a => a = at_schoolBehind + 1 + s) (zFr.pai zFr.rf rfl) (fun _ _ z => z) (fun a ha z => by have : 1529 + a = 1541 + 1 + s := z; omega)⟩ (fun v hv => ?_) (((hf5.1 aT tf_yearLaw (fun z => by have := z.2; revert this; decide)).1).trans hlw) (zFr.pai (hf.tr (hf5.mono (fun _ _ z => Or.inl z) (fun _ z => Or.inl (Or.inl z)))) (Or.inr rfl))
      rw [zai_p]
      by_cases e : v = w
      · subst e; rw [if_pos ⟨rfl, rfl⟩]
      · rw [if_neg (fun z => e z.2), (hf5.2 (at_schoolBehind + 1 + s) (fun z => by unfold yA1 at z; have : 1541 + 1 + s = 1526 ∨ (1528 ≤ 1541 + 1 + s ∧ 1541 + 1 + s ≤ 1533) ∨ 1541 + 1 + s = 1536 := z; omega) v).1]; exact hh v (by omega)
    have hT1 := hKt hf
    refine pw_iload_n dX6_schools_19 2 rfl rfl ?_
    refine pw_bipush (v := 52) dX6_schools_20 (by decide) ?_
    refine pw_icmp_ge_N (b := 52) 80 dX6_schools_22 (by decide) (by omega) (by omega) (fun c_22 => ?_) (fun c_22 => ?_)
    · have hw52 : w = 52 := by omega
      subst hw52
      exact hP n1 hf hh
    · refine pw_aload_n dX6_schools_25 0 rfl rfl ?_
      refine pw_iload_n dX6_schools_26 2 rfl rfl ?_
      refine pw_callV1 zmM_X6_kills rfl (lw_V q2416 q2418 qs98 q150 q2419) rfl (ts_this hM) zc_X6 (t_kills hM hT1 hW hY (hro w).2.2 (hro w).1 w c_22) (by decide) (Nat.le_refl _) (Nat.le_refl _) rfl (Nat.le_of_ble_eq_true rfl) (Nat.le_of_ble_eq_true rfl) dX6_schools_27 (by intros; rintro ⟨h, _⟩; cases h) (fun v1 g1 n2 h2 => ?_)
      obtain ⟨h1, rfl, hY2, hf2⟩ := h2
      cases h1
      have hT2 := hKt (hf.tr (hf2.mono (fun _ _ z => Or.inl z) (fun _ z => Or.inl (Or.inl z))))
      refine pw_iload_n dX6_schools_30 2 rfl rfl ?_
      refine pw_aload_n dX6_schools_31 0 rfl rfl ?_
      refine pw_getr 12 zc_X6 (ts_this hM) (by decide) q1998 (Or.inr ⟨_, rfl⟩) (tr_told hM) dX6_schools_32 ?_
      refine pw_iconst (v := 1) dX6_schools_35 (by decide) ?_
      refine pw_iald 1 rfl (ts_told hM) (by decide) (by decide) dX6_schools_36 ?_
      rw [hT2.told (k := 1) (by decide)]
      refine pw_icmp_ge_N 58 dX6_schools_37 (by decide) (by omega) (by omega) (fun c_37 => ?_) (fun c_37 => ?_)
      · refine h58 c_22 n2 ?_ hf2
        rw [show scD S s w = none from if_neg (fun z => absurd z.1 (by omega))]
        exact hY2
      · refine pw_iload_n dX6_schools_40 2 rfl rfl ?_
        refine pw_iconst (v := 2) dX6_schools_41 (by decide) ?_
        refine pw_irem dX6_schools_42 (by decide) ?_
        rw [show nI w - nI w / 2 * 2 = nI (w % 2) from pk_rem (by omega) (by decide) (by decide)]
        refine pw_iload_n dX6_schools_43 1 rfl rfl ?_
        refine pw_icmp_ne_N 58 dX6_schools_44 (by decide) (by omega) (by omega) (fun c_44 => ?_) (fun c_44 => ?_)
        · refine h58 c_22 n2 ?_ hf2
          rw [show scD S s w = none from if_neg (fun z => c_44 z.2)]
          exact hY2
        · refine pw_aload_n dX6_schools_47 0 rfl rfl ?_
          refine pw_aload_n dX6_schools_48 0 rfl rfl ?_
          refine pw_getr 21 zc_X6 (ts_this hM) (by decide) q2007 (Or.inr ⟨_, rfl⟩) (tr_order hM) dX6_schools_49 ?_
          refine pw_iload_n dX6_schools_52 2 rfl rfl ?_
          refine pw_iald w rfl (ts_order hM) (by omega) (by decide) dX6_schools_53 ?_
          rw [hT2.od (show w < 12 by omega)]
          refine pw_iload_n dX6_schools_54 2 rfl rfl ?_
          refine pw_callV2 zmM_X6_draws rfl (lw_V q2428 q2430 qs101 q150 q2431) rfl (ts_this hM) zc_X6 (t_draws hM hT2 hW hY2 (sN S 0 5) ((hf2.1 aT tf_yearLaw (fun z => by have := z.2; revert this; decide)).1.trans hlw) hW.law (by have := (yKl_ok (w := w) (scR S s w).1 [] (scR S s w).2 (fun b hb => nomatch hb) (hro w).1).2; have h9 : (scR S s w).1.length ≤ w := (hro w).2.1; simp only [List.length_nil] at *; omega) (yKl_ok (w := w) (scR S s w).1 [] (scR S s w).2 (fun b hb => nomatch hb) (hro w).1).1 (sN S 2 w) w (Or.inl (hW.perm.1 w c_37)) c_22) (by decide) (Nat.le_refl _) (Nat.le_refl _) rfl (Nat.le_of_ble_eq_true rfl) (Nat.le_of_ble_eq_true rfl) dX6_schools_55 (by intros; rintro ⟨h, _⟩; cases h) (fun v1 g1 n3 h3 => ?_)
          obtain ⟨h1, rfl, hY3, hf3⟩ := h3
          cases h1
          refine h58 c_22 n3 ?_ (hf2.tr hf3)
          rw [show scD S s w = some (sN S 2 w) from if_pos ⟨c_37, c_44⟩]
          exact hY3
  refine pw_aload_n dX6_schools_7 0 rfl rfl ?_
  refine pw_aload_n dX6_schools_8 0 rfl rfl ?_
  refine pw_getr 12 zc_X6 (ts_this hM) (by decide) q1998 (Or.inr ⟨_, rfl⟩) (tr_told hM) dX6_schools_9 ?_
  refine pw_iconst (v := 5) dX6_schools_12 (by decide) ?_
  refine pw_iald 5 rfl (ts_told hM) (by decide) (by decide) dX6_schools_13 ?_
  rw [hT.told (k := 5) (by decide)]
  refine pw_callV1 zmM_X6_begins rfl (lw_V q2412 q2414 qs97 q150 q2415) rfl (ts_this hM) zc_X6 (t_begins hM (sN S 0 5)) (by decide) (Nat.le_refl _) (Nat.le_refl _) rfl (Nat.le_of_ble_eq_true rfl) (Nat.le_of_ble_eq_true rfl) dX6_schools_14 (by intros; rintro ⟨h, _⟩; cases h) (fun v1 g1 n1 h1 => ?_)
  obtain ⟨h1, rfl, hY, hlw, hf⟩ := h1
  cases h1
  refine pw_iconst (v := 0) dX6_schools_17 (by decide) ?_
  refine pw_istore_n (ls' := [(2, _), (0, _), (1, _)]) dX6_schools_18 rfl (by decide) rfl ?_
  refine pw_ls [1, 2, 0] (ls' := [(0, _), (1, _), (2, _)]) rfl ?_
  exact hlp 0 (Nat.zero_le _) n1 hY (fun v hv => absurd hv (Nat.not_lt_zero _)) hlw (hf.mono (fun _ _ z => z) (fun _ z => Or.inl z))
theorem t_schools {g : zg_G} {n : zg_N} {S : zS} (hM : TSh g) (hT : TW n S) (hW : WF S) : PW zm_X6_schools 7 (fun o g1 n1 => o = .inl none ∧ g1 = g ∧ (∀ s, s < 2 → ∀ w, w < 52 → zai n1 (at_schoolBehind + 1 + s) w = scB S s w) ∧ zFr yF scA2 n n1) 0 0 0 [(0, .ref aT)] [] g n := by
  refine pw_iconst (v := 0) dX6_schools_0 (by decide) ?_
  refine pw_istore_n (ls' := [(1, _), (0, _)]) dX6_schools_1 rfl (by decide) rfl ?_
  refine pw_ls [1, 0] (ls' := [(0, _), (1, _)]) rfl ?_
  refine pw_iload_n dX6_schools_2 1 rfl rfl ?_
  refine pw_iconst (v := 2) dX6_schools_3 (by decide) ?_
  refine pw_icmp_ge 86 dX6_schools_4 (by decide) (fun c_4 => ?_) (fun c_4 => ?_)
  · exact absurd c_4 (by decide)
  · refine t_school1 hM hT hW 0 (by decide) _ (fun n1 hf1 h1 => ?_)
    refine pw_iinc1 (j := 1) (ls' := [(1, _), (0, _), (2, _)]) dX6_schools_80 rfl (by decide) rfl ?_
    refine pw_ls [1, 0, 2] (ls' := [(0, _), (1, _), (2, _)]) rfl ?_
    refine pw_goto 2 dX6_schools_83 (by decide) ?_
    refine pw_ls [0, 1] (ls' := [(0, _), (1, _)]) rfl ?_
    refine pw_iload_n dX6_schools_2 1 rfl rfl ?_
    refine pw_iconst (v := 2) dX6_schools_3 (by decide) ?_
    refine pw_icmp_ge 86 dX6_schools_4 (by decide) (fun c_4 => ?_) (fun c_4 => ?_)
    · exact absurd c_4 (by decide)
    · refine t_school1 hM (hT.keep hW (hf1.mono yF_tF (fun a h => scA2_tA a (scA_2 (by decide) a h)))) hW 1 (by decide) _ (fun n2 hf2 h2 => ?_)
      refine pw_iinc1 (j := 1) (ls' := [(1, _), (0, _), (2, _)]) dX6_schools_80 rfl (by decide) rfl ?_
      refine pw_ls [1, 0, 2] (ls' := [(0, _), (1, _), (2, _)]) rfl ?_
      refine pw_goto 2 dX6_schools_83 (by decide) ?_
      refine pw_ls [0, 1] (ls' := [(0, _), (1, _)]) rfl ?_
      refine pw_iload_n dX6_schools_2 1 rfl rfl ?_
      refine pw_iconst (v := 2) dX6_schools_3 (by decide) ?_
      refine pw_icmp_ge 86 dX6_schools_4 (by decide) (fun c_4 => ?_) (fun c_4 => ?_)
      · refine pw_vret rfl dX6_schools_86 ?_
        refine ⟨rfl, rfl, fun s hs w hw => ?_, (hf1.mono (fun _ _ z => z) (scA_2 (by decide))).tr (hf2.mono (fun _ _ z => z) (scA_2 (by decide)))⟩
        rcases (by omega : s = 0 ∨ s = 1) with rfl | rfl
        · exact ((hf2.2 (at_schoolBehind + 1 + 0) (fun z => by rcases z with (z | z | z) | z; (unfold yA1 at z; revert z; decide); (revert z; decide); (revert z; decide); (revert z; decide)) w).1).trans (h1 w hw)
        · exact h2 w hw
      · exact absurd (by decide) c_4
theorem t_after2 {n n0 n1 : zg_N} {S : zS} (hT0 : TW n0 S) (hW : WF S) (hth : zfi n0 aT tf_thrown = 0) (hf0 : zFr tXF tXA n n0) (hf : zFr yF scA2 n0 n1) : TW n1 S ∧ zfi n1 aT tf_thrown = 0 ∧ zFr tXF tXA n n1 :=
  ⟨hT0.keep hW (hf.mono yF_tF scA2_tA), ((hf.1 _ _ (fun h => gF_thrown (Or.inl h))).1).trans hth, hf0.tr (hf.mono (fun a k h => tF_X a k (yF_tF a k h)) (fun a h => tA_X a (scA2_tA a h)))⟩
def sp_school (S : zS) (x w : Int32) : Int32 × Value × zS := spNeed S (inB x 2 && inB w 52) 1 1 (.int 0) (0, .int (scB S x.toNatClampNeg w.toNatClampNeg), S)
theorem t_q_school {g : zg_G} {n : zg_N} {S : zS} (hM : TSh g) (hT : TW n S) (hW : WF S) (x w : Int32) : PW zm_X6_school 9 (tQ g n (sp_school S x w)) 0 0 0 [(0, .ref aT), (1, .int x), (2, .int w)] [] g n := by
  refine pw_aload_n dX6_school_0 0 rfl rfl ?_
  refine pw_iconst (v := 0) dX6_school_1 (by decide) ?_
  refine pw_puti 0 zc_X6 (ts_this hM) (by decide) (by decide) q1986 rfl (Or.inl rfl) rfl rfl dX6_school_2 ?_
  obtain ⟨hT0, hth, hf0⟩ := t_start hT hW; generalize zpfi n aT 0 0 = n0 at hT0 hth hf0 ⊢
  refine pw_aload_n dX6_school_5 0 rfl rfl ?_
  refine pw_iload_n dX6_school_6 1 rfl rfl ?_
  refine pw_callS1 zmM_X6_isSchool rfl (lw_S q2633 q2634 q150 q2635) (t_isSchool x _ _) (by decide) (Nat.le_refl _) (Nat.le_refl _) rfl (Nat.le_of_ble_eq_true rfl) (Nat.le_of_ble_eq_true rfl) dX6_school_7 zE.nx (zE_kk ?_)
  refine pw_if_eq_B 20 dX6_school_10 (by decide) (fun c_10 => ?_) (fun c_10 => ?_)
  · refine pw_iconst (v := 1) dX6_school_20 (by decide) ?_
    refine pw_goto 25 dX6_school_21 (by decide) ?_
    refine pw_iconst (v := 1) dX6_school_25 (by decide) ?_
    refine pw_iconst (v := 1) dX6_school_26 (by decide) ?_
    refine pw_callV3 zmM_X6_bad rfl (lw_V q2188 q2190 qs62 q150 q2191) rfl (ts_this hM) zc_X6 (t_bad1 hM 1 (by decide) 1 (by decide) hth) (by decide) (Nat.le_refl _) (Nat.le_refl _) rfl (Nat.le_of_ble_eq_true rfl) (Nat.le_of_ble_eq_true rfl) dX6_school_27 zE.nx (zE_kk ?_)
    refine pw_if_eq 35 dX6_school_30 (by decide) (fun c_30 => ?_) (fun c_30 => ?_)
    · exact absurd c_30 (by decide)
    · refine pw_iconst (v := 0) dX6_school_33 (by decide) ?_
      refine pw_iret rfl dX6_school_34 ?_
      exact tQ_eq (spNeed_f (fun h => c_10 (by simp only [Bool.and_eq_true] at h; exact h.1))) (t_qbad hT0 hW hf0 1 1 (by decide) _)
  · refine pw_iload_n dX6_school_13 2 rfl rfl ?_
    refine pw_callS1 zmM_X6_isWeek rfl (lw_S q2348 q2349 q150 q2350) (t_isWeek w _ _) (by decide) (Nat.le_refl _) (Nat.le_refl _) rfl (Nat.le_of_ble_eq_true rfl) (Nat.le_of_ble_eq_true rfl) dX6_school_14 zE.nx (zE_kk ?_)
    refine pw_if_ne_B 24 dX6_school_17 (by decide) (fun c_17 => ?_) (fun c_17 => ?_)
    · refine pw_iconst (v := 0) dX6_school_24 (by decide) ?_
      refine pw_iconst (v := 1) dX6_school_25 (by decide) ?_
      refine pw_iconst (v := 1) dX6_school_26 (by decide) ?_
      refine pw_callV3 zmM_X6_bad rfl (lw_V q2188 q2190 qs62 q150 q2191) rfl (ts_this hM) zc_X6 (t_bad0 hM 1 (by decide) 1 (by decide) hth) (by decide) (Nat.le_refl _) (Nat.le_refl _) rfl (Nat.le_of_ble_eq_true rfl) (Nat.le_of_ble_eq_true rfl) dX6_school_27 zE.nx (zE_kk ?_)
      refine pw_if_eq 35 dX6_school_30 (by decide) (fun c_30 => ?_) (fun c_30 => ?_)
      · have hok : (inB x 2 && inB w 52) = true := by rw [c_10, c_17]; rfl
        obtain ⟨s, hs, rfl⟩ := inB_ex (by decide) c_10
        obtain ⟨w, hw, rfl⟩ := inB_ex (by decide) c_17
        rw [show sp_school S (nI s) (nI w) = (0, .int (scB S s w), S) from (spNeed_t hok).trans (by rw [nI_clamp (by omega), nI_clamp (by omega)])]
        refine pw_aload_n dX6_school_35 0 rfl rfl ?_
        refine pw_callV0 zmM_X6_schools rfl (lw_V q2636 q2638 qs119 q150 q2639) rfl (ts_this hM) zc_X6 (t_schools hM hT0 hW) (by decide) (Nat.le_refl _) (Nat.le_refl _) rfl (Nat.le_of_ble_eq_true rfl) (Nat.le_of_ble_eq_true rfl) dX6_school_36 (by intros; rintro ⟨h, _⟩; cases h) (fun v1 g1 n1 h1 => ?_)
        obtain ⟨h1, rfl, hB, hfg⟩ := h1; cases h1; obtain ⟨hT1, hth1, hf1⟩ := t_after2 hT0 hW hth hf0 hfg
        refine pw_aload_n dX6_school_39 0 rfl rfl ?_
        refine pw_getr 60 zc_X6 (ts_this hM) (by decide) q2046 (Or.inr ⟨_, rfl⟩) (tr_schoolBehind hM) dX6_school_40 ?_
        refine pw_iload_n dX6_school_43 1 rfl rfl ?_
        refine pw_aald s rfl (ts_schoolBehind hM) rfl (Or.inr ⟨_, rfl⟩) (tw_schoolBehind hM s (by omega)) (by omega) (by decide) dX6_school_44 ?_
        refine pw_iload_n dX6_school_45 2 rfl rfl ?_
        refine pw_iald w rfl (tv_schoolBehind hM s (by omega)) (by omega) (by decide) dX6_school_46 ?_
        rw [hB s hs w hw]
        refine pw_iret rfl dX6_school_47 ?_
        exact t_qok hT1 hth1 hf1 _
      · exact absurd rfl c_30
    · refine pw_iconst (v := 1) dX6_school_20 (by decide) ?_
      refine pw_goto 25 dX6_school_21 (by decide) ?_
      refine pw_iconst (v := 1) dX6_school_25 (by decide) ?_
      refine pw_iconst (v := 1) dX6_school_26 (by decide) ?_
      refine pw_callV3 zmM_X6_bad rfl (lw_V q2188 q2190 qs62 q150 q2191) rfl (ts_this hM) zc_X6 (t_bad1 hM 1 (by decide) 1 (by decide) hth) (by decide) (Nat.le_refl _) (Nat.le_refl _) rfl (Nat.le_of_ble_eq_true rfl) (Nat.le_of_ble_eq_true rfl) dX6_school_27 zE.nx (zE_kk ?_)
      refine pw_if_eq 35 dX6_school_30 (by decide) (fun c_30 => ?_) (fun c_30 => ?_)
      · exact absurd c_30 (by decide)
      · refine pw_iconst (v := 0) dX6_school_33 (by decide) ?_
        refine pw_iret rfl dX6_school_34 ?_
        exact tQ_eq (spNeed_f (fun h => c_17 (by simp only [Bool.and_eq_true] at h; exact h.2))) (t_qbad hT0 hW hf0 1 1 (by decide) _)
abbrev scRt (S : zS) (s w : Nat) : Bool := decide (spTog S (scB S s w) w = lN (2 ^ sN S 0 4))
def sp_right (S : zS) (x : Int32) : Int32 × Value × zS := spNeed S (inB x 2) 1 1 (.int 0) (0, .int (spFst (scRt S x.toNatClampNeg) 52 0), S)
theorem t_right {g : zg_G} {n : zg_N} {S : zS} (hM : TSh g) (hT : TW n S) (hW : WF S) (x : Int32) : PW zm_X6_right 9 (tQ g n (sp_right S x)) 0 0 0 [(0, .ref aT), (1, .int x)] [] g n := by
  have h64 := hW.world64
  have hlp : ∀ n1, TW n1 S → zfi n1 aT tf_thrown = 0 → zFr tXF tXA n n1 → ∀ s, s < 2 → (∀ w, w < 52 → zai n1 (at_schoolBehind + 1 + s) w = scB S s w) → ∀ R, ∀ k, k ≤ 52 → R = spFst (scRt S s) (52 - k) k → PW zm_X6_right 9 (tQ g n (0, .int R, S)) 0 0 34 [(0, .ref aT), (1, .int (nI s)), (2, .int (nI k))] [] g n1 := by
    intro n1 hT1 hth1 hf1 s hs hB R
    refine zl_up _ (fun k hk ih hR => ?_)
    refine pw_iload_n dX6_right_34 2 rfl rfl ?_
    refine pw_bipush (v := 52) dX6_right_35 (by decide) ?_
    refine pw_icmp_ge_N (b := 52) 73 dX6_right_37 (by decide) (by omega) (by omega) (fun c_37 => ?_) (fun c_37 => ?_)
    · refine pw_iconst (v := (-1)) dX6_right_73 (by decide) ?_
      refine pw_iret rfl dX6_right_74 ?_
      exact tQ_eq (by rw [hR, spFst_end c_37]) (t_qok hT1 hth1 hf1 _)
    · refine pw_aload_n dX6_right_40 0 rfl rfl ?_
      refine pw_aload_n dX6_right_41 0 rfl rfl ?_
      refine pw_getr 60 zc_X6 (ts_this hM) (by decide) q2046 (Or.inr ⟨_, rfl⟩) (tr_schoolBehind hM) dX6_right_42 ?_
      refine pw_iload_n dX6_right_45 1 rfl rfl ?_
      refine pw_aald s rfl (ts_schoolBehind hM) rfl (Or.inr ⟨_, rfl⟩) (tw_schoolBehind hM s (by omega)) (by omega) (by decide) dX6_right_46 ?_
      refine pw_iload_n dX6_right_47 2 rfl rfl ?_
      refine pw_iald k rfl (tv_schoolBehind hM s (by omega)) (by omega) (by decide) dX6_right_48 ?_
      rw [hB k c_37]
      refine pw_iload_n dX6_right_49 2 rfl rfl ?_
      refine pw_callV2 zmM_X6_togetherIn rfl (lw_V q2475 q2477 qs109 q150 q2478) rfl (ts_this hM) zc_X6 (t_togetherIn hM hT1 hW _ k c_37) (by decide) (Nat.le_refl _) (Nat.le_refl _) rfl (Nat.le_of_ble_eq_true rfl) (Nat.le_of_ble_eq_true rfl) dX6_right_50 zE.nx (zE_kk ?_)
      refine pw_lconst (v := 1) dX6_right_53 rfl ?_
      refine pw_aload_n dX6_right_54 0 rfl rfl ?_
      refine pw_getr 12 zc_X6 (ts_this hM) (by decide) q1998 (Or.inr ⟨_, rfl⟩) (tr_told hM) dX6_right_55 ?_
      refine pw_iconst (v := 4) dX6_right_58 (by decide) ?_
      refine pw_iald 4 rfl (ts_told hM) (by decide) (by decide) dX6_right_59 ?_
      rw [hT1.told (k := 4) (by decide)]
      refine pw_lshl dX6_right_60 ?_
      rw [lshl1 h64]
      refine pw_lcmp dX6_right_61 ?_
      refine pw_if_ne_L 67 dX6_right_62 (by decide) (fun c_62 => ?_) (fun c_62 => ?_)
      · refine pw_iinc1 (j := 2) (ls' := [(2, _), (0, _), (1, _)]) dX6_right_67 rfl (by decide) rfl ?_
        refine pw_ls [1, 2, 0] (ls' := [(0, _), (1, _), (2, _)]) rfl ?_
        refine pw_goto 34 dX6_right_70 (by decide) ?_
        exact ih (k + 1) (by omega) (by omega) (hR.trans (spFst_go c_37 (decide_eq_false c_62)))
      · refine pw_iload_n dX6_right_65 2 rfl rfl ?_
        refine pw_iret rfl dX6_right_66 ?_
        exact tQ_eq (by rw [hR, spFst_hit c_37 (decide_eq_true c_62)]) (t_qok hT1 hth1 hf1 _)
  refine pw_aload_n dX6_right_0 0 rfl rfl ?_
  refine pw_iconst (v := 0) dX6_right_1 (by decide) ?_
  refine pw_puti 0 zc_X6 (ts_this hM) (by decide) (by decide) q1986 rfl (Or.inl rfl) rfl rfl dX6_right_2 ?_
  obtain ⟨hT0, hth, hf0⟩ := t_start hT hW; generalize zpfi n aT 0 0 = n0 at hT0 hth hf0 ⊢
  refine pw_aload_n dX6_right_5 0 rfl rfl ?_
  refine pw_iload_n dX6_right_6 1 rfl rfl ?_
  refine pw_callS1 zmM_X6_isSchool rfl (lw_S q2633 q2634 q150 q2635) (t_isSchool x _ _) (by decide) (Nat.le_refl _) (Nat.le_refl _) rfl (Nat.le_of_ble_eq_true rfl) (Nat.le_of_ble_eq_true rfl) dX6_right_7 zE.nx (zE_kk ?_)
  refine pw_if_ne_B 17 dX6_right_10 (by decide) (fun c_10 => ?_) (fun c_10 => ?_)
  · refine pw_iconst (v := 0) dX6_right_17 (by decide) ?_
    refine pw_iconst (v := 1) dX6_right_18 (by decide) ?_
    refine pw_iconst (v := 1) dX6_right_19 (by decide) ?_
    refine pw_callV3 zmM_X6_bad rfl (lw_V q2188 q2190 qs62 q150 q2191) rfl (ts_this hM) zc_X6 (t_bad0 hM 1 (by decide) 1 (by decide) hth) (by decide) (Nat.le_refl _) (Nat.le_refl _) rfl (Nat.le_of_ble_eq_true rfl) (Nat.le_of_ble_eq_true rfl) dX6_right_20 zE.nx (zE_kk ?_)
    refine pw_if_eq 28 dX6_right_23 (by decide) (fun c_23 => ?_) (fun c_23 => ?_)
    · obtain ⟨s, hs, rfl⟩ := inB_ex (by decide) c_10
      rw [show sp_right S (nI s) = (0, .int (spFst (scRt S s) 52 0), S) from (spNeed_t c_10).trans (by rw [nI_clamp (by omega)])]
      refine pw_aload_n dX6_right_28 0 rfl rfl ?_
      refine pw_callV0 zmM_X6_schools rfl (lw_V q2636 q2638 qs119 q150 q2639) rfl (ts_this hM) zc_X6 (t_schools hM hT0 hW) (by decide) (Nat.le_refl _) (Nat.le_refl _) rfl (Nat.le_of_ble_eq_true rfl) (Nat.le_of_ble_eq_true rfl) dX6_right_29 (by intros; rintro ⟨h, _⟩; cases h) (fun v1 g1 n1 h1 => ?_)
      obtain ⟨h1, rfl, hB, hfg⟩ := h1; cases h1; obtain ⟨hT1, hth1, hf1⟩ := t_after2 hT0 hW hth hf0 hfg
      refine pw_iconst (v := 0) dX6_right_32 (by decide) ?_
      refine pw_istore_n (ls' := [(2, _), (0, _), (1, _)]) dX6_right_33 rfl (by decide) rfl ?_
      refine pw_ls [1, 2, 0] (ls' := [(0, _), (1, _), (2, _)]) rfl ?_
      exact hlp n1 hT1 hth1 hf1 s hs (hB s hs) _ 0 (Nat.zero_le _) rfl
    · exact absurd rfl c_23
  · refine pw_iconst (v := 1) dX6_right_13 (by decide) ?_
    refine pw_goto 18 dX6_right_14 (by decide) ?_
    refine pw_iconst (v := 1) dX6_right_18 (by decide) ?_
    refine pw_iconst (v := 1) dX6_right_19 (by decide) ?_
    refine pw_callV3 zmM_X6_bad rfl (lw_V q2188 q2190 qs62 q150 q2191) rfl (ts_this hM) zc_X6 (t_bad1 hM 1 (by decide) 1 (by decide) hth) (by decide) (Nat.le_refl _) (Nat.le_refl _) rfl (Nat.le_of_ble_eq_true rfl) (Nat.le_of_ble_eq_true rfl) dX6_right_20 zE.nx (zE_kk ?_)
    refine pw_if_eq 28 dX6_right_23 (by decide) (fun c_23 => ?_) (fun c_23 => ?_)
    · exact absurd c_23 (by decide)
    · refine pw_iconst (v := 0) dX6_right_26 (by decide) ?_
      refine pw_iret rfl dX6_right_27 ?_
      exact tQ_eq (spNeed_f c_10) (t_qbad hT0 hW hf0 1 1 (by decide) _)
abbrev scWr (S : zS) (w : Nat) : Bool := decide (spTog S (scB S 0 w ||| scB S 1 w) w = 0)
def spWf (p : Nat → Bool) : Nat → Int32
  | 0 => -1
  | k + 1 => if p k = true ∧ ct p k = 0 then nI k else spWf p k
def sp_war (S : zS) (x : Int32) : Int32 × Value × zS := spNeed S (inB x 2) 1 1 (.int 0) (0, .int (if x = 0 then nI (ct (scWr S) 52) else spWf (scWr S) 52), S)
theorem t_war {g : zg_G} {n : zg_N} {S : zS} (hM : TSh g) (hT : TW n S) (hW : WF S) (x : Int32) : PW zm_X6_war 9 (tQ g n (sp_war S x)) 0 0 0 [(0, .ref aT), (1, .int x)] [] g n := by
  have hlp : ∀ n1, TW n1 S → zfi n1 aT tf_thrown = 0 → zFr tXF tXA n n1 → (∀ s, s < 2 → ∀ w, w < 52 → zai n1 (at_schoolBehind + 1 + s) w = scB S s w) → ∀ k, k ≤ 52 → PW zm_X6_war 9 (tQ g n (0, .int (if x = 0 then nI (ct (scWr S) 52) else spWf (scWr S) 52), S)) 0 0 41 [(0, .ref aT), (1, .int x), (2, .int (nI (ct (scWr S) k))), (3, .int (spWf (scWr S) k)), (4, .int (nI k))] [] g n1 := by
    intro n1 hT1 hth1 hf1 hB
    refine zl_up _ (fun k hk ih => ?_)
    have q0 := ct_le (scWr S) k
    refine pw_iload dX6_war_41 4 rfl ?_
    refine pw_bipush (v := 52) dX6_war_43 (by decide) ?_
    refine pw_icmp_ge_N (b := 52) 101 dX6_war_45 (by decide) (by omega) (by omega) (fun c_45 => ?_) (fun c_45 => ?_)
    · refine pw_iload_n dX6_war_101 1 rfl rfl ?_
      refine pw_if_ne 109 dX6_war_102 (by decide) (fun c_102 => ?_) (fun c_102 => ?_)
      · refine pw_iload_n dX6_war_109 3 rfl rfl ?_
        refine pw_iret rfl dX6_war_110 ?_
        exact tQ_eq (by rw [if_neg c_102, show k = 52 by omega]) (t_qok hT1 hth1 hf1 _)
      · refine pw_iload_n dX6_war_105 2 rfl rfl ?_
        refine pw_goto 110 dX6_war_106 (by decide) ?_
        refine pw_iret rfl dX6_war_110 ?_
        exact tQ_eq (by rw [if_pos c_102, show k = 52 by omega]) (t_qok hT1 hth1 hf1 _)
    · refine pw_aload_n dX6_war_48 0 rfl rfl ?_
      refine pw_aload_n dX6_war_49 0 rfl rfl ?_
      refine pw_getr 60 zc_X6 (ts_this hM) (by decide) q2046 (Or.inr ⟨_, rfl⟩) (tr_schoolBehind hM) dX6_war_50 ?_
      refine pw_iconst (v := 0) dX6_war_53 (by decide) ?_
      refine pw_aald 0 rfl (ts_schoolBehind hM) rfl (Or.inr ⟨_, rfl⟩) (tw_schoolBehind hM 0 (by omega)) (by omega) (by decide) dX6_war_54 ?_
      refine pw_iload dX6_war_55 4 rfl ?_
      refine pw_iald k rfl (tv_schoolBehind hM 0 (by omega)) (by omega) (by decide) dX6_war_57 ?_
      rw [show zai n1 (at_schoolBehind + 1 + 0) k = scB S 0 k from hB 0 (by decide) k c_45]
      refine pw_aload_n dX6_war_58 0 rfl rfl ?_
      refine pw_getr 60 zc_X6 (ts_this hM) (by decide) q2046 (Or.inr ⟨_, rfl⟩) (tr_schoolBehind hM) dX6_war_59 ?_
      refine pw_iconst (v := 1) dX6_war_62 (by decide) ?_
      refine pw_aald 1 rfl (ts_schoolBehind hM) rfl (Or.inr ⟨_, rfl⟩) (tw_schoolBehind hM 1 (by omega)) (by omega) (by decide) dX6_war_63 ?_
      refine pw_iload dX6_war_64 4 rfl ?_
      refine pw_iald k rfl (tv_schoolBehind hM 1 (by omega)) (by omega) (by decide) dX6_war_66 ?_
      rw [show zai n1 (at_schoolBehind + 1 + 1) k = scB S 1 k from hB 1 (by decide) k c_45]
      refine pw_ior dX6_war_67 ?_
      refine pw_iload dX6_war_68 4 rfl ?_
      refine pw_callV2 zmM_X6_togetherIn rfl (lw_V q2475 q2477 qs109 q150 q2478) rfl (ts_this hM) zc_X6 (t_togetherIn hM hT1 hW _ k c_45) (by decide) (Nat.le_refl _) (Nat.le_refl _) rfl (Nat.le_of_ble_eq_true rfl) (Nat.le_of_ble_eq_true rfl) dX6_war_70 zE.nx (zE_kk ?_)
      refine pw_lconst (v := 0) dX6_war_73 rfl ?_
      refine pw_lcmp dX6_war_74 ?_
      refine pw_if_eq_L 81 dX6_war_75 (by decide) (fun c_75 => ?_) (fun c_75 => ?_)
      · refine pw_iload_n dX6_war_81 2 rfl rfl ?_
        refine pw_if_ne_N 90 dX6_war_82 (by decide) (by omega) (fun c_82 => ?_) (fun c_82 => ?_)
        · refine pw_iload_n dX6_war_90 3 rfl rfl ?_
          refine pw_istore_n (ls' := [(3, _), (0, _), (1, _), (2, _), (4, _)]) dX6_war_91 rfl (by decide) rfl ?_
          refine pw_ls [1, 2, 3, 0, 4] (ls' := [(0, _), (1, _), (2, _), (3, _), (4, _)]) rfl ?_
          refine pw_iinc1 (j := 2) (ls' := [(2, _), (0, _), (1, _), (3, _), (4, _)]) dX6_war_92 rfl (by decide) rfl ?_
          refine pw_ls [1, 2, 0, 3, 4] (ls' := [(0, _), (1, _), (2, _), (3, _), (4, _)]) rfl ?_
          refine pw_iinc1 (j := 4) (ls' := [(4, _), (0, _), (1, _), (2, _), (3, _)]) dX6_war_95 rfl (by decide) rfl ?_
          refine pw_ls [1, 2, 3, 4, 0] (ls' := [(0, _), (1, _), (2, _), (3, _), (4, _)]) rfl ?_
          refine pw_goto 41 dX6_war_98 (by decide) ?_
          have := ih (k + 1) (by omega) (by omega)
          rw [show spWf (scWr S) (k + 1) = spWf (scWr S) k from if_neg (fun z => c_82 z.2), show nI (ct (scWr S) (k + 1)) = nI (ct (scWr S) k + 1) from by simp only [ct, scWr, decide_eq_true c_75]; rfl] at this
          exact this
        · refine pw_iload dX6_war_85 4 rfl ?_
          refine pw_goto 91 dX6_war_87 (by decide) ?_
          refine pw_istore_n (ls' := [(3, _), (0, _), (1, _), (2, _), (4, _)]) dX6_war_91 rfl (by decide) rfl ?_
          refine pw_ls [1, 2, 3, 0, 4] (ls' := [(0, _), (1, _), (2, _), (3, _), (4, _)]) rfl ?_
          refine pw_iinc1 (j := 2) (ls' := [(2, _), (0, _), (1, _), (3, _), (4, _)]) dX6_war_92 rfl (by decide) rfl ?_
          refine pw_ls [1, 2, 0, 3, 4] (ls' := [(0, _), (1, _), (2, _), (3, _), (4, _)]) rfl ?_
          refine pw_iinc1 (j := 4) (ls' := [(4, _), (0, _), (1, _), (2, _), (3, _)]) dX6_war_95 rfl (by decide) rfl ?_
          refine pw_ls [1, 2, 3, 4, 0] (ls' := [(0, _), (1, _), (2, _), (3, _), (4, _)]) rfl ?_
          refine pw_goto 41 dX6_war_98 (by decide) ?_
          have := ih (k + 1) (by omega) (by omega)
          rw [show spWf (scWr S) (k + 1) = nI k from if_pos ⟨decide_eq_true c_75, c_82⟩, show nI (ct (scWr S) (k + 1)) = nI (ct (scWr S) k + 1) from by simp only [ct, scWr, decide_eq_true c_75]; rfl] at this
          exact this
      · refine pw_goto 95 dX6_war_78 (by decide) ?_
        refine pw_iinc1 (j := 4) (ls' := [(4, _), (0, _), (1, _), (2, _), (3, _)]) dX6_war_95 rfl (by decide) rfl ?_
        refine pw_ls [1, 2, 3, 4, 0] (ls' := [(0, _), (1, _), (2, _), (3, _), (4, _)]) rfl ?_
        refine pw_goto 41 dX6_war_98 (by decide) ?_
        have := ih (k + 1) (by omega) (by omega)
        rw [show spWf (scWr S) (k + 1) = spWf (scWr S) k from if_neg (fun z => c_75 (of_decide_eq_true z.1)), show nI (ct (scWr S) (k + 1)) = nI (ct (scWr S) k) from by simp only [ct, scWr, decide_eq_false c_75]; rfl] at this
        exact this
  refine pw_aload_n dX6_war_0 0 rfl rfl ?_
  refine pw_iconst (v := 0) dX6_war_1 (by decide) ?_
  refine pw_puti 0 zc_X6 (ts_this hM) (by decide) (by decide) q1986 rfl (Or.inl rfl) rfl rfl dX6_war_2 ?_
  obtain ⟨hT0, hth, hf0⟩ := t_start hT hW; generalize zpfi n aT 0 0 = n0 at hT0 hth hf0 ⊢
  refine pw_aload_n dX6_war_5 0 rfl rfl ?_
  refine pw_iload_n dX6_war_6 1 rfl rfl ?_
  refine pw_iconst (v := 0) dX6_war_7 (by decide) ?_
  refine pw_iconst (v := 1) dX6_war_8 (by decide) ?_
  refine pw_callS3 zmM_X6_in rfl (lw_S q2185 q2186 q150 q2187) (t_in _ _ _ _ _) (by decide) (Nat.le_refl _) (Nat.le_refl _) rfl (Nat.le_of_ble_eq_true rfl) (Nat.le_of_ble_eq_true rfl) dX6_war_9 zE.nx (zE_kk ?_)
  refine pw_if_ne_B 19 dX6_war_12 (by decide) (fun c_12 => ?_) (fun c_12 => ?_)
  · refine pw_iconst (v := 0) dX6_war_19 (by decide) ?_
    refine pw_iconst (v := 1) dX6_war_20 (by decide) ?_
    refine pw_iconst (v := 1) dX6_war_21 (by decide) ?_
    refine pw_callV3 zmM_X6_bad rfl (lw_V q2188 q2190 qs62 q150 q2191) rfl (ts_this hM) zc_X6 (t_bad0 hM 1 (by decide) 1 (by decide) hth) (by decide) (Nat.le_refl _) (Nat.le_refl _) rfl (Nat.le_of_ble_eq_true rfl) (Nat.le_of_ble_eq_true rfl) dX6_war_22 zE.nx (zE_kk ?_)
    refine pw_if_eq 30 dX6_war_25 (by decide) (fun c_25 => ?_) (fun c_25 => ?_)
    · rw [show sp_war S x = _ from spNeed_t ((inB_le (m := 1) (by decide)).mpr c_12)]
      refine pw_aload_n dX6_war_30 0 rfl rfl ?_
      refine pw_callV0 zmM_X6_schools rfl (lw_V q2636 q2638 qs119 q150 q2639) rfl (ts_this hM) zc_X6 (t_schools hM hT0 hW) (by decide) (Nat.le_refl _) (Nat.le_refl _) rfl (Nat.le_of_ble_eq_true rfl) (Nat.le_of_ble_eq_true rfl) dX6_war_31 (by intros; rintro ⟨h, _⟩; cases h) (fun v1 g1 n1 h1 => ?_)
      obtain ⟨h1, rfl, hB, hfg⟩ := h1; cases h1; obtain ⟨hT1, hth1, hf1⟩ := t_after2 hT0 hW hth hf0 hfg
      refine pw_iconst (v := 0) dX6_war_34 (by decide) ?_
      refine pw_istore_n (ls' := [(2, _), (0, _), (1, _)]) dX6_war_35 rfl (by decide) rfl ?_
      refine pw_ls [1, 2, 0] (ls' := [(0, _), (1, _), (2, _)]) rfl ?_
      refine pw_iconst (v := (-1)) dX6_war_36 (by decide) ?_
      refine pw_istore_n (ls' := [(3, _), (0, _), (1, _), (2, _)]) dX6_war_37 rfl (by decide) rfl ?_
      refine pw_ls [1, 2, 3, 0] (ls' := [(0, _), (1, _), (2, _), (3, _)]) rfl ?_
      refine pw_iconst (v := 0) dX6_war_38 (by decide) ?_
      refine pw_istore (ls' := [(4, _), (0, _), (1, _), (2, _), (3, _)]) dX6_war_39 (by decide) rfl ?_
      refine pw_ls [1, 2, 3, 4, 0] (ls' := [(0, _), (1, _), (2, _), (3, _), (4, _)]) rfl ?_
      exact hlp n1 hT1 hth1 hf1 hB 0 (Nat.zero_le _)
    · exact absurd rfl c_25
  · refine pw_iconst (v := 1) dX6_war_15 (by decide) ?_
    refine pw_goto 20 dX6_war_16 (by decide) ?_
    refine pw_iconst (v := 1) dX6_war_20 (by decide) ?_
    refine pw_iconst (v := 1) dX6_war_21 (by decide) ?_
    refine pw_callV3 zmM_X6_bad rfl (lw_V q2188 q2190 qs62 q150 q2191) rfl (ts_this hM) zc_X6 (t_bad1 hM 1 (by decide) 1 (by decide) hth) (by decide) (Nat.le_refl _) (Nat.le_refl _) rfl (Nat.le_of_ble_eq_true rfl) (Nat.le_of_ble_eq_true rfl) dX6_war_22 zE.nx (zE_kk ?_)
    refine pw_if_eq 30 dX6_war_25 (by decide) (fun c_25 => ?_) (fun c_25 => ?_)
    · exact absurd c_25 (by decide)
    · refine pw_iconst (v := 0) dX6_war_28 (by decide) ?_
      refine pw_iret rfl dX6_war_29 ?_
      exact tQ_eq (spNeed_f (fun h => c_12 ((inB_le (m := 1) (by decide)).mp h))) (t_qbad hT0 hW hf0 1 1 (by decide) _)
def sp_judge (S : zS) (o k a w : Int32) : Int32 × Value × zS := spNeed S (inB o (sN S 0 1) && inB k (sN S 0 1)) 1 0 (.int 0) (spNeed S (inB a 53 && inB w 52) 2 1 (.int 0) (0, .int (nI (spTo (spFc S o.toNatClampNeg k.toNatClampNeg a 0 1 w.toNatClampNeg) (sT S))), S))
theorem t_judge {g : zg_G} {n : zg_N} {S : zS} (hM : TSh g) (hT : TW n S) (hW : WF S) (o k a w : Int32) : PW zm_X6_judge 9 (tQ g n (sp_judge S o k a w)) 0 0 0 [(0, .ref aT), (1, .int o), (2, .int k), (3, .int a), (4, .int w)] [] g n := by
  have hs := hW.slips
  refine pw_aload_n dX6_judge_0 0 rfl rfl ?_
  refine pw_iconst (v := 0) dX6_judge_1 (by decide) ?_
  refine pw_puti 0 zc_X6 (ts_this hM) (by decide) (by decide) q1986 rfl (Or.inl rfl) rfl rfl dX6_judge_2 ?_
  obtain ⟨hT0, hth, hf0⟩ := t_start hT hW; generalize zpfi n aT 0 0 = n0 at hT0 hth hf0 ⊢
  refine pw_aload_n dX6_judge_5 0 rfl rfl ?_
  refine pw_aload_n dX6_judge_6 0 rfl rfl ?_
  refine pw_iload_n dX6_judge_7 1 rfl rfl ?_
  refine pw_callV1 zmM_X6_isSlip rfl (lw_V q2336 q2338 qs90 q150 q2339) rfl (ts_this hM) zc_X6 (t_isSlip hM hT0 hW o) (by decide) (Nat.le_refl _) (Nat.le_refl _) rfl (Nat.le_of_ble_eq_true rfl) (Nat.le_of_ble_eq_true rfl) dX6_judge_8 zE.nx (zE_kk ?_)
  refine pw_if_eq_B 22 dX6_judge_11 (by decide) (fun c_11 => ?_) (fun c_11 => ?_)
  · refine pw_iconst (v := 1) dX6_judge_22 (by decide) ?_
    refine pw_goto 27 dX6_judge_23 (by decide) ?_
    refine pw_iconst (v := 1) dX6_judge_27 (by decide) ?_
    refine pw_iconst (v := 0) dX6_judge_28 (by decide) ?_
    refine pw_callV3 zmM_X6_bad rfl (lw_V q2188 q2190 qs62 q150 q2191) rfl (ts_this hM) zc_X6 (t_bad1 hM 1 (by decide) 0 (by decide) hth) (by decide) (Nat.le_refl _) (Nat.le_refl _) rfl (Nat.le_of_ble_eq_true rfl) (Nat.le_of_ble_eq_true rfl) dX6_judge_29 zE.nx (zE_kk ?_)
    refine pw_if_ne 67 dX6_judge_32 (by decide) (fun c_32 => ?_) (fun c_32 => ?_)
    · refine pw_iconst (v := 0) dX6_judge_67 (by decide) ?_
      refine pw_iret rfl dX6_judge_68 ?_
      exact tQ_eq (spNeed_f (fun h => c_11 (by simp only [Bool.and_eq_true] at h; exact h.1))) (t_qbad hT0 hW hf0 1 0 (by decide) _)
    · exact absurd c_32 (by decide)
  · refine pw_aload_n dX6_judge_14 0 rfl rfl ?_
    refine pw_iload_n dX6_judge_15 2 rfl rfl ?_
    refine pw_callV1 zmM_X6_isSlip rfl (lw_V q2336 q2338 qs90 q150 q2339) rfl (ts_this hM) zc_X6 (t_isSlip hM hT0 hW k) (by decide) (Nat.le_refl _) (Nat.le_refl _) rfl (Nat.le_of_ble_eq_true rfl) (Nat.le_of_ble_eq_true rfl) dX6_judge_16 zE.nx (zE_kk ?_)
    refine pw_if_ne_B 26 dX6_judge_19 (by decide) (fun c_19 => ?_) (fun c_19 => ?_)
    · refine pw_iconst (v := 0) dX6_judge_26 (by decide) ?_
      refine pw_iconst (v := 1) dX6_judge_27 (by decide) ?_
      refine pw_iconst (v := 0) dX6_judge_28 (by decide) ?_
      refine pw_callV3 zmM_X6_bad rfl (lw_V q2188 q2190 qs62 q150 q2191) rfl (ts_this hM) zc_X6 (t_bad0 hM 1 (by decide) 0 (by decide) hth) (by decide) (Nat.le_refl _) (Nat.le_refl _) rfl (Nat.le_of_ble_eq_true rfl) (Nat.le_of_ble_eq_true rfl) dX6_judge_29 zE.nx (zE_kk ?_)
      refine pw_if_ne 67 dX6_judge_32 (by decide) (fun c_32 => ?_) (fun c_32 => ?_)
      · exact absurd rfl c_32
      · have hok : (inB o (sN S 0 1) && inB k (sN S 0 1)) = true := by rw [c_11, c_19]; rfl
        refine pw_aload_n dX6_judge_35 0 rfl rfl ?_
        refine pw_iload_n dX6_judge_36 3 rfl rfl ?_
        refine pw_iconst (v := 0) dX6_judge_37 (by decide) ?_
        refine pw_bipush (v := 52) dX6_judge_38 (by decide) ?_
        refine pw_callS3 zmM_X6_in rfl (lw_S q2185 q2186 q150 q2187) (t_in _ _ _ _ _) (by decide) (Nat.le_refl _) (Nat.le_refl _) rfl (Nat.le_of_ble_eq_true rfl) (Nat.le_of_ble_eq_true rfl) dX6_judge_40 zE.nx (zE_kk ?_)
        refine pw_if_eq_B 54 dX6_judge_43 (by decide) (fun c_43 => ?_) (fun c_43 => ?_)
        · refine pw_iconst (v := 1) dX6_judge_54 (by decide) ?_
          refine pw_goto 59 dX6_judge_55 (by decide) ?_
          refine pw_iconst (v := 2) dX6_judge_59 (by decide) ?_
          refine pw_iconst (v := 1) dX6_judge_60 (by decide) ?_
          refine pw_callV3 zmM_X6_bad rfl (lw_V q2188 q2190 qs62 q150 q2191) rfl (ts_this hM) zc_X6 (t_bad1 hM 2 (by decide) 1 (by decide) hth) (by decide) (Nat.le_refl _) (Nat.le_refl _) rfl (Nat.le_of_ble_eq_true rfl) (Nat.le_of_ble_eq_true rfl) dX6_judge_61 zE.nx (zE_kk ?_)
          refine pw_if_eq 69 dX6_judge_64 (by decide) (fun c_64 => ?_) (fun c_64 => ?_)
          · exact absurd c_64 (by decide)
          · refine pw_iconst (v := 0) dX6_judge_67 (by decide) ?_
            refine pw_iret rfl dX6_judge_68 ?_
            exact tQ_eq ((spNeed_t hok).trans (spNeed_f (fun h => c_43 ((inB_le (m := 52) (by decide)).mp (by simp only [Bool.and_eq_true] at h; exact h.1))))) (t_qbad hT0 hW hf0 2 1 (by decide) _)
        · refine pw_iload dX6_judge_46 4 rfl ?_
          refine pw_callS1 zmM_X6_isWeek rfl (lw_S q2348 q2349 q150 q2350) (t_isWeek w _ _) (by decide) (Nat.le_refl _) (Nat.le_refl _) rfl (Nat.le_of_ble_eq_true rfl) (Nat.le_of_ble_eq_true rfl) dX6_judge_48 zE.nx (zE_kk ?_)
          refine pw_if_ne_B 58 dX6_judge_51 (by decide) (fun c_51 => ?_) (fun c_51 => ?_)
          · refine pw_iconst (v := 0) dX6_judge_58 (by decide) ?_
            refine pw_iconst (v := 2) dX6_judge_59 (by decide) ?_
            refine pw_iconst (v := 1) dX6_judge_60 (by decide) ?_
            refine pw_callV3 zmM_X6_bad rfl (lw_V q2188 q2190 qs62 q150 q2191) rfl (ts_this hM) zc_X6 (t_bad0 hM 2 (by decide) 1 (by decide) hth) (by decide) (Nat.le_refl _) (Nat.le_refl _) rfl (Nat.le_of_ble_eq_true rfl) (Nat.le_of_ble_eq_true rfl) dX6_judge_61 zE.nx (zE_kk ?_)
            refine pw_if_eq 69 dX6_judge_64 (by decide) (fun c_64 => ?_) (fun c_64 => ?_)
            · have hok2 : (inB a 53 && inB w 52) = true := by rw [(inB_le (m := 52) (by decide)).mpr c_43, c_51]; rfl
              obtain ⟨o, ho, rfl⟩ := inB_ex (by omega) c_11
              obtain ⟨k, hk, rfl⟩ := inB_ex (by omega) c_19
              obtain ⟨w, hw, rfl⟩ := inB_ex (by decide) c_51
              rw [show sp_judge S (nI o) (nI k) a (nI w) = (0, .int (nI (spTo (spFc S o k a 0 1 w) (sT S))), S) from ((spNeed_t hok).trans (spNeed_t hok2)).trans (by rw [nI_clamp (by omega), nI_clamp (by omega), nI_clamp (by omega)])]
              refine pw_aload_n dX6_judge_69 0 rfl rfl ?_
              refine pw_iload_n dX6_judge_70 1 rfl rfl ?_
              refine pw_iload_n dX6_judge_71 2 rfl rfl ?_
              refine pw_iload_n dX6_judge_72 3 rfl rfl ?_
              refine pw_iconst (v := 0) dX6_judge_73 (by decide) ?_
              refine pw_iconst (v := 1) dX6_judge_74 (by decide) ?_
              refine pw_iload dX6_judge_75 4 rfl ?_
              refine pw_callV6 zmM_X6_byTongue rfl (lw_V q2436 q2438 qs103 q150 q2439) rfl (ts_this hM) zc_X6 (t_byTongue hM hT0 hW a 0 1 (Or.inl ho) (Or.inl hk) hw) (by decide) (Nat.le_refl _) (Nat.le_refl _) rfl (Nat.le_of_ble_eq_true rfl) (Nat.le_of_ble_eq_true rfl) dX6_judge_77 (by intros; rintro ⟨h, _⟩; cases h) (fun v1 g1 n2 hh => ?_)
              obtain ⟨h1, rfl, hf2⟩ := hh
              cases h1
              refine pw_iret rfl dX6_judge_80 ?_
              exact t_qok (hT0.keep hW (hf2.mono (fun _ _ z => z.elim) zBm_tA)) (((hf2.1 aT tf_thrown (fun z => z)).1).trans hth) (hf0.tr (hf2.mono (fun _ _ z => z.elim) (fun a h => tA_X a (zBm_tA a h)))) _
            · exact absurd rfl c_64
          · refine pw_iconst (v := 1) dX6_judge_54 (by decide) ?_
            refine pw_goto 59 dX6_judge_55 (by decide) ?_
            refine pw_iconst (v := 2) dX6_judge_59 (by decide) ?_
            refine pw_iconst (v := 1) dX6_judge_60 (by decide) ?_
            refine pw_callV3 zmM_X6_bad rfl (lw_V q2188 q2190 qs62 q150 q2191) rfl (ts_this hM) zc_X6 (t_bad1 hM 2 (by decide) 1 (by decide) hth) (by decide) (Nat.le_refl _) (Nat.le_refl _) rfl (Nat.le_of_ble_eq_true rfl) (Nat.le_of_ble_eq_true rfl) dX6_judge_61 zE.nx (zE_kk ?_)
            refine pw_if_eq 69 dX6_judge_64 (by decide) (fun c_64 => ?_) (fun c_64 => ?_)
            · exact absurd c_64 (by decide)
            · refine pw_iconst (v := 0) dX6_judge_67 (by decide) ?_
              refine pw_iret rfl dX6_judge_68 ?_
              exact tQ_eq ((spNeed_t hok).trans (spNeed_f (fun h => c_51 (by simp only [Bool.and_eq_true] at h; exact h.2)))) (t_qbad hT0 hW hf0 2 1 (by decide) _)
    · refine pw_iconst (v := 1) dX6_judge_22 (by decide) ?_
      refine pw_goto 27 dX6_judge_23 (by decide) ?_
      refine pw_iconst (v := 1) dX6_judge_27 (by decide) ?_
      refine pw_iconst (v := 0) dX6_judge_28 (by decide) ?_
      refine pw_callV3 zmM_X6_bad rfl (lw_V q2188 q2190 qs62 q150 q2191) rfl (ts_this hM) zc_X6 (t_bad1 hM 1 (by decide) 0 (by decide) hth) (by decide) (Nat.le_refl _) (Nat.le_refl _) rfl (Nat.le_of_ble_eq_true rfl) (Nat.le_of_ble_eq_true rfl) dX6_judge_29 zE.nx (zE_kk ?_)
      refine pw_if_ne 67 dX6_judge_32 (by decide) (fun c_32 => ?_) (fun c_32 => ?_)
      · refine pw_iconst (v := 0) dX6_judge_67 (by decide) ?_
        refine pw_iret rfl dX6_judge_68 ?_
        exact tQ_eq (spNeed_f (fun h => c_19 (by simp only [Bool.and_eq_true] at h; exact h.2))) (t_qbad hT0 hW hf0 1 0 (by decide) _)
      · exact absurd c_32 (by decide)

/-! ===== the reference: images ===== -/
def mF (a k : Nat) : Prop := a = aT ∧ (k = tf_spot ∨ k = tf_images)
def mA (K a : Nat) : Prop := a = at_told ∨ a = at_order ∨ a = K
/-- a state put together anew: what is told, the order, the images -/
theorem TW.mix {n n' : zg_N} {S : zS} (h : TW n S) (hW : WF S) (N' : Nat → Nat → Nat) {K : Nat} (i0 : Nat) (hK : K = at_kept + 1 + i0) (hi0 : i0 < 3) (hf : zFr mF (mA K) n n')
    (e0 : ∀ k, k ≠ 4 → k ≠ 5 → k ≠ 6 → N' 0 k = sN S 0 k) (e1 : ∀ k, N' 1 k = sN S 1 k) (e3 : ∀ k, N' 3 k = sN S 3 k) (h6 : N' 0 6 ≤ 3)
    (ht : ∀ k, k < 6 → zai n' at_told k = nI (N' 0 k)) (ho : ∀ k, k < 12 → zai n' at_order k = nI (N' 2 k)) (him : zfi n' aT tf_images = nI (N' 0 6)) (hk : ∀ i, i < N' 0 6 → ∀ j, j < 14 → zai n' (at_kept + 1 + i) j = nI (N' (10 + i) j))
    (hlo : ∀ k, zal n' at_order k = zal n at_order k) : TW n' (N', S.2) := by
  have hi : ∀ k, k ≠ tf_spot → k ≠ tf_images → zfi n' aT k = zfi n aT k := fun k a b => (hf.1 _ _ (fun q => q.2.elim a b)).1
  have hl : ∀ k, k ≠ tf_spot → k ≠ tf_images → zfl n' aT k = zfl n aT k := fun k a b => (hf.1 _ _ (fun q => q.2.elim a b)).2
  have ha : ∀ a, a ≠ at_told → a ≠ at_order → a ≠ K → ∀ j, zai n' a j = zai n a j := fun a p q r j => (hf.2 a (fun z => z.elim p (fun z => z.elim q r)) j).1
  have hb : ∀ a, a ≠ at_told → a ≠ at_order → a ≠ K → ∀ j, zal n' a j = zal n a j := fun a p q r j => (hf.2 a (fun z => z.elim p (fun z => z.elim q r)) j).2
  obtain ⟨h1, h2, h3, h4, h5, h6', ⟨h7, h8⟩, ⟨h9, h10⟩, h11, h12, h13, c, N, h14, h15, h16⟩ := h
  have hw10 : (sT S).length ≤ 10 := hW.tl
  have hKn : K = 1058 + 1 + i0 := hK
  refine ⟨ht, fun k hk2 => ?_, fun k hk2 => ⟨?_, ?_⟩, fun k hk2 => ?_, ho, ?_, ⟨him, hk⟩, ⟨?_, fun k hk2 => ?_⟩, ?_, fun k hk2 => ?_, ?_, c, N, h14, fun i hi2 => ⟨?_, ?_⟩, fun k q hq => ?_⟩
  · rw [hb at_models (by decide) (by decide) (by show 1053 ≠ K; omega)]
    refine h2 k ?_
    have a1 : N' 0 1 = sN S 0 1 := e0 1 (by decide) (by decide) (by decide)
    have a3 : N' 0 3 = sN S 0 3 := e0 3 (by decide) (by decide) (by decide)
    unfold okb at hk2 ⊢
    rw [← a1, ← a3]; exact hk2
  · have a2 : N' 0 2 = sN S 0 2 := e0 2 (by decide) (by decide) (by decide)
    rw [ha at_seeWeek (by decide) (by decide) (by show 1051 ≠ K; omega)]
    show _ = nI (N' 1 k)
    rw [e1]; exact (h3 k (by rw [← a2]; exact hk2)).1
  · have a2 : N' 0 2 = sN S 0 2 := e0 2 (by decide) (by decide) (by decide)
    rw [hb at_seen (by decide) (by decide) (by show 1055 ≠ K; omega)]; exact (h3 k (by rw [← a2]; exact hk2)).2
  · rw [hb at_leftIn (by decide) (by decide) (by show 1056 ≠ K; omega)]; exact h4 k hk2
  · rw [hl tf_question (by decide) (by decide)]; exact h6'
  · rw [hi tf_tape (by decide) (by decide)]
    show _ = nI (N' 0 7)
    rw [e0 7 (by decide) (by decide) (by decide)]; exact h9
  · rw [ha at_fed (by decide) (by decide) (by show 1046 ≠ K; omega)]
    have a7 : N' 0 7 = sN S 0 7 := e0 7 (by decide) (by decide) (by decide)
    show _ = nI (N' 3 k)
    rw [e3]; exact h10 k (by rw [← a7]; exact hk2)
  · rw [hi tf_place (by decide) (by decide)]; exact h11
  · rw [ha at_refused (by decide) (by decide) (by show 1047 ≠ K; omega)]; exact h12 k hk2
  · rw [hi tf_whos (by decide) (by decide)]; exact h13
  · rw [ha (at_code + 1 + i) (by show 1084 + 1 + i ≠ 1049; omega) (by show 1084 + 1 + i ≠ 1057; omega) (by show 1084 + 1 + i ≠ K; omega)]; exact (h15 i hi2).1
  · rw [ha (at_code + 1 + i) (by show 1084 + 1 + i ≠ 1049; omega) (by show 1084 + 1 + i ≠ 1057; omega) (by show 1084 + 1 + i ≠ K; omega)]; exact (h15 i hi2).2
  · have hk2 : k < (sT S).length := (List.getElem?_eq_some_iff.mp hq).1
    obtain ⟨i, m, a1, a2, a3, a4, a5⟩ := h16 k q hq
    have := ha (at_who + 1 + k) (by show 1062 + 1 + k ≠ 1049; omega) (by show 1062 + 1 + k ≠ 1057; omega) (by show 1062 + 1 + k ≠ K; omega)
    exact ⟨i, m, a1, (this 0).trans a2, (this 1).trans a3, (this 2).trans a4, a5⟩
theorem t_moves0 {g : zg_G} {n : zg_N} (hM : TSh g) {K : Nat} (hKa : zK ≤ K) (hK : zsh g K = some (.inr (0, 14))) (j : Nat) (hj : j < 14) (hsp : zfi n aT tf_spot = nI j) (v : Int32) : PW zm_X6_moves 1 (zE (some (.int v)) g (zpfi (zpai n K j v) aT tf_spot (nI (j + 1)))) 0 0 0 [(0, .ref aT), (1, .ref K), (2, .int v), (3, .int 0)] [] g n := by
  refine pw_iload_n dX6_moves_0 3 rfl rfl ?_
  refine pw_if_ne 11 dX6_moves_1 (by decide) (fun c_1 => ?_) (fun c_1 => ?_)
  · exact absurd rfl c_1
  · refine pw_aload_n dX6_moves_4 1 rfl rfl ?_
    refine pw_aload_n dX6_moves_5 0 rfl rfl ?_
    refine pw_geti 23 zc_X6 (ts_this hM) (by decide) q2009 (Or.inl rfl) dX6_moves_6 ?_
    rw [hsp]
    refine pw_iload_n dX6_moves_9 2 rfl rfl ?_
    refine pw_iast j rfl hK hKa (by omega) (by decide) dX6_moves_10 ?_
    refine pw_aload_n dX6_moves_11 0 rfl rfl ?_
    refine pw_dup dX6_moves_12 rfl ?_
    refine pw_geti 23 zc_X6 (ts_this hM) (by decide) q2009 (Or.inl rfl) dX6_moves_13 ?_
    rw [show zfi (zpai n K j v) aT tf_spot = nI j from hsp]
    refine pw_iconst (v := 1) dX6_moves_16 (by decide) ?_
    refine pw_iadd dX6_moves_17 ?_
    rw [nI_1]
    refine pw_puti 23 zc_X6 (ts_this hM) (by decide) (by decide) q2009 rfl (Or.inl rfl) rfl rfl dX6_moves_18 ?_
    refine pw_aload_n dX6_moves_21 1 rfl rfl ?_
    refine pw_aload_n dX6_moves_22 0 rfl rfl ?_
    refine pw_geti 23 zc_X6 (ts_this hM) (by decide) q2009 (Or.inl rfl) dX6_moves_23 ?_
    rw [show zfi (zpfi (zpai n K j v) aT tf_spot (nI (j + 1))) aT tf_spot = nI (j + 1) from by rw [zfi_p, if_pos ⟨rfl, rfl⟩]]
    refine pw_iconst (v := 1) dX6_moves_26 (by decide) ?_
    refine pw_isub dX6_moves_27 ?_
    rw [nI_pred]
    refine pw_iald j rfl hK (by omega) (by decide) dX6_moves_28 ?_
    refine pw_iret rfl dX6_moves_29 ?_
    exact ⟨by rw [show zai (zpfi (zpai n K j v) aT tf_spot (nI (j + 1))) K j = v from if_pos ⟨rfl, rfl⟩], rfl, rfl⟩
theorem t_moves1 {g : zg_G} {n : zg_N} (hM : TSh g) {K : Nat} (hK : zsh g K = some (.inr (0, 14))) (j : Nat) (hj : j < 14) (hsp : zfi n aT tf_spot = nI j) (v : Int32) : PW zm_X6_moves 1 (zE (some (.int (zai n K j))) g (zpfi n aT tf_spot (nI (j + 1)))) 0 0 0 [(0, .ref aT), (1, .ref K), (2, .int v), (3, .int 1)] [] g n := by
  refine pw_iload_n dX6_moves_0 3 rfl rfl ?_
  refine pw_if_ne 11 dX6_moves_1 (by decide) (fun c_1 => ?_) (fun c_1 => ?_)
  · refine pw_aload_n dX6_moves_11 0 rfl rfl ?_
    refine pw_dup dX6_moves_12 rfl ?_
    refine pw_geti 23 zc_X6 (ts_this hM) (by decide) q2009 (Or.inl rfl) dX6_moves_13 ?_
    rw [hsp]
    refine pw_iconst (v := 1) dX6_moves_16 (by decide) ?_
    refine pw_iadd dX6_moves_17 ?_
    rw [nI_1]
    refine pw_puti 23 zc_X6 (ts_this hM) (by decide) (by decide) q2009 rfl (Or.inl rfl) rfl rfl dX6_moves_18 ?_
    refine pw_aload_n dX6_moves_21 1 rfl rfl ?_
    refine pw_aload_n dX6_moves_22 0 rfl rfl ?_
    refine pw_geti 23 zc_X6 (ts_this hM) (by decide) q2009 (Or.inl rfl) dX6_moves_23 ?_
    rw [show zfi (zpfi n aT tf_spot (nI (j + 1))) aT tf_spot = nI (j + 1) from by rw [zfi_p, if_pos ⟨rfl, rfl⟩]]
    refine pw_iconst (v := 1) dX6_moves_26 (by decide) ?_
    refine pw_isub dX6_moves_27 ?_
    rw [nI_pred]
    refine pw_iald j rfl hK (by omega) (by decide) dX6_moves_28 ?_
    refine pw_iret rfl dX6_moves_29 ?_
    exact ⟨rfl, rfl, rfl⟩
  · exact absurd c_1 (by decide)
def mvV (n : zg_N) (j : Nat) : Int32 := if j = 0 then zai n at_told 4 else if j = 1 then zai n at_told 5 else zai n at_order (j - 2)
def MV (n n1 : zg_N) (K m : Nat) : Prop := zfi n1 aT tf_spot = nI m ∧ (∀ k, zai n1 at_told k = zai n at_told k) ∧ (∀ k, zai n1 at_order k = zai n at_order k) ∧ (∀ j, j < m → zai n1 K j = mvV n j) ∧ zfi n1 aT tf_images = zfi n aT tf_images ∧ (∀ k, zal n1 at_order k = zal n at_order k) ∧ zFr mF (mA K) n n1
theorem MV.step {n n1 : zg_N} {K m A q : Nat} {v : Int32} (h : MV n n1 K m) (hA : A = at_told ∨ A = at_order) (hv : v = mvV n m) (hq : zai n A q = v) (hK1 : K ≠ at_told) (hK2 : K ≠ at_order) : MV n (zpai (zpfi (zpai n1 K m v) aT tf_spot (nI (m + 1))) A q v) K (m + 1) := by
  obtain ⟨h1, h2, h3, h4, h5, h6, h7⟩ := h
  have hAK : ¬ K = A := fun z => by rcases hA with r | r <;> (rw [r] at z; first | exact hK1 z | exact hK2 z)
  refine ⟨by rw [zfi_pa, zfi_p, if_pos ⟨rfl, rfl⟩], fun k => ?_, fun k => ?_, fun j hj => ?_, h5, h6, ?_⟩
  · rw [zai_p, zai_pi, zai_p]
    by_cases e : at_told = A ∧ k = q
    · rw [if_pos e, ← hq, ← e.1, ← e.2]
    · rw [if_neg e, if_neg (fun z => hK1 z.1.symm)]; exact h2 k
  · rw [zai_p, zai_pi, zai_p]
    by_cases e : at_order = A ∧ k = q
    · rw [if_pos e, ← hq, ← e.1, ← e.2]
    · rw [if_neg e, if_neg (fun z => hK2 z.1.symm)]; exact h3 k
  · rw [zai_p, if_neg (fun z => hAK z.1), zai_pi, zai_p]
    by_cases e : j = m
    · subst e; rw [if_pos ⟨rfl, rfl⟩]; exact hv
    · rw [if_neg (fun z => e z.2)]; exact h4 j (by omega)
  · refine zFr.pai (zFr.pfi (zFr.pai h7 (Or.inr (Or.inr rfl))) ⟨rfl, Or.inl rfl⟩) ?_
    rcases hA with r | r
    · exact Or.inl r
    · exact Or.inr (Or.inl r)
theorem t_movesAll0 {g : zg_G} {n : zg_N} (hM : TSh g) {K : Nat} (hKa : zK ≤ K) (hK : zsh g K = some (.inr (0, 14))) (hK1 : K ≠ at_told) (hK2 : K ≠ at_order) : PW zm_X6_movesAll 2 (fun o g1 n1 => o = .inl none ∧ g1 = g ∧ MV n n1 K 14) 0 0 0 [(0, .ref aT), (1, .ref K), (2, .int 0)] [] g n := by
  have hlp : ∀ k, k ≤ 12 → ∀ n1, MV n n1 K (k + 2) → PW zm_X6_movesAll 2 (fun o g1 n1 => o = .inl none ∧ g1 = g ∧ MV n n1 K 14) 0 0 43 [(0, .ref aT), (1, .ref K), (2, .int 0), (3, .int (nI k))] [] g n1 := by
    refine zl_up _ (fun k hk ih n1 hV => ?_)
    refine pw_iload_n dX6_movesAll_43 3 rfl rfl ?_
    refine pw_bipush (v := 12) dX6_movesAll_44 (by decide) ?_
    refine pw_icmp_ge_N (b := 12) 73 dX6_movesAll_46 (by decide) (by omega) (by omega) (fun c_46 => ?_) (fun c_46 => ?_)
    · refine pw_vret rfl dX6_movesAll_73 ?_
      exact ⟨rfl, rfl, by rw [show k = 12 by omega] at hV; exact hV⟩
    · refine pw_aload_n dX6_movesAll_49 0 rfl rfl ?_
      refine pw_getr 21 zc_X6 (ts_this hM) (by decide) q2007 (Or.inr ⟨_, rfl⟩) (tr_order hM) dX6_movesAll_50 ?_
      refine pw_iload_n dX6_movesAll_53 3 rfl rfl ?_
      refine pw_aload_n dX6_movesAll_54 0 rfl rfl ?_
      refine pw_aload_n dX6_movesAll_55 1 rfl rfl ?_
      refine pw_aload_n dX6_movesAll_56 0 rfl rfl ?_
      refine pw_getr 21 zc_X6 (ts_this hM) (by decide) q2007 (Or.inr ⟨_, rfl⟩) (tr_order hM) dX6_movesAll_57 ?_
      refine pw_iload_n dX6_movesAll_60 3 rfl rfl ?_
      refine pw_iald k rfl (ts_order hM) (by omega) (by decide) dX6_movesAll_61 ?_
      rw [hV.2.2.1 k]
      refine pw_iload_n dX6_movesAll_62 2 rfl rfl ?_
      refine pw_callV3 zmM_X6_moves rfl (lw_V q2672 q2674 qs123 q150 q2675) rfl (ts_this hM) zc_X6 (t_moves0 hM hKa hK (k + 2) (by omega) hV.1 _) (by decide) (Nat.le_refl _) (Nat.le_refl _) rfl (Nat.le_of_ble_eq_true rfl) (Nat.le_of_ble_eq_true rfl) dX6_movesAll_63 zE.nx (zE_kk ?_)
      refine pw_iast k rfl (ts_order hM) (by decide) (by omega) (by decide) dX6_movesAll_66 ?_
      refine pw_iinc1 (j := 3) (ls' := [(3, _), (0, _), (1, _), (2, _)]) dX6_movesAll_67 rfl (by decide) rfl ?_
      refine pw_ls [1, 2, 3, 0] (ls' := [(0, _), (1, _), (2, _), (3, _)]) rfl ?_
      refine pw_goto 43 dX6_movesAll_70 (by decide) ?_
      exact ih (k + 1) (by omega) (by omega) _ (hV.step (Or.inr rfl) (by rw [mvV, if_neg (by omega), if_neg (by omega)]; rfl) rfl hK1 hK2)
  have hV0 : MV n (zpfi n aT tf_spot 0) K 0 := ⟨by rw [zfi_p, if_pos ⟨rfl, rfl⟩]; rfl, fun _ => rfl, fun _ => rfl, fun j hj => absurd hj (Nat.not_lt_zero _), rfl, fun _ => rfl, zFr.pfi zFr.rf ⟨rfl, Or.inl rfl⟩⟩
  refine pw_aload_n dX6_movesAll_0 0 rfl rfl ?_
  refine pw_iconst (v := 0) dX6_movesAll_1 (by decide) ?_
  refine pw_puti 23 zc_X6 (ts_this hM) (by decide) (by decide) q2009 rfl (Or.inl rfl) rfl rfl dX6_movesAll_2 ?_
  generalize zpfi n aT tf_spot 0 = n0 at hV0 ⊢
  refine pw_aload_n dX6_movesAll_5 0 rfl rfl ?_
  refine pw_getr 12 zc_X6 (ts_this hM) (by decide) q1998 (Or.inr ⟨_, rfl⟩) (tr_told hM) dX6_movesAll_6 ?_
  refine pw_iconst (v := 4) dX6_movesAll_9 (by decide) ?_
  refine pw_aload_n dX6_movesAll_10 0 rfl rfl ?_
  refine pw_aload_n dX6_movesAll_11 1 rfl rfl ?_
  refine pw_aload_n dX6_movesAll_12 0 rfl rfl ?_
  refine pw_getr 12 zc_X6 (ts_this hM) (by decide) q1998 (Or.inr ⟨_, rfl⟩) (tr_told hM) dX6_movesAll_13 ?_
  refine pw_iconst (v := 4) dX6_movesAll_16 (by decide) ?_
  refine pw_iald 4 rfl (ts_told hM) (by decide) (by decide) dX6_movesAll_17 ?_
  rw [hV0.2.1 4]
  refine pw_iload_n dX6_movesAll_18 2 rfl rfl ?_
  refine pw_callV3 zmM_X6_moves rfl (lw_V q2672 q2674 qs123 q150 q2675) rfl (ts_this hM) zc_X6 (t_moves0 hM hKa hK 0 (by decide) hV0.1 _) (by decide) (Nat.le_refl _) (Nat.le_refl _) rfl (Nat.le_of_ble_eq_true rfl) (Nat.le_of_ble_eq_true rfl) dX6_movesAll_19 zE.nx (zE_kk ?_)
  refine pw_iast 4 rfl (ts_told hM) (by decide) (by decide) (by decide) dX6_movesAll_22 ?_
  have hV1 := hV0.step (A := at_told) (q := 4) (v := zai n at_told 4) (Or.inl rfl) rfl rfl hK1 hK2
  generalize zpai (zpfi (zpai n0 K 0 (zai n at_told 4)) aT tf_spot (nI (0 + 1))) at_told 4 (zai n at_told 4) = n1 at hV1 ⊢
  refine pw_aload_n dX6_movesAll_23 0 rfl rfl ?_
  refine pw_getr 12 zc_X6 (ts_this hM) (by decide) q1998 (Or.inr ⟨_, rfl⟩) (tr_told hM) dX6_movesAll_24 ?_
  refine pw_iconst (v := 5) dX6_movesAll_27 (by decide) ?_
  refine pw_aload_n dX6_movesAll_28 0 rfl rfl ?_
  refine pw_aload_n dX6_movesAll_29 1 rfl rfl ?_
  refine pw_aload_n dX6_movesAll_30 0 rfl rfl ?_
  refine pw_getr 12 zc_X6 (ts_this hM) (by decide) q1998 (Or.inr ⟨_, rfl⟩) (tr_told hM) dX6_movesAll_31 ?_
  refine pw_iconst (v := 5) dX6_movesAll_34 (by decide) ?_
  refine pw_iald 5 rfl (ts_told hM) (by decide) (by decide) dX6_movesAll_35 ?_
  rw [hV1.2.1 5]
  refine pw_iload_n dX6_movesAll_36 2 rfl rfl ?_
  refine pw_callV3 zmM_X6_moves rfl (lw_V q2672 q2674 qs123 q150 q2675) rfl (ts_this hM) zc_X6 (t_moves0 hM hKa hK 1 (by decide) hV1.1 _) (by decide) (Nat.le_refl _) (Nat.le_refl _) rfl (Nat.le_of_ble_eq_true rfl) (Nat.le_of_ble_eq_true rfl) dX6_movesAll_37 zE.nx (zE_kk ?_)
  refine pw_iast 5 rfl (ts_told hM) (by decide) (by decide) (by decide) dX6_movesAll_40 ?_
  refine pw_iconst (v := 0) dX6_movesAll_41 (by decide) ?_
  refine pw_istore_n (ls' := [(3, _), (0, _), (1, _), (2, _)]) dX6_movesAll_42 rfl (by decide) rfl ?_
  refine pw_ls [1, 2, 3, 0] (ls' := [(0, _), (1, _), (2, _), (3, _)]) rfl ?_
  exact hlp 0 (Nat.zero_le _) _ (hV1.step (A := at_told) (q := 5) (v := zai n at_told 5) (Or.inl rfl) rfl rfl hK1 hK2)
def sImg (S : zS) : zS := (fun a k => if a = 0 ∧ k = 6 then sN S 0 6 + 1 else if a = 10 + sN S 0 6 then (if k = 0 then sN S 0 4 else if k = 1 then sN S 0 5 else sN S 2 (k - 2)) else S.1 a k, S.2)
theorem sImg_o {S : zS} {a k : Nat} (h1 : ¬ (a = 0 ∧ k = 6)) (h2 : ¬ a = 10 + sN S 0 6) : (sImg S).1 a k = S.1 a k := (if_neg h1).trans (if_neg h2)
theorem sImg_6 {S : zS} : (sImg S).1 0 6 = sN S 0 6 + 1 := rfl
theorem sImg_i {S : zS} {k : Nat} : (sImg S).1 (10 + sN S 0 6) k = (if k = 0 then sN S 0 4 else if k = 1 then sN S 0 5 else sN S 2 (k - 2)) := (if_neg (fun z => by have := z.1; omega)).trans (if_pos rfl)
def sp_image (S : zS) : Int32 × Value × zS := if sN S 0 6 = 3 then (0, .int (-1), S) else (0, .int (nI (sN S 0 6 + 1)), sImg S)
theorem t_image {g : zg_G} {n : zg_N} {S : zS} (hM : TSh g) (hT : TW n S) (hW : WF S) : PW zm_X6_image 3 (tQ g n (sp_image S)) 0 0 0 [(0, .ref aT)] [] g n := by
  have h3 := hW.imgs
  refine pw_aload_n dX6_image_0 0 rfl rfl ?_
  refine pw_iconst (v := 0) dX6_image_1 (by decide) ?_
  refine pw_puti 0 zc_X6 (ts_this hM) (by decide) (by decide) q1986 rfl (Or.inl rfl) rfl rfl dX6_image_2 ?_
  obtain ⟨hT0, hth, hf0⟩ := t_start hT hW; generalize zpfi n aT 0 0 = n0 at hT0 hth hf0 ⊢
  refine pw_aload_n dX6_image_5 0 rfl rfl ?_
  refine pw_geti 22 zc_X6 (ts_this hM) (by decide) q2008 (Or.inl rfl) dX6_image_6 ?_
  rw [hT0.im]
  refine pw_iconst (v := 3) dX6_image_9 (by decide) ?_
  refine pw_icmp_ne_N (b := 3) 15 dX6_image_10 (by decide) (by omega) (by omega) (fun c_10 => ?_) (fun c_10 => ?_)
  · refine pw_aload_n dX6_image_15 0 rfl rfl ?_
    refine pw_aload_n dX6_image_16 0 rfl rfl ?_
    refine pw_getr 24 zc_X6 (ts_this hM) (by decide) q2010 (Or.inr ⟨_, rfl⟩) (tr_kept hM) dX6_image_17 ?_
    refine pw_aload_n dX6_image_20 0 rfl rfl ?_
    refine pw_geti 22 zc_X6 (ts_this hM) (by decide) q2008 (Or.inl rfl) dX6_image_21 ?_
    rw [hT0.im]
    refine pw_aald (sN S 0 6) rfl (ts_kept hM) rfl (Or.inr ⟨_, rfl⟩) (tw_kept hM (sN S 0 6) (by omega)) (by omega) (by decide) dX6_image_24 ?_
    refine pw_iconst (v := 0) dX6_image_25 (by decide) ?_
    refine pw_callV2 zmM_X6_movesAll rfl (lw_V q2668 q2670 qs122 q150 q2671) rfl (ts_this hM) zc_X6 (t_movesAll0 hM (K := at_kept + 1 + sN S 0 6) (zK_e (by decide)) (tv_kept hM _ (by omega)) (by show 1058 + 1 + sN S 0 6 ≠ 1049; omega) (by show 1058 + 1 + sN S 0 6 ≠ 1057; omega)) (by decide) (Nat.le_refl _) (Nat.le_refl _) rfl (Nat.le_of_ble_eq_true rfl) (Nat.le_of_ble_eq_true rfl) dX6_image_26 (by intros; rintro ⟨h, _⟩; cases h) (fun v1 g1 n1 h1 => ?_)
    obtain ⟨h1, rfl, hV⟩ := h1
    cases h1
    have him : zfi n1 aT tf_images = nI (sN S 0 6) := hV.2.2.2.2.1.trans hT0.im
    refine pw_aload_n dX6_image_29 0 rfl rfl ?_
    refine pw_dup dX6_image_30 rfl ?_
    refine pw_geti 22 zc_X6 (ts_this hM) (by decide) q2008 (Or.inl rfl) dX6_image_31 ?_
    rw [him]
    refine pw_iconst (v := 1) dX6_image_34 (by decide) ?_
    refine pw_iadd dX6_image_35 ?_
    rw [nI_1]
    refine pw_puti 22 zc_X6 (ts_this hM) (by decide) (by decide) q2008 rfl (Or.inl rfl) rfl rfl dX6_image_36 ?_
    refine pw_aload_n dX6_image_39 0 rfl rfl ?_
    refine pw_geti 22 zc_X6 (ts_this hM) (by decide) q2008 (Or.inl rfl) dX6_image_40 ?_
    rw [show zfi (zpfi n1 aT tf_images (nI (sN S 0 6 + 1))) aT tf_images = nI (sN S 0 6 + 1) from by rw [zfi_p, if_pos ⟨rfl, rfl⟩]]
    refine pw_iret rfl dX6_image_43 ?_
    have hf1 : zFr mF (mA (at_kept + 1 + sN S 0 6)) n0 (zpfi n1 aT tf_images (nI (sN S 0 6 + 1))) := zFr.pfi hV.2.2.2.2.2.2 ⟨rfl, Or.inr rfl⟩
    refine tQ_eq (if_neg c_10) ⟨rfl, rfl, hT0.mix hW (sImg S).1 (sN S 0 6) rfl (by omega) hf1 (fun k a b c => ?_) (fun k => ?_) (fun k => ?_) ?_ (fun k hk => ?_) (fun k hk => ?_) ?_ (fun i hi j hj => ?_) hV.2.2.2.2.2.1, ?_, hf0.tr (hf1.mono (fun _ _ z => z.1) (fun a z => ?_))⟩
    · exact sImg_o (fun z => c z.2) (by omega)
    · exact sImg_o (fun z => absurd z.1 (by decide)) (by omega)
    · exact sImg_o (fun z => absurd z.1 (by decide)) (by omega)
    · rw [sImg_6]; omega
    · rw [show zai (zpfi n1 aT tf_images (nI (sN S 0 6 + 1))) at_told k = zai n0 at_told k from hV.2.1 k, hT0.told hk]
      rw [sImg_o (S := S) (a := 0) (k := k) (fun z => by omega) (by omega)]
    · rw [show zai (zpfi n1 aT tf_images (nI (sN S 0 6 + 1))) at_order k = zai n0 at_order k from hV.2.2.1 k, hT0.od hk]
      rw [sImg_o (S := S) (a := 2) (k := k) (fun z => absurd z.1 (by decide)) (by omega)]
    · rw [zfi_p, if_pos ⟨rfl, rfl⟩]
      rw [sImg_6]
    · have hi2 : i < sN S 0 6 + 1 := by rw [sImg_6] at hi; exact hi
      show zai n1 (at_kept + 1 + i) j = nI ((sImg S).1 (10 + i) j)
      by_cases e : i = sN S 0 6
      · rw [e, sImg_i, hV.2.2.2.1 j hj, mvV]
        by_cases j0 : j = 0
        · rw [if_pos j0, if_pos j0]; exact hT0.told (by decide)
        · rw [if_neg j0, if_neg j0]
          by_cases j1 : j = 1
          · rw [if_pos j1, if_pos j1]; exact hT0.told (by decide)
          · rw [if_neg j1, if_neg j1]; exact hT0.od (by omega)
      · rw [sImg_o (S := S) (a := 10 + i) (k := j) (fun z => by omega) (by omega), (hV.2.2.2.2.2.2.2 (at_kept + 1 + i) (fun z => by rcases z with z | z | z; (have : 1058 + 1 + i = 1049 := z; omega); (have : 1058 + 1 + i = 1057 := z; omega); (have : 1058 + 1 + i = 1058 + 1 + sN S 0 6 := z; omega)) j).1]
        exact hT0.kept (by omega) hj
    · rw [(hf1.1 aT tf_thrown (fun z => by rcases z.2 with z | z <;> (revert z; decide))).1]; exact hth
    · rcases z with rfl | rfl | rfl
      · constructor <;> decide
      · constructor <;> decide
      · refine ⟨?_, ?_⟩
        · show 1045 < 1058 + 1 + sN S 0 6; omega
        · show 1058 + 1 + sN S 0 6 < 1545; omega
  · refine pw_iconst (v := (-1)) dX6_image_13 (by decide) ?_
    refine pw_iret rfl dX6_image_14 ?_
    exact tQ_eq (if_pos c_10) (t_qok hT0 hth hf0 _)
def MR (n n1 : zg_N) (K m : Nat) : Prop := zfi n1 aT tf_spot = nI m ∧ (∀ k, zai n1 K k = zai n K k) ∧ (∀ k, zai n1 at_told k = if k = 4 ∧ 1 ≤ m then zai n K 0 else if k = 5 ∧ 2 ≤ m then zai n K 1 else zai n at_told k) ∧ (∀ k, zai n1 at_order k = if k + 2 < m then zai n K (2 + k) else zai n at_order k) ∧ zfi n1 aT tf_images = zfi n aT tf_images ∧ (∀ k, zal n1 at_order k = zal n at_order k) ∧ zFr mF (mA K) n n1
theorem t_movesAll1 {g : zg_G} {n : zg_N} (hM : TSh g) {K : Nat} (hK : zsh g K = some (.inr (0, 14))) (hK1 : K ≠ at_told) (hK2 : K ≠ at_order) : PW zm_X6_movesAll 2 (fun o g1 n1 => o = .inl none ∧ g1 = g ∧ MR n n1 K 14) 0 0 0 [(0, .ref aT), (1, .ref K), (2, .int 1)] [] g n := by
  have hst : ∀ n1 m v, MR n n1 K m → v = zai n K m → (∀ A q, (m = 0 → A = at_told ∧ q = 4) → (m = 1 → A = at_told ∧ q = 5) → (2 ≤ m → A = at_order ∧ q + 2 = m) → MR n (zpai (zpfi n1 aT tf_spot (nI (m + 1))) A q v) K (m + 1)) := by
    intro n1 m v ⟨h1, h2, h3, h4, h5, h6, h7⟩ hv A q a0 a1 a2
    have hA : A = at_told ∨ A = at_order := by
      rcases (by omega : m = 0 ∨ m = 1 ∨ 2 ≤ m) with h | h | h
      · exact Or.inl (a0 h).1
      · exact Or.inl (a1 h).1
      · exact Or.inr (a2 h).1
    have hAK : ¬ K = A := fun z => by rcases hA with r | r <;> (rw [r] at z; first | exact hK1 z | exact hK2 z)
    refine ⟨by rw [zfi_pa, zfi_p, if_pos ⟨rfl, rfl⟩], fun k => ?_, fun k => ?_, fun k => ?_, h5, h6, ?_⟩
    · rw [zai_p, if_neg (fun z => hAK z.1), zai_pi]; exact h2 k
    · rw [zai_p, zai_pi, h3 k]
      rcases (by omega : m = 0 ∨ m = 1 ∨ 2 ≤ m) with h | h | h
      · obtain ⟨rfl, rfl⟩ := a0 h
        subst h
        by_cases e : k = 4
        · rw [if_pos ⟨rfl, e⟩, if_pos ⟨e, by omega⟩]; exact hv
        · simp [e]
      · obtain ⟨rfl, rfl⟩ := a1 h
        subst h
        by_cases e : k = 5
        · rw [if_pos ⟨rfl, e⟩, if_neg (fun z => by omega), if_pos ⟨e, by omega⟩]; exact hv
        · simp [e]
      · obtain ⟨rfl, -⟩ := a2 h
        rw [if_neg (fun z => absurd z.1 (by decide))]
        have e1 : (k = 4 ∧ 1 ≤ m + 1) ↔ (k = 4 ∧ 1 ≤ m) := by omega
        have e2 : (k = 5 ∧ 2 ≤ m + 1) ↔ (k = 5 ∧ 2 ≤ m) := by omega
        simp only [e1, e2]
    · rw [zai_p, zai_pi, h4 k]
      rcases (by omega : m = 0 ∨ m = 1 ∨ 2 ≤ m) with h | h | h
      · obtain ⟨rfl, rfl⟩ := a0 h
        rw [if_neg (fun z => absurd z.1 (by decide)), if_neg (by omega), if_neg (by omega)]
      · obtain ⟨rfl, rfl⟩ := a1 h
        rw [if_neg (fun z => absurd z.1 (by decide)), if_neg (by omega), if_neg (by omega)]
      · obtain ⟨rfl, hq⟩ := a2 h
        by_cases e : k = q
        · rw [if_pos ⟨rfl, e⟩, if_pos (by omega), hv, show m = 2 + k by omega]
        · rw [if_neg (fun z => e z.2)]
          by_cases e2 : k + 2 < m
          · rw [if_pos e2, if_pos (by omega)]
          · rw [if_neg e2, if_neg (by omega)]
    · refine zFr.pai (zFr.pfi h7 ⟨rfl, Or.inl rfl⟩) ?_
      rcases hA with r | r
      · exact Or.inl r
      · exact Or.inr (Or.inl r)
  have hlp : ∀ k, k ≤ 12 → ∀ n1, MR n n1 K (k + 2) → PW zm_X6_movesAll 2 (fun o g1 n1 => o = .inl none ∧ g1 = g ∧ MR n n1 K 14) 0 0 43 [(0, .ref aT), (1, .ref K), (2, .int 1), (3, .int (nI k))] [] g n1 := by
    refine zl_up _ (fun k hk ih n1 hV => ?_)
    refine pw_iload_n dX6_movesAll_43 3 rfl rfl ?_
    refine pw_bipush (v := 12) dX6_movesAll_44 (by decide) ?_
    refine pw_icmp_ge_N (b := 12) 73 dX6_movesAll_46 (by decide) (by omega) (by omega) (fun c_46 => ?_) (fun c_46 => ?_)
    · refine pw_vret rfl dX6_movesAll_73 ?_
      exact ⟨rfl, rfl, by rw [show k = 12 by omega] at hV; exact hV⟩
    · refine pw_aload_n dX6_movesAll_49 0 rfl rfl ?_
      refine pw_getr 21 zc_X6 (ts_this hM) (by decide) q2007 (Or.inr ⟨_, rfl⟩) (tr_order hM) dX6_movesAll_50 ?_
      refine pw_iload_n dX6_movesAll_53 3 rfl rfl ?_
      refine pw_aload_n dX6_movesAll_54 0 rfl rfl ?_
      refine pw_aload_n dX6_movesAll_55 1 rfl rfl ?_
      refine pw_aload_n dX6_movesAll_56 0 rfl rfl ?_
      refine pw_getr 21 zc_X6 (ts_this hM) (by decide) q2007 (Or.inr ⟨_, rfl⟩) (tr_order hM) dX6_movesAll_57 ?_
      refine pw_iload_n dX6_movesAll_60 3 rfl rfl ?_
      refine pw_iald k rfl (ts_order hM) (by omega) (by decide) dX6_movesAll_61 ?_
      refine pw_iload_n dX6_movesAll_62 2 rfl rfl ?_
      refine pw_callV3 zmM_X6_moves rfl (lw_V q2672 q2674 qs123 q150 q2675) rfl (ts_this hM) zc_X6 (t_moves1 hM hK (k + 2) (by omega) hV.1 _) (by decide) (Nat.le_refl _) (Nat.le_refl _) rfl (Nat.le_of_ble_eq_true rfl) (Nat.le_of_ble_eq_true rfl) dX6_movesAll_63 zE.nx (zE_kk ?_)
      rw [hV.2.1 (k + 2)]
      refine pw_iast k rfl (ts_order hM) (by decide) (by omega) (by decide) dX6_movesAll_66 ?_
      refine pw_iinc1 (j := 3) (ls' := [(3, _), (0, _), (1, _), (2, _)]) dX6_movesAll_67 rfl (by decide) rfl ?_
      refine pw_ls [1, 2, 3, 0] (ls' := [(0, _), (1, _), (2, _), (3, _)]) rfl ?_
      refine pw_goto 43 dX6_movesAll_70 (by decide) ?_
      exact ih (k + 1) (by omega) (by omega) _ (hst n1 (k + 2) _ hV rfl at_order k (fun h => by omega) (fun h => by omega) (fun _ => ⟨rfl, rfl⟩))
  have hV0 : MR n (zpfi n aT tf_spot 0) K 0 := ⟨by rw [zfi_p, if_pos ⟨rfl, rfl⟩]; rfl, fun _ => rfl, fun k => by rw [if_neg (fun z => absurd z.2 (by omega)), if_neg (fun z => absurd z.2 (by omega))]; rfl, fun k => by rw [if_neg (by omega)]; rfl, rfl, fun _ => rfl, zFr.pfi zFr.rf ⟨rfl, Or.inl rfl⟩⟩
  refine pw_aload_n dX6_movesAll_0 0 rfl rfl ?_
  refine pw_iconst (v := 0) dX6_movesAll_1 (by decide) ?_
  refine pw_puti 23 zc_X6 (ts_this hM) (by decide) (by decide) q2009 rfl (Or.inl rfl) rfl rfl dX6_movesAll_2 ?_
  generalize zpfi n aT tf_spot 0 = n0 at hV0 ⊢
  refine pw_aload_n dX6_movesAll_5 0 rfl rfl ?_
  refine pw_getr 12 zc_X6 (ts_this hM) (by decide) q1998 (Or.inr ⟨_, rfl⟩) (tr_told hM) dX6_movesAll_6 ?_
  refine pw_iconst (v := 4) dX6_movesAll_9 (by decide) ?_
  refine pw_aload_n dX6_movesAll_10 0 rfl rfl ?_
  refine pw_aload_n dX6_movesAll_11 1 rfl rfl ?_
  refine pw_aload_n dX6_movesAll_12 0 rfl rfl ?_
  refine pw_getr 12 zc_X6 (ts_this hM) (by decide) q1998 (Or.inr ⟨_, rfl⟩) (tr_told hM) dX6_movesAll_13 ?_
  refine pw_iconst (v := 4) dX6_movesAll_16 (by decide) ?_
  refine pw_iald 4 rfl (ts_told hM) (by decide) (by decide) dX6_movesAll_17 ?_
  refine pw_iload_n dX6_movesAll_18 2 rfl rfl ?_
  refine pw_callV3 zmM_X6_moves rfl (lw_V q2672 q2674 qs123 q150 q2675) rfl (ts_this hM) zc_X6 (t_moves1 hM hK 0 (by decide) hV0.1 _) (by decide) (Nat.le_refl _) (Nat.le_refl _) rfl (Nat.le_of_ble_eq_true rfl) (Nat.le_of_ble_eq_true rfl) dX6_movesAll_19 zE.nx (zE_kk ?_)
  rw [hV0.2.1 0]
  refine pw_iast 4 rfl (ts_told hM) (by decide) (by decide) (by decide) dX6_movesAll_22 ?_
  have hV1 := hst n0 0 _ hV0 rfl at_told 4 (fun _ => ⟨rfl, rfl⟩) (fun h => by omega) (fun h => by omega)
  generalize zpai (zpfi n0 aT tf_spot (nI (0 + 1))) at_told 4 (zai n K 0) = n1 at hV1 ⊢
  refine pw_aload_n dX6_movesAll_23 0 rfl rfl ?_
  refine pw_getr 12 zc_X6 (ts_this hM) (by decide) q1998 (Or.inr ⟨_, rfl⟩) (tr_told hM) dX6_movesAll_24 ?_
  refine pw_iconst (v := 5) dX6_movesAll_27 (by decide) ?_
  refine pw_aload_n dX6_movesAll_28 0 rfl rfl ?_
  refine pw_aload_n dX6_movesAll_29 1 rfl rfl ?_
  refine pw_aload_n dX6_movesAll_30 0 rfl rfl ?_
  refine pw_getr 12 zc_X6 (ts_this hM) (by decide) q1998 (Or.inr ⟨_, rfl⟩) (tr_told hM) dX6_movesAll_31 ?_
  refine pw_iconst (v := 5) dX6_movesAll_34 (by decide) ?_
  refine pw_iald 5 rfl (ts_told hM) (by decide) (by decide) dX6_movesAll_35 ?_
  refine pw_iload_n dX6_movesAll_36 2 rfl rfl ?_
  refine pw_callV3 zmM_X6_moves rfl (lw_V q2672 q2674 qs123 q150 q2675) rfl (ts_this hM) zc_X6 (t_moves1 hM hK 1 (by decide) hV1.1 _) (by decide) (Nat.le_refl _) (Nat.le_refl _) rfl (Nat.le_of_ble_eq_true rfl) (Nat.le_of_ble_eq_true rfl) dX6_movesAll_37 zE.nx (zE_kk ?_)
  rw [hV1.2.1 1]
  refine pw_iast 5 rfl (ts_told hM) (by decide) (by decide) (by decide) dX6_movesAll_40 ?_
  refine pw_iconst (v := 0) dX6_movesAll_41 (by decide) ?_
  refine pw_istore_n (ls' := [(3, _), (0, _), (1, _), (2, _)]) dX6_movesAll_42 rfl (by decide) rfl ?_
  refine pw_ls [1, 2, 3, 0] (ls' := [(0, _), (1, _), (2, _), (3, _)]) rfl ?_
  exact hlp 0 (Nat.zero_le _) _ (hst n1 1 _ hV1 rfl at_told 5 (fun h => by omega) (fun _ => ⟨rfl, rfl⟩) (fun h => by omega))
def sRes (S : zS) : zS := (fun a k => if a = 0 then (if k = 6 then sN S 0 6 - 1 else if k = 4 then sN S (10 + (sN S 0 6 - 1)) 0 else if k = 5 then sN S (10 + (sN S 0 6 - 1)) 1 else S.1 0 k) else if a = 2 then sN S (10 + (sN S 0 6 - 1)) (2 + k) else S.1 a k, S.2)
theorem sRes_o {S : zS} {a k : Nat} (h0 : ¬ a = 0) (h2 : ¬ a = 2) : (sRes S).1 a k = S.1 a k := (if_neg h0).trans (if_neg h2)
theorem sRes_0 {S : zS} {k : Nat} : (sRes S).1 0 k = (if k = 6 then sN S 0 6 - 1 else if k = 4 then sN S (10 + (sN S 0 6 - 1)) 0 else if k = 5 then sN S (10 + (sN S 0 6 - 1)) 1 else S.1 0 k) := rfl
theorem sRes_2 {S : zS} {k : Nat} : (sRes S).1 2 k = sN S (10 + (sN S 0 6 - 1)) (2 + k) := rfl
def sp_restore (S : zS) : Int32 × Value × zS := if sN S 0 6 = 0 then (0, .int (-1), S) else (0, .int (nI (sN S 0 6 - 1)), sRes S)
theorem t_restore {g : zg_G} {n : zg_N} {S : zS} (hM : TSh g) (hT : TW n S) (hW : WF S) : PW zm_X6_restore 3 (tQ g n (sp_restore S)) 0 0 0 [(0, .ref aT)] [] g n := by
  have h3 := hW.imgs
  refine pw_aload_n dX6_restore_0 0 rfl rfl ?_
  refine pw_iconst (v := 0) dX6_restore_1 (by decide) ?_
  refine pw_puti 0 zc_X6 (ts_this hM) (by decide) (by decide) q1986 rfl (Or.inl rfl) rfl rfl dX6_restore_2 ?_
  obtain ⟨hT0, hth, hf0⟩ := t_start hT hW; generalize zpfi n aT 0 0 = n0 at hT0 hth hf0 ⊢
  refine pw_aload_n dX6_restore_5 0 rfl rfl ?_
  refine pw_geti 22 zc_X6 (ts_this hM) (by decide) q2008 (Or.inl rfl) dX6_restore_6 ?_
  rw [hT0.im]
  refine pw_if_ne_N 14 dX6_restore_9 (by decide) (by omega) (fun c_9 => ?_) (fun c_9 => ?_)
  · refine pw_aload_n dX6_restore_14 0 rfl rfl ?_
    refine pw_dup dX6_restore_15 rfl ?_
    refine pw_geti 22 zc_X6 (ts_this hM) (by decide) q2008 (Or.inl rfl) dX6_restore_16 ?_
    rw [hT0.im]
    refine pw_iconst (v := 1) dX6_restore_19 (by decide) ?_
    refine pw_isub dX6_restore_20 ?_
    rw [show nI (sN S 0 6) - 1 = nI (sN S 0 6 - 1) from nI_sub (b := 1) (by omega)]
    refine pw_puti 22 zc_X6 (ts_this hM) (by decide) (by decide) q2008 rfl (Or.inl rfl) rfl rfl dX6_restore_21 ?_
    refine pw_aload_n dX6_restore_24 0 rfl rfl ?_
    refine pw_aload_n dX6_restore_25 0 rfl rfl ?_
    refine pw_getr 24 zc_X6 (ts_this hM) (by decide) q2010 (Or.inr ⟨_, rfl⟩) (tr_kept hM) dX6_restore_26 ?_
    refine pw_aload_n dX6_restore_29 0 rfl rfl ?_
    refine pw_geti 22 zc_X6 (ts_this hM) (by decide) q2008 (Or.inl rfl) dX6_restore_30 ?_
    rw [show zfi (zpfi n0 aT tf_images (nI (sN S 0 6 - 1))) aT tf_images = nI (sN S 0 6 - 1) from by rw [zfi_p, if_pos ⟨rfl, rfl⟩]]
    refine pw_aald (sN S 0 6 - 1) rfl (ts_kept hM) rfl (Or.inr ⟨_, rfl⟩) (tw_kept hM (sN S 0 6 - 1) (by omega)) (by omega) (by decide) dX6_restore_33 ?_
    refine pw_iconst (v := 1) dX6_restore_34 (by decide) ?_
    refine pw_callV2 zmM_X6_movesAll rfl (lw_V q2668 q2670 qs122 q150 q2671) rfl (ts_this hM) zc_X6 (t_movesAll1 hM (K := at_kept + 1 + (sN S 0 6 - 1)) (tv_kept hM _ (by omega)) (by show 1058 + 1 + (sN S 0 6 - 1) ≠ 1049; omega) (by show 1058 + 1 + (sN S 0 6 - 1) ≠ 1057; omega)) (by decide) (Nat.le_refl _) (Nat.le_refl _) rfl (Nat.le_of_ble_eq_true rfl) (Nat.le_of_ble_eq_true rfl) dX6_restore_35 (by intros; rintro ⟨h, _⟩; cases h) (fun v1 g1 n1 h1 => ?_)
    obtain ⟨h1, rfl, hV⟩ := h1
    cases h1
    have him : zfi n1 aT tf_images = nI (sN S 0 6 - 1) := hV.2.2.2.2.1.trans (by rw [zfi_p, if_pos ⟨rfl, rfl⟩])
    refine pw_aload_n dX6_restore_38 0 rfl rfl ?_
    refine pw_geti 22 zc_X6 (ts_this hM) (by decide) q2008 (Or.inl rfl) dX6_restore_39 ?_
    rw [him]
    refine pw_iret rfl dX6_restore_42 ?_
    have hf1 : zFr mF (mA (at_kept + 1 + (sN S 0 6 - 1))) n0 n1 := zFr.tr (zFr.pfi zFr.rf ⟨rfl, Or.inr rfl⟩) hV.2.2.2.2.2.2
    have hK0 : ∀ j, j < 14 → zai (zpfi n0 aT tf_images (nI (sN S 0 6 - 1))) (at_kept + 1 + (sN S 0 6 - 1)) j = nI (sN S (10 + (sN S 0 6 - 1)) j) := fun j hj => hT0.kept (by omega) hj
    refine tQ_eq (if_neg c_9) ⟨rfl, rfl, hT0.mix hW (sRes S).1 (sN S 0 6 - 1) rfl (by omega) hf1 (fun k a b c => ?_) (fun k => ?_) (fun k => ?_) ?_ (fun k hk => ?_) (fun k hk => ?_) ?_ (fun i hi j hj => ?_) hV.2.2.2.2.2.1, ?_, hf0.tr (hf1.mono (fun _ _ z => z.1) (fun a z => ?_))⟩
    · rw [sRes_0, if_neg c, if_neg a, if_neg b]
    · exact sRes_o (by decide) (by decide)
    · exact sRes_o (by decide) (by decide)
    · rw [sRes_0, if_pos rfl]; omega
    · rw [hV.2.2.1 k, sRes_0, if_neg (show ¬ k = 6 by omega)]
      by_cases e4 : k = 4
      · rw [if_pos (show k = 4 ∧ 1 ≤ 14 from ⟨e4, by decide⟩), if_pos e4]; exact hK0 0 (by decide)
      · rw [if_neg (show ¬ (k = 4 ∧ 1 ≤ 14) from fun z => e4 z.1), if_neg e4]
        by_cases e5 : k = 5
        · rw [if_pos (show k = 5 ∧ 2 ≤ 14 from ⟨e5, by decide⟩), if_pos e5]; exact hK0 1 (by decide)
        · rw [if_neg (show ¬ (k = 5 ∧ 2 ≤ 14) from fun z => e5 z.1), if_neg e5]; exact hT0.told hk
    · rw [hV.2.2.2.1 k, if_pos (by omega), sRes_2]; exact hK0 _ (by omega)
    · rw [him, sRes_0, if_pos rfl]
    · have hi2 : i < sN S 0 6 - 1 := by rw [sRes_0, if_pos rfl] at hi; exact hi
      rw [sRes_o (S := S) (a := 10 + i) (k := j) (by omega) (by omega), (hf1.2 (at_kept + 1 + i) (fun z => by rcases z with z | z | z; (have : 1058 + 1 + i = 1049 := z; omega); (have : 1058 + 1 + i = 1057 := z; omega); (have : 1058 + 1 + i = 1058 + 1 + (sN S 0 6 - 1) := z; omega)) j).1]
      exact hT0.kept (by omega) hj
    · rw [(hf1.1 aT tf_thrown (fun z => by rcases z.2 with z | z <;> (revert z; decide))).1]; exact hth
    · rcases z with rfl | rfl | rfl
      · constructor <;> decide
      · constructor <;> decide
      · refine ⟨?_, ?_⟩
        · show 1045 < 1058 + 1 + (sN S 0 6 - 1); omega
        · show 1058 + 1 + (sN S 0 6 - 1) < 1545; omega
  · refine pw_iconst (v := (-1)) dX6_restore_12 (by decide) ?_
    refine pw_iret rfl dX6_restore_13 ?_
    exact tQ_eq (if_pos c_9) (t_qok hT0 hth hf0 _)
theorem WF.img {S : zS} (h : WF S) (hi : ¬ sN S 0 6 = 3) : WF (sImg S) := by
  have h3 := h.imgs
  obtain ⟨⟨b1, b2, b3, b4, b5, b6, b7, b8, b9⟩, c1, ⟨c2, c3⟩, c4, c5, c6⟩ := h
  have e0 : ∀ k, k ≠ 6 → sN (sImg S) 0 k = sN S 0 k := fun k hk => sImg_o (fun z => hk z.2) (by omega)
  have e : ∀ a, a ≠ 0 → a < 10 → ∀ k, sN (sImg S) a k = sN S a k := fun a h1 h2 k => sImg_o (fun z => h1 z.1) (by omega)
  have e6 : sN (sImg S) 0 6 = sN S 0 6 + 1 := rfl
  have f0 := e0 0 (by decide); have f1 := e0 1 (by decide); have f2 := e0 2 (by decide); have f3 := e0 3 (by decide); have f4 := e0 4 (by decide); have f5 := e0 5 (by decide); have f7 := e0 7 (by decide)
  have p2 : sN (sImg S) 2 = sN S 2 := funext fun k => e 2 (by decide) (by decide) k
  refine ⟨⟨by rw [f0]; exact b1, by rw [f0]; exact b2, by rw [f1]; exact b3, by rw [f2]; exact b4, by rw [f3]; exact b5, by rw [f4, f0]; exact b6, by rw [f5]; exact b7, by rw [e6]; omega, by rw [f7]; exact b9⟩, fun k hk => ?_, ⟨fun k hk => ?_, ?_⟩, fun k hk => ?_, fun i hi2 => ?_, ?_⟩
  · rw [f2] at hk; rw [e 1 (by decide) (by decide)]; exact c1 k hk
  · rw [p2]; exact c2 k hk
  · rw [p2, f1]; exact c3
  · rw [f7] at hk; rw [e 3 (by decide) (by decide)]; exact c4 k hk
  · rw [e6] at hi2
    rw [f0, f1]
    by_cases hs : i = sN S 0 6
    · subst hs
      have g : ∀ k, sN (sImg S) (10 + sN S 0 6) k = (if k = 0 then sN S 0 4 else if k = 1 then sN S 0 5 else sN S 2 (k - 2)) := fun k => sImg_i
      have g2 : (fun k => sN (sImg S) (10 + sN S 0 6) (2 + k)) = sN S 2 := funext fun k => by rw [g, if_neg (by omega), if_neg (by omega), show 2 + k - 2 = k by omega]
      refine ⟨by rw [g]; exact b6, by rw [g]; exact b7, fun k hk => ?_, ?_⟩
      · rw [show sN (sImg S) (10 + sN S 0 6) (2 + k) = sN S 2 k from congrFun g2 k]; exact c2 k hk
      · rw [g2]; exact c3
    · have g : ∀ k, sN (sImg S) (10 + i) k = sN S (10 + i) k := fun k => sImg_o (fun z => by omega) (by omega)
      have := c5 i (by omega)
      refine ⟨by rw [g]; exact this.1, by rw [g]; exact this.2.1, fun k hk => by rw [g]; exact this.2.2.1 k hk, ?_⟩
      rw [show (fun k => sN (sImg S) (10 + i) (2 + k)) = fun k => sN S (10 + i) (2 + k) from funext fun k => g _]
      exact this.2.2.2
  · refine ⟨fun k hk => ?_, ?_⟩
    · rw [f0]; exact c6.1 k (by unfold okb at hk ⊢; rw [f1, f3] at hk; exact hk)
    · rw [f0]; exact c6.2
theorem WF.res {S : zS} (h : WF S) (hi : ¬ sN S 0 6 = 0) : WF (sRes S) := by
  have h3 := h.imgs
  obtain ⟨⟨b1, b2, b3, b4, b5, b6, b7, b8, b9⟩, c1, ⟨c2, c3⟩, c4, c5, c6⟩ := h
  have e0 : ∀ k, k ≠ 6 → k ≠ 4 → k ≠ 5 → sN (sRes S) 0 k = sN S 0 k := fun k h1 h2 h3 => (if_neg h1).trans ((if_neg h2).trans (if_neg h3))
  have e : ∀ a, a ≠ 0 → a ≠ 2 → ∀ k, sN (sRes S) a k = sN S a k := fun a h1 h2 k => sRes_o h1 h2
  have e6 : sN (sRes S) 0 6 = sN S 0 6 - 1 := rfl
  have f0 := e0 0 (by decide) (by decide) (by decide); have f1 := e0 1 (by decide) (by decide) (by decide); have f2 := e0 2 (by decide) (by decide) (by decide); have f3 := e0 3 (by decide) (by decide) (by decide); have f7 := e0 7 (by decide) (by decide) (by decide)
  have f4 : sN (sRes S) 0 4 = sN S (10 + (sN S 0 6 - 1)) 0 := rfl
  have f5 : sN (sRes S) 0 5 = sN S (10 + (sN S 0 6 - 1)) 1 := rfl
  have p2 : sN (sRes S) 2 = fun k => sN S (10 + (sN S 0 6 - 1)) (2 + k) := rfl
  have hl := c5 (sN S 0 6 - 1) (by omega)
  refine ⟨⟨by rw [f0]; exact b1, by rw [f0]; exact b2, by rw [f1]; exact b3, by rw [f2]; exact b4, by rw [f3]; exact b5, by rw [f4, f0]; exact hl.1, by rw [f5]; exact hl.2.1, by rw [e6]; omega, by rw [f7]; exact b9⟩, fun k hk => ?_, ⟨fun k hk => ?_, ?_⟩, fun k hk => ?_, fun i hi2 => ?_, ?_⟩
  · rw [f2] at hk; rw [e 1 (by decide) (by decide)]; exact c1 k hk
  · rw [p2]; exact hl.2.2.1 k hk
  · rw [p2, f1]; exact hl.2.2.2
  · rw [f7] at hk; rw [e 3 (by decide) (by decide)]; exact c4 k hk
  · rw [e6] at hi2
    rw [f0, f1]
    have g : ∀ k, sN (sRes S) (10 + i) k = sN S (10 + i) k := fun k => sRes_o (by omega) (by omega)
    have := c5 i (by omega)
    refine ⟨by rw [g]; exact this.1, by rw [g]; exact this.2.1, fun k hk => by rw [g]; exact this.2.2.1 k hk, ?_⟩
    rw [show (fun k => sN (sRes S) (10 + i) (2 + k)) = fun k => sN S (10 + i) (2 + k) from funext fun k => g _]
    exact this.2.2.2
  · refine ⟨fun k hk => ?_, ?_⟩
    · rw [f0]; exact c6.1 k (by unfold okb at hk ⊢; rw [f1, f3] at hk; exact hk)
    · rw [f0]; exact c6.2

