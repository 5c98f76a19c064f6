/-! ===== THE CLASS: a school begins; one leaves ===== -/
section SCH2
variable {g : zg_G} {n : zg_N} {a : Nat}
theorem u_leaves (hC : CSh g) (hs : isSch a) {pre r : List Nat} {b : Nat} {A : zYa} (hY : CY n a (pre ++ b :: r, A)) (hl : (pre ++ b :: r).length ≤ 17) : PW zm_X5_leaves 1 (cY a g n (pre ++ r, A)) 0 0 0 [(0, .ref a), (1, .int (nI pre.length))] [] g n := by
  obtain ⟨⟨hn, hr⟩, hA⟩ := hY
  have hlen : (pre ++ b :: r).length = pre.length + r.length + 1 := by simp only [List.length_append, List.length_cons]; omega
  rw [hlen] at hn hl
  have hlp : ∀ j, j ≤ pre.length + r.length → pre.length ≤ j → ∀ n1, zFr (fun b k => b = a ∧ k = sf_many) (fun b => b = a + 1) n n1 → zfi n1 a sf_many = nI (pre.length + r.length) → (∀ t, zai n1 (a + 1) t = if pre.length ≤ t ∧ t < j then zai n (a + 1) (t + 1) else zai n (a + 1) t) →
      PW zm_X5_leaves 1 (cY a g n (pre ++ r, A)) 0 0 12 [(0, .ref a), (1, .int (nI pre.length)), (2, .int (nI j))] [] g n1 := by
    refine zl_up _ (fun j hj ih hpj n1 hf hm ht => ?_)
    refine pw_iload_n dX5_leaves_12 2 rfl rfl ?_
    refine pw_aload_n dX5_leaves_13 0 rfl rfl ?_
    refine pw_geti 7 zc_X5 (cs_sch hC hs) (by decide) q622 (Or.inl rfl) dX5_leaves_14 ?_
    rw [hm]
    refine pw_icmp_ge_N 40 dX5_leaves_17 (by decide) (by omega) (by omega) (fun c_17 => ?_) (fun c_17 => ?_)
    · refine pw_vret rfl dX5_leaves_40 ?_
      refine ⟨rfl, rfl, ⟨⟨hm.trans (by rw [List.length_append]), fun i c hi => ?_⟩, hA.keep (fun b k h1 h2 => ((hf.2 _ (by omega) k).1)) ((hf.1 _ _ (fun z => absurd z.2 (by decide))).1) ((hf.1 _ _ (fun z => absurd z.2 (by decide))).1)⟩, hf.mono (fun a k h => h.1) (fun b h => by have h : b = a + 1 := h; unfold uA; omega)⟩
      have hil : i < pre.length + r.length := by have := (List.getElem?_eq_some_iff.mp hi).1; rw [List.length_append] at this; exact this
      rw [ht i]
      by_cases e : pre.length ≤ i
      · rw [if_pos ⟨e, by omega⟩]
        refine hr (i + 1) c ?_
        rw [List.getElem?_append_right e] at hi
        rw [List.getElem?_append_right (by omega), show i + 1 - pre.length = (i - pre.length) + 1 by omega, List.getElem?_cons_succ]
        exact hi
      · rw [if_neg (fun z => e z.1)]
        refine hr i c ?_
        rw [List.getElem?_append_left (by omega)] at hi ⊢
        exact hi
    · refine pw_aload_n dX5_leaves_20 0 rfl rfl ?_
      refine pw_getr 0 zc_X5 (cs_sch hC hs) (by decide) q609 (Or.inr ⟨_, rfl⟩) (cr_chairs hC hs) dX5_leaves_21 ?_
      refine pw_iload_n dX5_leaves_24 2 rfl rfl ?_
      refine pw_aload_n dX5_leaves_25 0 rfl rfl ?_
      refine pw_getr 0 zc_X5 (cs_sch hC hs) (by decide) q609 (Or.inr ⟨_, rfl⟩) (cr_chairs hC hs) dX5_leaves_26 ?_
      refine pw_iload_n dX5_leaves_29 2 rfl rfl ?_
      refine pw_iconst (v := 1) dX5_leaves_30 (by decide) ?_
      refine pw_iadd dX5_leaves_31 ?_
      rw [nI_1]
      refine pw_iald (j + 1) rfl (cs_chairs hC hs) (by omega) (by decide) dX5_leaves_32 ?_
      rw [ht (j + 1), if_neg (by omega)]
      refine pw_iast j rfl (cs_chairs hC hs) (hs.gek 1) (by omega) (by decide) dX5_leaves_33 ?_
      refine pw_iinc1 (j := 2) (ls' := [(2, _), (0, _), (1, _)]) dX5_leaves_34 rfl (by decide) rfl ?_
      refine pw_ls [1, 2, 0] (ls' := [(0, _), (1, _), (2, _)]) rfl ?_
      refine pw_goto 12 dX5_leaves_37 (by decide) ?_
      exact ih (j + 1) (by omega) (by omega) (by omega) _ (hf.pai rfl) hm (fun t => by
        rw [zai_p]
        by_cases e : t = j
        · subst e; rw [if_pos ⟨rfl, rfl⟩, if_pos ⟨hpj, by omega⟩]
        · rw [if_neg (fun z => e z.2), ht t]
          by_cases e2 : pre.length ≤ t ∧ t < j
          · rw [if_pos e2, if_pos ⟨e2.1, by omega⟩]
          · rw [if_neg e2, if_neg (fun z => e2 ⟨z.1, by omega⟩)])
  refine pw_aload_n dX5_leaves_0 0 rfl rfl ?_
  refine pw_dup dX5_leaves_1 rfl ?_
  refine pw_geti 7 zc_X5 (cs_sch hC hs) (by decide) q622 (Or.inl rfl) dX5_leaves_2 ?_
  refine pw_iconst (v := 1) dX5_leaves_5 (by decide) ?_
  rw [hn]
  refine pw_isub dX5_leaves_6 ?_
  rw [nI_pred]
  refine pw_puti 7 zc_X5 (cs_sch hC hs) hs.ge (by decide) q622 rfl (Or.inl rfl) rfl rfl dX5_leaves_7 ?_
  refine pw_iload_n dX5_leaves_10 1 rfl rfl ?_
  refine pw_istore_n (ls' := [(2, _), (0, _), (1, _)]) dX5_leaves_11 rfl (by decide) rfl ?_
  refine pw_ls [1, 2, 0] (ls' := [(0, _), (1, _), (2, _)]) rfl ?_
  exact hlp pre.length (by omega) (Nat.le_refl _) _ (zFr.rf.pfi ⟨rfl, rfl⟩) (by rw [zfi_p, if_pos ⟨rfl, rfl⟩]) (fun t => by rw [if_neg (by omega)]; rfl)
theorem u_begins (hC : CSh g) (hs : isSch a) (law : Nat) : PW zm_X5_begins 1 (fun o g1 n1 => o = .inl (some (.ref a)) ∧ g1 = g ∧ CY n1 a ([], yA0) ∧ zfi n1 a sf_lawNow = nI law ∧ zFr (uF a) (uA a) n n1) 0 0 0 [(0, .ref a), (1, .int (nI law))] [] g n := by
  have hlp : ∀ k, k ≤ 17 → ∀ n1, (∀ b, b < 5 → ∀ j, j < k → zai n1 (a + (2 + b)) j = yA0 b j) → (zfi n1 a sf_many = 0 ∧ zfi n1 a sf_falls = 0 ∧ zfi n1 a sf_kills = 0 ∧ zfi n1 a sf_lawNow = nI law) → zFr (uF a) (uA a) n n1 →
      PW zm_X5_begins 1 (fun o g1 n1 => o = .inl (some (.ref a)) ∧ g1 = g ∧ CY n1 a ([], yA0) ∧ zfi n1 a sf_lawNow = nI law ∧ zFr (uF a) (uA a) n n1) 0 0 22 [(0, .ref a), (1, .int (nI law)), (2, .int (nI k))] [] g n1 := by
    refine zl_up _ (fun k hk ih n1 ha hc hf => ?_)
    refine pw_iload_n dX5_begins_22 2 rfl rfl ?_
    refine pw_bipush (v := 17) dX5_begins_23 (by decide) ?_
    refine pw_icmp_ge_N (b := 17) 69 dX5_begins_25 (by decide) (by omega) (by omega) (fun c_25 => ?_) (fun c_25 => ?_)
    · refine pw_aload_n dX5_begins_69 0 rfl rfl ?_
      refine pw_aret _ rfl (Or.inl ⟨_, rfl⟩) dX5_begins_70 ?_
      exact ⟨rfl, rfl, ⟨⟨hc.1, fun i b h => nomatch h⟩, fun b h5 j hj => ha b h5 j (by omega), hc.2.1, hc.2.2.1⟩, hc.2.2.2, hf⟩
    · refine pw_aload_n dX5_begins_28 0 rfl rfl ?_
      refine pw_getr 1 zc_X5 (cs_sch hC hs) (by decide) q610 (Or.inr ⟨_, rfl⟩) (cr_drawn hC hs) dX5_begins_29 ?_
      refine pw_iload_n dX5_begins_32 2 rfl rfl ?_
      refine pw_iconst (v := (-1)) dX5_begins_33 (by decide) ?_
      refine pw_iast k rfl (cs_drawn hC hs) (hs.gek 2) (by omega) (by decide) dX5_begins_34 ?_
      refine pw_aload_n dX5_begins_35 0 rfl rfl ?_
      refine pw_getr 2 zc_X5 (cs_sch hC hs) (by decide) q612 (Or.inr ⟨_, rfl⟩) (cr_fell hC hs) dX5_begins_36 ?_
      refine pw_iload_n dX5_begins_39 2 rfl rfl ?_
      refine pw_iconst (v := (-1)) dX5_begins_40 (by decide) ?_
      refine pw_iast k rfl (cs_fell hC hs) (hs.gek 3) (by omega) (by decide) dX5_begins_41 ?_
      refine pw_aload_n dX5_begins_42 0 rfl rfl ?_
      refine pw_getr 3 zc_X5 (cs_sch hC hs) (by decide) q614 (Or.inr ⟨_, rfl⟩) (cr_by hC hs) dX5_begins_43 ?_
      refine pw_iload_n dX5_begins_46 2 rfl rfl ?_
      refine pw_iconst (v := (-1)) dX5_begins_47 (by decide) ?_
      refine pw_iast k rfl (cs_by hC hs) (hs.gek 4) (by omega) (by decide) dX5_begins_48 ?_
      refine pw_aload_n dX5_begins_49 0 rfl rfl ?_
      refine pw_getr 4 zc_X5 (cs_sch hC hs) (by decide) q616 (Or.inr ⟨_, rfl⟩) (cr_weeks hC hs) dX5_begins_50 ?_
      refine pw_iload_n dX5_begins_53 2 rfl rfl ?_
      refine pw_iconst (v := 0) dX5_begins_54 (by decide) ?_
      refine pw_iast k rfl (cs_weeks hC hs) (hs.gek 5) (by omega) (by decide) dX5_begins_55 ?_
      refine pw_aload_n dX5_begins_56 0 rfl rfl ?_
      refine pw_getr 5 zc_X5 (cs_sch hC hs) (by decide) q618 (Or.inr ⟨_, rfl⟩) (cr_hurts hC hs) dX5_begins_57 ?_
      refine pw_iload_n dX5_begins_60 2 rfl rfl ?_
      refine pw_iconst (v := 0) dX5_begins_61 (by decide) ?_
      refine pw_iast k rfl (cs_hurts hC hs) (hs.gek 6) (by omega) (by decide) dX5_begins_62 ?_
      refine pw_iinc1 (j := 2) (ls' := [(2, _), (0, _), (1, _)]) dX5_begins_63 rfl (by decide) rfl ?_
      refine pw_ls [1, 2, 0] (ls' := [(0, _), (1, _), (2, _)]) rfl ?_
      refine pw_goto 22 dX5_begins_66 (by decide) ?_
      refine ih (k + 1) (by omega) (by omega) _ (fun b h5 j hj => ?_) hc (((((hf.pai ?_).pai ?_).pai ?_).pai ?_).pai ?_)
      · simp only [zai_p]
        by_cases e : j = k
        · subst e
          rcases (by omega : b = 0 ∨ b = 1 ∨ b = 2 ∨ b = 3 ∨ b = 4) with rfl | rfl | rfl | rfl | rfl <;> simp [yA0]
        · simp only [e, and_false, if_false]
          exact ha b h5 j (by omega)
      all_goals (unfold uA; omega)
  refine pw_aload_n dX5_begins_0 0 rfl rfl ?_
  refine pw_iconst (v := 0) dX5_begins_1 (by decide) ?_
  refine pw_puti 7 zc_X5 (cs_sch hC hs) hs.ge (by decide) q622 rfl (Or.inl rfl) rfl rfl dX5_begins_2 ?_
  refine pw_aload_n dX5_begins_5 0 rfl rfl ?_
  refine pw_iconst (v := 0) dX5_begins_6 (by decide) ?_
  refine pw_puti 8 zc_X5 (cs_sch hC hs) hs.ge (by decide) q623 rfl (Or.inl rfl) rfl rfl dX5_begins_7 ?_
  refine pw_aload_n dX5_begins_10 0 rfl rfl ?_
  refine pw_iconst (v := 0) dX5_begins_11 (by decide) ?_
  refine pw_puti 9 zc_X5 (cs_sch hC hs) hs.ge (by decide) q625 rfl (Or.inl rfl) rfl rfl dX5_begins_12 ?_
  refine pw_aload_n dX5_begins_15 0 rfl rfl ?_
  refine pw_iload_n dX5_begins_16 1 rfl rfl ?_
  refine pw_puti 10 zc_X5 (cs_sch hC hs) hs.ge (by decide) q627 rfl (Or.inl rfl) rfl rfl dX5_begins_17 ?_
  refine pw_iconst (v := 0) dX5_begins_20 (by decide) ?_
  refine pw_istore_n (ls' := [(2, _), (0, _), (1, _)]) dX5_begins_21 rfl (by decide) rfl ?_
  refine pw_ls [1, 2, 0] (ls' := [(0, _), (1, _), (2, _)]) rfl ?_
  refine hlp 0 (Nat.zero_le _) _ (fun b _ j hj => absurd hj (Nat.not_lt_zero _)) (by refine ⟨?_, ?_, ?_, ?_⟩ <;> (simp [zfi_p] <;> try (intro h; exact absurd h (by decide)))) (zFr.pfi (zFr.pfi (zFr.pfi (zFr.pfi zFr.rf (show uF a a _ from rfl)) (show uF a a _ from rfl)) (show uF a a _ from rfl)) (show uF a a _ from rfl))
end SCH2

