/-! ===== the reference: worst ===== -/
theorem oVis_hit2 {α : Type} {Q : α → Prop} {m : Nat} {F : List Nat → α → α} (hF : ∀ L x, L.length = m → (∀ b, b ∈ L → b < m) → Q (F L x)) : ∀ r L x, L.length + r = m → (∀ b, b ∈ L → b < m) → L.Nodup → Q (oVis m F r L x)
  | 0, L, x, hl, hL, _ => hF L x (by omega) hL
  | r + 1, L, x, hl, hL, hn => by
    obtain ⟨k, hk, hnk⟩ := pg_free (L := L) (m := m) (by omega)
    have hkeep : ∀ j y, j < m → Q y → Q ((fun k x => if k ∈ L then x else oVis m F r (L ++ [k]) x) j y) := fun j y hj hy => by
      show Q (if j ∈ L then y else oVis m F r (L ++ [j]) y)
      split
      · exact hy
      · next hjn => exact oVis_hit2 hF r (L ++ [j]) y (by rw [List.length_append]; simp only [List.length_cons, List.length_nil]; omega) (fun b hb => (List.mem_append.mp hb).elim (hL b) (fun z => by rw [List.mem_singleton.mp z]; exact hj)) (List.nodup_append.mpr ⟨hn, (by simp), fun a ha b hb => by rw [List.mem_singleton.mp hb]; exact fun e => hjn (e ▸ ha)⟩)
    have h0 : ∀ y, Q ((fun k x => if k ∈ L then x else oVis m F r (L ++ [k]) x) k y) := fun y => by
      show Q (if k ∈ L then y else oVis m F r (L ++ [k]) y)
      rw [if_neg hnk]
      exact oVis_hit2 hF r (L ++ [k]) y (by rw [List.length_append]; simp only [List.length_cons, List.length_nil]; omega) (fun b hb => (List.mem_append.mp hb).elim (hL b) (fun z => by rw [List.mem_singleton.mp z]; exact hk)) (List.nodup_append.mpr ⟨hn, (by simp), fun a ha b hb => by rw [List.mem_singleton.mp hb]; exact fun e => hnk (e ▸ ha)⟩)
    rw [oVis]
    have key : ∀ N, N ≤ m → k < N → Q (oLp (fun k x => if k ∈ L then x else oVis m F r (L ++ [k]) x) N x) := by
      intro N
      induction N with
      | zero => intro _ h; exact absurd h (Nat.not_lt_zero _)
      | succ N ih =>
        intro hN hkN
        rw [oLp]
        by_cases e : k = N
        · subst e; exact h0 _
        · exact hkeep N _ (by omega) (ih (by omega) (by omega))
    exact key m (Nat.le_refl _) hk
theorem pHur_nI {S : zS} (hW : WF S) (law : Nat) {L : List Nat} (hl : L.length = sN S 0 1) (hL : ∀ b, b ∈ L → b < sN S 0 1) : ∃ c, c ≤ 884 ∧ pHur S law L = nI c := by
  have hs := hW.slips
  obtain ⟨c, h1, h2⟩ := yRun_52 (S := S) (law := law) (d := yLst L) (fun w k h => ⟨Or.inl (hL k (List.mem_of_getElem? h)), by have := (List.getElem?_eq_some_iff.mp h).1; omega⟩) 52
  exact ⟨c, h1, h2⟩
theorem pLf_45 {S : zS} (hW : WF S) (law : Nat) (L : List Nat) (hl : L.length = sN S 0 1) (hL : ∀ b, b ∈ L → b < sN S 0 1) (A : zYa) : ¬ pLf S law L A 4 5 = -1 := by
  have e : pLf S law L A 4 5 = if A 4 5 < pHur S law L then pHur S law L else A 4 5 := by unfold pLf; rw [plR_eq]; simp
  obtain ⟨c, hc, hh⟩ := pHur_nI hW law hl hL
  have hr : (pHur S law L).toInt = (c : Int) := by rw [hh]; exact nI_toInt (by omega)
  rw [e]
  split
  · intro h
    have := congrArg Int32.toInt h
    rw [hr, show (-1 : Int32).toInt = -1 from by decide] at this
    omega
  · next h =>
    intro h2
    rw [h2, Int32.lt_iff_toInt_lt, hr, show (-1 : Int32).toInt = -1 from by decide] at h
    omega
theorem pFin_worst {S : zS} (hW : WF S) (law : Nat) : ¬ pFin S law 4 5 = -1 :=
  oVis_hit2 (Q := fun A : zYa => ¬ A 4 5 = -1) (fun L x hl hL => pLf_45 hW law L hl hL x) (sN S 0 1) [] _ (by simp) (fun b hb => nomatch hb) List.nodup_nil
/-- the worst order, four bits a slip -/
def spWs (S : zS) (law : Nat) : Nat → Int64
  | 0 => 0
  | k + 1 => 16 * spWs S law k + (pFin S law 3 k).toInt64
def sp_worst (S : zS) (x : Int32) : Int32 × Value × zS := spNeed S (inB x 2) 1 1 (.long 0) (spNeed S (decide (sN S 0 1 ≤ 7)) 2 2 (.long 0) (0, .long (if x = 0 then (pFin S (sN S 0 5) 4 5).toInt64 else spWs S (sN S 0 5) (sN S 0 1)), S))
theorem t_worst {g : zg_G} {n : zg_N} {S : zS} (hM : TSh g) (hT : TW n S) (hW : WF S) (x : Int32) : PW zm_X6_worst 17 (tQ g n (sp_worst S x)) 0 0 0 [(0, .ref aT), (1, .int x)] [] g n := by
  have hs := hW.slips
  have hlp : ∀ n1, TW n1 S → zfi n1 aT tf_thrown = 0 → zFr tXF tXA n n1 → sN S 0 1 ≤ 7 → (∀ k, k < sN S 0 1 → zai n1 at_worstRow k = pFin S (sN S 0 5) 3 k) → ∀ k, k ≤ sN S 0 1 →
      PW zm_X6_worst 17 (tQ g n (0, .long (spWs S (sN S 0 5) (sN S 0 1)), S)) 0 0 80 [(0, .ref aT), (1, .int x), (2, .long (spWs S (sN S 0 5) k)), (4, .int (nI k))] [] g n1 := by
    intro n1 hT1 hth1 hf1 h7 hwr
    refine zl_up _ (fun k hk ih => ?_)
    refine pw_iload dX6_worst_80 3 rfl ?_
    refine pw_aload_n dX6_worst_82 0 rfl rfl ?_
    refine pw_getr 12 zc_X6 (ts_this hM) (by decide) q1998 (Or.inr ⟨_, rfl⟩) (tr_told hM) dX6_worst_83 ?_
    refine pw_iconst (v := 1) dX6_worst_86 (by decide) ?_
    refine pw_iald 1 rfl (ts_told hM) (by decide) (by decide) dX6_worst_87 ?_
    rw [hT1.told (k := 1) (by decide)]
    refine pw_icmp_ge_N 112 dX6_worst_88 (by decide) (by omega) (by omega) (fun c_88 => ?_) (fun c_88 => ?_)
    · refine pw_lload_n dX6_worst_112 2 rfl rfl ?_
      refine pw_lret rfl dX6_worst_113 ?_
      have hks : k = sN S 0 1 := by omega
      subst hks
      exact t_qok hT1 hth1 hf1 _
    · refine pw_ldc2 q2535 dX6_worst_91 ?_
      refine pw_lload_n dX6_worst_94 2 rfl rfl ?_
      refine pw_lmul dX6_worst_95 ?_
      refine pw_aload_n dX6_worst_96 0 rfl rfl ?_
      refine pw_getr 59 zc_X6 (ts_this hM) (by decide) q2045 (Or.inr ⟨_, rfl⟩) (tr_worstRow hM) dX6_worst_97 ?_
      refine pw_iload dX6_worst_100 3 rfl ?_
      refine pw_iald k rfl (ts_worstRow hM) (by omega) (by decide) dX6_worst_102 ?_
      rw [hwr k c_88]
      refine pw_i2l dX6_worst_103 ?_
      refine pw_ladd dX6_worst_104 ?_
      refine pw_lstore_n (ls' := [(2, _), (0, _), (1, _), (4, _)]) dX6_worst_105 rfl (by decide) rfl ?_
      refine pw_ls [1, 2, 0, 3] (ls' := [(0, _), (1, _), (2, _), (4, _)]) rfl ?_
      refine pw_iinc1 (j := 3) (ls' := [(4, _), (0, _), (1, _), (2, _)]) dX6_worst_106 rfl (by decide) rfl ?_
      refine pw_ls [1, 2, 3, 0] (ls' := [(0, _), (1, _), (2, _), (4, _)]) rfl ?_
      refine pw_goto 80 dX6_worst_109 (by decide) ?_
      exact ih (k + 1) (by omega) (by omega)
  refine pw_aload_n dX6_worst_0 0 rfl rfl ?_
  refine pw_iconst (v := 0) dX6_worst_1 (by decide) ?_
  refine pw_puti 0 zc_X6 (ts_this hM) (by decide) (by decide) q1986 rfl (Or.inl rfl) rfl rfl dX6_worst_2 ?_
  obtain ⟨hT0, hth, hf0⟩ := t_start hT hW; generalize zpfi n aT 0 0 = n0 at hT0 hth hf0 ⊢
  refine pw_aload_n dX6_worst_5 0 rfl rfl ?_
  refine pw_iload_n dX6_worst_6 1 rfl rfl ?_
  refine pw_iconst (v := 0) dX6_worst_7 (by decide) ?_
  refine pw_iconst (v := 1) dX6_worst_8 (by decide) ?_
  refine pw_callS3 zmM_X6_in rfl (lw_S q2185 q2186 q150 q2187) (t_in _ _ _ _ _) (by decide) (Nat.le_refl _) (Nat.le_refl _) rfl (Nat.le_of_ble_eq_true rfl) (Nat.le_of_ble_eq_true rfl) dX6_worst_9 zE.nx (zE_kk ?_)
  refine pw_if_ne_B 19 dX6_worst_12 (by decide) (fun c_12 => ?_) (fun c_12 => ?_)
  · refine pw_iconst (v := 0) dX6_worst_19 (by decide) ?_
    refine pw_iconst (v := 1) dX6_worst_20 (by decide) ?_
    refine pw_iconst (v := 1) dX6_worst_21 (by decide) ?_
    refine pw_callV3 zmM_X6_bad rfl (lw_V q2188 q2190 qs62 q150 q2191) rfl (ts_this hM) zc_X6 (t_bad0 hM 1 (by decide) 1 (by decide) hth) (by decide) (Nat.le_refl _) (Nat.le_refl _) rfl (Nat.le_of_ble_eq_true rfl) (Nat.le_of_ble_eq_true rfl) dX6_worst_22 zE.nx (zE_kk ?_)
    refine pw_if_ne 53 dX6_worst_25 (by decide) (fun c_25 => ?_) (fun c_25 => ?_)
    · exact absurd rfl c_25
    · refine pw_aload_n dX6_worst_28 0 rfl rfl ?_
      refine pw_aload_n dX6_worst_29 0 rfl rfl ?_
      refine pw_getr 12 zc_X6 (ts_this hM) (by decide) q1998 (Or.inr ⟨_, rfl⟩) (tr_told hM) dX6_worst_30 ?_
      refine pw_iconst (v := 1) dX6_worst_33 (by decide) ?_
      refine pw_iald 1 rfl (ts_told hM) (by decide) (by decide) dX6_worst_34 ?_
      rw [hT0.told (k := 1) (by decide)]
      refine pw_bipush (v := 7) dX6_worst_35 (by decide) ?_
      refine pw_icmp_le_N (b := 7) 44 dX6_worst_37 (by decide) (by omega) (by omega) (fun c_37 => ?_) (fun c_37 => ?_)
      · refine pw_iconst (v := 0) dX6_worst_44 (by decide) ?_
        refine pw_iconst (v := 2) dX6_worst_45 (by decide) ?_
        refine pw_iconst (v := 2) dX6_worst_46 (by decide) ?_
        refine pw_callV3 zmM_X6_bad rfl (lw_V q2188 q2190 qs62 q150 q2191) rfl (ts_this hM) zc_X6 (t_bad0 hM 2 (by decide) 2 (by decide) hth) (by decide) (Nat.le_refl _) (Nat.le_refl _) rfl (Nat.le_of_ble_eq_true rfl) (Nat.le_of_ble_eq_true rfl) dX6_worst_47 zE.nx (zE_kk ?_)
        refine pw_if_eq 55 dX6_worst_50 (by decide) (fun c_50 => ?_) (fun c_50 => ?_)
        · rw [show sp_worst S x = _ from (spNeed_t ((inB_le (m := 1) (by decide)).mpr c_12)).trans (spNeed_t (decide_eq_true c_37))]
          refine pw_aload_n dX6_worst_55 0 rfl rfl ?_
          refine pw_aload_n dX6_worst_56 0 rfl rfl ?_
          refine pw_getr 12 zc_X6 (ts_this hM) (by decide) q1998 (Or.inr ⟨_, rfl⟩) (tr_told hM) dX6_worst_57 ?_
          refine pw_iconst (v := 5) dX6_worst_60 (by decide) ?_
          refine pw_iald 5 rfl (ts_told hM) (by decide) (by decide) dX6_worst_61 ?_
          rw [hT0.told (k := 5) (by decide)]
          refine pw_callV1 zmM_X6_allOrders rfl (lw_V q2511 q2513 qs111 q150 q2514) rfl (ts_this hM) zc_X6 (t_allOrders hM hT0 hW c_37 _ hW.law) (by decide) (Nat.le_refl _) (Nat.le_refl _) rfl (Nat.le_of_ble_eq_true rfl) (Nat.le_of_ble_eq_true rfl) dX6_worst_62 (by intros; rintro ⟨h, _⟩; cases h) (fun v1 g1 n1 h1 => ?_)
          obtain ⟨h1, rfl, hP, hfg⟩ := h1; cases h1; obtain ⟨hT1, hth1, hf1⟩ := t_after3 hT0 hW hth hf0 hfg
          have hS := pAll_sim S (sN S 0 5) (zai n0 at_bestRow) (zai n0 at_worstRow)
          have e45 := hS.1 4 5 (by decide) (by decide)
          refine pw_iload_n dX6_worst_65 1 rfl rfl ?_
          refine pw_if_ne 75 dX6_worst_66 (by decide) (fun c_66 => ?_) (fun c_66 => ?_)
          · refine pw_lconst (v := 0) dX6_worst_75 rfl ?_
            refine pw_lstore_n (ls' := [(2, _), (0, _), (1, _)]) dX6_worst_76 rfl (by decide) rfl ?_
            refine pw_ls [1, 2, 0] (ls' := [(0, _), (1, _), (2, _)]) rfl ?_
            refine pw_iconst (v := 0) dX6_worst_77 (by decide) ?_
            refine pw_istore (ls' := [(4, _), (0, _), (1, _), (2, _)]) dX6_worst_78 (by decide) rfl ?_
            refine pw_ls [1, 2, 3, 0] (ls' := [(0, _), (1, _), (2, _), (4, _)]) rfl ?_
            rw [if_neg c_66]; exact hlp n1 hT1 hth1 hf1 c_37 (fun k hk => (hP.1 3 (by decide) k (by rw [if_neg (by decide)]; omega)).trans (hS.2.2.elim (fun z => absurd (e45.symm.trans z) (pFin_worst hW _)) (fun z => z k hk))) 0 (Nat.zero_le _)
          · refine pw_aload_n dX6_worst_69 0 rfl rfl ?_
            refine pw_geti 57 zc_X6 (ts_this hM) (by decide) q2043 (Or.inl rfl) dX6_worst_70 ?_
            rw [show zfi n1 aT tf_worstHurts = pFin S (sN S 0 5) 4 5 from (hP.2 5 (by decide)).trans e45]
            refine pw_i2l dX6_worst_73 ?_
            refine pw_lret rfl dX6_worst_74 ?_
            exact tQ_eq (by rw [if_pos c_66]) (t_qok hT1 hth1 hf1 _)
        · exact absurd rfl c_50
      · refine pw_iconst (v := 1) dX6_worst_40 (by decide) ?_
        refine pw_goto 45 dX6_worst_41 (by decide) ?_
        refine pw_iconst (v := 2) dX6_worst_45 (by decide) ?_
        refine pw_iconst (v := 2) dX6_worst_46 (by decide) ?_
        refine pw_callV3 zmM_X6_bad rfl (lw_V q2188 q2190 qs62 q150 q2191) rfl (ts_this hM) zc_X6 (t_bad1 hM 2 (by decide) 2 (by decide) hth) (by decide) (Nat.le_refl _) (Nat.le_refl _) rfl (Nat.le_of_ble_eq_true rfl) (Nat.le_of_ble_eq_true rfl) dX6_worst_47 zE.nx (zE_kk ?_)
        refine pw_if_eq 55 dX6_worst_50 (by decide) (fun c_50 => ?_) (fun c_50 => ?_)
        · exact absurd c_50 (by decide)
        · refine pw_lconst (v := 0) dX6_worst_53 rfl ?_
          refine pw_lret rfl dX6_worst_54 ?_
          exact tQ_eq ((spNeed_t ((inB_le (m := 1) (by decide)).mpr c_12)).trans (spNeed_f (by rw [decide_eq_true_eq]; omega))) (t_qbad hT0 hW hf0 2 2 (by decide) _)
  · refine pw_iconst (v := 1) dX6_worst_15 (by decide) ?_
    refine pw_goto 20 dX6_worst_16 (by decide) ?_
    refine pw_iconst (v := 1) dX6_worst_20 (by decide) ?_
    refine pw_iconst (v := 1) dX6_worst_21 (by decide) ?_
    refine pw_callV3 zmM_X6_bad rfl (lw_V q2188 q2190 qs62 q150 q2191) rfl (ts_this hM) zc_X6 (t_bad1 hM 1 (by decide) 1 (by decide) hth) (by decide) (Nat.le_refl _) (Nat.le_refl _) rfl (Nat.le_of_ble_eq_true rfl) (Nat.le_of_ble_eq_true rfl) dX6_worst_22 zE.nx (zE_kk ?_)
    refine pw_if_ne 53 dX6_worst_25 (by decide) (fun c_25 => ?_) (fun c_25 => ?_)
    · refine pw_lconst (v := 0) dX6_worst_53 rfl ?_
      refine pw_lret rfl dX6_worst_54 ?_
      exact tQ_eq (spNeed_f (fun h => c_12 ((inB_le (m := 1) (by decide)).mp h))) (t_qbad hT0 hW hf0 1 1 (by decide) _)
    · exact absurd c_25 (by decide)

/-! ===== the shortest sentences: what there is to be said of them ===== -/
/-- where an atom is so, as a number -/
def plAt (k a : Nat) : Nat := (wAt k a).toNatClampNeg
/-- tables of so many atoms -/
abbrev plM (a : Nat) : Nat := 2 ^ 2 ^ a
/-- a sentence of length n has the table t -/
def plD (a n t : Nat) : Prop := ∀ P : Nat → Nat → Prop, (∀ k, k < a → P 1 (plAt k a)) → (∀ i u, P i u → P (i + 1) (plM a - 1 - u)) → (∀ i j u v, P i u → P j v → P (i + j + 1) (u &&& v)) → (∀ i j u v, P i u → P j v → P (i + j + 1) (u ||| v)) → P n t
theorem plD.at {a k : Nat} (h : k < a) : plD a 1 (plAt k a) := fun _ h1 _ _ _ => h1 k h
theorem plD.no {a i u : Nat} (h : plD a i u) : plD a (i + 1) (plM a - 1 - u) := fun P h1 h2 h3 h4 => h2 _ _ (h P h1 h2 h3 h4)
theorem plD.an {a i j u v : Nat} (h : plD a i u) (h' : plD a j v) : plD a (i + j + 1) (u &&& v) := fun P h1 h2 h3 h4 => h3 _ _ _ _ (h P h1 h2 h3 h4) (h' P h1 h2 h3 h4)
theorem plD.or {a i j u v : Nat} (h : plD a i u) (h' : plD a j v) : plD a (i + j + 1) (u ||| v) := fun P h1 h2 h3 h4 => h4 _ _ _ _ (h P h1 h2 h3 h4) (h' P h1 h2 h3 h4)
theorem plD.inv {a n t : Nat} (h : plD a n t) : (n = 1 ∧ ∃ k, k < a ∧ t = plAt k a) ∨ (∃ i u, plD a i u ∧ n = i + 1 ∧ t = plM a - 1 - u) ∨ ∃ i j u v, plD a i u ∧ plD a j v ∧ n = i + j + 1 ∧ (t = u &&& v ∨ t = u ||| v) := by
  refine (h (fun n t => plD a n t ∧ ((n = 1 ∧ ∃ k, k < a ∧ t = plAt k a) ∨ (∃ i u, plD a i u ∧ n = i + 1 ∧ t = plM a - 1 - u) ∨ ∃ i j u v, plD a i u ∧ plD a j v ∧ n = i + j + 1 ∧ (t = u &&& v ∨ t = u ||| v))) ?_ ?_ ?_ ?_).2
  · exact fun k hk => ⟨plD.at hk, Or.inl ⟨rfl, k, hk, rfl⟩⟩
  · exact fun i u hu => ⟨hu.1.no, Or.inr (Or.inl ⟨i, u, hu.1, rfl, rfl⟩)⟩
  · exact fun i j u v hu hv => ⟨hu.1.an hv.1, Or.inr (Or.inr ⟨i, j, u, v, hu.1, hv.1, rfl, Or.inl rfl⟩)⟩
  · exact fun i j u v hu hv => ⟨hu.1.or hv.1, Or.inr (Or.inr ⟨i, j, u, v, hu.1, hv.1, rfl, Or.inr rfl⟩)⟩
theorem plD.pos {a n t : Nat} (h : plD a n t) : 1 ≤ n := h (fun n _ => 1 ≤ n) (fun _ _ => Nat.le_refl _) (fun _ _ _ => Nat.le_add_left _ _) (fun _ _ _ _ _ _ => Nat.le_add_left _ _) (fun _ _ _ _ _ _ => Nat.le_add_left _ _)
theorem plAt_ok : ∀ a, a < 4 → ∀ k, k < a → (wAt k a).toInt32 = nI (plAt k a) ∧ plAt k a < plM a := by decide +kernel
theorem plM_le {a : Nat} (ha : a ≤ 3) : plM a ≤ 256 := Nat.le_trans (Nat.pow_le_pow_right (by decide) (Nat.pow_le_pow_right (by decide) ha)) (by decide)
theorem plM_pos (a : Nat) : 1 ≤ plM a := Nat.one_le_two_pow
theorem plD.lt {a n t : Nat} (ha : a ≤ 3) (h : plD a n t) : t < plM a := h (fun _ t => t < plM a) (fun k hk => (plAt_ok a (by omega) k hk).2) (fun _ u _ => by have := plM_pos a; omega) (fun _ _ u v hu _ => Nat.lt_of_le_of_lt Nat.and_le_left hu) (fun _ _ u v hu hv => Nat.or_lt_two_pow hu hv)
/-- a list of steps, each an atom, or made of two that stand ahead of it -/
def plS (a : Nat) (L : List (Nat × Nat)) (x : Nat × Nat × Nat) : Nat × Nat :=
  if x.1 = 0 then (plAt x.2.1 a, 1) else if x.1 = 1 then (plM a - 1 - (L.getD x.2.1 (0, 0)).1, (L.getD x.2.1 (0, 0)).2 + 1)
  else if x.1 = 2 then ((L.getD x.2.1 (0, 0)).1 &&& (L.getD x.2.2 (0, 0)).1, (L.getD x.2.1 (0, 0)).2 + (L.getD x.2.2 (0, 0)).2 + 1)
  else ((L.getD x.2.1 (0, 0)).1 ||| (L.getD x.2.2 (0, 0)).1, (L.getD x.2.1 (0, 0)).2 + (L.getD x.2.2 (0, 0)).2 + 1)
def plL (a : Nat) : List (Nat × Nat × Nat) → List (Nat × Nat) → List (Nat × Nat)
  | [], L => L
  | x :: r, L => plL a r (L ++ [plS a L x])
def plO (a : Nat) (N : Nat) : List (Nat × Nat × Nat) → Bool
  | [] => true
  | x :: r => (if x.1 = 0 then decide (x.2.1 < a) else decide (x.2.1 < N) && (decide (x.1 = 1) || decide (x.2.2 < N))) && plO a (N + 1) r
theorem plL_ok {a : Nat} : ∀ (r : List (Nat × Nat × Nat)) (L : List (Nat × Nat)), plO a L.length r = true → (∀ e, e ∈ L → plD a e.2 e.1) → ∀ e, e ∈ plL a r L → plD a e.2 e.1
  | [], _, _, h => h
  | x :: r, L, ho, h => by
    have g : ∀ i, i < L.length → plD a (L.getD i (0, 0)).2 (L.getD i (0, 0)).1 := fun i hi => by
      rw [List.getD_eq_getElem?_getD, List.getElem?_eq_getElem hi]
      exact h _ (List.getElem_mem _)
    rw [plO, Bool.and_eq_true] at ho
    obtain ⟨h1, h2⟩ := ho
    rw [plL]
    refine plL_ok r _ (by rw [List.length_append]; exact h2) (fun e he => ?_)
    rcases List.mem_append.mp he with he | he
    · exact h e he
    · rw [List.mem_singleton.mp he]
      unfold plS
      by_cases c0 : x.1 = 0
      · rw [if_pos c0] at h1 ⊢
        exact plD.at (of_decide_eq_true h1)
      · rw [if_neg c0] at h1 ⊢
        rw [Bool.and_eq_true, Bool.or_eq_true] at h1
        have a1 := of_decide_eq_true h1.1
        by_cases c1 : x.1 = 1
        · rw [if_pos c1]
          exact (g _ a1).no
        · rw [if_neg c1]
          have a2 := of_decide_eq_true (h1.2.resolve_left (fun z => c1 (of_decide_eq_true z)))
          split
          · exact (g _ a1).an (g _ a2)
          · exact (g _ a1).or (g _ a2)
def plK (a : Nat) (C : List (Nat × Nat × Nat)) : Bool := plO a 0 C && (List.range (plM a)).all fun t => (plL a C []).any fun e => Nat.beq e.1 t && Nat.ble e.2 39
theorem plK_ok {a : Nat} {C : List (Nat × Nat × Nat)} (h : plK a C = true) {t : Nat} (ht : t < plM a) : ∃ n, n ≤ 39 ∧ plD a n t := by
  unfold plK at h
  rw [Bool.and_eq_true, List.all_eq_true] at h
  obtain ⟨e, he, h2⟩ := List.any_eq_true.mp (h.2 t (List.mem_range.mpr ht))
  rw [Bool.and_eq_true] at h2
  have e1 : e.1 = t := Nat.eq_of_beq_eq_true h2.1
  exact ⟨e.2, Nat.le_of_ble_eq_true h2.2, e1 ▸ plL_ok C [] h.1 (fun e he => nomatch he) e he⟩
def plC1 : List (Nat × Nat × Nat) := [(0, 0, 0), (1, 0, 0), (2, 0, 1), (3, 0, 1)]
def plC2 : List (Nat × Nat × Nat) := [(0, 0, 0), (0, 1, 0), (1, 0, 0), (1, 1, 0), (2, 0, 1), (3, 0, 1), (1, 4, 0), (1, 5, 0), (2, 0, 2), (3, 0, 2), (2, 0, 3), (3, 0, 3), (2, 1, 2), (3, 1, 2), (3, 4, 7), (2, 5, 6)]
def plC3 : List (Nat × Nat × Nat) := [(0, 0, 0), (0, 1, 0), (0, 2, 0), (1, 0, 0), (1, 1, 0), (1, 2, 0), (2, 0, 1), (3, 0, 1), (2, 0, 2), (3, 0, 2), (2, 1, 2), (3, 1, 2), (1, 6, 0), (1, 7, 0), (1, 8, 0), (1, 9, 0), (1, 10, 0), (1, 11, 0), (2, 0, 3), (3, 0, 3), (2, 0, 4), (3, 0, 4), (2, 0, 5), (3, 0, 5), (2, 1, 3), (3, 1, 3), (2, 1, 5), (3, 1, 5), (2, 2, 3), (3, 2, 3), (2, 2, 4), (3, 2, 4), (2, 0, 10), (3, 0, 10), (2, 0, 11), (3, 0, 11), (3, 1, 8), (2, 1, 9), (3, 2, 6), (2, 2, 7), (1, 32, 0), (1, 33, 0), (1, 34, 0), (1, 35, 0), (1, 36, 0), (1, 37, 0), (1, 38, 0), (1, 39, 0), (2, 0, 16), (3, 0, 16), (2, 0, 17), (3, 0, 17), (2, 0, 26), (3, 0, 26), (2, 0, 27), (3, 0, 27), (2, 0, 30), (3, 0, 30), (2, 0, 31), (3, 0, 31), (2, 1, 14), (3, 1, 14), (2, 1, 15), (3, 1, 15), (3, 1, 22), (2, 1, 23), (2, 1, 28), (3, 1, 28), (2, 1, 29), (3, 1, 29), (2, 2, 12), (3, 2, 12), (2, 2, 13), (3, 2, 13), (3, 2, 20), (2, 2, 21), (3, 2, 24), (2, 2, 25), (3, 3, 10), (2, 3, 11), (3, 4, 8), (2, 4, 9), (3, 5, 6), (2, 5, 7), (1, 53, 0), (1, 54, 0), (1, 57, 0), (1, 58, 0), (1, 64, 0), (1, 65, 0), (1, 67, 0), (1, 68, 0), (1, 74, 0), (1, 75, 0), (1, 76, 0), (1, 77, 0), (3, 6, 13), (3, 6, 15), (3, 6, 17), (3, 6, 28), (3, 6, 30), (2, 7, 12), (2, 7, 14), (2, 7, 16), (2, 7, 29), (2, 7, 31), (3, 8, 13), (3, 8, 15), (3, 8, 17), (3, 8, 26), (2, 9, 12), (2, 9, 14), (2, 9, 16), (2, 9, 27), (3, 10, 13), (3, 10, 15), (3, 10, 17), (2, 11, 12), (2, 11, 14), (2, 11, 16), (1, 99, 0), (1, 100, 0), (1, 104, 0), (1, 105, 0), (1, 109, 0), (1, 113, 0), (3, 6, 39), (1, 126, 0), (2, 0, 116), (3, 0, 116), (2, 0, 119), (3, 0, 119), (2, 1, 107), (3, 1, 107), (2, 1, 111), (3, 1, 111), (2, 2, 96), (3, 2, 96), (2, 2, 101), (3, 2, 101), (3, 6, 41), (3, 6, 43), (3, 6, 44), (3, 6, 47), (3, 6, 72), (3, 6, 83), (2, 7, 40), (2, 7, 42), (2, 7, 45), (2, 7, 46), (2, 7, 71), (3, 8, 41), (3, 8, 43), (3, 8, 45), (3, 8, 46), (3, 8, 62), (3, 8, 81), (2, 9, 40), (2, 9, 42), (2, 9, 44), (2, 9, 47), (2, 9, 61), (3, 10, 42), (3, 10, 43), (3, 10, 44), (3, 10, 46), (3, 10, 50), (3, 10, 79), (2, 11, 40), (2, 11, 41), (2, 11, 45), (2, 11, 47), (2, 11, 49), (2, 12, 33), (2, 12, 35), (2, 12, 36), (3, 13, 32), (3, 13, 34), (3, 13, 37), (2, 14, 33), (2, 14, 35), (2, 14, 38), (3, 15, 32), (3, 15, 34), (3, 15, 39), (2, 16, 35), (2, 16, 36), (2, 16, 38), (3, 17, 32), (3, 17, 37), (3, 17, 39), (1, 128, 0), (1, 131, 0), (1, 132, 0), (1, 135, 0), (1, 136, 0), (1, 139, 0), (1, 144, 0), (1, 145, 0), (1, 150, 0), (1, 155, 0), (1, 156, 0), (1, 161, 0), (1, 166, 0), (1, 167, 0), (1, 172, 0), (3, 32, 41), (3, 32, 43), (3, 32, 44), (3, 32, 46), (2, 33, 40), (2, 33, 42), (3, 34, 41), (3, 34, 43), (2, 35, 40), (2, 35, 42), (2, 35, 45), (2, 35, 47), (2, 36, 40), (2, 36, 45), (3, 37, 43), (3, 37, 44), (2, 38, 40), (2, 38, 47), (3, 39, 43), (3, 39, 46), (2, 49, 67), (2, 49, 76), (3, 50, 68), (3, 50, 77), (2, 53, 71), (3, 54, 72), (1, 226, 0), (1, 227, 0), (1, 228, 0), (1, 229, 0), (1, 230, 0), (1, 231, 0), (3, 6, 217), (3, 6, 224), (2, 7, 209), (2, 7, 222), (3, 8, 216), (2, 9, 208), (3, 10, 215), (2, 11, 206), (3, 32, 127), (2, 35, 127), (1, 238, 0), (1, 240, 0), (1, 242, 0), (1, 243, 0), (1, 244, 0), (1, 245, 0), (3, 128, 169), (1, 254, 0)]
set_option maxRecDepth 100000 in
theorem plK1 : plK 1 plC1 = true := by decide +kernel
set_option maxRecDepth 100000 in
theorem plK2 : plK 2 plC2 = true := by decide +kernel
set_option maxRecDepth 100000 in
theorem plK3 : plK 3 plC3 = true := by decide +kernel
/-- each table has a sentence that is not too long -/
theorem plD_all {a t : Nat} (h1 : 1 ≤ a) (h3 : a ≤ 3) (ht : t < plM a) : ∃ n, n ≤ 39 ∧ plD a n t := by
  rcases (by omega : a = 1 ∨ a = 2 ∨ a = 3) with rfl | rfl | rfl
  · exact plK_ok plK1 ht
  · exact plK_ok plK2 ht
  · exact plK_ok plK3 ht
def plIs (a t v : Nat) : Prop := plD a v t ∧ ∀ m, plD a m t → v ≤ m
/-- the least length -/
noncomputable def plMin (a t : Nat) : Nat := @dite Nat (∃ v, plIs a t v) (Classical.propDecidable _) (fun h => Classical.choose h) (fun _ => 0)
theorem plMin_eq {a t v : Nat} (h : plIs a t v) : plMin a t = v := by
  have hx : ∃ v, plIs a t v := ⟨v, h⟩
  have h2 := Classical.choose_spec hx
  unfold plMin
  rw [dif_pos hx]
  exact Nat.le_antisymm (h2.2 v h.1) (h.2 _ h2.1)
/-- a long of no more worlds than a table has -/
theorem plTab {a : Nat} (ha : a ≤ 3) {x : Int64} (h : x &&& wAll a = x) : x.toNatClampNeg < plM a ∧ x.toInt32 = nI x.toNatClampNeg := by
  have k1 : ∀ b, b < 4 → (wAll b).toBitVec.toNat + 1 = plM b := by decide +kernel
  have k2 : ∀ t, t < 256 → (lN t).toInt32 = nI t ∧ (lN t).toNatClampNeg = t := by decide +kernel
  have hb : x.toBitVec.toNat < plM a := by
    have := congrArg (fun z : Int64 => z.toBitVec.toNat) h
    simp only [Int64.toBitVec_and, BitVec.toNat_and] at this
    have h2 := Nat.and_le_right (n := x.toBitVec.toNat) (m := (wAll a).toBitVec.toNat)
    have := k1 a (by omega)
    omega
  have h256 : x.toBitVec.toNat < 256 := Nat.lt_of_lt_of_le hb (plM_le ha)
  have hx : x = lN x.toBitVec.toNat := by
    apply lb_ext
    intro i hi
    rw [lb_lN hi]; rfl
  have h3 := k2 _ h256
  rw [← hx] at h3
  rw [h3.2]
  exact ⟨hb, h3.1⟩
theorem plNot : ∀ a, a < 4 → ∀ t, t < plM a → nI (plM a - 1) &&& (nI t ^^^ -1) = nI (plM a - 1 - t) := by decide +kernel
theorem nI_and (t u : Nat) : nI t &&& nI u = nI (t &&& u) := by
  apply ib_ext
  intro i hi
  rw [ib_and, ib_nI hi, ib_nI hi, ib_nI hi, Nat.testBit_and]
theorem nI_or (t u : Nat) : nI t ||| nI u = nI (t ||| u) := by
  apply ib_ext
  intro i hi
  rw [ib_or, ib_nI hi, ib_nI hi, ib_nI hi, Nat.testBit_or]
/-! the lengths found so far: all that are less than n -/
def plInv (a n : Nat) (B : Nat → Nat) : Prop := (∀ t, t < plM a → B t ≠ 0 → plD a (B t) t ∧ B t < n) ∧ ∀ t m, plD a m t → m < n → B t ≠ 0 ∧ B t ≤ m
/-- in the midst of length n -/
def plSt (a n : Nat) (B0 B : Nat → Nat) : Prop := ∀ t, t < plM a → (B0 t ≠ 0 → B t = B0 t) ∧ (B0 t = 0 → B t = 0 ∨ (B t = n ∧ plD a n t))
def plUp (B : Nat → Nat) (x n : Nat) : Nat → Nat := fun t => if t = x ∧ B x = 0 then n else B t
theorem plUp_x {B : Nat → Nat} {x n : Nat} (hn : n ≠ 0) : plUp B x n x ≠ 0 := by
  unfold plUp
  split
  · exact hn
  · next h => exact fun z => h ⟨rfl, z⟩
theorem plUp_k {B : Nat → Nat} {x n t : Nat} (h : B t ≠ 0) : plUp B x n t = B t := if_neg (fun z => h (by rw [z.1]; exact z.2))
theorem plSt.up {a n : Nat} {B0 B : Nat → Nat} (h : plSt a n B0 B) {x : Nat} (hx : plD a n x) (hn : n ≠ 0) : plSt a n B0 (plUp B x n) := fun t ht => by
  obtain ⟨h1, h2⟩ := h t ht
  refine ⟨fun z => ?_, fun z => ?_⟩
  · rw [plUp_k (by rw [h1 z]; exact z)]; exact h1 z
  · rcases h2 z with h3 | h3
    · unfold plUp
      by_cases c : t = x ∧ B x = 0
      · rw [if_pos c]; exact Or.inr ⟨rfl, c.1 ▸ hx⟩
      · rw [if_neg c]; exact Or.inl h3
    · rw [plUp_k (by rw [h3.1]; exact hn)]; exact Or.inr h3
/-- pairs that have been seen: those ahead of t, u -/
def plDn (a n : Nat) (B0 B : Nat → Nat) (t u : Nat) : Prop := ∀ i j, i < plM a → j < plM a → (i < t ∨ (i = t ∧ j < u)) → B0 i ≠ 0 → B0 j ≠ 0 → B0 i + B0 j + 1 = n → B (i &&& j) ≠ 0 ∧ B (i ||| j) ≠ 0
def plNg (a n : Nat) (B0 B : Nat → Nat) (t : Nat) : Prop := ∀ i, i < plM a → i < t → B0 i + 1 = n → B0 i ≠ 0 → B (plM a - 1 - i) ≠ 0
theorem plDn.up {a n x m : Nat} {B0 B : Nat → Nat} {t u : Nat} (h : plDn a n B0 B t u) : plDn a n B0 (plUp B x m) t u := fun i j h1 h2 h3 h4 h5 h6 => by
  obtain ⟨k1, k2⟩ := h i j h1 h2 h3 h4 h5 h6
  exact ⟨by rw [plUp_k k1]; exact k1, by rw [plUp_k k2]; exact k2⟩
theorem plNg.up {a n x m : Nat} {B0 B : Nat → Nat} {t : Nat} (h : plNg a n B0 B t) : plNg a n B0 (plUp B x m) t := fun i h1 h2 h3 h4 => by
  have k1 := h i h1 h2 h3 h4
  rw [plUp_k k1]; exact k1
theorem plInv.next {a n : Nat} (ha : a ≤ 3) (hn : 2 ≤ n) {B0 B : Nat → Nat} (h0 : plInv a n B0) (hs : plSt a n B0 B) (hd : plDn a n B0 B (plM a) 0) (hg : plNg a n B0 B (plM a)) : plInv a (n + 1) B := by
  refine ⟨fun t ht hb => ?_, fun t m hm hmn => ?_⟩
  · obtain ⟨h1, h2⟩ := hs t ht
    by_cases c : B0 t = 0
    · rcases h2 c with h3 | h3
      · exact absurd h3 hb
      · rw [h3.1]; exact ⟨h3.2, Nat.lt_succ_self _⟩
    · rw [h1 c]
      have := h0.1 t ht c
      exact ⟨this.1, by omega⟩
  · have ht := hm.lt ha
    obtain ⟨h1, h2⟩ := hs t ht
    by_cases c : m < n
    · obtain ⟨k1, k2⟩ := h0.2 t m hm c
      rw [h1 k1]; exact ⟨k1, k2⟩
    · have hmn : m = n := by omega
      subst hmn
      by_cases c0 : B0 t = 0
      · have hb : B t ≠ 0 → B t ≠ 0 ∧ B t ≤ m := fun z => by
          rcases h2 c0 with h3 | h3
          · exact absurd h3 z
          · exact ⟨z, by rw [h3.1]; exact Nat.le_refl _⟩
        rcases hm.inv with ⟨e, -⟩ | ⟨i, u, hu, e, rfl⟩ | ⟨i, j, u, v, hu, hv, e, huv⟩
        · omega
        · obtain ⟨k1, k2⟩ := h0.2 u i hu (by omega)
          have hlt := hu.lt ha
          have hui := (h0.1 u hlt k1).1
          by_cases c9 : B0 u = i
          · exact hb (hg u hlt hlt (by omega) k1)
          · exact absurd c0 (h0.2 _ _ hui.no (by omega)).1
        · obtain ⟨k1, k2⟩ := h0.2 u i hu (by omega)
          obtain ⟨l1, l2⟩ := h0.2 v j hv (by omega)
          have hlu := hu.lt ha; have hlv := hv.lt ha
          have hui := (h0.1 u hlu k1).1; have hvj := (h0.1 v hlv l1).1
          by_cases c9 : B0 u + B0 v + 1 = m
          · have := hd u v hlu hlv (Or.inl hlu) k1 l1 c9
            rcases huv with rfl | rfl
            · exact hb this.1
            · exact hb this.2
          · rcases huv with rfl | rfl
            · exact absurd c0 (h0.2 _ _ (hui.an hvj) (by omega)).1
            · exact absurd c0 (h0.2 _ _ (hui.or hvj) (by omega)).1
      · have := (h0.1 t ht c0).2
        rw [h1 c0]; exact ⟨c0, by omega⟩
theorem plInv.is {a : Nat} (h1 : 1 ≤ a) (ha : a ≤ 3) {B : Nat → Nat} (h : plInv a 40 B) {t : Nat} (ht : t < plM a) : plIs a t (B t) := by
  obtain ⟨n, hn, hd⟩ := plD_all h1 ha ht
  obtain ⟨k1, k2⟩ := h.2 t n hd (by omega)
  obtain ⟨k3, k4⟩ := h.1 t ht k1
  exact ⟨k3, fun m hm => if c : m < 40 then (h.2 t m hm c).2 else (by omega)⟩
theorem plInv.two {a : Nat} {B : Nat → Nat} (h1 : ∀ t, t < plM a → B t ≠ 0 → B t = 1 ∧ ∃ k, k < a ∧ t = plAt k a) (h2 : ∀ k, k < a → B (plAt k a) = 1) : plInv a 2 B := by
  refine ⟨fun t ht hb => ?_, fun t m hm hmn => ?_⟩
  · obtain ⟨e, k, hk, rfl⟩ := h1 t ht hb
    rw [e]; exact ⟨plD.at hk, by decide⟩
  · have := hm.pos
    rcases hm.inv with ⟨e, k, hk, rfl⟩ | ⟨i, u, hu, e, -⟩ | ⟨i, j, u, v, hu, hv, e, -⟩
    · rw [h2 k hk]; exact ⟨by decide, by omega⟩
    · have := hu.pos; omega
    · have := hu.pos; have := hv.pos; omega

/-! ===== the reference: plain ===== -/
def plA (a : Nat) : Prop := a = at_plainOf
def pl0 (_ _ : Nat) : Prop := False
theorem plA_tA : ∀ a, plA a → tA a := fun a h => by subst h; unfold tA; decide
theorem pl0_tF : ∀ a k, pl0 a k → tF a k := fun _ _ h => h.elim
/-- the lengths as they stand in the reference -/
def plR2 (n : zg_N) (a : Nat) (B : Nat → Nat) : Prop := ∀ t, t < plM a → zai n at_plainOf t = nI (B t) ∧ B t ≤ 40
theorem plR2.up {n : zg_N} {a : Nat} {B : Nat → Nat} (h : plR2 n a B) {x k : Nat} (hx : x < plM a) (hk : k ≤ 40) : plR2 (zpai n at_plainOf x (if zai n at_plainOf x = 0 then nI k else zai n at_plainOf x)) a (plUp B x k) := fun t ht => by
  obtain ⟨h1, h2⟩ := h t ht
  obtain ⟨h3, h4⟩ := h x hx
  rw [zai_p]
  unfold plUp
  by_cases e : t = x
  · subst e
    rw [if_pos ⟨rfl, rfl⟩, h1]
    by_cases c : B t = 0
    · rw [if_pos (show nI (B t) = 0 by rw [c]; rfl), if_pos ⟨rfl, c⟩]; exact ⟨rfl, hk⟩
    · rw [if_neg (show ¬ nI (B t) = 0 from nI_ne0 (by omega) (by omega)), if_neg (fun z => c z.2)]; exact ⟨rfl, h2⟩
  · rw [if_neg (fun z => e z.2), if_neg (fun z => e z.1)]; exact ⟨h1, h2⟩
theorem t_isLong {g : zg_G} {n : zg_N} (hM : TSh g) (x k : Nat) (hx : x < 256) : PW zm_X6_isLong 1 (zE none g (zpai n at_plainOf x (if zai n at_plainOf x = 0 then nI k else zai n at_plainOf x))) 0 0 0 [(0, .ref aT), (1, .int (nI x)), (2, .int (nI k))] [] g n := by
  refine pw_aload_n dX6_isLong_0 0 rfl rfl ?_
  refine pw_getr 61 zc_X6 (ts_this hM) (by decide) q2047 (Or.inr ⟨_, rfl⟩) (tr_plainOf hM) dX6_isLong_1 ?_
  refine pw_iload_n dX6_isLong_4 1 rfl rfl ?_
  refine pw_aload_n dX6_isLong_5 0 rfl rfl ?_
  refine pw_getr 61 zc_X6 (ts_this hM) (by decide) q2047 (Or.inr ⟨_, rfl⟩) (tr_plainOf hM) dX6_isLong_6 ?_
  refine pw_iload_n dX6_isLong_9 1 rfl rfl ?_
  refine pw_iald x rfl (ts_plainOf hM) (by omega) (by decide) dX6_isLong_10 ?_
  refine pw_if_ne 18 dX6_isLong_11 (by decide) (fun c_11 => ?_) (fun c_11 => ?_)
  · refine pw_aload_n dX6_isLong_18 0 rfl rfl ?_
    refine pw_getr 61 zc_X6 (ts_this hM) (by decide) q2047 (Or.inr ⟨_, rfl⟩) (tr_plainOf hM) dX6_isLong_19 ?_
    refine pw_iload_n dX6_isLong_22 1 rfl rfl ?_
    refine pw_iald x rfl (ts_plainOf hM) (by omega) (by decide) dX6_isLong_23 ?_
    refine pw_iast x rfl (ts_plainOf hM) (by decide) (by omega) (by decide) dX6_isLong_24 ?_
    refine pw_vret rfl dX6_isLong_25 ?_
    exact ⟨rfl, rfl, by rw [if_neg c_11]⟩
  · refine pw_iload_n dX6_isLong_14 2 rfl rfl ?_
    refine pw_goto 24 dX6_isLong_15 (by decide) ?_
    refine pw_iast x rfl (ts_plainOf hM) (by decide) (by omega) (by decide) dX6_isLong_24 ?_
    refine pw_vret rfl dX6_isLong_25 ?_
    exact ⟨rfl, rfl, by rw [if_pos c_11]⟩
theorem t_laysPlain {g : zg_G} {n : zg_N} {S : zS} (hM : TSh g) (hT : TW n S) (hW : WF S) (h3 : sN S 0 0 ≤ 3) : PW zm_X6_laysPlain 2 (fun o g1 n1 => o = .inl none ∧ g1 = g ∧ (∀ t, t < plM (sN S 0 0) → zai n1 at_plainOf t = nI (plMin (sN S 0 0) t)) ∧ zFr pl0 plA n n1) 0 0 0 [(0, .ref aT)] [] g n := by
  generalize hae : sN S 0 0 = a at h3
  have h1 : 1 ≤ a := by have := hW.atoms.1; omega
  have hm := plM_le h3
  have hm1 := plM_pos a
  have hm4 : ∀ b, b < 4 → 2 ^ b < 32 := by decide
  have hp := hm4 a (by omega)
  have hld : ∀ nn, zFr pl0 plA n nn → zai nn at_told 0 = nI a := fun nn hf => ((hf.2 at_told (by unfold plA; decide) 0).1).trans ((hT.told (k := 0) (by decide)).trans (by rw [hae]))
  -- all lengths
  have h72 : ∀ k, k ≤ 40 → ∀ nn B, 2 ≤ k → zFr pl0 plA n nn → plR2 nn a B → plInv a k B →
      PW zm_X6_laysPlain 2 (fun o g1 n1 => o = .inl none ∧ g1 = g ∧ (∀ t, t < plM a → zai n1 at_plainOf t = nI (plMin a t)) ∧ zFr pl0 plA n n1) 0 0 72 [(0, .ref aT), (1, .int (nI (plM a - 1))), (2, .int (nI k))] [] g nn := by
    refine zl_up 40 (fun k hk ih nn B hk2 hf hR hI => ?_)
    have h80 : ∀ t, t ≤ plM a → ∀ n1 B1, k < 40 → zFr pl0 plA n n1 → plR2 n1 a B1 → plSt a k B B1 → plDn a k B B1 t 0 → plNg a k B B1 t →
        PW zm_X6_laysPlain 2 (fun o g1 n1 => o = .inl none ∧ g1 = g ∧ (∀ t, t < plM a → zai n1 at_plainOf t = nI (plMin a t)) ∧ zFr pl0 plA n n1) 0 0 80 [(0, .ref aT), (1, .int (nI (plM a - 1))), (2, .int (nI k)), (3, .int (nI t))] [] g n1 := by
      refine zl_up (plM a) (fun t ht ih2 n1 B1 hk40 hf1 hR1 hS1 hD1 hG1 => ?_)
      have hnx : B t = 0 → t < plM a → plDn a k B B1 (t + 1) 0 ∧ plNg a k B B1 (t + 1) := fun z htl =>
        ⟨fun i j e1 e2 e3 e4 => hD1 i j e1 e2 (by rcases e3 with e3 | e3; (by_cases c : i = t; (exact absurd (c ▸ z) e4); exact Or.inl (by omega)); exact absurd e3.2 (Nat.not_lt_zero _)) e4, fun i e1 e2 e3 e4 => hG1 i e1 (by by_cases c : i = t; (exact absurd (c ▸ z) e4); omega) e3 e4⟩
      refine pw_iload_n dX6_laysPlain_80 3 rfl rfl ?_
      refine pw_iload_n dX6_laysPlain_81 1 rfl rfl ?_
      refine pw_icmp_gt_N 203 dX6_laysPlain_82 (by decide) (by omega) (by omega) (fun c_82 => ?_) (fun c_82 => ?_)
      · refine pw_iinc1 (j := 2) (ls' := [(2, _), (0, _), (1, _), (3, _)]) dX6_laysPlain_203 rfl (by decide) rfl ?_
        refine pw_ls [1, 2, 0, 3] (ls' := [(0, _), (1, _), (2, _), (3, _)]) rfl ?_
        refine pw_goto 72 dX6_laysPlain_206 (by decide) ?_
        refine pw_ls [0, 1, 2] (ls' := [(0, _), (1, _), (2, _)]) rfl ?_
        exact ih (k + 1) (by omega) (by omega) n1 B1 (by omega) hf1 hR1 (hI.next h3 hk2 hS1 (by rw [show plM a = t by omega]; exact hD1) (by rw [show plM a = t by omega]; exact hG1))
      · refine pw_aload_n dX6_laysPlain_85 0 rfl rfl ?_
        refine pw_getr 61 zc_X6 (ts_this hM) (by decide) q2047 (Or.inr ⟨_, rfl⟩) (tr_plainOf hM) dX6_laysPlain_86 ?_
        refine pw_iload_n dX6_laysPlain_89 3 rfl rfl ?_
        refine pw_iald t rfl (ts_plainOf hM) (by omega) (by decide) dX6_laysPlain_90 ?_
        rw [(hR1 t (by omega)).1]
        have hb40 := (hR1 t (by omega)).2
        refine pw_if_eq_N 197 dX6_laysPlain_91 (by decide) (by omega) (fun c_91 => ?_) (fun c_91 => ?_)
        · refine pw_iinc1 (j := 3) (ls' := [(3, _), (0, _), (1, _), (2, _)]) dX6_laysPlain_197 rfl (by decide) rfl ?_
          refine pw_ls [1, 2, 3, 0] (ls' := [(0, _), (1, _), (2, _), (3, _)]) rfl ?_
          refine pw_goto 80 dX6_laysPlain_200 (by decide) ?_
          have hz : B t = 0 := Classical.byContradiction (fun z => z (((hS1 t (by omega)).1 z).symm.trans c_91))
          exact ih2 (t + 1) (by omega) (by omega) n1 B1 hk40 hf1 hR1 hS1 (hnx hz (by omega)).1 (hnx hz (by omega)).2
        · refine pw_aload_n dX6_laysPlain_94 0 rfl rfl ?_
          refine pw_getr 61 zc_X6 (ts_this hM) (by decide) q2047 (Or.inr ⟨_, rfl⟩) (tr_plainOf hM) dX6_laysPlain_95 ?_
          refine pw_iload_n dX6_laysPlain_98 3 rfl rfl ?_
          refine pw_iald t rfl (ts_plainOf hM) (by omega) (by decide) dX6_laysPlain_99 ?_
          rw [(hR1 t (by omega)).1]
          refine pw_iload_n dX6_laysPlain_100 2 rfl rfl ?_
          refine pw_iconst (v := 1) dX6_laysPlain_101 (by decide) ?_
          refine pw_isub dX6_laysPlain_102 ?_
          rw [show nI k - 1 = nI (k - 1) from nI_sub (b := 1) (by omega)]
          refine pw_icmp_le_N 109 dX6_laysPlain_103 (by decide) (by omega) (by omega) (fun c_103 => ?_) (fun c_103 => ?_)
          · have hlt : t < plM a := by omega
            have hbt : B t ≠ 0 := fun z => by
              rcases (hS1 t hlt).2 z with h | h <;> omega
            have hbe : B1 t = B t := (hS1 t hlt).1 hbt
            have hbd : plD a (B t) t := (hI.1 t hlt hbt).1
            have h134 : ∀ u, u ≤ plM a → ∀ n2 B2, zFr pl0 plA n n2 → plR2 n2 a B2 → plSt a k B B2 → plDn a k B B2 t u → plNg a k B B2 (t + 1) →
                PW zm_X6_laysPlain 2 (fun o g1 n1 => o = .inl none ∧ g1 = g ∧ (∀ t, t < plM a → zai n1 at_plainOf t = nI (plMin a t)) ∧ zFr pl0 plA n n1) 0 0 134 [(0, .ref aT), (1, .int (nI (plM a - 1))), (2, .int (nI k)), (3, .int (nI t)), (4, .int (nI u))] [] g n2 := by
              refine zl_up (plM a) (fun u hu ih3 n2 B2 hf2 hR2 hS2 hD2 hG2 => ?_)
              have hb2 : B2 t = B t := (hS2 t hlt).1 hbt
              have hb9 := (hR2 t hlt).2
              have hskip : (B u ≠ 0 → B t + B u + 1 = k → False) → plDn a k B B2 t (u + 1) := fun z i j e1 e2 e3 e4 e5 e6 => hD2 i j e1 e2 (by
                rcases e3 with e3 | ⟨e3, e7⟩
                · exact Or.inl e3
                · by_cases c : j = u
                  · subst c; rw [e3] at e6; exact absurd (z e5 e6) (fun z => z)
                  · exact Or.inr ⟨e3, by omega⟩) e4 e5 e6
              refine pw_iload dX6_laysPlain_134 4 rfl ?_
              refine pw_iload_n dX6_laysPlain_136 1 rfl rfl ?_
              refine pw_icmp_gt_N 197 dX6_laysPlain_137 (by decide) (by omega) (by omega) (fun c_137 => ?_) (fun c_137 => ?_)
              · refine pw_ls [0, 1, 2, 3] (ls' := [(0, _), (1, _), (2, _), (3, _)]) rfl ?_
                refine pw_iinc1 (j := 3) (ls' := [(3, _), (0, _), (1, _), (2, _)]) dX6_laysPlain_197 rfl (by decide) rfl ?_
                refine pw_ls [1, 2, 3, 0] (ls' := [(0, _), (1, _), (2, _), (3, _)]) rfl ?_
                refine pw_goto 80 dX6_laysPlain_200 (by decide) ?_
                exact ih2 (t + 1) (by omega) (by omega) n2 B2 hk40 hf2 hR2 hS2 (fun i j e1 e2 e3 => hD2 i j e1 e2 (by rcases e3 with e3 | e3; (by_cases c : i = t; (exact Or.inr ⟨c, by omega⟩); exact Or.inl (by omega)); exact absurd e3.2 (Nat.not_lt_zero _))) hG2
              · refine pw_aload_n dX6_laysPlain_140 0 rfl rfl ?_
                refine pw_getr 61 zc_X6 (ts_this hM) (by decide) q2047 (Or.inr ⟨_, rfl⟩) (tr_plainOf hM) dX6_laysPlain_141 ?_
                refine pw_iload dX6_laysPlain_144 4 rfl ?_
                refine pw_iald u rfl (ts_plainOf hM) (by omega) (by decide) dX6_laysPlain_146 ?_
                rw [(hR2 u (by omega)).1]
                have hbu := (hR2 u (by omega)).2
                refine pw_if_eq_N 191 dX6_laysPlain_147 (by decide) (by omega) (fun c_147 => ?_) (fun c_147 => ?_)
                · refine pw_iinc1 (j := 4) (ls' := [(4, _), (0, _), (1, _), (2, _), (3, _)]) dX6_laysPlain_191 rfl (by decide) rfl ?_
                  refine pw_ls [1, 2, 3, 4, 0] (ls' := [(0, _), (1, _), (2, _), (3, _), (4, _)]) rfl ?_
                  refine pw_goto 134 dX6_laysPlain_194 (by decide) ?_
                  have hz : B u = 0 := Classical.byContradiction (fun z => z (((hS2 u (by omega)).1 z).symm.trans c_147))
                  exact ih3 (u + 1) (by omega) (by omega) n2 B2 hf2 hR2 hS2 (hskip (fun z _ => z hz)) hG2
                · refine pw_aload_n dX6_laysPlain_150 0 rfl rfl ?_
                  refine pw_getr 61 zc_X6 (ts_this hM) (by decide) q2047 (Or.inr ⟨_, rfl⟩) (tr_plainOf hM) dX6_laysPlain_151 ?_
                  refine pw_iload_n dX6_laysPlain_154 3 rfl rfl ?_
                  refine pw_iald t rfl (ts_plainOf hM) (by omega) (by decide) dX6_laysPlain_155 ?_
                  rw [(hR2 t hlt).1]
                  refine pw_aload_n dX6_laysPlain_156 0 rfl rfl ?_
                  refine pw_getr 61 zc_X6 (ts_this hM) (by decide) q2047 (Or.inr ⟨_, rfl⟩) (tr_plainOf hM) dX6_laysPlain_157 ?_
                  refine pw_iload dX6_laysPlain_160 4 rfl ?_
                  refine pw_iald u rfl (ts_plainOf hM) (by omega) (by decide) dX6_laysPlain_162 ?_
                  rw [(hR2 u (by omega)).1]
                  refine pw_iadd dX6_laysPlain_163 ?_
                  rw [nI_add]
                  refine pw_iconst (v := 1) dX6_laysPlain_164 (by decide) ?_
                  refine pw_iadd dX6_laysPlain_165 ?_
                  rw [nI_1]
                  refine pw_iload_n dX6_laysPlain_166 2 rfl rfl ?_
                  refine pw_icmp_eq_N 173 dX6_laysPlain_167 (by decide) (by omega) (by omega) (fun c_167 => ?_) (fun c_167 => ?_)
                  · have hlu : u < plM a := by omega
                    have hbu0 : B u ≠ 0 := fun z => by
                      have := hb2
                      rcases (hS2 u hlu).2 z with h | h <;> omega
                    have hbue : B2 u = B u := (hS2 u hlu).1 hbu0
                    have hbud : plD a (B u) u := (hI.1 u hlu hbu0).1
                    have hsum : B t + B u + 1 = k := by omega
                    have hda : plD a k (t &&& u) := hsum ▸ hbd.an hbud
                    have hdo : plD a k (t ||| u) := hsum ▸ hbd.or hbud
                    refine pw_aload_n dX6_laysPlain_173 0 rfl rfl ?_
                    refine pw_iload_n dX6_laysPlain_174 3 rfl rfl ?_
                    refine pw_iload dX6_laysPlain_175 4 rfl ?_
                    refine pw_iand dX6_laysPlain_177 ?_
                    rw [nI_and]
                    refine pw_iload_n dX6_laysPlain_178 2 rfl rfl ?_
                    refine pw_callV2 zmM_X6_isLong rfl (lw_V q2656 q2658 qs121 q150 q2659) rfl (ts_this hM) zc_X6 (t_isLong hM (t &&& u) k (Nat.lt_of_lt_of_le (hda.lt h3) hm)) (by decide) (Nat.le_refl _) (Nat.le_refl _) rfl (Nat.le_of_ble_eq_true rfl) (Nat.le_of_ble_eq_true rfl) dX6_laysPlain_179 zE.nx (zE_kk ?_)
                    have hf3 := zFr.pai (k := t &&& u) (v := if zai n2 at_plainOf (t &&& u) = 0 then nI k else zai n2 at_plainOf (t &&& u)) hf2 (rfl : plA at_plainOf)
                    have hR3 := hR2.up (hda.lt h3) (show k ≤ 40 by omega)
                    have hS3 := hS2.up hda (by omega)
                    have hD3 := hD2.up (x := t &&& u) (m := k)
                    have hG3 := hG2.up (x := t &&& u) (m := k)
                    have hz3 : plUp B2 (t &&& u) k (t &&& u) ≠ 0 := plUp_x (by omega)
                    generalize zpai n2 at_plainOf (t &&& u) (if zai n2 at_plainOf (t &&& u) = 0 then nI k else zai n2 at_plainOf (t &&& u)) = n3 at hf3 hR3 ⊢
                    generalize plUp B2 (t &&& u) k = B3 at hR3 hS3 hD3 hG3 hz3
                    refine pw_aload_n dX6_laysPlain_182 0 rfl rfl ?_
                    refine pw_iload_n dX6_laysPlain_183 3 rfl rfl ?_
                    refine pw_iload dX6_laysPlain_184 4 rfl ?_
                    refine pw_ior dX6_laysPlain_186 ?_
                    rw [nI_or]
                    refine pw_iload_n dX6_laysPlain_187 2 rfl rfl ?_
                    refine pw_callV2 zmM_X6_isLong rfl (lw_V q2656 q2658 qs121 q150 q2659) rfl (ts_this hM) zc_X6 (t_isLong hM (t ||| u) k (Nat.lt_of_lt_of_le (hdo.lt h3) hm)) (by decide) (Nat.le_refl _) (Nat.le_refl _) rfl (Nat.le_of_ble_eq_true rfl) (Nat.le_of_ble_eq_true rfl) dX6_laysPlain_188 zE.nx (zE_kk ?_)
                    refine pw_iinc1 (j := 4) (ls' := [(4, _), (0, _), (1, _), (2, _), (3, _)]) dX6_laysPlain_191 rfl (by decide) rfl ?_
                    refine pw_ls [1, 2, 3, 4, 0] (ls' := [(0, _), (1, _), (2, _), (3, _), (4, _)]) rfl ?_
                    refine pw_goto 134 dX6_laysPlain_194 (by decide) ?_
                    have hf4 := zFr.pai (k := t ||| u) (v := if zai n3 at_plainOf (t ||| u) = 0 then nI k else zai n3 at_plainOf (t ||| u)) hf3 (rfl : plA at_plainOf)
                    have hR4 := hR3.up (hdo.lt h3) (show k ≤ 40 by omega)
                    have hD4 := hD3.up (x := t ||| u) (m := k)
                    refine ih3 (u + 1) (by omega) (by omega) _ _ hf4 hR4 (hS3.up hdo (by omega)) (fun i j e1 e2 e3 e4 e5 e6 => ?_) (hG3.up)
                    by_cases c : i = t ∧ j = u
                    · rw [c.1, c.2]
                      exact ⟨by rw [plUp_k hz3]; exact hz3, plUp_x (by omega)⟩
                    · exact hD4 i j e1 e2 (by rcases e3 with e3 | e3; (exact Or.inl e3); exact Or.inr ⟨e3.1, by omega⟩) e4 e5 e6
                  · refine pw_goto 191 dX6_laysPlain_170 (by decide) ?_
                    refine pw_iinc1 (j := 4) (ls' := [(4, _), (0, _), (1, _), (2, _), (3, _)]) dX6_laysPlain_191 rfl (by decide) rfl ?_
                    refine pw_ls [1, 2, 3, 4, 0] (ls' := [(0, _), (1, _), (2, _), (3, _), (4, _)]) rfl ?_
                    refine pw_goto 134 dX6_laysPlain_194 (by decide) ?_
                    exact ih3 (u + 1) (by omega) (by omega) n2 B2 hf2 hR2 hS2 (hskip (fun z e => c_167 (by rw [hb2, (hS2 u (by omega)).1 z]; exact e))) hG2
            refine pw_aload_n dX6_laysPlain_109 0 rfl rfl ?_
            refine pw_getr 61 zc_X6 (ts_this hM) (by decide) q2047 (Or.inr ⟨_, rfl⟩) (tr_plainOf hM) dX6_laysPlain_110 ?_
            refine pw_iload_n dX6_laysPlain_113 3 rfl rfl ?_
            refine pw_iald t rfl (ts_plainOf hM) (by omega) (by decide) dX6_laysPlain_114 ?_
            rw [(hR1 t hlt).1]
            refine pw_iload_n dX6_laysPlain_115 2 rfl rfl ?_
            refine pw_iconst (v := 1) dX6_laysPlain_116 (by decide) ?_
            refine pw_isub dX6_laysPlain_117 ?_
            rw [show nI k - 1 = nI (k - 1) from nI_sub (b := 1) (by omega)]
            refine pw_icmp_ne_N 131 dX6_laysPlain_118 (by decide) (by omega) (by omega) (fun c_118 => ?_) (fun c_118 => ?_)
            · refine pw_iconst (v := 0) dX6_laysPlain_131 (by decide) ?_
              refine pw_istore (ls' := [(4, _), (0, _), (1, _), (2, _), (3, _)]) dX6_laysPlain_132 (by decide) rfl ?_
              refine pw_ls [1, 2, 3, 4, 0] (ls' := [(0, _), (1, _), (2, _), (3, _), (4, _)]) rfl ?_
              exact h134 0 (Nat.zero_le _) n1 B1 hf1 hR1 hS1 hD1 (fun i e1 e2 e3 e4 => hG1 i e1 (by by_cases c : i = t; (subst c; omega); omega) e3 e4)
            · refine pw_aload_n dX6_laysPlain_121 0 rfl rfl ?_
              refine pw_iload_n dX6_laysPlain_122 1 rfl rfl ?_
              refine pw_iload_n dX6_laysPlain_123 3 rfl rfl ?_
              refine pw_iconst (v := (-1)) dX6_laysPlain_124 (by decide) ?_
              refine pw_ixor dX6_laysPlain_125 ?_
              refine pw_iand dX6_laysPlain_126 ?_
              rw [plNot a (by omega) t hlt]
              have hdn : plD a k (plM a - 1 - t) := (show B t + 1 = k by omega) ▸ hbd.no
              refine pw_iload_n dX6_laysPlain_127 2 rfl rfl ?_
              refine pw_callV2 zmM_X6_isLong rfl (lw_V q2656 q2658 qs121 q150 q2659) rfl (ts_this hM) zc_X6 (t_isLong hM (plM a - 1 - t) k (Nat.lt_of_lt_of_le (hdn.lt h3) hm)) (by decide) (Nat.le_refl _) (Nat.le_refl _) rfl (Nat.le_of_ble_eq_true rfl) (Nat.le_of_ble_eq_true rfl) dX6_laysPlain_128 zE.nx (zE_kk ?_)
              refine pw_iconst (v := 0) dX6_laysPlain_131 (by decide) ?_
              refine pw_istore (ls' := [(4, _), (0, _), (1, _), (2, _), (3, _)]) dX6_laysPlain_132 (by decide) rfl ?_
              refine pw_ls [1, 2, 3, 4, 0] (ls' := [(0, _), (1, _), (2, _), (3, _), (4, _)]) rfl ?_
              refine h134 0 (Nat.zero_le _) _ _ (zFr.pai hf1 rfl) (hR1.up (hdn.lt h3) (by omega)) (hS1.up hdn (by omega)) hD1.up (fun i e1 e2 e3 e4 => ?_)
              by_cases c : i = t
              · subst c; exact plUp_x (by omega)
              · exact hG1.up i e1 (by omega) e3 e4
          · refine pw_goto 197 dX6_laysPlain_106 (by decide) ?_
            refine pw_iinc1 (j := 3) (ls' := [(3, _), (0, _), (1, _), (2, _)]) dX6_laysPlain_197 rfl (by decide) rfl ?_
            refine pw_ls [1, 2, 3, 0] (ls' := [(0, _), (1, _), (2, _), (3, _)]) rfl ?_
            refine pw_goto 80 dX6_laysPlain_200 (by decide) ?_
            have hz : B t = 0 := Classical.byContradiction (fun z => by have := (hS1 t (by omega)).1 z; have := (hI.1 t (by omega) z).2; omega)
            exact ih2 (t + 1) (by omega) (by omega) n1 B1 hk40 hf1 hR1 hS1 (hnx hz (by omega)).1 (hnx hz (by omega)).2
    refine pw_iload_n dX6_laysPlain_72 2 rfl rfl ?_
    refine pw_bipush (v := 40) dX6_laysPlain_73 (by decide) ?_
    refine pw_icmp_ge_N (b := 40) 209 dX6_laysPlain_75 (by decide) (by omega) (by omega) (fun c_75 => ?_) (fun c_75 => ?_)
    · refine pw_vret rfl dX6_laysPlain_209 ?_
      refine ⟨rfl, rfl, fun t ht => ?_, hf⟩
      have hk9 : k = 40 := by omega
      subst hk9
      rw [plMin_eq (hI.is h1 h3 ht)]
      exact (hR t ht).1
    · refine pw_iconst (v := 0) dX6_laysPlain_78 (by decide) ?_
      refine pw_istore_n (ls' := [(3, _), (0, _), (1, _), (2, _)]) dX6_laysPlain_79 rfl (by decide) rfl ?_
      refine pw_ls [1, 2, 3, 0] (ls' := [(0, _), (1, _), (2, _), (3, _)]) rfl ?_
      exact h80 0 (Nat.zero_le _) nn B (by omega) hf hR (fun t ht => ⟨fun _ => rfl, fun z => Or.inl z⟩) (fun i j _ _ e => by rcases e with e | e; (exact absurd e (Nat.not_lt_zero _)); exact absurd e.2 (Nat.not_lt_zero _)) (fun i _ e => absurd e (Nat.not_lt_zero _))
  have h37 : ∀ k, k ≤ a → ∀ nn, zFr pl0 plA n nn → (∀ t, t < plM a → (zai nn at_plainOf t = 0 ∧ ∀ j, j < k → t ≠ plAt j a) ∨ (zai nn at_plainOf t = 1 ∧ ∃ j, j < k ∧ t = plAt j a)) →
      PW zm_X6_laysPlain 2 (fun o g1 n1 => o = .inl none ∧ g1 = g ∧ (∀ t, t < plM a → zai n1 at_plainOf t = nI (plMin a t)) ∧ zFr pl0 plA n n1) 0 0 37 [(0, .ref aT), (1, .int (nI (plM a - 1))), (2, .int (nI k))] [] g nn := by
    refine zl_up a (fun k hk ih nn hf hz => ?_)
    refine pw_iload_n dX6_laysPlain_37 2 rfl rfl ?_
    refine pw_aload_n dX6_laysPlain_38 0 rfl rfl ?_
    refine pw_getr 12 zc_X6 (ts_this hM) (by decide) q1998 (Or.inr ⟨_, rfl⟩) (tr_told hM) dX6_laysPlain_39 ?_
    refine pw_iconst (v := 0) dX6_laysPlain_42 (by decide) ?_
    refine pw_iald 0 rfl (ts_told hM) (by decide) (by decide) dX6_laysPlain_43 ?_
    rw [hld nn hf]
    refine pw_icmp_ge_N 70 dX6_laysPlain_44 (by decide) (by omega) (by omega) (fun c_44 => ?_) (fun c_44 => ?_)
    · refine pw_iconst (v := 2) dX6_laysPlain_70 (by decide) ?_
      refine pw_istore_n (ls' := [(2, _), (0, _), (1, _)]) dX6_laysPlain_71 rfl (by decide) rfl ?_
      refine pw_ls [1, 2, 0] (ls' := [(0, _), (1, _), (2, _)]) rfl ?_
      have hka : k = a := by omega
      subst hka
      refine h72 2 (by decide) nn (fun t => (zai nn at_plainOf t).toNatClampNeg) (Nat.le_refl _) hf (fun t ht => ?_) (plInv.two (fun t ht hb => ?_) (fun j hj => ?_))
      · rcases hz t ht with ⟨h, -⟩ | ⟨h, -⟩ <;> (show zai nn at_plainOf t = nI (zai nn at_plainOf t).toNatClampNeg ∧ (zai nn at_plainOf t).toNatClampNeg ≤ 40; rw [h]; exact ⟨by decide, by decide⟩)
      · rcases hz t ht with ⟨h, -⟩ | ⟨h, j, hj, h2⟩
        · exact absurd (show (zai nn at_plainOf t).toNatClampNeg = 0 by rw [h]; rfl) hb
        · exact ⟨(show (zai nn at_plainOf t).toNatClampNeg = 1 by rw [h]; rfl), j, hj, h2⟩
      · rcases hz _ (plAt_ok k (by omega) j hj).2 with ⟨h, h2⟩ | ⟨h, -⟩
        · exact absurd rfl (h2 j hj)
        · show (zai nn at_plainOf (plAt j k)).toNatClampNeg = 1; rw [h]; rfl
    · refine pw_aload_n dX6_laysPlain_47 0 rfl rfl ?_
      refine pw_getr 61 zc_X6 (ts_this hM) (by decide) q2047 (Or.inr ⟨_, rfl⟩) (tr_plainOf hM) dX6_laysPlain_48 ?_
      refine pw_iload_n dX6_laysPlain_51 2 rfl rfl ?_
      refine pw_aload_n dX6_laysPlain_52 0 rfl rfl ?_
      refine pw_getr 12 zc_X6 (ts_this hM) (by decide) q1998 (Or.inr ⟨_, rfl⟩) (tr_told hM) dX6_laysPlain_53 ?_
      refine pw_iconst (v := 0) dX6_laysPlain_56 (by decide) ?_
      refine pw_iald 0 rfl (ts_told hM) (by decide) (by decide) dX6_laysPlain_57 ?_
      rw [hld nn hf]
      refine pw_callS2 zmM_X6_atomOf rfl (lw_S q2270 q2271 q150 q2272) (t_atomOf k a (by omega) (by omega) _ _) (by decide) (Nat.le_refl _) (Nat.le_refl _) rfl (Nat.le_of_ble_eq_true rfl) (Nat.le_of_ble_eq_true rfl) dX6_laysPlain_58 zE.nx (zE_kk ?_)
      refine pw_l2i dX6_laysPlain_61 ?_
      rw [(plAt_ok a (by omega) k (by omega)).1]
      have hpl := (plAt_ok a (by omega) k (by omega)).2
      refine pw_iconst (v := 1) dX6_laysPlain_62 (by decide) ?_
      refine pw_iast (plAt k a) rfl (ts_plainOf hM) (by decide) (by omega) (by decide) dX6_laysPlain_63 ?_
      refine pw_iinc1 (j := 2) (ls' := [(2, _), (0, _), (1, _)]) dX6_laysPlain_64 rfl (by decide) rfl ?_
      refine pw_ls [1, 2, 0] (ls' := [(0, _), (1, _), (2, _)]) rfl ?_
      refine pw_goto 37 dX6_laysPlain_67 (by decide) ?_
      refine ih (k + 1) (by omega) (by omega) _ (zFr.pai hf rfl) (fun t ht => ?_)
      rw [zai_p]
      by_cases e : t = plAt k a
      · rw [if_pos ⟨rfl, e⟩]; exact Or.inr ⟨rfl, k, Nat.lt_succ_self _, e⟩
      · rw [if_neg (fun z => e z.2)]
        rcases hz t ht with ⟨h, h2⟩ | ⟨h, j, hj, h2⟩
        · exact Or.inl ⟨h, fun j hj => if c : j = k then (by rw [c]; exact e) else h2 j (by omega)⟩
        · exact Or.inr ⟨h, j, by omega, h2⟩
  have h15 : ∀ k, k ≤ 256 → ∀ nn, zFr pl0 plA n nn → (∀ t, t < k → zai nn at_plainOf t = 0) →
      PW zm_X6_laysPlain 2 (fun o g1 n1 => o = .inl none ∧ g1 = g ∧ (∀ t, t < plM a → zai n1 at_plainOf t = nI (plMin a t)) ∧ zFr pl0 plA n n1) 0 0 15 [(0, .ref aT), (1, .int (nI (plM a - 1))), (2, .int (nI k))] [] g nn := by
    refine zl_up 256 (fun k hk ih nn hf hz => ?_)
    refine pw_iload_n dX6_laysPlain_15 2 rfl rfl ?_
    refine pw_sipush (v := 256) dX6_laysPlain_16 (by decide) ?_
    refine pw_icmp_ge_N (b := 256) 35 dX6_laysPlain_19 (by decide) (by omega) (by omega) (fun c_19 => ?_) (fun c_19 => ?_)
    · refine pw_iconst (v := 0) dX6_laysPlain_35 (by decide) ?_
      refine pw_istore_n (ls' := [(2, _), (0, _), (1, _)]) dX6_laysPlain_36 rfl (by decide) rfl ?_
      refine pw_ls [1, 2, 0] (ls' := [(0, _), (1, _), (2, _)]) rfl ?_
      exact h37 0 (Nat.zero_le _) nn hf (fun t ht => Or.inl ⟨hz t (by omega), fun j hj => absurd hj (Nat.not_lt_zero _)⟩)
    · refine pw_aload_n dX6_laysPlain_22 0 rfl rfl ?_
      refine pw_getr 61 zc_X6 (ts_this hM) (by decide) q2047 (Or.inr ⟨_, rfl⟩) (tr_plainOf hM) dX6_laysPlain_23 ?_
      refine pw_iload_n dX6_laysPlain_26 2 rfl rfl ?_
      refine pw_iconst (v := 0) dX6_laysPlain_27 (by decide) ?_
      refine pw_iast k rfl (ts_plainOf hM) (by decide) (by omega) (by decide) dX6_laysPlain_28 ?_
      refine pw_iinc1 (j := 2) (ls' := [(2, _), (0, _), (1, _)]) dX6_laysPlain_29 rfl (by decide) rfl ?_
      refine pw_ls [1, 2, 0] (ls' := [(0, _), (1, _), (2, _)]) rfl ?_
      refine pw_goto 15 dX6_laysPlain_32 (by decide) ?_
      refine ih (k + 1) (by omega) (by omega) _ (zFr.pai hf rfl) (fun t ht => ?_)
      rw [zai_p]
      by_cases e : t = k
      · rw [if_pos ⟨rfl, e⟩]
      · rw [if_neg (fun z => e z.2)]; exact hz t (by omega)
  refine pw_iconst (v := 1) dX6_laysPlain_0 (by decide) ?_
  refine pw_iconst (v := 1) dX6_laysPlain_1 (by decide) ?_
  refine pw_aload_n dX6_laysPlain_2 0 rfl rfl ?_
  refine pw_getr 12 zc_X6 (ts_this hM) (by decide) q1998 (Or.inr ⟨_, rfl⟩) (tr_told hM) dX6_laysPlain_3 ?_
  refine pw_iconst (v := 0) dX6_laysPlain_6 (by decide) ?_
  refine pw_iald 0 rfl (ts_told hM) (by decide) (by decide) dX6_laysPlain_7 ?_
  rw [hld n zFr.rf]
  refine pw_ishl dX6_laysPlain_8 ?_
  rw [ishl1 (show a < 32 by omega)]
  refine pw_ishl dX6_laysPlain_9 ?_
  rw [ishl1 hp]
  refine pw_iconst (v := 1) dX6_laysPlain_10 (by decide) ?_
  refine pw_isub dX6_laysPlain_11 ?_
  rw [show nI (2 ^ 2 ^ a) - 1 = nI (plM a - 1) from nI_sub (b := 1) (plM_pos a)]
  refine pw_istore_n (ls' := [(1, _), (0, _)]) dX6_laysPlain_12 rfl (by decide) rfl ?_
  refine pw_ls [1, 0] (ls' := [(0, _), (1, _)]) rfl ?_
  refine pw_iconst (v := 0) dX6_laysPlain_13 (by decide) ?_
  refine pw_istore_n (ls' := [(2, _), (0, _), (1, _)]) dX6_laysPlain_14 rfl (by decide) rfl ?_
  refine pw_ls [1, 2, 0] (ls' := [(0, _), (1, _), (2, _)]) rfl ?_
  exact h15 0 (Nat.zero_le _) n zFr.rf (fun t ht => absurd ht (Nat.not_lt_zero _))
noncomputable def sp_plain (S : zS) (x : Int32) : Int32 × Value × zS := spNeed S (inB x (sN S 0 1)) 1 0 (.int 0) (spNeed S (decide (sN S 0 0 ≤ 3)) 2 2 (.int 0) (0, .int (nI (plMin (sN S 0 0) (sL S 0 x.toNatClampNeg).toNatClampNeg)), S))
theorem t_plain {g : zg_G} {n : zg_N} {S : zS} (hM : TSh g) (hT : TW n S) (hW : WF S) (x : Int32) : PW zm_X6_plain 3 (tQ g n (sp_plain S x)) 0 0 0 [(0, .ref aT), (1, .int x)] [] g n := by
  have hs := hW.slips
  refine pw_aload_n dX6_plain_0 0 rfl rfl ?_
  refine pw_iconst (v := 0) dX6_plain_1 (by decide) ?_
  refine pw_puti 0 zc_X6 (ts_this hM) (by decide) (by decide) q1986 rfl (Or.inl rfl) rfl rfl dX6_plain_2 ?_
  obtain ⟨hT0, hth, hf0⟩ := t_start hT hW; generalize zpfi n aT 0 0 = n0 at hT0 hth hf0 ⊢
  refine pw_aload_n dX6_plain_5 0 rfl rfl ?_
  refine pw_aload_n dX6_plain_6 0 rfl rfl ?_
  refine pw_iload_n dX6_plain_7 1 rfl rfl ?_
  refine pw_callV1 zmM_X6_isSlip rfl (lw_V q2336 q2338 qs90 q150 q2339) rfl (ts_this hM) zc_X6 (t_isSlip hM hT0 hW x) (by decide) (Nat.le_refl _) (Nat.le_refl _) rfl (Nat.le_of_ble_eq_true rfl) (Nat.le_of_ble_eq_true rfl) dX6_plain_8 zE.nx (zE_kk ?_)
  refine pw_if_ne_B 18 dX6_plain_11 (by decide) (fun c_11 => ?_) (fun c_11 => ?_)
  · refine pw_iconst (v := 0) dX6_plain_18 (by decide) ?_
    refine pw_iconst (v := 1) dX6_plain_19 (by decide) ?_
    refine pw_iconst (v := 0) dX6_plain_20 (by decide) ?_
    refine pw_callV3 zmM_X6_bad rfl (lw_V q2188 q2190 qs62 q150 q2191) rfl (ts_this hM) zc_X6 (t_bad0 hM 1 (by decide) 0 (by decide) hth) (by decide) (Nat.le_refl _) (Nat.le_refl _) rfl (Nat.le_of_ble_eq_true rfl) (Nat.le_of_ble_eq_true rfl) dX6_plain_21 zE.nx (zE_kk ?_)
    refine pw_if_ne 51 dX6_plain_24 (by decide) (fun c_24 => ?_) (fun c_24 => ?_)
    · exact absurd rfl c_24
    · refine pw_aload_n dX6_plain_27 0 rfl rfl ?_
      refine pw_aload_n dX6_plain_28 0 rfl rfl ?_
      refine pw_getr 12 zc_X6 (ts_this hM) (by decide) q1998 (Or.inr ⟨_, rfl⟩) (tr_told hM) dX6_plain_29 ?_
      refine pw_iconst (v := 0) dX6_plain_32 (by decide) ?_
      refine pw_iald 0 rfl (ts_told hM) (by decide) (by decide) dX6_plain_33 ?_
      refine pw_iconst (v := 3) dX6_plain_34 (by decide) ?_
      rw [hT0.told (k := 0) (by decide)]
      have := hW.atoms
      refine pw_icmp_le_N (b := 3) 42 dX6_plain_35 (by decide) (by omega) (by omega) (fun c_35 => ?_) (fun c_35 => ?_)
      · refine pw_iconst (v := 0) dX6_plain_42 (by decide) ?_
        refine pw_iconst (v := 2) dX6_plain_43 (by decide) ?_
        refine pw_iconst (v := 2) dX6_plain_44 (by decide) ?_
        refine pw_callV3 zmM_X6_bad rfl (lw_V q2188 q2190 qs62 q150 q2191) rfl (ts_this hM) zc_X6 (t_bad0 hM 2 (by decide) 2 (by decide) hth) (by decide) (Nat.le_refl _) (Nat.le_refl _) rfl (Nat.le_of_ble_eq_true rfl) (Nat.le_of_ble_eq_true rfl) dX6_plain_45 zE.nx (zE_kk ?_)
        refine pw_if_eq 53 dX6_plain_48 (by decide) (fun c_48 => ?_) (fun c_48 => ?_)
        · obtain ⟨k, hk, rfl⟩ := inB_ex (by omega) c_11
          rw [show sp_plain S (nI k) = _ from (spNeed_t c_11).trans (spNeed_t (decide_eq_true c_35)), nI_clamp (show k < 2 ^ 31 by omega)]
          obtain ⟨htl, hti⟩ := plTab c_35 (hW.modAll (k := k) (Or.inl hk))
          have hm := plM_le c_35
          refine pw_aload_n dX6_plain_53 0 rfl rfl ?_
          refine pw_callV0 zmM_X6_laysPlain rfl (lw_V q2652 q2654 qs120 q150 q2655) rfl (ts_this hM) zc_X6 (t_laysPlain hM hT0 hW c_35) (by decide) (Nat.le_refl _) (Nat.le_refl _) rfl (Nat.le_of_ble_eq_true rfl) (Nat.le_of_ble_eq_true rfl) dX6_plain_54 (by intros; rintro ⟨h, _⟩; cases h) (fun v1 g1 n1 h1 => ?_)
          obtain ⟨h1, rfl, hP, hfg⟩ := h1; cases h1
          have hT1 := hT0.keep hW (hfg.mono pl0_tF plA_tA)
          refine pw_aload_n dX6_plain_57 0 rfl rfl ?_
          refine pw_getr 61 zc_X6 (ts_this hM) (by decide) q2047 (Or.inr ⟨_, rfl⟩) (tr_plainOf hM) dX6_plain_58 ?_
          refine pw_aload_n dX6_plain_61 0 rfl rfl ?_
          refine pw_getr 16 zc_X6 (ts_this hM) (by decide) q2002 (Or.inr ⟨_, rfl⟩) (tr_models hM) dX6_plain_62 ?_
          refine pw_iload_n dX6_plain_65 1 rfl rfl ?_
          refine pw_lald k rfl (ts_models hM) (by omega) (by decide) dX6_plain_66 ?_
          rw [hT1.md (Or.inl hk)]
          refine pw_l2i dX6_plain_67 ?_
          rw [hti]
          refine pw_iald (sL S 0 k).toNatClampNeg rfl (ts_plainOf hM) (by omega) (by decide) dX6_plain_68 ?_
          rw [hP _ htl]
          refine pw_iret rfl dX6_plain_69 ?_
          exact t_qok hT1 (((hfg.1 aT tf_thrown (fun z => z)).1).trans hth) (hf0.tr (hfg.mono (fun _ _ z => z.elim) (fun a z => by subst z; constructor <;> decide))) _
        · exact absurd rfl c_48
      · refine pw_iconst (v := 1) dX6_plain_38 (by decide) ?_
        refine pw_goto 43 dX6_plain_39 (by decide) ?_
        refine pw_iconst (v := 2) dX6_plain_43 (by decide) ?_
        refine pw_iconst (v := 2) dX6_plain_44 (by decide) ?_
        refine pw_callV3 zmM_X6_bad rfl (lw_V q2188 q2190 qs62 q150 q2191) rfl (ts_this hM) zc_X6 (t_bad1 hM 2 (by decide) 2 (by decide) hth) (by decide) (Nat.le_refl _) (Nat.le_refl _) rfl (Nat.le_of_ble_eq_true rfl) (Nat.le_of_ble_eq_true rfl) dX6_plain_45 zE.nx (zE_kk ?_)
        refine pw_if_eq 53 dX6_plain_48 (by decide) (fun c_48 => ?_) (fun c_48 => ?_)
        · exact absurd c_48 (by decide)
        · refine pw_iconst (v := 0) dX6_plain_51 (by decide) ?_
          refine pw_iret rfl dX6_plain_52 ?_
          exact tQ_eq ((spNeed_t c_11).trans (spNeed_f (by rw [decide_eq_true_eq]; omega))) (t_qbad hT0 hW hf0 2 2 (by decide) _)
  · refine pw_iconst (v := 1) dX6_plain_14 (by decide) ?_
    refine pw_goto 19 dX6_plain_15 (by decide) ?_
    refine pw_iconst (v := 1) dX6_plain_19 (by decide) ?_
    refine pw_iconst (v := 0) dX6_plain_20 (by decide) ?_
    refine pw_callV3 zmM_X6_bad rfl (lw_V q2188 q2190 qs62 q150 q2191) rfl (ts_this hM) zc_X6 (t_bad1 hM 1 (by decide) 0 (by decide) hth) (by decide) (Nat.le_refl _) (Nat.le_refl _) rfl (Nat.le_of_ble_eq_true rfl) (Nat.le_of_ble_eq_true rfl) dX6_plain_21 zE.nx (zE_kk ?_)
    refine pw_if_ne 51 dX6_plain_24 (by decide) (fun c_24 => ?_) (fun c_24 => ?_)
    · refine pw_iconst (v := 0) dX6_plain_51 (by decide) ?_
      refine pw_iret rfl dX6_plain_52 ?_
      exact tQ_eq (spNeed_f c_11) (t_qbad hT0 hW hf0 1 0 (by decide) _)
    · exact absurd c_24 (by decide)

/-! ===== TEXTS: what stands where; sentences as they are read ===== -/
/-- the byte at k; 256 behind the end -/
def tb (b : Nat → Nat) (N k : Nat) : Nat := if k < N then b k else 256
theorem tb_lt {b : Nat → Nat} {N k : Nat} (h : tb b N k ≠ 256) : k < N := Classical.byContradiction (fun z => h (if_neg z))
theorem tb_in {b : Nat → Nat} {N k : Nat} (h : k < N) : tb b N k = b k := if_pos h
def tSk (b : Nat → Nat) (N : Nat) : Nat → Nat → Nat
  | 0, p => p
  | m + 1, p => if tb b N p = 32 then tSk b N m (p + 1) else p
/-- the next that is no blank -/
def skp (b : Nat → Nat) (N p : Nat) : Nat := tSk b N (N - p) p
theorem skp_s {b : Nat → Nat} {N p : Nat} (h : tb b N p = 32) : skp b N p = skp b N (p + 1) := by
  have hp : p < N := tb_lt (b := b) (by rw [h]; decide)
  unfold skp
  rw [show N - p = (N - (p + 1)) + 1 by omega, tSk, if_pos h]
theorem skp_0 {b : Nat → Nat} {N p : Nat} (h : tb b N p ≠ 32) : skp b N p = p := by
  unfold skp
  cases N - p with
  | zero => rfl
  | succ m => rw [tSk, if_neg h]
theorem tSk_ge (b : Nat → Nat) (N : Nat) : ∀ m p, p ≤ tSk b N m p ∧ tSk b N m p ≤ p + m
  | 0, p => ⟨Nat.le_refl _, Nat.le_refl _⟩
  | m + 1, p => by
    rw [tSk]
    split
    · have := tSk_ge b N m (p + 1); omega
    · omega
theorem skp_ge (b : Nat → Nat) (N p : Nat) : p ≤ skp b N p := (tSk_ge b N _ _).1
theorem skp_le {b : Nat → Nat} {N p : Nat} (h : p ≤ N) : skp b N p ≤ N := by have := (tSk_ge b N (N - p) p).2; unfold skp; omega
theorem tSk_no (b : Nat → Nat) (N : Nat) : ∀ m p, N ≤ p + m → tb b N (tSk b N m p) ≠ 32
  | 0, p, h => by rw [tSk]; unfold tb; rw [if_neg (by omega)]; decide
  | m + 1, p, h => by
    rw [tSk]
    split
    · exact tSk_no b N m (p + 1) (by omega)
    · next z => exact z
theorem skp_no (b : Nat → Nat) (N p : Nat) : tb b N (skp b N p) ≠ 32 := tSk_no b N _ _ (by omega)
theorem skp_skp (b : Nat → Nat) (N p : Nat) : skp b N (skp b N p) = skp b N p := skp_0 (skp_no b N p)
/-- a small letter -/
abbrev isLt (c : Nat) : Prop := 97 ≤ c ∧ c ≤ 122
def tLt (b : Nat → Nat) (N : Nat) : Nat → Nat → List Nat
  | 0, _ => []
  | m + 1, p => if isLt (tb b N p) then tb b N p :: tLt b N m (p + 1) else []
/-- the letters from p on -/
def tWd (b : Nat → Nat) (N p : Nat) : List Nat := tLt b N (N - p) p
theorem tWd_s {b : Nat → Nat} {N p : Nat} (h : isLt (tb b N p)) : tWd b N p = tb b N p :: tWd b N (p + 1) := by
  have hp : p < N := tb_lt (b := b) (by unfold isLt at h; omega)
  unfold tWd
  rw [show N - p = (N - (p + 1)) + 1 by omega, tLt, if_pos h]
theorem tWd_0 {b : Nat → Nat} {N p : Nat} (h : ¬ isLt (tb b N p)) : tWd b N p = [] := by
  unfold tWd
  cases N - p with
  | zero => rfl
  | succ m => rw [tLt, if_neg h]
theorem tLt_ok (b : Nat → Nat) (N : Nat) : ∀ m p, (∀ c, c ∈ tLt b N m p → isLt c) ∧ (tLt b N m p).length ≤ m
  | 0, p => ⟨(fun c h => nomatch h), Nat.le_refl _⟩
  | m + 1, p => by
    rw [tLt]
    split
    · next h =>
      have := tLt_ok b N m (p + 1)
      refine ⟨fun c hc => ?_, by simp only [List.length_cons]; omega⟩
      rcases List.mem_cons.mp hc with rfl | hc
      · exact h
      · exact this.1 c hc
    · exact ⟨(fun c h => nomatch h), by simp⟩
theorem tWd_lt (b : Nat → Nat) (N p : Nat) : ∀ c, c ∈ tWd b N p → isLt c := (tLt_ok b N _ _).1
theorem tWd_len {b : Nat → Nat} {N p : Nat} (h : p ≤ N) : p + (tWd b N p).length ≤ N := by have := (tLt_ok b N (N - p) p).2; unfold tWd; omega
theorem tLt_at (b : Nat → Nat) (N : Nat) : ∀ m p i, i < (tLt b N m p).length → (tLt b N m p)[i]? = some (tb b N (p + i))
  | 0, p, i, h => absurd h (Nat.not_lt_zero _)
  | m + 1, p, i, h => by
    rw [tLt] at h ⊢
    split at h
    · next hc =>
      rw [if_pos hc]
      cases i with
      | zero => rfl
      | succ i =>
        have := tLt_at b N m (p + 1) i (by simp only [List.length_cons] at h; omega)
        rw [List.getElem?_cons_succ, this, show p + 1 + i = p + (i + 1) by omega]
    · exact absurd h (Nat.not_lt_zero _)
theorem tWd_at {b : Nat → Nat} {N p i : Nat} (h : i < (tWd b N p).length) : (tWd b N p)[i]? = some (tb b N (p + i)) := tLt_at b N _ _ i h
theorem tLt_end (b : Nat → Nat) (N : Nat) : ∀ m p, N ≤ p + m → ¬ isLt (tb b N (p + (tLt b N m p).length))
  | 0, p, h => by rw [tLt]; unfold tb; rw [if_neg (by simp; omega)]; decide
  | m + 1, p, h => by
    rw [tLt]
    split
    · have := tLt_end b N m (p + 1) (by omega)
      rw [List.length_cons, show p + ((tLt b N m (p + 1)).length + 1) = p + 1 + (tLt b N m (p + 1)).length by omega]
      exact this
    · next h => exact h
theorem tWd_end (b : Nat → Nat) (N p : Nat) : ¬ isLt (tb b N (p + (tWd b N p).length)) := tLt_end b N _ _ (by omega)
/-- a digit -/
abbrev isDg (c : Nat) : Prop := 48 ≤ c ∧ c ≤ 57
/-- digits from p on: the number that they are, where they end -/
def tDg (b : Nat → Nat) (N : Nat) : Nat → Nat → Nat → Nat × Nat
  | 0, v, p => (v, p)
  | m + 1, v, p => if isDg (tb b N p) then tDg b N m (10 * v + (tb b N p - 48)) (p + 1) else (v, p)
def tNm (b : Nat → Nat) (N v p : Nat) : Nat × Nat := tDg b N (N - p) v p
theorem tNm_s {b : Nat → Nat} {N v p : Nat} (h : isDg (tb b N p)) : tNm b N v p = tNm b N (10 * v + (tb b N p - 48)) (p + 1) := by
  have hp : p < N := tb_lt (b := b) (by unfold isDg at h; omega)
  unfold tNm
  rw [show N - p = (N - (p + 1)) + 1 by omega, tDg, if_pos h]
theorem tNm_0 {b : Nat → Nat} {N v p : Nat} (h : ¬ isDg (tb b N p)) : tNm b N v p = (v, p) := by
  unfold tNm
  cases N - p with
  | zero => rfl
  | succ m => rw [tDg, if_neg h]
theorem tDg_ge (b : Nat → Nat) (N : Nat) : ∀ m v p, p ≤ (tDg b N m v p).2 ∧ (tDg b N m v p).2 ≤ p + m ∧ v ≤ (tDg b N m v p).1
  | 0, v, p => ⟨Nat.le_refl _, Nat.le_refl _, Nat.le_refl _⟩
  | m + 1, v, p => by
    rw [tDg]
    split
    · have := tDg_ge b N m (10 * v + (tb b N p - 48)) (p + 1); omega
    · simp
theorem tNm_ge {b : Nat → Nat} {N v p : Nat} (h : p ≤ N) : p ≤ (tNm b N v p).2 ∧ (tNm b N v p).2 ≤ N := by have := tDg_ge b N (N - p) v p; unfold tNm; omega
theorem tNm_gev {b : Nat → Nat} {N v p : Nat} : v ≤ (tNm b N v p).1 := (tDg_ge b N (N - p) v p).2.2
/-! what reading comes to: a fault (its kind, its place; 0: no more fuel), or a value and where it ends -/
abbrev zPR (α : Type) : Type := (Nat × Nat) ⊕ (α × Nat)
def pB {α β : Type} (r : zPR α) (k : α → Nat → zPR β) : zPR β := match r with
  | .inl e => .inl e
  | .inr q => k q.1 q.2
def pOk {α : Type} (r : zPR α) : Prop := match r with
  | .inl e => e.1 ≠ 0
  | .inr _ => True
theorem pOk_B {α β : Type} {r : zPR α} {k : α → Nat → zPR β} (h : pOk (pB r k)) : pOk r := by
  cases r with
  | inl e => exact h
  | inr q => trivial
def pNeed {α : Type} (b : Nat → Nat) (N c p : Nat) (v : α) : zPR α := if tb b N (skp b N p) = c then .inr (v, skp b N p + 1) else .inl (1, skp b N p)
/-- a number from low to high -/
def pNum (b : Nat → Nat) (N low high p : Nat) : zPR Nat :=
  if ¬ isDg (tb b N (skp b N p)) then .inl (1, skp b N p)
  else if (tNm b N 0 (skp b N p)).1 < low ∨ high < (tNm b N 0 (skp b N p)).1 then .inl (2, skp b N p) else .inr (tNm b N 0 (skp b N p))
abbrev wOr : List Nat := [111, 114]
abbrev wAnd : List Nat := [97, 110, 100]
abbrev wNot : List Nat := [110, 111, 116]
abbrev wIf : List Nat := [105, 102]
abbrev wThen : List Nat := [116, 104, 101, 110]
/-- one that is in brackets, denied, of two; an atom -/
def pOne (b : Nat → Nat) (N a : Nat) (R : Nat → Nat → Int64 → Nat → zPR Int64) (o q : Nat) : zPR Int64 :=
  if tb b N q = 91 then (if o = 6 then .inl (3, q) else pB (R 0 (o + 1) 0 (q + 1)) (fun v p1 => pNeed b N 93 p1 v))
  else if tWd b N q = wNot then (if o = 6 then .inl (3, q) else pB (R 4 (o + 1) 0 (q + 3)) (fun v p1 => .inr (wAll a &&& (v ^^^ -1), p1)))
  else if tWd b N q = wIf then (if o = 6 then .inl (3, q) else pB (R 4 (o + 1) 0 (q + 2)) (fun u p1 => if tWd b N (skp b N p1) = wThen then pB (R 4 (o + 1) 0 (skp b N p1 + 4)) (fun v p2 => .inr ((wAll a &&& (u ^^^ -1)) ||| v, p2)) else .inl (1, skp b N p1)))
  else if (isLt (tb b N q) ∧ tb b N q < 97 + a) ∧ ¬ isLt (tb b N (q + 1)) then .inr (wAt (tb b N q - 97) a, q + 1) else .inl (1, q)
/-- sentences: 0 any, 1 more of any, 2 each, 3 more of each, 4 one -/
def pS (b : Nat → Nat) (N a : Nat) : Nat → Nat → Nat → Int64 → Nat → zPR Int64
  | 0, _, _, _, _ => .inl (0, 0)
  | f + 1, m, o, v, p =>
    if m = 0 then pB (pS b N a f 2 o 0 p) (fun v p1 => pS b N a f 1 o v p1)
    else if m = 1 then (if tWd b N (skp b N p) = wOr then pB (pS b N a f 2 o 0 (skp b N p + 2)) (fun u p1 => pS b N a f 1 o (v ||| u) p1) else .inr (v, skp b N p))
    else if m = 2 then pB (pS b N a f 4 o 0 p) (fun v p1 => pS b N a f 3 o v p1)
    else if m = 3 then (if tWd b N (skp b N p) = wAnd then pB (pS b N a f 4 o 0 (skp b N p + 3)) (fun u p1 => pS b N a f 3 o (v &&& u) p1) else .inr (v, skp b N p))
    else pOne b N a (pS b N a f) o (skp b N p)
/-- how far: a value ends behind its begin (or at it, where more may come) and ahead of the end -/
def pFar {α : Type} (N p : Nat) (st : Nat) (r : zPR α) : Prop := match r with
  | .inl _ => True
  | .inr q => p + st ≤ q.2 ∧ q.2 ≤ N
theorem pFar_B {α β : Type} {N p s t u : Nat} {r : zPR α} {k : α → Nat → zPR β} (h : pFar N p s r) (hk : ∀ v p1, r = .inr (v, p1) → p + s ≤ p1 → p1 ≤ N → pFar N p1 t (k v p1)) (hu : u ≤ s + t) : pFar N p u (pB r k) := by
  cases r with
  | inl e => trivial
  | inr q =>
    have h2 := hk q.1 q.2 rfl h.1 h.2
    show pFar N p u (k q.1 q.2)
    have h1 := h.1
    cases hkq : k q.1 q.2 with
    | inl e => trivial
    | inr z =>
      rw [hkq] at h2
      exact ⟨by have := h2.1; omega, h2.2⟩
theorem pFar.mono {α : Type} {N p p' s s' : Nat} {r : zPR α} (h : pFar N p s r) (h' : p' + s' ≤ p + s) : pFar N p' s' r := by
  cases r with
  | inl e => trivial
  | inr q => exact ⟨Nat.le_trans h' h.1, h.2⟩
theorem pFar_v {α : Type} {N p : Nat} (h : p ≤ N) (v : α) : pFar N p 0 (.inr (v, p)) := ⟨Nat.le_refl _, h⟩
theorem pNeed_far {α : Type} (b : Nat → Nat) (N c p : Nat) (hc : c < 256) (v : α) : pFar N p 1 (pNeed b N c p v) := by
  unfold pNeed
  have := skp_ge b N p
  split
  · next h => exact ⟨by show p + 1 ≤ skp b N p + 1; omega, tb_lt (b := b) (by omega)⟩
  · trivial
theorem tWd_far {b : Nat → Nat} {N p : Nat} {w : List Nat} (hp : p ≤ N) (h : tWd b N p = w) : p + w.length ≤ N := h ▸ tWd_len hp
theorem pS_far (b : Nat → Nat) (N a : Nat) : ∀ f m o v p, p ≤ N → pFar N p (if m = 0 ∨ m = 2 ∨ 4 ≤ m then 1 else 0) (pS b N a f m o v p)
  | 0, m, o, v, p, _ => trivial
  | f + 1, m, o, v, p, hp => by
    have ih := fun m o v p hp => pS_far b N a f m o v p hp
    have hq := skp_le (b := b) hp
    have hg := skp_ge b N p
    rw [pS]
    by_cases m0 : m = 0
    · subst m0
      rw [if_pos rfl, if_pos (Or.inl rfl)]
      exact pFar_B (s := 1) (t := 0) (ih 2 o 0 p hp) (fun v p1 _ _ h => ih 1 o v p1 h) (by decide)
    · rw [if_neg m0]
      by_cases m1 : m = 1
      · subst m1
        rw [if_pos rfl, if_neg (by decide)]
        split
        · next hw =>
          have h2 := tWd_far hq hw
          exact (pFar_B (p := skp b N p + 2) (s := 1) (t := 0) (u := 0) (ih 2 o 0 _ h2) (fun u p1 _ _ h => ih 1 o _ p1 h) (by decide)).mono (by omega)
        · exact ⟨hg, hq⟩
      · rw [if_neg m1]
        by_cases m2 : m = 2
        · subst m2
          rw [if_pos rfl, if_pos (by decide)]
          exact pFar_B (s := 1) (t := 0) (ih 4 o 0 p hp) (fun v p1 _ _ h => ih 3 o v p1 h) (by decide)
        · rw [if_neg m2]
          by_cases m3 : m = 3
          · subst m3
            rw [if_pos rfl, if_neg (by decide)]
            split
            · next hw =>
              have h2 := tWd_far hq hw
              exact (pFar_B (p := skp b N p + 3) (s := 1) (t := 0) (u := 0) (ih 4 o 0 _ h2) (fun u p1 _ _ h => ih 3 o _ p1 h) (by decide)).mono (by omega)
            · exact ⟨hg, hq⟩
          · rw [if_neg m3, if_pos (by omega)]
            refine pFar.mono (p := skp b N p) (s := 1) ?_ (by omega)
            generalize skp b N p = q at hq
            unfold pOne
            split
            · next h =>
              split
              · trivial
              · have hlt : q + 1 ≤ N := tb_lt (b := b) (by omega)
                exact (pFar_B (p := q + 1) (s := 1) (t := 1) (u := 1) (ih 0 (o + 1) 0 _ hlt) (fun v p1 _ _ _ => pNeed_far b N 93 p1 (by decide) v) (by decide)).mono (by omega)
            · split
              · next hw =>
                have h2 := tWd_far hq hw
                split
                · trivial
                · exact (pFar_B (p := q + 3) (s := 1) (t := 0) (u := 1) (ih 4 (o + 1) 0 _ h2) (fun v p1 _ _ h => pFar_v h _) (by decide)).mono (by omega)
              · split
                · next hw =>
                  have h2 := tWd_far hq hw
                  split
                  · trivial
                  · refine (pFar_B (p := q + 2) (s := 1) (t := 0) (u := 1) (ih 4 (o + 1) 0 _ h2) (fun u p1 _ _ h => ?_) (by decide)).mono (by omega)
                    have := skp_ge b N p1
                    split
                    · next hw2 =>
                      have h3 := tWd_far (skp_le h) hw2
                      exact (pFar_B (p := skp b N p1 + 4) (s := 1) (t := 0) (u := 0) (ih 4 (o + 1) 0 _ h3) (fun v p2 _ _ h => pFar_v h _) (by decide)).mono (by omega)
                    · trivial
                · split
                  · next h => exact ⟨Nat.le_refl _, tb_lt (b := b) (by have := h.1.1; unfold isLt at this; omega)⟩
                  · trivial
theorem pOk_Bi {α β : Type} {r : zPR α} {k : α → Nat → zPR β} (h : pOk r) (hk : ∀ v p1, r = .inr (v, p1) → pOk (k v p1)) : pOk (pB r k) := by
  cases r with
  | inl e => exact h
  | inr q => exact hk q.1 q.2 rfl
theorem pNeed_ok {α : Type} (b : Nat → Nat) (N c p : Nat) (v : α) : pOk (pNeed b N c p v) := by
  unfold pNeed
  split
  · trivial
  · exact Nat.one_ne_zero
/-- with so much fuel none is wanting -/
theorem pS_ok (b : Nat → Nat) (N a : Nat) : ∀ f m o v p, p ≤ N → 4 * (N - p) + (if m = 0 then 2 else if m = 2 then 1 else 0) < f → pOk (pS b N a f m o v p)
  | 0, m, o, v, p, _, h => absurd h (Nat.not_lt_zero _)
  | f + 1, m, o, v, p, hp, hf => by
    have ih := fun m o v p hp h => pS_ok b N a f m o v p hp h
    have far := fun m o v p hp => pS_far b N a f m o v p hp
    have hq := skp_le (b := b) hp
    have hg := skp_ge b N p
    have fr : ∀ {m o v p v1 p1}, p ≤ N → pS b N a f m o v p = .inr (v1, p1) → p + (if m = 0 ∨ m = 2 ∨ 4 ≤ m then 1 else 0) ≤ p1 ∧ p1 ≤ N := fun {m o v p v1 p1} hp e => by
      have := far m o v p hp
      rw [e] at this
      exact this
    rw [pS]
    by_cases m0 : m = 0
    · subst m0
      rw [if_pos rfl] at hf ⊢
      exact pOk_Bi (ih 2 o 0 p hp (by rw [if_neg (by decide), if_pos rfl]; omega)) (fun v p1 e => ih 1 o v p1 (fr hp e).2 (by have := (fr hp e).1; rw [if_pos (by decide)] at this; rw [if_neg (by decide), if_neg (by decide)]; omega))
    · rw [if_neg m0] at hf ⊢
      by_cases m1 : m = 1
      · subst m1
        rw [if_neg (by decide)] at hf
        rw [if_pos rfl]
        split
        · next hw =>
          have h2 := tWd_far hq hw
          replace h2 : skp b N p + 2 ≤ N := h2
          exact pOk_Bi (ih 2 o 0 _ h2 (by rw [if_neg (by decide), if_pos rfl]; omega)) (fun u p1 e => ih 1 o _ p1 (fr h2 e).2 (by have := (fr h2 e).1; rw [if_pos (by decide)] at this; rw [if_neg (by decide), if_neg (by decide)]; omega))
        · trivial
      · rw [if_neg m1]
        by_cases m2 : m = 2
        · subst m2
          rw [if_pos rfl] at hf ⊢
          exact pOk_Bi (ih 4 o 0 p hp (by rw [if_neg (by decide), if_neg (by decide)]; omega)) (fun v p1 e => ih 3 o v p1 (fr hp e).2 (by have := (fr hp e).1; rw [if_pos (by decide)] at this; rw [if_neg (by decide), if_neg (by decide)]; omega))
        · rw [if_neg m2] at hf ⊢
          by_cases m3 : m = 3
          · subst m3
            rw [if_pos rfl]
            split
            · next hw =>
              have h2 := tWd_far hq hw
              replace h2 : skp b N p + 3 ≤ N := h2
              exact pOk_Bi (ih 4 o 0 _ h2 (by rw [if_neg (by decide), if_neg (by decide)]; omega)) (fun u p1 e => ih 3 o _ p1 (fr h2 e).2 (by have := (fr h2 e).1; rw [if_pos (by decide)] at this; rw [if_neg (by decide), if_neg (by decide)]; omega))
            · trivial
          · rw [if_neg m3]
            generalize skp b N p = q at hq hg
            unfold pOne
            split
            · next h =>
              have hlt : q + 1 ≤ N := tb_lt (b := b) (by omega)
              split
              · exact (by decide : (3 : Nat) ≠ 0)
              · exact pOk_Bi (ih 0 (o + 1) 0 _ hlt (by rw [if_pos rfl]; omega)) (fun v p1 _ => pNeed_ok b N 93 p1 v)
            · split
              · next hw =>
                have h2 := tWd_far hq hw
                replace h2 : q + 3 ≤ N := h2
                split
                · exact (by decide : (3 : Nat) ≠ 0)
                · exact pOk_Bi (ih 4 (o + 1) 0 _ h2 (by rw [if_neg (by decide), if_neg (by decide)]; omega)) (fun v p1 _ => trivial)
              · split
                · next hw =>
                  have h2 := tWd_far hq hw
                  replace h2 : q + 2 ≤ N := h2
                  split
                  · exact (by decide : (3 : Nat) ≠ 0)
                  · refine pOk_Bi (ih 4 (o + 1) 0 _ h2 (by rw [if_neg (by decide), if_neg (by decide)]; omega)) (fun u p1 e => ?_)
                    have h1 := (fr h2 e).1
                    have := skp_ge b N p1
                    split
                    · next hw2 =>
                      have h3 := tWd_far (skp_le (fr h2 e).2) hw2
                      replace h3 : skp b N p1 + 4 ≤ N := h3
                      exact pOk_Bi (ih 4 (o + 1) 0 _ h3 (by rw [if_neg (by decide), if_neg (by decide)]; omega)) (fun v p2 _ => trivial)
                    · exact Nat.one_ne_zero
                · split
                  · trivial
                  · exact Nat.one_ne_zero

/-! ===== the reference reads: bytes, blanks, words, numbers ===== -/
/-- the text: so many bytes -/
def TX (n : zg_N) (b : Nat → Nat) (N : Nat) : Prop := zfi n aT tf_size = nI N ∧ N ≤ 600 ∧ ∀ k, k < N → zai n at_fed k = nI (b k) ∧ b k < 256
/-- reading at p, o brackets deep, no fault so far -/
def TRd (n : zg_N) (b : Nat → Nat) (N p o : Nat) : Prop := TX n b N ∧ zfi n aT tf_fault = 0 ∧ zfi n aT tf_at = nI p ∧ zfi n aT tf_open = nI o ∧ p ≤ N ∧ zfi n aT tf_faultAt = -1
/-- a fault stands: its kind, its place -/
def TFl (n : zg_N) (e : Nat × Nat) : Prop := zfi n aT tf_fault = nI e.1 ∧ zfi n aT tf_faultAt = nI e.2 ∧ 1 ≤ e.1 ∧ e.1 ≤ 4 ∧ ∃ p, zfi n aT tf_at = nI p ∧ p ≤ 600
theorem TFl.ne {n : zg_N} {e : Nat × Nat} (h : TFl n e) : ¬ zfi n aT tf_fault = 0 := by rw [h.1]; have := h.2.2.1; have := h.2.2.2.1; exact nI_ne0 (by omega) (by omega)
def rF (a k : Nat) : Prop := a = aT ∧ (k = tf_at ∨ k = tf_open ∨ k = tf_fault ∨ k = tf_faultAt)
def rA (_ : Nat) : Prop := False
theorem rF_at : rF aT tf_at := ⟨rfl, Or.inl rfl⟩
theorem rF_op : rF aT tf_open := ⟨rfl, Or.inr (Or.inl rfl)⟩
theorem rF_fl : rF aT tf_fault := ⟨rfl, Or.inr (Or.inr (Or.inl rfl))⟩
theorem rF_fa : rF aT tf_faultAt := ⟨rfl, Or.inr (Or.inr (Or.inr rfl))⟩
theorem TX.keep {n n' : zg_N} {b : Nat → Nat} {N : Nat} (h : TX n b N) (hf : zFr rF rA n n') : TX n' b N :=
  ⟨((hf.1 aT tf_size (fun z => by rcases z.2 with z | z | z | z <;> exact absurd z (by decide))).1).trans h.1, h.2.1, fun k hk => ⟨((hf.2 at_fed (fun z => z) k).1).trans (h.2.2 k hk).1, (h.2.2 k hk).2⟩⟩
theorem TRd.at {n : zg_N} {b : Nat → Nat} {N p o q : Nat} (h : TRd n b N p o) (hq : q ≤ N) : TRd (zpfi n aT tf_at (nI q)) b N q o := ⟨h.1.keep (zFr.rf.pfi rF_at), h.2.1, rfl, h.2.2.2.1, hq, h.2.2.2.2.2⟩
/-- what a reader ends with: its value, or a fault -/
def rR {α : Type} (g : zg_G) (n : zg_N) (b : Nat → Nat) (N o : Nat) (mk : α → Option Value) (r : zPR α) : zP := fun out g1 n1 => g1 = g ∧ zFr rF rA n n1 ∧ match r with
  | .inr q => out = .inl (mk q.1) ∧ TRd n1 b N q.2 o
  | .inl e => (∃ x, out = .inl (mk x)) ∧ TFl n1 e
/-- no fault: this value, this place -/
def rP (g : zg_G) (n : zg_N) (b : Nat → Nat) (N o : Nat) (v : Option Value) (q : Nat) : zP := fun out g1 n1 => out = .inl v ∧ g1 = g ∧ TRd n1 b N q o ∧ zFr rF rA n n1
def tv (b : Nat → Nat) (N k : Nat) : Int32 := if k < N then nI (b k) else -1
theorem tv_eq {n : zg_N} {b : Nat → Nat} {N k c : Nat} (h : TX n b N) (hc : c < 256) : tv b N k = nI c ↔ tb b N k = c := by
  unfold tv tb
  split
  · next hk => exact nI_eq_iff (by have := (h.2.2 k hk).2; omega) (by omega)
  · refine ⟨fun z => ?_, fun z => by omega⟩
    have := congrArg Int32.toInt z
    rw [nI_toInt (by omega), show (-1 : Int32).toInt = -1 from by decide] at this
    omega
theorem tv_rng {n : zg_N} {b : Nat → Nat} {N k c d : Nat} (h : TX n b N) (hc : c < 256) (hd : d < 256) : (nI c ≤ tv b N k ∧ tv b N k ≤ nI d) ↔ (c ≤ tb b N k ∧ tb b N k ≤ d) := by
  unfold tv tb
  split
  · next hk =>
    have := (h.2.2 k hk).2
    rw [nI_leI (by omega) (by omega), nI_leI (by omega) (by omega)]
  · rw [Int32.le_iff_toInt_le, nI_toInt (by omega), show (-1 : Int32).toInt = -1 from by decide]
    omega
theorem tv_small {n : zg_N} {b : Nat → Nat} {N k : Nat} (h : TX n b N) : (97 ≤ tv b N k ∧ tv b N k ≤ 122) ↔ isLt (tb b N k) := tv_rng (c := 97) (d := 122) h (by decide) (by decide)
theorem tv_digit {n : zg_N} {b : Nat → Nat} {N k : Nat} (h : TX n b N) : (48 ≤ tv b N k ∧ tv b N k ≤ 57) ↔ isDg (tb b N k) := tv_rng (c := 48) (d := 57) h (by decide) (by decide)
theorem tv_nI {n : zg_N} {b : Nat → Nat} {N k : Nat} (h : TX n b N) (hk : tb b N k ≠ 256) : tv b N k = nI (tb b N k) := by
  have := tb_lt hk
  unfold tv tb; rw [if_pos this, if_pos this]
theorem nI_mul (a c : Nat) : nI a * nI c = nI (a * c) := by
  apply Int32.toBitVec_inj.mp
  rw [Int32.toBitVec_mul]
  show BitVec.ofNat 32 a * BitVec.ofNat 32 c = BitVec.ofNat 32 (a * c)
  rw [BitVec.ofNat_mul]
theorem t_byteAt {g : zg_G} {n : zg_N} {b : Nat → Nat} {N : Nat} (hM : TSh g) (hX : TX n b N) (k : Nat) (hk : k < 2147483648) : PW zm_X6_byteAt 1 (zE (some (.int (tv b N k))) g n) 0 0 0 [(0, .ref aT), (1, .int (nI k))] [] g n := by
  have hN := hX.2.1
  refine pw_iload_n dX6_byteAt_0 1 rfl rfl ?_
  refine pw_aload_n dX6_byteAt_1 0 rfl rfl ?_
  refine pw_geti 2 zc_X6 (ts_this hM) (by decide) q1988 (Or.inl rfl) dX6_byteAt_2 ?_
  rw [hX.1]
  refine pw_icmp_lt_N 12 dX6_byteAt_5 (by decide) (by omega) (by omega) (fun c_5 => ?_) (fun c_5 => ?_)
  · refine pw_aload_n dX6_byteAt_12 0 rfl rfl ?_
    refine pw_getr 9 zc_X6 (ts_this hM) (by decide) q1995 (Or.inr ⟨_, rfl⟩) (tr_fed hM) dX6_byteAt_13 ?_
    refine pw_iload_n dX6_byteAt_16 1 rfl rfl ?_
    refine pw_iald k rfl (ts_fed hM) (by omega) (by decide) dX6_byteAt_17 ?_
    refine pw_iret rfl dX6_byteAt_18 ?_
    exact ⟨by unfold tv; rw [if_pos c_5, (hX.2.2 k c_5).1], rfl, rfl⟩
  · refine pw_iconst (v := (-1)) dX6_byteAt_8 (by decide) ?_
    refine pw_goto 18 dX6_byteAt_9 (by decide) ?_
    refine pw_iret rfl dX6_byteAt_18 ?_
    exact ⟨by unfold tv; rw [if_neg (by omega)], rfl, rfl⟩
theorem t_blanks {g : zg_G} {b : Nat → Nat} {N o : Nat} (hM : TSh g) : ∀ (m p : Nat) (n : zg_N), N - p ≤ m → TRd n b N p o → PW zm_X6_blanks 2 (rP g n b N o none (skp b N p)) 0 0 0 [(0, .ref aT)] [] g n := by
  intro m
  induction m with
  | zero =>
    intro p n hm hR
    have hX := hR.1; have hN := hX.2.1; have hat := hR.2.2.1; have hpN := hR.2.2.2.2.1
    have hz : ¬ tb b N p = 32 := fun z => by have := tb_lt (b := b) (N := N) (k := p) (by omega); omega
    refine pw_aload_n dX6_blanks_0 0 rfl rfl ?_
    refine pw_aload_n dX6_blanks_1 0 rfl rfl ?_
    refine pw_geti 4 zc_X6 (ts_this hM) (by decide) q1990 (Or.inl rfl) dX6_blanks_2 ?_
    rw [hat]
    refine pw_callV1 zmM_X6_byteAt rfl (lw_V q2200 q2202 qs65 q150 q2203) rfl (ts_this hM) zc_X6 (t_byteAt hM hX p (by omega)) (by decide) (Nat.le_refl _) (Nat.le_refl _) rfl (Nat.le_of_ble_eq_true rfl) (Nat.le_of_ble_eq_true rfl) dX6_blanks_5 zE.nx (zE_kk ?_)
    refine pw_bipush (v := 32) dX6_blanks_8 (by decide) ?_
    refine pw_icmp_ne 26 dX6_blanks_10 (by decide) (fun c_10 => ?_) (fun c_10 => ?_)
    · refine pw_vret rfl dX6_blanks_26 ?_
      exact ⟨rfl, rfl, by rw [skp_0 hz]; exact hR, zFr.rf⟩
    · exact absurd ((tv_eq (c := 32) hX (by decide)).mp c_10) hz
  | succ m ih =>
    intro p n hm hR
    have hX := hR.1; have hN := hX.2.1; have hat := hR.2.2.1; have hpN := hR.2.2.2.2.1
    refine pw_aload_n dX6_blanks_0 0 rfl rfl ?_
    refine pw_aload_n dX6_blanks_1 0 rfl rfl ?_
    refine pw_geti 4 zc_X6 (ts_this hM) (by decide) q1990 (Or.inl rfl) dX6_blanks_2 ?_
    rw [hat]
    refine pw_callV1 zmM_X6_byteAt rfl (lw_V q2200 q2202 qs65 q150 q2203) rfl (ts_this hM) zc_X6 (t_byteAt hM hX p (by omega)) (by decide) (Nat.le_refl _) (Nat.le_refl _) rfl (Nat.le_of_ble_eq_true rfl) (Nat.le_of_ble_eq_true rfl) dX6_blanks_5 zE.nx (zE_kk ?_)
    refine pw_bipush (v := 32) dX6_blanks_8 (by decide) ?_
    refine pw_icmp_ne 26 dX6_blanks_10 (by decide) (fun c_10 => ?_) (fun c_10 => ?_)
    · refine pw_vret rfl dX6_blanks_26 ?_
      exact ⟨rfl, rfl, by rw [skp_0 (fun z => c_10 ((tv_eq (c := 32) hX (by decide)).mpr z))]; exact hR, zFr.rf⟩
    · refine pw_aload_n dX6_blanks_13 0 rfl rfl ?_
      refine pw_dup dX6_blanks_14 rfl ?_
      refine pw_geti 4 zc_X6 (ts_this hM) (by decide) q1990 (Or.inl rfl) dX6_blanks_15 ?_
      refine pw_iconst (v := 1) dX6_blanks_18 (by decide) ?_
      refine pw_iadd dX6_blanks_19 ?_
      rw [hat, nI_1]
      have h32 := (tv_eq (c := 32) hX (by decide)).mp c_10
      have hlt := tb_lt (b := b) (N := N) (k := p) (by omega)
      refine pw_puti 4 zc_X6 (ts_this hM) (by decide) (by decide) q1990 rfl (Or.inl rfl) rfl rfl dX6_blanks_20 ?_
      refine pw_goto 0 dX6_blanks_23 (by decide) ?_
      refine pw_mono (fun out g1 n1 h => ?_) (ih (p + 1) _ (by omega) (hR.at (by omega)))
      exact ⟨h.1, h.2.1, by rw [skp_s h32]; exact h.2.2.1, (zFr.rf.pfi rF_at).tr h.2.2.2⟩
theorem t_blk {g : zg_G} {n : zg_N} {b : Nat → Nat} {N p o : Nat} (hM : TSh g) (hR : TRd n b N p o) : PW zm_X6_blanks 2 (rP g n b N o none (skp b N p)) 0 0 0 [(0, .ref aT)] [] g n := t_blanks hM _ p n (Nat.le_refl _) hR
/-- blanks are gone over, whatever else stands -/
theorem t_blanksF {g : zg_G} {b : Nat → Nat} {N : Nat} (hM : TSh g) : ∀ (m p : Nat) (n : zg_N), N - p ≤ m → p ≤ 600 → TX n b N → zfi n aT tf_at = nI p → PW zm_X6_blanks 2 (fun out g1 n1 => out = .inl none ∧ g1 = g ∧ (∃ p, zfi n1 aT tf_at = nI p ∧ p ≤ 600) ∧ zFr (fun a k => a = aT ∧ k = tf_at) rA n n1) 0 0 0 [(0, .ref aT)] [] g n := by
  intro m
  induction m with
  | zero =>
    intro p n hm hp hX hat
    have hN := hX.2.1
    have hz : ¬ tb b N p = 32 := fun z => by have := tb_lt (b := b) (N := N) (k := p) (by omega); omega
    refine pw_aload_n dX6_blanks_0 0 rfl rfl ?_
    refine pw_aload_n dX6_blanks_1 0 rfl rfl ?_
    refine pw_geti 4 zc_X6 (ts_this hM) (by decide) q1990 (Or.inl rfl) dX6_blanks_2 ?_
    rw [hat]
    refine pw_callV1 zmM_X6_byteAt rfl (lw_V q2200 q2202 qs65 q150 q2203) rfl (ts_this hM) zc_X6 (t_byteAt hM hX p (by omega)) (by decide) (Nat.le_refl _) (Nat.le_refl _) rfl (Nat.le_of_ble_eq_true rfl) (Nat.le_of_ble_eq_true rfl) dX6_blanks_5 zE.nx (zE_kk ?_)
    refine pw_bipush (v := 32) dX6_blanks_8 (by decide) ?_
    refine pw_icmp_ne 26 dX6_blanks_10 (by decide) (fun c_10 => ?_) (fun c_10 => ?_)
    · refine pw_vret rfl dX6_blanks_26 ?_
      exact ⟨rfl, rfl, ⟨p, hat, hp⟩, zFr.rf⟩
    · exact absurd ((tv_eq (c := 32) hX (by decide)).mp c_10) hz
  | succ m ih =>
    intro p n hm hp hX hat
    have hN := hX.2.1
    refine pw_aload_n dX6_blanks_0 0 rfl rfl ?_
    refine pw_aload_n dX6_blanks_1 0 rfl rfl ?_
    refine pw_geti 4 zc_X6 (ts_this hM) (by decide) q1990 (Or.inl rfl) dX6_blanks_2 ?_
    rw [hat]
    refine pw_callV1 zmM_X6_byteAt rfl (lw_V q2200 q2202 qs65 q150 q2203) rfl (ts_this hM) zc_X6 (t_byteAt hM hX p (by omega)) (by decide) (Nat.le_refl _) (Nat.le_refl _) rfl (Nat.le_of_ble_eq_true rfl) (Nat.le_of_ble_eq_true rfl) dX6_blanks_5 zE.nx (zE_kk ?_)
    refine pw_bipush (v := 32) dX6_blanks_8 (by decide) ?_
    refine pw_icmp_ne 26 dX6_blanks_10 (by decide) (fun c_10 => ?_) (fun c_10 => ?_)
    · refine pw_vret rfl dX6_blanks_26 ?_
      exact ⟨rfl, rfl, ⟨p, hat, hp⟩, zFr.rf⟩
    · refine pw_aload_n dX6_blanks_13 0 rfl rfl ?_
      refine pw_dup dX6_blanks_14 rfl ?_
      refine pw_geti 4 zc_X6 (ts_this hM) (by decide) q1990 (Or.inl rfl) dX6_blanks_15 ?_
      refine pw_iconst (v := 1) dX6_blanks_18 (by decide) ?_
      refine pw_iadd dX6_blanks_19 ?_
      rw [hat, nI_1]
      have h32 := (tv_eq (c := 32) hX (by decide)).mp c_10
      have hlt := tb_lt (b := b) (N := N) (k := p) (by omega)
      refine pw_puti 4 zc_X6 (ts_this hM) (by decide) (by decide) q1990 rfl (Or.inl rfl) rfl rfl dX6_blanks_20 ?_
      refine pw_goto 0 dX6_blanks_23 (by decide) ?_
      refine pw_mono (fun out g1 n1 h => ?_) (ih (p + 1) _ (by omega) (by omega) (hX.keep (zFr.rf.pfi rF_at)) rfl)
      exact ⟨h.1, h.2.1, h.2.2.1, (zFr.rf.pfi ⟨rfl, rfl⟩).tr h.2.2.2⟩
theorem t_wrong {g : zg_G} {n : zg_N} (hM : TSh g) (k p : Int32) (h0 : zfi n aT tf_fault = 0) : PW zm_X6_wrong 1 (zE none g (zpfi (zpfi n aT tf_fault k) aT tf_faultAt p)) 0 0 0 [(0, .ref aT), (1, .int k), (2, .int p)] [] g n := by
  refine pw_aload_n dX6_wrong_0 0 rfl rfl ?_
  refine pw_geti 5 zc_X6 (ts_this hM) (by decide) q1991 (Or.inl rfl) dX6_wrong_1 ?_
  refine pw_if_ne 17 dX6_wrong_4 (by decide) (fun c_4 => ?_) (fun c_4 => ?_)
  · exact absurd h0 c_4
  · refine pw_aload_n dX6_wrong_7 0 rfl rfl ?_
    refine pw_iload_n dX6_wrong_8 1 rfl rfl ?_
    refine pw_puti 5 zc_X6 (ts_this hM) (by decide) (by decide) q1991 rfl (Or.inl rfl) rfl rfl dX6_wrong_9 ?_
    refine pw_aload_n dX6_wrong_12 0 rfl rfl ?_
    refine pw_iload_n dX6_wrong_13 2 rfl rfl ?_
    refine pw_puti 6 zc_X6 (ts_this hM) (by decide) (by decide) q1992 rfl (Or.inl rfl) rfl rfl dX6_wrong_14 ?_
    refine pw_vret rfl dX6_wrong_17 ?_
    exact ⟨rfl, rfl, rfl⟩
theorem t_wrongF {g : zg_G} {n : zg_N} (hM : TSh g) (k p : Int32) (h0 : ¬ zfi n aT tf_fault = 0) : PW zm_X6_wrong 1 (zE none g n) 0 0 0 [(0, .ref aT), (1, .int k), (2, .int p)] [] g n := by
  refine pw_aload_n dX6_wrong_0 0 rfl rfl ?_
  refine pw_geti 5 zc_X6 (ts_this hM) (by decide) q1991 (Or.inl rfl) dX6_wrong_1 ?_
  refine pw_if_ne 17 dX6_wrong_4 (by decide) (fun c_4 => ?_) (fun c_4 => ?_)
  · refine pw_vret rfl dX6_wrong_17 ?_
    exact ⟨rfl, rfl, rfl⟩
  · exact absurd c_4 h0
/-- a fault is told -/
theorem TRd.wr {n : zg_N} {b : Nat → Nat} {N p o k q : Nat} (h : TRd n b N p o) (hk : 1 ≤ k) (hk4 : k ≤ 4) : TFl (zpfi (zpfi n aT tf_fault (nI k)) aT tf_faultAt (nI q)) (k, q) ∧ zFr rF rA n (zpfi (zpfi n aT tf_fault (nI k)) aT tf_faultAt (nI q)) :=
  ⟨⟨rfl, rfl, hk, hk4, p, h.2.2.1, Nat.le_trans h.2.2.2.2.1 h.1.2.1⟩, (zFr.rf.pfi rF_fl).pfi rF_fa⟩
/-- words as numbers, their last letter first -/
def wR : List Nat → Nat
  | [] => 0
  | c :: r => 27 * wR r + (c - 96)
theorem wR_inj : ∀ L M : List Nat, (∀ c, c ∈ L → isLt c) → (∀ c, c ∈ M → isLt c) → wR L = wR M → L = M
  | [], [], _, _, _ => rfl
  | [], c :: r, _, h, e => by have := h c (List.mem_cons_self ..); unfold isLt at this; simp only [wR] at e; omega
  | c :: r, [], h, _, e => by have := h c (List.mem_cons_self ..); unfold isLt at this; simp only [wR] at e; omega
  | c :: r, d :: s, h, h', e => by
    have h1 := h c (List.mem_cons_self ..); have h2 := h' d (List.mem_cons_self ..)
    unfold isLt at h1 h2; simp only [wR] at e
    have e1 : wR r = wR s := by omega
    have e2 : c = d := by omega
    rw [wR_inj r s (fun x hx => h x (List.mem_cons_of_mem _ hx)) (fun x hx => h' x (List.mem_cons_of_mem _ hx)) e1, e2]
theorem wR_lt : ∀ (L : List Nat), (∀ c, c ∈ L → isLt c) → wR L < 27 ^ L.length
  | [], _ => by decide
  | c :: r, h => by
    have h1 := h c (List.mem_cons_self ..); unfold isLt at h1
    have := wR_lt r (fun x hx => h x (List.mem_cons_of_mem _ hx))
    simp only [wR, List.length_cons, Nat.pow_succ]; omega
def wv (L : List Nat) : Int32 := if 6 < L.length then -1 else nI (wR L.reverse)
theorem wv_iff {L w : List Nat} (hL : ∀ c, c ∈ L → isLt c) (hw : ∀ c, c ∈ w → isLt c) (h6 : w.length ≤ 6) : wv L = nI (wR w.reverse) ↔ L = w := by
  have b1 : ∀ M : List Nat, (∀ c, c ∈ M → isLt c) → M.length ≤ 6 → wR M.reverse < 387420490 := fun M h hl => by
    have := wR_lt M.reverse (fun c hc => h c (List.mem_reverse.mp hc))
    rw [List.length_reverse] at this
    have h2 : 27 ^ M.length ≤ 27 ^ 6 := Nat.pow_le_pow_right (by decide) hl
    have h3 : 27 ^ 6 = 387420489 := by decide
    omega
  have bw := b1 w hw h6
  unfold wv
  constructor
  · intro e
    split at e
    · have := congrArg Int32.toInt e
      rw [nI_toInt (by omega), show (-1 : Int32).toInt = -1 from by decide] at this
      omega
    · next hl =>
      have := (nI_eq_iff (by have := b1 L hL (by omega); omega) (by omega)).mp e
      have := wR_inj _ _ (fun c hc => hL c (List.mem_reverse.mp hc)) (fun c hc => hw c (List.mem_reverse.mp hc)) this
      exact List.reverse_inj.mp this
  · intro e
    rw [e, if_neg (by omega)]
theorem t_wordHere {g : zg_G} {n : zg_N} {b : Nat → Nat} {N p o : Nat} (hM : TSh g) (hR : TRd n b N p o) : PW zm_X6_wordHere 3 (rP g n b N o (some (.int (wv (tWd b N (skp b N p))))) (skp b N p)) 0 0 0 [(0, .ref aT)] [] g n := by
  have hl : ∀ n1 q, TRd n1 b N q o → zFr rF rA n n1 → ∀ i, i ≤ (tWd b N q).length → PW zm_X6_wordHere 3 (rP g n b N o (some (.int (wv (tWd b N q)))) q) 0 0 8 [(0, .ref aT), (1, .int (nI (wR ((tWd b N q).take (min i 6)).reverse))), (2, .int (nI i))] [] g n1 := by
    intro n1 q hR1 hf1
    have hX := hR1.1; have hN := hX.2.1; have hat := hR1.2.2.1; have hq := hR1.2.2.2.2.1
    have hlen := tWd_len (b := b) hq
    refine zl_up _ (fun i hi ih => ?_)
    refine pw_aload_n dX6_wordHere_8 0 rfl rfl ?_
    refine pw_aload_n dX6_wordHere_9 0 rfl rfl ?_
    refine pw_geti 4 zc_X6 (ts_this hM) (by decide) q1990 (Or.inl rfl) dX6_wordHere_10 ?_
    refine pw_iload_n dX6_wordHere_13 2 rfl rfl ?_
    rw [hat]
    refine pw_iadd dX6_wordHere_14 ?_
    rw [nI_add]
    refine pw_callV1 zmM_X6_byteAt rfl (lw_V q2200 q2202 qs65 q150 q2203) rfl (ts_this hM) zc_X6 (t_byteAt hM hX (q + i) (by omega)) (by decide) (Nat.le_refl _) (Nat.le_refl _) rfl (Nat.le_of_ble_eq_true rfl) (Nat.le_of_ble_eq_true rfl) dX6_wordHere_15 zE.nx (zE_kk ?_)
    refine pw_callS1 zmM_X6_isSmall rfl (lw_S q2220 q2221 q150 q2222) (t_isSmall _ _ _) (by decide) (Nat.le_refl _) (Nat.le_refl _) rfl (Nat.le_of_ble_eq_true rfl) (Nat.le_of_ble_eq_true rfl) dX6_wordHere_18 zE.nx (zE_kk ?_)
    refine pw_if_eq_B 61 dX6_wordHere_21 (by decide) (fun c_21 => ?_) (fun c_21 => ?_)
    · have hil : (tWd b N q).length = i := by
        refine Nat.le_antisymm (Classical.byContradiction (fun z => ?_)) hi
        have h3 := tWd_at (b := b) (N := N) (p := q) (i := i) (by omega)
        exact c_21 ((tv_small hX).mpr (tWd_lt b N q _ (List.mem_of_getElem? h3)))
      refine pw_iload_n dX6_wordHere_61 2 rfl rfl ?_
      refine pw_bipush (v := 6) dX6_wordHere_62 (by decide) ?_
      refine pw_icmp_le_N (b := 6) 71 dX6_wordHere_64 (by decide) (by omega) (by omega) (fun c_64 => ?_) (fun c_64 => ?_)
      · refine pw_iload_n dX6_wordHere_71 1 rfl rfl ?_
        refine pw_iret rfl dX6_wordHere_72 ?_
        exact ⟨by unfold wv; rw [if_neg (by omega), show min i 6 = (tWd b N q).length by omega, List.take_length], rfl, hR1, hf1⟩
      · refine pw_iconst (v := (-1)) dX6_wordHere_67 (by decide) ?_
        refine pw_goto 72 dX6_wordHere_68 (by decide) ?_
        refine pw_iret rfl dX6_wordHere_72 ?_
        exact ⟨by unfold wv; rw [if_pos (by omega)], rfl, hR1, hf1⟩
    · have hsm := (tv_small hX).mp c_21
      have hil : i < (tWd b N q).length := Classical.byContradiction (fun z => tWd_end b N q (by rw [show (tWd b N q).length = i by omega]; exact hsm))
      have hLi := tWd_at hil
      refine pw_iload_n dX6_wordHere_24 2 rfl rfl ?_
      refine pw_bipush (v := 6) dX6_wordHere_25 (by decide) ?_
      refine pw_icmp_ge_N (b := 6) 53 dX6_wordHere_27 (by decide) (by omega) (by omega) (fun c_27 => ?_) (fun c_27 => ?_)
      · refine pw_iload_n dX6_wordHere_53 1 rfl rfl ?_
        refine pw_istore_n (ls' := [(1, _), (0, _), (2, _)]) dX6_wordHere_54 rfl (by decide) rfl ?_
        refine pw_ls [1, 0, 2] (ls' := [(0, _), (1, _), (2, _)]) rfl ?_
        refine pw_iinc1 (j := 2) (ls' := [(2, _), (0, _), (1, _)]) dX6_wordHere_55 rfl (by decide) rfl ?_
        refine pw_ls [1, 2, 0] (ls' := [(0, _), (1, _), (2, _)]) rfl ?_
        refine pw_goto 8 dX6_wordHere_58 (by decide) ?_
        have h2 := ih (i + 1) (by omega) (by omega)
        rw [show min (i + 1) 6 = min i 6 by omega] at h2
        exact h2
      · refine pw_bipush (v := 27) dX6_wordHere_30 (by decide) ?_
        refine pw_iload_n dX6_wordHere_32 1 rfl rfl ?_
        refine pw_imul dX6_wordHere_33 ?_
        refine pw_aload_n dX6_wordHere_34 0 rfl rfl ?_
        refine pw_aload_n dX6_wordHere_35 0 rfl rfl ?_
        refine pw_geti 4 zc_X6 (ts_this hM) (by decide) q1990 (Or.inl rfl) dX6_wordHere_36 ?_
        refine pw_iload_n dX6_wordHere_39 2 rfl rfl ?_
        rw [hat]
        refine pw_iadd dX6_wordHere_40 ?_
        rw [nI_add]
        refine pw_callV1 zmM_X6_byteAt rfl (lw_V q2200 q2202 qs65 q150 q2203) rfl (ts_this hM) zc_X6 (t_byteAt hM hX (q + i) (by omega)) (by decide) (Nat.le_refl _) (Nat.le_refl _) rfl (Nat.le_of_ble_eq_true rfl) (Nat.le_of_ble_eq_true rfl) dX6_wordHere_41 zE.nx (zE_kk ?_)
        refine pw_iadd dX6_wordHere_44 ?_
        refine pw_bipush (v := 97) dX6_wordHere_45 (by decide) ?_
        refine pw_isub dX6_wordHere_47 ?_
        refine pw_iconst (v := 1) dX6_wordHere_48 (by decide) ?_
        refine pw_iadd dX6_wordHere_49 ?_
        rw [tv_nI hX (by unfold isLt at hsm; omega), show (27 : Int32) = nI 27 from rfl, nI_mul, nI_add, show (97 : Int32) = nI 97 from rfl, nI_sub (by unfold isLt at hsm; omega), show (1 : Int32) = nI 1 from rfl, nI_add]
        refine pw_goto 54 dX6_wordHere_50 (by decide) ?_
        refine pw_istore_n (ls' := [(1, _), (0, _), (2, _)]) dX6_wordHere_54 rfl (by decide) rfl ?_
        refine pw_ls [1, 0, 2] (ls' := [(0, _), (1, _), (2, _)]) rfl ?_
        refine pw_iinc1 (j := 2) (ls' := [(2, _), (0, _), (1, _)]) dX6_wordHere_55 rfl (by decide) rfl ?_
        refine pw_ls [1, 2, 0] (ls' := [(0, _), (1, _), (2, _)]) rfl ?_
        refine pw_goto 8 dX6_wordHere_58 (by decide) ?_
        have e : (tWd b N q).take (min (i + 1) 6) = (tWd b N q).take (min i 6) ++ [tb b N (q + i)] := by
          rw [show min (i + 1) 6 = i + 1 by omega, show min i 6 = i by omega, List.take_add_one, hLi]; rfl
        have h2 := ih (i + 1) (by omega) (by omega)
        rw [e, List.reverse_append] at h2
        have e3 : 27 * wR ((tWd b N q).take (min i 6)).reverse + tb b N (q + i) - 97 + 1 = wR ([tb b N (q + i)].reverse ++ ((tWd b N q).take (min i 6)).reverse) := by
          show _ = 27 * wR ((tWd b N q).take (min i 6)).reverse + (tb b N (q + i) - 96)
          unfold isLt at hsm; omega
        rw [e3]; exact h2
  refine pw_aload_n dX6_wordHere_0 0 rfl rfl ?_
  refine pw_callV0 zmM_X6_blanks rfl (lw_V q2196 q2198 qs64 q150 q2199) rfl (ts_this hM) zc_X6 (t_blk hM hR) (by decide) (Nat.le_refl _) (Nat.le_refl _) rfl (Nat.le_of_ble_eq_true rfl) (Nat.le_of_ble_eq_true rfl) dX6_wordHere_1 (by intros; rintro ⟨h, _⟩; cases h) (fun v1 g1 n1 h1 => ?_)
  obtain ⟨h1, rfl, hR1, hf1⟩ := h1; cases h1
  refine pw_iconst (v := 0) dX6_wordHere_4 (by decide) ?_
  refine pw_istore_n (ls' := [(1, _), (0, _)]) dX6_wordHere_5 rfl (by decide) rfl ?_
  refine pw_ls [1, 0] (ls' := [(0, _), (1, _)]) rfl ?_
  refine pw_iconst (v := 0) dX6_wordHere_6 (by decide) ?_
  refine pw_istore_n (ls' := [(2, _), (0, _), (1, _)]) dX6_wordHere_7 rfl (by decide) rfl ?_
  refine pw_ls [1, 2, 0] (ls' := [(0, _), (1, _), (2, _)]) rfl ?_
  exact hl n1 _ hR1 hf1 0 (Nat.zero_le _)
def sixS (v x : Int32) : Int32 := if x = 0 then v else 27 * v + x
def sixV (a b c d e f : Int32) : Int32 := sixS (sixS (sixS (sixS (27 * a + b) c) d) e) f
theorem t_six (a b c d e f : Int32) (g : zg_G) (n : zg_N) : PW zm_X6_six 1 (zE (some (.int (sixV a b c d e f))) g n) 0 0 0 [(0, .int a), (1, .int b), (2, .int c), (3, .int d), (4, .int e), (5, .int f)] [] g n := by
  have h64 : ∀ v, PW zm_X6_six 1 (zE (some (.int (sixS v f))) g n) 0 0 64 [(0, .int a), (1, .int b), (2, .int c), (3, .int d), (4, .int e), (5, .int f), (6, .int v)] [] g n := by
    intro v
    refine pw_iload dX6_six_64 5 rfl ?_
    refine pw_if_ne 74 dX6_six_66 (by decide) (fun c_66 => ?_) (fun c_66 => ?_)
    · refine pw_bipush (v := 27) dX6_six_74 (by decide) ?_
      refine pw_iload dX6_six_76 6 rfl ?_
      refine pw_imul dX6_six_78 ?_
      refine pw_iload dX6_six_79 5 rfl ?_
      refine pw_iadd dX6_six_81 ?_
      refine pw_iret rfl dX6_six_82 ?_
      exact ⟨by rw [sixS, if_neg c_66], rfl, rfl⟩
    · refine pw_iload dX6_six_69 6 rfl ?_
      refine pw_goto 82 dX6_six_71 (by decide) ?_
      refine pw_iret rfl dX6_six_82 ?_
      exact ⟨by rw [sixS, if_pos c_66], rfl, rfl⟩
  have h44 : ∀ v, PW zm_X6_six 1 (zE (some (.int (sixS (sixS v e) f))) g n) 0 0 44 [(0, .int a), (1, .int b), (2, .int c), (3, .int d), (4, .int e), (5, .int f), (6, .int v)] [] g n := by
    intro v
    refine pw_iload dX6_six_44 4 rfl ?_
    refine pw_if_ne 54 dX6_six_46 (by decide) (fun c_46 => ?_) (fun c_46 => ?_)
    · refine pw_bipush (v := 27) dX6_six_54 (by decide) ?_
      refine pw_iload dX6_six_56 6 rfl ?_
      refine pw_imul dX6_six_58 ?_
      refine pw_iload dX6_six_59 4 rfl ?_
      refine pw_iadd dX6_six_61 ?_
      refine pw_istore (ls' := [(6, _), (0, _), (1, _), (2, _), (3, _), (4, _), (5, _)]) dX6_six_62 (by decide) rfl ?_
      refine pw_ls [1, 2, 3, 4, 5, 6, 0] (ls' := [(0, _), (1, _), (2, _), (3, _), (4, _), (5, _), (6, _)]) rfl ?_
      have := h64 (27 * v + e); rw [show sixS v e = 27 * v + e from if_neg c_46]; exact this
    · refine pw_iload dX6_six_49 6 rfl ?_
      refine pw_goto 62 dX6_six_51 (by decide) ?_
      refine pw_istore (ls' := [(6, _), (0, _), (1, _), (2, _), (3, _), (4, _), (5, _)]) dX6_six_62 (by decide) rfl ?_
      refine pw_ls [1, 2, 3, 4, 5, 6, 0] (ls' := [(0, _), (1, _), (2, _), (3, _), (4, _), (5, _), (6, _)]) rfl ?_
      have := h64 v; rw [show sixS v e = v from if_pos c_46]; exact this
  have h26 : ∀ v, PW zm_X6_six 1 (zE (some (.int (sixS (sixS (sixS v d) e) f))) g n) 0 0 26 [(0, .int a), (1, .int b), (2, .int c), (3, .int d), (4, .int e), (5, .int f), (6, .int v)] [] g n := by
    intro v
    refine pw_iload_n dX6_six_26 3 rfl rfl ?_
    refine pw_if_ne 35 dX6_six_27 (by decide) (fun c_27 => ?_) (fun c_27 => ?_)
    · refine pw_bipush (v := 27) dX6_six_35 (by decide) ?_
      refine pw_iload dX6_six_37 6 rfl ?_
      refine pw_imul dX6_six_39 ?_
      refine pw_iload_n dX6_six_40 3 rfl rfl ?_
      refine pw_iadd dX6_six_41 ?_
      refine pw_istore (ls' := [(6, _), (0, _), (1, _), (2, _), (3, _), (4, _), (5, _)]) dX6_six_42 (by decide) rfl ?_
      refine pw_ls [1, 2, 3, 4, 5, 6, 0] (ls' := [(0, _), (1, _), (2, _), (3, _), (4, _), (5, _), (6, _)]) rfl ?_
      have := h44 (27 * v + d); rw [show sixS v d = 27 * v + d from if_neg c_27]; exact this
    · refine pw_iload dX6_six_30 6 rfl ?_
      refine pw_goto 42 dX6_six_32 (by decide) ?_
      refine pw_istore (ls' := [(6, _), (0, _), (1, _), (2, _), (3, _), (4, _), (5, _)]) dX6_six_42 (by decide) rfl ?_
      refine pw_ls [1, 2, 3, 4, 5, 6, 0] (ls' := [(0, _), (1, _), (2, _), (3, _), (4, _), (5, _), (6, _)]) rfl ?_
      have := h44 v; rw [show sixS v d = v from if_pos c_27]; exact this
  unfold sixV
  refine pw_bipush (v := 27) dX6_six_0 (by decide) ?_
  refine pw_iload_n dX6_six_2 0 rfl rfl ?_
  refine pw_imul dX6_six_3 ?_
  refine pw_iload_n dX6_six_4 1 rfl rfl ?_
  refine pw_iadd dX6_six_5 ?_
  refine pw_istore (ls' := [(6, _), (0, _), (1, _), (2, _), (3, _), (4, _), (5, _)]) dX6_six_6 (by decide) rfl ?_
  refine pw_ls [1, 2, 3, 4, 5, 6, 0] (ls' := [(0, _), (1, _), (2, _), (3, _), (4, _), (5, _), (6, _)]) rfl ?_
  refine pw_iload_n dX6_six_8 2 rfl rfl ?_
  refine pw_if_ne 17 dX6_six_9 (by decide) (fun c_9 => ?_) (fun c_9 => ?_)
  · refine pw_bipush (v := 27) dX6_six_17 (by decide) ?_
    refine pw_iload dX6_six_19 6 rfl ?_
    refine pw_imul dX6_six_21 ?_
    refine pw_iload_n dX6_six_22 2 rfl rfl ?_
    refine pw_iadd dX6_six_23 ?_
    refine pw_istore (ls' := [(6, _), (0, _), (1, _), (2, _), (3, _), (4, _), (5, _)]) dX6_six_24 (by decide) rfl ?_
    refine pw_ls [1, 2, 3, 4, 5, 6, 0] (ls' := [(0, _), (1, _), (2, _), (3, _), (4, _), (5, _), (6, _)]) rfl ?_
    have := h26 (27 * (27 * a + b) + c); rw [show sixS (27 * a + b) c = 27 * (27 * a + b) + c from if_neg c_9]; exact this
  · refine pw_iload dX6_six_12 6 rfl ?_
    refine pw_goto 24 dX6_six_14 (by decide) ?_
    refine pw_istore (ls' := [(6, _), (0, _), (1, _), (2, _), (3, _), (4, _), (5, _)]) dX6_six_24 (by decide) rfl ?_
    refine pw_ls [1, 2, 3, 4, 5, 6, 0] (ls' := [(0, _), (1, _), (2, _), (3, _), (4, _), (5, _), (6, _)]) rfl ?_
    have := h26 (27 * a + b); rw [show sixS (27 * a + b) c = 27 * a + b from if_pos c_9]; exact this
def wOk (w : List Nat) (a b c d e f : Int32) : Bool := decide (∀ c, c ∈ w → isLt c) && decide (w.length ≤ 6) && decide (sixV a b c d e f = nI (wR w.reverse))
theorem t_isWord {g : zg_G} {n : zg_N} {b : Nat → Nat} {N p o : Nat} (hM : TSh g) (hR : TRd n b N p o) (w : List Nat) {x1 x2 x3 x4 x5 x6 : Int32} (hw : wOk w x1 x2 x3 x4 x5 x6 = true) : PW zm_X6_isWord 4 (rP g n b N o (some (.int (zb (tWd b N (skp b N p) = w)))) (skp b N p)) 0 0 0 [(0, .ref aT), (1, .int x1), (2, .int x2), (3, .int x3), (4, .int x4), (5, .int x5), (6, .int x6)] [] g n := by
  unfold wOk at hw
  rw [Bool.and_eq_true, Bool.and_eq_true, decide_eq_true_eq, decide_eq_true_eq, decide_eq_true_eq] at hw
  obtain ⟨⟨hw1, hw2⟩, hw3⟩ := hw
  have hii := wv_iff (tWd_lt b N (skp b N p)) hw1 hw2
  refine pw_aload_n dX6_isWord_0 0 rfl rfl ?_
  refine pw_geti 5 zc_X6 (ts_this hM) (by decide) q1991 (Or.inl rfl) dX6_isWord_1 ?_
  refine pw_if_ne 30 dX6_isWord_4 (by decide) (fun c_4 => ?_) (fun c_4 => ?_)
  · exact absurd hR.2.1 c_4
  · refine pw_aload_n dX6_isWord_7 0 rfl rfl ?_
    refine pw_callV0 zmM_X6_wordHere rfl (lw_V q2216 q2218 qs69 q150 q2219) rfl (ts_this hM) zc_X6 (t_wordHere hM hR) (by decide) (Nat.le_refl _) (Nat.le_refl _) rfl (Nat.le_of_ble_eq_true rfl) (Nat.le_of_ble_eq_true rfl) dX6_isWord_8 (by intros; rintro ⟨h, _⟩; cases h) (fun v1 g1 n1 h1 => ?_)
    obtain ⟨h1, rfl, hR1, hf1⟩ := h1; cases h1
    refine pw_iload_n dX6_isWord_11 1 rfl rfl ?_
    refine pw_iload_n dX6_isWord_12 2 rfl rfl ?_
    refine pw_iload_n dX6_isWord_13 3 rfl rfl ?_
    refine pw_iload dX6_isWord_14 4 rfl ?_
    refine pw_iload dX6_isWord_16 5 rfl ?_
    refine pw_iload dX6_isWord_18 6 rfl ?_
    refine pw_callS6 zmM_X6_six rfl (lw_S q2223 q2224 q150 q2225) (t_six _ _ _ _ _ _ _ _) (by decide) (Nat.le_refl _) (Nat.le_refl _) rfl (Nat.le_of_ble_eq_true rfl) (Nat.le_of_ble_eq_true rfl) dX6_isWord_20 zE.nx (zE_kk ?_)
    rw [hw3]
    refine pw_icmp_ne 30 dX6_isWord_23 (by decide) (fun c_23 => ?_) (fun c_23 => ?_)
    · refine pw_iconst (v := 0) dX6_isWord_30 (by decide) ?_
      refine pw_zret _ rfl rfl dX6_isWord_31 ?_
      exact ⟨by rw [zb_f (fun z => c_23 (hii.mpr z))], rfl, hR1, hf1⟩
    · refine pw_iconst (v := 1) dX6_isWord_26 (by decide) ?_
      refine pw_goto 31 dX6_isWord_27 (by decide) ?_
      refine pw_zret _ rfl rfl dX6_isWord_31 ?_
      exact ⟨by rw [zb_t (hii.mp c_23)], rfl, hR1, hf1⟩
theorem t_isWordF {g : zg_G} {n : zg_N} (hM : TSh g) (h0 : ¬ zfi n aT tf_fault = 0) (x1 x2 x3 x4 x5 x6 : Int32) : PW zm_X6_isWord 4 (zE (some (.int 0)) g n) 0 0 0 [(0, .ref aT), (1, .int x1), (2, .int x2), (3, .int x3), (4, .int x4), (5, .int x5), (6, .int x6)] [] g n := by
  refine pw_aload_n dX6_isWord_0 0 rfl rfl ?_
  refine pw_geti 5 zc_X6 (ts_this hM) (by decide) q1991 (Or.inl rfl) dX6_isWord_1 ?_
  refine pw_if_ne 30 dX6_isWord_4 (by decide) (fun c_4 => ?_) (fun c_4 => ?_)
  · refine pw_iconst (v := 0) dX6_isWord_30 (by decide) ?_
    refine pw_zret _ rfl rfl dX6_isWord_31 ?_
    exact ⟨rfl, rfl, rfl⟩
  · exact absurd c_4 h0
theorem t_skipWord {g : zg_G} {b : Nat → Nat} {N o : Nat} (hM : TSh g) : ∀ (m p : Nat) (n : zg_N), N - p ≤ m → TRd n b N p o → PW zm_X6_skipWord 2 (rP g n b N o none (p + (tWd b N p).length)) 0 0 0 [(0, .ref aT)] [] g n := by
  intro m
  induction m with
  | zero =>
    intro p n hm hR
    have hX := hR.1; have hN := hX.2.1; have hat := hR.2.2.1; have hpN := hR.2.2.2.2.1
    have hz : ¬ isLt (tb b N p) := fun z => by unfold isLt at z; have := tb_lt (b := b) (N := N) (k := p) (by omega); omega
    refine pw_aload_n dX6_skipWord_0 0 rfl rfl ?_
    refine pw_aload_n dX6_skipWord_1 0 rfl rfl ?_
    refine pw_geti 4 zc_X6 (ts_this hM) (by decide) q1990 (Or.inl rfl) dX6_skipWord_2 ?_
    rw [hat]
    refine pw_callV1 zmM_X6_byteAt rfl (lw_V q2200 q2202 qs65 q150 q2203) rfl (ts_this hM) zc_X6 (t_byteAt hM hX p (by omega)) (by decide) (Nat.le_refl _) (Nat.le_refl _) rfl (Nat.le_of_ble_eq_true rfl) (Nat.le_of_ble_eq_true rfl) dX6_skipWord_5 zE.nx (zE_kk ?_)
    refine pw_callS1 zmM_X6_isSmall rfl (lw_S q2220 q2221 q150 q2222) (t_isSmall _ _ _) (by decide) (Nat.le_refl _) (Nat.le_refl _) rfl (Nat.le_of_ble_eq_true rfl) (Nat.le_of_ble_eq_true rfl) dX6_skipWord_8 zE.nx (zE_kk ?_)
    refine pw_if_eq_B 27 dX6_skipWord_11 (by decide) (fun c_11 => ?_) (fun c_11 => ?_)
    · refine pw_vret rfl dX6_skipWord_27 ?_
      exact ⟨rfl, rfl, by rw [tWd_0 hz]; exact hR, zFr.rf⟩
    · exact absurd ((tv_small hX).mp c_11) hz
  | succ m ih =>
    intro p n hm hR
    have hX := hR.1; have hN := hX.2.1; have hat := hR.2.2.1; have hpN := hR.2.2.2.2.1
    refine pw_aload_n dX6_skipWord_0 0 rfl rfl ?_
    refine pw_aload_n dX6_skipWord_1 0 rfl rfl ?_
    refine pw_geti 4 zc_X6 (ts_this hM) (by decide) q1990 (Or.inl rfl) dX6_skipWord_2 ?_
    rw [hat]
    refine pw_callV1 zmM_X6_byteAt rfl (lw_V q2200 q2202 qs65 q150 q2203) rfl (ts_this hM) zc_X6 (t_byteAt hM hX p (by omega)) (by decide) (Nat.le_refl _) (Nat.le_refl _) rfl (Nat.le_of_ble_eq_true rfl) (Nat.le_of_ble_eq_true rfl) dX6_skipWord_5 zE.nx (zE_kk ?_)
    refine pw_callS1 zmM_X6_isSmall rfl (lw_S q2220 q2221 q150 q2222) (t_isSmall _ _ _) (by decide) (Nat.le_refl _) (Nat.le_refl _) rfl (Nat.le_of_ble_eq_true rfl) (Nat.le_of_ble_eq_true rfl) dX6_skipWord_8 zE.nx (zE_kk ?_)
    refine pw_if_eq_B 27 dX6_skipWord_11 (by decide) (fun c_11 => ?_) (fun c_11 => ?_)
    · refine pw_vret rfl dX6_skipWord_27 ?_
      exact ⟨rfl, rfl, by rw [tWd_0 (fun z => c_11 ((tv_small hX).mpr z))]; exact hR, zFr.rf⟩
    · refine pw_aload_n dX6_skipWord_14 0 rfl rfl ?_
      refine pw_dup dX6_skipWord_15 rfl ?_
      refine pw_geti 4 zc_X6 (ts_this hM) (by decide) q1990 (Or.inl rfl) dX6_skipWord_16 ?_
      refine pw_iconst (v := 1) dX6_skipWord_19 (by decide) ?_
      refine pw_iadd dX6_skipWord_20 ?_
      rw [hat, nI_1]
      have h32 := (tv_small hX).mp c_11
      have hlt := tb_lt (b := b) (N := N) (k := p) (by unfold isLt at h32; omega)
      refine pw_puti 4 zc_X6 (ts_this hM) (by decide) (by decide) q1990 rfl (Or.inl rfl) rfl rfl dX6_skipWord_21 ?_
      refine pw_goto 0 dX6_skipWord_24 (by decide) ?_
      refine pw_mono (fun out g1 n1 h => ?_) (ih (p + 1) _ (by omega) (hR.at (by omega)))
      exact ⟨h.1, h.2.1, by rw [tWd_s h32, List.length_cons, show p + ((tWd b N (p + 1)).length + 1) = p + 1 + (tWd b N (p + 1)).length by omega]; exact h.2.2.1, (zFr.rf.pfi rF_at).tr h.2.2.2⟩
theorem t_skw {g : zg_G} {n : zg_N} {b : Nat → Nat} {N p o : Nat} (hM : TSh g) (hR : TRd n b N p o) : PW zm_X6_skipWord 2 (rP g n b N o none (p + (tWd b N p).length)) 0 0 0 [(0, .ref aT)] [] g n := t_skipWord hM _ p n (Nat.le_refl _) hR
/-- behind a word, if it stands here -/
def aftW (b : Nat → Nat) (N : Nat) (w : List Nat) (p : Nat) : Nat := if tWd b N (skp b N p) = w then skp b N p + w.length else skp b N p
theorem t_takes {g : zg_G} {n : zg_N} {b : Nat → Nat} {N p o : Nat} (hM : TSh g) (hR : TRd n b N p o) (w : List Nat) {x1 x2 x3 x4 x5 x6 : Int32} (hw : wOk w x1 x2 x3 x4 x5 x6 = true) : PW zm_X6_takes 5 (rP g n b N o (some (.int (zb (tWd b N (skp b N p) = w)))) (aftW b N w p)) 0 0 0 [(0, .ref aT), (1, .int x1), (2, .int x2), (3, .int x3), (4, .int x4), (5, .int x5), (6, .int x6)] [] g n := by
  refine pw_aload_n dX6_takes_0 0 rfl rfl ?_
  refine pw_iload_n dX6_takes_1 1 rfl rfl ?_
  refine pw_iload_n dX6_takes_2 2 rfl rfl ?_
  refine pw_iload_n dX6_takes_3 3 rfl rfl ?_
  refine pw_iload dX6_takes_4 4 rfl ?_
  refine pw_iload dX6_takes_6 5 rfl ?_
  refine pw_iload dX6_takes_8 6 rfl ?_
  refine pw_callV6 zmM_X6_isWord rfl (lw_V q2212 q2214 qs68 q150 q2215) rfl (ts_this hM) zc_X6 (t_isWord hM hR w hw) (by decide) (Nat.le_refl _) (Nat.le_refl _) rfl (Nat.le_of_ble_eq_true rfl) (Nat.le_of_ble_eq_true rfl) dX6_takes_10 (by intros; rintro ⟨h, _⟩; cases h) (fun v1 g1 n1 h1 => ?_)
  obtain ⟨h1, rfl, hR1, hf1⟩ := h1; cases h1
  refine pw_istore (ls' := [(7, _), (0, _), (1, _), (2, _), (3, _), (4, _), (5, _), (6, _)]) dX6_takes_13 (by decide) rfl ?_
  refine pw_ls [1, 2, 3, 4, 5, 6, 7, 0] (ls' := [(0, _), (1, _), (2, _), (3, _), (4, _), (5, _), (6, _), (7, _)]) rfl ?_
  refine pw_iload dX6_takes_15 7 rfl ?_
  refine pw_if_eq_B 24 dX6_takes_17 (by decide) (fun c_17 => ?_) (fun c_17 => ?_)
  · refine pw_iload dX6_takes_24 7 rfl ?_
    refine pw_zret _ rfl zb_nar dX6_takes_26 ?_
    exact ⟨rfl, rfl, by unfold aftW; rw [if_neg c_17]; exact hR1, hf1⟩
  · refine pw_aload_n dX6_takes_20 0 rfl rfl ?_
    refine pw_callV0 zmM_X6_skipWord rfl (lw_V q2234 q2236 qs72 q150 q2237) rfl (ts_this hM) zc_X6 (t_skw hM hR1) (by decide) (Nat.le_refl _) (Nat.le_refl _) rfl (Nat.le_of_ble_eq_true rfl) (Nat.le_of_ble_eq_true rfl) dX6_takes_21 (by intros; rintro ⟨h, _⟩; cases h) (fun v2 g2 n2 h2 => ?_)
    obtain ⟨h2, rfl, hR2, hf2⟩ := h2; cases h2
    refine pw_iload dX6_takes_24 7 rfl ?_
    refine pw_zret _ rfl zb_nar dX6_takes_26 ?_
    exact ⟨rfl, rfl, by unfold aftW; rw [if_pos c_17]; rw [c_17] at hR2; exact hR2, hf1.tr hf2⟩
theorem t_takesF {g : zg_G} {n : zg_N} (hM : TSh g) (h0 : ¬ zfi n aT tf_fault = 0) (x1 x2 x3 x4 x5 x6 : Int32) : PW zm_X6_takes 5 (zE (some (.int 0)) g n) 0 0 0 [(0, .ref aT), (1, .int x1), (2, .int x2), (3, .int x3), (4, .int x4), (5, .int x5), (6, .int x6)] [] g n := by
  refine pw_aload_n dX6_takes_0 0 rfl rfl ?_
  refine pw_iload_n dX6_takes_1 1 rfl rfl ?_
  refine pw_iload_n dX6_takes_2 2 rfl rfl ?_
  refine pw_iload_n dX6_takes_3 3 rfl rfl ?_
  refine pw_iload dX6_takes_4 4 rfl ?_
  refine pw_iload dX6_takes_6 5 rfl ?_
  refine pw_iload dX6_takes_8 6 rfl ?_
  refine pw_callV6 zmM_X6_isWord rfl (lw_V q2212 q2214 qs68 q150 q2215) rfl (ts_this hM) zc_X6 (t_isWordF hM h0 _ _ _ _ _ _) (by decide) (Nat.le_refl _) (Nat.le_refl _) rfl (Nat.le_of_ble_eq_true rfl) (Nat.le_of_ble_eq_true rfl) dX6_takes_10 zE.nx (zE_kk ?_)
  refine pw_istore (ls' := [(7, _), (0, _), (1, _), (2, _), (3, _), (4, _), (5, _), (6, _)]) dX6_takes_13 (by decide) rfl ?_
  refine pw_ls [1, 2, 3, 4, 5, 6, 7, 0] (ls' := [(0, _), (1, _), (2, _), (3, _), (4, _), (5, _), (6, _), (7, _)]) rfl ?_
  refine pw_iload dX6_takes_15 7 rfl ?_
  refine pw_if_eq 24 dX6_takes_17 (by decide) (fun c_17 => ?_) (fun c_17 => ?_)
  · refine pw_iload dX6_takes_24 7 rfl ?_
    refine pw_zret _ rfl rfl dX6_takes_26 ?_
    exact ⟨rfl, rfl, rfl⟩
  · exact absurd rfl c_17
abbrev mkN : Unit → Option Value := fun _ => none
theorem t_sign {g : zg_G} {n : zg_N} {b : Nat → Nat} {N p o : Nat} (hM : TSh g) (hR : TRd n b N p o) (c : Nat) (hc : c < 256) : PW zm_X6_sign 3 (rR g n b N o mkN (pNeed b N c p ())) 0 0 0 [(0, .ref aT), (1, .int (nI c))] [] g n := by
  refine pw_aload_n dX6_sign_0 0 rfl rfl ?_
  refine pw_geti 5 zc_X6 (ts_this hM) (by decide) q1991 (Or.inl rfl) dX6_sign_1 ?_
  refine pw_if_eq 8 dX6_sign_4 (by decide) (fun c_4 => ?_) (fun c_4 => ?_)
  · refine pw_aload_n dX6_sign_8 0 rfl rfl ?_
    refine pw_callV0 zmM_X6_blanks rfl (lw_V q2196 q2198 qs64 q150 q2199) rfl (ts_this hM) zc_X6 (t_blk hM hR) (by decide) (Nat.le_refl _) (Nat.le_refl _) rfl (Nat.le_of_ble_eq_true rfl) (Nat.le_of_ble_eq_true rfl) dX6_sign_9 (by intros; rintro ⟨h, _⟩; cases h) (fun v1 g1 n1 h1 => ?_)
    obtain ⟨h1, rfl, hR1, hf1⟩ := h1; cases h1; have hX := hR1.1; have hN := hX.2.1; have hq := hR1.2.2.2.2.1
    refine pw_aload_n dX6_sign_12 0 rfl rfl ?_
    refine pw_aload_n dX6_sign_13 0 rfl rfl ?_
    refine pw_geti 4 zc_X6 (ts_this hM) (by decide) q1990 (Or.inl rfl) dX6_sign_14 ?_
    rw [hR1.2.2.1]
    refine pw_callV1 zmM_X6_byteAt rfl (lw_V q2200 q2202 qs65 q150 q2203) rfl (ts_this hM) zc_X6 (t_byteAt hM hX (skp b N p) (by omega)) (by decide) (Nat.le_refl _) (Nat.le_refl _) rfl (Nat.le_of_ble_eq_true rfl) (Nat.le_of_ble_eq_true rfl) dX6_sign_17 zE.nx (zE_kk ?_)
    refine pw_iload_n dX6_sign_20 1 rfl rfl ?_
    refine pw_icmp_ne 37 dX6_sign_21 (by decide) (fun c_21 => ?_) (fun c_21 => ?_)
    · refine pw_aload_n dX6_sign_37 0 rfl rfl ?_
      refine pw_iconst (v := 1) dX6_sign_38 (by decide) ?_
      refine pw_aload_n dX6_sign_39 0 rfl rfl ?_
      refine pw_geti 4 zc_X6 (ts_this hM) (by decide) q1990 (Or.inl rfl) dX6_sign_40 ?_
      rw [hR1.2.2.1]
      refine pw_callV2 zmM_X6_wrong rfl (lw_V q2226 q2228 qs70 q150 q2229) rfl (ts_this hM) zc_X6 (t_wrong hM _ _ hR1.2.1) (by decide) (Nat.le_refl _) (Nat.le_refl _) rfl (Nat.le_of_ble_eq_true rfl) (Nat.le_of_ble_eq_true rfl) dX6_sign_43 zE.nx (zE_kk ?_)
      refine pw_vret rfl dX6_sign_46 ?_
      have hw := hR1.wr (k := 1) (q := skp b N p) (by decide) (by decide)
      refine ⟨rfl, hf1.tr hw.2, ?_⟩
      unfold pNeed
      rw [if_neg (fun z => c_21 ((tv_eq hX hc).mpr z))]
      exact ⟨⟨(), rfl⟩, hw.1⟩
    · refine pw_aload_n dX6_sign_24 0 rfl rfl ?_
      refine pw_dup dX6_sign_25 rfl ?_
      refine pw_geti 4 zc_X6 (ts_this hM) (by decide) q1990 (Or.inl rfl) dX6_sign_26 ?_
      refine pw_iconst (v := 1) dX6_sign_29 (by decide) ?_
      rw [hR1.2.2.1]
      refine pw_iadd dX6_sign_30 ?_
      rw [nI_1]
      have hc2 := (tv_eq hX hc).mp c_21
      have hlt := tb_lt (b := b) (N := N) (k := skp b N p) (by omega)
      refine pw_puti 4 zc_X6 (ts_this hM) (by decide) (by decide) q1990 rfl (Or.inl rfl) rfl rfl dX6_sign_31 ?_
      refine pw_goto 46 dX6_sign_34 (by decide) ?_
      refine pw_vret rfl dX6_sign_46 ?_
      refine ⟨rfl, hf1.pfi rF_at, ?_⟩
      unfold pNeed
      rw [if_pos hc2]
      exact ⟨rfl, hR1.at hlt⟩
  · exact absurd hR.2.1 c_4
theorem t_signF {g : zg_G} {n : zg_N} (hM : TSh g) (h0 : ¬ zfi n aT tf_fault = 0) (c : Int32) : PW zm_X6_sign 3 (zE none g n) 0 0 0 [(0, .ref aT), (1, .int c)] [] g n := by
  refine pw_aload_n dX6_sign_0 0 rfl rfl ?_
  refine pw_geti 5 zc_X6 (ts_this hM) (by decide) q1991 (Or.inl rfl) dX6_sign_1 ?_
  refine pw_if_eq 8 dX6_sign_4 (by decide) (fun c_4 => ?_) (fun c_4 => ?_)
  · exact absurd c_4 h0
  · refine pw_vret rfl dX6_sign_7 ?_
    exact ⟨rfl, rfl, rfl⟩
theorem t_takesSign {g : zg_G} {n : zg_N} {b : Nat → Nat} {N p o : Nat} (hM : TSh g) (hR : TRd n b N p o) (c : Nat) (hc : c < 256) : PW zm_X6_takesSign 3 (rP g n b N o (some (.int (zb (tb b N (skp b N p) = c)))) (if tb b N (skp b N p) = c then skp b N p + 1 else skp b N p)) 0 0 0 [(0, .ref aT), (1, .int (nI c))] [] g n := by
  refine pw_aload_n dX6_takesSign_0 0 rfl rfl ?_
  refine pw_geti 5 zc_X6 (ts_this hM) (by decide) q1991 (Or.inl rfl) dX6_takesSign_1 ?_
  refine pw_if_eq 9 dX6_takesSign_4 (by decide) (fun c_4 => ?_) (fun c_4 => ?_)
  · refine pw_aload_n dX6_takesSign_9 0 rfl rfl ?_
    refine pw_callV0 zmM_X6_blanks rfl (lw_V q2196 q2198 qs64 q150 q2199) rfl (ts_this hM) zc_X6 (t_blk hM hR) (by decide) (Nat.le_refl _) (Nat.le_refl _) rfl (Nat.le_of_ble_eq_true rfl) (Nat.le_of_ble_eq_true rfl) dX6_takesSign_10 (by intros; rintro ⟨h, _⟩; cases h) (fun v1 g1 n1 h1 => ?_)
    obtain ⟨h1, rfl, hR1, hf1⟩ := h1; cases h1; have hX := hR1.1; have hN := hX.2.1; have hq := hR1.2.2.2.2.1
    refine pw_aload_n dX6_takesSign_13 0 rfl rfl ?_
    refine pw_aload_n dX6_takesSign_14 0 rfl rfl ?_
    refine pw_geti 4 zc_X6 (ts_this hM) (by decide) q1990 (Or.inl rfl) dX6_takesSign_15 ?_
    rw [hR1.2.2.1]
    refine pw_callV1 zmM_X6_byteAt rfl (lw_V q2200 q2202 qs65 q150 q2203) rfl (ts_this hM) zc_X6 (t_byteAt hM hX (skp b N p) (by omega)) (by decide) (Nat.le_refl _) (Nat.le_refl _) rfl (Nat.le_of_ble_eq_true rfl) (Nat.le_of_ble_eq_true rfl) dX6_takesSign_18 zE.nx (zE_kk ?_)
    refine pw_iload_n dX6_takesSign_21 1 rfl rfl ?_
    refine pw_icmp_ne 29 dX6_takesSign_22 (by decide) (fun c_22 => ?_) (fun c_22 => ?_)
    · refine pw_iconst (v := 0) dX6_takesSign_29 (by decide) ?_
      refine pw_istore_n (ls' := [(2, _), (0, _), (1, _)]) dX6_takesSign_30 rfl (by decide) rfl ?_
      refine pw_ls [1, 2, 0] (ls' := [(0, _), (1, _), (2, _)]) rfl ?_
      refine pw_iload_n dX6_takesSign_31 2 rfl rfl ?_
      refine pw_if_eq 45 dX6_takesSign_32 (by decide) (fun c_32 => ?_) (fun c_32 => ?_)
      · refine pw_iload_n dX6_takesSign_45 2 rfl rfl ?_
        refine pw_zret _ rfl rfl dX6_takesSign_46 ?_
        have hc2 := fun z => c_22 ((tv_eq hX hc).mpr z)
        exact ⟨by rw [zb_f hc2], rfl, by rw [if_neg hc2]; exact hR1, hf1⟩
      · exact absurd rfl c_32
    · refine pw_iconst (v := 1) dX6_takesSign_25 (by decide) ?_
      refine pw_goto 30 dX6_takesSign_26 (by decide) ?_
      refine pw_istore_n (ls' := [(2, _), (0, _), (1, _)]) dX6_takesSign_30 rfl (by decide) rfl ?_
      refine pw_ls [1, 2, 0] (ls' := [(0, _), (1, _), (2, _)]) rfl ?_
      refine pw_iload_n dX6_takesSign_31 2 rfl rfl ?_
      refine pw_if_eq 45 dX6_takesSign_32 (by decide) (fun c_32 => ?_) (fun c_32 => ?_)
      · exact absurd c_32 (by decide)
      · refine pw_aload_n dX6_takesSign_35 0 rfl rfl ?_
        refine pw_dup dX6_takesSign_36 rfl ?_
        refine pw_geti 4 zc_X6 (ts_this hM) (by decide) q1990 (Or.inl rfl) dX6_takesSign_37 ?_
        refine pw_iconst (v := 1) dX6_takesSign_40 (by decide) ?_
        rw [hR1.2.2.1]
        refine pw_iadd dX6_takesSign_41 ?_
        rw [nI_1]
        have hc2 := (tv_eq hX hc).mp c_22
        have hlt := tb_lt (b := b) (N := N) (k := skp b N p) (by omega)
        refine pw_puti 4 zc_X6 (ts_this hM) (by decide) (by decide) q1990 rfl (Or.inl rfl) rfl rfl dX6_takesSign_42 ?_
        refine pw_iload_n dX6_takesSign_45 2 rfl rfl ?_
        refine pw_zret _ rfl rfl dX6_takesSign_46 ?_
        exact ⟨by rw [zb_t hc2], rfl, by rw [if_pos hc2]; exact hR1.at hlt, hf1.pfi rF_at⟩
  · exact absurd hR.2.1 c_4
theorem t_takesSignF {g : zg_G} {n : zg_N} (hM : TSh g) (h0 : ¬ zfi n aT tf_fault = 0) (c : Int32) : PW zm_X6_takesSign 3 (zE (some (.int 0)) g n) 0 0 0 [(0, .ref aT), (1, .int c)] [] g n := by
  refine pw_aload_n dX6_takesSign_0 0 rfl rfl ?_
  refine pw_geti 5 zc_X6 (ts_this hM) (by decide) q1991 (Or.inl rfl) dX6_takesSign_1 ?_
  refine pw_if_eq 9 dX6_takesSign_4 (by decide) (fun c_4 => ?_) (fun c_4 => ?_)
  · exact absurd c_4 h0
  · refine pw_iconst (v := 0) dX6_takesSign_7 (by decide) ?_
    refine pw_zret _ rfl rfl dX6_takesSign_8 ?_
    exact ⟨rfl, rfl, rfl⟩
theorem t_opens {g : zg_G} {n : zg_N} {b : Nat → Nat} {N p o : Nat} (hM : TSh g) (hR : TRd n b N p o) (ho : o < 6) : PW zm_X6_opens 2 (rP g n b N (o + 1) (some (.int 1)) p) 0 0 0 [(0, .ref aT)] [] g n := by
  refine pw_aload_n dX6_opens_0 0 rfl rfl ?_
  refine pw_geti 5 zc_X6 (ts_this hM) (by decide) q1991 (Or.inl rfl) dX6_opens_1 ?_
  refine pw_if_ne 28 dX6_opens_4 (by decide) (fun c_4 => ?_) (fun c_4 => ?_)
  · exact absurd hR.2.1 c_4
  · refine pw_aload_n dX6_opens_7 0 rfl rfl ?_
    refine pw_geti 8 zc_X6 (ts_this hM) (by decide) q1994 (Or.inl rfl) dX6_opens_8 ?_
    refine pw_bipush (v := 6) dX6_opens_11 (by decide) ?_
    rw [hR.2.2.2.1]
    refine pw_icmp_ne_N (b := 6) 28 dX6_opens_13 (by decide) (by omega) (by omega) (fun c_13 => ?_) (fun c_13 => ?_)
    · refine pw_aload_n dX6_opens_28 0 rfl rfl ?_
      refine pw_geti 5 zc_X6 (ts_this hM) (by decide) q1991 (Or.inl rfl) dX6_opens_29 ?_
      refine pw_if_ne 45 dX6_opens_32 (by decide) (fun c_32 => ?_) (fun c_32 => ?_)
      · exact absurd hR.2.1 c_32
      · refine pw_aload_n dX6_opens_35 0 rfl rfl ?_
        refine pw_dup dX6_opens_36 rfl ?_
        refine pw_geti 8 zc_X6 (ts_this hM) (by decide) q1994 (Or.inl rfl) dX6_opens_37 ?_
        refine pw_iconst (v := 1) dX6_opens_40 (by decide) ?_
        refine pw_iadd dX6_opens_41 ?_
        rw [hR.2.2.2.1, nI_1]
        refine pw_puti 8 zc_X6 (ts_this hM) (by decide) (by decide) q1994 rfl (Or.inl rfl) rfl rfl dX6_opens_42 ?_
        refine pw_aload_n dX6_opens_45 0 rfl rfl ?_
        refine pw_geti 5 zc_X6 (ts_this hM) (by decide) q1991 (Or.inl rfl) dX6_opens_46 ?_
        refine pw_if_ne 56 dX6_opens_49 (by decide) (fun c_49 => ?_) (fun c_49 => ?_)
        · exact absurd hR.2.1 c_49
        · refine pw_iconst (v := 1) dX6_opens_52 (by decide) ?_
          refine pw_goto 57 dX6_opens_53 (by decide) ?_
          refine pw_zret _ rfl rfl dX6_opens_57 ?_
          exact ⟨rfl, rfl, ⟨hR.1.keep (zFr.rf.pfi rF_op), hR.2.1, hR.2.2.1, rfl, hR.2.2.2.2⟩, zFr.rf.pfi rF_op⟩
    · exact absurd c_13 (by omega)
theorem t_opens6 {g : zg_G} {n : zg_N} {b : Nat → Nat} {N p o : Nat} (hM : TSh g) (hR : TRd n b N p o) (ho : o = 6) : PW zm_X6_opens 2 (fun out g1 n1 => out = .inl (some (.int 0)) ∧ g1 = g ∧ TFl n1 (3, p) ∧ zFr rF rA n n1) 0 0 0 [(0, .ref aT)] [] g n := by
  subst ho
  have hw := hR.wr (k := 3) (q := p) (by decide) (by decide)
  refine pw_aload_n dX6_opens_0 0 rfl rfl ?_
  refine pw_geti 5 zc_X6 (ts_this hM) (by decide) q1991 (Or.inl rfl) dX6_opens_1 ?_
  refine pw_if_ne 28 dX6_opens_4 (by decide) (fun c_4 => ?_) (fun c_4 => ?_)
  · exact absurd hR.2.1 c_4
  · refine pw_aload_n dX6_opens_7 0 rfl rfl ?_
    refine pw_geti 8 zc_X6 (ts_this hM) (by decide) q1994 (Or.inl rfl) dX6_opens_8 ?_
    refine pw_bipush (v := 6) dX6_opens_11 (by decide) ?_
    rw [hR.2.2.2.1]
    refine pw_icmp_ne 28 dX6_opens_13 (by decide) (fun c_13 => ?_) (fun c_13 => ?_)
    · exact absurd rfl c_13
    · refine pw_aload_n dX6_opens_16 0 rfl rfl ?_
      refine pw_iconst (v := 3) dX6_opens_17 (by decide) ?_
      refine pw_aload_n dX6_opens_18 0 rfl rfl ?_
      refine pw_geti 4 zc_X6 (ts_this hM) (by decide) q1990 (Or.inl rfl) dX6_opens_19 ?_
      rw [hR.2.2.1]
      refine pw_callV2 zmM_X6_wrong rfl (lw_V q2226 q2228 qs70 q150 q2229) rfl (ts_this hM) zc_X6 (t_wrong hM _ _ hR.2.1) (by decide) (Nat.le_refl _) (Nat.le_refl _) rfl (Nat.le_of_ble_eq_true rfl) (Nat.le_of_ble_eq_true rfl) dX6_opens_22 zE.nx (zE_kk ?_)
      refine pw_goto 45 dX6_opens_25 (by decide) ?_
      refine pw_aload_n dX6_opens_45 0 rfl rfl ?_
      refine pw_geti 5 zc_X6 (ts_this hM) (by decide) q1991 (Or.inl rfl) dX6_opens_46 ?_
      refine pw_if_ne 56 dX6_opens_49 (by decide) (fun c_49 => ?_) (fun c_49 => ?_)
      · refine pw_iconst (v := 0) dX6_opens_56 (by decide) ?_
        refine pw_zret _ rfl rfl dX6_opens_57 ?_
        exact ⟨rfl, rfl, hw.1, hw.2⟩
      · exact absurd c_49 hw.1.ne
abbrev mkI : Nat → Option Value := fun v => some (.int (nI v))
theorem t_number {g : zg_G} {n : zg_N} {b : Nat → Nat} {N p o : Nat} (hM : TSh g) (hR : TRd n b N p o) (low high : Nat) (hl : low ≤ 999) (hh : high ≤ 999) : PW zm_X6_number 3 (rR g n b N o mkI (pNum b N low high p)) 0 0 0 [(0, .ref aT), (1, .int (nI low)), (2, .int (nI high))] [] g n := by
  have hl : ∀ q, isDg (tb b N (skp b N p)) → q = skp b N p → ∀ (m p1 v : Nat) (n1 : zg_N), N - p1 ≤ m → TRd n1 b N p1 o → zFr rF rA n n1 → tNm b N v p1 = tNm b N 0 q →
      PW zm_X6_number 3 (rR g n b N o mkI (pNum b N low high p)) 0 0 44 [(0, .ref aT), (1, .int (nI low)), (2, .int (nI high)), (3, .int (nI q)), (4, .int (nI (min v 100000)))] [] g n1 := by
    intro q hdg hqe m
    have h106 : ∀ (v p1 : Nat) (n1 : zg_N), TRd n1 b N p1 o → zFr rF rA n n1 → tNm b N 0 q = (v, p1) → PW zm_X6_number 3 (rR g n b N o mkI (pNum b N low high p)) 0 0 106 [(0, .ref aT), (1, .int (nI low)), (2, .int (nI high)), (3, .int (nI q)), (4, .int (nI (min v 100000)))] [] g n1 := by
      intro v p1 n1 hR1 hf1 he
      have hpn : pNum b N low high p = if v < low ∨ high < v then .inl (2, q) else .inr (v, p1) := by
        unfold pNum; rw [if_neg (fun z => z hdg), ← hqe, he]
      have hin : (nI low ≤ nI (min v 100000) ∧ nI (min v 100000) ≤ nI high) ↔ ¬ (v < low ∨ high < v) := by
        rw [nI_leI (by omega) (by omega), nI_leI (by omega) (by omega)]; omega
      have hw := hR1.wr (k := 2) (q := q) (by decide) (by decide)
      refine pw_iload dX6_number_106 4 rfl ?_
      refine pw_iload_n dX6_number_108 1 rfl rfl ?_
      refine pw_iload_n dX6_number_109 2 rfl rfl ?_
      refine pw_callS3 zmM_X6_in rfl (lw_S q2185 q2186 q150 q2187) (t_in _ _ _ _ _) (by decide) (Nat.le_refl _) (Nat.le_refl _) rfl (Nat.le_of_ble_eq_true rfl) (Nat.le_of_ble_eq_true rfl) dX6_number_110 zE.nx (zE_kk ?_)
      refine pw_if_ne_B 122 dX6_number_113 (by decide) (fun c_113 => ?_) (fun c_113 => ?_)
      · refine pw_aload_n dX6_number_122 0 rfl rfl ?_
        refine pw_geti 5 zc_X6 (ts_this hM) (by decide) q1991 (Or.inl rfl) dX6_number_123 ?_
        refine pw_if_ne 134 dX6_number_126 (by decide) (fun c_126 => ?_) (fun c_126 => ?_)
        · exact absurd hR1.2.1 c_126
        · refine pw_iload dX6_number_129 4 rfl ?_
          refine pw_goto 135 dX6_number_131 (by decide) ?_
          refine pw_iret rfl dX6_number_135 ?_
          refine ⟨rfl, hf1, ?_⟩
          have hin2 := hin.mp c_113
          rw [hpn, if_neg hin2]
          exact ⟨by show _ = Sum.inl (some (Value.int (nI v))); rw [show min v 100000 = v by omega], hR1⟩
      · refine pw_aload_n dX6_number_116 0 rfl rfl ?_
        refine pw_iconst (v := 2) dX6_number_117 (by decide) ?_
        refine pw_iload_n dX6_number_118 3 rfl rfl ?_
        refine pw_callV2 zmM_X6_wrong rfl (lw_V q2226 q2228 qs70 q150 q2229) rfl (ts_this hM) zc_X6 (t_wrong hM _ _ hR1.2.1) (by decide) (Nat.le_refl _) (Nat.le_refl _) rfl (Nat.le_of_ble_eq_true rfl) (Nat.le_of_ble_eq_true rfl) dX6_number_119 zE.nx (zE_kk ?_)
        refine pw_aload_n dX6_number_122 0 rfl rfl ?_
        refine pw_geti 5 zc_X6 (ts_this hM) (by decide) q1991 (Or.inl rfl) dX6_number_123 ?_
        refine pw_if_ne 134 dX6_number_126 (by decide) (fun c_126 => ?_) (fun c_126 => ?_)
        · refine pw_iconst (v := 0) dX6_number_134 (by decide) ?_
          refine pw_iret rfl dX6_number_135 ?_
          refine ⟨rfl, hf1.tr hw.2, ?_⟩
          rw [hpn, if_pos (Classical.byContradiction (fun z => c_113 (hin.mpr z)))]
          exact ⟨⟨0, rfl⟩, hw.1⟩
        · exact absurd c_126 hw.1.ne
    induction m with
    | zero =>
      intro p1 v n1 hm hR1 hf1 he
      have hX := hR1.1; have hN := hX.2.1; have hat := hR1.2.2.1; have hpN := hR1.2.2.2.2.1
      have hz : ¬ isDg (tb b N p1) := fun z => by unfold isDg at z; have := tb_lt (b := b) (N := N) (k := p1) (by omega); omega
      refine pw_aload_n dX6_number_44 0 rfl rfl ?_
      refine pw_aload_n dX6_number_45 0 rfl rfl ?_
      refine pw_geti 4 zc_X6 (ts_this hM) (by decide) q1990 (Or.inl rfl) dX6_number_46 ?_
      rw [hat]
      refine pw_callV1 zmM_X6_byteAt rfl (lw_V q2200 q2202 qs65 q150 q2203) rfl (ts_this hM) zc_X6 (t_byteAt hM hX p1 (by omega)) (by decide) (Nat.le_refl _) (Nat.le_refl _) rfl (Nat.le_of_ble_eq_true rfl) (Nat.le_of_ble_eq_true rfl) dX6_number_49 zE.nx (zE_kk ?_)
      refine pw_callS1 zmM_X6_isDigit rfl (lw_S q2242 q2243 q150 q2244) (t_isDigit _ _ _) (by decide) (Nat.le_refl _) (Nat.le_refl _) rfl (Nat.le_of_ble_eq_true rfl) (Nat.le_of_ble_eq_true rfl) dX6_number_52 zE.nx (zE_kk ?_)
      refine pw_if_eq_B 106 dX6_number_55 (by decide) (fun c_55 => ?_) (fun c_55 => ?_)
      · exact h106 v p1 n1 hR1 hf1 (he ▸ tNm_0 hz)
      · exact absurd ((tv_digit hX).mp c_55) hz
    | succ m ih =>
      intro p1 v n1 hm hR1 hf1 he
      have hX := hR1.1; have hN := hX.2.1; have hat := hR1.2.2.1; have hpN := hR1.2.2.2.2.1
      refine pw_aload_n dX6_number_44 0 rfl rfl ?_
      refine pw_aload_n dX6_number_45 0 rfl rfl ?_
      refine pw_geti 4 zc_X6 (ts_this hM) (by decide) q1990 (Or.inl rfl) dX6_number_46 ?_
      rw [hat]
      refine pw_callV1 zmM_X6_byteAt rfl (lw_V q2200 q2202 qs65 q150 q2203) rfl (ts_this hM) zc_X6 (t_byteAt hM hX p1 (by omega)) (by decide) (Nat.le_refl _) (Nat.le_refl _) rfl (Nat.le_of_ble_eq_true rfl) (Nat.le_of_ble_eq_true rfl) dX6_number_49 zE.nx (zE_kk ?_)
      refine pw_callS1 zmM_X6_isDigit rfl (lw_S q2242 q2243 q150 q2244) (t_isDigit _ _ _) (by decide) (Nat.le_refl _) (Nat.le_refl _) rfl (Nat.le_of_ble_eq_true rfl) (Nat.le_of_ble_eq_true rfl) dX6_number_52 zE.nx (zE_kk ?_)
      refine pw_if_eq_B 106 dX6_number_55 (by decide) (fun c_55 => ?_) (fun c_55 => ?_)
      · exact h106 v p1 n1 hR1 hf1 (he ▸ tNm_0 (fun z => c_55 ((tv_digit hX).mpr z)))
      · have hd := (tv_digit hX).mp c_55
        have hlt := tb_lt (b := b) (N := N) (k := p1) (by unfold isDg at hd; omega)
        refine pw_bipush (v := 10) dX6_number_58 (by decide) ?_
        refine pw_iload dX6_number_60 4 rfl ?_
        refine pw_imul dX6_number_62 ?_
        refine pw_aload_n dX6_number_63 0 rfl rfl ?_
        refine pw_aload_n dX6_number_64 0 rfl rfl ?_
        refine pw_geti 4 zc_X6 (ts_this hM) (by decide) q1990 (Or.inl rfl) dX6_number_65 ?_
        rw [hat]
        refine pw_callV1 zmM_X6_byteAt rfl (lw_V q2200 q2202 qs65 q150 q2203) rfl (ts_this hM) zc_X6 (t_byteAt hM hX p1 (by omega)) (by decide) (Nat.le_refl _) (Nat.le_refl _) rfl (Nat.le_of_ble_eq_true rfl) (Nat.le_of_ble_eq_true rfl) dX6_number_68 zE.nx (zE_kk ?_)
        refine pw_iadd dX6_number_71 ?_
        refine pw_bipush (v := 48) dX6_number_72 (by decide) ?_
        refine pw_isub dX6_number_74 ?_
        rw [tv_nI hX (by unfold isDg at hd; omega), show (10 : Int32) = nI 10 from rfl, nI_mul, nI_add, show (48 : Int32) = nI 48 from rfl, nI_sub (by unfold isDg at hd; omega)]
        refine pw_istore (ls' := [(4, _), (0, _), (1, _), (2, _), (3, _)]) dX6_number_75 (by decide) rfl ?_
        refine pw_ls [1, 2, 3, 4, 0] (ls' := [(0, _), (1, _), (2, _), (3, _), (4, _)]) rfl ?_
        refine pw_iload dX6_number_77 4 rfl ?_
        refine pw_ldc q2245 dX6_number_79 ?_
        rw [show (100000 : Int32) = nI 100000 from rfl]
        refine pw_icmp_le_N 89 dX6_number_81 (by decide) (by omega) (by omega) (fun c_81 => ?_) (fun c_81 => ?_)
        · refine pw_iload dX6_number_89 4 rfl ?_
          refine pw_istore (ls' := [(4, _), (0, _), (1, _), (2, _), (3, _)]) dX6_number_91 (by decide) rfl ?_
          refine pw_ls [1, 2, 3, 4, 0] (ls' := [(0, _), (1, _), (2, _), (3, _), (4, _)]) rfl ?_
          refine pw_aload_n dX6_number_93 0 rfl rfl ?_
          refine pw_dup dX6_number_94 rfl ?_
          refine pw_geti 4 zc_X6 (ts_this hM) (by decide) q1990 (Or.inl rfl) dX6_number_95 ?_
          refine pw_iconst (v := 1) dX6_number_98 (by decide) ?_
          refine pw_iadd dX6_number_99 ?_
          rw [hat, nI_1]
          refine pw_puti 4 zc_X6 (ts_this hM) (by decide) (by decide) q1990 rfl (Or.inl rfl) rfl rfl dX6_number_100 ?_
          refine pw_goto 44 dX6_number_103 (by decide) ?_
          have e : 10 * min v 100000 + tb b N p1 - 48 = min (10 * v + (tb b N p1 - 48)) 100000 := by unfold isDg at hd; omega
          rw [e]
          exact ih (p1 + 1) _ _ (by omega) (hR1.at (by omega)) (hf1.pfi rF_at) (by rw [← tNm_s hd]; exact he)
        · refine pw_ldc q2245 dX6_number_84 ?_
          refine pw_goto 91 dX6_number_86 (by decide) ?_
          refine pw_istore (ls' := [(4, _), (0, _), (1, _), (2, _), (3, _)]) dX6_number_91 (by decide) rfl ?_
          refine pw_ls [1, 2, 3, 4, 0] (ls' := [(0, _), (1, _), (2, _), (3, _), (4, _)]) rfl ?_
          refine pw_aload_n dX6_number_93 0 rfl rfl ?_
          refine pw_dup dX6_number_94 rfl ?_
          refine pw_geti 4 zc_X6 (ts_this hM) (by decide) q1990 (Or.inl rfl) dX6_number_95 ?_
          refine pw_iconst (v := 1) dX6_number_98 (by decide) ?_
          refine pw_iadd dX6_number_99 ?_
          rw [hat, nI_1]
          refine pw_puti 4 zc_X6 (ts_this hM) (by decide) (by decide) q1990 rfl (Or.inl rfl) rfl rfl dX6_number_100 ?_
          refine pw_goto 44 dX6_number_103 (by decide) ?_
          have e : 100000 = min (10 * v + (tb b N p1 - 48)) 100000 := by unfold isDg at hd; omega
          have h2 := ih (p1 + 1) (10 * v + (tb b N p1 - 48)) _ (by omega) (hR1.at (q := p1 + 1) (by omega)) (hf1.pfi rF_at) (by rw [← tNm_s hd]; exact he)
          rw [← e] at h2
          exact h2
  refine pw_aload_n dX6_number_0 0 rfl rfl ?_
  refine pw_geti 5 zc_X6 (ts_this hM) (by decide) q1991 (Or.inl rfl) dX6_number_1 ?_
  refine pw_if_eq 9 dX6_number_4 (by decide) (fun c_4 => ?_) (fun c_4 => ?_)
  · refine pw_aload_n dX6_number_9 0 rfl rfl ?_
    refine pw_callV0 zmM_X6_blanks rfl (lw_V q2196 q2198 qs64 q150 q2199) rfl (ts_this hM) zc_X6 (t_blk hM hR) (by decide) (Nat.le_refl _) (Nat.le_refl _) rfl (Nat.le_of_ble_eq_true rfl) (Nat.le_of_ble_eq_true rfl) dX6_number_10 (by intros; rintro ⟨h, _⟩; cases h) (fun v1 g1 n1 h1 => ?_)
    obtain ⟨h1, rfl, hR1, hf1⟩ := h1; cases h1; have hX := hR1.1; have hN := hX.2.1; have hq := hR1.2.2.2.2.1
    refine pw_aload_n dX6_number_13 0 rfl rfl ?_
    refine pw_geti 4 zc_X6 (ts_this hM) (by decide) q1990 (Or.inl rfl) dX6_number_14 ?_
    rw [hR1.2.2.1]
    refine pw_istore_n (ls' := [(3, _), (0, _), (1, _), (2, _)]) dX6_number_17 rfl (by decide) rfl ?_
    refine pw_ls [1, 2, 3, 0] (ls' := [(0, _), (1, _), (2, _), (3, _)]) rfl ?_
    refine pw_iconst (v := 0) dX6_number_18 (by decide) ?_
    refine pw_istore (ls' := [(4, _), (0, _), (1, _), (2, _), (3, _)]) dX6_number_19 (by decide) rfl ?_
    refine pw_ls [1, 2, 3, 4, 0] (ls' := [(0, _), (1, _), (2, _), (3, _), (4, _)]) rfl ?_
    refine pw_aload_n dX6_number_21 0 rfl rfl ?_
    refine pw_aload_n dX6_number_22 0 rfl rfl ?_
    refine pw_geti 4 zc_X6 (ts_this hM) (by decide) q1990 (Or.inl rfl) dX6_number_23 ?_
    rw [hR1.2.2.1]
    refine pw_callV1 zmM_X6_byteAt rfl (lw_V q2200 q2202 qs65 q150 q2203) rfl (ts_this hM) zc_X6 (t_byteAt hM hX (skp b N p) (by omega)) (by decide) (Nat.le_refl _) (Nat.le_refl _) rfl (Nat.le_of_ble_eq_true rfl) (Nat.le_of_ble_eq_true rfl) dX6_number_26 zE.nx (zE_kk ?_)
    refine pw_callS1 zmM_X6_isDigit rfl (lw_S q2242 q2243 q150 q2244) (t_isDigit _ _ _) (by decide) (Nat.le_refl _) (Nat.le_refl _) rfl (Nat.le_of_ble_eq_true rfl) (Nat.le_of_ble_eq_true rfl) dX6_number_29 zE.nx (zE_kk ?_)
    refine pw_if_ne_B 44 dX6_number_32 (by decide) (fun c_32 => ?_) (fun c_32 => ?_)
    · exact hl _ ((tv_digit hX).mp c_32) rfl _ _ 0 n1 (Nat.le_refl _) hR1 hf1 rfl
    · refine pw_aload_n dX6_number_35 0 rfl rfl ?_
      refine pw_iconst (v := 1) dX6_number_36 (by decide) ?_
      refine pw_aload_n dX6_number_37 0 rfl rfl ?_
      refine pw_geti 4 zc_X6 (ts_this hM) (by decide) q1990 (Or.inl rfl) dX6_number_38 ?_
      rw [hR1.2.2.1]
      refine pw_callV2 zmM_X6_wrong rfl (lw_V q2226 q2228 qs70 q150 q2229) rfl (ts_this hM) zc_X6 (t_wrong hM _ _ hR1.2.1) (by decide) (Nat.le_refl _) (Nat.le_refl _) rfl (Nat.le_of_ble_eq_true rfl) (Nat.le_of_ble_eq_true rfl) dX6_number_41 zE.nx (zE_kk ?_)
      refine pw_aload_n dX6_number_44 0 rfl rfl ?_
      refine pw_aload_n dX6_number_45 0 rfl rfl ?_
      refine pw_geti 4 zc_X6 (ts_this hM) (by decide) q1990 (Or.inl rfl) dX6_number_46 ?_
      rw [show zfi (zpfi (zpfi n1 aT tf_fault 1) aT tf_faultAt (nI (skp b N p))) aT tf_at = nI (skp b N p) from hR1.2.2.1]
      have hw := hR1.wr (k := 1) (q := skp b N p) (by decide) (by decide)
      refine pw_callV1 zmM_X6_byteAt rfl (lw_V q2200 q2202 qs65 q150 q2203) rfl (ts_this hM) zc_X6 (t_byteAt hM (hX.keep hw.2) (skp b N p) (by omega)) (by decide) (Nat.le_refl _) (Nat.le_refl _) rfl (Nat.le_of_ble_eq_true rfl) (Nat.le_of_ble_eq_true rfl) dX6_number_49 zE.nx (zE_kk ?_)
      refine pw_callS1 zmM_X6_isDigit rfl (lw_S q2242 q2243 q150 q2244) (t_isDigit _ _ _) (by decide) (Nat.le_refl _) (Nat.le_refl _) rfl (Nat.le_of_ble_eq_true rfl) (Nat.le_of_ble_eq_true rfl) dX6_number_52 zE.nx (zE_kk ?_)
      refine pw_if_eq_B 106 dX6_number_55 (by decide) (fun c_55 => ?_) (fun c_55 => ?_)
      · refine pw_iload dX6_number_106 4 rfl ?_
        refine pw_iload_n dX6_number_108 1 rfl rfl ?_
        refine pw_iload_n dX6_number_109 2 rfl rfl ?_
        refine pw_callS3 zmM_X6_in rfl (lw_S q2185 q2186 q150 q2187) (t_in _ _ _ _ _) (by decide) (Nat.le_refl _) (Nat.le_refl _) rfl (Nat.le_of_ble_eq_true rfl) (Nat.le_of_ble_eq_true rfl) dX6_number_110 zE.nx (zE_kk ?_)
        refine pw_if_ne_B 122 dX6_number_113 (by decide) (fun c_113 => ?_) (fun c_113 => ?_)
        · refine pw_aload_n dX6_number_122 0 rfl rfl ?_
          refine pw_geti 5 zc_X6 (ts_this hM) (by decide) q1991 (Or.inl rfl) dX6_number_123 ?_
          refine pw_if_ne 134 dX6_number_126 (by decide) (fun c_126 => ?_) (fun c_126 => ?_)
          · refine pw_iconst (v := 0) dX6_number_134 (by decide) ?_
            refine pw_iret rfl dX6_number_135 ?_
            refine ⟨rfl, hf1.tr hw.2, ?_⟩
            unfold pNum
            rw [if_pos (fun z => c_32 ((tv_digit hX).mpr z))]
            exact ⟨⟨0, rfl⟩, hw.1⟩
          · exact absurd c_126 hw.1.ne
        · refine pw_aload_n dX6_number_116 0 rfl rfl ?_
          refine pw_iconst (v := 2) dX6_number_117 (by decide) ?_
          refine pw_iload_n dX6_number_118 3 rfl rfl ?_
          refine pw_callV2 zmM_X6_wrong rfl (lw_V q2226 q2228 qs70 q150 q2229) rfl (ts_this hM) zc_X6 (t_wrongF hM _ _ hw.1.ne) (by decide) (Nat.le_refl _) (Nat.le_refl _) rfl (Nat.le_of_ble_eq_true rfl) (Nat.le_of_ble_eq_true rfl) dX6_number_119 zE.nx (zE_kk ?_)
          refine pw_aload_n dX6_number_122 0 rfl rfl ?_
          refine pw_geti 5 zc_X6 (ts_this hM) (by decide) q1991 (Or.inl rfl) dX6_number_123 ?_
          refine pw_if_ne 134 dX6_number_126 (by decide) (fun c_126 => ?_) (fun c_126 => ?_)
          · refine pw_iconst (v := 0) dX6_number_134 (by decide) ?_
            refine pw_iret rfl dX6_number_135 ?_
            refine ⟨rfl, hf1.tr hw.2, ?_⟩
            unfold pNum
            rw [if_pos (fun z => c_32 ((tv_digit hX).mpr z))]
            exact ⟨⟨0, rfl⟩, hw.1⟩
          · exact absurd c_126 hw.1.ne
      · exact absurd c_55 c_32
  · exact absurd hR.2.1 c_4
theorem t_numberF {g : zg_G} {n : zg_N} (hM : TSh g) (h0 : ¬ zfi n aT tf_fault = 0) (low high : Int32) : PW zm_X6_number 3 (zE (some (.int 0)) g n) 0 0 0 [(0, .ref aT), (1, .int low), (2, .int high)] [] g n := by
  refine pw_aload_n dX6_number_0 0 rfl rfl ?_
  refine pw_geti 5 zc_X6 (ts_this hM) (by decide) q1991 (Or.inl rfl) dX6_number_1 ?_
  refine pw_if_eq 9 dX6_number_4 (by decide) (fun c_4 => ?_) (fun c_4 => ?_)
  · exact absurd c_4 h0
  · refine pw_iconst (v := 0) dX6_number_7 (by decide) ?_
    refine pw_iret rfl dX6_number_8 ?_
    exact ⟨rfl, rfl, rfl⟩

/-! ===== the reference reads: sentences ===== -/
abbrev mkL : Int64 → Option Value := fun v => some (.long v)
theorem rR.tr {α : Type} {g : zg_G} {n n1 : zg_N} {b : Nat → Nat} {N o : Nat} {mk : α → Option Value} {r : zPR α} {out : Option Value ⊕ (String × Nat)} {g2 : zg_G} {n2 : zg_N} (hf : zFr rF rA n n1) (h : rR g n1 b N o mk r out g2 n2) : rR g n b N o mk r out g2 n2 := ⟨h.1, hf.tr h.2.1, h.2.2⟩
theorem rR.nx {α : Type} {g : zg_G} {n : zg_N} {b : Nat → Nat} {N o : Nat} {mk : α → Option Value} {r : zPR α} : ∀ E a g1 n1, ¬ rR g n b N o mk r (.inr (E, a)) g1 n1 := by
  intro E a g1 n1 h
  obtain ⟨-, -, h⟩ := h
  cases r with
  | inl e => obtain ⟨⟨x, hx⟩, -⟩ := h; cases hx
  | inr q => obtain ⟨hx, -⟩ := h; cases hx
theorem rR.inl {α : Type} {g : zg_G} {n n1 : zg_N} {b : Nat → Nat} {N o : Nat} {mk : α → Option Value} {e : Nat × Nat} (x : α) (hf : zFr rF rA n n1) (hF : TFl n1 e) : rR g n b N o mk (.inl e) (.inl (mk x)) g n1 := ⟨rfl, hf, ⟨x, rfl⟩, hF⟩
theorem rR.inr {α : Type} {g : zg_G} {n n1 : zg_N} {b : Nat → Nat} {N o : Nat} {mk : α → Option Value} {v : α} {p : Nat} (hf : zFr rF rA n n1) (hR : TRd n1 b N p o) : rR g n b N o mk (.inr (v, p)) (.inl (mk v)) g n1 := ⟨rfl, hf, rfl, hR⟩
theorem rR.eq {α : Type} {g : zg_G} {n n1 : zg_N} {b : Nat → Nat} {N o : Nat} {mk : α → Option Value} {r r' : zPR α} {out : Option Value ⊕ (String × Nat)} {g1 : zg_G} (e : r' = r) (h : rR g n b N o mk r out g1 n1) : rR g n b N o mk r' out g1 n1 := e ▸ h
theorem TRd.op {n : zg_N} {b : Nat → Nat} {N p o : Nat} (h : TRd n b N p (o + 1)) : TRd (zpfi n aT tf_open (nI o)) b N p o := ⟨h.1.keep (zFr.rf.pfi rF_op), h.2.1, h.2.2.1, rfl, h.2.2.2.2⟩
theorem TFl.op {n : zg_N} {e : Nat × Nat} {x : Int32} (h : TFl n e) : TFl (zpfi n aT tf_open x) e := h
theorem TFl.at {n : zg_N} {e : Nat × Nat} {x : Int32} (h : TFl n e) (hx : ∃ p, x = nI p ∧ p ≤ 600) : TFl (zpfi n aT tf_at x) e := ⟨h.1, h.2.1, h.2.2.1, h.2.2.2.1, hx⟩
theorem pS_0 (b : Nat → Nat) (N a f o : Nat) (v : Int64) (p : Nat) : pS b N a (f + 1) 0 o v p = pB (pS b N a f 2 o 0 p) (fun v p1 => pS b N a f 1 o v p1) := rfl
theorem pS_1 (b : Nat → Nat) (N a f o : Nat) (v : Int64) (p : Nat) : pS b N a (f + 1) 1 o v p = if tWd b N (skp b N p) = wOr then pB (pS b N a f 2 o 0 (skp b N p + 2)) (fun u p1 => pS b N a f 1 o (v ||| u) p1) else .inr (v, skp b N p) := rfl
theorem pS_2 (b : Nat → Nat) (N a f o : Nat) (v : Int64) (p : Nat) : pS b N a (f + 1) 2 o v p = pB (pS b N a f 4 o 0 p) (fun v p1 => pS b N a f 3 o v p1) := rfl
theorem pS_3 (b : Nat → Nat) (N a f o : Nat) (v : Int64) (p : Nat) : pS b N a (f + 1) 3 o v p = if tWd b N (skp b N p) = wAnd then pB (pS b N a f 4 o 0 (skp b N p + 3)) (fun u p1 => pS b N a f 3 o (v &&& u) p1) else .inr (v, skp b N p) := rfl
theorem pS_4 (b : Nat → Nat) (N a f o : Nat) (v : Int64) (p : Nat) : pS b N a (f + 1) 4 o v p = pOne b N a (pS b N a f) o (skp b N p) := rfl
theorem t_oneF {g : zg_G} {n : zg_N} (hM : TSh g) (h0 : ¬ zfi n aT tf_fault = 0) : PW zm_X6_oneOf 1 (zE (some (.long 0)) g n) 0 0 0 [(0, .ref aT)] [] g n := by
  refine pw_aload_n dX6_oneOf_0 0 rfl rfl ?_
  refine pw_geti 5 zc_X6 (ts_this hM) (by decide) q1991 (Or.inl rfl) dX6_oneOf_1 ?_
  refine pw_if_eq 9 dX6_oneOf_4 (by decide) (fun c_4 => ?_) (fun c_4 => ?_)
  · exact absurd c_4 h0
  · refine pw_lconst (v := 0) dX6_oneOf_7 rfl ?_
    refine pw_lret rfl dX6_oneOf_8 ?_
    exact ⟨rfl, rfl, rfl⟩
theorem t_eachF {g : zg_G} {n : zg_N} (hM : TSh g) (h0 : ¬ zfi n aT tf_fault = 0) : PW zm_X6_eachOf 6 (zE (some (.long 0)) g n) 0 0 0 [(0, .ref aT)] [] g n := by
  refine pw_aload_n dX6_eachOf_0 0 rfl rfl ?_
  refine pw_callV0 zmM_X6_oneOf rfl (lw_V q2254 q2256 qs76 q150 q2257) rfl (ts_this hM) zc_X6 (t_oneF hM h0) (by decide) (Nat.le_refl _) (Nat.le_refl _) rfl (Nat.le_of_ble_eq_true rfl) (Nat.le_of_ble_eq_true rfl) dX6_eachOf_1 zE.nx (zE_kk ?_)
  refine pw_lstore_n (ls' := [(1, _), (0, _)]) dX6_eachOf_4 rfl (by decide) rfl ?_
  refine pw_ls [1, 0] (ls' := [(0, _), (1, _)]) rfl ?_
  refine pw_aload_n dX6_eachOf_5 0 rfl rfl ?_
  refine pw_iconst (v := 1) dX6_eachOf_6 (by decide) ?_
  refine pw_bipush (v := 14) dX6_eachOf_7 (by decide) ?_
  refine pw_iconst (v := 4) dX6_eachOf_9 (by decide) ?_
  refine pw_iconst (v := 0) dX6_eachOf_10 (by decide) ?_
  refine pw_iconst (v := 0) dX6_eachOf_11 (by decide) ?_
  refine pw_iconst (v := 0) dX6_eachOf_12 (by decide) ?_
  refine pw_callV6 zmM_X6_takes rfl (lw_V q2266 q2268 qs79 q150 q2269) rfl (ts_this hM) zc_X6 (t_takesF hM h0 _ _ _ _ _ _) (by decide) (Nat.le_refl _) (Nat.le_refl _) rfl (Nat.le_of_ble_eq_true rfl) (Nat.le_of_ble_eq_true rfl) dX6_eachOf_13 zE.nx (zE_kk ?_)
  refine pw_if_eq 29 dX6_eachOf_16 (by decide) (fun c_16 => ?_) (fun c_16 => ?_)
  · refine pw_lload_n dX6_eachOf_29 1 rfl rfl ?_
    refine pw_lret rfl dX6_eachOf_30 ?_
    exact ⟨rfl, rfl, rfl⟩
  · exact absurd rfl c_16
theorem t_anyF {g : zg_G} {n : zg_N} (hM : TSh g) (h0 : ¬ zfi n aT tf_fault = 0) : PW zm_X6_anyOf 7 (zE (some (.long 0)) g n) 0 0 0 [(0, .ref aT)] [] g n := by
  refine pw_aload_n dX6_anyOf_0 0 rfl rfl ?_
  refine pw_callV0 zmM_X6_eachOf rfl (lw_V q2250 q2252 qs75 q150 q2253) rfl (ts_this hM) zc_X6 (t_eachF hM h0) (by decide) (Nat.le_refl _) (Nat.le_refl _) rfl (Nat.le_of_ble_eq_true rfl) (Nat.le_of_ble_eq_true rfl) dX6_anyOf_1 zE.nx (zE_kk ?_)
  refine pw_lstore_n (ls' := [(1, _), (0, _)]) dX6_anyOf_4 rfl (by decide) rfl ?_
  refine pw_ls [1, 0] (ls' := [(0, _), (1, _)]) rfl ?_
  refine pw_aload_n dX6_anyOf_5 0 rfl rfl ?_
  refine pw_bipush (v := 15) dX6_anyOf_6 (by decide) ?_
  refine pw_bipush (v := 18) dX6_anyOf_8 (by decide) ?_
  refine pw_iconst (v := 0) dX6_anyOf_10 (by decide) ?_
  refine pw_iconst (v := 0) dX6_anyOf_11 (by decide) ?_
  refine pw_iconst (v := 0) dX6_anyOf_12 (by decide) ?_
  refine pw_iconst (v := 0) dX6_anyOf_13 (by decide) ?_
  refine pw_callV6 zmM_X6_takes rfl (lw_V q2266 q2268 qs79 q150 q2269) rfl (ts_this hM) zc_X6 (t_takesF hM h0 _ _ _ _ _ _) (by decide) (Nat.le_refl _) (Nat.le_refl _) rfl (Nat.le_of_ble_eq_true rfl) (Nat.le_of_ble_eq_true rfl) dX6_anyOf_14 zE.nx (zE_kk ?_)
  refine pw_if_eq 30 dX6_anyOf_17 (by decide) (fun c_17 => ?_) (fun c_17 => ?_)
  · refine pw_lload_n dX6_anyOf_30 1 rfl rfl ?_
    refine pw_lret rfl dX6_anyOf_31 ?_
    exact ⟨rfl, rfl, rfl⟩
  · exact absurd rfl c_17
theorem one_in {n : zg_N} {b : Nat → Nat} {N q a : Nat} (h : TX n b N) (h1 : 1 ≤ a) (ha : a ≤ 6) : (0 ≤ tv b N q - 97 ∧ tv b N q - 97 ≤ nI a - 1) ↔ (isLt (tb b N q) ∧ tb b N q < 97 + a) := by
  rw [show nI a - 1 = nI (a - 1) from nI_sub (b := 1) h1]
  unfold tv tb
  split
  · next hk =>
    have hb := (h.2.2 q hk).2
    have hs : (nI (b q) - 97).toInt = (b q : Int) - 97 := (show ∀ c, c < 256 → (nI c - 97).toInt = (c : Int) - 97 by decide +kernel) _ hb
    rw [Int32.le_iff_toInt_le, Int32.le_iff_toInt_le, hs, nI_toInt (by omega), Int32.toInt_zero]
    unfold isLt; omega
  · rw [Int32.le_iff_toInt_le, show ((-1 : Int32) - 97).toInt = -98 from by decide, Int32.toInt_zero]
    unfold isLt; omega
theorem pNeed_u {α : Type} (b : Nat → Nat) (N c p : Nat) (v : α) : pNeed b N c p v = pB (pNeed b N c p ()) (fun _ p1 => .inr (v, p1)) := by
  unfold pNeed
  split <;> rfl
abbrev TRa (n : zg_N) (a : Nat) : Prop := zai n at_readTold 0 = nI a
theorem tra_k {n n' : zg_N} {a : Nat} (h : TRa n a) (hf : zFr rF rA n n') : TRa n' a := ((hf.2 at_readTold (fun z => z) 0).1).trans h
theorem no_91 {b : Nat → Nat} {N q : Nat} {c : Nat} {w : List Nat} (h : tWd b N q = c :: w) : isLt (tb b N q) := by
  have h2 := tWd_at (b := b) (N := N) (p := q) (i := 0) (by rw [h]; exact Nat.succ_pos _)
  exact tWd_lt b N q _ (List.mem_of_getElem? h2)
set_option maxHeartbeats 1000000 in
theorem t_pS {g : zg_G} {b : Nat → Nat} {N a : Nat} (hM : TSh g) (h1 : 1 ≤ a) (ha : a ≤ 6) : ∀ f,
    (∀ o p n, o ≤ 6 → TRd n b N p o → TRa n a → pOk (pS b N a f 0 o 0 p) → PW zm_X6_anyOf (3 * (6 - o) + 9) (rR g n b N o mkL (pS b N a f 0 o 0 p)) 0 0 0 [(0, .ref aT)] [] g n) ∧
    (∀ o v p n, o ≤ 6 → TRd n b N p o → TRa n a → pOk (pS b N a f 1 o v p) → PW zm_X6_anyOf (3 * (6 - o) + 9) (rR g n b N o mkL (pS b N a f 1 o v p)) 0 0 5 [(0, .ref aT), (1, .long v)] [] g n) ∧
    (∀ o p n, o ≤ 6 → TRd n b N p o → TRa n a → pOk (pS b N a f 2 o 0 p) → PW zm_X6_eachOf (3 * (6 - o) + 8) (rR g n b N o mkL (pS b N a f 2 o 0 p)) 0 0 0 [(0, .ref aT)] [] g n) ∧
    (∀ o v p n, o ≤ 6 → TRd n b N p o → TRa n a → pOk (pS b N a f 3 o v p) → PW zm_X6_eachOf (3 * (6 - o) + 8) (rR g n b N o mkL (pS b N a f 3 o v p)) 0 0 5 [(0, .ref aT), (1, .long v)] [] g n) ∧
    (∀ o p n, o ≤ 6 → TRd n b N p o → TRa n a → pOk (pS b N a f 4 o 0 p) → PW zm_X6_oneOf (3 * (6 - o) + 7) (rR g n b N o mkL (pS b N a f 4 o 0 p)) 0 0 0 [(0, .ref aT)] [] g n) := by
  intro f
  induction f with
  | zero => exact ⟨fun _ _ _ _ _ _ h => absurd rfl h, fun _ _ _ _ _ _ _ h => absurd rfl h, fun _ _ _ _ _ _ h => absurd rfl h, fun _ _ _ _ _ _ _ h => absurd rfl h, fun _ _ _ _ _ _ h => absurd rfl h⟩
  | succ f ih =>
    obtain ⟨ih0, ih1, ih2, ih3, ih4⟩ := ih
    refine ⟨fun o p n ho hR hra hok => ?_, fun o v p n ho hR hra hok => ?_, fun o p n ho hR hra hok => ?_, fun o v p n ho hR hra hok => ?_, fun o p n ho hR hra hok => ?_⟩
    · rw [pS_0] at hok ⊢
      refine pw_aload_n dX6_anyOf_0 0 rfl rfl ?_
      refine pw_callV0 zmM_X6_eachOf rfl (lw_V q2250 q2252 qs75 q150 q2253) rfl (ts_this hM) zc_X6 (ih2 o p n ho hR hra (pOk_B hok)) (by omega) (Nat.le_refl _) (Nat.le_refl _) rfl (Nat.le_of_ble_eq_true rfl) (Nat.le_of_ble_eq_true rfl) dX6_anyOf_1 rR.nx (fun v1 g1 n1 h1 => ?_)
      obtain ⟨rfl, hf1, hr⟩ := h1
      cases hrr : pS b N a f 2 o 0 p with
      | inl e =>
        rw [hrr] at hr
        obtain ⟨⟨x, hx⟩, hF⟩ := hr
        cases hx
        refine pw_lstore_n (ls' := [(1, _), (0, _)]) dX6_anyOf_4 rfl (by decide) rfl ?_
        refine pw_ls [1, 0] (ls' := [(0, _), (1, _)]) rfl ?_
        refine pw_aload_n dX6_anyOf_5 0 rfl rfl ?_
        refine pw_bipush (v := 15) dX6_anyOf_6 (by decide) ?_
        refine pw_bipush (v := 18) dX6_anyOf_8 (by decide) ?_
        refine pw_iconst (v := 0) dX6_anyOf_10 (by decide) ?_
        refine pw_iconst (v := 0) dX6_anyOf_11 (by decide) ?_
        refine pw_iconst (v := 0) dX6_anyOf_12 (by decide) ?_
        refine pw_iconst (v := 0) dX6_anyOf_13 (by decide) ?_
        refine pw_callV6 zmM_X6_takes rfl (lw_V q2266 q2268 qs79 q150 q2269) rfl (ts_this hM) zc_X6 (t_takesF hM hF.ne _ _ _ _ _ _) (by omega) (Nat.le_refl _) (Nat.le_refl _) rfl (Nat.le_of_ble_eq_true rfl) (Nat.le_of_ble_eq_true rfl) dX6_anyOf_14 zE.nx (zE_kk ?_)
        refine pw_if_eq 30 dX6_anyOf_17 (by decide) (fun c_17 => ?_) (fun c_17 => ?_)
        · refine pw_lload_n dX6_anyOf_30 1 rfl rfl ?_
          refine pw_lret rfl dX6_anyOf_31 ?_
          exact rR.inl x hf1 hF
        · exact absurd rfl c_17
      | inr q =>
        rw [hrr] at hr hok
        obtain ⟨hx, hR1⟩ := hr
        cases hx
        refine pw_lstore_n (ls' := [(1, _), (0, _)]) dX6_anyOf_4 rfl (by decide) rfl ?_
        refine pw_ls [1, 0] (ls' := [(0, _), (1, _)]) rfl ?_
        exact pw_mono (fun _ _ _ h => rR.tr hf1 h) (ih1 o q.1 q.2 n1 ho hR1 (tra_k hra hf1) hok)
    · rw [pS_1] at hok ⊢
      refine pw_aload_n dX6_anyOf_5 0 rfl rfl ?_
      refine pw_bipush (v := 15) dX6_anyOf_6 (by decide) ?_
      refine pw_bipush (v := 18) dX6_anyOf_8 (by decide) ?_
      refine pw_iconst (v := 0) dX6_anyOf_10 (by decide) ?_
      refine pw_iconst (v := 0) dX6_anyOf_11 (by decide) ?_
      refine pw_iconst (v := 0) dX6_anyOf_12 (by decide) ?_
      refine pw_iconst (v := 0) dX6_anyOf_13 (by decide) ?_
      refine pw_callV6 zmM_X6_takes rfl (lw_V q2266 q2268 qs79 q150 q2269) rfl (ts_this hM) zc_X6 (t_takes hM hR wOr (by decide)) (by omega) (Nat.le_refl _) (Nat.le_refl _) rfl (Nat.le_of_ble_eq_true rfl) (Nat.le_of_ble_eq_true rfl) dX6_anyOf_14 (by intros; rintro ⟨h, _⟩; cases h) (fun v1 g1 n1 h1 => ?_)
      obtain ⟨h1, rfl, hR1, hf1⟩ := h1; cases h1
      refine pw_if_eq_B 30 dX6_anyOf_17 (by decide) (fun c_17 => ?_) (fun c_17 => ?_)
      · refine pw_lload_n dX6_anyOf_30 1 rfl rfl ?_
        refine pw_lret rfl dX6_anyOf_31 ?_
        rw [if_neg c_17]; unfold aftW at hR1; rw [if_neg c_17] at hR1; exact rR.inr hf1 hR1
      · rw [if_pos c_17] at hok ⊢
        unfold aftW at hR1
        rw [if_pos c_17] at hR1
        replace hR1 : TRd n1 b N (skp b N p + 2) o := hR1
        refine pw_lload_n dX6_anyOf_20 1 rfl rfl ?_
        refine pw_aload_n dX6_anyOf_21 0 rfl rfl ?_
        refine pw_callV0 zmM_X6_eachOf rfl (lw_V q2250 q2252 qs75 q150 q2253) rfl (ts_this hM) zc_X6 (ih2 o _ n1 ho hR1 (tra_k hra hf1) (pOk_B hok)) (by omega) (Nat.le_refl _) (Nat.le_refl _) rfl (Nat.le_of_ble_eq_true rfl) (Nat.le_of_ble_eq_true rfl) dX6_anyOf_22 rR.nx (fun v2 g2 n2 h2 => ?_)
        obtain ⟨rfl, hf2, hr⟩ := h2
        have hf3 := hf1.tr hf2
        cases hrr : pS b N a f 2 o 0 (skp b N p + 2) with
        | inl e =>
          rw [hrr] at hr
          obtain ⟨⟨x, hx⟩, hF⟩ := hr
          cases hx
          refine pw_lor dX6_anyOf_25 ?_
          refine pw_lstore_n (ls' := [(1, _), (0, _)]) dX6_anyOf_26 rfl (by decide) rfl ?_
          refine pw_ls [1, 0] (ls' := [(0, _), (1, _)]) rfl ?_
          refine pw_goto 5 dX6_anyOf_27 (by decide) ?_
          clear c_17
          refine pw_aload_n dX6_anyOf_5 0 rfl rfl ?_
          refine pw_bipush (v := 15) dX6_anyOf_6 (by decide) ?_
          refine pw_bipush (v := 18) dX6_anyOf_8 (by decide) ?_
          refine pw_iconst (v := 0) dX6_anyOf_10 (by decide) ?_
          refine pw_iconst (v := 0) dX6_anyOf_11 (by decide) ?_
          refine pw_iconst (v := 0) dX6_anyOf_12 (by decide) ?_
          refine pw_iconst (v := 0) dX6_anyOf_13 (by decide) ?_
          refine pw_callV6 zmM_X6_takes rfl (lw_V q2266 q2268 qs79 q150 q2269) rfl (ts_this hM) zc_X6 (t_takesF hM hF.ne _ _ _ _ _ _) (by omega) (Nat.le_refl _) (Nat.le_refl _) rfl (Nat.le_of_ble_eq_true rfl) (Nat.le_of_ble_eq_true rfl) dX6_anyOf_14 zE.nx (zE_kk ?_)
          refine pw_if_eq 30 dX6_anyOf_17 (by decide) (fun c_17 => ?_) (fun c_17 => ?_)
          · refine pw_lload_n dX6_anyOf_30 1 rfl rfl ?_
            refine pw_lret rfl dX6_anyOf_31 ?_
            exact rR.inl _ hf3 hF
          · exact absurd rfl c_17
        | inr q =>
          rw [hrr] at hr hok
          obtain ⟨hx, hR2⟩ := hr
          cases hx
          refine pw_lor dX6_anyOf_25 ?_
          refine pw_lstore_n (ls' := [(1, _), (0, _)]) dX6_anyOf_26 rfl (by decide) rfl ?_
          refine pw_ls [1, 0] (ls' := [(0, _), (1, _)]) rfl ?_
          refine pw_goto 5 dX6_anyOf_27 (by decide) ?_
          exact pw_mono (fun _ _ _ h => rR.tr hf3 h) (ih1 o _ q.2 n2 ho hR2 (tra_k hra hf3) hok)
    · rw [pS_2] at hok ⊢
      refine pw_aload_n dX6_eachOf_0 0 rfl rfl ?_
      refine pw_callV0 zmM_X6_oneOf rfl (lw_V q2254 q2256 qs76 q150 q2257) rfl (ts_this hM) zc_X6 (ih4 o p n ho hR hra (pOk_B hok)) (by omega) (Nat.le_refl _) (Nat.le_refl _) rfl (Nat.le_of_ble_eq_true rfl) (Nat.le_of_ble_eq_true rfl) dX6_eachOf_1 rR.nx (fun v1 g1 n1 h1 => ?_)
      obtain ⟨rfl, hf1, hr⟩ := h1
      cases hrr : pS b N a f 4 o 0 p with
      | inl e =>
        rw [hrr] at hr
        obtain ⟨⟨x, hx⟩, hF⟩ := hr
        cases hx
        refine pw_lstore_n (ls' := [(1, _), (0, _)]) dX6_eachOf_4 rfl (by decide) rfl ?_
        refine pw_ls [1, 0] (ls' := [(0, _), (1, _)]) rfl ?_
        refine pw_aload_n dX6_eachOf_5 0 rfl rfl ?_
        refine pw_iconst (v := 1) dX6_eachOf_6 (by decide) ?_
        refine pw_bipush (v := 14) dX6_eachOf_7 (by decide) ?_
        refine pw_iconst (v := 4) dX6_eachOf_9 (by decide) ?_
        refine pw_iconst (v := 0) dX6_eachOf_10 (by decide) ?_
        refine pw_iconst (v := 0) dX6_eachOf_11 (by decide) ?_
        refine pw_iconst (v := 0) dX6_eachOf_12 (by decide) ?_
        refine pw_callV6 zmM_X6_takes rfl (lw_V q2266 q2268 qs79 q150 q2269) rfl (ts_this hM) zc_X6 (t_takesF hM hF.ne _ _ _ _ _ _) (by omega) (Nat.le_refl _) (Nat.le_refl _) rfl (Nat.le_of_ble_eq_true rfl) (Nat.le_of_ble_eq_true rfl) dX6_eachOf_13 zE.nx (zE_kk ?_)
        refine pw_if_eq 29 dX6_eachOf_16 (by decide) (fun c_16 => ?_) (fun c_16 => ?_)
        · refine pw_lload_n dX6_eachOf_29 1 rfl rfl ?_
          refine pw_lret rfl dX6_eachOf_30 ?_
          exact rR.inl x hf1 hF
        · exact absurd rfl c_16
      | inr q =>
        rw [hrr] at hr hok
        obtain ⟨hx, hR1⟩ := hr
        cases hx
        refine pw_lstore_n (ls' := [(1, _), (0, _)]) dX6_eachOf_4 rfl (by decide) rfl ?_
        refine pw_ls [1, 0] (ls' := [(0, _), (1, _)]) rfl ?_
        exact pw_mono (fun _ _ _ h => rR.tr hf1 h) (ih3 o q.1 q.2 n1 ho hR1 (tra_k hra hf1) hok)
    · rw [pS_3] at hok ⊢
      refine pw_aload_n dX6_eachOf_5 0 rfl rfl ?_
      refine pw_iconst (v := 1) dX6_eachOf_6 (by decide) ?_
      refine pw_bipush (v := 14) dX6_eachOf_7 (by decide) ?_
      refine pw_iconst (v := 4) dX6_eachOf_9 (by decide) ?_
      refine pw_iconst (v := 0) dX6_eachOf_10 (by decide) ?_
      refine pw_iconst (v := 0) dX6_eachOf_11 (by decide) ?_
      refine pw_iconst (v := 0) dX6_eachOf_12 (by decide) ?_
      refine pw_callV6 zmM_X6_takes rfl (lw_V q2266 q2268 qs79 q150 q2269) rfl (ts_this hM) zc_X6 (t_takes hM hR wAnd (by decide)) (by omega) (Nat.le_refl _) (Nat.le_refl _) rfl (Nat.le_of_ble_eq_true rfl) (Nat.le_of_ble_eq_true rfl) dX6_eachOf_13 (by intros; rintro ⟨h, _⟩; cases h) (fun v1 g1 n1 h1 => ?_)
      obtain ⟨h1, rfl, hR1, hf1⟩ := h1; cases h1
      refine pw_if_eq_B 29 dX6_eachOf_16 (by decide) (fun c_16 => ?_) (fun c_16 => ?_)
      · refine pw_lload_n dX6_eachOf_29 1 rfl rfl ?_
        refine pw_lret rfl dX6_eachOf_30 ?_
        rw [if_neg c_16]; unfold aftW at hR1; rw [if_neg c_16] at hR1; exact rR.inr hf1 hR1
      · rw [if_pos c_16] at hok ⊢
        unfold aftW at hR1
        rw [if_pos c_16] at hR1
        replace hR1 : TRd n1 b N (skp b N p + 3) o := hR1
        refine pw_lload_n dX6_eachOf_19 1 rfl rfl ?_
        refine pw_aload_n dX6_eachOf_20 0 rfl rfl ?_
        refine pw_callV0 zmM_X6_oneOf rfl (lw_V q2254 q2256 qs76 q150 q2257) rfl (ts_this hM) zc_X6 (ih4 o _ n1 ho hR1 (tra_k hra hf1) (pOk_B hok)) (by omega) (Nat.le_refl _) (Nat.le_refl _) rfl (Nat.le_of_ble_eq_true rfl) (Nat.le_of_ble_eq_true rfl) dX6_eachOf_21 rR.nx (fun v2 g2 n2 h2 => ?_)
        obtain ⟨rfl, hf2, hr⟩ := h2
        have hf3 := hf1.tr hf2
        cases hrr : pS b N a f 4 o 0 (skp b N p + 3) with
        | inl e =>
          rw [hrr] at hr
          obtain ⟨⟨x, hx⟩, hF⟩ := hr
          cases hx
          refine pw_land dX6_eachOf_24 ?_
          refine pw_lstore_n (ls' := [(1, _), (0, _)]) dX6_eachOf_25 rfl (by decide) rfl ?_
          refine pw_ls [1, 0] (ls' := [(0, _), (1, _)]) rfl ?_
          refine pw_goto 5 dX6_eachOf_26 (by decide) ?_
          clear c_16
          refine pw_aload_n dX6_eachOf_5 0 rfl rfl ?_
          refine pw_iconst (v := 1) dX6_eachOf_6 (by decide) ?_
          refine pw_bipush (v := 14) dX6_eachOf_7 (by decide) ?_
          refine pw_iconst (v := 4) dX6_eachOf_9 (by decide) ?_
          refine pw_iconst (v := 0) dX6_eachOf_10 (by decide) ?_
          refine pw_iconst (v := 0) dX6_eachOf_11 (by decide) ?_
          refine pw_iconst (v := 0) dX6_eachOf_12 (by decide) ?_
          refine pw_callV6 zmM_X6_takes rfl (lw_V q2266 q2268 qs79 q150 q2269) rfl (ts_this hM) zc_X6 (t_takesF hM hF.ne _ _ _ _ _ _) (by omega) (Nat.le_refl _) (Nat.le_refl _) rfl (Nat.le_of_ble_eq_true rfl) (Nat.le_of_ble_eq_true rfl) dX6_eachOf_13 zE.nx (zE_kk ?_)
          refine pw_if_eq 29 dX6_eachOf_16 (by decide) (fun c_16 => ?_) (fun c_16 => ?_)
          · refine pw_lload_n dX6_eachOf_29 1 rfl rfl ?_
            refine pw_lret rfl dX6_eachOf_30 ?_
            exact rR.inl _ hf3 hF
          · exact absurd rfl c_16
        | inr q =>
          rw [hrr] at hr hok
          obtain ⟨hx, hR2⟩ := hr
          cases hx
          refine pw_land dX6_eachOf_24 ?_
          refine pw_lstore_n (ls' := [(1, _), (0, _)]) dX6_eachOf_25 rfl (by decide) rfl ?_
          refine pw_ls [1, 0] (ls' := [(0, _), (1, _)]) rfl ?_
          refine pw_goto 5 dX6_eachOf_26 (by decide) ?_
          exact pw_mono (fun _ _ _ h => rR.tr hf3 h) (ih3 o _ q.2 n2 ho hR2 (tra_k hra hf3) hok)
    · rw [pS_4] at hok ⊢
      refine pw_aload_n dX6_oneOf_0 0 rfl rfl ?_
      refine pw_geti 5 zc_X6 (ts_this hM) (by decide) q1991 (Or.inl rfl) dX6_oneOf_1 ?_
      refine pw_if_eq 9 dX6_oneOf_4 (by decide) (fun c_4 => ?_) (fun c_4 => ?_)
      · refine pw_aload_n dX6_oneOf_9 0 rfl rfl ?_
        refine pw_callV0 zmM_X6_blanks rfl (lw_V q2196 q2198 qs64 q150 q2199) rfl (ts_this hM) zc_X6 (t_blk hM hR) (by omega) (Nat.le_refl _) (Nat.le_refl _) rfl (Nat.le_of_ble_eq_true rfl) (Nat.le_of_ble_eq_true rfl) dX6_oneOf_10 (by intros; rintro ⟨h, _⟩; cases h) (fun v0 g0 n0 h0 => ?_)
        obtain ⟨h0, rfl, hR0, hf0⟩ := h0; cases h0
        have hra0 := tra_k hra hf0
        have hsk := skp_skp b N p
        generalize skp b N p = q at hok hR0 hsk ⊢
        have hX := hR0.1; have hN := hX.2.1; have hqN := hR0.2.2.2.2.1
        replace hR0 : TRd n0 b N q o := hR0
        refine pw_aload_n dX6_oneOf_13 0 rfl rfl ?_
        refine pw_getr 11 zc_X6 (ts_this hM) (by decide) q1997 (Or.inr ⟨_, rfl⟩) (tr_readTold hM) dX6_oneOf_14 ?_
        refine pw_iconst (v := 0) dX6_oneOf_17 (by decide) ?_
        refine pw_iald 0 rfl (ts_readTold hM) (by decide) (by decide) dX6_oneOf_18 ?_
        rw [hra0]
        refine pw_callS1 zmM_X6_allOf rfl (lw_S q1983 q1984 q150 q1985) (t_allOf a ha _ _) (by omega) (Nat.le_refl _) (Nat.le_refl _) rfl (Nat.le_of_ble_eq_true rfl) (Nat.le_of_ble_eq_true rfl) dX6_oneOf_19 zE.nx (zE_kk ?_)
        refine pw_lstore_n (ls' := [(1, _), (0, _)]) dX6_oneOf_22 rfl (by decide) rfl ?_
        refine pw_ls [1, 0] (ls' := [(0, _), (1, _)]) rfl ?_
        refine pw_lconst (v := 0) dX6_oneOf_23 rfl ?_
        refine pw_lstore_n (ls' := [(3, _), (0, _), (1, _)]) dX6_oneOf_24 rfl (by decide) rfl ?_
        refine pw_ls [1, 2, 0] (ls' := [(0, _), (1, _), (3, _)]) rfl ?_
        refine pw_aload_n dX6_oneOf_25 0 rfl rfl ?_
        refine pw_bipush (v := 14) dX6_oneOf_26 (by decide) ?_
        refine pw_bipush (v := 15) dX6_oneOf_28 (by decide) ?_
        refine pw_bipush (v := 20) dX6_oneOf_30 (by decide) ?_
        refine pw_iconst (v := 0) dX6_oneOf_32 (by decide) ?_
        refine pw_iconst (v := 0) dX6_oneOf_33 (by decide) ?_
        refine pw_iconst (v := 0) dX6_oneOf_34 (by decide) ?_
        refine pw_callV6 zmM_X6_isWord rfl (lw_V q2212 q2214 qs68 q150 q2215) rfl (ts_this hM) zc_X6 (t_isWord hM hR0 wNot (by decide)) (by omega) (Nat.le_refl _) (Nat.le_refl _) rfl (Nat.le_of_ble_eq_true rfl) (Nat.le_of_ble_eq_true rfl) dX6_oneOf_35 (by intros; rintro ⟨h, _⟩; cases h) (fun v1 g1 n1 h1 => ?_)
        obtain ⟨h1, rfl, hR1, hf1⟩ := h1; cases h1
        rw [hsk] at hR1 ⊢
        have hra1 := tra_k hra0 hf1
        have hf1 := hf0.tr hf1
        clear hR0 hra0 hf0 hX
        have hX := hR1.1
        refine pw_if_eq_B 78 dX6_oneOf_38 (by decide) (fun c_38 => ?_) (fun c_38 => ?_)
        · refine pw_aload_n dX6_oneOf_78 0 rfl rfl ?_
          refine pw_aload_n dX6_oneOf_79 0 rfl rfl ?_
          refine pw_geti 4 zc_X6 (ts_this hM) (by decide) q1990 (Or.inl rfl) dX6_oneOf_80 ?_
          rw [hR1.2.2.1]
          refine pw_callV1 zmM_X6_byteAt rfl (lw_V q2200 q2202 qs65 q150 q2203) rfl (ts_this hM) zc_X6 (t_byteAt hM hX q (by omega)) (by omega) (Nat.le_refl _) (Nat.le_refl _) rfl (Nat.le_of_ble_eq_true rfl) (Nat.le_of_ble_eq_true rfl) dX6_oneOf_83 zE.nx (zE_kk ?_)
          refine pw_bipush (v := 91) dX6_oneOf_86 (by decide) ?_
          refine pw_icmp_ne 134 dX6_oneOf_88 (by decide) (fun c_88 => ?_) (fun c_88 => ?_)
          · refine pw_aload_n dX6_oneOf_134 0 rfl rfl ?_
            refine pw_bipush (v := 9) dX6_oneOf_135 (by decide) ?_
            refine pw_bipush (v := 6) dX6_oneOf_137 (by decide) ?_
            refine pw_iconst (v := 0) dX6_oneOf_139 (by decide) ?_
            refine pw_iconst (v := 0) dX6_oneOf_140 (by decide) ?_
            refine pw_iconst (v := 0) dX6_oneOf_141 (by decide) ?_
            refine pw_iconst (v := 0) dX6_oneOf_142 (by decide) ?_
            refine pw_callV6 zmM_X6_isWord rfl (lw_V q2212 q2214 qs68 q150 q2215) rfl (ts_this hM) zc_X6 (t_isWord hM hR1 wIf (by decide)) (by omega) (Nat.le_refl _) (Nat.le_refl _) rfl (Nat.le_of_ble_eq_true rfl) (Nat.le_of_ble_eq_true rfl) dX6_oneOf_143 (by intros; rintro ⟨h, _⟩; cases h) (fun v2 g2 n2 h2 => ?_)
            obtain ⟨h2, rfl, hR2, hf2⟩ := h2; cases h2
            rw [hsk] at hR2 ⊢
            have hra2 := tra_k hra1 hf2
            have h91 : ¬ tb b N q = 91 := fun z => c_88 ((tv_eq (c := 91) hX (by decide)).mpr z)
            have hf2 := hf1.tr hf2
            clear hR1 hra1 hf1 hX
            have hX := hR2.1
            unfold pOne at hok ⊢
            rw [if_neg h91, if_neg c_38] at hok ⊢
            refine pw_if_eq_B 218 dX6_oneOf_146 (by decide) (fun c_146 => ?_) (fun c_146 => ?_)
            · rw [if_neg c_146]
              refine pw_aload_n dX6_oneOf_218 0 rfl rfl ?_
              refine pw_aload_n dX6_oneOf_219 0 rfl rfl ?_
              refine pw_geti 4 zc_X6 (ts_this hM) (by decide) q1990 (Or.inl rfl) dX6_oneOf_220 ?_
              rw [hR2.2.2.1]
              refine pw_callV1 zmM_X6_byteAt rfl (lw_V q2200 q2202 qs65 q150 q2203) rfl (ts_this hM) zc_X6 (t_byteAt hM hX q (by omega)) (by omega) (Nat.le_refl _) (Nat.le_refl _) rfl (Nat.le_of_ble_eq_true rfl) (Nat.le_of_ble_eq_true rfl) dX6_oneOf_223 zE.nx (zE_kk ?_)
              refine pw_bipush (v := 97) dX6_oneOf_226 (by decide) ?_
              refine pw_isub dX6_oneOf_228 ?_
              refine pw_istore (ls' := [(5, _), (0, _), (1, _), (3, _)]) dX6_oneOf_229 (by decide) rfl ?_
              refine pw_ls [1, 2, 3, 0] (ls' := [(0, _), (1, _), (3, _), (5, _)]) rfl ?_
              refine pw_iload dX6_oneOf_231 3 rfl ?_
              refine pw_iconst (v := 0) dX6_oneOf_233 (by decide) ?_
              refine pw_aload_n dX6_oneOf_234 0 rfl rfl ?_
              refine pw_getr 11 zc_X6 (ts_this hM) (by decide) q1997 (Or.inr ⟨_, rfl⟩) (tr_readTold hM) dX6_oneOf_235 ?_
              refine pw_iconst (v := 0) dX6_oneOf_238 (by decide) ?_
              refine pw_iald 0 rfl (ts_readTold hM) (by decide) (by decide) dX6_oneOf_239 ?_
              rw [hra2]
              refine pw_iconst (v := 1) dX6_oneOf_240 (by decide) ?_
              refine pw_isub dX6_oneOf_241 ?_
              refine pw_callS3 zmM_X6_in rfl (lw_S q2185 q2186 q150 q2187) (t_in _ _ _ _ _) (by omega) (Nat.le_refl _) (Nat.le_refl _) rfl (Nat.le_of_ble_eq_true rfl) (Nat.le_of_ble_eq_true rfl) dX6_oneOf_242 zE.nx (zE_kk ?_)
              refine pw_if_eq_B 264 dX6_oneOf_245 (by decide) (fun c_245 => ?_) (fun c_245 => ?_)
              · refine pw_aload_n dX6_oneOf_264 0 rfl rfl ?_
                refine pw_iconst (v := 1) dX6_oneOf_265 (by decide) ?_
                refine pw_aload_n dX6_oneOf_266 0 rfl rfl ?_
                refine pw_geti 4 zc_X6 (ts_this hM) (by decide) q1990 (Or.inl rfl) dX6_oneOf_267 ?_
                rw [hR2.2.2.1]
                refine pw_callV2 zmM_X6_wrong rfl (lw_V q2226 q2228 qs70 q150 q2229) rfl (ts_this hM) zc_X6 (t_wrong hM _ _ hR2.2.1) (by omega) (Nat.le_refl _) (Nat.le_refl _) rfl (Nat.le_of_ble_eq_true rfl) (Nat.le_of_ble_eq_true rfl) dX6_oneOf_270 zE.nx (zE_kk ?_)
                refine pw_goto 288 dX6_oneOf_273 (by decide) ?_
                refine pw_aload_n dX6_oneOf_288 0 rfl rfl ?_
                refine pw_dup dX6_oneOf_289 rfl ?_
                refine pw_geti 4 zc_X6 (ts_this hM) (by decide) q1990 (Or.inl rfl) dX6_oneOf_290 ?_
                refine pw_aload_n dX6_oneOf_293 0 rfl rfl ?_
                refine pw_geti 5 zc_X6 (ts_this hM) (by decide) q1991 (Or.inl rfl) dX6_oneOf_294 ?_
                refine pw_if_ne 304 dX6_oneOf_297 (by decide) (fun c_297 => ?_) (fun c_297 => ?_)
                · refine pw_iconst (v := 0) dX6_oneOf_304 (by decide) ?_
                  refine pw_iadd dX6_oneOf_305 ?_
                  refine pw_puti 4 zc_X6 (ts_this hM) (by decide) (by decide) q1990 rfl (Or.inl rfl) rfl rfl dX6_oneOf_306 ?_
                  refine pw_ls [0, 1, 2] (ls' := [(0, _), (1, _), (3, _)]) rfl ?_
                  refine pw_lload_n dX6_oneOf_309 2 rfl rfl ?_
                  refine pw_lret rfl dX6_oneOf_310 ?_
                  have hw := hR2.wr (k := 1) (q := q) (by decide) (by decide)
                  rw [if_neg (fun z => c_245 ((one_in hX h1 ha).mpr z.1))]
                  exact rR.inl _ ((hf2.tr hw.2).pfi rF_at) (hw.1.at ⟨q, by rw [Int32.add_zero]; exact hR2.2.2.1, Nat.le_trans hR2.2.2.2.2.1 hN⟩)
                · exact absurd c_297 (by show ¬ (1 : Int32) = 0; decide)
              · refine pw_aload_n dX6_oneOf_248 0 rfl rfl ?_
                refine pw_aload_n dX6_oneOf_249 0 rfl rfl ?_
                refine pw_geti 4 zc_X6 (ts_this hM) (by decide) q1990 (Or.inl rfl) dX6_oneOf_250 ?_
                rw [hR2.2.2.1]
                refine pw_iconst (v := 1) dX6_oneOf_253 (by decide) ?_
                refine pw_iadd dX6_oneOf_254 ?_
                rw [nI_1]
                refine pw_callV1 zmM_X6_byteAt rfl (lw_V q2200 q2202 qs65 q150 q2203) rfl (ts_this hM) zc_X6 (t_byteAt hM hX (q + 1) (by omega)) (by omega) (Nat.le_refl _) (Nat.le_refl _) rfl (Nat.le_of_ble_eq_true rfl) (Nat.le_of_ble_eq_true rfl) dX6_oneOf_255 zE.nx (zE_kk ?_)
                refine pw_callS1 zmM_X6_isSmall rfl (lw_S q2220 q2221 q150 q2222) (t_isSmall _ _ _) (by omega) (Nat.le_refl _) (Nat.le_refl _) rfl (Nat.le_of_ble_eq_true rfl) (Nat.le_of_ble_eq_true rfl) dX6_oneOf_258 zE.nx (zE_kk ?_)
                refine pw_if_eq_B 276 dX6_oneOf_261 (by decide) (fun c_261 => ?_) (fun c_261 => ?_)
                · have hin := (one_in hX h1 ha).mp c_245
                  rw [tv_nI hX (by have := hin.1; unfold isLt at this; omega), show (97 : Int32) = nI 97 from rfl, nI_sub hin.1.1]
                  refine pw_iload dX6_oneOf_276 3 rfl ?_
                  refine pw_aload_n dX6_oneOf_278 0 rfl rfl ?_
                  refine pw_getr 11 zc_X6 (ts_this hM) (by decide) q1997 (Or.inr ⟨_, rfl⟩) (tr_readTold hM) dX6_oneOf_279 ?_
                  refine pw_iconst (v := 0) dX6_oneOf_282 (by decide) ?_
                  refine pw_iald 0 rfl (ts_readTold hM) (by decide) (by decide) dX6_oneOf_283 ?_
                  rw [hra2]
                  refine pw_callS2 zmM_X6_atomOf rfl (lw_S q2270 q2271 q150 q2272) (t_atomOf (tb b N q - 97) a (by omega) ha _ _) (by omega) (Nat.le_refl _) (Nat.le_refl _) rfl (Nat.le_of_ble_eq_true rfl) (Nat.le_of_ble_eq_true rfl) dX6_oneOf_284 zE.nx (zE_kk ?_)
                  refine pw_lstore_n (ls' := [(3, _), (0, _), (1, _), (5, _)]) dX6_oneOf_287 rfl (by decide) rfl ?_
                  refine pw_ls [1, 2, 0, 3] (ls' := [(0, _), (1, _), (3, _), (5, _)]) rfl ?_
                  refine pw_aload_n dX6_oneOf_288 0 rfl rfl ?_
                  refine pw_dup dX6_oneOf_289 rfl ?_
                  refine pw_geti 4 zc_X6 (ts_this hM) (by decide) q1990 (Or.inl rfl) dX6_oneOf_290 ?_
                  rw [hR2.2.2.1]
                  refine pw_aload_n dX6_oneOf_293 0 rfl rfl ?_
                  refine pw_geti 5 zc_X6 (ts_this hM) (by decide) q1991 (Or.inl rfl) dX6_oneOf_294 ?_
                  refine pw_if_ne 304 dX6_oneOf_297 (by decide) (fun c_297 => ?_) (fun c_297 => ?_)
                  · exact absurd hR2.2.1 c_297
                  · refine pw_iconst (v := 1) dX6_oneOf_300 (by decide) ?_
                    refine pw_goto 305 dX6_oneOf_301 (by decide) ?_
                    refine pw_iadd dX6_oneOf_305 ?_
                    rw [nI_1]
                    refine pw_puti 4 zc_X6 (ts_this hM) (by decide) (by decide) q1990 rfl (Or.inl rfl) rfl rfl dX6_oneOf_306 ?_
                    refine pw_ls [0, 1, 2] (ls' := [(0, _), (1, _), (3, _)]) rfl ?_
                    refine pw_lload_n dX6_oneOf_309 2 rfl rfl ?_
                    refine pw_lret rfl dX6_oneOf_310 ?_
                    rw [if_pos ⟨hin, fun z => c_261 ((tv_small hX).mpr z)⟩]
                    have hlt : q + 1 ≤ N := tb_lt (b := b) (by have := hin.1; unfold isLt at this; omega)
                    exact rR.inr (hf2.pfi rF_at) (hR2.at hlt)
                · refine pw_aload_n dX6_oneOf_264 0 rfl rfl ?_
                  refine pw_iconst (v := 1) dX6_oneOf_265 (by decide) ?_
                  refine pw_aload_n dX6_oneOf_266 0 rfl rfl ?_
                  refine pw_geti 4 zc_X6 (ts_this hM) (by decide) q1990 (Or.inl rfl) dX6_oneOf_267 ?_
                  rw [hR2.2.2.1]
                  refine pw_callV2 zmM_X6_wrong rfl (lw_V q2226 q2228 qs70 q150 q2229) rfl (ts_this hM) zc_X6 (t_wrong hM _ _ hR2.2.1) (by omega) (Nat.le_refl _) (Nat.le_refl _) rfl (Nat.le_of_ble_eq_true rfl) (Nat.le_of_ble_eq_true rfl) dX6_oneOf_270 zE.nx (zE_kk ?_)
                  refine pw_goto 288 dX6_oneOf_273 (by decide) ?_
                  refine pw_aload_n dX6_oneOf_288 0 rfl rfl ?_
                  refine pw_dup dX6_oneOf_289 rfl ?_
                  refine pw_geti 4 zc_X6 (ts_this hM) (by decide) q1990 (Or.inl rfl) dX6_oneOf_290 ?_
                  refine pw_aload_n dX6_oneOf_293 0 rfl rfl ?_
                  refine pw_geti 5 zc_X6 (ts_this hM) (by decide) q1991 (Or.inl rfl) dX6_oneOf_294 ?_
                  refine pw_if_ne 304 dX6_oneOf_297 (by decide) (fun c_297 => ?_) (fun c_297 => ?_)
                  · refine pw_iconst (v := 0) dX6_oneOf_304 (by decide) ?_
                    refine pw_iadd dX6_oneOf_305 ?_
                    refine pw_puti 4 zc_X6 (ts_this hM) (by decide) (by decide) q1990 rfl (Or.inl rfl) rfl rfl dX6_oneOf_306 ?_
                    refine pw_ls [0, 1, 2] (ls' := [(0, _), (1, _), (3, _)]) rfl ?_
                    refine pw_lload_n dX6_oneOf_309 2 rfl rfl ?_
                    refine pw_lret rfl dX6_oneOf_310 ?_
                    have hw := hR2.wr (k := 1) (q := q) (by decide) (by decide)
                    rw [if_neg (fun z => z.2 ((tv_small hX).mp c_261))]
                    exact rR.inl _ ((hf2.tr hw.2).pfi rF_at) (hw.1.at ⟨q, by rw [Int32.add_zero]; exact hR2.2.2.1, Nat.le_trans hR2.2.2.2.2.1 hN⟩)
                  · exact absurd c_297 (by show ¬ (1 : Int32) = 0; decide)
            · rw [if_pos c_146] at hok ⊢
              by_cases ho6 : o = 6
              · rw [if_pos ho6] at hok ⊢
                refine pw_aload_n dX6_oneOf_149 0 rfl rfl ?_
                refine pw_callV0 zmM_X6_opens rfl (lw_V q2258 q2260 qs77 q150 q2261) rfl (ts_this hM) zc_X6 (t_opens6 hM hR2 ho6) (by omega) (Nat.le_refl _) (Nat.le_refl _) rfl (Nat.le_of_ble_eq_true rfl) (Nat.le_of_ble_eq_true rfl) dX6_oneOf_150 (by intros; rintro ⟨h, _⟩; cases h) (fun v3 g3 n3 h3 => ?_)
                obtain ⟨h3, rfl, hF, hf3⟩ := h3; cases h3
                refine pw_if_ne 158 dX6_oneOf_153 (by decide) (fun c_153 => ?_) (fun c_153 => ?_)
                · exact absurd rfl c_153
                · refine pw_lconst (v := 0) dX6_oneOf_156 rfl ?_
                  refine pw_lret rfl dX6_oneOf_157 ?_
                  exact rR.inl _ (hf2.tr hf3) hF
              · rw [if_neg ho6] at hok ⊢
                refine pw_aload_n dX6_oneOf_149 0 rfl rfl ?_
                refine pw_callV0 zmM_X6_opens rfl (lw_V q2258 q2260 qs77 q150 q2261) rfl (ts_this hM) zc_X6 (t_opens hM hR2 (by omega)) (by omega) (Nat.le_refl _) (Nat.le_refl _) rfl (Nat.le_of_ble_eq_true rfl) (Nat.le_of_ble_eq_true rfl) dX6_oneOf_150 (by intros; rintro ⟨h, _⟩; cases h) (fun v3 g3 n3 h3 => ?_)
                obtain ⟨h3, rfl, hR3, hf3⟩ := h3; cases h3
                refine pw_if_ne 158 dX6_oneOf_153 (by decide) (fun c_153 => ?_) (fun c_153 => ?_)
                · refine pw_aload_n dX6_oneOf_158 0 rfl rfl ?_
                  refine pw_callV0 zmM_X6_skipWord rfl (lw_V q2234 q2236 qs72 q150 q2237) rfl (ts_this hM) zc_X6 (t_skw hM hR3) (by omega) (Nat.le_refl _) (Nat.le_refl _) rfl (Nat.le_of_ble_eq_true rfl) (Nat.le_of_ble_eq_true rfl) dX6_oneOf_159 (by intros; rintro ⟨h, _⟩; cases h) (fun v4 g4 n4 h4 => ?_)
                  obtain ⟨h4, rfl, hR4, hf4⟩ := h4; cases h4
                  rw [c_146] at hR4
                  replace hR4 : TRd n4 b N (q + 2) (o + 1) := hR4
                  have hf4 := hf3.tr hf4
                  refine pw_lload_n dX6_oneOf_162 1 rfl rfl ?_
                  refine pw_aload_n dX6_oneOf_163 0 rfl rfl ?_
                  refine pw_callV0 zmM_X6_oneOf rfl (lw_V q2254 q2256 qs76 q150 q2257) rfl (ts_this hM) zc_X6 (ih4 (o + 1) _ n4 (by omega) hR4 (tra_k hra2 hf4) (pOk_B hok)) (by omega) (Nat.le_refl _) (Nat.le_refl _) rfl (Nat.le_of_ble_eq_true rfl) (Nat.le_of_ble_eq_true rfl) dX6_oneOf_164 rR.nx (fun v5 g5 n5 h5 => ?_)
                  obtain ⟨rfl, hf5, hr⟩ := h5
                  have hf6 := hf2.tr (hf4.tr hf5)
                  cases hrr : pS b N a f 4 (o + 1) 0 (q + 2) with
                  | inl e =>
                    rw [hrr] at hr
                    obtain ⟨⟨x, hx⟩, hF⟩ := hr
                    cases hx
                    refine pw_ldc2 q1972 dX6_oneOf_167 ?_
                    refine pw_lxor dX6_oneOf_170 ?_
                    refine pw_land dX6_oneOf_171 ?_
                    refine pw_lstore_n (ls' := [(3, _), (0, _), (1, _)]) dX6_oneOf_172 rfl (by decide) rfl ?_
                    refine pw_ls [1, 2, 0] (ls' := [(0, _), (1, _), (3, _)]) rfl ?_
                    refine pw_aload_n dX6_oneOf_173 0 rfl rfl ?_
                    refine pw_bipush (v := 20) dX6_oneOf_174 (by decide) ?_
                    refine pw_bipush (v := 8) dX6_oneOf_176 (by decide) ?_
                    refine pw_iconst (v := 5) dX6_oneOf_178 (by decide) ?_
                    refine pw_bipush (v := 14) dX6_oneOf_179 (by decide) ?_
                    refine pw_iconst (v := 0) dX6_oneOf_181 (by decide) ?_
                    refine pw_iconst (v := 0) dX6_oneOf_182 (by decide) ?_
                    refine pw_callV6 zmM_X6_takes rfl (lw_V q2266 q2268 qs79 q150 q2269) rfl (ts_this hM) zc_X6 (t_takesF hM hF.ne _ _ _ _ _ _) (by omega) (Nat.le_refl _) (Nat.le_refl _) rfl (Nat.le_of_ble_eq_true rfl) (Nat.le_of_ble_eq_true rfl) dX6_oneOf_183 zE.nx (zE_kk ?_)
                    refine pw_if_ne 198 dX6_oneOf_186 (by decide) (fun c_186 => ?_) (fun c_186 => ?_)
                    · exact absurd rfl c_186
                    · refine pw_aload_n dX6_oneOf_189 0 rfl rfl ?_
                      refine pw_iconst (v := 1) dX6_oneOf_190 (by decide) ?_
                      refine pw_aload_n dX6_oneOf_191 0 rfl rfl ?_
                      refine pw_geti 4 zc_X6 (ts_this hM) (by decide) q1990 (Or.inl rfl) dX6_oneOf_192 ?_
                      refine pw_callV2 zmM_X6_wrong rfl (lw_V q2226 q2228 qs70 q150 q2229) rfl (ts_this hM) zc_X6 (t_wrongF hM _ _ hF.ne) (by omega) (Nat.le_refl _) (Nat.le_refl _) rfl (Nat.le_of_ble_eq_true rfl) (Nat.le_of_ble_eq_true rfl) dX6_oneOf_195 zE.nx (zE_kk ?_)
                      refine pw_lload_n dX6_oneOf_198 2 rfl rfl ?_
                      refine pw_aload_n dX6_oneOf_199 0 rfl rfl ?_
                      refine pw_callV0 zmM_X6_oneOf rfl (lw_V q2254 q2256 qs76 q150 q2257) rfl (ts_this hM) zc_X6 (t_oneF hM hF.ne) (by omega) (Nat.le_refl _) (Nat.le_refl _) rfl (Nat.le_of_ble_eq_true rfl) (Nat.le_of_ble_eq_true rfl) dX6_oneOf_200 zE.nx (zE_kk ?_)
                      refine pw_lor dX6_oneOf_203 ?_
                      refine pw_lstore_n (ls' := [(3, _), (0, _), (1, _)]) dX6_oneOf_204 rfl (by decide) rfl ?_
                      refine pw_ls [1, 2, 0] (ls' := [(0, _), (1, _), (3, _)]) rfl ?_
                      refine pw_aload_n dX6_oneOf_205 0 rfl rfl ?_
                      refine pw_dup dX6_oneOf_206 rfl ?_
                      refine pw_geti 8 zc_X6 (ts_this hM) (by decide) q1994 (Or.inl rfl) dX6_oneOf_207 ?_
                      refine pw_iconst (v := 1) dX6_oneOf_210 (by decide) ?_
                      refine pw_isub dX6_oneOf_211 ?_
                      refine pw_puti 8 zc_X6 (ts_this hM) (by decide) (by decide) q1994 rfl (Or.inl rfl) rfl rfl dX6_oneOf_212 ?_
                      refine pw_goto 309 dX6_oneOf_215 (by decide) ?_
                      refine pw_lload_n dX6_oneOf_309 2 rfl rfl ?_
                      refine pw_lret rfl dX6_oneOf_310 ?_
                      exact rR.inl _ (hf6.pfi rF_op) hF.op
                  | inr z =>
                    rw [hrr] at hr hok
                    obtain ⟨hx, hR5⟩ := hr
                    cases hx
                    replace hok : pOk (if tWd b N (skp b N z.2) = wThen then pB (pS b N a f 4 (o + 1) 0 (skp b N z.2 + 4)) (fun v p2 => .inr ((wAll a &&& (z.1 ^^^ -1)) ||| v, p2)) else .inl (1, skp b N z.2)) := hok
                    show PW zm_X6_oneOf _ (rR _ n b N o mkL (if tWd b N (skp b N z.2) = wThen then pB (pS b N a f 4 (o + 1) 0 (skp b N z.2 + 4)) (fun v p2 => .inr ((wAll a &&& (z.1 ^^^ -1)) ||| v, p2)) else .inl (1, skp b N z.2))) _ _ _ _ _ _ _
                    refine pw_ldc2 q1972 dX6_oneOf_167 ?_
                    refine pw_lxor dX6_oneOf_170 ?_
                    refine pw_land dX6_oneOf_171 ?_
                    refine pw_lstore_n (ls' := [(3, _), (0, _), (1, _)]) dX6_oneOf_172 rfl (by decide) rfl ?_
                    refine pw_ls [1, 2, 0] (ls' := [(0, _), (1, _), (3, _)]) rfl ?_
                    refine pw_aload_n dX6_oneOf_173 0 rfl rfl ?_
                    refine pw_bipush (v := 20) dX6_oneOf_174 (by decide) ?_
                    refine pw_bipush (v := 8) dX6_oneOf_176 (by decide) ?_
                    refine pw_iconst (v := 5) dX6_oneOf_178 (by decide) ?_
                    refine pw_bipush (v := 14) dX6_oneOf_179 (by decide) ?_
                    refine pw_iconst (v := 0) dX6_oneOf_181 (by decide) ?_
                    refine pw_iconst (v := 0) dX6_oneOf_182 (by decide) ?_
                    refine pw_callV6 zmM_X6_takes rfl (lw_V q2266 q2268 qs79 q150 q2269) rfl (ts_this hM) zc_X6 (t_takes hM hR5 wThen (by decide)) (by omega) (Nat.le_refl _) (Nat.le_refl _) rfl (Nat.le_of_ble_eq_true rfl) (Nat.le_of_ble_eq_true rfl) dX6_oneOf_183 (by intros; rintro ⟨h, _⟩; cases h) (fun v7 g7 n7 h7 => ?_)
                    obtain ⟨h7, rfl, hR7, hf7⟩ := h7; cases h7
                    refine pw_if_ne_B 198 dX6_oneOf_186 (by decide) (fun c_186 => ?_) (fun c_186 => ?_)
                    · rw [if_pos c_186] at hok ⊢
                      unfold aftW at hR7
                      rw [if_pos c_186] at hR7
                      replace hR7 : TRd n7 b N (skp b N z.2 + 4) (o + 1) := hR7
                      have hf8 := hf6.tr hf7
                      clear c_186
                      refine pw_lload_n dX6_oneOf_198 2 rfl rfl ?_
                      refine pw_aload_n dX6_oneOf_199 0 rfl rfl ?_
                      refine pw_callV0 zmM_X6_oneOf rfl (lw_V q2254 q2256 qs76 q150 q2257) rfl (ts_this hM) zc_X6 (ih4 (o + 1) _ n7 (by omega) hR7 (tra_k hra hf8) (pOk_B hok)) (by omega) (Nat.le_refl _) (Nat.le_refl _) rfl (Nat.le_of_ble_eq_true rfl) (Nat.le_of_ble_eq_true rfl) dX6_oneOf_200 rR.nx (fun v9 g9 n9 h9 => ?_)
                      obtain ⟨rfl, hf9, hr9⟩ := h9
                      have hf10 := hf8.tr hf9
                      cases hr10 : pS b N a f 4 (o + 1) 0 (skp b N z.2 + 4) with
                      | inl e =>
                        rw [hr10] at hr9
                        obtain ⟨⟨x, hx⟩, hF⟩ := hr9
                        cases hx
                        refine pw_lor dX6_oneOf_203 ?_
                        refine pw_lstore_n (ls' := [(3, _), (0, _), (1, _)]) dX6_oneOf_204 rfl (by decide) rfl ?_
                        refine pw_ls [1, 2, 0] (ls' := [(0, _), (1, _), (3, _)]) rfl ?_
                        refine pw_aload_n dX6_oneOf_205 0 rfl rfl ?_
                        refine pw_dup dX6_oneOf_206 rfl ?_
                        refine pw_geti 8 zc_X6 (ts_this hM) (by decide) q1994 (Or.inl rfl) dX6_oneOf_207 ?_
                        refine pw_iconst (v := 1) dX6_oneOf_210 (by decide) ?_
                        refine pw_isub dX6_oneOf_211 ?_
                        refine pw_puti 8 zc_X6 (ts_this hM) (by decide) (by decide) q1994 rfl (Or.inl rfl) rfl rfl dX6_oneOf_212 ?_
                        refine pw_goto 309 dX6_oneOf_215 (by decide) ?_
                        refine pw_lload_n dX6_oneOf_309 2 rfl rfl ?_
                        refine pw_lret rfl dX6_oneOf_310 ?_
                        exact rR.inl _ (hf10.pfi rF_op) hF.op
                      | inr y =>
                        rw [hr10] at hr9
                        obtain ⟨hx, hR10⟩ := hr9
                        cases hx
                        refine pw_lor dX6_oneOf_203 ?_
                        refine pw_lstore_n (ls' := [(3, _), (0, _), (1, _)]) dX6_oneOf_204 rfl (by decide) rfl ?_
                        refine pw_ls [1, 2, 0] (ls' := [(0, _), (1, _), (3, _)]) rfl ?_
                        refine pw_aload_n dX6_oneOf_205 0 rfl rfl ?_
                        refine pw_dup dX6_oneOf_206 rfl ?_
                        refine pw_geti 8 zc_X6 (ts_this hM) (by decide) q1994 (Or.inl rfl) dX6_oneOf_207 ?_
                        rw [hR10.2.2.2.1]
                        refine pw_iconst (v := 1) dX6_oneOf_210 (by decide) ?_
                        refine pw_isub dX6_oneOf_211 ?_
                        rw [nI_pred]
                        refine pw_puti 8 zc_X6 (ts_this hM) (by decide) (by decide) q1994 rfl (Or.inl rfl) rfl rfl dX6_oneOf_212 ?_
                        refine pw_goto 309 dX6_oneOf_215 (by decide) ?_
                        refine pw_lload_n dX6_oneOf_309 2 rfl rfl ?_
                        refine pw_lret rfl dX6_oneOf_310 ?_
                        exact rR.inr (hf10.pfi rF_op) hR10.op
                    · refine pw_aload_n dX6_oneOf_189 0 rfl rfl ?_
                      refine pw_iconst (v := 1) dX6_oneOf_190 (by decide) ?_
                      refine pw_aload_n dX6_oneOf_191 0 rfl rfl ?_
                      refine pw_geti 4 zc_X6 (ts_this hM) (by decide) q1990 (Or.inl rfl) dX6_oneOf_192 ?_
                      rw [hR7.2.2.1]
                      refine pw_callV2 zmM_X6_wrong rfl (lw_V q2226 q2228 qs70 q150 q2229) rfl (ts_this hM) zc_X6 (t_wrong hM _ _ hR7.2.1) (by omega) (Nat.le_refl _) (Nat.le_refl _) rfl (Nat.le_of_ble_eq_true rfl) (Nat.le_of_ble_eq_true rfl) dX6_oneOf_195 zE.nx (zE_kk ?_)
                      rw [if_neg c_186]
                      unfold aftW at hR7 ⊢
                      rw [if_neg c_186] at hR7 ⊢
                      have hw := hR7.wr (k := 1) (q := skp b N z.2) (by decide) (by decide)
                      have hf8 := (hf6.tr hf7).tr hw.2
                      have hF := hw.1
                      replace hF : TFl (zpfi (zpfi n7 aT tf_fault 1) aT tf_faultAt (nI (skp b N z.2))) (1, skp b N z.2) := hF
                      replace hf8 : zFr rF rA n (zpfi (zpfi n7 aT tf_fault 1) aT tf_faultAt (nI (skp b N z.2))) := hf8
                      clear hw c_186
                      generalize zpfi (zpfi n7 aT tf_fault 1) aT tf_faultAt (nI (skp b N z.2)) = n8 at hF hf8 ⊢
                      refine pw_lload_n dX6_oneOf_198 2 rfl rfl ?_
                      refine pw_aload_n dX6_oneOf_199 0 rfl rfl ?_
                      refine pw_callV0 zmM_X6_oneOf rfl (lw_V q2254 q2256 qs76 q150 q2257) rfl (ts_this hM) zc_X6 (t_oneF hM hF.ne) (by omega) (Nat.le_refl _) (Nat.le_refl _) rfl (Nat.le_of_ble_eq_true rfl) (Nat.le_of_ble_eq_true rfl) dX6_oneOf_200 zE.nx (zE_kk ?_)
                      refine pw_lor dX6_oneOf_203 ?_
                      refine pw_lstore_n (ls' := [(3, _), (0, _), (1, _)]) dX6_oneOf_204 rfl (by decide) rfl ?_
                      refine pw_ls [1, 2, 0] (ls' := [(0, _), (1, _), (3, _)]) rfl ?_
                      refine pw_aload_n dX6_oneOf_205 0 rfl rfl ?_
                      refine pw_dup dX6_oneOf_206 rfl ?_
                      refine pw_geti 8 zc_X6 (ts_this hM) (by decide) q1994 (Or.inl rfl) dX6_oneOf_207 ?_
                      refine pw_iconst (v := 1) dX6_oneOf_210 (by decide) ?_
                      refine pw_isub dX6_oneOf_211 ?_
                      refine pw_puti 8 zc_X6 (ts_this hM) (by decide) (by decide) q1994 rfl (Or.inl rfl) rfl rfl dX6_oneOf_212 ?_
                      refine pw_goto 309 dX6_oneOf_215 (by decide) ?_
                      refine pw_lload_n dX6_oneOf_309 2 rfl rfl ?_
                      refine pw_lret rfl dX6_oneOf_310 ?_
                      exact rR.inl _ (hf8.pfi rF_op) hF.op
                · exact absurd c_153 (by decide)
          · unfold pOne at hok ⊢
            have h91 := (tv_eq (c := 91) hX (by decide)).mp c_88
            have hlt : q + 1 ≤ N := tb_lt (b := b) (by omega)
            rw [if_pos h91] at hok ⊢
            by_cases ho6 : o = 6
            · rw [if_pos ho6] at hok ⊢
              refine pw_aload_n dX6_oneOf_91 0 rfl rfl ?_
              refine pw_callV0 zmM_X6_opens rfl (lw_V q2258 q2260 qs77 q150 q2261) rfl (ts_this hM) zc_X6 (t_opens6 hM hR1 ho6) (by omega) (Nat.le_refl _) (Nat.le_refl _) rfl (Nat.le_of_ble_eq_true rfl) (Nat.le_of_ble_eq_true rfl) dX6_oneOf_92 (by intros; rintro ⟨h, _⟩; cases h) (fun v2 g2 n2 h2 => ?_)
              obtain ⟨h2, rfl, hF, hf2⟩ := h2; cases h2
              refine pw_if_ne 100 dX6_oneOf_95 (by decide) (fun c_95 => ?_) (fun c_95 => ?_)
              · exact absurd rfl c_95
              · refine pw_lconst (v := 0) dX6_oneOf_98 rfl ?_
                refine pw_lret rfl dX6_oneOf_99 ?_
                exact rR.inl _ (hf1.tr hf2) hF
            · rw [if_neg ho6] at hok ⊢
              refine pw_aload_n dX6_oneOf_91 0 rfl rfl ?_
              refine pw_callV0 zmM_X6_opens rfl (lw_V q2258 q2260 qs77 q150 q2261) rfl (ts_this hM) zc_X6 (t_opens hM hR1 (by omega)) (by omega) (Nat.le_refl _) (Nat.le_refl _) rfl (Nat.le_of_ble_eq_true rfl) (Nat.le_of_ble_eq_true rfl) dX6_oneOf_92 (by intros; rintro ⟨h, _⟩; cases h) (fun v2 g2 n2 h2 => ?_)
              obtain ⟨h2, rfl, hR2, hf2⟩ := h2; cases h2
              refine pw_if_ne 100 dX6_oneOf_95 (by decide) (fun c_95 => ?_) (fun c_95 => ?_)
              · refine pw_aload_n dX6_oneOf_100 0 rfl rfl ?_
                refine pw_dup dX6_oneOf_101 rfl ?_
                refine pw_geti 4 zc_X6 (ts_this hM) (by decide) q1990 (Or.inl rfl) dX6_oneOf_102 ?_
                rw [hR2.2.2.1]
                refine pw_iconst (v := 1) dX6_oneOf_105 (by decide) ?_
                refine pw_iadd dX6_oneOf_106 ?_
                rw [nI_1]
                refine pw_puti 4 zc_X6 (ts_this hM) (by decide) (by decide) q1990 rfl (Or.inl rfl) rfl rfl dX6_oneOf_107 ?_
                have hR3 := hR2.at hlt
                have hf4 := hf2.pfi (v := nI (q + 1)) rF_at
                generalize zpfi n2 aT tf_at (nI (q + 1)) = n3 at hR3 hf4 ⊢
                refine pw_aload_n dX6_oneOf_110 0 rfl rfl ?_
                refine pw_callV0 zmM_X6_anyOf rfl (lw_V q2246 q2248 qs74 q150 q2249) rfl (ts_this hM) zc_X6 (ih0 (o + 1) _ n3 (by omega) hR3 (tra_k hra1 hf4) (pOk_B hok)) (by omega) (Nat.le_refl _) (Nat.le_refl _) rfl (Nat.le_of_ble_eq_true rfl) (Nat.le_of_ble_eq_true rfl) dX6_oneOf_111 rR.nx (fun v5 g5 n5 h5 => ?_)
                obtain ⟨rfl, hf5, hr⟩ := h5
                have hf6 := hf1.tr (hf4.tr hf5)
                cases hrr : pS b N a f 0 (o + 1) 0 (q + 1) with
                | inl e =>
                  rw [hrr] at hr
                  obtain ⟨⟨x, hx⟩, hF⟩ := hr
                  cases hx
                  refine pw_lstore_n (ls' := [(3, _), (0, _), (1, _)]) dX6_oneOf_114 rfl (by decide) rfl ?_
                  refine pw_ls [1, 2, 0] (ls' := [(0, _), (1, _), (3, _)]) rfl ?_
                  refine pw_aload_n dX6_oneOf_115 0 rfl rfl ?_
                  refine pw_bipush (v := 93) dX6_oneOf_116 (by decide) ?_
                  refine pw_callV1 zmM_X6_sign rfl (lw_V q2262 q2264 qs78 q150 q2265) rfl (ts_this hM) zc_X6 (t_signF hM hF.ne _) (by omega) (Nat.le_refl _) (Nat.le_refl _) rfl (Nat.le_of_ble_eq_true rfl) (Nat.le_of_ble_eq_true rfl) dX6_oneOf_118 zE.nx (zE_kk ?_)
                  refine pw_aload_n dX6_oneOf_121 0 rfl rfl ?_
                  refine pw_dup dX6_oneOf_122 rfl ?_
                  refine pw_geti 8 zc_X6 (ts_this hM) (by decide) q1994 (Or.inl rfl) dX6_oneOf_123 ?_
                  refine pw_iconst (v := 1) dX6_oneOf_126 (by decide) ?_
                  refine pw_isub dX6_oneOf_127 ?_
                  refine pw_puti 8 zc_X6 (ts_this hM) (by decide) (by decide) q1994 rfl (Or.inl rfl) rfl rfl dX6_oneOf_128 ?_
                  refine pw_goto 309 dX6_oneOf_131 (by decide) ?_
                  refine pw_lload_n dX6_oneOf_309 2 rfl rfl ?_
                  refine pw_lret rfl dX6_oneOf_310 ?_
                  exact rR.inl _ (hf6.pfi rF_op) hF.op
                | inr z =>
                  rw [hrr] at hr
                  obtain ⟨hx, hR5⟩ := hr
                  cases hx
                  show PW zm_X6_oneOf _ (rR _ n b N o mkL (pNeed b N 93 z.2 z.1)) _ _ _ _ _ _ _
                  rw [pNeed_u]
                  refine pw_lstore_n (ls' := [(3, _), (0, _), (1, _)]) dX6_oneOf_114 rfl (by decide) rfl ?_
                  refine pw_ls [1, 2, 0] (ls' := [(0, _), (1, _), (3, _)]) rfl ?_
                  refine pw_aload_n dX6_oneOf_115 0 rfl rfl ?_
                  refine pw_bipush (v := 93) dX6_oneOf_116 (by decide) ?_
                  refine pw_callV1 zmM_X6_sign rfl (lw_V q2262 q2264 qs78 q150 q2265) rfl (ts_this hM) zc_X6 (t_sign hM hR5 93 (by decide)) (by omega) (Nat.le_refl _) (Nat.le_refl _) rfl (Nat.le_of_ble_eq_true rfl) (Nat.le_of_ble_eq_true rfl) dX6_oneOf_118 rR.nx (fun v7 g7 n7 h7 => ?_)
                  obtain ⟨rfl, hf7, hr7⟩ := h7
                  have hf8 := hf6.tr hf7
                  cases hr8 : pNeed b N 93 z.2 () with
                  | inl e =>
                    rw [hr8] at hr7
                    obtain ⟨⟨x, hx⟩, hF⟩ := hr7
                    cases hx
                    refine pw_aload_n dX6_oneOf_121 0 rfl rfl ?_
                    refine pw_dup dX6_oneOf_122 rfl ?_
                    refine pw_geti 8 zc_X6 (ts_this hM) (by decide) q1994 (Or.inl rfl) dX6_oneOf_123 ?_
                    refine pw_iconst (v := 1) dX6_oneOf_126 (by decide) ?_
                    refine pw_isub dX6_oneOf_127 ?_
                    refine pw_puti 8 zc_X6 (ts_this hM) (by decide) (by decide) q1994 rfl (Or.inl rfl) rfl rfl dX6_oneOf_128 ?_
                    refine pw_goto 309 dX6_oneOf_131 (by decide) ?_
                    refine pw_lload_n dX6_oneOf_309 2 rfl rfl ?_
                    refine pw_lret rfl dX6_oneOf_310 ?_
                    exact rR.inl _ (hf8.pfi rF_op) hF.op
                  | inr y =>
                    rw [hr8] at hr7
                    obtain ⟨hx, hR8⟩ := hr7
                    cases hx
                    refine pw_aload_n dX6_oneOf_121 0 rfl rfl ?_
                    refine pw_dup dX6_oneOf_122 rfl ?_
                    refine pw_geti 8 zc_X6 (ts_this hM) (by decide) q1994 (Or.inl rfl) dX6_oneOf_123 ?_
                    rw [hR8.2.2.2.1]
                    refine pw_iconst (v := 1) dX6_oneOf_126 (by decide) ?_
                    refine pw_isub dX6_oneOf_127 ?_
                    rw [nI_pred]
                    refine pw_puti 8 zc_X6 (ts_this hM) (by decide) (by decide) q1994 rfl (Or.inl rfl) rfl rfl dX6_oneOf_128 ?_
                    refine pw_goto 309 dX6_oneOf_131 (by decide) ?_
                    refine pw_lload_n dX6_oneOf_309 2 rfl rfl ?_
                    refine pw_lret rfl dX6_oneOf_310 ?_
                    exact rR.inr (hf8.pfi rF_op) hR8.op
              · exact absurd c_95 (by decide)
        · have h91 : ¬ tb b N q = 91 := fun z => by have := no_91 c_38; unfold isLt at this; omega
          unfold pOne at hok ⊢
          rw [if_neg h91, if_pos c_38] at hok ⊢
          by_cases ho6 : o = 6
          · rw [if_pos ho6] at hok ⊢
            refine pw_aload_n dX6_oneOf_41 0 rfl rfl ?_
            refine pw_callV0 zmM_X6_opens rfl (lw_V q2258 q2260 qs77 q150 q2261) rfl (ts_this hM) zc_X6 (t_opens6 hM hR1 ho6) (by omega) (Nat.le_refl _) (Nat.le_refl _) rfl (Nat.le_of_ble_eq_true rfl) (Nat.le_of_ble_eq_true rfl) dX6_oneOf_42 (by intros; rintro ⟨h, _⟩; cases h) (fun v2 g2 n2 h2 => ?_)
            obtain ⟨h2, rfl, hF, hf2⟩ := h2; cases h2
            refine pw_if_ne 50 dX6_oneOf_45 (by decide) (fun c_45 => ?_) (fun c_45 => ?_)
            · exact absurd rfl c_45
            · refine pw_lconst (v := 0) dX6_oneOf_48 rfl ?_
              refine pw_lret rfl dX6_oneOf_49 ?_
              exact rR.inl _ (hf1.tr hf2) hF
          · rw [if_neg ho6] at hok ⊢
            refine pw_aload_n dX6_oneOf_41 0 rfl rfl ?_
            refine pw_callV0 zmM_X6_opens rfl (lw_V q2258 q2260 qs77 q150 q2261) rfl (ts_this hM) zc_X6 (t_opens hM hR1 (by omega)) (by omega) (Nat.le_refl _) (Nat.le_refl _) rfl (Nat.le_of_ble_eq_true rfl) (Nat.le_of_ble_eq_true rfl) dX6_oneOf_42 (by intros; rintro ⟨h, _⟩; cases h) (fun v2 g2 n2 h2 => ?_)
            obtain ⟨h2, rfl, hR2, hf2⟩ := h2; cases h2
            refine pw_if_ne 50 dX6_oneOf_45 (by decide) (fun c_45 => ?_) (fun c_45 => ?_)
            · refine pw_aload_n dX6_oneOf_50 0 rfl rfl ?_
              refine pw_callV0 zmM_X6_skipWord rfl (lw_V q2234 q2236 qs72 q150 q2237) rfl (ts_this hM) zc_X6 (t_skw hM hR2) (by omega) (Nat.le_refl _) (Nat.le_refl _) rfl (Nat.le_of_ble_eq_true rfl) (Nat.le_of_ble_eq_true rfl) dX6_oneOf_51 (by intros; rintro ⟨h, _⟩; cases h) (fun v3 g3 n3 h3 => ?_)
              obtain ⟨h3, rfl, hR3, hf3⟩ := h3; cases h3
              rw [c_38] at hR3
              replace hR3 : TRd n3 b N (q + 3) (o + 1) := hR3
              have hf4 := hf2.tr hf3
              refine pw_lload_n dX6_oneOf_54 1 rfl rfl ?_
              refine pw_aload_n dX6_oneOf_55 0 rfl rfl ?_
              refine pw_callV0 zmM_X6_oneOf rfl (lw_V q2254 q2256 qs76 q150 q2257) rfl (ts_this hM) zc_X6 (ih4 (o + 1) _ n3 (by omega) hR3 (tra_k hra1 hf4) (pOk_B hok)) (by omega) (Nat.le_refl _) (Nat.le_refl _) rfl (Nat.le_of_ble_eq_true rfl) (Nat.le_of_ble_eq_true rfl) dX6_oneOf_56 rR.nx (fun v5 g5 n5 h5 => ?_)
              obtain ⟨rfl, hf5, hr⟩ := h5
              have hf6 := hf1.tr (hf4.tr hf5)
              cases hrr : pS b N a f 4 (o + 1) 0 (q + 3) with
              | inl e =>
                rw [hrr] at hr
                obtain ⟨⟨x, hx⟩, hF⟩ := hr
                cases hx
                refine pw_ldc2 q1972 dX6_oneOf_59 ?_
                refine pw_lxor dX6_oneOf_62 ?_
                refine pw_land dX6_oneOf_63 ?_
                refine pw_lstore_n (ls' := [(3, _), (0, _), (1, _)]) dX6_oneOf_64 rfl (by decide) rfl ?_
                refine pw_ls [1, 2, 0] (ls' := [(0, _), (1, _), (3, _)]) rfl ?_
                refine pw_aload_n dX6_oneOf_65 0 rfl rfl ?_
                refine pw_dup dX6_oneOf_66 rfl ?_
                refine pw_geti 8 zc_X6 (ts_this hM) (by decide) q1994 (Or.inl rfl) dX6_oneOf_67 ?_
                refine pw_iconst (v := 1) dX6_oneOf_70 (by decide) ?_
                refine pw_isub dX6_oneOf_71 ?_
                refine pw_puti 8 zc_X6 (ts_this hM) (by decide) (by decide) q1994 rfl (Or.inl rfl) rfl rfl dX6_oneOf_72 ?_
                refine pw_goto 309 dX6_oneOf_75 (by decide) ?_
                refine pw_lload_n dX6_oneOf_309 2 rfl rfl ?_
                refine pw_lret rfl dX6_oneOf_310 ?_
                exact rR.inl _ (hf6.pfi rF_op) hF.op
              | inr z =>
                rw [hrr] at hr
                obtain ⟨hx, hR5⟩ := hr
                cases hx
                refine pw_ldc2 q1972 dX6_oneOf_59 ?_
                refine pw_lxor dX6_oneOf_62 ?_
                refine pw_land dX6_oneOf_63 ?_
                refine pw_lstore_n (ls' := [(3, _), (0, _), (1, _)]) dX6_oneOf_64 rfl (by decide) rfl ?_
                refine pw_ls [1, 2, 0] (ls' := [(0, _), (1, _), (3, _)]) rfl ?_
                refine pw_aload_n dX6_oneOf_65 0 rfl rfl ?_
                refine pw_dup dX6_oneOf_66 rfl ?_
                refine pw_geti 8 zc_X6 (ts_this hM) (by decide) q1994 (Or.inl rfl) dX6_oneOf_67 ?_
                rw [hR5.2.2.2.1]
                refine pw_iconst (v := 1) dX6_oneOf_70 (by decide) ?_
                refine pw_isub dX6_oneOf_71 ?_
                rw [nI_pred]
                refine pw_puti 8 zc_X6 (ts_this hM) (by decide) (by decide) q1994 rfl (Or.inl rfl) rfl rfl dX6_oneOf_72 ?_
                refine pw_goto 309 dX6_oneOf_75 (by decide) ?_
                refine pw_lload_n dX6_oneOf_309 2 rfl rfl ?_
                refine pw_lret rfl dX6_oneOf_310 ?_
                exact rR.inr (hf6.pfi rF_op) hR5.op
            · exact absurd c_45 (by decide)
      · exact absurd hR.2.1 c_4

/-! ===== TEXTS: clauses, jars as they are read ===== -/
abbrev wAtoms : List Nat := [97, 116, 111, 109, 115]
abbrev wSlip : List Nat := [115, 108, 105, 112]
abbrev wSee : List Nat := [115, 101, 101]
abbrev wSalt : List Nat := [115, 97, 108, 116]
abbrev wWorld : List Nat := [119, 111, 114, 108, 100]
abbrev wLaw : List Nat := [108, 97, 119]
/-- a jar that is read: 0 atoms, 1 slips, 2 seeings, 3 salts, 4 world, 5 law, 6 clauses; weeks of seeings; worlds of slips (salts from 12 on), of seeings -/
abbrev zJ : Type := (Nat → Nat) × (Nat → Nat) × (Nat → Int64) × (Nat → Int64)
def jN (J : zJ) (k v : Nat) : zJ := (zu1 J.1 k v, J.2)
def jM (J : zJ) (c k : Nat) (v : Int64) : zJ := (zu1 J.1 c (J.1 c + 1), J.2.1, zu1 J.2.2.1 k v, J.2.2.2)
def jS (J : zJ) (m : Nat) (v : Int64) : zJ := (zu1 J.1 2 (J.1 2 + 1), zu1 J.2.1 (J.1 2) m, J.2.2.1, zu1 J.2.2.2 (J.1 2) v)
def j0 : zJ := (fun k => if k = 0 then 4 else 0, fun _ => 0, fun _ => 0, fun _ => 0)
def pKind (L : List Nat) : Nat := if L = wAtoms then 0 else if L = wSlip then 1 else if L = wSee then 2 else if L = wSalt then 3 else if L = wWorld then 4 else if L = wLaw then 5 else 6
theorem pKind_le (L : List Nat) : pKind L ≤ 6 := by
  unfold pKind
  repeat' split
  all_goals decide
abbrev pFull (J : zJ) (k : Nat) : Prop := (k = 1 ∧ J.1 1 = 12) ∨ (k = 2 ∧ J.1 2 = 12) ∨ (k = 3 ∧ J.1 3 = 5)
/-- fuel enough -/
abbrev fuS (N : Nat) : Nat := 4 * N + 9
def pAny (b : Nat → Nat) (N a p : Nat) : zPR Int64 := pS b N a (fuS N) 0 0 0 p
theorem pAny_ok (b : Nat → Nat) (N a : Nat) {p : Nat} (h : p ≤ N) : pOk (pAny b N a p) := pS_ok b N a _ _ _ _ _ h (by rw [if_pos rfl]; unfold fuS; omega)
theorem pAny_far (b : Nat → Nat) (N a : Nat) {p : Nat} (h : p ≤ N) : pFar N p 1 (pAny b N a p) := by
  have := pS_far b N a (fuS N) 0 0 0 p h
  rw [if_pos (Or.inl rfl)] at this
  exact this
def pBody (b : Nat → Nat) (N : Nat) (J : zJ) (k p : Nat) : zPR zJ :=
  if k = 0 then pB (pNum b N 1 6 p) (fun v p1 => .inr (jN J 0 v, p1))
  else if k = 1 then pB (pAny b N (J.1 0) p) (fun v p1 => .inr (jM J 1 (J.1 1) v, p1))
  else if k = 2 then pB (pNum b N 0 51 p) (fun m p1 => pB (pAny b N (J.1 0) p1) (fun v p2 => .inr (jS J m v, p2)))
  else if k = 3 then pB (pAny b N (J.1 0) p) (fun v p1 => .inr (jM J 3 (12 + J.1 3) v, p1))
  else if k = 4 then pB (pNum b N 0 (2 ^ J.1 0 - 1) p) (fun v p1 => .inr (jN J 4 v, p1))
  else pB (pNum b N 0 4 p) (fun v p1 => .inr (jN J 5 v, p1))
/-- a clause, from its word on -/
def pCl (b : Nat → Nat) (N : Nat) (J : zJ) (q : Nat) : zPR zJ :=
  if pKind (tWd b N q) = 6 then .inl (1, q) else if J.1 6 = 60 ∨ pFull J (pKind (tWd b N q)) then .inl (3, q) else if pKind (tWd b N q) = 0 ∧ 0 < J.1 6 then .inl (4, q)
  else pB (pBody b N J (pKind (tWd b N q)) (q + (tWd b N q).length)) (fun J' p1 => pNeed b N 59 p1 (jN J' 6 (J'.1 6 + 1)))
def pJr (b : Nat → Nat) (N : Nat) : Nat → zJ → Nat → zPR zJ
  | 0, _, _ => .inl (0, 0)
  | m + 1, J, p => if p < N then pB (pCl b N J p) (fun J p1 => pJr b N m J (skp b N p1)) else .inr (J, p)
/-! what a jar may hold -/
def JOk (J : zJ) : Prop := (1 ≤ J.1 0 ∧ J.1 0 ≤ 6) ∧ (J.1 1 ≤ 12 ∧ J.1 2 ≤ 12 ∧ J.1 3 ≤ 5) ∧ J.1 4 < 2 ^ J.1 0 ∧ J.1 5 ≤ 4 ∧ J.1 6 ≤ 60 ∧ (J.1 6 = 0 → J.1 1 = 0 ∧ J.1 2 = 0 ∧ J.1 3 = 0 ∧ J.1 4 = 0) ∧
  (∀ k, k < J.1 2 → J.2.1 k < 52) ∧ (∀ k, k < J.1 1 → J.2.2.1 k &&& wAll (J.1 0) = J.2.2.1 k) ∧ (∀ k, k < J.1 3 → J.2.2.1 (12 + k) &&& wAll (J.1 0) = J.2.2.1 (12 + k)) ∧ ∀ k, k < J.1 2 → J.2.2.2 k &&& wAll (J.1 0) = J.2.2.2 k
theorem j0_ok : JOk j0 := by
  refine ⟨⟨by decide, by decide⟩, ⟨by decide, by decide, by decide⟩, by decide, by decide, by decide, fun _ => ⟨rfl, rfl, rfl, rfl⟩, fun k hk => absurd hk (Nat.not_lt_zero _), fun k hk => absurd hk (Nat.not_lt_zero _), fun k hk => absurd hk (Nat.not_lt_zero _), fun k hk => absurd hk (Nat.not_lt_zero _)⟩
theorem wAll_or {x y m : Int64} (hx : x &&& m = x) (hy : y &&& m = y) : (x ||| y) &&& m = x ||| y := by
  apply lb_ext
  intro i hi
  have h1 := congrArg (fun z => lb z i) hx
  have h2 := congrArg (fun z => lb z i) hy
  simp only [lb_and] at h1 h2
  rw [lb_and, lb_or]
  cases h3 : lb x i <;> cases h4 : lb y i <;> simp_all
theorem wAll_and {x y m : Int64} (hy : y &&& m = y) : (x &&& y) &&& m = x &&& y := by
  rw [Int64.and_assoc, hy]
theorem wAll_and2 {x y m : Int64} (hx : x &&& m = x) : (x &&& y) &&& m = x &&& y := by
  rw [Int64.and_comm x y]; exact wAll_and hx
theorem wAll_self (m : Int64) : m &&& m = m := Int64.and_self
theorem wAt_all : ∀ a, a < 7 → ∀ k, k < a → wAt k a &&& wAll a = wAt k a := by decide +kernel
/-- sentences speak of the worlds that there are -/
theorem pS_all (b : Nat → Nat) (N a : Nat) (ha : a ≤ 6) : ∀ f m o v p u q, (m = 1 ∨ m = 3 → v &&& wAll a = v) → pS b N a f m o v p = .inr (u, q) → u &&& wAll a = u
  | 0, m, o, v, p, u, q, _, h => nomatch h
  | f + 1, m, o, v, p, u, q, hv, h => by
    have ih := fun m o v p u q => pS_all b N a ha f m o v p u q
    have n0 : ∀ {m : Nat}, (m = 2 ∨ m = 4 ∨ m = 0) → (m = 1 ∨ m = 3 → (0 : Int64) &&& wAll a = 0) := fun h z => by omega
    have gB : ∀ {α β : Type} {r : zPR α} {k : α → Nat → zPR β} {x : β × Nat}, pB r k = .inr x → ∃ v p1, r = .inr (v, p1) ∧ k v p1 = .inr x := fun {α β r k x} h => by
      cases r with
      | inl e => cases h
      | inr z => exact ⟨z.1, z.2, rfl, h⟩
    rw [pS] at h
    by_cases m0 : m = 0
    · rw [if_pos m0] at h
      obtain ⟨v1, p1, e1, e2⟩ := gB h
      exact ih 1 o _ _ u q (fun _ => ih 2 o 0 p v1 p1 (n0 (Or.inl rfl)) e1) e2
    · rw [if_neg m0] at h
      by_cases m1 : m = 1
      · rw [if_pos m1] at h
        split at h
        · obtain ⟨v1, p1, e1, e2⟩ := gB h
          exact ih 1 o _ _ u q (fun _ => wAll_or (hv (Or.inl m1)) (ih 2 o 0 _ v1 p1 (n0 (Or.inl rfl)) e1)) e2
        · cases h; exact hv (Or.inl m1)
      · rw [if_neg m1] at h
        by_cases m2 : m = 2
        · rw [if_pos m2] at h
          obtain ⟨v1, p1, e1, e2⟩ := gB h
          exact ih 3 o _ _ u q (fun _ => ih 4 o 0 p v1 p1 (n0 (Or.inr (Or.inl rfl))) e1) e2
        · rw [if_neg m2] at h
          by_cases m3 : m = 3
          · rw [if_pos m3] at h
            split at h
            · obtain ⟨v1, p1, e1, e2⟩ := gB h
              exact ih 3 o _ _ u q (fun _ => wAll_and (ih 4 o 0 _ v1 p1 (n0 (Or.inr (Or.inl rfl))) e1)) e2
            · cases h; exact hv (Or.inr m3)
          · rw [if_neg m3] at h
            unfold pOne at h
            split at h
            · split at h
              · cases h
              · obtain ⟨v1, p1, e1, e2⟩ := gB h
                unfold pNeed at e2
                split at e2
                · cases e2; exact ih 0 (o + 1) 0 _ _ p1 (n0 (Or.inr (Or.inr rfl))) e1
                · cases e2
            · split at h
              · split at h
                · cases h
                · obtain ⟨v1, p1, e1, e2⟩ := gB h
                  cases e2
                  exact wAll_and2 (wAll_self _)
              · split at h
                · split at h
                  · cases h
                  · obtain ⟨v1, p1, e1, e2⟩ := gB h
                    split at e2
                    · obtain ⟨v2, p2, e3, e4⟩ := gB e2
                      cases e4
                      exact wAll_or (wAll_and2 (wAll_self _)) (ih 4 (o + 1) 0 _ v2 _ (n0 (Or.inr (Or.inl rfl))) e3)
                    · cases e2
                · split at h
                  · next hc => cases h; exact wAt_all a (by omega) _ (by unfold isLt at hc; omega)
                  · cases h
theorem pAny_all {b : Nat → Nat} {N a p q : Nat} {u : Int64} (ha : a ≤ 6) (h : pAny b N a p = .inr (u, q)) : u &&& wAll a = u := pS_all b N a ha _ _ _ _ _ _ _ (fun z => by omega) h
theorem pNum_in {b : Nat → Nat} {N l h p v q : Nat} (e : pNum b N l h p = .inr (v, q)) : l ≤ v ∧ v ≤ h := by
  unfold pNum at e
  split at e
  · cases e
  · split at e
    · cases e
    · next hn =>
      cases hx : tNm b N 0 (skp b N p) with
      | mk x y =>
        rw [hx] at e hn
        cases e
        exact ⟨by have := hn; omega, by have := hn; omega⟩
theorem pNum_ok (b : Nat → Nat) (N l h p : Nat) : pOk (pNum b N l h p) := by
  unfold pNum
  split
  · exact Nat.one_ne_zero
  · split
    · exact (by decide : (2 : Nat) ≠ 0)
    · trivial
theorem pNum_far {b : Nat → Nat} {N l h p : Nat} (hp : p ≤ N) : pFar N p 0 (pNum b N l h p) := by
  have h1 := skp_ge b N p
  have h2 := skp_le (b := b) hp
  have h3 := tNm_ge (b := b) (v := 0) h2
  unfold pNum
  split
  · trivial
  · split
    · trivial
    · exact ⟨by omega, h3.2⟩
theorem pB_inr {α β : Type} {r : zPR α} {k : α → Nat → zPR β} {x : β × Nat} (h : pB r k = .inr x) : ∃ v p1, r = .inr (v, p1) ∧ k v p1 = .inr x := by
  cases r with
  | inl e => cases h
  | inr z => exact ⟨z.1, z.2, rfl, h⟩
theorem pCl_far {b : Nat → Nat} {N : Nat} {J : zJ} {q : Nat} (hq : q ≤ N) : pFar N q 1 (pCl b N J q) := by
  unfold pCl
  split
  · trivial
  · split
    · trivial
    · split
      · trivial
      · have hl := tWd_len (b := b) hq
        have h0 : ∀ {α : Type} (v : α) {p : Nat}, p ≤ N → pFar N p 0 (.inr (v, p)) := by intro α v p h; exact pFar_v h v
        have hb : pFar N (q + (tWd b N q).length) 0 (pBody b N J (pKind (tWd b N q)) (q + (tWd b N q).length)) := by
          generalize q + (tWd b N q).length = p at hl
          unfold pBody
          split
          · exact pFar_B (s := 0) (t := 0) (pNum_far hl) (fun v p1 _ _ h => h0 _ h) (by decide)
          · split
            · exact pFar_B (s := 1) (t := 0) (pAny_far b N _ hl) (fun v p1 _ _ h => h0 _ h) (by decide)
            · split
              · exact pFar_B (s := 0) (t := 0) (pNum_far hl) (fun v p1 _ _ h => pFar_B (s := 1) (t := 0) (pAny_far b N _ h) (fun v p1 _ _ h => h0 _ h) (by decide)) (by decide)
              · split
                · exact pFar_B (s := 1) (t := 0) (pAny_far b N _ hl) (fun v p1 _ _ h => h0 _ h) (by decide)
                · split
                  · exact pFar_B (s := 0) (t := 0) (pNum_far hl) (fun v p1 _ _ h => h0 _ h) (by decide)
                  · exact pFar_B (s := 0) (t := 0) (pNum_far hl) (fun v p1 _ _ h => h0 _ h) (by decide)
        exact (pFar_B (s := 0) (t := 1) (u := 1) hb (fun J' p1 _ _ _ => pNeed_far b N 59 p1 (by decide) _) (by decide)).mono (by omega)
theorem pCl_pok {b : Nat → Nat} {N : Nat} {J : zJ} {q : Nat} (hq : q ≤ N) : pOk (pCl b N J q) := by
  unfold pCl
  split
  · exact Nat.one_ne_zero
  · split
    · exact (by decide : (3 : Nat) ≠ 0)
    · split
      · exact (by decide : (4 : Nat) ≠ 0)
      · have hl := tWd_len (b := b) hq
        refine pOk_Bi ?_ (fun J' p1 _ => pNeed_ok b N 59 p1 _)
        generalize q + (tWd b N q).length = p at hl
        unfold pBody
        split
        · exact pOk_Bi (pNum_ok _ _ _ _ _) (fun _ _ _ => trivial)
        · split
          · exact pOk_Bi (pAny_ok b N _ hl) (fun _ _ _ => trivial)
          · split
            · exact pOk_Bi (pNum_ok _ _ _ _ _) (fun v p1 e => pOk_Bi (pAny_ok b N _ (by have := pNum_far (b := b) (l := 0) (h := 51) hl; rw [e] at this; exact this.2)) (fun _ _ _ => trivial))
            · split
              · exact pOk_Bi (pAny_ok b N _ hl) (fun _ _ _ => trivial)
              · split
                · exact pOk_Bi (pNum_ok _ _ _ _ _) (fun _ _ _ => trivial)
                · exact pOk_Bi (pNum_ok _ _ _ _ _) (fun _ _ _ => trivial)
theorem pJr_ok (b : Nat → Nat) (N : Nat) : ∀ m J p, p ≤ N → N - p < m → pOk (pJr b N m J p)
  | 0, _, _, _, h => absurd h (Nat.not_lt_zero _)
  | m + 1, J, p, hp, h => by
    rw [pJr]
    split
    · refine pOk_Bi (pCl_pok hp) (fun J1 p1 e => ?_)
      have := pCl_far (b := b) (J := J) hp
      rw [e] at this
      have h2 := skp_ge b N p1
      exact pJr_ok b N m J1 _ (skp_le this.2) (by have := this.1; omega)
    · trivial
/-- a clause leaves a jar that may be -/
theorem pCl_ok {b : Nat → Nat} {N : Nat} {J J' : zJ} {q p1 : Nat} (h : JOk J) (e : pCl b N J q = .inr (J', p1)) : JOk J' := by
  unfold pCl at e
  split at e
  · cases e
  · next k6 =>
    split at e
    · cases e
    · next hf =>
      split at e
      · cases e
      · next h04 =>
        obtain ⟨⟨a1, a2⟩, ⟨a3, a4, a5⟩, a6, a7, a8, a9, a10, a11, a12, a13⟩ := h
        obtain ⟨J1, p2, e1, e2⟩ := pB_inr e
        have hJ : jN J1 6 (J1.1 6 + 1) = J' := by
          unfold pNeed at e2
          split at e2
          · cases e2; rfl
          · cases e2
        have h60 : J.1 6 < 60 := by have := fun z => hf (Or.inl z); omega
        clear e e2
        subst hJ
        unfold pBody at e1
        generalize pKind (tWd b N q) = k at k6 hf h04 e1
        generalize q + (tWd b N q).length = p at e1
        by_cases c0 : k = 0
        · rw [if_pos c0] at e1
          obtain ⟨v, p3, e3, e4⟩ := pB_inr e1
          have hv := pNum_in e3
          cases e4
          have h60 : J.1 6 = 0 := by have := fun z => h04 ⟨c0, z⟩; omega
          obtain ⟨b1, b2, b3, b4⟩ := a9 h60
          refine ⟨hv, ⟨a3, a4, a5⟩, ?_, a7, ?_, fun z => ?_, a10, fun k hk => ?_, fun k hk => ?_, fun k hk => ?_⟩
          · show J.1 4 < 2 ^ v; rw [b4]; exact Nat.two_pow_pos _
          · show J.1 6 + 1 ≤ 60; omega
          · exact absurd z (Nat.succ_ne_zero _)
          · exact absurd (show k < J.1 1 from hk) (by omega)
          · exact absurd (show k < J.1 3 from hk) (by omega)
          · exact absurd (show k < J.1 2 from hk) (by omega)
        · rw [if_neg c0] at e1
          by_cases c1 : k = 1
          · rw [if_pos c1] at e1
            obtain ⟨v, p3, e3, e4⟩ := pB_inr e1
            have hv := pAny_all a2 e3
            cases e4
            have h12 : J.1 1 ≠ 12 := fun z => hf (Or.inr (Or.inl ⟨c1, z⟩))
            refine ⟨⟨a1, a2⟩, ⟨?_, a4, a5⟩, a6, a7, ?_, fun z => ?_, a10, fun k hk => ?_, fun k hk => ?_, a13⟩
            · show J.1 1 + 1 ≤ 12; omega
            · show J.1 6 + 1 ≤ 60; omega
            · exact absurd z (Nat.succ_ne_zero _)
            · replace hk : k < J.1 1 + 1 := hk
              show zu1 J.2.2.1 (J.1 1) v k &&& wAll (J.1 0) = zu1 J.2.2.1 (J.1 1) v k
              unfold zu1
              split
              · exact hv
              · exact a11 k (by omega)
            · replace hk : k < J.1 3 := hk
              show zu1 J.2.2.1 (J.1 1) v (12 + k) &&& wAll (J.1 0) = zu1 J.2.2.1 (J.1 1) v (12 + k)
              rw [zu1_n (by omega)]
              exact a12 k hk
          · rw [if_neg c1] at e1
            by_cases c2 : k = 2
            · rw [if_pos c2] at e1
              obtain ⟨m, p3, e3, e4⟩ := pB_inr e1
              obtain ⟨v, p4, e5, e6⟩ := pB_inr e4
              have hm := pNum_in e3
              have hv := pAny_all a2 e5
              cases e6
              have h12 : J.1 2 ≠ 12 := fun z => hf (Or.inr (Or.inr (Or.inl ⟨c2, z⟩)))
              refine ⟨⟨a1, a2⟩, ⟨a3, ?_, a5⟩, a6, a7, ?_, fun z => ?_, fun k hk => ?_, a11, a12, fun k hk => ?_⟩
              · show J.1 2 + 1 ≤ 12; omega
              · show J.1 6 + 1 ≤ 60; omega
              · exact absurd z (Nat.succ_ne_zero _)
              · replace hk : k < J.1 2 + 1 := hk
                show zu1 J.2.1 (J.1 2) m k < 52
                unfold zu1
                split
                · omega
                · exact a10 k (by omega)
              · replace hk : k < J.1 2 + 1 := hk
                show zu1 J.2.2.2 (J.1 2) v k &&& wAll (J.1 0) = zu1 J.2.2.2 (J.1 2) v k
                unfold zu1
                split
                · exact hv
                · exact a13 k (by omega)
            · rw [if_neg c2] at e1
              by_cases c3 : k = 3
              · rw [if_pos c3] at e1
                obtain ⟨v, p3, e3, e4⟩ := pB_inr e1
                have hv := pAny_all a2 e3
                cases e4
                have h12 : J.1 3 ≠ 5 := fun z => hf (Or.inr (Or.inr (Or.inr ⟨c3, z⟩)))
                refine ⟨⟨a1, a2⟩, ⟨a3, a4, ?_⟩, a6, a7, ?_, fun z => ?_, a10, fun k hk => ?_, fun k hk => ?_, a13⟩
                · show J.1 3 + 1 ≤ 5; omega
                · show J.1 6 + 1 ≤ 60; omega
                · exact absurd z (Nat.succ_ne_zero _)
                · replace hk : k < J.1 1 := hk
                  show zu1 J.2.2.1 (12 + J.1 3) v k &&& wAll (J.1 0) = zu1 J.2.2.1 (12 + J.1 3) v k
                  rw [zu1_n (by omega)]
                  exact a11 k hk
                · replace hk : k < J.1 3 + 1 := hk
                  show zu1 J.2.2.1 (12 + J.1 3) v (12 + k) &&& wAll (J.1 0) = zu1 J.2.2.1 (12 + J.1 3) v (12 + k)
                  unfold zu1
                  split
                  · exact hv
                  · exact a12 k (by omega)
              · rw [if_neg c3] at e1
                by_cases c4 : k = 4
                · rw [if_pos c4] at e1
                  obtain ⟨v, p3, e3, e4⟩ := pB_inr e1
                  have hv := pNum_in e3
                  cases e4
                  have h2 : 1 ≤ 2 ^ J.1 0 := Nat.one_le_two_pow
                  refine ⟨⟨a1, a2⟩, ⟨a3, a4, a5⟩, ?_, a7, ?_, fun z => ?_, a10, a11, a12, a13⟩
                  · show v < 2 ^ J.1 0; omega
                  · show J.1 6 + 1 ≤ 60; omega
                  · exact absurd z (Nat.succ_ne_zero _)
                · rw [if_neg c4] at e1
                  obtain ⟨v, p3, e3, e4⟩ := pB_inr e1
                  have hv := pNum_in e3
                  cases e4
                  refine ⟨⟨a1, a2⟩, ⟨a3, a4, a5⟩, a6, ?_, ?_, fun z => ?_, a10, a11, a12, a13⟩
                  · show v ≤ 4; omega
                  · show J.1 6 + 1 ≤ 60; omega
                  · exact absurd z (Nat.succ_ne_zero _)
theorem pJr_jok (b : Nat → Nat) (N : Nat) : ∀ m J p J' q, JOk J → pJr b N m J p = .inr (J', q) → JOk J'
  | 0, _, _, _, _, _, h => nomatch h
  | m + 1, J, p, J', q, hJ, h => by
    rw [pJr] at h
    split at h
    · obtain ⟨J1, p1, e1, e2⟩ := pB_inr h
      exact pJr_jok b N m J1 _ J' q (pCl_ok hJ e1) e2
    · cases h; exact hJ
def pJar (b : Nat → Nat) (N : Nat) : zPR zJ := pJr b N (N + 1) j0 (skp b N 0)
theorem pJar_pok (b : Nat → Nat) (N : Nat) : pOk (pJar b N) := pJr_ok b N _ _ _ (skp_le (Nat.zero_le _)) (by omega)
theorem pJar_jok {b : Nat → Nat} {N : Nat} {J : zJ} {q : Nat} (h : pJar b N = .inr (J, q)) : JOk J := pJr_jok b N _ _ _ _ _ j0_ok h

/-! ===== the reference reads: clauses ===== -/
def jF (a k : Nat) : Prop := rF a k ∨ (a = aT ∧ k = tf_clauses)
def jA (a : Nat) : Prop := a = at_readTold ∨ a = at_readModels ∨ a = at_readWeek ∨ a = at_readSeen
theorem rjF {n n' : zg_N} (h : zFr rF rA n n') : zFr jF jA n n' := h.mono (fun _ _ z => Or.inl z) (fun _ z => z.elim)
theorem TX.keep2 {n n' : zg_N} {b : Nat → Nat} {N : Nat} (h : TX n b N) (hf : zFr jF jA n n') : TX n' b N :=
  ⟨((hf.1 aT tf_size (fun z => by rcases z with ⟨_, z | z | z | z⟩ | ⟨_, z⟩ <;> exact absurd z (by decide))).1).trans h.1, h.2.1, fun k hk => ⟨((hf.2 at_fed (fun z => by rcases z with z | z | z | z <;> exact absurd z (by decide)) k).1).trans (h.2.2 k hk).1, (h.2.2 k hk).2⟩⟩
/-- the jar that is read, in the reference -/
def TJ (n : zg_N) (J : zJ) : Prop := (∀ k, k < 6 → zai n at_readTold k = nI (J.1 k)) ∧ zfi n aT tf_clauses = nI (J.1 6) ∧ (∀ k, k < J.1 1 ∨ (12 ≤ k ∧ k < 12 + J.1 3) → zal n at_readModels k = J.2.2.1 k) ∧ ∀ k, k < J.1 2 → zai n at_readWeek k = nI (J.2.1 k) ∧ zal n at_readSeen k = J.2.2.2 k
theorem TJ.keep {n n' : zg_N} {J : zJ} (h : TJ n J) (hf : zFr rF rA n n') : TJ n' J := by
  obtain ⟨h1, h2, h3, h4⟩ := h
  exact ⟨fun k hk => ((hf.2 _ (fun z => z) k).1).trans (h1 k hk), ((hf.1 aT tf_clauses (fun z => by rcases z.2 with z | z | z | z <;> exact absurd z (by decide))).1).trans h2, fun k hk => ((hf.2 _ (fun z => z) k).2).trans (h3 k hk), fun k hk => ⟨((hf.2 _ (fun z => z) k).1).trans (h4 k hk).1, ((hf.2 _ (fun z => z) k).2).trans (h4 k hk).2⟩⟩
/-- what a clause ends with -/
def rC (g : zg_G) (n : zg_N) (b : Nat → Nat) (N : Nat) (r : zPR zJ) : zP := fun out g1 n1 => out = .inl none ∧ g1 = g ∧ zFr jF jA n n1 ∧ match r with
  | .inr q => TRd n1 b N q.2 0 ∧ TJ n1 q.1
  | .inl e => TFl n1 e
def kV (k : Nat) : Int32 := if k = 6 then -1 else nI k
theorem t_kindHere {g : zg_G} {n : zg_N} {b : Nat → Nat} {N p o : Nat} (hM : TSh g) (hR : TRd n b N p o) : PW zm_X6_kindHere 5 (rP g n b N o (some (.int (kV (pKind (tWd b N (skp b N p)))))) (skp b N p)) 0 0 0 [(0, .ref aT)] [] g n := by
  have hsk := skp_skp b N p
  generalize hL : tWd b N (skp b N p) = L
  refine pw_aload_n dX6_kindHere_0 0 rfl rfl ?_
  refine pw_iconst (v := 1) dX6_kindHere_1 (by decide) ?_
  refine pw_bipush (v := 20) dX6_kindHere_2 (by decide) ?_
  refine pw_bipush (v := 15) dX6_kindHere_4 (by decide) ?_
  refine pw_bipush (v := 13) dX6_kindHere_6 (by decide) ?_
  refine pw_bipush (v := 19) dX6_kindHere_8 (by decide) ?_
  refine pw_iconst (v := 0) dX6_kindHere_10 (by decide) ?_
  refine pw_callV6 zmM_X6_isWord rfl (lw_V q2212 q2214 qs68 q150 q2215) rfl (ts_this hM) zc_X6 (t_isWord hM hR wAtoms (by decide)) (by decide) (Nat.le_refl _) (Nat.le_refl _) rfl (Nat.le_of_ble_eq_true rfl) (Nat.le_of_ble_eq_true rfl) dX6_kindHere_11 (by intros; rintro ⟨h, _⟩; cases h) (fun v1 g1 n1 h1 => ?_)
  obtain ⟨h1, rfl, hR1, hf1⟩ := h1; cases h1
  rw [hL]
  generalize skp b N p = q at hR1 hsk hL ⊢
  refine pw_if_eq_B 19 dX6_kindHere_14 (by decide) (fun c_14 => ?_) (fun c_14 => ?_)
  · refine pw_aload_n dX6_kindHere_19 0 rfl rfl ?_
    refine pw_bipush (v := 19) dX6_kindHere_20 (by decide) ?_
    refine pw_bipush (v := 12) dX6_kindHere_22 (by decide) ?_
    refine pw_bipush (v := 9) dX6_kindHere_24 (by decide) ?_
    refine pw_bipush (v := 16) dX6_kindHere_26 (by decide) ?_
    refine pw_iconst (v := 0) dX6_kindHere_28 (by decide) ?_
    refine pw_iconst (v := 0) dX6_kindHere_29 (by decide) ?_
    refine pw_callV6 zmM_X6_isWord rfl (lw_V q2212 q2214 qs68 q150 q2215) rfl (ts_this hM) zc_X6 (t_isWord hM hR1 wSlip (by decide)) (by decide) (Nat.le_refl _) (Nat.le_refl _) rfl (Nat.le_of_ble_eq_true rfl) (Nat.le_of_ble_eq_true rfl) dX6_kindHere_30 (by intros; rintro ⟨h, _⟩; cases h) (fun v2 g2 n2 h2 => ?_)
    obtain ⟨h2, rfl, hR2, hf2⟩ := h2; cases h2
    rw [hsk] at hR2 ⊢
    rw [hL]
    replace hf2 := hf1.tr hf2
    refine pw_if_eq_B 38 dX6_kindHere_33 (by decide) (fun c_33 => ?_) (fun c_33 => ?_)
    · refine pw_aload_n dX6_kindHere_38 0 rfl rfl ?_
      refine pw_bipush (v := 19) dX6_kindHere_39 (by decide) ?_
      refine pw_iconst (v := 5) dX6_kindHere_41 (by decide) ?_
      refine pw_iconst (v := 5) dX6_kindHere_42 (by decide) ?_
      refine pw_iconst (v := 0) dX6_kindHere_43 (by decide) ?_
      refine pw_iconst (v := 0) dX6_kindHere_44 (by decide) ?_
      refine pw_iconst (v := 0) dX6_kindHere_45 (by decide) ?_
      refine pw_callV6 zmM_X6_isWord rfl (lw_V q2212 q2214 qs68 q150 q2215) rfl (ts_this hM) zc_X6 (t_isWord hM hR2 wSee (by decide)) (by decide) (Nat.le_refl _) (Nat.le_refl _) rfl (Nat.le_of_ble_eq_true rfl) (Nat.le_of_ble_eq_true rfl) dX6_kindHere_46 (by intros; rintro ⟨h, _⟩; cases h) (fun v3 g3 n3 h3 => ?_)
      obtain ⟨h3, rfl, hR3, hf3⟩ := h3; cases h3
      rw [hsk] at hR3 ⊢
      rw [hL]
      replace hf3 := hf2.tr hf3
      refine pw_if_eq_B 54 dX6_kindHere_49 (by decide) (fun c_49 => ?_) (fun c_49 => ?_)
      · refine pw_aload_n dX6_kindHere_54 0 rfl rfl ?_
        refine pw_bipush (v := 19) dX6_kindHere_55 (by decide) ?_
        refine pw_iconst (v := 1) dX6_kindHere_57 (by decide) ?_
        refine pw_bipush (v := 12) dX6_kindHere_58 (by decide) ?_
        refine pw_bipush (v := 20) dX6_kindHere_60 (by decide) ?_
        refine pw_iconst (v := 0) dX6_kindHere_62 (by decide) ?_
        refine pw_iconst (v := 0) dX6_kindHere_63 (by decide) ?_
        refine pw_callV6 zmM_X6_isWord rfl (lw_V q2212 q2214 qs68 q150 q2215) rfl (ts_this hM) zc_X6 (t_isWord hM hR3 wSalt (by decide)) (by decide) (Nat.le_refl _) (Nat.le_refl _) rfl (Nat.le_of_ble_eq_true rfl) (Nat.le_of_ble_eq_true rfl) dX6_kindHere_64 (by intros; rintro ⟨h, _⟩; cases h) (fun v4 g4 n4 h4 => ?_)
        obtain ⟨h4, rfl, hR4, hf4⟩ := h4; cases h4
        rw [hsk] at hR4 ⊢
        rw [hL]
        replace hf4 := hf3.tr hf4
        refine pw_if_eq_B 72 dX6_kindHere_67 (by decide) (fun c_67 => ?_) (fun c_67 => ?_)
        · refine pw_aload_n dX6_kindHere_72 0 rfl rfl ?_
          refine pw_bipush (v := 23) dX6_kindHere_73 (by decide) ?_
          refine pw_bipush (v := 15) dX6_kindHere_75 (by decide) ?_
          refine pw_bipush (v := 18) dX6_kindHere_77 (by decide) ?_
          refine pw_bipush (v := 12) dX6_kindHere_79 (by decide) ?_
          refine pw_iconst (v := 4) dX6_kindHere_81 (by decide) ?_
          refine pw_iconst (v := 0) dX6_kindHere_82 (by decide) ?_
          refine pw_callV6 zmM_X6_isWord rfl (lw_V q2212 q2214 qs68 q150 q2215) rfl (ts_this hM) zc_X6 (t_isWord hM hR4 wWorld (by decide)) (by decide) (Nat.le_refl _) (Nat.le_refl _) rfl (Nat.le_of_ble_eq_true rfl) (Nat.le_of_ble_eq_true rfl) dX6_kindHere_83 (by intros; rintro ⟨h, _⟩; cases h) (fun v5 g5 n5 h5 => ?_)
          obtain ⟨h5, rfl, hR5, hf5⟩ := h5; cases h5
          rw [hsk] at hR5 ⊢
          rw [hL]
          replace hf5 := hf4.tr hf5
          refine pw_if_eq_B 91 dX6_kindHere_86 (by decide) (fun c_86 => ?_) (fun c_86 => ?_)
          · refine pw_aload_n dX6_kindHere_91 0 rfl rfl ?_
            refine pw_bipush (v := 12) dX6_kindHere_92 (by decide) ?_
            refine pw_iconst (v := 1) dX6_kindHere_94 (by decide) ?_
            refine pw_bipush (v := 23) dX6_kindHere_95 (by decide) ?_
            refine pw_iconst (v := 0) dX6_kindHere_97 (by decide) ?_
            refine pw_iconst (v := 0) dX6_kindHere_98 (by decide) ?_
            refine pw_iconst (v := 0) dX6_kindHere_99 (by decide) ?_
            refine pw_callV6 zmM_X6_isWord rfl (lw_V q2212 q2214 qs68 q150 q2215) rfl (ts_this hM) zc_X6 (t_isWord hM hR5 wLaw (by decide)) (by decide) (Nat.le_refl _) (Nat.le_refl _) rfl (Nat.le_of_ble_eq_true rfl) (Nat.le_of_ble_eq_true rfl) dX6_kindHere_100 (by intros; rintro ⟨h, _⟩; cases h) (fun v6 g6 n6 h6 => ?_)
            obtain ⟨h6, rfl, hR6, hf6⟩ := h6; cases h6
            rw [hsk] at hR6 ⊢
            rw [hL]
            replace hf6 := hf5.tr hf6
            refine pw_if_eq_B 110 dX6_kindHere_103 (by decide) (fun c_103 => ?_) (fun c_103 => ?_)
            · refine pw_iconst (v := (-1)) dX6_kindHere_110 (by decide) ?_
              refine pw_iret rfl dX6_kindHere_111 ?_
              exact ⟨by unfold pKind; rw [if_neg c_14, if_neg c_33, if_neg c_49, if_neg c_67, if_neg c_86, if_neg c_103]; rfl, rfl, hR6, hf6⟩
            · refine pw_iconst (v := 5) dX6_kindHere_106 (by decide) ?_
              refine pw_goto 111 dX6_kindHere_107 (by decide) ?_
              refine pw_iret rfl dX6_kindHere_111 ?_
              exact ⟨by unfold pKind; rw [if_neg c_14, if_neg c_33, if_neg c_49, if_neg c_67, if_neg c_86, if_pos c_103]; rfl, rfl, hR6, hf6⟩
          · refine pw_iconst (v := 4) dX6_kindHere_89 (by decide) ?_
            refine pw_iret rfl dX6_kindHere_90 ?_
            exact ⟨by unfold pKind; rw [if_neg c_14, if_neg c_33, if_neg c_49, if_neg c_67, if_pos c_86]; rfl, rfl, hR5, hf5⟩
        · refine pw_iconst (v := 3) dX6_kindHere_70 (by decide) ?_
          refine pw_iret rfl dX6_kindHere_71 ?_
          exact ⟨by unfold pKind; rw [if_neg c_14, if_neg c_33, if_neg c_49, if_pos c_67]; rfl, rfl, hR4, hf4⟩
      · refine pw_iconst (v := 2) dX6_kindHere_52 (by decide) ?_
        refine pw_iret rfl dX6_kindHere_53 ?_
        exact ⟨by unfold pKind; rw [if_neg c_14, if_neg c_33, if_pos c_49]; rfl, rfl, hR3, hf3⟩
    · refine pw_iconst (v := 1) dX6_kindHere_36 (by decide) ?_
      refine pw_iret rfl dX6_kindHere_37 ?_
      exact ⟨by unfold pKind; rw [if_neg c_14, if_pos c_33]; rfl, rfl, hR2, hf2⟩
  · refine pw_iconst (v := 0) dX6_kindHere_17 (by decide) ?_
    refine pw_iret rfl dX6_kindHere_18 ?_
    exact ⟨by unfold pKind; rw [if_pos c_14]; rfl, rfl, hR1, hf1⟩
theorem t_isFull {g : zg_G} {n : zg_N} {J : zJ} (hM : TSh g) (hJ : TJ n J) (hO : JOk J) (k : Nat) (hk : k < 6) : PW zm_X6_isFull 1 (zE (some (.int (zb (pFull J k)))) g n) 0 0 0 [(0, .ref aT), (1, .int (nI k))] [] g n := by
  have h1 := hO.2.1
  refine pw_iload_n dX6_isFull_0 1 rfl rfl ?_
  refine pw_iconst (v := 1) dX6_isFull_1 (by decide) ?_
  refine pw_icmp_ne_N (b := 1) 16 dX6_isFull_2 (by decide) (by omega) (by omega) (fun c_2 => ?_) (fun c_2 => ?_)
  · refine pw_iload_n dX6_isFull_16 1 rfl rfl ?_
    refine pw_iconst (v := 2) dX6_isFull_17 (by decide) ?_
    refine pw_icmp_ne_N (b := 2) 32 dX6_isFull_18 (by decide) (by omega) (by omega) (fun c_18 => ?_) (fun c_18 => ?_)
    · refine pw_iload_n dX6_isFull_32 1 rfl rfl ?_
      refine pw_iconst (v := 3) dX6_isFull_33 (by decide) ?_
      refine pw_icmp_ne_N (b := 3) 51 dX6_isFull_34 (by decide) (by omega) (by omega) (fun c_34 => ?_) (fun c_34 => ?_)
      · refine pw_iconst (v := 0) dX6_isFull_51 (by decide) ?_
        refine pw_zret _ rfl rfl dX6_isFull_52 ?_
        first | (exfalso; omega) | exact ⟨by rw [zb_t (by omega)], rfl, rfl⟩ | exact ⟨by rw [zb_f (by omega)], rfl, rfl⟩
      · refine pw_aload_n dX6_isFull_37 0 rfl rfl ?_
        refine pw_getr 11 zc_X6 (ts_this hM) (by decide) q1997 (Or.inr ⟨_, rfl⟩) (tr_readTold hM) dX6_isFull_38 ?_
        refine pw_iconst (v := 3) dX6_isFull_41 (by decide) ?_
        refine pw_iald 3 rfl (ts_readTold hM) (by decide) (by decide) dX6_isFull_42 ?_
        rw [hJ.1 3 (by decide)]
        refine pw_iconst (v := 5) dX6_isFull_43 (by decide) ?_
        refine pw_icmp_ne_N (b := 5) 51 dX6_isFull_44 (by decide) (by omega) (by omega) (fun c_44 => ?_) (fun c_44 => ?_)
        · refine pw_iconst (v := 0) dX6_isFull_51 (by decide) ?_
          refine pw_zret _ rfl rfl dX6_isFull_52 ?_
          first | (exfalso; omega) | exact ⟨by rw [zb_t (by omega)], rfl, rfl⟩ | exact ⟨by rw [zb_f (by omega)], rfl, rfl⟩
        · refine pw_iconst (v := 1) dX6_isFull_47 (by decide) ?_
          refine pw_goto 52 dX6_isFull_48 (by decide) ?_
          refine pw_zret _ rfl rfl dX6_isFull_52 ?_
          first | (exfalso; omega) | exact ⟨by rw [zb_t (by omega)], rfl, rfl⟩ | exact ⟨by rw [zb_f (by omega)], rfl, rfl⟩
    · refine pw_aload_n dX6_isFull_21 0 rfl rfl ?_
      refine pw_getr 11 zc_X6 (ts_this hM) (by decide) q1997 (Or.inr ⟨_, rfl⟩) (tr_readTold hM) dX6_isFull_22 ?_
      refine pw_iconst (v := 2) dX6_isFull_25 (by decide) ?_
      refine pw_iald 2 rfl (ts_readTold hM) (by decide) (by decide) dX6_isFull_26 ?_
      rw [hJ.1 2 (by decide)]
      refine pw_bipush (v := 12) dX6_isFull_27 (by decide) ?_
      refine pw_icmp_eq_N (b := 12) 47 dX6_isFull_29 (by decide) (by omega) (by omega) (fun c_29 => ?_) (fun c_29 => ?_)
      · refine pw_iconst (v := 1) dX6_isFull_47 (by decide) ?_
        refine pw_goto 52 dX6_isFull_48 (by decide) ?_
        refine pw_zret _ rfl rfl dX6_isFull_52 ?_
        first | (exfalso; omega) | exact ⟨by rw [zb_t (by omega)], rfl, rfl⟩ | exact ⟨by rw [zb_f (by omega)], rfl, rfl⟩
      · refine pw_iload_n dX6_isFull_32 1 rfl rfl ?_
        refine pw_iconst (v := 3) dX6_isFull_33 (by decide) ?_
        refine pw_icmp_ne_N (b := 3) 51 dX6_isFull_34 (by decide) (by omega) (by omega) (fun c_34 => ?_) (fun c_34 => ?_)
        · refine pw_iconst (v := 0) dX6_isFull_51 (by decide) ?_
          refine pw_zret _ rfl rfl dX6_isFull_52 ?_
          first | (exfalso; omega) | exact ⟨by rw [zb_t (by omega)], rfl, rfl⟩ | exact ⟨by rw [zb_f (by omega)], rfl, rfl⟩
        · refine pw_aload_n dX6_isFull_37 0 rfl rfl ?_
          refine pw_getr 11 zc_X6 (ts_this hM) (by decide) q1997 (Or.inr ⟨_, rfl⟩) (tr_readTold hM) dX6_isFull_38 ?_
          refine pw_iconst (v := 3) dX6_isFull_41 (by decide) ?_
          refine pw_iald 3 rfl (ts_readTold hM) (by decide) (by decide) dX6_isFull_42 ?_
          rw [hJ.1 3 (by decide)]
          refine pw_iconst (v := 5) dX6_isFull_43 (by decide) ?_
          refine pw_icmp_ne_N (b := 5) 51 dX6_isFull_44 (by decide) (by omega) (by omega) (fun c_44 => ?_) (fun c_44 => ?_)
          · refine pw_iconst (v := 0) dX6_isFull_51 (by decide) ?_
            refine pw_zret _ rfl rfl dX6_isFull_52 ?_
            first | (exfalso; omega) | exact ⟨by rw [zb_t (by omega)], rfl, rfl⟩ | exact ⟨by rw [zb_f (by omega)], rfl, rfl⟩
          · refine pw_iconst (v := 1) dX6_isFull_47 (by decide) ?_
            refine pw_goto 52 dX6_isFull_48 (by decide) ?_
            refine pw_zret _ rfl rfl dX6_isFull_52 ?_
            first | (exfalso; omega) | exact ⟨by rw [zb_t (by omega)], rfl, rfl⟩ | exact ⟨by rw [zb_f (by omega)], rfl, rfl⟩
  · refine pw_aload_n dX6_isFull_5 0 rfl rfl ?_
    refine pw_getr 11 zc_X6 (ts_this hM) (by decide) q1997 (Or.inr ⟨_, rfl⟩) (tr_readTold hM) dX6_isFull_6 ?_
    refine pw_iconst (v := 1) dX6_isFull_9 (by decide) ?_
    refine pw_iald 1 rfl (ts_readTold hM) (by decide) (by decide) dX6_isFull_10 ?_
    rw [hJ.1 1 (by decide)]
    refine pw_bipush (v := 12) dX6_isFull_11 (by decide) ?_
    refine pw_icmp_eq_N (b := 12) 47 dX6_isFull_13 (by decide) (by omega) (by omega) (fun c_13 => ?_) (fun c_13 => ?_)
    · refine pw_iconst (v := 1) dX6_isFull_47 (by decide) ?_
      refine pw_goto 52 dX6_isFull_48 (by decide) ?_
      refine pw_zret _ rfl rfl dX6_isFull_52 ?_
      first | (exfalso; omega) | exact ⟨by rw [zb_t (by omega)], rfl, rfl⟩ | exact ⟨by rw [zb_f (by omega)], rfl, rfl⟩
    · refine pw_iload_n dX6_isFull_16 1 rfl rfl ?_
      refine pw_iconst (v := 2) dX6_isFull_17 (by decide) ?_
      refine pw_icmp_ne_N (b := 2) 32 dX6_isFull_18 (by decide) (by omega) (by omega) (fun c_18 => ?_) (fun c_18 => ?_)
      · refine pw_iload_n dX6_isFull_32 1 rfl rfl ?_
        refine pw_iconst (v := 3) dX6_isFull_33 (by decide) ?_
        refine pw_icmp_ne_N (b := 3) 51 dX6_isFull_34 (by decide) (by omega) (by omega) (fun c_34 => ?_) (fun c_34 => ?_)
        · refine pw_iconst (v := 0) dX6_isFull_51 (by decide) ?_
          refine pw_zret _ rfl rfl dX6_isFull_52 ?_
          first | (exfalso; omega) | exact ⟨by rw [zb_t (by omega)], rfl, rfl⟩ | exact ⟨by rw [zb_f (by omega)], rfl, rfl⟩
        · refine pw_aload_n dX6_isFull_37 0 rfl rfl ?_
          refine pw_getr 11 zc_X6 (ts_this hM) (by decide) q1997 (Or.inr ⟨_, rfl⟩) (tr_readTold hM) dX6_isFull_38 ?_
          refine pw_iconst (v := 3) dX6_isFull_41 (by decide) ?_
          refine pw_iald 3 rfl (ts_readTold hM) (by decide) (by decide) dX6_isFull_42 ?_
          rw [hJ.1 3 (by decide)]
          refine pw_iconst (v := 5) dX6_isFull_43 (by decide) ?_
          refine pw_icmp_ne_N (b := 5) 51 dX6_isFull_44 (by decide) (by omega) (by omega) (fun c_44 => ?_) (fun c_44 => ?_)
          · refine pw_iconst (v := 0) dX6_isFull_51 (by decide) ?_
            refine pw_zret _ rfl rfl dX6_isFull_52 ?_
            first | (exfalso; omega) | exact ⟨by rw [zb_t (by omega)], rfl, rfl⟩ | exact ⟨by rw [zb_f (by omega)], rfl, rfl⟩
          · refine pw_iconst (v := 1) dX6_isFull_47 (by decide) ?_
            refine pw_goto 52 dX6_isFull_48 (by decide) ?_
            refine pw_zret _ rfl rfl dX6_isFull_52 ?_
            first | (exfalso; omega) | exact ⟨by rw [zb_t (by omega)], rfl, rfl⟩ | exact ⟨by rw [zb_f (by omega)], rfl, rfl⟩
      · refine pw_aload_n dX6_isFull_21 0 rfl rfl ?_
        refine pw_getr 11 zc_X6 (ts_this hM) (by decide) q1997 (Or.inr ⟨_, rfl⟩) (tr_readTold hM) dX6_isFull_22 ?_
        refine pw_iconst (v := 2) dX6_isFull_25 (by decide) ?_
        refine pw_iald 2 rfl (ts_readTold hM) (by decide) (by decide) dX6_isFull_26 ?_
        rw [hJ.1 2 (by decide)]
        refine pw_bipush (v := 12) dX6_isFull_27 (by decide) ?_
        refine pw_icmp_eq_N (b := 12) 47 dX6_isFull_29 (by decide) (by omega) (by omega) (fun c_29 => ?_) (fun c_29 => ?_)
        · refine pw_iconst (v := 1) dX6_isFull_47 (by decide) ?_
          refine pw_goto 52 dX6_isFull_48 (by decide) ?_
          refine pw_zret _ rfl rfl dX6_isFull_52 ?_
          first | (exfalso; omega) | exact ⟨by rw [zb_t (by omega)], rfl, rfl⟩ | exact ⟨by rw [zb_f (by omega)], rfl, rfl⟩
        · refine pw_iload_n dX6_isFull_32 1 rfl rfl ?_
          refine pw_iconst (v := 3) dX6_isFull_33 (by decide) ?_
          refine pw_icmp_ne_N (b := 3) 51 dX6_isFull_34 (by decide) (by omega) (by omega) (fun c_34 => ?_) (fun c_34 => ?_)
          · refine pw_iconst (v := 0) dX6_isFull_51 (by decide) ?_
            refine pw_zret _ rfl rfl dX6_isFull_52 ?_
            first | (exfalso; omega) | exact ⟨by rw [zb_t (by omega)], rfl, rfl⟩ | exact ⟨by rw [zb_f (by omega)], rfl, rfl⟩
          · refine pw_aload_n dX6_isFull_37 0 rfl rfl ?_
            refine pw_getr 11 zc_X6 (ts_this hM) (by decide) q1997 (Or.inr ⟨_, rfl⟩) (tr_readTold hM) dX6_isFull_38 ?_
            refine pw_iconst (v := 3) dX6_isFull_41 (by decide) ?_
            refine pw_iald 3 rfl (ts_readTold hM) (by decide) (by decide) dX6_isFull_42 ?_
            rw [hJ.1 3 (by decide)]
            refine pw_iconst (v := 5) dX6_isFull_43 (by decide) ?_
            refine pw_icmp_ne_N (b := 5) 51 dX6_isFull_44 (by decide) (by omega) (by omega) (fun c_44 => ?_) (fun c_44 => ?_)
            · refine pw_iconst (v := 0) dX6_isFull_51 (by decide) ?_
              refine pw_zret _ rfl rfl dX6_isFull_52 ?_
              first | (exfalso; omega) | exact ⟨by rw [zb_t (by omega)], rfl, rfl⟩ | exact ⟨by rw [zb_f (by omega)], rfl, rfl⟩
            · refine pw_iconst (v := 1) dX6_isFull_47 (by decide) ?_
              refine pw_goto 52 dX6_isFull_48 (by decide) ?_
              refine pw_zret _ rfl rfl dX6_isFull_52 ?_
              first | (exfalso; omega) | exact ⟨by rw [zb_t (by omega)], rfl, rfl⟩ | exact ⟨by rw [zb_f (by omega)], rfl, rfl⟩
theorem jF_cl : jF aT tf_clauses := Or.inr ⟨rfl, rfl⟩
theorem TRd.j {n n' : zg_N} {b : Nat → Nat} {N p o : Nat} (h : TRd n b N p o) (hf : zFr (fun a k => a = aT ∧ k = tf_clauses) jA n n') : TRd n' b N p o := by
  have f : ∀ k, k ≠ tf_clauses → zfi n' aT k = zfi n aT k := fun k hk => (hf.1 aT k (fun z => hk z.2)).1
  exact ⟨h.1.keep2 (hf.mono (fun _ _ z => Or.inr z) (fun _ z => z)), (f tf_fault (by decide)).trans h.2.1, (f tf_at (by decide)).trans h.2.2.1, (f tf_open (by decide)).trans h.2.2.2.1, h.2.2.2.2.1, (f tf_faultAt (by decide)).trans h.2.2.2.2.2⟩
theorem TFl.j {n n' : zg_N} {e : Nat × Nat} (h : TFl n e) (hf : zFr (fun a k => a = aT ∧ k = tf_clauses) jA n n') : TFl n' e := by
  have f : ∀ k, k ≠ tf_clauses → zfi n' aT k = zfi n aT k := fun k hk => (hf.1 aT k (fun z => hk z.2)).1
  exact ⟨(f tf_fault (by decide)).trans h.1, (f tf_faultAt (by decide)).trans h.2.1, h.2.2.1, h.2.2.2.1, by rw [f tf_at (by decide)]; exact h.2.2.2.2⟩
/-- the end of a clause: its sign -/
theorem t_clEnd {g : zg_G} {n n1 : zg_N} {b : Nat → Nat} {N : Nat} (hM : TSh g) (x : Int32) (r : zPR zJ) (hf : zFr jF jA n n1) (hr : match r with | .inr q => TRd n1 b N q.2 0 ∧ TJ n1 q.1 | .inl e => TFl n1 e) :
    PW zm_X6_clause 28 (rC g n b N (pB r (fun J' p1 => pNeed b N 59 p1 J'))) 0 0 285 [(0, .ref aT), (1, .int x)] [] g n1 := by
  cases r with
  | inl e =>
    refine pw_aload_n dX6_clause_285 0 rfl rfl ?_
    refine pw_bipush (v := 59) dX6_clause_286 (by decide) ?_
    refine pw_callV1 zmM_X6_sign rfl (lw_V q2262 q2264 qs78 q150 q2265) rfl (ts_this hM) zc_X6 (t_signF hM hr.ne _) (by decide) (Nat.le_refl _) (Nat.le_refl _) rfl (Nat.le_of_ble_eq_true rfl) (Nat.le_of_ble_eq_true rfl) dX6_clause_288 zE.nx (zE_kk ?_)
    refine pw_vret rfl dX6_clause_291 ?_
    exact ⟨rfl, rfl, hf, hr⟩
  | inr q =>
    show PW zm_X6_clause 28 (rC g n b N (pNeed b N 59 q.2 q.1)) _ _ _ _ _ _ _
    rw [pNeed_u]
    refine pw_aload_n dX6_clause_285 0 rfl rfl ?_
    refine pw_bipush (v := 59) dX6_clause_286 (by decide) ?_
    refine pw_callV1 zmM_X6_sign rfl (lw_V q2262 q2264 qs78 q150 q2265) rfl (ts_this hM) zc_X6 (t_sign hM hr.1 59 (by decide)) (by decide) (Nat.le_refl _) (Nat.le_refl _) rfl (Nat.le_of_ble_eq_true rfl) (Nat.le_of_ble_eq_true rfl) dX6_clause_288 rR.nx (fun v2 g2 n2 h2 => ?_)
    obtain ⟨rfl, hf2, hr2⟩ := h2
    have hf3 := hf.tr (rjF hf2)
    cases hrr : pNeed b N 59 q.2 () with
    | inl e =>
      rw [hrr] at hr2
      obtain ⟨⟨y, hy⟩, hF⟩ := hr2
      cases hy
      refine pw_vret rfl dX6_clause_291 ?_
      exact ⟨rfl, rfl, hf3, hF⟩
    | inr z =>
      rw [hrr] at hr2
      obtain ⟨hy, hR2⟩ := hr2
      cases hy
      refine pw_vret rfl dX6_clause_291 ?_
      exact ⟨rfl, rfl, hf3, hR2, hr.2.keep hf2⟩
theorem pB_r {α β : Type} (q : α × Nat) (k : α → Nat → zPR β) : pB (.inr q) k = k q.1 q.2 := rfl
theorem jN_n {J : zJ} {k v j : Nat} (h : j ≠ k) : (jN J k v).1 j = J.1 j := zu1_n h
theorem pBody_cl {b : Nat → Nat} {N : Nat} {J : zJ} {k p : Nat} : pBody b N (jN J 6 (J.1 6 + 1)) k p = pB (pBody b N J k p) (fun J' p1 => .inr (jN J' 6 (J'.1 6 + 1), p1)) := by
  have h0 : ∀ k, k ≠ 6 → (jN J 6 (J.1 6 + 1)).1 k = J.1 k := fun k hk => zu1_n hk
  have hc : ∀ (f : Nat → Nat) (i j x y : Nat), i ≠ j → zu1 (zu1 f i x) j y = zu1 (zu1 f j y) i x := fun f i j x y hij => by
    funext z
    unfold zu1
    by_cases h1 : z = i <;> by_cases h2 : z = j <;> simp_all
  unfold pBody
  rw [h0 0 (by decide), h0 1 (by decide), h0 3 (by decide)]
  have hN : ∀ i v, i ≠ 6 → jN (jN J 6 (J.1 6 + 1)) i v = jN (jN J i v) 6 ((jN J i v).1 6 + 1) := fun i v hi => by
    show (zu1 (zu1 J.1 6 (J.1 6 + 1)) i v, J.2) = (zu1 (zu1 J.1 i v) 6 (zu1 J.1 i v 6 + 1), J.2)
    rw [hc J.1 6 i _ _ (Ne.symm hi), zu1_n (f := J.1) (a := i) (Ne.symm hi)]
  have hMm : ∀ c i v, c ≠ 6 → jM (jN J 6 (J.1 6 + 1)) c i v = jN (jM J c i v) 6 ((jM J c i v).1 6 + 1) := fun c i v hi => by
    show (zu1 (zu1 J.1 6 (J.1 6 + 1)) c (zu1 J.1 6 (J.1 6 + 1) c + 1), _) = (zu1 (zu1 J.1 c (J.1 c + 1)) 6 (zu1 J.1 c (J.1 c + 1) 6 + 1), _)
    rw [zu1_n (f := J.1) (a := 6) hi, hc J.1 6 c _ _ (Ne.symm hi), zu1_n (f := J.1) (a := c) (Ne.symm hi)]; rfl
  have hSs : ∀ i v, jS (jN J 6 (J.1 6 + 1)) i v = jN (jS J i v) 6 ((jS J i v).1 6 + 1) := fun i v => by
    show (zu1 (zu1 J.1 6 (J.1 6 + 1)) 2 (zu1 J.1 6 (J.1 6 + 1) 2 + 1), zu1 J.2.1 (zu1 J.1 6 (J.1 6 + 1) 2) i, J.2.2.1, zu1 J.2.2.2 (zu1 J.1 6 (J.1 6 + 1) 2) v) = (zu1 (zu1 J.1 2 (J.1 2 + 1)) 6 (zu1 J.1 2 (J.1 2 + 1) 6 + 1), zu1 J.2.1 (J.1 2) i, J.2.2.1, zu1 J.2.2.2 (J.1 2) v)
    rw [zu1_n (f := J.1) (a := 6) (b := 2) (by decide), hc J.1 6 2 _ _ (by decide), zu1_n (f := J.1) (a := 2) (b := 6) (by decide)]
  split
  · cases pNum b N 1 6 p <;> simp only [pB, hN _ _ (show (0 : Nat) ≠ 6 by decide)]
  · split
    · cases pAny b N (J.1 0) p <;> simp only [pB, hMm _ _ _ (show (1 : Nat) ≠ 6 by decide)]
    · split
      · cases pNum b N 0 51 p with
        | inl e => rfl
        | inr q =>
          rw [pB_r, pB_r]
          cases pAny b N (J.1 0) q.2 <;> simp only [pB, hSs]
      · split
        · cases pAny b N (J.1 0) p <;> simp only [pB, hMm _ _ _ (show (3 : Nat) ≠ 6 by decide)]
        · split
          · cases pNum b N 0 (2 ^ J.1 0 - 1) p <;> simp only [pB, hN _ _ (show (4 : Nat) ≠ 6 by decide)]
          · cases pNum b N 0 4 p <;> simp only [pB, hN _ _ (show (5 : Nat) ≠ 6 by decide)]
theorem jA_t : jA at_readTold := Or.inl rfl
theorem jA_m : jA at_readModels := Or.inr (Or.inl rfl)
theorem jA_w : jA at_readWeek := Or.inr (Or.inr (Or.inl rfl))
theorem jA_s : jA at_readSeen := Or.inr (Or.inr (Or.inr rfl))
theorem TJ.num {n : zg_N} {J : zJ} (h : TJ n J) (k v : Nat) (hk : k = 0 ∨ k = 4 ∨ k = 5) : TJ (zpai n at_readTold k (nI v)) (jN J k v) := by
  obtain ⟨h1, h2, h3, h4⟩ := h
  refine ⟨fun j hj => ?_, ?_, fun j hj => ?_, fun j hj => ?_⟩
  · rw [zai_p]
    show _ = nI (zu1 J.1 k v j)
    by_cases e : j = k
    · subst e; rw [if_pos ⟨rfl, rfl⟩, zu1_s]
    · rw [if_neg (fun z => e z.2), zu1_n e]; exact h1 j hj
  · show _ = nI (zu1 J.1 k v 6)
    rw [zu1_n (by omega)]; exact h2
  · refine h3 j ?_
    rw [jN_n (J := J) (show 1 ≠ k by omega), jN_n (J := J) (show 3 ≠ k by omega)] at hj
    exact hj
  · rw [jN_n (J := J) (show 2 ≠ k by omega)] at hj
    exact h4 j hj
theorem TJ.mod {n : zg_N} {J : zJ} (h : TJ n J) (c i : Nat) (v : Int64) (hc : (c = 1 ∧ i = J.1 1 ∧ J.1 1 < 12) ∨ (c = 3 ∧ i = 12 + J.1 3)) : TJ (zpai (zpal n at_readModels i v) at_readTold c (nI (J.1 c + 1))) (jM J c i v) := by
  obtain ⟨h1, h2, h3, h4⟩ := h
  refine ⟨fun j hj => ?_, ?_, fun j hj => ?_, fun j hj => ?_⟩
  · rw [zai_p]
    show _ = nI (zu1 J.1 c (J.1 c + 1) j)
    by_cases e : j = c
    · subst e; rw [if_pos ⟨rfl, rfl⟩, zu1_s]
    · rw [if_neg (fun z => e z.2), zu1_n e]; exact h1 j hj
  · show _ = nI (zu1 J.1 c (J.1 c + 1) 6)
    rw [zu1_n (by omega)]; exact h2
  · show zal (zpal n at_readModels i v) at_readModels j = zu1 J.2.2.1 i v j
    rw [zal_p]
    by_cases e : j = i
    · subst e; rw [if_pos ⟨rfl, rfl⟩, zu1_s]
    · rw [if_neg (fun z => e z.2), zu1_n e]
      refine h3 j ?_
      replace hj : j < zu1 J.1 c (J.1 c + 1) 1 ∨ 12 ≤ j ∧ j < 12 + zu1 J.1 c (J.1 c + 1) 3 := hj
      rcases hc with ⟨rfl, rfl, _⟩ | ⟨rfl, rfl⟩
      · rw [zu1_s, zu1_n (by decide)] at hj; omega
      · rw [zu1_s, zu1_n (by decide)] at hj; omega
  · replace hj : j < zu1 J.1 c (J.1 c + 1) 2 := hj
    rw [zu1_n (by omega)] at hj
    exact h4 j hj
theorem TJ.see {n : zg_N} {J : zJ} (h : TJ n J) (m : Nat) (v : Int64) : TJ (zpai (zpal (zpai n at_readWeek (J.1 2) (nI m)) at_readSeen (J.1 2) v) at_readTold 2 (nI (J.1 2 + 1))) (jS J m v) := by
  obtain ⟨h1, h2, h3, h4⟩ := h
  refine ⟨fun j hj => ?_, ?_, fun j hj => ?_, fun j hj => ?_⟩
  · rw [zai_p]
    show _ = nI (zu1 J.1 2 (J.1 2 + 1) j)
    by_cases e : j = 2
    · subst e; rw [if_pos ⟨rfl, rfl⟩, zu1_s]
    · rw [if_neg (fun z => e z.2), zu1_n e]; exact h1 j hj
  · show _ = nI (zu1 J.1 2 (J.1 2 + 1) 6)
    rw [zu1_n (by decide)]; exact h2
  · refine h3 j ?_
    replace hj : j < zu1 J.1 2 (J.1 2 + 1) 1 ∨ 12 ≤ j ∧ j < 12 + zu1 J.1 2 (J.1 2 + 1) 3 := hj
    rw [zu1_n (by decide), zu1_n (by decide)] at hj
    exact hj
  · replace hj : j < zu1 J.1 2 (J.1 2 + 1) 2 := hj
    rw [zu1_s] at hj
    show zai (zpai n at_readWeek (J.1 2) (nI m)) at_readWeek j = nI (zu1 J.2.1 (J.1 2) m j) ∧ zal (zpal n at_readSeen (J.1 2) v) at_readSeen j = zu1 J.2.2.2 (J.1 2) v j
    rw [zai_p, zal_p]
    by_cases e : j = J.1 2
    · rw [e, if_pos ⟨rfl, rfl⟩, if_pos ⟨rfl, rfl⟩, zu1_s, zu1_s]; exact ⟨rfl, rfl⟩
    · rw [if_neg (fun z => e z.2), if_neg (fun z => e z.2), zu1_n e, zu1_n e]; exact h4 j (by omega)
theorem TJ.cl {n : zg_N} {J : zJ} (h : TJ n J) : TJ (zpfi n aT tf_clauses (nI (J.1 6 + 1))) (jN J 6 (J.1 6 + 1)) := by
  obtain ⟨h1, h2, h3, h4⟩ := h
  refine ⟨fun j hj => ?_, ?_, fun j hj => ?_, fun j hj => ?_⟩
  · show zai n at_readTold j = nI (zu1 J.1 6 (J.1 6 + 1) j)
    rw [zu1_n (by omega)]; exact h1 j hj
  · show nI (J.1 6 + 1) = nI (zu1 J.1 6 (J.1 6 + 1) 6)
    rw [zu1_s]
  · refine h3 j ?_
    rw [jN_n (J := J) (show 1 ≠ 6 by decide), jN_n (J := J) (show 3 ≠ 6 by decide)] at hj
    exact hj
  · rw [jN_n (J := J) (show 2 ≠ 6 by decide)] at hj
    exact h4 j hj
theorem t_any {g : zg_G} {n : zg_N} {b : Nat → Nat} {N a p : Nat} (hM : TSh g) (h1 : 1 ≤ a) (ha : a ≤ 6) (hR : TRd n b N p 0) (hra : TRa n a) : PW zm_X6_anyOf 27 (rR g n b N 0 mkL (pAny b N a p)) 0 0 0 [(0, .ref aT)] [] g n :=
  (t_pS hM h1 ha (fuS N)).1 0 p n (Nat.zero_le _) hR hra (pAny_ok b N a hR.2.2.2.2.1)
theorem pCl_eq {b : Nat → Nat} {N : Nat} {J : zJ} {q : Nat} (h6 : ¬ pKind (tWd b N q) = 6) (h3 : ¬ (J.1 6 = 60 ∨ pFull J (pKind (tWd b N q)))) (h4 : ¬ (pKind (tWd b N q) = 0 ∧ 0 < J.1 6)) : pCl b N J q = pB (pBody b N (jN J 6 (J.1 6 + 1)) (pKind (tWd b N q)) (q + (tWd b N q).length)) (fun J' p1 => pNeed b N 59 p1 J') := by
  unfold pCl
  rw [if_neg h6, if_neg h3, if_neg h4, pBody_cl]
  cases pBody b N J (pKind (tWd b N q)) (q + (tWd b N q).length) <;> rfl

/-! ===== the reference reads: a clause, walked ===== -/
theorem t_cl79 {g : zg_G} {n n1 : zg_N} {b : Nat → Nat} {N q k : Nat} {J : zJ} (hM : TSh g) (hO : JOk J) (hk : k < 6) (h3 : ¬ (J.1 6 = 60 ∨ pFull J k)) (hf1 : zFr jF jA n n1) (hR1 : TRd n1 b N q 0) (hJ1 : TJ n1 J) :
    PW zm_X6_clause 28 (rC g n b N (pB (pBody b N (jN J 6 (J.1 6 + 1)) k (q + (tWd b N q).length)) (fun J' p1 => pNeed b N 59 p1 J'))) 0 0 79 [(0, .ref aT), (1, .int (nI k))] [] g n1 := by
  have hO1 := hO.1; have hO2 := hO.2.1
  have h12 : k = 1 → J.1 1 < 12 := fun z => by have := fun y => h3 (Or.inr (Or.inl ⟨z, y⟩)); omega
  have h22 : k = 2 → J.1 2 < 12 := fun z => by have := fun y => h3 (Or.inr (Or.inr (Or.inl ⟨z, y⟩))); omega
  have h32 : k = 3 → J.1 3 < 5 := fun z => by have := fun y => h3 (Or.inr (Or.inr (Or.inr ⟨z, y⟩))); omega
  have hJx : ∀ j, j ≠ 6 → (jN J 6 (J.1 6 + 1)).1 j = J.1 j := fun j h => jN_n h
  refine pw_aload_n dX6_clause_79 0 rfl rfl ?_
  refine pw_callV0 zmM_X6_skipWord rfl (lw_V q2234 q2236 qs72 q150 q2237) rfl (ts_this hM) zc_X6 (t_skw hM hR1) (by decide) (Nat.le_refl _) (Nat.le_refl _) rfl (Nat.le_of_ble_eq_true rfl) (Nat.le_of_ble_eq_true rfl) dX6_clause_80 (by intros; rintro ⟨h, _⟩; cases h) (fun v2 g2 n2 h2 => ?_)
  obtain ⟨h2, rfl, hR2, hf2⟩ := h2; cases h2
  have hJ2 := hJ1.keep hf2
  generalize q + (tWd b N q).length = p at hR2 ⊢
  refine pw_aload_n dX6_clause_83 0 rfl rfl ?_
  refine pw_dup dX6_clause_84 rfl ?_
  refine pw_geti 7 zc_X6 (ts_this hM) (by decide) q1993 (Or.inl rfl) dX6_clause_85 ?_
  rw [hJ2.2.1]
  refine pw_iconst (v := 1) dX6_clause_88 (by decide) ?_
  refine pw_iadd dX6_clause_89 ?_
  rw [nI_1]
  refine pw_puti 7 zc_X6 (ts_this hM) (by decide) (by decide) q1993 rfl (Or.inl rfl) rfl rfl dX6_clause_90 ?_
  have hR3 := hR2.j (n' := zpfi n2 aT tf_clauses (nI (J.1 6 + 1))) (zFr.rf.pfi ⟨rfl, rfl⟩)
  have hJ3 := hJ2.cl
  have hf3 := (hf1.tr (rjF hf2)).pfi (v := nI (J.1 6 + 1)) jF_cl
  generalize zpfi n2 aT tf_clauses (nI (J.1 6 + 1)) = n3 at hR3 hJ3 hf3 ⊢
  have e0 := hJx 0 (by decide); have e1 := hJx 1 (by decide); have e2 := hJx 2 (by decide); have e3 := hJx 3 (by decide)
  generalize jN J 6 (J.1 6 + 1) = J3 at hJ3 e0 e1 e2 e3 ⊢
  have hra : TRa n3 (J.1 0) := (hJ3.1 0 (by decide)).trans (by rw [e0])
  refine pw_iload_n dX6_clause_93 1 rfl rfl ?_
  refine pw_case_N 0 (by omega) (by decide) (fun c_94 => ?_) (fun n_94_0 => ?_)
  · refine pw_tableIn 128 dX6_clause_94 (by decide) (by decide) rfl (by decide) ?_
    subst c_94
    refine pw_aload_n dX6_clause_128 0 rfl rfl ?_
    refine pw_getr 11 zc_X6 (ts_this hM) (by decide) q1997 (Or.inr ⟨_, rfl⟩) (tr_readTold hM) dX6_clause_129 ?_
    refine pw_iconst (v := 0) dX6_clause_132 (by decide) ?_
    refine pw_aload_n dX6_clause_133 0 rfl rfl ?_
    refine pw_iconst (v := 1) dX6_clause_134 (by decide) ?_
    refine pw_bipush (v := 6) dX6_clause_135 (by decide) ?_
    refine pw_callV2 zmM_X6_number rfl (lw_V q2238 q2240 qs73 q150 q2241) rfl (ts_this hM) zc_X6 (t_number hM hR3 1 6 (by decide) (by decide)) (by decide) (Nat.le_refl _) (Nat.le_refl _) rfl (Nat.le_of_ble_eq_true rfl) (Nat.le_of_ble_eq_true rfl) dX6_clause_137 rR.nx (fun v4 g4 n4 h4 => ?_)
    obtain ⟨rfl, hf4, hr4⟩ := h4
    have hf5 := hf3.tr (rjF hf4)
    have hJ5 := hJ3.keep hf4
    cases hrr : pNum b N 1 6 p with
    | inl e =>
      rw [hrr] at hr4
      obtain ⟨⟨y, hy⟩, hF⟩ := hr4
      cases hy
      rw [show pBody b N J3 0 p = .inl e from by unfold pBody; rw [if_pos rfl, hrr]; rfl]
      refine pw_iast 0 rfl (ts_readTold hM) (by decide) (by decide) (by decide) dX6_clause_140 ?_
      refine pw_goto 285 dX6_clause_141 (by decide) ?_
      exact t_clEnd hM _ (.inl e) (hf5.pai jA_t) (hF.j (zFr.rf.pai jA_t))
    | inr z =>
      rw [hrr] at hr4
      obtain ⟨hy, hR4⟩ := hr4
      cases hy
      rw [show pBody b N J3 0 p = .inr (jN J3 0 z.1, z.2) from by unfold pBody; rw [if_pos rfl, hrr]; rfl]
      refine pw_iast 0 rfl (ts_readTold hM) (by decide) (by decide) (by decide) dX6_clause_140 ?_
      refine pw_goto 285 dX6_clause_141 (by decide) ?_
      exact t_clEnd hM _ (.inr _) (hf5.pai jA_t) ⟨hR4.j (zFr.rf.pai jA_t), hJ5.num 0 z.1 (Or.inl rfl)⟩
  refine pw_case_N 1 (by omega) (by decide) (fun c_94 => ?_) (fun n_94_1 => ?_)
  · refine pw_tableIn 144 dX6_clause_94 (by decide) (by decide) rfl (by decide) ?_
    subst c_94
    refine pw_aload_n dX6_clause_144 0 rfl rfl ?_
    refine pw_getr 15 zc_X6 (ts_this hM) (by decide) q2001 (Or.inr ⟨_, rfl⟩) (tr_readModels hM) dX6_clause_145 ?_
    refine pw_aload_n dX6_clause_148 0 rfl rfl ?_
    refine pw_getr 11 zc_X6 (ts_this hM) (by decide) q1997 (Or.inr ⟨_, rfl⟩) (tr_readTold hM) dX6_clause_149 ?_
    refine pw_iconst (v := 1) dX6_clause_152 (by decide) ?_
    refine pw_iald 1 rfl (ts_readTold hM) (by decide) (by decide) dX6_clause_153 ?_
    rw [hJ3.1 1 (by decide), e1]
    have hq1 := h12 rfl
    refine pw_aload_n dX6_clause_154 0 rfl rfl ?_
    refine pw_callV0 zmM_X6_anyOf rfl (lw_V q2246 q2248 qs74 q150 q2249) rfl (ts_this hM) zc_X6 (t_any hM hO1.1 hO1.2 hR3 hra) (by decide) (Nat.le_refl _) (Nat.le_refl _) rfl (Nat.le_of_ble_eq_true rfl) (Nat.le_of_ble_eq_true rfl) dX6_clause_155 rR.nx (fun v4 g4 n4 h4 => ?_)
    obtain ⟨rfl, hf4, hr4⟩ := h4
    have hf5 := hf3.tr (rjF hf4)
    have hJ5 := hJ3.keep hf4
    cases hrr : pAny b N (J.1 0) p with
    | inl e =>
      rw [hrr] at hr4
      obtain ⟨⟨y, hy⟩, hF⟩ := hr4
      cases hy
      rw [show pBody b N J3 1 p = .inl e from by unfold pBody; rw [if_neg (by decide), if_pos rfl, e0, hrr]; rfl]
      refine pw_last (J.1 1) rfl (ts_readModels hM) (by decide) (by omega) (by decide) dX6_clause_158 ?_
      refine pw_aload_n dX6_clause_159 0 rfl rfl ?_
      refine pw_getr 11 zc_X6 (ts_this hM) (by decide) q1997 (Or.inr ⟨_, rfl⟩) (tr_readTold hM) dX6_clause_160 ?_
      refine pw_iconst (v := 1) dX6_clause_163 (by decide) ?_
      refine pw_dup2_11 dX6_clause_164 rfl rfl ?_
      refine pw_iald 1 rfl (ts_readTold hM) (by decide) (by decide) dX6_clause_165 ?_
      refine pw_iconst (v := 1) dX6_clause_166 (by decide) ?_
      refine pw_iadd dX6_clause_167 ?_
      refine pw_iast 1 rfl (ts_readTold hM) (by decide) (by decide) (by decide) dX6_clause_168 ?_
      refine pw_goto 285 dX6_clause_169 (by decide) ?_
      exact t_clEnd hM _ (.inl e) ((hf5.pal jA_m).pai jA_t) (hF.j ((zFr.rf.pal jA_m).pai jA_t))
    | inr z =>
      rw [hrr] at hr4
      obtain ⟨hy, hR4⟩ := hr4
      cases hy
      rw [show pBody b N J3 1 p = .inr (jM J3 1 (J.1 1) z.1, z.2) from by unfold pBody; rw [if_neg (by decide), if_pos rfl, e0, hrr, e1]; rfl]
      refine pw_last (J.1 1) rfl (ts_readModels hM) (by decide) (by omega) (by decide) dX6_clause_158 ?_
      refine pw_aload_n dX6_clause_159 0 rfl rfl ?_
      refine pw_getr 11 zc_X6 (ts_this hM) (by decide) q1997 (Or.inr ⟨_, rfl⟩) (tr_readTold hM) dX6_clause_160 ?_
      refine pw_iconst (v := 1) dX6_clause_163 (by decide) ?_
      refine pw_dup2_11 dX6_clause_164 rfl rfl ?_
      refine pw_iald 1 rfl (ts_readTold hM) (by decide) (by decide) dX6_clause_165 ?_
      rw [show zai (zpal n4 at_readModels (J.1 1) z.1) at_readTold 1 = nI (J3.1 1) from hJ5.1 1 (by decide)]
      refine pw_iconst (v := 1) dX6_clause_166 (by decide) ?_
      refine pw_iadd dX6_clause_167 ?_
      rw [nI_1]
      refine pw_iast 1 rfl (ts_readTold hM) (by decide) (by decide) (by decide) dX6_clause_168 ?_
      refine pw_goto 285 dX6_clause_169 (by decide) ?_
      exact t_clEnd hM _ (.inr _) ((hf5.pal jA_m).pai jA_t) ⟨hR4.j ((zFr.rf.pal jA_m).pai jA_t), hJ5.mod 1 _ _ (Or.inl ⟨rfl, e1.symm, by omega⟩)⟩
  refine pw_case_N 2 (by omega) (by decide) (fun c_94 => ?_) (fun n_94_2 => ?_)
  · refine pw_tableIn 172 dX6_clause_94 (by decide) (by decide) rfl (by decide) ?_
    subst c_94
    refine pw_aload_n dX6_clause_172 0 rfl rfl ?_
    refine pw_getr 13 zc_X6 (ts_this hM) (by decide) q1999 (Or.inr ⟨_, rfl⟩) (tr_readWeek hM) dX6_clause_173 ?_
    refine pw_aload_n dX6_clause_176 0 rfl rfl ?_
    refine pw_getr 11 zc_X6 (ts_this hM) (by decide) q1997 (Or.inr ⟨_, rfl⟩) (tr_readTold hM) dX6_clause_177 ?_
    refine pw_iconst (v := 2) dX6_clause_180 (by decide) ?_
    refine pw_iald 2 rfl (ts_readTold hM) (by decide) (by decide) dX6_clause_181 ?_
    rw [hJ3.1 2 (by decide), e2]
    have hq2 := h22 rfl
    refine pw_aload_n dX6_clause_182 0 rfl rfl ?_
    refine pw_iconst (v := 0) dX6_clause_183 (by decide) ?_
    refine pw_bipush (v := 51) dX6_clause_184 (by decide) ?_
    refine pw_callV2 zmM_X6_number rfl (lw_V q2238 q2240 qs73 q150 q2241) rfl (ts_this hM) zc_X6 (t_number hM hR3 0 51 (by decide) (by decide)) (by decide) (Nat.le_refl _) (Nat.le_refl _) rfl (Nat.le_of_ble_eq_true rfl) (Nat.le_of_ble_eq_true rfl) dX6_clause_186 rR.nx (fun v4 g4 n4 h4 => ?_)
    obtain ⟨rfl, hf4, hr4⟩ := h4
    have hf5 := hf3.tr (rjF hf4)
    have hJ5 := hJ3.keep hf4
    cases hrr : pNum b N 0 51 p with
    | inl e =>
      rw [hrr] at hr4
      obtain ⟨⟨y, hy⟩, hF⟩ := hr4
      cases hy
      rw [show pBody b N J3 2 p = .inl e from by unfold pBody; rw [if_neg (by decide), if_neg (by decide), if_pos rfl, hrr]; rfl]
      have hF2 : TFl (zpai n4 at_readWeek (J.1 2) (nI y)) e := hF.j (zFr.rf.pai jA_w)
      refine pw_iast (J.1 2) rfl (ts_readWeek hM) (by decide) (by omega) (by decide) dX6_clause_189 ?_
      refine pw_aload_n dX6_clause_190 0 rfl rfl ?_
      refine pw_getr 17 zc_X6 (ts_this hM) (by decide) q2003 (Or.inr ⟨_, rfl⟩) (tr_readSeen hM) dX6_clause_191 ?_
      refine pw_aload_n dX6_clause_194 0 rfl rfl ?_
      refine pw_getr 11 zc_X6 (ts_this hM) (by decide) q1997 (Or.inr ⟨_, rfl⟩) (tr_readTold hM) dX6_clause_195 ?_
      refine pw_iconst (v := 2) dX6_clause_198 (by decide) ?_
      refine pw_iald 2 rfl (ts_readTold hM) (by decide) (by decide) dX6_clause_199 ?_
      rw [show zai (zpai n4 at_readWeek (J.1 2) (nI y)) at_readTold 2 = nI (J3.1 2) from hJ5.1 2 (by decide), e2]
      refine pw_aload_n dX6_clause_200 0 rfl rfl ?_
      refine pw_callV0 zmM_X6_anyOf rfl (lw_V q2246 q2248 qs74 q150 q2249) rfl (ts_this hM) zc_X6 (t_anyF hM hF2.ne) (by decide) (Nat.le_refl _) (Nat.le_refl _) rfl (Nat.le_of_ble_eq_true rfl) (Nat.le_of_ble_eq_true rfl) dX6_clause_201 zE.nx (zE_kk ?_)
      refine pw_last (J.1 2) rfl (ts_readSeen hM) (by decide) (by omega) (by decide) dX6_clause_204 ?_
      refine pw_aload_n dX6_clause_205 0 rfl rfl ?_
      refine pw_getr 11 zc_X6 (ts_this hM) (by decide) q1997 (Or.inr ⟨_, rfl⟩) (tr_readTold hM) dX6_clause_206 ?_
      refine pw_iconst (v := 2) dX6_clause_209 (by decide) ?_
      refine pw_dup2_11 dX6_clause_210 rfl rfl ?_
      refine pw_iald 2 rfl (ts_readTold hM) (by decide) (by decide) dX6_clause_211 ?_
      refine pw_iconst (v := 1) dX6_clause_212 (by decide) ?_
      refine pw_iadd dX6_clause_213 ?_
      refine pw_iast 2 rfl (ts_readTold hM) (by decide) (by decide) (by decide) dX6_clause_214 ?_
      refine pw_goto 285 dX6_clause_215 (by decide) ?_
      exact t_clEnd hM _ (.inl e) (((hf5.pai jA_w).pal jA_s).pai jA_t) (hF2.j ((zFr.rf.pal jA_s).pai jA_t))
    | inr z =>
      rw [hrr] at hr4
      obtain ⟨hy, hR4⟩ := hr4
      cases hy
      rw [show pBody b N J3 2 p = pB (pAny b N (J.1 0) z.2) (fun v p2 => .inr (jS J3 z.1 v, p2)) from by unfold pBody; rw [if_neg (by decide), if_neg (by decide), if_pos rfl, hrr, e0]; rfl]
      have hR5 : TRd (zpai n4 at_readWeek (J.1 2) (nI z.1)) b N z.2 0 := hR4.j (zFr.rf.pai jA_w)
      have hra5 : TRa (zpai n4 at_readWeek (J.1 2) (nI z.1)) (J.1 0) := by have h9 := tra_k hra hf4; exact h9
      refine pw_iast (J.1 2) rfl (ts_readWeek hM) (by decide) (by omega) (by decide) dX6_clause_189 ?_
      refine pw_aload_n dX6_clause_190 0 rfl rfl ?_
      refine pw_getr 17 zc_X6 (ts_this hM) (by decide) q2003 (Or.inr ⟨_, rfl⟩) (tr_readSeen hM) dX6_clause_191 ?_
      refine pw_aload_n dX6_clause_194 0 rfl rfl ?_
      refine pw_getr 11 zc_X6 (ts_this hM) (by decide) q1997 (Or.inr ⟨_, rfl⟩) (tr_readTold hM) dX6_clause_195 ?_
      refine pw_iconst (v := 2) dX6_clause_198 (by decide) ?_
      refine pw_iald 2 rfl (ts_readTold hM) (by decide) (by decide) dX6_clause_199 ?_
      rw [show zai (zpai n4 at_readWeek (J.1 2) (nI z.1)) at_readTold 2 = nI (J3.1 2) from hJ5.1 2 (by decide), e2]
      refine pw_aload_n dX6_clause_200 0 rfl rfl ?_
      refine pw_callV0 zmM_X6_anyOf rfl (lw_V q2246 q2248 qs74 q150 q2249) rfl (ts_this hM) zc_X6 (t_any hM hO1.1 hO1.2 hR5 hra5) (by decide) (Nat.le_refl _) (Nat.le_refl _) rfl (Nat.le_of_ble_eq_true rfl) (Nat.le_of_ble_eq_true rfl) dX6_clause_201 rR.nx (fun v6 g6 n6 h6 => ?_)
      obtain ⟨rfl, hf6, hr6⟩ := h6
      have hf7 := (hf5.pai (k := J.1 2) (v := nI z.1) jA_w).tr (rjF hf6)
      cases hrr2 : pAny b N (J.1 0) z.2 with
      | inl e =>
        rw [hrr2] at hr6
        obtain ⟨⟨y, hy⟩, hF⟩ := hr6
        cases hy
        refine pw_last (J.1 2) rfl (ts_readSeen hM) (by decide) (by omega) (by decide) dX6_clause_204 ?_
        refine pw_aload_n dX6_clause_205 0 rfl rfl ?_
        refine pw_getr 11 zc_X6 (ts_this hM) (by decide) q1997 (Or.inr ⟨_, rfl⟩) (tr_readTold hM) dX6_clause_206 ?_
        refine pw_iconst (v := 2) dX6_clause_209 (by decide) ?_
        refine pw_dup2_11 dX6_clause_210 rfl rfl ?_
        refine pw_iald 2 rfl (ts_readTold hM) (by decide) (by decide) dX6_clause_211 ?_
        refine pw_iconst (v := 1) dX6_clause_212 (by decide) ?_
        refine pw_iadd dX6_clause_213 ?_
        refine pw_iast 2 rfl (ts_readTold hM) (by decide) (by decide) (by decide) dX6_clause_214 ?_
        refine pw_goto 285 dX6_clause_215 (by decide) ?_
        exact t_clEnd hM _ (.inl e) ((hf7.pal jA_s).pai jA_t) (hF.j ((zFr.rf.pal jA_s).pai jA_t))
      | inr y =>
        rw [hrr2] at hr6
        obtain ⟨hy, hR7⟩ := hr6
        cases hy
        have hJs := hJ5.see z.1 y.1
        rw [e2] at hJs
        have hJ9 : TJ (zpai (zpal n6 at_readSeen (J.1 2) y.1) at_readTold 2 (nI (J.1 2 + 1))) (jS J3 z.1 y.1) := hJs.keep ⟨fun a k h => ⟨(hf6.1 a k h).1, (hf6.1 a k h).2⟩, fun a h k => ⟨by
          rw [zai_p, zai_p]
          split
          · rfl
          · exact (hf6.2 a h k).1, by
          show zal (zpal n6 at_readSeen (J.1 2) y.1) a k = zal (zpal (zpai n4 at_readWeek (J.1 2) (nI z.1)) at_readSeen (J.1 2) y.1) a k
          rw [zal_p, zal_p]
          split
          · rfl
          · exact (hf6.2 a h k).2⟩⟩
        refine pw_last (J.1 2) rfl (ts_readSeen hM) (by decide) (by omega) (by decide) dX6_clause_204 ?_
        refine pw_aload_n dX6_clause_205 0 rfl rfl ?_
        refine pw_getr 11 zc_X6 (ts_this hM) (by decide) q1997 (Or.inr ⟨_, rfl⟩) (tr_readTold hM) dX6_clause_206 ?_
        refine pw_iconst (v := 2) dX6_clause_209 (by decide) ?_
        refine pw_dup2_11 dX6_clause_210 rfl rfl ?_
        refine pw_iald 2 rfl (ts_readTold hM) (by decide) (by decide) dX6_clause_211 ?_
        rw [show zai (zpal n6 at_readSeen (J.1 2) y.1) at_readTold 2 = nI (J.1 2) from ((hf6.2 at_readTold (fun z => z) 2).1).trans ((hJ5.1 2 (by decide)).trans (by rw [e2]))]
        refine pw_iconst (v := 1) dX6_clause_212 (by decide) ?_
        refine pw_iadd dX6_clause_213 ?_
        rw [nI_1]
        refine pw_iast 2 rfl (ts_readTold hM) (by decide) (by decide) (by decide) dX6_clause_214 ?_
        refine pw_goto 285 dX6_clause_215 (by decide) ?_
        exact t_clEnd hM _ (.inr _) ((hf7.pal jA_s).pai jA_t) ⟨hR7.j ((zFr.rf.pal jA_s).pai jA_t), hJ9⟩
  refine pw_case_N 3 (by omega) (by decide) (fun c_94 => ?_) (fun n_94_3 => ?_)
  · refine pw_tableIn 218 dX6_clause_94 (by decide) (by decide) rfl (by decide) ?_
    subst c_94
    refine pw_aload_n dX6_clause_218 0 rfl rfl ?_
    refine pw_getr 15 zc_X6 (ts_this hM) (by decide) q2001 (Or.inr ⟨_, rfl⟩) (tr_readModels hM) dX6_clause_219 ?_
    refine pw_bipush (v := 12) dX6_clause_222 (by decide) ?_
    refine pw_aload_n dX6_clause_224 0 rfl rfl ?_
    refine pw_getr 11 zc_X6 (ts_this hM) (by decide) q1997 (Or.inr ⟨_, rfl⟩) (tr_readTold hM) dX6_clause_225 ?_
    refine pw_iconst (v := 3) dX6_clause_228 (by decide) ?_
    refine pw_iald 3 rfl (ts_readTold hM) (by decide) (by decide) dX6_clause_229 ?_
    rw [hJ3.1 3 (by decide), e3]
    have hq3 := h32 rfl
    refine pw_iadd dX6_clause_230 ?_
    rw [show (12 : Int32) = nI 12 from rfl, nI_add]
    refine pw_aload_n dX6_clause_231 0 rfl rfl ?_
    refine pw_callV0 zmM_X6_anyOf rfl (lw_V q2246 q2248 qs74 q150 q2249) rfl (ts_this hM) zc_X6 (t_any hM hO1.1 hO1.2 hR3 hra) (by decide) (Nat.le_refl _) (Nat.le_refl _) rfl (Nat.le_of_ble_eq_true rfl) (Nat.le_of_ble_eq_true rfl) dX6_clause_232 rR.nx (fun v4 g4 n4 h4 => ?_)
    obtain ⟨rfl, hf4, hr4⟩ := h4
    have hf5 := hf3.tr (rjF hf4)
    have hJ5 := hJ3.keep hf4
    cases hrr : pAny b N (J.1 0) p with
    | inl e =>
      rw [hrr] at hr4
      obtain ⟨⟨y, hy⟩, hF⟩ := hr4
      cases hy
      rw [show pBody b N J3 3 p = .inl e from by unfold pBody; rw [if_neg (by decide), if_neg (by decide), if_neg (by decide), if_pos rfl, e0, hrr]; rfl]
      refine pw_last (12 + J.1 3) rfl (ts_readModels hM) (by decide) (by omega) (by decide) dX6_clause_235 ?_
      refine pw_aload_n dX6_clause_236 0 rfl rfl ?_
      refine pw_getr 11 zc_X6 (ts_this hM) (by decide) q1997 (Or.inr ⟨_, rfl⟩) (tr_readTold hM) dX6_clause_237 ?_
      refine pw_iconst (v := 3) dX6_clause_240 (by decide) ?_
      refine pw_dup2_11 dX6_clause_241 rfl rfl ?_
      refine pw_iald 3 rfl (ts_readTold hM) (by decide) (by decide) dX6_clause_242 ?_
      refine pw_iconst (v := 1) dX6_clause_243 (by decide) ?_
      refine pw_iadd dX6_clause_244 ?_
      refine pw_iast 3 rfl (ts_readTold hM) (by decide) (by decide) (by decide) dX6_clause_245 ?_
      refine pw_goto 285 dX6_clause_246 (by decide) ?_
      exact t_clEnd hM _ (.inl e) ((hf5.pal jA_m).pai jA_t) (hF.j ((zFr.rf.pal jA_m).pai jA_t))
    | inr z =>
      rw [hrr] at hr4
      obtain ⟨hy, hR4⟩ := hr4
      cases hy
      rw [show pBody b N J3 3 p = .inr (jM J3 3 (12 + J.1 3) z.1, z.2) from by unfold pBody; rw [if_neg (by decide), if_neg (by decide), if_neg (by decide), if_pos rfl, e0, hrr, e3]; rfl]
      refine pw_last (12 + J.1 3) rfl (ts_readModels hM) (by decide) (by omega) (by decide) dX6_clause_235 ?_
      refine pw_aload_n dX6_clause_236 0 rfl rfl ?_
      refine pw_getr 11 zc_X6 (ts_this hM) (by decide) q1997 (Or.inr ⟨_, rfl⟩) (tr_readTold hM) dX6_clause_237 ?_
      refine pw_iconst (v := 3) dX6_clause_240 (by decide) ?_
      refine pw_dup2_11 dX6_clause_241 rfl rfl ?_
      refine pw_iald 3 rfl (ts_readTold hM) (by decide) (by decide) dX6_clause_242 ?_
      rw [show zai (zpal n4 at_readModels (12 + J.1 3) z.1) at_readTold 3 = nI (J3.1 3) from hJ5.1 3 (by decide)]
      refine pw_iconst (v := 1) dX6_clause_243 (by decide) ?_
      refine pw_iadd dX6_clause_244 ?_
      rw [nI_1]
      refine pw_iast 3 rfl (ts_readTold hM) (by decide) (by decide) (by decide) dX6_clause_245 ?_
      refine pw_goto 285 dX6_clause_246 (by decide) ?_
      exact t_clEnd hM _ (.inr _) ((hf5.pal jA_m).pai jA_t) ⟨hR4.j ((zFr.rf.pal jA_m).pai jA_t), hJ5.mod 3 _ _ (Or.inr ⟨rfl, by rw [e3]⟩)⟩
  refine pw_case_N 4 (by omega) (by decide) (fun c_94 => ?_) (fun n_94_4 => ?_)
  · refine pw_tableIn 249 dX6_clause_94 (by decide) (by decide) rfl (by decide) ?_
    subst c_94
    refine pw_aload_n dX6_clause_249 0 rfl rfl ?_
    refine pw_getr 11 zc_X6 (ts_this hM) (by decide) q1997 (Or.inr ⟨_, rfl⟩) (tr_readTold hM) dX6_clause_250 ?_
    refine pw_iconst (v := 4) dX6_clause_253 (by decide) ?_
    refine pw_aload_n dX6_clause_254 0 rfl rfl ?_
    refine pw_iconst (v := 0) dX6_clause_255 (by decide) ?_
    refine pw_iconst (v := 1) dX6_clause_256 (by decide) ?_
    refine pw_aload_n dX6_clause_257 0 rfl rfl ?_
    refine pw_getr 11 zc_X6 (ts_this hM) (by decide) q1997 (Or.inr ⟨_, rfl⟩) (tr_readTold hM) dX6_clause_258 ?_
    refine pw_iconst (v := 0) dX6_clause_261 (by decide) ?_
    refine pw_iald 0 rfl (ts_readTold hM) (by decide) (by decide) dX6_clause_262 ?_
    rw [hra]
    refine pw_ishl dX6_clause_263 ?_
    rw [ishl1 (by omega)]
    refine pw_iconst (v := 1) dX6_clause_264 (by decide) ?_
    refine pw_isub dX6_clause_265 ?_
    rw [show nI (2 ^ J.1 0) - 1 = nI (2 ^ J.1 0 - 1) from nI_sub (b := 1) Nat.one_le_two_pow]
    have h64 := nat_pow6 hO1.2
    refine pw_callV2 zmM_X6_number rfl (lw_V q2238 q2240 qs73 q150 q2241) rfl (ts_this hM) zc_X6 (t_number hM hR3 0 (2 ^ J.1 0 - 1) (by decide) (by omega)) (by decide) (Nat.le_refl _) (Nat.le_refl _) rfl (Nat.le_of_ble_eq_true rfl) (Nat.le_of_ble_eq_true rfl) dX6_clause_266 rR.nx (fun v4 g4 n4 h4 => ?_)
    obtain ⟨rfl, hf4, hr4⟩ := h4
    have hf5 := hf3.tr (rjF hf4)
    have hJ5 := hJ3.keep hf4
    cases hrr : pNum b N 0 (2 ^ J.1 0 - 1) p with
    | inl e =>
      rw [hrr] at hr4
      obtain ⟨⟨y, hy⟩, hF⟩ := hr4
      cases hy
      rw [show pBody b N J3 4 p = .inl e from by unfold pBody; rw [if_neg (by decide), if_neg (by decide), if_neg (by decide), if_neg (by decide), if_pos rfl, e0, hrr]; rfl]
      refine pw_iast 4 rfl (ts_readTold hM) (by decide) (by decide) (by decide) dX6_clause_269 ?_
      refine pw_goto 285 dX6_clause_270 (by decide) ?_
      exact t_clEnd hM _ (.inl e) (hf5.pai jA_t) (hF.j (zFr.rf.pai jA_t))
    | inr z =>
      rw [hrr] at hr4
      obtain ⟨hy, hR4⟩ := hr4
      cases hy
      rw [show pBody b N J3 4 p = .inr (jN J3 4 z.1, z.2) from by unfold pBody; rw [if_neg (by decide), if_neg (by decide), if_neg (by decide), if_neg (by decide), if_pos rfl, e0, hrr]; rfl]
      refine pw_iast 4 rfl (ts_readTold hM) (by decide) (by decide) (by decide) dX6_clause_269 ?_
      refine pw_goto 285 dX6_clause_270 (by decide) ?_
      exact t_clEnd hM _ (.inr _) (hf5.pai jA_t) ⟨hR4.j (zFr.rf.pai jA_t), hJ5.num 4 z.1 (Or.inr (Or.inl rfl))⟩
  refine pw_tableOut 273 dX6_clause_94 (by rw [nI_toInt (by omega)]; omega) (by decide) ?_
  have hk5 : k = 5 := by omega
  subst hk5
  refine pw_aload_n dX6_clause_273 0 rfl rfl ?_
  refine pw_getr 11 zc_X6 (ts_this hM) (by decide) q1997 (Or.inr ⟨_, rfl⟩) (tr_readTold hM) dX6_clause_274 ?_
  refine pw_iconst (v := 5) dX6_clause_277 (by decide) ?_
  refine pw_aload_n dX6_clause_278 0 rfl rfl ?_
  refine pw_iconst (v := 0) dX6_clause_279 (by decide) ?_
  refine pw_iconst (v := 4) dX6_clause_280 (by decide) ?_
  refine pw_callV2 zmM_X6_number rfl (lw_V q2238 q2240 qs73 q150 q2241) rfl (ts_this hM) zc_X6 (t_number hM hR3 0 4 (by decide) (by decide)) (by decide) (Nat.le_refl _) (Nat.le_refl _) rfl (Nat.le_of_ble_eq_true rfl) (Nat.le_of_ble_eq_true rfl) dX6_clause_281 rR.nx (fun v4 g4 n4 h4 => ?_)
  obtain ⟨rfl, hf4, hr4⟩ := h4
  have hf5 := hf3.tr (rjF hf4)
  have hJ5 := hJ3.keep hf4
  cases hrr : pNum b N 0 4 p with
  | inl e =>
    rw [hrr] at hr4
    obtain ⟨⟨y, hy⟩, hF⟩ := hr4
    cases hy
    rw [show pBody b N J3 5 p = .inl e from by unfold pBody; rw [if_neg (by decide), if_neg (by decide), if_neg (by decide), if_neg (by decide), if_neg (by decide), hrr]; rfl]
    refine pw_iast 5 rfl (ts_readTold hM) (by decide) (by decide) (by decide) dX6_clause_284 ?_
    exact t_clEnd hM _ (.inl e) (hf5.pai jA_t) (hF.j (zFr.rf.pai jA_t))
  | inr z =>
    rw [hrr] at hr4
    obtain ⟨hy, hR4⟩ := hr4
    cases hy
    rw [show pBody b N J3 5 p = .inr (jN J3 5 z.1, z.2) from by unfold pBody; rw [if_neg (by decide), if_neg (by decide), if_neg (by decide), if_neg (by decide), if_neg (by decide), hrr]; rfl]
    refine pw_iast 5 rfl (ts_readTold hM) (by decide) (by decide) (by decide) dX6_clause_284 ?_
    exact t_clEnd hM _ (.inr _) (hf5.pai jA_t) ⟨hR4.j (zFr.rf.pai jA_t), hJ5.num 5 z.1 (Or.inr (Or.inr rfl))⟩
theorem t_clause {g : zg_G} {n : zg_N} {b : Nat → Nat} {N p : Nat} {J : zJ} (hM : TSh g) (hO : JOk J) (hR : TRd n b N p 0) (hJ : TJ n J) : PW zm_X6_clause 28 (rC g n b N (pCl b N J (skp b N p))) 0 0 0 [(0, .ref aT)] [] g n := by
  have hO6 := hO.2.2.2.2.1
  refine pw_aload_n dX6_clause_0 0 rfl rfl ?_
  refine pw_callV0 zmM_X6_kindHere rfl (lw_V q2208 q2210 qs67 q150 q2211) rfl (ts_this hM) zc_X6 (t_kindHere hM hR) (by decide) (Nat.le_refl _) (Nat.le_refl _) rfl (Nat.le_of_ble_eq_true rfl) (Nat.le_of_ble_eq_true rfl) dX6_clause_1 (by intros; rintro ⟨h, _⟩; cases h) (fun v1 g1 n1 h1 => ?_)
  obtain ⟨h1, rfl, hR1, hf1⟩ := h1; cases h1
  have hJ1 := hJ.keep hf1
  generalize skp b N p = q at hR1 ⊢
  have hk6 := pKind_le (tWd b N q)
  refine pw_istore_n (ls' := [(1, _), (0, _)]) dX6_clause_4 rfl (by decide) rfl ?_
  refine pw_ls [1, 0] (ls' := [(0, _), (1, _)]) rfl ?_
  by_cases h6 : pKind (tWd b N q) = 6
  · rw [show pCl b N J q = .inl (1, q) from if_pos h6, show kV (pKind (tWd b N q)) = -1 from if_pos h6]
    have hw := hR1.wr (k := 1) (q := q) (by decide) (by decide)
    refine pw_iload_n dX6_clause_5 1 rfl rfl ?_
    refine pw_iconst (v := (-1)) dX6_clause_6 (by decide) ?_
    refine pw_icmp_ne 22 dX6_clause_7 (by decide) (fun c_7 => ?_) (fun c_7 => ?_)
    · exact absurd rfl c_7
    · refine pw_aload_n dX6_clause_10 0 rfl rfl ?_
      refine pw_iconst (v := 1) dX6_clause_11 (by decide) ?_
      refine pw_aload_n dX6_clause_12 0 rfl rfl ?_
      refine pw_geti 4 zc_X6 (ts_this hM) (by decide) q1990 (Or.inl rfl) dX6_clause_13 ?_
      rw [hR1.2.2.1]
      refine pw_callV2 zmM_X6_wrong rfl (lw_V q2226 q2228 qs70 q150 q2229) rfl (ts_this hM) zc_X6 (t_wrong hM _ _ hR1.2.1) (by decide) (Nat.le_refl _) (Nat.le_refl _) rfl (Nat.le_of_ble_eq_true rfl) (Nat.le_of_ble_eq_true rfl) dX6_clause_16 zE.nx (zE_kk ?_)
      refine pw_goto 71 dX6_clause_19 (by decide) ?_
      refine pw_aload_n dX6_clause_71 0 rfl rfl ?_
      refine pw_geti 5 zc_X6 (ts_this hM) (by decide) q1991 (Or.inl rfl) dX6_clause_72 ?_
      refine pw_if_eq 79 dX6_clause_75 (by decide) (fun c_75 => ?_) (fun c_75 => ?_)
      · exact absurd c_75 hw.1.ne
      · refine pw_vret rfl dX6_clause_78 ?_
        exact ⟨rfl, rfl, rjF (hf1.tr hw.2), hw.1⟩
  · rw [show kV (pKind (tWd b N q)) = nI (pKind (tWd b N q)) from if_neg h6]
    have hw3 := hR1.wr (k := 3) (q := q) (by decide) (by decide)
    have hw4 := hR1.wr (k := 4) (q := q) (by decide) (by decide)
    refine pw_iload_n dX6_clause_5 1 rfl rfl ?_
    refine pw_iconst (v := (-1)) dX6_clause_6 (by decide) ?_
    refine pw_icmp_ne 22 dX6_clause_7 (by decide) (fun c_7 => ?_) (fun c_7 => ?_)
    · refine pw_aload_n dX6_clause_22 0 rfl rfl ?_
      refine pw_geti 7 zc_X6 (ts_this hM) (by decide) q1993 (Or.inl rfl) dX6_clause_23 ?_
      refine pw_bipush (v := 60) dX6_clause_26 (by decide) ?_
      rw [hJ1.2.1]
      refine pw_icmp_eq_N (b := 60) 39 dX6_clause_28 (by decide) (by omega) (by omega) (fun c_28 => ?_) (fun c_28 => ?_)
      · refine pw_aload_n dX6_clause_39 0 rfl rfl ?_
        refine pw_iconst (v := 3) dX6_clause_40 (by decide) ?_
        refine pw_aload_n dX6_clause_41 0 rfl rfl ?_
        refine pw_geti 4 zc_X6 (ts_this hM) (by decide) q1990 (Or.inl rfl) dX6_clause_42 ?_
        rw [hR1.2.2.1]
        refine pw_callV2 zmM_X6_wrong rfl (lw_V q2226 q2228 qs70 q150 q2229) rfl (ts_this hM) zc_X6 (t_wrong hM _ _ hR1.2.1) (by decide) (Nat.le_refl _) (Nat.le_refl _) rfl (Nat.le_of_ble_eq_true rfl) (Nat.le_of_ble_eq_true rfl) dX6_clause_45 zE.nx (zE_kk ?_)
        refine pw_goto 71 dX6_clause_48 (by decide) ?_
        refine pw_aload_n dX6_clause_71 0 rfl rfl ?_
        refine pw_geti 5 zc_X6 (ts_this hM) (by decide) q1991 (Or.inl rfl) dX6_clause_72 ?_
        refine pw_if_eq 79 dX6_clause_75 (by decide) (fun c_75 => ?_) (fun c_75 => ?_)
        · exact absurd c_75 hw3.1.ne
        · refine pw_vret rfl dX6_clause_78 ?_
          rw [show pCl b N J q = .inl (3, q) from (if_neg h6).trans (if_pos (Or.inl c_28))]
          exact ⟨rfl, rfl, rjF (hf1.tr hw3.2), hw3.1⟩
      · refine pw_aload_n dX6_clause_31 0 rfl rfl ?_
        refine pw_iload_n dX6_clause_32 1 rfl rfl ?_
        refine pw_callV1 zmM_X6_isFull rfl (lw_V q2230 q2232 qs71 q150 q2233) rfl (ts_this hM) zc_X6 (t_isFull hM hJ1 hO _ (by omega)) (by decide) (Nat.le_refl _) (Nat.le_refl _) rfl (Nat.le_of_ble_eq_true rfl) (Nat.le_of_ble_eq_true rfl) dX6_clause_33 zE.nx (zE_kk ?_)
        refine pw_if_eq_B 51 dX6_clause_36 (by decide) (fun c_36 => ?_) (fun c_36 => ?_)
        · refine pw_iload_n dX6_clause_51 1 rfl rfl ?_
          refine pw_if_ne_N 71 dX6_clause_52 (by decide) (by omega) (fun c_52 => ?_) (fun c_52 => ?_)
          · refine pw_aload_n dX6_clause_71 0 rfl rfl ?_
            refine pw_geti 5 zc_X6 (ts_this hM) (by decide) q1991 (Or.inl rfl) dX6_clause_72 ?_
            refine pw_if_eq 79 dX6_clause_75 (by decide) (fun c_75 => ?_) (fun c_75 => ?_)
            · rw [pCl_eq h6 (fun z => z.elim c_28 c_36) (fun z => c_52 z.1)]
              exact t_cl79 hM hO (by omega) (fun z => z.elim c_28 c_36) (rjF hf1) hR1 hJ1
            · exact absurd hR1.2.1 c_75
          · refine pw_aload_n dX6_clause_55 0 rfl rfl ?_
            refine pw_geti 7 zc_X6 (ts_this hM) (by decide) q1993 (Or.inl rfl) dX6_clause_56 ?_
            rw [hJ1.2.1]
            refine pw_if_le_N 71 dX6_clause_59 (by decide) (by omega) (fun c_59 => ?_) (fun c_59 => ?_)
            · refine pw_aload_n dX6_clause_71 0 rfl rfl ?_
              refine pw_geti 5 zc_X6 (ts_this hM) (by decide) q1991 (Or.inl rfl) dX6_clause_72 ?_
              refine pw_if_eq 79 dX6_clause_75 (by decide) (fun c_75 => ?_) (fun c_75 => ?_)
              · rw [pCl_eq h6 (fun z => z.elim c_28 c_36) (fun z => by omega)]
                exact t_cl79 hM hO (by omega) (fun z => z.elim c_28 c_36) (rjF hf1) hR1 hJ1
              · exact absurd hR1.2.1 c_75
            · refine pw_aload_n dX6_clause_62 0 rfl rfl ?_
              refine pw_iconst (v := 4) dX6_clause_63 (by decide) ?_
              refine pw_aload_n dX6_clause_64 0 rfl rfl ?_
              refine pw_geti 4 zc_X6 (ts_this hM) (by decide) q1990 (Or.inl rfl) dX6_clause_65 ?_
              rw [hR1.2.2.1]
              refine pw_callV2 zmM_X6_wrong rfl (lw_V q2226 q2228 qs70 q150 q2229) rfl (ts_this hM) zc_X6 (t_wrong hM _ _ hR1.2.1) (by decide) (Nat.le_refl _) (Nat.le_refl _) rfl (Nat.le_of_ble_eq_true rfl) (Nat.le_of_ble_eq_true rfl) dX6_clause_68 zE.nx (zE_kk ?_)
              refine pw_aload_n dX6_clause_71 0 rfl rfl ?_
              refine pw_geti 5 zc_X6 (ts_this hM) (by decide) q1991 (Or.inl rfl) dX6_clause_72 ?_
              refine pw_if_eq 79 dX6_clause_75 (by decide) (fun c_75 => ?_) (fun c_75 => ?_)
              · exact absurd c_75 hw4.1.ne
              · refine pw_vret rfl dX6_clause_78 ?_
                rw [show pCl b N J q = .inl (4, q) from (if_neg h6).trans ((if_neg (fun z => z.elim c_28 c_36)).trans (if_pos ⟨c_52, c_59⟩))]
                exact ⟨rfl, rfl, rjF (hf1.tr hw4.2), hw4.1⟩
        · refine pw_aload_n dX6_clause_39 0 rfl rfl ?_
          refine pw_iconst (v := 3) dX6_clause_40 (by decide) ?_
          refine pw_aload_n dX6_clause_41 0 rfl rfl ?_
          refine pw_geti 4 zc_X6 (ts_this hM) (by decide) q1990 (Or.inl rfl) dX6_clause_42 ?_
          rw [hR1.2.2.1]
          refine pw_callV2 zmM_X6_wrong rfl (lw_V q2226 q2228 qs70 q150 q2229) rfl (ts_this hM) zc_X6 (t_wrong hM _ _ hR1.2.1) (by decide) (Nat.le_refl _) (Nat.le_refl _) rfl (Nat.le_of_ble_eq_true rfl) (Nat.le_of_ble_eq_true rfl) dX6_clause_45 zE.nx (zE_kk ?_)
          refine pw_goto 71 dX6_clause_48 (by decide) ?_
          refine pw_aload_n dX6_clause_71 0 rfl rfl ?_
          refine pw_geti 5 zc_X6 (ts_this hM) (by decide) q1991 (Or.inl rfl) dX6_clause_72 ?_
          refine pw_if_eq 79 dX6_clause_75 (by decide) (fun c_75 => ?_) (fun c_75 => ?_)
          · exact absurd c_75 hw3.1.ne
          · refine pw_vret rfl dX6_clause_78 ?_
            rw [show pCl b N J q = .inl (3, q) from (if_neg h6).trans (if_pos (Or.inr c_36))]
            exact ⟨rfl, rfl, rjF (hf1.tr hw3.2), hw3.1⟩
    · exact absurd c_7 (fun z => by have := congrArg Int32.toInt z; rw [nI_toInt (by omega), show (-1 : Int32).toInt = -1 from by decide] at this; omega)

/-! ===== the reference: what was read stands ===== -/
/-- worlds left in a week, by the first m seeings -/
def jLf (J : zJ) (w : Nat) : Nat → Int64
  | 0 => wAll (J.1 0)
  | k + 1 => jLf J w k &&& (if J.2.1 k ≤ w then J.2.2.2 k else -1)
def stF (a k : Nat) : Prop := a = aT ∧ (k = tf_question ∨ k = tf_whos ∨ k = tf_images)
def stA (a : Nat) : Prop := a = at_told ∨ a = at_models ∨ a = at_seeWeek ∨ a = at_seen ∨ a = at_leftIn ∨ a = at_order
def TSt (n : zg_N) (J : zJ) : Prop := (∀ k, k < 6 → zai n at_told k = nI (J.1 k)) ∧ (∀ k, k < J.1 1 ∨ (12 ≤ k ∧ k < 12 + J.1 3) → zal n at_models k = J.2.2.1 k) ∧ (∀ k, k < J.1 2 → zai n at_seeWeek k = nI (J.2.1 k) ∧ zal n at_seen k = J.2.2.2 k) ∧
  (∀ w, w < 52 → zal n at_leftIn w = jLf J w (J.1 2)) ∧ (∀ k, k < 12 → zai n at_order k = nI k) ∧ zfl n aT tf_question = wAll (J.1 0) ∧ zfi n aT tf_whos = 0 ∧ zfi n aT tf_images = 0
def stP (g : zg_G) (n : zg_N) (J : zJ) : zP := fun o g1 n1 => o = .inl none ∧ g1 = g ∧ TSt n1 J ∧ zFr stF stA n n1
theorem stA_of {K : Nat} (h : stA K) : ∀ a, a = K → stA a := fun a e => e ▸ h
theorem fr_st {K : Nat} {n n' : zg_N} (hK : stA K) (h : zFr zB0 (fun a => a = K) n n') : zFr stF stA n n' := h.mono (fun _ _ z => z.elim) (stA_of hK)
theorem t_stands {g : zg_G} {n : zg_N} {J : zJ} (hM : TSh g) (hO : JOk J) (hJ : TJ n J) : PW zm_X6_stands 2 (stP g n J) 0 0 0 [(0, .ref aT)] [] g n := by
  have ho1 := hO.1; have ho2 := hO.2.1
  have s1 : stA at_told := Or.inl rfl
  have s2 : stA at_models := Or.inr (Or.inl rfl)
  have s3 : stA at_seeWeek := Or.inr (Or.inr (Or.inl rfl))
  have s4 : stA at_seen := Or.inr (Or.inr (Or.inr (Or.inl rfl)))
  have s5 : stA at_leftIn := Or.inr (Or.inr (Or.inr (Or.inr (Or.inl rfl))))
  have s6 : stA at_order := Or.inr (Or.inr (Or.inr (Or.inr (Or.inr rfl))))
  have nr : ∀ K, K = at_readTold ∨ K = at_readModels ∨ K = at_readWeek ∨ K = at_readSeen → ¬ stA K := fun K h z => by rcases h with rfl | rfl | rfl | rfl <;> rcases z with z | z | z | z | z | z <;> exact absurd z (by decide)
  -- the order, the end
  have h174 : ∀ n5, zFr stF stA n n5 → (∀ k, k < 6 → zai n5 at_told k = nI (J.1 k)) → (∀ k, k < J.1 1 ∨ (12 ≤ k ∧ k < 12 + J.1 3) → zal n5 at_models k = J.2.2.1 k) → (∀ k, k < J.1 2 → zai n5 at_seeWeek k = nI (J.2.1 k) ∧ zal n5 at_seen k = J.2.2.2 k) → (∀ w, w < 52 → zal n5 at_leftIn w = jLf J w (J.1 2)) →
      ∀ k, k ≤ 12 → ∀ n6, zFr zB0 (fun a => a = at_order) n5 n6 → (∀ j, j < k → zai n6 at_order j = nI j) → PW zm_X6_stands 2 (stP g n J) 0 0 174 [(0, .ref aT), (1, .int (nI k))] [] g n6 := by
    intro n5 hf5 a1 a2 a3 a4
    refine zl_up 12 (fun k hk ih n6 hf6 hj => ?_)
    refine pw_iload_n dX6_stands_174 1 rfl rfl ?_
    refine pw_bipush (v := 12) dX6_stands_175 (by decide) ?_
    refine pw_icmp_ge_N (b := 12) 193 dX6_stands_177 (by decide) (by omega) (by omega) (fun c_177 => ?_) (fun c_177 => ?_)
    · refine pw_aload_n dX6_stands_193 0 rfl rfl ?_
      refine pw_aload_n dX6_stands_194 0 rfl rfl ?_
      refine pw_getr 12 zc_X6 (ts_this hM) (by decide) q1998 (Or.inr ⟨_, rfl⟩) (tr_told hM) dX6_stands_195 ?_
      refine pw_iconst (v := 0) dX6_stands_198 (by decide) ?_
      refine pw_iald 0 rfl (ts_told hM) (by decide) (by decide) dX6_stands_199 ?_
      rw [show zai n6 at_told 0 = nI (J.1 0) from ((hf6.2 at_told (by decide) 0).1).trans (a1 0 (by decide))]
      refine pw_callS1 zmM_X6_allOf rfl (lw_S q1983 q1984 q150 q1985) (t_allOf (J.1 0) ho1.2 _ _) (by decide) (Nat.le_refl _) (Nat.le_refl _) rfl (Nat.le_of_ble_eq_true rfl) (Nat.le_of_ble_eq_true rfl) dX6_stands_200 zE.nx (zE_kk ?_)
      refine pw_putl 20 zc_X6 (ts_this hM) (by decide) (by decide) q2006 rfl rfl dX6_stands_203 ?_
      refine pw_aload_n dX6_stands_206 0 rfl rfl ?_
      refine pw_iconst (v := 0) dX6_stands_207 (by decide) ?_
      refine pw_puti 25 zc_X6 (ts_this hM) (by decide) (by decide) q2011 rfl (Or.inl rfl) rfl rfl dX6_stands_208 ?_
      refine pw_aload_n dX6_stands_211 0 rfl rfl ?_
      refine pw_iconst (v := 0) dX6_stands_212 (by decide) ?_
      refine pw_puti 22 zc_X6 (ts_this hM) (by decide) (by decide) q2008 rfl (Or.inl rfl) rfl rfl dX6_stands_213 ?_
      refine pw_vret rfl dX6_stands_216 ?_
      have hk12 : k = 12 := by omega
      subst hk12
      refine ⟨rfl, rfl, ⟨fun k hk => ?_, fun k hk => ?_, fun k hk => ⟨?_, ?_⟩, fun k hk => ?_, fun k hk => ?_, rfl, rfl, rfl⟩, (((hf5.tr (fr_st s6 hf6)).pfl ⟨rfl, Or.inl rfl⟩).pfi ⟨rfl, Or.inr (Or.inl rfl)⟩).pfi ⟨rfl, Or.inr (Or.inr rfl)⟩⟩
      · exact ((hf6.2 at_told (by decide) k).1).trans (a1 k hk)
      · exact ((hf6.2 at_models (by decide) k).2).trans (a2 k hk)
      · exact ((hf6.2 at_seeWeek (by decide) k).1).trans (a3 k hk).1
      · exact ((hf6.2 at_seen (by decide) k).2).trans (a3 k hk).2
      · exact ((hf6.2 at_leftIn (by decide) k).2).trans (a4 k hk)
      · exact hj k hk
    · refine pw_aload_n dX6_stands_180 0 rfl rfl ?_
      refine pw_getr 21 zc_X6 (ts_this hM) (by decide) q2007 (Or.inr ⟨_, rfl⟩) (tr_order hM) dX6_stands_181 ?_
      refine pw_iload_n dX6_stands_184 1 rfl rfl ?_
      refine pw_iload_n dX6_stands_185 1 rfl rfl ?_
      refine pw_iast k rfl (ts_order hM) (by decide) (by omega) (by decide) dX6_stands_186 ?_
      refine pw_iinc1 (j := 1) (ls' := [(1, _), (0, _)]) dX6_stands_187 rfl (by decide) rfl ?_
      refine pw_ls [1, 0] (ls' := [(0, _), (1, _)]) rfl ?_
      refine pw_goto 174 dX6_stands_190 (by decide) ?_
      refine ih (k + 1) (by omega) (by omega) _ (hf6.pai rfl) (fun j h => ?_)
      rw [zai_p]
      by_cases e : j = k
      · rw [e, if_pos ⟨rfl, rfl⟩]
      · rw [if_neg (fun z => e z.2)]; exact hj j (by omega)
  have h96 : ∀ n4, zFr stF stA n n4 → (∀ k, k < 6 → zai n4 at_told k = nI (J.1 k)) → (∀ k, k < J.1 1 ∨ (12 ≤ k ∧ k < 12 + J.1 3) → zal n4 at_models k = J.2.2.1 k) → (∀ k, k < J.1 2 → zai n4 at_seeWeek k = nI (J.2.1 k) ∧ zal n4 at_seen k = J.2.2.2 k) →
      ∀ w, w ≤ 52 → ∀ n5, zFr zB0 (fun a => a = at_leftIn) n4 n5 → (∀ j, j < w → zal n5 at_leftIn j = jLf J j (J.1 2)) → PW zm_X6_stands 2 (stP g n J) 0 0 96 [(0, .ref aT), (1, .int (nI w))] [] g n5 := by
    intro n4 hf4 a1 a2 a3
    refine zl_up 52 (fun w hw ih n5 hf5 hj => ?_)
    have b1 : ∀ n6, zFr zB0 (fun a => a = at_leftIn) n4 n6 → ∀ k, k < 6 → zai n6 at_told k = nI (J.1 k) := fun n6 hf k hk => ((hf.2 at_told (by decide) k).1).trans (a1 k hk)
    have h119 : ∀ k, k ≤ J.1 2 → ∀ n6, w < 52 → zFr zB0 (fun a => a = at_leftIn) n4 n6 → (∀ j, j < w → zal n6 at_leftIn j = jLf J j (J.1 2)) → zal n6 at_leftIn w = jLf J w k → PW zm_X6_stands 2 (stP g n J) 0 0 119 [(0, .ref aT), (1, .int (nI w)), (2, .int (nI k))] [] g n6 := by
      refine zl_up _ (fun k hk ih2 n6 hw52 hf6 hj6 hk6 => ?_)
      refine pw_iload_n dX6_stands_119 2 rfl rfl ?_
      refine pw_aload_n dX6_stands_120 0 rfl rfl ?_
      refine pw_getr 12 zc_X6 (ts_this hM) (by decide) q1998 (Or.inr ⟨_, rfl⟩) (tr_told hM) dX6_stands_121 ?_
      refine pw_iconst (v := 2) dX6_stands_124 (by decide) ?_
      refine pw_iald 2 rfl (ts_told hM) (by decide) (by decide) dX6_stands_125 ?_
      rw [b1 n6 hf6 2 (by decide)]
      refine pw_icmp_ge_N 166 dX6_stands_126 (by decide) (by omega) (by omega) (fun c_126 => ?_) (fun c_126 => ?_)
      · refine pw_iinc1 (j := 1) (ls' := [(1, _), (0, _), (2, _)]) dX6_stands_166 rfl (by decide) rfl ?_
        refine pw_ls [1, 0, 2] (ls' := [(0, _), (1, _), (2, _)]) rfl ?_
        refine pw_goto 96 dX6_stands_169 (by decide) ?_
        refine pw_ls [0, 1] (ls' := [(0, _), (1, _)]) rfl ?_
        rw [show k = J.1 2 by omega] at hk6
        exact ih (w + 1) (by omega) (by omega) n6 hf6 (fun j h => if e : j = w then (by rw [e]; exact hk6) else hj6 j (by omega))
      · refine pw_aload_n dX6_stands_129 0 rfl rfl ?_
        refine pw_getr 19 zc_X6 (ts_this hM) (by decide) q2005 (Or.inr ⟨_, rfl⟩) (tr_leftIn hM) dX6_stands_130 ?_
        refine pw_iload_n dX6_stands_133 1 rfl rfl ?_
        refine pw_dup2_11 dX6_stands_134 rfl rfl ?_
        refine pw_lald w rfl (ts_leftIn hM) (by omega) (by decide) dX6_stands_135 ?_
        rw [hk6]
        refine pw_aload_n dX6_stands_136 0 rfl rfl ?_
        refine pw_getr 14 zc_X6 (ts_this hM) (by decide) q2000 (Or.inr ⟨_, rfl⟩) (tr_seeWeek hM) dX6_stands_137 ?_
        refine pw_iload_n dX6_stands_140 2 rfl rfl ?_
        refine pw_iald k rfl (ts_seeWeek hM) (by omega) (by decide) dX6_stands_141 ?_
        rw [show zai n6 at_seeWeek k = nI (J.2.1 k) from ((hf6.2 at_seeWeek (by decide) k).1).trans (a3 k (by omega)).1]
        have hw52 := hO.2.2.2.2.2.2.1 k (by omega)
        refine pw_iload_n dX6_stands_142 1 rfl rfl ?_
        refine pw_icmp_gt_N 155 dX6_stands_143 (by decide) (by omega) (by omega) (fun c_143 => ?_) (fun c_143 => ?_)
        · refine pw_ldc2 q1972 dX6_stands_155 ?_
          refine pw_land dX6_stands_158 ?_
          refine pw_last w rfl (ts_leftIn hM) (by decide) (by omega) (by decide) dX6_stands_159 ?_
          refine pw_iinc1 (j := 2) (ls' := [(2, _), (0, _), (1, _)]) dX6_stands_160 rfl (by decide) rfl ?_
          refine pw_ls [1, 2, 0] (ls' := [(0, _), (1, _), (2, _)]) rfl ?_
          refine pw_goto 119 dX6_stands_163 (by decide) ?_
          refine ih2 (k + 1) (by omega) (by omega) _ (by omega) (hf6.pal rfl) (fun j h => ?_) ?_
          · rw [zal_p, if_neg (fun z => by omega)]; exact hj6 j h
          · rw [zal_p, if_pos ⟨rfl, rfl⟩, jLf, if_neg (by omega)]
        · refine pw_aload_n dX6_stands_146 0 rfl rfl ?_
          refine pw_getr 18 zc_X6 (ts_this hM) (by decide) q2004 (Or.inr ⟨_, rfl⟩) (tr_seen hM) dX6_stands_147 ?_
          refine pw_iload_n dX6_stands_150 2 rfl rfl ?_
          refine pw_lald k rfl (ts_seen hM) (by omega) (by decide) dX6_stands_151 ?_
          rw [show zal n6 at_seen k = J.2.2.2 k from ((hf6.2 at_seen (by decide) k).2).trans (a3 k (by omega)).2]
          refine pw_goto 158 dX6_stands_152 (by decide) ?_
          refine pw_land dX6_stands_158 ?_
          refine pw_last w rfl (ts_leftIn hM) (by decide) (by omega) (by decide) dX6_stands_159 ?_
          refine pw_iinc1 (j := 2) (ls' := [(2, _), (0, _), (1, _)]) dX6_stands_160 rfl (by decide) rfl ?_
          refine pw_ls [1, 2, 0] (ls' := [(0, _), (1, _), (2, _)]) rfl ?_
          refine pw_goto 119 dX6_stands_163 (by decide) ?_
          refine ih2 (k + 1) (by omega) (by omega) _ (by omega) (hf6.pal rfl) (fun j h => ?_) ?_
          · rw [zal_p, if_neg (fun z => by omega)]; exact hj6 j h
          · rw [zal_p, if_pos ⟨rfl, rfl⟩, jLf, if_pos c_143]
    refine pw_iload_n dX6_stands_96 1 rfl rfl ?_
    refine pw_bipush (v := 52) dX6_stands_97 (by decide) ?_
    refine pw_icmp_ge_N (b := 52) 172 dX6_stands_99 (by decide) (by omega) (by omega) (fun c_99 => ?_) (fun c_99 => ?_)
    · refine pw_iconst (v := 0) dX6_stands_172 (by decide) ?_
      refine pw_istore_n (ls' := [(1, _), (0, _)]) dX6_stands_173 rfl (by decide) rfl ?_
      refine pw_ls [1, 0] (ls' := [(0, _), (1, _)]) rfl ?_
      exact h174 n5 (hf4.tr (fr_st s5 hf5)) (b1 n5 hf5) (fun k hk => ((hf5.2 at_models (by decide) k).2).trans (a2 k hk)) (fun k hk => ⟨((hf5.2 at_seeWeek (by decide) k).1).trans (a3 k hk).1, ((hf5.2 at_seen (by decide) k).2).trans (a3 k hk).2⟩) (fun j h => hj j (by omega)) 0 (Nat.zero_le _) n5 zFr.rf (fun j h => absurd h (Nat.not_lt_zero _))
    · refine pw_aload_n dX6_stands_102 0 rfl rfl ?_
      refine pw_getr 19 zc_X6 (ts_this hM) (by decide) q2005 (Or.inr ⟨_, rfl⟩) (tr_leftIn hM) dX6_stands_103 ?_
      refine pw_iload_n dX6_stands_106 1 rfl rfl ?_
      refine pw_aload_n dX6_stands_107 0 rfl rfl ?_
      refine pw_getr 12 zc_X6 (ts_this hM) (by decide) q1998 (Or.inr ⟨_, rfl⟩) (tr_told hM) dX6_stands_108 ?_
      refine pw_iconst (v := 0) dX6_stands_111 (by decide) ?_
      refine pw_iald 0 rfl (ts_told hM) (by decide) (by decide) dX6_stands_112 ?_
      rw [b1 n5 hf5 0 (by decide)]
      refine pw_callS1 zmM_X6_allOf rfl (lw_S q1983 q1984 q150 q1985) (t_allOf (J.1 0) ho1.2 _ _) (by decide) (Nat.le_refl _) (Nat.le_refl _) rfl (Nat.le_of_ble_eq_true rfl) (Nat.le_of_ble_eq_true rfl) dX6_stands_113 zE.nx (zE_kk ?_)
      refine pw_last w rfl (ts_leftIn hM) (by decide) (by omega) (by decide) dX6_stands_116 ?_
      refine pw_iconst (v := 0) dX6_stands_117 (by decide) ?_
      refine pw_istore_n (ls' := [(2, _), (0, _), (1, _)]) dX6_stands_118 rfl (by decide) rfl ?_
      refine pw_ls [1, 2, 0] (ls' := [(0, _), (1, _), (2, _)]) rfl ?_
      refine h119 0 (Nat.zero_le _) _ (by omega) (hf5.pal rfl) (fun j h => ?_) ?_
      · rw [zal_p, if_neg (fun z => by omega)]; exact hj j h
      · rw [zal_p, if_pos ⟨rfl, rfl⟩, jLf]
  have h54 : ∀ n3, zFr stF stA n n3 → (∀ k, k < 6 → zai n3 at_told k = nI (J.1 k)) → (∀ k, k < J.1 1 ∨ (12 ≤ k ∧ k < 12 + J.1 3) → zal n3 at_models k = J.2.2.1 k) →
      ∀ k, k ≤ J.1 2 → ∀ n4, zFr zB0 (fun a => a = at_seeWeek ∨ a = at_seen) n3 n4 → (∀ j, j < k → zai n4 at_seeWeek j = nI (J.2.1 j) ∧ zal n4 at_seen j = J.2.2.2 j) → PW zm_X6_stands 2 (stP g n J) 0 0 54 [(0, .ref aT), (1, .int (nI k))] [] g n4 := by
    intro n3 hf3 a1 a2
    refine zl_up _ (fun k hk ih n4 hf4 hj => ?_)
    have hfs : zFr stF stA n n4 := hf3.tr (hf4.mono (fun _ _ z => z.elim) (fun a e => e.elim (fun z => z ▸ s3) (fun z => z ▸ s4)))
    have b1 : ∀ k, k < 6 → zai n4 at_told k = nI (J.1 k) := fun k hk => ((hf4.2 at_told (by decide) k).1).trans (a1 k hk)
    refine pw_iload_n dX6_stands_54 1 rfl rfl ?_
    refine pw_aload_n dX6_stands_55 0 rfl rfl ?_
    refine pw_getr 12 zc_X6 (ts_this hM) (by decide) q1998 (Or.inr ⟨_, rfl⟩) (tr_told hM) dX6_stands_56 ?_
    refine pw_iconst (v := 2) dX6_stands_59 (by decide) ?_
    refine pw_iald 2 rfl (ts_told hM) (by decide) (by decide) dX6_stands_60 ?_
    rw [b1 2 (by decide)]
    refine pw_icmp_ge_N 94 dX6_stands_61 (by decide) (by omega) (by omega) (fun c_61 => ?_) (fun c_61 => ?_)
    · refine pw_iconst (v := 0) dX6_stands_94 (by decide) ?_
      refine pw_istore_n (ls' := [(1, _), (0, _)]) dX6_stands_95 rfl (by decide) rfl ?_
      refine pw_ls [1, 0] (ls' := [(0, _), (1, _)]) rfl ?_
      exact h96 n4 hfs b1 (fun k hk => ((hf4.2 at_models (by decide) k).2).trans (a2 k hk)) (fun j h => hj j (by omega)) 0 (Nat.zero_le _) n4 zFr.rf (fun j h => absurd h (Nat.not_lt_zero _))
    · refine pw_aload_n dX6_stands_64 0 rfl rfl ?_
      refine pw_getr 14 zc_X6 (ts_this hM) (by decide) q2000 (Or.inr ⟨_, rfl⟩) (tr_seeWeek hM) dX6_stands_65 ?_
      refine pw_iload_n dX6_stands_68 1 rfl rfl ?_
      refine pw_aload_n dX6_stands_69 0 rfl rfl ?_
      refine pw_getr 13 zc_X6 (ts_this hM) (by decide) q1999 (Or.inr ⟨_, rfl⟩) (tr_readWeek hM) dX6_stands_70 ?_
      refine pw_iload_n dX6_stands_73 1 rfl rfl ?_
      refine pw_iald k rfl (ts_readWeek hM) (by omega) (by decide) dX6_stands_74 ?_
      rw [show zai n4 at_readWeek k = nI (J.2.1 k) from ((hfs.2 at_readWeek (nr _ (by simp)) k).1).trans (hJ.2.2.2 k (by omega)).1]
      refine pw_iast k rfl (ts_seeWeek hM) (by decide) (by omega) (by decide) dX6_stands_75 ?_
      refine pw_aload_n dX6_stands_76 0 rfl rfl ?_
      refine pw_getr 18 zc_X6 (ts_this hM) (by decide) q2004 (Or.inr ⟨_, rfl⟩) (tr_seen hM) dX6_stands_77 ?_
      refine pw_iload_n dX6_stands_80 1 rfl rfl ?_
      refine pw_aload_n dX6_stands_81 0 rfl rfl ?_
      refine pw_getr 17 zc_X6 (ts_this hM) (by decide) q2003 (Or.inr ⟨_, rfl⟩) (tr_readSeen hM) dX6_stands_82 ?_
      refine pw_iload_n dX6_stands_85 1 rfl rfl ?_
      refine pw_lald k rfl (ts_readSeen hM) (by omega) (by decide) dX6_stands_86 ?_
      rw [show zal (zpai n4 at_seeWeek k (nI (J.2.1 k))) at_readSeen k = J.2.2.2 k from ((hfs.2 at_readSeen (nr _ (by simp)) k).2).trans (hJ.2.2.2 k (by omega)).2]
      refine pw_last k rfl (ts_seen hM) (by decide) (by omega) (by decide) dX6_stands_87 ?_
      refine pw_iinc1 (j := 1) (ls' := [(1, _), (0, _)]) dX6_stands_88 rfl (by decide) rfl ?_
      refine pw_ls [1, 0] (ls' := [(0, _), (1, _)]) rfl ?_
      refine pw_goto 54 dX6_stands_91 (by decide) ?_
      refine ih (k + 1) (by omega) (by omega) _ ((hf4.pai (Or.inl rfl)).pal (Or.inr rfl)) (fun j h => ?_)
      show zai (zpai n4 at_seeWeek k (nI (J.2.1 k))) at_seeWeek j = nI (J.2.1 j) ∧ zal (zpal n4 at_seen k (J.2.2.2 k)) at_seen j = J.2.2.2 j
      rw [zai_p, zal_p]
      by_cases e : j = k
      · rw [e, if_pos ⟨rfl, rfl⟩, if_pos ⟨rfl, rfl⟩]; exact ⟨rfl, rfl⟩
      · rw [if_neg (fun z => e z.2), if_neg (fun z => e z.2)]; exact hj j (by omega)
  have h28 : ∀ n2, zFr stF stA n n2 → (∀ k, k < 6 → zai n2 at_told k = nI (J.1 k)) →
      ∀ k, k ≤ 17 → ∀ n3, zFr zB0 (fun a => a = at_models) n2 n3 → (∀ j, j < k → zal n3 at_models j = zal n at_readModels j) → PW zm_X6_stands 2 (stP g n J) 0 0 28 [(0, .ref aT), (1, .int (nI k))] [] g n3 := by
    intro n2 hf2 a1
    refine zl_up 17 (fun k hk ih n3 hf3 hj => ?_)
    have hfs : zFr stF stA n n3 := hf2.tr (fr_st s2 hf3)
    refine pw_iload_n dX6_stands_28 1 rfl rfl ?_
    refine pw_bipush (v := 17) dX6_stands_29 (by decide) ?_
    refine pw_icmp_ge_N (b := 17) 52 dX6_stands_31 (by decide) (by omega) (by omega) (fun c_31 => ?_) (fun c_31 => ?_)
    · refine pw_iconst (v := 0) dX6_stands_52 (by decide) ?_
      refine pw_istore_n (ls' := [(1, _), (0, _)]) dX6_stands_53 rfl (by decide) rfl ?_
      refine pw_ls [1, 0] (ls' := [(0, _), (1, _)]) rfl ?_
      exact h54 n3 hfs (fun k hk => ((hf3.2 at_told (by decide) k).1).trans (a1 k hk)) (fun k hk => (hj k (by omega)).trans (hJ.2.2.1 k hk)) 0 (Nat.zero_le _) n3 zFr.rf (fun j h => absurd h (Nat.not_lt_zero _))
    · refine pw_aload_n dX6_stands_34 0 rfl rfl ?_
      refine pw_getr 16 zc_X6 (ts_this hM) (by decide) q2002 (Or.inr ⟨_, rfl⟩) (tr_models hM) dX6_stands_35 ?_
      refine pw_iload_n dX6_stands_38 1 rfl rfl ?_
      refine pw_aload_n dX6_stands_39 0 rfl rfl ?_
      refine pw_getr 15 zc_X6 (ts_this hM) (by decide) q2001 (Or.inr ⟨_, rfl⟩) (tr_readModels hM) dX6_stands_40 ?_
      refine pw_iload_n dX6_stands_43 1 rfl rfl ?_
      refine pw_lald k rfl (ts_readModels hM) (by omega) (by decide) dX6_stands_44 ?_
      rw [show zal n3 at_readModels k = zal n at_readModels k from (hfs.2 at_readModels (nr _ (by simp)) k).2]
      refine pw_last k rfl (ts_models hM) (by decide) (by omega) (by decide) dX6_stands_45 ?_
      refine pw_iinc1 (j := 1) (ls' := [(1, _), (0, _)]) dX6_stands_46 rfl (by decide) rfl ?_
      refine pw_ls [1, 0] (ls' := [(0, _), (1, _)]) rfl ?_
      refine pw_goto 28 dX6_stands_49 (by decide) ?_
      refine ih (k + 1) (by omega) (by omega) _ (hf3.pal rfl) (fun j h => ?_)
      rw [zal_p]
      by_cases e : j = k
      · rw [e, if_pos ⟨rfl, rfl⟩]
      · rw [if_neg (fun z => e z.2)]; exact hj j (by omega)
  have h2 : ∀ k, k ≤ 6 → ∀ n2, zFr zB0 (fun a => a = at_told) n n2 → (∀ j, j < k → zai n2 at_told j = nI (J.1 j)) → PW zm_X6_stands 2 (stP g n J) 0 0 2 [(0, .ref aT), (1, .int (nI k))] [] g n2 := by
    refine zl_up 6 (fun k hk ih n2 hf2 hj => ?_)
    have hfs : zFr stF stA n n2 := fr_st s1 hf2
    refine pw_iload_n dX6_stands_2 1 rfl rfl ?_
    refine pw_bipush (v := 6) dX6_stands_3 (by decide) ?_
    refine pw_icmp_ge_N (b := 6) 26 dX6_stands_5 (by decide) (by omega) (by omega) (fun c_5 => ?_) (fun c_5 => ?_)
    · refine pw_iconst (v := 0) dX6_stands_26 (by decide) ?_
      refine pw_istore_n (ls' := [(1, _), (0, _)]) dX6_stands_27 rfl (by decide) rfl ?_
      refine pw_ls [1, 0] (ls' := [(0, _), (1, _)]) rfl ?_
      exact h28 n2 hfs (fun k hk => hj k (by omega)) 0 (Nat.zero_le _) n2 zFr.rf (fun j h => absurd h (Nat.not_lt_zero _))
    · refine pw_aload_n dX6_stands_8 0 rfl rfl ?_
      refine pw_getr 12 zc_X6 (ts_this hM) (by decide) q1998 (Or.inr ⟨_, rfl⟩) (tr_told hM) dX6_stands_9 ?_
      refine pw_iload_n dX6_stands_12 1 rfl rfl ?_
      refine pw_aload_n dX6_stands_13 0 rfl rfl ?_
      refine pw_getr 11 zc_X6 (ts_this hM) (by decide) q1997 (Or.inr ⟨_, rfl⟩) (tr_readTold hM) dX6_stands_14 ?_
      refine pw_iload_n dX6_stands_17 1 rfl rfl ?_
      refine pw_iald k rfl (ts_readTold hM) (by omega) (by decide) dX6_stands_18 ?_
      rw [show zai n2 at_readTold k = nI (J.1 k) from ((hfs.2 at_readTold (nr _ (by simp)) k).1).trans (hJ.1 k (by omega))]
      refine pw_iast k rfl (ts_told hM) (by decide) (by omega) (by decide) dX6_stands_19 ?_
      refine pw_iinc1 (j := 1) (ls' := [(1, _), (0, _)]) dX6_stands_20 rfl (by decide) rfl ?_
      refine pw_ls [1, 0] (ls' := [(0, _), (1, _)]) rfl ?_
      refine pw_goto 2 dX6_stands_23 (by decide) ?_
      refine ih (k + 1) (by omega) (by omega) _ (hf2.pai rfl) (fun j h => ?_)
      rw [zai_p]
      by_cases e : j = k
      · rw [e, if_pos ⟨rfl, rfl⟩]
      · rw [if_neg (fun z => e z.2)]; exact hj j (by omega)
  refine pw_iconst (v := 0) dX6_stands_0 (by decide) ?_
  refine pw_istore_n (ls' := [(1, _), (0, _)]) dX6_stands_1 rfl (by decide) rfl ?_
  refine pw_ls [1, 0] (ls' := [(0, _), (1, _)]) rfl ?_
  exact h2 0 (Nat.zero_le _) n zFr.rf (fun j h => absurd h (Nat.not_lt_zero _))
theorem t_tellsNothing {g : zg_G} {n : zg_N} (hM : TSh g) : PW zm_X6_tellsNothing 1 (fun o g1 n1 => o = .inl none ∧ g1 = g ∧ (∀ k, k < 6 → zai n1 at_readTold k = nI (j0.1 k)) ∧ zFr zB0 (fun a => a = at_readTold) n n1) 0 0 0 [(0, .ref aT)] [] g n := by
  have h2 : ∀ k, k ≤ 6 → ∀ n2, zFr zB0 (fun a => a = at_readTold) n n2 → (∀ j, j < k → zai n2 at_readTold j = 0) → PW zm_X6_tellsNothing 1 (fun o g1 n1 => o = .inl none ∧ g1 = g ∧ (∀ k, k < 6 → zai n1 at_readTold k = nI (j0.1 k)) ∧ zFr zB0 (fun a => a = at_readTold) n n1) 0 0 2 [(0, .ref aT), (1, .int (nI k))] [] g n2 := by
    refine zl_up 6 (fun k hk ih n2 hf2 hj => ?_)
    refine pw_iload_n dX6_tellsNothing_2 1 rfl rfl ?_
    refine pw_bipush (v := 6) dX6_tellsNothing_3 (by decide) ?_
    refine pw_icmp_ge_N (b := 6) 21 dX6_tellsNothing_5 (by decide) (by omega) (by omega) (fun c_5 => ?_) (fun c_5 => ?_)
    · refine pw_aload_n dX6_tellsNothing_21 0 rfl rfl ?_
      refine pw_getr 11 zc_X6 (ts_this hM) (by decide) q1997 (Or.inr ⟨_, rfl⟩) (tr_readTold hM) dX6_tellsNothing_22 ?_
      refine pw_iconst (v := 0) dX6_tellsNothing_25 (by decide) ?_
      refine pw_iconst (v := 4) dX6_tellsNothing_26 (by decide) ?_
      refine pw_iast 0 rfl (ts_readTold hM) (by decide) (by decide) (by decide) dX6_tellsNothing_27 ?_
      refine pw_vret rfl dX6_tellsNothing_28 ?_
      refine ⟨rfl, rfl, fun j h => ?_, hf2.pai rfl⟩
      rw [zai_p]
      by_cases e : j = 0
      · rw [e, if_pos ⟨rfl, rfl⟩]; rfl
      · rw [if_neg (fun z => e z.2), hj j (by omega)]
        show 0 = nI (if j = 0 then 4 else 0)
        rw [if_neg e]; rfl
    · refine pw_aload_n dX6_tellsNothing_8 0 rfl rfl ?_
      refine pw_getr 11 zc_X6 (ts_this hM) (by decide) q1997 (Or.inr ⟨_, rfl⟩) (tr_readTold hM) dX6_tellsNothing_9 ?_
      refine pw_iload_n dX6_tellsNothing_12 1 rfl rfl ?_
      refine pw_iconst (v := 0) dX6_tellsNothing_13 (by decide) ?_
      refine pw_iast k rfl (ts_readTold hM) (by decide) (by omega) (by decide) dX6_tellsNothing_14 ?_
      refine pw_iinc1 (j := 1) (ls' := [(1, _), (0, _)]) dX6_tellsNothing_15 rfl (by decide) rfl ?_
      refine pw_ls [1, 0] (ls' := [(0, _), (1, _)]) rfl ?_
      refine pw_goto 2 dX6_tellsNothing_18 (by decide) ?_
      refine ih (k + 1) (by omega) (by omega) _ (hf2.pai rfl) (fun j h => ?_)
      rw [zai_p]
      by_cases e : j = k
      · rw [e, if_pos ⟨rfl, rfl⟩]
      · rw [if_neg (fun z => e z.2)]; exact hj j (by omega)
  refine pw_iconst (v := 0) dX6_tellsNothing_0 (by decide) ?_
  refine pw_istore_n (ls' := [(1, _), (0, _)]) dX6_tellsNothing_1 rfl (by decide) rfl ?_
  refine pw_ls [1, 0] (ls' := [(0, _), (1, _)]) rfl ?_
  exact h2 0 (Nat.zero_le _) n zFr.rf (fun j h => absurd h (Nat.not_lt_zero _))

