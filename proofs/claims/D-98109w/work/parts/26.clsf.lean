/-! ===== THE CLASS: law, world; a jar's worlds ===== -/
section CS3
variable {g : zg_G} {n : zg_N} {w : cW} {S : zS}
theorem CVi.cong {n n1 : zg_N} {w : cW} {S S1 : zS} (h : CVi n w S) (e6 : sN S1 0 6 = sN S 0 6) (eg : ∀ i j, i < sN S 0 6 → sN S1 (10 + i) j = sN S (10 + i) j) (hm : zfi n1 aX xf_imageMany = zfi n aX xf_imageMany) (hG : CI g w) (h3 : sN S 0 6 ≤ 3) (hd : dSame n n1) : CVi n1 w S1 := by
  obtain ⟨h1, h2⟩ := h
  refine ⟨hm.trans (h1.trans (by rw [e6])), fun i hi => ?_⟩
  rw [e6] at hi
  obtain ⟨q, q1, q2, q3, q4⟩ := h2 i hi
  obtain ⟨d1, -, -, d2, -⟩ := hG.2.1 i (by omega) q q1
  exact ⟨q, q1, by rw [eg i 0 hi]; exact (hd _ d1 _).1.trans q2, by rw [eg i 1 hi]; exact (hd _ d1 _).1.trans q3, fun k hk => by rw [eg i (2 + k) hi]; exact (hd _ d2 k).2.2.1.trans (q4 k hk)⟩
theorem dyn_ne {a b : Nat} (h : dyn a) (hb : b = 1000 ∨ (1009 ≤ b ∧ b ≤ 1040) ∨ (1045 ≤ b ∧ b ≤ 1545)) : ¬ a = b := by unfold dyn at h; omega
theorem dSame.pfi {n n1 : zg_N} (h : dSame n n1) {b k : Nat} {v : Int32} (hb : b = 1000 ∨ (1009 ≤ b ∧ b ≤ 1040) ∨ (1045 ≤ b ∧ b ≤ 1545)) : dSame n (zpfi n1 b k v) := fun a ha j => ⟨(if_neg (fun z => dyn_ne ha hb z.1)).trans (h a ha j).1, (h a ha j).2⟩
theorem dSame.rf {n : zg_N} : dSame n n := fun _ _ _ => ⟨rfl, rfl, rfl, rfl⟩
theorem CV.sset (hG : CG g w) (hW : WF S) (h : CV g n w S) (k f v : Nat) (hk : (k = 4 ∧ f = stf_world) ∨ (k = 5 ∧ f = stf_law)) : CV g (zpfi n ax_s f (nI v)) w (sSet S k v) := by
  have hd : dSame n (zpfi n ax_s f (nI v)) := dSame.rf.pfi (Or.inr (Or.inl (by decide)))
  obtain ⟨h1, h2, h3, h4, h5, h6, h7, h8, h9, h10, h11⟩ := h
  have j1 := h1.keep hG.j hd
  have j3 : CVi (zpfi n ax_s f (nI v)) w (sSet S k v) := h3.cong (by rcases hk with ⟨rfl, -⟩ | ⟨rfl, -⟩ <;> rfl) (fun i j _ => if_neg (fun z => by omega)) rfl hG.i hW.imgs hd
  rcases hk with ⟨rfl, rfl⟩ | ⟨rfl, rfl⟩
  · exact ⟨j1, h2.keep hG.t hd, j3, h4, h5, rfl, h7, h8, h9, h10, h11⟩
  · exact ⟨j1, h2.keep hG.t hd, j3, h4, h5, h6, rfl, h8, h9, h10, h11⟩
theorem c_law (hG : CG g w) (hV : CV g n w S) (hW : WF S) (x : Int32) : PW zm_X1_law 7 (cQ (fun _ => xIAE) g n (sp_law S x)) 1 6 0 [(0, .ref aX), (1, .int x)] [] g n := by
  have hC := hG.sh
  refine pw_aload_n dX1_law_0 0 rfl rfl ?_
  refine pw_iload_n dX1_law_1 1 rfl rfl ?_
  refine pw_callS1 zmM_X1_isLaw rfl (lw_S q1650 q1651 q125 q1652) (c_isLaw x _ _) (by decide) (Nat.le_refl _) (Nat.le_refl _) rfl (Nat.le_of_ble_eq_true rfl) (Nat.le_of_ble_eq_true rfl) dX1_law_2 zE.nx (zE_kk ?_)
  refine pw_callVx1 zmM_X1_need rfl (lw_V q999 q1001 qs17 q125 q1002) rfl (cs_this hC) zc_X1 (c_need hC (inB x 5 = true)) (by decide) (Nat.le_refl _) (Nat.le_refl _) rfl (Nat.le_of_ble_eq_true rfl) (Nat.le_of_ble_eq_true rfl) dX1_law_5 (fun v1 g1 n1 h1 => ?_) (fun E1 a1 g1 n1 h1 => ?_)
  · obtain ⟨hv, hok, rfl, rfl⟩ := cN_ok h1; subst hv
    obtain ⟨j, hj, rfl⟩ := inB_ex (by decide) hok
    refine pw_aload_n dX1_law_8 0 rfl rfl ?_
    refine pw_getr 5 zc_X1 (cs_this hC) (by decide) q703 (Or.inl ⟨_, rfl⟩) (cr_s hC) dX1_law_9 ?_
    refine pw_getiN 1 zc_X4 (cs_s hC) (by decide) q592 (Or.inl rfl) dX1_law_12 ?_
    rw [hV.lw]
    refine pw_istore_n (ls' := [(2, _), (0, _), (1, _)]) dX1_law_15 rfl (by decide) rfl ?_
    refine pw_ls [1, 2, 0] (ls' := [(0, _), (1, _), (2, _)]) rfl ?_
    refine pw_aload_n dX1_law_16 0 rfl rfl ?_
    refine pw_getr 5 zc_X1 (cs_this hC) (by decide) q703 (Or.inl ⟨_, rfl⟩) (cr_s hC) dX1_law_17 ?_
    refine pw_iload_n dX1_law_20 1 rfl rfl ?_
    refine pw_putiN 1 zc_X4 (cs_s hC) (by decide) (by decide) q592 rfl (Or.inl rfl) rfl rfl dX1_law_21 ?_
    refine pw_iload_n dX1_law_24 2 rfl rfl ?_
    refine pw_iret rfl dX1_law_25 ?_
    exact cQ_eq ((spNeed_t hok).trans (by rw [nI_clamp (by omega)])) (c_qok hG (hV.sset hG hW 5 stf_law j (Or.inr ⟨rfl, rfl⟩)) (zFr.rf.pfi (by unfold cF; decide)) _)
  · obtain ⟨rfl, hno, x9, hx9, rfl, rfl⟩ := cN_ex h1
    exact px_out rfl (cQ_eq (spNeed_f hno) (c_qbad hG hW hV zFr.rf 1 (by decide) 1 (by decide) _ _ x9 hx9))
theorem c_world (hG : CG g w) (hV : CV g n w S) (hW : WF S) (x : Int32) : PW zm_X1_world 7 (cQ (fun _ => xIAE) g n (sp_world S x)) 1 6 0 [(0, .ref aX), (1, .int x)] [] g n := by
  have hC := hG.sh; have hJ := hG.j
  have hp := nat_pow6 hW.atoms.2
  refine pw_aload_n dX1_world_0 0 rfl rfl ?_
  refine pw_iload_n dX1_world_1 1 rfl rfl ?_
  refine pw_if_lt 20 dX1_world_2 (by decide) (fun c_2 => ?_) (fun c_2 => ?_)
  · refine pw_iconst (v := 0) dX1_world_20 (by decide) ?_
    refine pw_callVx1 zmM_X1_need rfl (lw_V q999 q1001 qs17 q125 q1002) rfl (cs_this hC) zc_X1 (c_need0 hC (c := inB x (2 ^ sN S 0 0) = true) (nd_n1 c_2)) (by decide) (Nat.le_refl _) (Nat.le_refl _) rfl (Nat.le_of_ble_eq_true rfl) (Nat.le_of_ble_eq_true rfl) dX1_world_21 (fun v1 g1 n1 h1 => ?_) (fun E1 a1 g1 n1 h1 => ?_)
    · obtain ⟨hv, hok, rfl, rfl⟩ := cN_ok h1; subst hv
      exact absurd hok (nd_n1 c_2)
    · obtain ⟨rfl, hno, x9, hx9, rfl, rfl⟩ := cN_ex h1
      exact px_out rfl (cQ_eq (spNeed_f hno) (c_qbad hG hW hV zFr.rf 1 (by decide) 1 (by decide) _ _ x9 hx9))
  · refine pw_iload_n dX1_world_5 1 rfl rfl ?_
    refine pw_aload_n dX1_world_6 0 rfl rfl ?_
    refine pw_getr 0 zc_X1 (cs_this hC) (by decide) q694 (Or.inl ⟨_, rfl⟩) (cr_jar hG) dX1_world_7 ?_
    refine pw_callV0 zmM_X2_worlds rfl (lw_V q1660 q671 q672 q126 q673) rfl (cs_jar hJ) zc_X2 (c_worlds hJ hV.j hW) (by decide) (Nat.le_refl _) (Nat.le_refl _) rfl (Nat.le_of_ble_eq_true rfl) (Nat.le_of_ble_eq_true rfl) dX1_world_10 zE.nx (zE_kk ?_)
    refine pw_icmp_ge 20 dX1_world_13 (by decide) (fun c_13 => ?_) (fun c_13 => ?_)
    · refine pw_iconst (v := 0) dX1_world_20 (by decide) ?_
      refine pw_callVx1 zmM_X1_need rfl (lw_V q999 q1001 qs17 q125 q1002) rfl (cs_this hC) zc_X1 (c_need0 hC (c := inB x (2 ^ sN S 0 0) = true) (fun h => absurd ((inB_lt (by omega)).mp h).2 (by rw [Int32.not_lt]; exact c_13))) (by decide) (Nat.le_refl _) (Nat.le_refl _) rfl (Nat.le_of_ble_eq_true rfl) (Nat.le_of_ble_eq_true rfl) dX1_world_21 (fun v1 g1 n1 h1 => ?_) (fun E1 a1 g1 n1 h1 => ?_)
      · obtain ⟨hv, hok, rfl, rfl⟩ := cN_ok h1; subst hv
        exact absurd hok (fun h => absurd ((inB_lt (by omega)).mp h).2 (by rw [Int32.not_lt]; exact c_13))
      · obtain ⟨rfl, hno, x9, hx9, rfl, rfl⟩ := cN_ex h1
        exact px_out rfl (cQ_eq (spNeed_f hno) (c_qbad hG hW hV zFr.rf 1 (by decide) 1 (by decide) _ _ x9 hx9))
    · refine pw_iconst (v := 1) dX1_world_16 (by decide) ?_
      refine pw_goto 21 dX1_world_17 (by decide) ?_
      refine pw_callVx1 zmM_X1_need rfl (lw_V q999 q1001 qs17 q125 q1002) rfl (cs_this hC) zc_X1 (c_need1 hC (c := inB x (2 ^ sN S 0 0) = true) ((inB_lt (by omega)).mpr ⟨Int32.not_lt.mp c_2, Int32.not_le.mp c_13⟩)) (by decide) (Nat.le_refl _) (Nat.le_refl _) rfl (Nat.le_of_ble_eq_true rfl) (Nat.le_of_ble_eq_true rfl) dX1_world_21 (fun v1 g1 n1 h1 => ?_) (fun E1 a1 g1 n1 h1 => ?_)
      · obtain ⟨hv, hok, rfl, rfl⟩ := cN_ok h1; subst hv
        obtain ⟨j, hj, rfl⟩ := inB_ex (by omega) hok
        refine pw_aload_n dX1_world_24 0 rfl rfl ?_
        refine pw_getr 5 zc_X1 (cs_this hC) (by decide) q703 (Or.inl ⟨_, rfl⟩) (cr_s hC) dX1_world_25 ?_
        refine pw_getiN 2 zc_X4 (cs_s hC) (by decide) q594 (Or.inl rfl) dX1_world_28 ?_
        rw [hV.wd]
        refine pw_istore_n (ls' := [(2, _), (0, _), (1, _)]) dX1_world_31 rfl (by decide) rfl ?_
        refine pw_ls [1, 2, 0] (ls' := [(0, _), (1, _), (2, _)]) rfl ?_
        refine pw_aload_n dX1_world_32 0 rfl rfl ?_
        refine pw_getr 5 zc_X1 (cs_this hC) (by decide) q703 (Or.inl ⟨_, rfl⟩) (cr_s hC) dX1_world_33 ?_
        refine pw_iload_n dX1_world_36 1 rfl rfl ?_
        refine pw_putiN 2 zc_X4 (cs_s hC) (by decide) (by decide) q594 rfl (Or.inl rfl) rfl rfl dX1_world_37 ?_
        refine pw_iload_n dX1_world_40 2 rfl rfl ?_
        refine pw_iret rfl dX1_world_41 ?_
        exact cQ_eq ((spNeed_t hok).trans (by rw [nI_clamp (by omega)])) (c_qok hG (hV.sset hG hW 4 stf_world j (Or.inl ⟨rfl, rfl⟩)) (zFr.rf.pfi (by unfold cF; decide)) _)
      · obtain ⟨rfl, hno, x9, hx9, rfl, rfl⟩ := cN_ex h1
        exact px_out rfl (cQ_eq (spNeed_f hno) (c_qbad hG hW hV zFr.rf 1 (by decide) 1 (by decide) _ _ x9 hx9))
end CS3

