/-! ===== THE CLASS: at, law, world, status, count, told ===== -/
section CS2
variable {g : zg_G} {n : zg_N} {w : cW} {S : zS}
theorem c_at (hG : CG g w) (hV : CV g n w S) (hW : WF S) (x : Int32) : PW zm_X1_at 1 (cQ (fun _ => xIAE) g n (sp_at S x)) 0 0 0 [(0, .ref aX), (1, .int x)] [] g n := by
  have hC := hG.sh; have hJ := hG.j; have hs := hW.slips
  refine pw_iload_n dX1_at_0 1 rfl rfl ?_
  refine pw_if_lt 27 dX1_at_1 (by decide) (fun c_1 => ?_) (fun c_1 => ?_)
  · refine pw_iconst (v := (-1)) dX1_at_27 (by decide) ?_
    refine pw_iret rfl dX1_at_28 ?_
    exact cQ_eq (by rw [sp_at, if_neg (fun h => absurd ((inB_lt (by omega)).mp h).1 (by rw [Int32.not_le]; exact c_1))]) (c_qok hG hV zFr.rf _)
  · refine pw_iload_n dX1_at_4 1 rfl rfl ?_
    refine pw_aload_n dX1_at_5 0 rfl rfl ?_
    refine pw_getr 0 zc_X1 (cs_this hC) (by decide) q694 (Or.inl ⟨_, rfl⟩) (cr_jar hG) dX1_at_6 ?_
    refine pw_getiN 3 zc_X2 (cs_jar hJ) (by decide) q536 (Or.inl rfl) dX1_at_9 ?_
    rw [hV.j.sl]
    refine pw_icmp_ge 27 dX1_at_12 (by decide) (fun c_12 => ?_) (fun c_12 => ?_)
    · refine pw_iconst (v := (-1)) dX1_at_27 (by decide) ?_
      refine pw_iret rfl dX1_at_28 ?_
      exact cQ_eq (by rw [sp_at, if_neg (fun h => absurd ((inB_lt (by omega)).mp h).2 (by rw [Int32.not_lt]; exact c_12))]) (c_qok hG hV zFr.rf _)
    · have hok := (inB_lt (x := x) (m := sN S 0 1) (by omega)).mpr ⟨Int32.not_lt.mp c_1, Int32.not_le.mp c_12⟩; obtain ⟨j, hj, rfl⟩ := inB_ex (by omega) hok
      refine pw_aload_n dX1_at_15 0 rfl rfl ?_
      refine pw_getr 5 zc_X1 (cs_this hC) (by decide) q703 (Or.inl ⟨_, rfl⟩) (cr_s hC) dX1_at_16 ?_
      refine pw_getrN 0 zc_X4 (cs_s hC) (by decide) q590 (Or.inr ⟨_, rfl⟩) (cr_order hC) dX1_at_19 ?_
      refine pw_iload_n dX1_at_22 1 rfl rfl ?_
      refine pw_iald _ rfl (cs_order hC) (by omega) (by decide) dX1_at_23 ?_
      rw [hV.od (show j < 12 by omega)]
      refine pw_goto 28 dX1_at_24 (by decide) ?_
      refine pw_iret rfl dX1_at_28 ?_
      exact cQ_eq (by rw [sp_at, if_pos hok, nI_clamp (by omega)]) (c_qok hG hV zFr.rf _)
theorem c_status (hG : CG g w) (hV : CV g n w S) (hW : WF S) (x : Int32) : PW zm_X1_status 1 (cQ (fun _ => xIAE) g n (sp_status S x)) 0 0 0 [(0, .ref aX), (1, .int x)] [] g n := by
  have hC := hG.sh
  refine pw_iload_n dX1_status_0 1 rfl rfl ?_
  refine pw_if_lt 18 dX1_status_1 (by decide) (fun c_1 => ?_) (fun c_1 => ?_)
  · refine pw_iconst (v := (-1)) dX1_status_18 (by decide) ?_
    refine pw_iret rfl dX1_status_19 ?_
    exact cQ_eq (by rw [sp_status, if_neg (fun h => absurd ((inB_le (m := 2) (by decide)).mp h).1 (by rw [Int32.not_le]; exact c_1))]) (c_qok hG hV zFr.rf _)
  · refine pw_iload_n dX1_status_4 1 rfl rfl ?_
    refine pw_iconst (v := 2) dX1_status_5 (by decide) ?_
    refine pw_icmp_gt 18 dX1_status_6 (by decide) (fun c_6 => ?_) (fun c_6 => ?_)
    · refine pw_iconst (v := (-1)) dX1_status_18 (by decide) ?_
      refine pw_iret rfl dX1_status_19 ?_
      exact cQ_eq (by rw [sp_status, if_neg (fun h => absurd ((inB_le (m := 2) (by decide)).mp h).2 (by rw [Int32.not_le]; exact c_6))]) (c_qok hG hV zFr.rf _)
    · have hok := (inB_le (x := x) (m := 2) (by decide)).mpr ⟨Int32.not_lt.mp c_1, Int32.not_lt.mp c_6⟩; obtain ⟨j, hj, rfl⟩ := inB_ex (by decide) hok
      refine pw_aload_n dX1_status_9 0 rfl rfl ?_
      refine pw_getr 11 zc_X1 (cs_this hC) (by decide) q709 (Or.inr ⟨_, rfl⟩) (cr_refused hC) dX1_status_10 ?_
      refine pw_iload_n dX1_status_13 1 rfl rfl ?_
      refine pw_iald _ rfl (cs_refused hC) (by omega) (by decide) dX1_status_14 ?_
      rw [hV.rf hj]
      refine pw_goto 19 dX1_status_15 (by decide) ?_
      refine pw_iret rfl dX1_status_19 ?_
      exact cQ_eq (by rw [sp_status, if_pos hok, nI_clamp (by omega)]) (c_qok hG hV zFr.rf _)
theorem c_count (hG : CG g w) (hV : CV g n w S) (hW : WF S) (x : Int32) : PW zm_X1_count 1 (cQ (fun _ => xIAE) g n (sp_count S x)) 0 0 0 [(0, .ref aX), (1, .int x)] [] g n := by
  have hC := hG.sh
  refine pw_iload_n dX1_count_0 1 rfl rfl ?_
  refine pw_if_ne 11 dX1_count_1 (by decide) (fun c_1 => ?_) (fun c_1 => ?_)
  · refine pw_iload_n dX1_count_11 1 rfl rfl ?_
    refine pw_iconst (v := 1) dX1_count_12 (by decide) ?_
    refine pw_icmp_ne 23 dX1_count_13 (by decide) (fun c_13 => ?_) (fun c_13 => ?_)
    · refine pw_iconst (v := (-1)) dX1_count_23 (by decide) ?_
      refine pw_iret rfl dX1_count_24 ?_
      exact cQ_eq (by rw [sp_count, if_neg c_1, if_neg c_13]) (c_qok hG hV zFr.rf _)
    · refine pw_aload_n dX1_count_16 0 rfl rfl ?_
      refine pw_geti 6 zc_X1 (cs_this hC) (by decide) q704 (Or.inl rfl) dX1_count_17 ?_
      rw [hV.tp]
      refine pw_goto 24 dX1_count_20 (by decide) ?_
      refine pw_iret rfl dX1_count_24 ?_
      exact cQ_eq (by rw [sp_count, if_neg c_1, if_pos c_13]) (c_qok hG hV zFr.rf _)
  · refine pw_aload_n dX1_count_4 0 rfl rfl ?_
    refine pw_geti 8 zc_X1 (cs_this hC) (by decide) q706 (Or.inl rfl) dX1_count_5 ?_
    rw [hV.im]
    refine pw_goto 24 dX1_count_8 (by decide) ?_
    refine pw_iret rfl dX1_count_24 ?_
    exact cQ_eq (by rw [sp_count, if_pos c_1]) (c_qok hG hV zFr.rf _)
/-- 0 ≤ x ≤ so much, as the class asks it -/
theorem nd_le {x : Int32} {m : Nat} (hm : m + 1 < 2147483648) (c1 : ¬ x < 0) (c2 : ¬ nI m < x) : inB x (m + 1) = true := (inB_le hm).mpr ⟨Int32.not_lt.mp c1, Int32.not_lt.mp c2⟩
theorem nd_n1 {x : Int32} {m : Nat} (c1 : x < 0) : ¬ inB x m = true := fun h => by
  have := (show inB x m = true → 0 ≤ x from fun h => by
    unfold inB at h
    rw [Bool.and_eq_true, decide_eq_true_eq] at h
    exact Int32.le_iff_toInt_le.mpr h.1) h
  exact absurd this (by rw [Int32.not_le]; exact c1)
theorem nd_n2 {x : Int32} {m : Nat} (hm : m + 1 < 2147483648) (c2 : nI m < x) : ¬ inB x (m + 1) = true := fun h => absurd ((inB_le hm).mp h).2 (by rw [Int32.not_le]; exact c2)
theorem c_need1 {g : zg_G} {n : zg_N} (hC : CSh g) {c : Prop} (h : c) : PW zm_X1_need 6 (cN xIAE 1 c g n) 1 6 0 [(0, .ref aX), (1, .int 1)] [] g n := by
  haveI := Classical.propDecidable c
  have := c_need (n := n) hC c
  rwa [zb_t h] at this
theorem c_need0 {g : zg_G} {n : zg_N} (hC : CSh g) {c : Prop} (h : ¬ c) : PW zm_X1_need 6 (cN xIAE 1 c g n) 1 6 0 [(0, .ref aX), (1, .int 0)] [] g n := by
  haveI := Classical.propDecidable c
  have := c_need (n := n) hC c
  rwa [zb_f h] at this
theorem c_told (hG : CG g w) (hV : CV g n w S) (hW : WF S) (x : Int32) : PW zm_X1_told 7 (cQ (fun _ => xIAE) g n (sp_told S x)) 1 6 0 [(0, .ref aX), (1, .int x)] [] g n := by
  have hC := hG.sh; have hJ := hG.j
  refine pw_aload_n dX1_told_0 0 rfl rfl ?_
  refine pw_iload_n dX1_told_1 1 rfl rfl ?_
  refine pw_if_lt 14 dX1_told_2 (by decide) (fun c_2 => ?_) (fun c_2 => ?_)
  · refine pw_iconst (v := 0) dX1_told_14 (by decide) ?_
    refine pw_callVx1 zmM_X1_need rfl (lw_V q999 q1001 qs17 q125 q1002) rfl (cs_this hC) zc_X1 (c_need0 hC (c := inB x 6 = true) (nd_n1 c_2)) (by decide) (Nat.le_refl _) (Nat.le_refl _) rfl (Nat.le_of_ble_eq_true rfl) (Nat.le_of_ble_eq_true rfl) dX1_told_15 (fun v1 g1 n1 h1 => ?_) (fun E1 a1 g1 n1 h1 => ?_)
    · obtain ⟨hv, hok, rfl, rfl⟩ := cN_ok h1; subst hv
      exact absurd hok (nd_n1 c_2)
    · obtain ⟨rfl, hno, x9, hx9, rfl, rfl⟩ := cN_ex h1
      exact px_out rfl (cQ_eq (spNeed_f hno) (c_qbad hG hW hV zFr.rf 1 (by decide) 1 (by decide) _ _ x9 hx9))
  · refine pw_iload_n dX1_told_5 1 rfl rfl ?_
    refine pw_iconst (v := 5) dX1_told_6 (by decide) ?_
    refine pw_icmp_gt 14 dX1_told_7 (by decide) (fun c_7 => ?_) (fun c_7 => ?_)
    · refine pw_iconst (v := 0) dX1_told_14 (by decide) ?_
      refine pw_callVx1 zmM_X1_need rfl (lw_V q999 q1001 qs17 q125 q1002) rfl (cs_this hC) zc_X1 (c_need0 hC (c := inB x 6 = true) (nd_n2 (m := 5) (by decide) c_7)) (by decide) (Nat.le_refl _) (Nat.le_refl _) rfl (Nat.le_of_ble_eq_true rfl) (Nat.le_of_ble_eq_true rfl) dX1_told_15 (fun v1 g1 n1 h1 => ?_) (fun E1 a1 g1 n1 h1 => ?_)
      · obtain ⟨hv, hok, rfl, rfl⟩ := cN_ok h1; subst hv
        exact absurd hok (nd_n2 (m := 5) (by decide) c_7)
      · obtain ⟨rfl, hno, x9, hx9, rfl, rfl⟩ := cN_ex h1
        exact px_out rfl (cQ_eq (spNeed_f hno) (c_qbad hG hW hV zFr.rf 1 (by decide) 1 (by decide) _ _ x9 hx9))
    · refine pw_iconst (v := 1) dX1_told_10 (by decide) ?_
      refine pw_goto 15 dX1_told_11 (by decide) ?_
      refine pw_callVx1 zmM_X1_need rfl (lw_V q999 q1001 qs17 q125 q1002) rfl (cs_this hC) zc_X1 (c_need1 hC (c := inB x 6 = true) (nd_le (m := 5) (by decide) c_2 c_7)) (by decide) (Nat.le_refl _) (Nat.le_refl _) rfl (Nat.le_of_ble_eq_true rfl) (Nat.le_of_ble_eq_true rfl) dX1_told_15 (fun v1 g1 n1 h1 => ?_) (fun E1 a1 g1 n1 h1 => ?_)
      · obtain ⟨hv, hok, rfl, rfl⟩ := cN_ok h1; subst hv
        obtain ⟨j, hj, rfl⟩ := inB_ex (by decide) hok
        refine pw_iload_n dX1_told_18 1 rfl rfl ?_
        refine pw_case_N 0 (by omega) (by decide) (fun c_19 => ?_) (fun n_19_0 => ?_)
        · refine pw_tableIn 52 dX1_told_19 (by decide) (by decide) rfl (by decide) ?_
          refine pw_aload_n dX1_told_52 0 rfl rfl ?_
          refine pw_getr 0 zc_X1 (cs_this hC) (by decide) q694 (Or.inl ⟨_, rfl⟩) (cr_jar hG) dX1_told_53 ?_
          refine pw_getiN 2 zc_X2 (cs_jar hJ) (by decide) q535 (Or.inl rfl) dX1_told_56 ?_
          rw [hV.j.at]
          refine pw_iret rfl dX1_told_59 ?_
          exact cQ_eq ((spNeed_t hok).trans (by rw [nI_clamp (by omega), c_19])) (c_qok hG hV zFr.rf _)
        refine pw_case_N 1 (by omega) (by decide) (fun c_19 => ?_) (fun n_19_1 => ?_)
        · refine pw_tableIn 60 dX1_told_19 (by decide) (by decide) rfl (by decide) ?_
          refine pw_aload_n dX1_told_60 0 rfl rfl ?_
          refine pw_getr 0 zc_X1 (cs_this hC) (by decide) q694 (Or.inl ⟨_, rfl⟩) (cr_jar hG) dX1_told_61 ?_
          refine pw_getiN 3 zc_X2 (cs_jar hJ) (by decide) q536 (Or.inl rfl) dX1_told_64 ?_
          rw [hV.j.sl]
          refine pw_iret rfl dX1_told_67 ?_
          exact cQ_eq ((spNeed_t hok).trans (by rw [nI_clamp (by omega), c_19])) (c_qok hG hV zFr.rf _)
        refine pw_case_N 2 (by omega) (by decide) (fun c_19 => ?_) (fun n_19_2 => ?_)
        · refine pw_tableIn 68 dX1_told_19 (by decide) (by decide) rfl (by decide) ?_
          refine pw_aload_n dX1_told_68 0 rfl rfl ?_
          refine pw_getr 0 zc_X1 (cs_this hC) (by decide) q694 (Or.inl ⟨_, rfl⟩) (cr_jar hG) dX1_told_69 ?_
          refine pw_getrN 0 zc_X2 (cs_jar hJ) (by decide) q528 (Or.inl ⟨_, rfl⟩) (cr_seeings hJ) dX1_told_72 ?_
          refine pw_callV0 zmM_J2_size rfl (lw_V q1557 q675 q676 q129 q677) rfl (cs_seeings hJ) zc_J2 (j_size (cs_seeings hJ)) (by decide) (Nat.le_refl _) (Nat.le_refl _) rfl (Nat.le_of_ble_eq_true rfl) (Nat.le_of_ble_eq_true rfl) dX1_told_75 zE.nx (zE_kk ?_)
          rw [hV.j.sz]
          refine pw_iret rfl dX1_told_78 ?_
          exact cQ_eq ((spNeed_t hok).trans (by rw [nI_clamp (by omega), c_19])) (c_qok hG hV zFr.rf _)
        refine pw_case_N 3 (by omega) (by decide) (fun c_19 => ?_) (fun n_19_3 => ?_)
        · refine pw_tableIn 79 dX1_told_19 (by decide) (by decide) rfl (by decide) ?_
          refine pw_aload_n dX1_told_79 0 rfl rfl ?_
          refine pw_getr 0 zc_X1 (cs_this hC) (by decide) q694 (Or.inl ⟨_, rfl⟩) (cr_jar hG) dX1_told_80 ?_
          refine pw_getiN 4 zc_X2 (cs_jar hJ) (by decide) q539 (Or.inl rfl) dX1_told_83 ?_
          rw [hV.j.sa]
          refine pw_iret rfl dX1_told_86 ?_
          exact cQ_eq ((spNeed_t hok).trans (by rw [nI_clamp (by omega), c_19])) (c_qok hG hV zFr.rf _)
        refine pw_case_N 4 (by omega) (by decide) (fun c_19 => ?_) (fun n_19_4 => ?_)
        · refine pw_tableIn 87 dX1_told_19 (by decide) (by decide) rfl (by decide) ?_
          refine pw_aload_n dX1_told_87 0 rfl rfl ?_
          refine pw_getr 5 zc_X1 (cs_this hC) (by decide) q703 (Or.inl ⟨_, rfl⟩) (cr_s hC) dX1_told_88 ?_
          refine pw_getiN 2 zc_X4 (cs_s hC) (by decide) q594 (Or.inl rfl) dX1_told_91 ?_
          rw [hV.wd]
          refine pw_iret rfl dX1_told_94 ?_
          exact cQ_eq ((spNeed_t hok).trans (by rw [nI_clamp (by omega), c_19])) (c_qok hG hV zFr.rf _)
        refine pw_tableOut 95 dX1_told_19 (by rw [nI_toInt (by omega)]; omega) (by decide) ?_
        refine pw_aload_n dX1_told_95 0 rfl rfl ?_
        refine pw_getr 5 zc_X1 (cs_this hC) (by decide) q703 (Or.inl ⟨_, rfl⟩) (cr_s hC) dX1_told_96 ?_
        refine pw_getiN 1 zc_X4 (cs_s hC) (by decide) q592 (Or.inl rfl) dX1_told_99 ?_
        rw [hV.lw]
        refine pw_iret rfl dX1_told_102 ?_
        exact cQ_eq ((spNeed_t hok).trans (by rw [nI_clamp (by omega), show j = 5 by omega])) (c_qok hG hV zFr.rf _)
      · obtain ⟨rfl, hno, x9, hx9, rfl, rfl⟩ := cN_ex h1
        exact px_out rfl (cQ_eq (spNeed_f hno) (c_qbad hG hW hV zFr.rf 1 (by decide) 1 (by decide) _ _ x9 hx9))
end CS2

