/-! ===== THE CLASS: simple questions ===== -/
theorem cN_ok {E : String} {r : Nat} {c : Prop} {g g1 : zg_G} {n n1 : zg_N} {v : Option Value} (h : cN E r c g n (.inl v) g1 n1) : v = none ∧ c ∧ g1 = g ∧ n1 = n := by
  rcases h with ⟨h0, h1, h2, h3⟩ | ⟨a, x, h0, -⟩
  · cases h0; exact ⟨rfl, h1, h2, h3⟩
  · cases h0
theorem cN_ex {E E1 : String} {a1 r : Nat} {c : Prop} {g g1 : zg_G} {n n1 : zg_N} (h : cN E r c g n (.inr (E1, a1)) g1 n1) : E1 = E ∧ ¬ c ∧ ∃ x, znx g ≤ x ∧ g1 = zgap g x ∧ n1 = nRef n r := by
  rcases h with ⟨h0, -⟩ | ⟨a, x, h0, h1, h2, h3, h4⟩
  · cases h0
  · cases h0; exact ⟨rfl, h1, x, h2, h3, h4⟩
section CS
variable {g : zg_G} {n : zg_N} {w : cW} {S : zS}
theorem c_fault (hG : CG g w) (hV : CV g n w S) (hW : WF S) : PW zm_X1_fault 1 (cQ (fun _ => xIAE) g n (sp_fault S)) 0 0 0 [(0, .ref aX)] [] g n := by
  have hC := hG.sh
  refine pw_aload_n dX1_fault_0 0 rfl rfl ?_
  refine pw_geti 7 zc_X1 (cs_this hC) (by decide) q705 (Or.inl rfl) dX1_fault_1 ?_
  rw [hV.fa]
  refine pw_iret rfl dX1_fault_4 ?_
  exact c_qok hG hV zFr.rf _
theorem c_models (hG : CG g w) (hV : CV g n w S) (hW : WF S) (x : Int32) : PW zm_X1_models 7 (cQ (fun _ => xIOB) g n (sp_models S x)) 1 6 0 [(0, .ref aX), (1, .int x)] [] g n := by
  have hC := hG.sh; have hJ := hG.j; have hs := hW.slips
  refine pw_aload_n dX1_models_0 0 rfl rfl ?_
  refine pw_iload_n dX1_models_1 1 rfl rfl ?_
  refine pw_aload_n dX1_models_2 0 rfl rfl ?_
  refine pw_getr 0 zc_X1 (cs_this hC) (by decide) q694 (Or.inl ⟨_, rfl⟩) (cr_jar hG) dX1_models_3 ?_
  refine pw_getiN 3 zc_X2 (cs_jar hJ) (by decide) q536 (Or.inl rfl) dX1_models_6 ?_
  rw [hV.j.sl]
  refine pw_callVx2 zmM_X1_needIn rfl (lw_V q1591 q1593 qs46 q125 q1594) rfl (cs_this hC) zc_X1 (c_needIn hC x (sN S 0 1) (by omega)) (by decide) (Nat.le_refl _) (Nat.le_refl _) rfl (Nat.le_of_ble_eq_true rfl) (Nat.le_of_ble_eq_true rfl) dX1_models_9 (fun v1 g1 n1 h1 => ?_) (fun E1 a1 g1 n1 h1 => ?_)
  · obtain ⟨hv, hok, rfl, rfl⟩ := cN_ok h1; subst hv
    obtain ⟨j, hj, rfl⟩ := inB_ex (by omega) hok
    refine pw_aload_n dX1_models_12 0 rfl rfl ?_
    refine pw_getr 0 zc_X1 (cs_this hC) (by decide) q694 (Or.inl ⟨_, rfl⟩) (cr_jar hG) dX1_models_13 ?_
    refine pw_getrN 1 zc_X2 (cs_jar hJ) (by decide) q531 (Or.inr ⟨_, rfl⟩) (cr_models hJ) dX1_models_16 ?_
    refine pw_iload_n dX1_models_19 1 rfl rfl ?_
    refine pw_lald _ rfl (cs_models hJ) (by omega) (by decide) dX1_models_20 ?_
    rw [hV.j.md (Or.inl hj)]
    refine pw_lret rfl dX1_models_21 ?_
    exact cQ_eq ((spNeed_t hok).trans (by rw [nI_clamp (by omega)])) (c_qok hG hV zFr.rf _)
  · obtain ⟨rfl, hno, x9, hx9, rfl, rfl⟩ := cN_ex h1
    exact px_out rfl (cQ_eq (spNeed_f hno) (c_qbad hG hW hV zFr.rf 1 (by decide) 0 (by decide) _ _ x9 hx9))
theorem c_left (hG : CG g w) (hV : CV g n w S) (hW : WF S) (x : Int32) : PW zm_X1_left 7 (cQ (fun _ => xIAE) g n (sp_left S x)) 1 6 0 [(0, .ref aX), (1, .int x)] [] g n := by
  have hC := hG.sh; have hJ := hG.j
  refine pw_aload_n dX1_left_0 0 rfl rfl ?_
  refine pw_iload_n dX1_left_1 1 rfl rfl ?_
  refine pw_callS1 zmM_X1_isWeek rfl (lw_S q1626 q1627 q125 q1628) (c_isWeek x _ _) (by decide) (Nat.le_refl _) (Nat.le_refl _) rfl (Nat.le_of_ble_eq_true rfl) (Nat.le_of_ble_eq_true rfl) dX1_left_2 zE.nx (zE_kk ?_)
  refine pw_callVx1 zmM_X1_need rfl (lw_V q999 q1001 qs17 q125 q1002) rfl (cs_this hC) zc_X1 (c_need hC (inB x 52 = true)) (by decide) (Nat.le_refl _) (Nat.le_refl _) rfl (Nat.le_of_ble_eq_true rfl) (Nat.le_of_ble_eq_true rfl) dX1_left_5 (fun v1 g1 n1 h1 => ?_) (fun E1 a1 g1 n1 h1 => ?_)
  · obtain ⟨hv, hok, rfl, rfl⟩ := cN_ok h1; subst hv
    obtain ⟨j, hj, rfl⟩ := inB_ex (by omega) hok
    refine pw_aload_n dX1_left_8 0 rfl rfl ?_
    refine pw_getr 4 zc_X1 (cs_this hC) (by decide) q701 (Or.inr ⟨_, rfl⟩) (cr_lefts hC) dX1_left_9 ?_
    refine pw_iload_n dX1_left_12 1 rfl rfl ?_
    refine pw_lald _ rfl (cs_lefts hC) (by omega) (by decide) dX1_left_13 ?_
    rw [hV.lf hj]
    refine pw_lret rfl dX1_left_14 ?_
    exact cQ_eq ((spNeed_t hok).trans (by rw [nI_clamp (by omega)])) (c_qok hG hV zFr.rf _)
  · obtain ⟨rfl, hno, x9, hx9, rfl, rfl⟩ := cN_ex h1
    exact px_out rfl (cQ_eq (spNeed_f hno) (c_qbad hG hW hV zFr.rf 1 (by decide) 1 (by decide) _ _ x9 hx9))
theorem c_worlds (hJ : CJ g w) (hj : CVj n w S) (hW : WF S) : PW zm_X2_worlds 1 (zE (some (.int (nI (2 ^ sN S 0 0)))) g n) 0 0 0 [(0, .ref (wJ w))] [] g n := by
  have h6 := hW.atoms.2
  refine pw_iconst (v := 1) dX2_worlds_0 (by decide) ?_
  refine pw_aload_n dX2_worlds_1 0 rfl rfl ?_
  refine pw_geti 2 zc_X2 (cs_jar hJ) (by decide) q533 (Or.inl rfl) dX2_worlds_2 ?_
  rw [hj.at]
  refine pw_ishl dX2_worlds_5 ?_
  rw [ishl1 (by omega)]
  refine pw_iret rfl dX2_worlds_6 ?_
  exact ⟨rfl, rfl, rfl⟩
theorem c_seen (hG : CG g w) (hV : CV g n w S) (hW : WF S) (x : Int32) : PW zm_X1_seen 7 (cQ (fun _ => xIOB) g n (sp_seen S x)) 1 6 0 [(0, .ref aX), (1, .int x)] [] g n := by
  have hC := hG.sh; have hJ := hG.j; have hs := hW.sees; have hz := hV.j.sz
  refine pw_aload_n dX1_seen_0 0 rfl rfl ?_
  refine pw_iload_n dX1_seen_1 1 rfl rfl ?_
  refine pw_aload_n dX1_seen_2 0 rfl rfl ?_
  refine pw_getr 0 zc_X1 (cs_this hC) (by decide) q694 (Or.inl ⟨_, rfl⟩) (cr_jar hG) dX1_seen_3 ?_
  refine pw_getrN 0 zc_X2 (cs_jar hJ) (by decide) q528 (Or.inl ⟨_, rfl⟩) (cr_seeings hJ) dX1_seen_6 ?_
  refine pw_callV0 zmM_J2_size rfl (lw_V q1557 q675 q676 q129 q677) rfl (cs_seeings hJ) zc_J2 (j_size (cs_seeings hJ)) (by decide) (Nat.le_refl _) (Nat.le_refl _) rfl (Nat.le_of_ble_eq_true rfl) (Nat.le_of_ble_eq_true rfl) dX1_seen_9 zE.nx (zE_kk ?_)
  rw [hz]
  refine pw_callVx2 zmM_X1_needIn rfl (lw_V q1591 q1593 qs46 q125 q1594) rfl (cs_this hC) zc_X1 (c_needIn hC x (sN S 0 2) (by omega)) (by decide) (Nat.le_refl _) (Nat.le_refl _) rfl (Nat.le_of_ble_eq_true rfl) (Nat.le_of_ble_eq_true rfl) dX1_seen_12 (fun v1 g1 n1 h1 => ?_) (fun E1 a1 g1 n1 h1 => ?_)
  · obtain ⟨hv, hok, rfl, rfl⟩ := cN_ok h1; subst hv
    obtain ⟨j, hj, rfl⟩ := inB_ex (by omega) hok; have hjm : j < wMs w := by rw [hV.j.ms]; exact hj
    refine pw_aload_n dX1_seen_15 0 rfl rfl ?_
    refine pw_getr 0 zc_X1 (cs_this hC) (by decide) q694 (Or.inl ⟨_, rfl⟩) (cr_jar hG) dX1_seen_16 ?_
    refine pw_getrN 0 zc_X2 (cs_jar hJ) (by decide) q528 (Or.inl ⟨_, rfl⟩) (cr_seeings hJ) dX1_seen_19 ?_
    refine pw_iload_n dX1_seen_22 1 rfl rfl ?_
    refine pw_callV1 zmM_J2_get rfl (lw_V q1617 q679 q680 q129 q681) rfl (cs_seeings hJ) zc_J2 (j_get hJ.ls (by rw [hz, hV.j.ms]) hjm) (by decide) (Nat.le_refl _) (Nat.le_refl _) rfl (Nat.le_of_ble_eq_true rfl) (Nat.le_of_ble_eq_true rfl) dX1_seen_23 zE.nx (zE_kk ?_)
    refine pw_castS zc_X9 (cs_seeing hJ hjm) q1618 dX1_seen_26 ?_
    refine pw_getlN 1 zc_X9 (cs_seeing hJ hjm) (by decide) q1254 rfl dX1_seen_29 ?_
    rw [hV.j.sm hj]
    refine pw_lret rfl dX1_seen_32 ?_
    exact cQ_eq ((spNeed_t hok).trans (by rw [nI_clamp (by omega)])) (c_qok hG hV zFr.rf _)
  · obtain ⟨rfl, hno, x9, hx9, rfl, rfl⟩ := cN_ex h1
    exact px_out rfl (cQ_eq (spNeed_f hno) (c_qbad hG hW hV zFr.rf 1 (by decide) 0 (by decide) _ _ x9 hx9))
theorem l_not {a b : Int64} : a &&& (b ^^^ -1) = 0 ↔ a &&& b = a := by
  constructor
  · intro h
    refine lb_ext fun i hi => ?_
    have := congrArg (fun z => lb z i) h
    simp only [lb_and, lb_xor, lb_m1 i hi, lb_0] at this ⊢
    revert this; cases lb a i <;> cases lb b i <;> simp
  · intro h
    refine lb_ext fun i hi => ?_
    have := congrArg (fun z => lb z i) h
    simp only [lb_and, lb_xor, lb_m1 i hi, lb_0] at this ⊢
    revert this; cases lb a i <;> cases lb b i <;> simp
theorem l_comm (a b : Int64) : a &&& b = b &&& a := lb_ext fun i _ => by rw [lb_and, lb_and, Bool.and_comm]
theorem c_kin (hG : CG g w) (hV : CV g n w S) (hW : WF S) (x y : Int32) : PW zm_X1_kin 7 (cQ (fun _ => xIOB) g n (sp_kin S x y)) 2 12 0 [(0, .ref aX), (1, .int x), (2, .int y)] [] g n := by
  have hC := hG.sh; have hJ := hG.j; have hs := hW.slips
  refine pw_aload_n dX1_kin_0 0 rfl rfl ?_
  refine pw_iload_n dX1_kin_1 1 rfl rfl ?_
  refine pw_aload_n dX1_kin_2 0 rfl rfl ?_
  refine pw_getr 0 zc_X1 (cs_this hC) (by decide) q694 (Or.inl ⟨_, rfl⟩) (cr_jar hG) dX1_kin_3 ?_
  refine pw_getiN 3 zc_X2 (cs_jar hJ) (by decide) q536 (Or.inl rfl) dX1_kin_6 ?_
  rw [hV.j.sl]
  refine pw_callVx2 zmM_X1_needIn rfl (lw_V q1591 q1593 qs46 q125 q1594) rfl (cs_this hC) zc_X1 (c_needIn hC x (sN S 0 1) (by omega)) (by decide) (Nat.le_refl _) (Nat.le_refl _) rfl (Nat.le_of_ble_eq_true rfl) (Nat.le_of_ble_eq_true rfl) dX1_kin_9 (fun v1 g1 n1 h1 => ?_) (fun E1 a1 g1 n1 h1 => ?_)
  · obtain ⟨hv, hok1, rfl, rfl⟩ := cN_ok h1; subst hv
    refine pw_aload_n dX1_kin_12 0 rfl rfl ?_
    refine pw_iload_n dX1_kin_13 2 rfl rfl ?_
    refine pw_aload_n dX1_kin_14 0 rfl rfl ?_
    refine pw_getr 0 zc_X1 (cs_this hC) (by decide) q694 (Or.inl ⟨_, rfl⟩) (cr_jar hG) dX1_kin_15 ?_
    refine pw_getiN 3 zc_X2 (cs_jar hJ) (by decide) q536 (Or.inl rfl) dX1_kin_18 ?_
    rw [hV.j.sl]
    refine pw_callVx2 zmM_X1_needIn rfl (lw_V q1591 q1593 qs46 q125 q1594) rfl (cs_this hC) zc_X1 (c_needIn hC y (sN S 0 1) (by omega)) (by decide) (Nat.le_refl _) (Nat.le_refl _) rfl (Nat.le_of_ble_eq_true rfl) (Nat.le_of_ble_eq_true rfl) dX1_kin_21 (fun v1 g1 n1 h1 => ?_) (fun E1 a1 g1 n1 h1 => ?_)
    · obtain ⟨hv, hok2, rfl, rfl⟩ := cN_ok h1; subst hv
      have hok : (inB x (sN S 0 1) && inB y (sN S 0 1)) = true := by rw [hok1, hok2]; rfl
      obtain ⟨i, hi, rfl⟩ := inB_ex (by omega) hok1
      obtain ⟨j, hj, rfl⟩ := inB_ex (by omega) hok2
      have hcl : sp_kin S (nI i) (nI j) = (0, .int (nI (spKin (sL S 0 i) (sL S 0 j))), S) := (spNeed_t hok).trans (by rw [nI_clamp (by omega), nI_clamp (by omega)])
      rw [hcl]
      refine pw_aload_n dX1_kin_24 0 rfl rfl ?_
      refine pw_getr 0 zc_X1 (cs_this hC) (by decide) q694 (Or.inl ⟨_, rfl⟩) (cr_jar hG) dX1_kin_25 ?_
      refine pw_getrN 1 zc_X2 (cs_jar hJ) (by decide) q531 (Or.inr ⟨_, rfl⟩) (cr_models hJ) dX1_kin_28 ?_
      refine pw_iload_n dX1_kin_31 1 rfl rfl ?_
      refine pw_lald _ rfl (cs_models hJ) (by omega) (by decide) dX1_kin_32 ?_
      rw [hV.j.md (Or.inl hi)]
      refine pw_lstore_n (ls' := [(3, _), (0, _), (1, _), (2, _)]) dX1_kin_33 rfl (by decide) rfl ?_
      refine pw_ls [1, 2, 3, 0] (ls' := [(0, _), (1, _), (2, _), (3, _)]) rfl ?_
      refine pw_aload_n dX1_kin_34 0 rfl rfl ?_
      refine pw_getr 0 zc_X1 (cs_this hC) (by decide) q694 (Or.inl ⟨_, rfl⟩) (cr_jar hG) dX1_kin_35 ?_
      refine pw_getrN 1 zc_X2 (cs_jar hJ) (by decide) q531 (Or.inr ⟨_, rfl⟩) (cr_models hJ) dX1_kin_38 ?_
      refine pw_iload_n dX1_kin_41 2 rfl rfl ?_
      refine pw_lald _ rfl (cs_models hJ) (by omega) (by decide) dX1_kin_42 ?_
      rw [hV.j.md (Or.inl hj)]
      refine pw_lstore (ls' := [(5, _), (0, _), (1, _), (2, _), (3, _)]) dX1_kin_43 (by decide) rfl ?_
      refine pw_ls [1, 2, 3, 4, 0] (ls' := [(0, _), (1, _), (2, _), (3, _), (5, _)]) rfl ?_
      refine pw_lload_n dX1_kin_45 3 rfl rfl ?_
      refine pw_lload dX1_kin_46 4 rfl ?_
      refine pw_lcmp dX1_kin_48 ?_
      refine pw_if_ne_L 54 dX1_kin_49 (by decide) (fun c_49 => ?_) (fun c_49 => ?_)
      · refine pw_lload_n dX1_kin_54 3 rfl rfl ?_
        refine pw_lload dX1_kin_55 4 rfl ?_
        refine pw_ldc2 q582 dX1_kin_57 ?_
        refine pw_lxor dX1_kin_60 ?_
        refine pw_land dX1_kin_61 ?_
        refine pw_lconst (v := 0) dX1_kin_62 rfl ?_
        refine pw_lcmp dX1_kin_63 ?_
        refine pw_if_ne_L 69 dX1_kin_64 (by decide) (fun c_64 => ?_) (fun c_64 => ?_)
        · refine pw_lload dX1_kin_69 4 rfl ?_
          refine pw_lload_n dX1_kin_71 3 rfl rfl ?_
          refine pw_ldc2 q582 dX1_kin_72 ?_
          refine pw_lxor dX1_kin_75 ?_
          refine pw_land dX1_kin_76 ?_
          refine pw_lconst (v := 0) dX1_kin_77 rfl ?_
          refine pw_lcmp dX1_kin_78 ?_
          refine pw_if_ne_L 84 dX1_kin_79 (by decide) (fun c_79 => ?_) (fun c_79 => ?_)
          · refine pw_lload_n dX1_kin_84 3 rfl rfl ?_
            refine pw_lload dX1_kin_85 4 rfl ?_
            refine pw_land dX1_kin_87 ?_
            refine pw_lconst (v := 0) dX1_kin_88 rfl ?_
            refine pw_lcmp dX1_kin_89 ?_
            refine pw_if_ne_L 97 dX1_kin_90 (by decide) (fun c_90 => ?_) (fun c_90 => ?_)
            · refine pw_iconst (v := 4) dX1_kin_97 (by decide) ?_
              refine pw_iret rfl dX1_kin_98 ?_
              exact cQ_eq (by rw [spKin, if_neg c_49, if_neg (fun h => c_64 (l_not.mpr h)), if_neg (fun h => c_79 (l_not.mpr ((l_comm _ _).trans h))), if_neg c_90]; rfl) (c_qok hG hV zFr.rf _)
            · refine pw_iconst (v := 3) dX1_kin_93 (by decide) ?_
              refine pw_goto 98 dX1_kin_94 (by decide) ?_
              refine pw_iret rfl dX1_kin_98 ?_
              exact cQ_eq (by rw [spKin, if_neg c_49, if_neg (fun h => c_64 (l_not.mpr h)), if_neg (fun h => c_79 (l_not.mpr ((l_comm _ _).trans h))), if_pos c_90]; rfl) (c_qok hG hV zFr.rf _)
          · refine pw_iconst (v := 2) dX1_kin_82 (by decide) ?_
            refine pw_iret rfl dX1_kin_83 ?_
            exact cQ_eq (by rw [spKin, if_neg c_49, if_neg (fun h => c_64 (l_not.mpr h)), if_pos ((l_comm _ _).trans (l_not.mp c_79))]; rfl) (c_qok hG hV zFr.rf _)
        · refine pw_iconst (v := 1) dX1_kin_67 (by decide) ?_
          refine pw_iret rfl dX1_kin_68 ?_
          exact cQ_eq (by rw [spKin, if_neg c_49, if_pos (l_not.mp c_64)]; rfl) (c_qok hG hV zFr.rf _)
      · refine pw_iconst (v := 0) dX1_kin_52 (by decide) ?_
        refine pw_iret rfl dX1_kin_53 ?_
        exact cQ_eq (by rw [spKin, if_pos c_49]; rfl) (c_qok hG hV zFr.rf _)
    · obtain ⟨rfl, hno, x9, hx9, rfl, rfl⟩ := cN_ex h1
      exact px_out rfl (cQ_eq (spNeed_f (fun h => hno (by simp only [Bool.and_eq_true] at h; exact h.2))) (c_qbad hG hW hV zFr.rf 1 (by decide) 0 (by decide) _ _ x9 hx9))
  · obtain ⟨rfl, hno, x9, hx9, rfl, rfl⟩ := cN_ex h1
    exact px_out rfl (cQ_eq (spNeed_f (fun h => hno (by simp only [Bool.and_eq_true] at h; exact h.1))) (c_qbad hG hW hV zFr.rf 1 (by decide) 0 (by decide) _ _ x9 hx9))
theorem c_fallOut (hG : CG g w) (hV : CV g n w S) (hW : WF S) (x y v : Int32) : PW zm_X1_fallOut 7 (cQ (xc xIOB xIAE) g n (sp_fallOut S x y v)) 3 18 0 [(0, .ref aX), (1, .int x), (2, .int y), (3, .int v)] [] g n := by
  have hC := hG.sh; have hJ := hG.j; have hs := hW.slips
  refine pw_aload_n dX1_fallOut_0 0 rfl rfl ?_
  refine pw_iload_n dX1_fallOut_1 1 rfl rfl ?_
  refine pw_aload_n dX1_fallOut_2 0 rfl rfl ?_
  refine pw_getr 0 zc_X1 (cs_this hC) (by decide) q694 (Or.inl ⟨_, rfl⟩) (cr_jar hG) dX1_fallOut_3 ?_
  refine pw_getiN 3 zc_X2 (cs_jar hJ) (by decide) q536 (Or.inl rfl) dX1_fallOut_6 ?_
  rw [hV.j.sl]
  refine pw_callVx2 zmM_X1_needIn rfl (lw_V q1591 q1593 qs46 q125 q1594) rfl (cs_this hC) zc_X1 (c_needIn hC x (sN S 0 1) (by omega)) (by decide) (Nat.le_refl _) (Nat.le_refl _) rfl (Nat.le_of_ble_eq_true rfl) (Nat.le_of_ble_eq_true rfl) dX1_fallOut_9 (fun v1 g1 n1 h1 => ?_) (fun E1 a1 g1 n1 h1 => ?_)
  · obtain ⟨hv, hok1, rfl, rfl⟩ := cN_ok h1; subst hv
    refine pw_aload_n dX1_fallOut_12 0 rfl rfl ?_
    refine pw_iload_n dX1_fallOut_13 2 rfl rfl ?_
    refine pw_aload_n dX1_fallOut_14 0 rfl rfl ?_
    refine pw_getr 0 zc_X1 (cs_this hC) (by decide) q694 (Or.inl ⟨_, rfl⟩) (cr_jar hG) dX1_fallOut_15 ?_
    refine pw_getiN 3 zc_X2 (cs_jar hJ) (by decide) q536 (Or.inl rfl) dX1_fallOut_18 ?_
    rw [hV.j.sl]
    refine pw_callVx2 zmM_X1_needIn rfl (lw_V q1591 q1593 qs46 q125 q1594) rfl (cs_this hC) zc_X1 (c_needIn hC y (sN S 0 1) (by omega)) (by decide) (Nat.le_refl _) (Nat.le_refl _) rfl (Nat.le_of_ble_eq_true rfl) (Nat.le_of_ble_eq_true rfl) dX1_fallOut_21 (fun v1 g1 n1 h1 => ?_) (fun E1 a1 g1 n1 h1 => ?_)
    · obtain ⟨hv, hok2, rfl, rfl⟩ := cN_ok h1; subst hv
      refine pw_aload_n dX1_fallOut_24 0 rfl rfl ?_
      refine pw_iload_n dX1_fallOut_25 3 rfl rfl ?_
      refine pw_callS1 zmM_X1_isWeek rfl (lw_S q1626 q1627 q125 q1628) (c_isWeek v _ _) (by decide) (Nat.le_refl _) (Nat.le_refl _) rfl (Nat.le_of_ble_eq_true rfl) (Nat.le_of_ble_eq_true rfl) dX1_fallOut_26 zE.nx (zE_kk ?_)
      have hok : (inB x (sN S 0 1) && inB y (sN S 0 1)) = true := by rw [hok1, hok2]; rfl
      refine pw_callVx1 zmM_X1_need rfl (lw_V q999 q1001 qs17 q125 q1002) rfl (cs_this hC) zc_X1 (c_need hC (inB v 52 = true)) (by decide) (Nat.le_refl _) (Nat.le_refl _) rfl (Nat.le_of_ble_eq_true rfl) (Nat.le_of_ble_eq_true rfl) dX1_fallOut_29 (fun v1 g1 n1 h1 => ?_) (fun E1 a1 g1 n1 h1 => ?_)
      · obtain ⟨hv, hok3, rfl, rfl⟩ := cN_ok h1; subst hv
        obtain ⟨i, hi, rfl⟩ := inB_ex (by omega) hok1
        obtain ⟨j, hj, rfl⟩ := inB_ex (by omega) hok2
        obtain ⟨k, hk, rfl⟩ := inB_ex (by omega) hok3
        have hcl : sp_fallOut S (nI i) (nI j) (nI k) = (0, .int (zb (spFalls S i j k)), S) := ((spNeed_t hok).trans (spNeed_t hok3)).trans (by rw [nI_clamp (by omega), nI_clamp (by omega), nI_clamp (by omega)])
        rw [hcl]
        refine pw_aload_n dX1_fallOut_32 0 rfl rfl ?_
        refine pw_getr 0 zc_X1 (cs_this hC) (by decide) q694 (Or.inl ⟨_, rfl⟩) (cr_jar hG) dX1_fallOut_33 ?_
        refine pw_getrN 1 zc_X2 (cs_jar hJ) (by decide) q531 (Or.inr ⟨_, rfl⟩) (cr_models hJ) dX1_fallOut_36 ?_
        refine pw_iload_n dX1_fallOut_39 1 rfl rfl ?_
        refine pw_lald _ rfl (cs_models hJ) (by omega) (by decide) dX1_fallOut_40 ?_
        rw [hV.j.md (Or.inl hi)]
        refine pw_aload_n dX1_fallOut_41 0 rfl rfl ?_
        refine pw_getr 0 zc_X1 (cs_this hC) (by decide) q694 (Or.inl ⟨_, rfl⟩) (cr_jar hG) dX1_fallOut_42 ?_
        refine pw_getrN 1 zc_X2 (cs_jar hJ) (by decide) q531 (Or.inr ⟨_, rfl⟩) (cr_models hJ) dX1_fallOut_45 ?_
        refine pw_iload_n dX1_fallOut_48 2 rfl rfl ?_
        refine pw_lald _ rfl (cs_models hJ) (by omega) (by decide) dX1_fallOut_49 ?_
        rw [hV.j.md (Or.inl hj)]
        refine pw_land dX1_fallOut_50 ?_
        refine pw_aload_n dX1_fallOut_51 0 rfl rfl ?_
        refine pw_getr 4 zc_X1 (cs_this hC) (by decide) q701 (Or.inr ⟨_, rfl⟩) (cr_lefts hC) dX1_fallOut_52 ?_
        refine pw_iload_n dX1_fallOut_55 3 rfl rfl ?_
        refine pw_lald _ rfl (cs_lefts hC) (by omega) (by decide) dX1_fallOut_56 ?_
        rw [hV.lf hk]
        refine pw_land dX1_fallOut_57 ?_
        refine pw_lconst (v := 0) dX1_fallOut_58 rfl ?_
        refine pw_lcmp dX1_fallOut_59 ?_
        refine pw_if_ne_L 67 dX1_fallOut_60 (by decide) (fun c_60 => ?_) (fun c_60 => ?_)
        · refine pw_iconst (v := 0) dX1_fallOut_67 (by decide) ?_
          refine pw_zret _ rfl rfl dX1_fallOut_68 ?_
          exact cQ_eq (by rw [zb_f c_60]) (c_qok hG hV zFr.rf _)
        · refine pw_iconst (v := 1) dX1_fallOut_63 (by decide) ?_
          refine pw_goto 68 dX1_fallOut_64 (by decide) ?_
          refine pw_zret _ rfl rfl dX1_fallOut_68 ?_
          exact cQ_eq (by rw [zb_t c_60]) (c_qok hG hV zFr.rf _)
      · obtain ⟨rfl, hno, x9, hx9, rfl, rfl⟩ := cN_ex h1
        exact px_out rfl (cQ_eq ((spNeed_t hok).trans (spNeed_f hno)) (c_qbad hG hW hV zFr.rf 2 (by decide) 1 (by decide) _ _ x9 hx9))
    · obtain ⟨rfl, hno, x9, hx9, rfl, rfl⟩ := cN_ex h1
      exact px_out rfl (cQ_eq (spNeed_f (fun h => hno (by simp only [Bool.and_eq_true] at h; exact h.2))) (c_qbad hG hW hV zFr.rf 1 (by decide) 0 (by decide) _ _ x9 hx9))
  · obtain ⟨rfl, hno, x9, hx9, rfl, rfl⟩ := cN_ex h1
    exact px_out rfl (cQ_eq (spNeed_f (fun h => hno (by simp only [Bool.and_eq_true] at h; exact h.1))) (c_qbad hG hW hV zFr.rf 1 (by decide) 0 (by decide) _ _ x9 hx9))
theorem c_isTrue (hG : CG g w) (hV : CV g n w S) (hW : WF S) (k : Nat) (hk : okb S k) : PW zm_X1_isTrue 1 (zE (some (.int (zb (spTrue S k)))) g n) 0 0 0 [(0, .ref aX), (1, .int (nI k))] [] g n := by
  have hC := hG.sh; have hJ := hG.j
  have hk17 := hk.lt hW
  refine pw_aload_n dX1_isTrue_0 0 rfl rfl ?_
  refine pw_getr 0 zc_X1 (cs_this hC) (by decide) q694 (Or.inl ⟨_, rfl⟩) (cr_jar hG) dX1_isTrue_1 ?_
  refine pw_getrN 1 zc_X2 (cs_jar hJ) (by decide) q531 (Or.inr ⟨_, rfl⟩) (cr_models hJ) dX1_isTrue_4 ?_
  refine pw_iload_n dX1_isTrue_7 1 rfl rfl ?_
  refine pw_lald _ rfl (cs_models hJ) (by omega) (by decide) dX1_isTrue_8 ?_
  rw [hV.j.md hk]
  refine pw_aload_n dX1_isTrue_9 0 rfl rfl ?_
  refine pw_getr 5 zc_X1 (cs_this hC) (by decide) q703 (Or.inl ⟨_, rfl⟩) (cr_s hC) dX1_isTrue_10 ?_
  refine pw_getiN 2 zc_X4 (cs_s hC) (by decide) q594 (Or.inl rfl) dX1_isTrue_13 ?_
  rw [hV.wd]
  refine pw_lshr dX1_isTrue_16 ?_
  refine pw_lconst (v := 1) dX1_isTrue_17 rfl ?_
  refine pw_land dX1_isTrue_18 ?_
  refine pw_lconst (v := 1) dX1_isTrue_19 rfl ?_
  refine pw_lcmp dX1_isTrue_20 ?_
  refine pw_if_ne_L 28 dX1_isTrue_21 (by decide) (fun c_21 => ?_) (fun c_21 => ?_)
  · refine pw_iconst (v := 0) dX1_isTrue_28 (by decide) ?_
    refine pw_zret _ rfl rfl dX1_isTrue_29 ?_
    exact ⟨by rw [zb_f (fun h => c_21 ((sp_true1 hW k).mpr h))], rfl, rfl⟩
  · refine pw_iconst (v := 1) dX1_isTrue_24 (by decide) ?_
    refine pw_goto 29 dX1_isTrue_25 (by decide) ?_
    refine pw_zret _ rfl rfl dX1_isTrue_29 ?_
    exact ⟨by rw [zb_t ((sp_true1 hW k).mp c_21)], rfl, rfl⟩
theorem c_truths0 (hG : CG g w) (hV : CV g n w S) (hW : WF S) : PW zm_X1_truths 2 (zE (some (.int (spTr S (sN S 0 1)))) g n) 0 0 0 [(0, .ref aX)] [] g n := by
  have hC := hG.sh; have hJ := hG.j; have hs := hW.slips
  have hl : ∀ k, k ≤ sN S 0 1 → PW zm_X1_truths 2 (zE (some (.int (spTr S (sN S 0 1)))) g n) 0 0 4 [(0, .ref aX), (1, .int (spTr S k)), (2, .int (nI k))] [] g n := by
    refine zl_up _ (fun k hk ih => ?_)
    refine pw_iload_n dX1_truths_4 2 rfl rfl ?_
    refine pw_aload_n dX1_truths_5 0 rfl rfl ?_
    refine pw_getr 0 zc_X1 (cs_this hC) (by decide) q694 (Or.inl ⟨_, rfl⟩) (cr_jar hG) dX1_truths_6 ?_
    refine pw_getiN 3 zc_X2 (cs_jar hJ) (by decide) q536 (Or.inl rfl) dX1_truths_9 ?_
    rw [hV.j.sl]
    refine pw_icmp_ge_N 39 dX1_truths_12 (by decide) (by omega) (by omega) (fun c_12 => ?_) (fun c_12 => ?_)
    · refine pw_iload_n dX1_truths_39 1 rfl rfl ?_
      refine pw_iret rfl dX1_truths_40 ?_
      exact ⟨by rw [show k = sN S 0 1 by omega], rfl, rfl⟩
    · refine pw_iload_n dX1_truths_15 1 rfl rfl ?_
      refine pw_aload_n dX1_truths_16 0 rfl rfl ?_
      refine pw_iload_n dX1_truths_17 2 rfl rfl ?_
      refine pw_callV1 zmM_X1_isTrue rfl (lw_V q806 q808 qs3 q125 q809) rfl (cs_this hC) zc_X1 (c_isTrue hG hV hW k (Or.inl c_12)) (by decide) (Nat.le_refl _) (Nat.le_refl _) rfl (Nat.le_of_ble_eq_true rfl) (Nat.le_of_ble_eq_true rfl) dX1_truths_18 zE.nx (zE_kk ?_)
      refine pw_if_eq_B 30 dX1_truths_21 (by decide) (fun c_21 => ?_) (fun c_21 => ?_)
      · refine pw_iconst (v := 0) dX1_truths_30 (by decide) ?_
        refine pw_ior dX1_truths_31 ?_
        refine pw_istore_n (ls' := [(1, _), (0, _), (2, _)]) dX1_truths_32 rfl (by decide) rfl ?_
        refine pw_ls [1, 0, 2] (ls' := [(0, _), (1, _), (2, _)]) rfl ?_
        refine pw_iinc1 (j := 2) (ls' := [(2, _), (0, _), (1, _)]) dX1_truths_33 rfl (by decide) rfl ?_
        refine pw_ls [1, 2, 0] (ls' := [(0, _), (1, _), (2, _)]) rfl ?_
        refine pw_goto 4 dX1_truths_36 (by decide) ?_
        rw [show spTr S k ||| 0 = spTr S (k + 1) from by rw [spTr, if_neg c_21]]; exact ih (k + 1) (by omega) (by omega)
      · refine pw_iconst (v := 1) dX1_truths_24 (by decide) ?_
        refine pw_iload_n dX1_truths_25 2 rfl rfl ?_
        refine pw_ishl dX1_truths_26 ?_
        rw [ishl1 (show k < 32 by omega)]
        refine pw_goto 31 dX1_truths_27 (by decide) ?_
        refine pw_ior dX1_truths_31 ?_
        refine pw_istore_n (ls' := [(1, _), (0, _), (2, _)]) dX1_truths_32 rfl (by decide) rfl ?_
        refine pw_ls [1, 0, 2] (ls' := [(0, _), (1, _), (2, _)]) rfl ?_
        refine pw_iinc1 (j := 2) (ls' := [(2, _), (0, _), (1, _)]) dX1_truths_33 rfl (by decide) rfl ?_
        refine pw_ls [1, 2, 0] (ls' := [(0, _), (1, _), (2, _)]) rfl ?_
        refine pw_goto 4 dX1_truths_36 (by decide) ?_
        rw [show spTr S k ||| nI (2 ^ k) = spTr S (k + 1) from by rw [spTr, if_pos c_21]]; exact ih (k + 1) (by omega) (by omega)
  refine pw_iconst (v := 0) dX1_truths_0 (by decide) ?_
  refine pw_istore_n (ls' := [(1, _), (0, _)]) dX1_truths_1 rfl (by decide) rfl ?_
  refine pw_ls [1, 0] (ls' := [(0, _), (1, _)]) rfl ?_
  refine pw_iconst (v := 0) dX1_truths_2 (by decide) ?_
  refine pw_istore_n (ls' := [(2, _), (0, _), (1, _)]) dX1_truths_3 rfl (by decide) rfl ?_
  refine pw_ls [1, 2, 0] (ls' := [(0, _), (1, _), (2, _)]) rfl ?_
  exact hl 0 (Nat.zero_le _)
theorem c_truths (hG : CG g w) (hV : CV g n w S) (hW : WF S) : PW zm_X1_truths 2 (cQ (fun _ => xIAE) g n (sp_truths S)) 0 0 0 [(0, .ref aX)] [] g n :=
  pw_mono (fun o g1 n1 h => by obtain ⟨rfl, rfl, rfl⟩ := h; exact c_qok hG hV zFr.rf _) (c_truths0 hG hV hW)
theorem c_dull (hG : CG g w) (hV : CV g n w S) (hW : WF S) : PW zm_X1_dull 1 (cQ (fun _ => xIAE) g n (sp_dull S)) 0 0 0 [(0, .ref aX)] [] g n := by
  have hC := hG.sh; have hJ := hG.j; have hs := hW.slips
  have hl : ∀ k, k ≤ sN S 0 1 → PW zm_X1_dull 1 (cQ (fun _ => xIAE) g n (sp_dull S)) 0 0 4 [(0, .ref aX), (1, .int (spDu S k)), (2, .int (nI k))] [] g n := by
    refine zl_up _ (fun k hk ih => ?_)
    refine pw_iload_n dX1_dull_4 2 rfl rfl ?_
    refine pw_aload_n dX1_dull_5 0 rfl rfl ?_
    refine pw_getr 0 zc_X1 (cs_this hC) (by decide) q694 (Or.inl ⟨_, rfl⟩) (cr_jar hG) dX1_dull_6 ?_
    refine pw_getiN 3 zc_X2 (cs_jar hJ) (by decide) q536 (Or.inl rfl) dX1_dull_9 ?_
    rw [hV.j.sl]
    refine pw_icmp_ge_N 53 dX1_dull_12 (by decide) (by omega) (by omega) (fun c_12 => ?_) (fun c_12 => ?_)
    · refine pw_iload_n dX1_dull_53 1 rfl rfl ?_
      refine pw_iret rfl dX1_dull_54 ?_
      exact cQ_eq (by rw [sp_dull, show k = sN S 0 1 by omega]) (c_qok hG hV zFr.rf _)
    · refine pw_iload_n dX1_dull_15 1 rfl rfl ?_
      refine pw_aload_n dX1_dull_16 0 rfl rfl ?_
      refine pw_getr 0 zc_X1 (cs_this hC) (by decide) q694 (Or.inl ⟨_, rfl⟩) (cr_jar hG) dX1_dull_17 ?_
      refine pw_getrN 1 zc_X2 (cs_jar hJ) (by decide) q531 (Or.inr ⟨_, rfl⟩) (cr_models hJ) dX1_dull_20 ?_
      refine pw_iload_n dX1_dull_23 2 rfl rfl ?_
      refine pw_lald _ rfl (cs_models hJ) (by omega) (by decide) dX1_dull_24 ?_
      rw [hV.j.md (Or.inl c_12)]
      refine pw_aload_n dX1_dull_25 0 rfl rfl ?_
      refine pw_getr 4 zc_X1 (cs_this hC) (by decide) q701 (Or.inr ⟨_, rfl⟩) (cr_lefts hC) dX1_dull_26 ?_
      refine pw_bipush (v := 51) dX1_dull_29 (by decide) ?_
      refine pw_lald 51 rfl (cs_lefts hC) (by omega) (by decide) dX1_dull_31 ?_
      rw [hV.lf (by decide)]
      refine pw_land dX1_dull_32 ?_
      refine pw_lconst (v := 0) dX1_dull_33 rfl ?_
      refine pw_lcmp dX1_dull_34 ?_
      refine pw_if_eq_L 44 dX1_dull_35 (by decide) (fun c_35 => ?_) (fun c_35 => ?_)
      · refine pw_iconst (v := 0) dX1_dull_44 (by decide) ?_
        refine pw_ior dX1_dull_45 ?_
        refine pw_istore_n (ls' := [(1, _), (0, _), (2, _)]) dX1_dull_46 rfl (by decide) rfl ?_
        refine pw_ls [1, 0, 2] (ls' := [(0, _), (1, _), (2, _)]) rfl ?_
        refine pw_iinc1 (j := 2) (ls' := [(2, _), (0, _), (1, _)]) dX1_dull_47 rfl (by decide) rfl ?_
        refine pw_ls [1, 2, 0] (ls' := [(0, _), (1, _), (2, _)]) rfl ?_
        refine pw_goto 4 dX1_dull_50 (by decide) ?_
        rw [show spDu S k ||| 0 = spDu S (k + 1) from by rw [spDu, if_pos c_35]]; exact ih (k + 1) (by omega) (by omega)
      · refine pw_iconst (v := 1) dX1_dull_38 (by decide) ?_
        refine pw_iload_n dX1_dull_39 2 rfl rfl ?_
        refine pw_ishl dX1_dull_40 ?_
        rw [ishl1 (show k < 32 by omega)]
        refine pw_goto 45 dX1_dull_41 (by decide) ?_
        refine pw_ior dX1_dull_45 ?_
        refine pw_istore_n (ls' := [(1, _), (0, _), (2, _)]) dX1_dull_46 rfl (by decide) rfl ?_
        refine pw_ls [1, 0, 2] (ls' := [(0, _), (1, _), (2, _)]) rfl ?_
        refine pw_iinc1 (j := 2) (ls' := [(2, _), (0, _), (1, _)]) dX1_dull_47 rfl (by decide) rfl ?_
        refine pw_ls [1, 2, 0] (ls' := [(0, _), (1, _), (2, _)]) rfl ?_
        refine pw_goto 4 dX1_dull_50 (by decide) ?_
        rw [show spDu S k ||| nI (2 ^ k) = spDu S (k + 1) from by rw [spDu, if_neg c_35]]; exact ih (k + 1) (by omega) (by omega)
  refine pw_iconst (v := 0) dX1_dull_0 (by decide) ?_
  refine pw_istore_n (ls' := [(1, _), (0, _)]) dX1_dull_1 rfl (by decide) rfl ?_
  refine pw_ls [1, 0] (ls' := [(0, _), (1, _)]) rfl ?_
  refine pw_iconst (v := 0) dX1_dull_2 (by decide) ?_
  refine pw_istore_n (ls' := [(2, _), (0, _), (1, _)]) dX1_dull_3 rfl (by decide) rfl ?_
  refine pw_ls [1, 2, 0] (ls' := [(0, _), (1, _), (2, _)]) rfl ?_
  exact hl 0 (Nat.zero_le _)
end CS

