/-! ===== THE CLASS: simple questions ===== -/
theorem cN_ok {E : String} {r : Nat} {c : Prop} {g g1 : zg_G} {n n1 : zg_N} {v : Option Value} (h : cN E r c g n (.inl v) g1 n1) : v = none ∧ c ∧ g1 = g ∧ n1 = n := by
  rcases h with ⟨h0, h1, h2, h3⟩ | ⟨a, x, h0, -⟩
  · cases h0; exact ⟨rfl, h1, h2, h3⟩
  · cases h0
theorem cN_ex {E E1 : String} {a1 r : Nat} {c : Prop} {g g1 : zg_G} {n n1 : zg_N} (h : cN E r c g n (.inr (E1, a1)) g1 n1) : E1 = E ∧ ¬ c ∧ ∃ x, znx g ≤ x ∧ g1 = zgap g x ∧ n1 = nRef n r := by
  rcases h with ⟨h0, -⟩ | ⟨a, x, h0, h1, h2, h3, h4⟩
  · cases h0
  · cases h0; exact ⟨rfl, h1, x, h2, h3, h4⟩
section CS
variable {g : zg_G} {n : zg_N} {w : cW} {S : zS}
theorem c_fault (hG : CG g w) (hV : CV g n w S) (hW : WF S) : PW zm_X1_fault 1 (cQ (fun _ => xIAE) g n (sp_fault S)) 0 0 0 [(0, .ref aX)] [] g n := by
  have hC := hG.sh
  refine pw_aload_n dX1_fault_0 0 rfl rfl ?_
  refine pw_geti 7 zc_X1 (cs_this hC) (by decide) q705 (Or.inl rfl) dX1_fault_1 ?_
  rw [hV.fa]
  refine pw_iret rfl dX1_fault_4 ?_
  exact c_qok hG hV zFr.rf _
theorem c_models (hG : CG g w) (hV : CV g n w S) (hW : WF S) (x : Int32) : PW zm_X1_models 7 (cQ (fun _ => xIOB) g n (sp_models S x)) 1 6 0 [(0, .ref aX), (1, .int x)] [] g n := by
  have hC := hG.sh; have hJ := hG.j; have hs := hW.slips
  refine pw_aload_n dX1_models_0 0 rfl rfl ?_
  refine pw_iload_n dX1_models_1 1 rfl rfl ?_
  refine pw_aload_n dX1_models_2 0 rfl rfl ?_
  refine pw_getr 0 zc_X1 (cs_this hC) (by decide) q694 (Or.inl ⟨_, rfl⟩) (cr_jar hG) dX1_models_3 ?_
  refine pw_getiN 3 zc_X2 (cs_jar hJ) (by decide) q536 (Or.inl rfl) dX1_models_6 ?_
  rw [hV.j.sl]
  refine pw_callVx2 zmM_X1_needIn rfl (lw_V q1591 q1593 qs46 q125 q1594) rfl (cs_this hC) zc_X1 (c_needIn hC x (sN S 0 1) (by omega)) (by decide) (Nat.le_refl _) (Nat.le_refl _) rfl (Nat.le_of_ble_eq_true rfl) (Nat.le_of_ble_eq_true rfl) dX1_models_9 (fun v1 g1 n1 h1 => ?_) (fun E1 a1 g1 n1 h1 => ?_)
  · obtain ⟨hv, hok, rfl, rfl⟩ := cN_ok h1; subst hv
    obtain ⟨j, hj, rfl⟩ := inB_ex (by omega) hok
    refine pw_aload_n dX1_models_12 0 rfl rfl ?_
    refine pw_getr 0 zc_X1 (cs_this hC) (by decide) q694 (Or.inl ⟨_, rfl⟩) (cr_jar hG) dX1_models_13 ?_
    refine pw_getrN 1 zc_X2 (cs_jar hJ) (by decide) q531 (Or.inr ⟨_, rfl⟩) (cr_models hJ) dX1_models_16 ?_
    refine pw_iload_n dX1_models_19 1 rfl rfl ?_
    refine pw_lald _ rfl (cs_models hJ) (by omega) (by decide) dX1_models_20 ?_
    rw [hV.j.md (Or.inl hj)]
    refine pw_lret rfl dX1_models_21 ?_
    exact cQ_eq ((spNeed_t hok).trans (by rw [nI_clamp (by omega)])) (c_qok hG hV zFr.rf _)
  · obtain ⟨rfl, hno, x9, hx9, rfl, rfl⟩ := cN_ex h1
    exact px_out rfl (cQ_eq (spNeed_f hno) (c_qbad hG hW hV zFr.rf 1 (by decide) 0 (by decide) _ _ x9 hx9))
theorem c_left (hG : CG g w) (hV : CV g n w S) (hW : WF S) (x : Int32) : PW zm_X1_left 7 (cQ (fun _ => xIAE) g n (sp_left S x)) 1 6 0 [(0, .ref aX), (1, .int x)] [] g n := by
  have hC := hG.sh; have hJ := hG.j
  refine pw_aload_n dX1_left_0 0 rfl rfl ?_
  refine pw_iload_n dX1_left_1 1 rfl rfl ?_
  refine pw_callS1 zmM_X1_isWeek rfl (lw_S q1626 q1627 q125 q1628) (c_isWeek x _ _) (by decide) (Nat.le_refl _) (Nat.le_refl _) rfl (Nat.le_of_ble_eq_true rfl) (Nat.le_of_ble_eq_true rfl) dX1_left_2 zE.nx (zE_kk ?_)
  refine pw_callVx1 zmM_X1_need rfl (lw_V q999 q1001 qs17 q125 q1002) rfl (cs_this hC) zc_X1 (c_need hC (inB x 52 = true)) (by decide) (Nat.le_refl _) (Nat.le_refl _) rfl (Nat.le_of_ble_eq_true rfl) (Nat.le_of_ble_eq_true rfl) dX1_left_5 (fun v1 g1 n1 h1 => ?_) (fun E1 a1 g1 n1 h1 => ?_)
  · obtain ⟨hv, hok, rfl, rfl⟩ := cN_ok h1; subst hv
    obtain ⟨j, hj, rfl⟩ := inB_ex (by omega) hok
    refine pw_aload_n dX1_left_8 0 rfl rfl ?_
    refine pw_getr 4 zc_X1 (cs_this hC) (by decide) q701 (Or.inr ⟨_, rfl⟩) (cr_lefts hC) dX1_left_9 ?_
    refine pw_iload_n dX1_left_12 1 rfl rfl ?_
    refine pw_lald _ rfl (cs_lefts hC) (by omega) (by decide) dX1_left_13 ?_
    rw [hV.lf hj]
    refine pw_lret rfl dX1_left_14 ?_
    exact cQ_eq ((spNeed_t hok).trans (by rw [nI_clamp (by omega)])) (c_qok hG hV zFr.rf _)
  · obtain ⟨rfl, hno, x9, hx9, rfl, rfl⟩ := cN_ex h1
    exact px_out rfl (cQ_eq (spNeed_f hno) (c_qbad hG hW hV zFr.rf 1 (by decide) 1 (by decide) _ _ x9 hx9))
end CS

