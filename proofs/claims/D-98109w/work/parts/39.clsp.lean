/-! ===== THE CLASS: what a tongue is told ===== -/
section GRD7
variable {g : zg_G} {n : zg_N} {w : cW} {S : zS}
theorem c_tells (hG : CG g w) (hV : CVj n w S) (hW : WF S) (o k v : Nat) (ho : okb S o) (hk : okb S k) (age hurt held : Int32) : PW zm_X1_tells 2 (fun q g1 n1 => q = .inl none ∧ g1 = g ∧ (∀ j, j < 10 → zai n1 1009 j = spFc S o k age hurt held v j) ∧ zFr (fun _ _ => False) (fun a => a = 1009) n n1) 0 0 0 [(0, .ref aX), (1, .int (nI o)), (2, .int (nI k)), (3, .int age), (4, .int hurt), (5, .int (nI v)), (6, .int held), (7, .long (sL S 2 v))] [] g n := by
  have hC := hG.sh; have hJ := hG.j
  have ho2 := ho.lt hW; have hk2 := hk.lt hW
  refine pw_aload_n dX1_tells_0 0 rfl rfl ?_
  refine pw_getr 2 zc_X1 (cs_this hC) (by decide) q698 (Or.inr ⟨_, rfl⟩) (cr_facts hC) dX1_tells_1 ?_
  refine pw_iconst (v := 0) dX1_tells_4 (by decide) ?_
  refine pw_iload_n dX1_tells_5 3 rfl rfl ?_
  refine pw_iast 0 rfl (cs_facts hC) (by decide) (by decide) (by decide) dX1_tells_6 ?_
  refine pw_aload_n dX1_tells_7 0 rfl rfl ?_
  refine pw_getr 2 zc_X1 (cs_this hC) (by decide) q698 (Or.inr ⟨_, rfl⟩) (cr_facts hC) dX1_tells_8 ?_
  refine pw_iconst (v := 1) dX1_tells_11 (by decide) ?_
  refine pw_iload dX1_tells_12 4 rfl ?_
  refine pw_iast 1 rfl (cs_facts hC) (by decide) (by decide) (by decide) dX1_tells_14 ?_
  refine pw_aload_n dX1_tells_15 0 rfl rfl ?_
  refine pw_getr 2 zc_X1 (cs_this hC) (by decide) q698 (Or.inr ⟨_, rfl⟩) (cr_facts hC) dX1_tells_16 ?_
  refine pw_iconst (v := 2) dX1_tells_19 (by decide) ?_
  refine pw_aload_n dX1_tells_20 0 rfl rfl ?_
  refine pw_getr 0 zc_X1 (cs_this hC) (by decide) q694 (Or.inl ⟨_, rfl⟩) (cr_jar hG) dX1_tells_21 ?_
  refine pw_getrN 1 zc_X2 (cs_jar hJ) (by decide) q531 (Or.inr ⟨_, rfl⟩) (cr_models hJ) dX1_tells_24 ?_
  refine pw_iload_n dX1_tells_27 1 rfl rfl ?_
  refine pw_lald o rfl (cs_models hJ) (by omega) (by decide) dX1_tells_28 ?_
  refine pw_callS1 zmM_J19_bitCount rfl (lw_S q870 q861 q154 q862) (j_lbits _ _ _) (by decide) (Nat.le_refl _) (Nat.le_refl _) rfl (Nat.le_of_ble_eq_true rfl) (Nat.le_of_ble_eq_true rfl) dX1_tells_29 zE.nx (zE_kk ?_)
  refine pw_iast 2 rfl (cs_facts hC) (by decide) (by decide) (by decide) dX1_tells_32 ?_
  refine pw_aload_n dX1_tells_33 0 rfl rfl ?_
  refine pw_getr 2 zc_X1 (cs_this hC) (by decide) q698 (Or.inr ⟨_, rfl⟩) (cr_facts hC) dX1_tells_34 ?_
  refine pw_iconst (v := 3) dX1_tells_37 (by decide) ?_
  refine pw_aload_n dX1_tells_38 0 rfl rfl ?_
  refine pw_getr 0 zc_X1 (cs_this hC) (by decide) q694 (Or.inl ⟨_, rfl⟩) (cr_jar hG) dX1_tells_39 ?_
  refine pw_getrN 1 zc_X2 (cs_jar hJ) (by decide) q531 (Or.inr ⟨_, rfl⟩) (cr_models hJ) dX1_tells_42 ?_
  refine pw_iload_n dX1_tells_45 2 rfl rfl ?_
  refine pw_lald k rfl (cs_models hJ) (by omega) (by decide) dX1_tells_46 ?_
  refine pw_callS1 zmM_J19_bitCount rfl (lw_S q870 q861 q154 q862) (j_lbits _ _ _) (by decide) (Nat.le_refl _) (Nat.le_refl _) rfl (Nat.le_of_ble_eq_true rfl) (Nat.le_of_ble_eq_true rfl) dX1_tells_47 zE.nx (zE_kk ?_)
  refine pw_iast 3 rfl (cs_facts hC) (by decide) (by decide) (by decide) dX1_tells_50 ?_
  refine pw_aload_n dX1_tells_51 0 rfl rfl ?_
  refine pw_getr 2 zc_X1 (cs_this hC) (by decide) q698 (Or.inr ⟨_, rfl⟩) (cr_facts hC) dX1_tells_52 ?_
  refine pw_iconst (v := 4) dX1_tells_55 (by decide) ?_
  refine pw_iload_n dX1_tells_56 1 rfl rfl ?_
  refine pw_iast 4 rfl (cs_facts hC) (by decide) (by decide) (by decide) dX1_tells_57 ?_
  refine pw_aload_n dX1_tells_58 0 rfl rfl ?_
  refine pw_getr 2 zc_X1 (cs_this hC) (by decide) q698 (Or.inr ⟨_, rfl⟩) (cr_facts hC) dX1_tells_59 ?_
  refine pw_iconst (v := 5) dX1_tells_62 (by decide) ?_
  refine pw_iload_n dX1_tells_63 2 rfl rfl ?_
  refine pw_iast 5 rfl (cs_facts hC) (by decide) (by decide) (by decide) dX1_tells_64 ?_
  refine pw_aload_n dX1_tells_65 0 rfl rfl ?_
  refine pw_getr 2 zc_X1 (cs_this hC) (by decide) q698 (Or.inr ⟨_, rfl⟩) (cr_facts hC) dX1_tells_66 ?_
  refine pw_bipush (v := 6) dX1_tells_69 (by decide) ?_
  refine pw_iload dX1_tells_71 5 rfl ?_
  refine pw_iast 6 rfl (cs_facts hC) (by decide) (by decide) (by decide) dX1_tells_73 ?_
  refine pw_aload_n dX1_tells_74 0 rfl rfl ?_
  refine pw_getr 2 zc_X1 (cs_this hC) (by decide) q698 (Or.inr ⟨_, rfl⟩) (cr_facts hC) dX1_tells_75 ?_
  refine pw_bipush (v := 7) dX1_tells_78 (by decide) ?_
  refine pw_iload dX1_tells_80 6 rfl ?_
  refine pw_iast 7 rfl (cs_facts hC) (by decide) (by decide) (by decide) dX1_tells_82 ?_
  refine pw_aload_n dX1_tells_83 0 rfl rfl ?_
  refine pw_getr 2 zc_X1 (cs_this hC) (by decide) q698 (Or.inr ⟨_, rfl⟩) (cr_facts hC) dX1_tells_84 ?_
  refine pw_bipush (v := 8) dX1_tells_87 (by decide) ?_
  refine pw_lload dX1_tells_89 7 rfl ?_
  refine pw_callS1 zmM_J19_bitCount rfl (lw_S q870 q861 q154 q862) (j_lbits _ _ _) (by decide) (Nat.le_refl _) (Nat.le_refl _) rfl (Nat.le_of_ble_eq_true rfl) (Nat.le_of_ble_eq_true rfl) dX1_tells_91 zE.nx (zE_kk ?_)
  refine pw_iast 8 rfl (cs_facts hC) (by decide) (by decide) (by decide) dX1_tells_94 ?_
  refine pw_aload_n dX1_tells_95 0 rfl rfl ?_
  refine pw_getr 2 zc_X1 (cs_this hC) (by decide) q698 (Or.inr ⟨_, rfl⟩) (cr_facts hC) dX1_tells_96 ?_
  refine pw_bipush (v := 9) dX1_tells_99 (by decide) ?_
  refine pw_aload_n dX1_tells_101 0 rfl rfl ?_
  refine pw_getr 0 zc_X1 (cs_this hC) (by decide) q694 (Or.inl ⟨_, rfl⟩) (cr_jar hG) dX1_tells_102 ?_
  refine pw_getrN 1 zc_X2 (cs_jar hJ) (by decide) q531 (Or.inr ⟨_, rfl⟩) (cr_models hJ) dX1_tells_105 ?_
  refine pw_iload_n dX1_tells_108 1 rfl rfl ?_
  refine pw_lald o rfl (cs_models hJ) (by omega) (by decide) dX1_tells_109 ?_
  refine pw_aload_n dX1_tells_110 0 rfl rfl ?_
  refine pw_getr 0 zc_X1 (cs_this hC) (by decide) q694 (Or.inl ⟨_, rfl⟩) (cr_jar hG) dX1_tells_111 ?_
  refine pw_getrN 1 zc_X2 (cs_jar hJ) (by decide) q531 (Or.inr ⟨_, rfl⟩) (cr_models hJ) dX1_tells_114 ?_
  refine pw_iload_n dX1_tells_117 2 rfl rfl ?_
  refine pw_lald k rfl (cs_models hJ) (by omega) (by decide) dX1_tells_118 ?_
  refine pw_land dX1_tells_119 ?_
  refine pw_callS1 zmM_J19_bitCount rfl (lw_S q870 q861 q154 q862) (j_lbits _ _ _) (by decide) (Nat.le_refl _) (Nat.le_refl _) rfl (Nat.le_of_ble_eq_true rfl) (Nat.le_of_ble_eq_true rfl) dX1_tells_120 zE.nx (zE_kk ?_)
  refine pw_iast 9 rfl (cs_facts hC) (by decide) (by decide) (by decide) dX1_tells_123 ?_
  refine pw_vret rfl dX1_tells_124 ?_
  refine ⟨rfl, rfl, fun j hj => ?_, ?_⟩
  · rcases (by omega : j = 0 ∨ j = 1 ∨ j = 2 ∨ j = 3 ∨ j = 4 ∨ j = 5 ∨ j = 6 ∨ j = 7 ∨ j = 8 ∨ j = 9) with rfl | rfl | rfl | rfl | rfl | rfl | rfl | rfl | rfl | rfl
    all_goals first
      | rfl
      | exact congrArg (fun z => nI (lc z)) (hV.md ho)
      | exact congrArg (fun z => nI (lc z)) (hV.md hk)
      | (show nI (lc (zal n (wM w) o &&& zal n (wM w) k)) = nI (lc (sL S 0 o &&& sL S 0 k)); rw [hV.md ho, hV.md hk])
  · repeat' first | exact zFr.rf | refine zFr.pai ?_ (show 1009 = 1009 from rfl)
end GRD7

