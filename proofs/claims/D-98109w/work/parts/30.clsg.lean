/-! ===== THE CLASS: a jar's worlds, an atom's ===== -/
section CS4
variable {g : zg_G} {n : zg_N} {w : cW} {S : zS}
theorem c_worldsA {J a : Nat} (hs : zsh g J = some (.inl 1)) (ha : zfi n J 2 = nI a) (h6 : a ≤ 6) : PW zm_X2_worlds 1 (zE (some (.int (nI (2 ^ a)))) g n) 0 0 0 [(0, .ref J)] [] g n := by
  refine pw_iconst (v := 1) dX2_worlds_0 (by decide) ?_
  refine pw_aload_n dX2_worlds_1 0 rfl rfl ?_
  refine pw_geti 2 zc_X2 hs (by decide) q533 (Or.inl rfl) dX2_worlds_2 ?_
  rw [ha]
  refine pw_ishl dX2_worlds_5 ?_
  rw [ishl1 (by omega)]
  refine pw_iret rfl dX2_worlds_6 ?_
  exact ⟨rfl, rfl, rfl⟩
theorem c_all {J a : Nat} (hs : zsh g J = some (.inl 1)) (ha : zfi n J 2 = nI a) (h6 : a ≤ 6) : PW zm_X2_all 2 (zE (some (.long (wAll a))) g n) 0 0 0 [(0, .ref J)] [] g n := by
  refine pw_aload_n dX2_all_0 0 rfl rfl ?_
  refine pw_geti 2 zc_X2 hs (by decide) q533 (Or.inl rfl) dX2_all_1 ?_
  rw [ha]
  refine pw_bipush (v := 6) dX2_all_4 (by decide) ?_
  refine pw_icmp_ne_N (b := 6) 15 dX2_all_6 (by decide) (by omega) (by omega) (fun c_6 => ?_) (fun c_6 => ?_)
  · refine pw_lconst (v := 1) dX2_all_15 rfl ?_
    refine pw_aload_n dX2_all_16 0 rfl rfl ?_
    refine pw_callV0 zmM_X2_worlds rfl (lw_V q670 q671 q672 q126 q673) rfl hs zc_X2 (c_worldsA hs ha h6) (by decide) (Nat.le_refl _) (Nat.le_refl _) rfl (Nat.le_of_ble_eq_true rfl) (Nat.le_of_ble_eq_true rfl) dX2_all_17 zE.nx (zE_kk ?_)
    refine pw_lshl dX2_all_20 ?_
    refine pw_lconst (v := 1) dX2_all_21 rfl ?_
    refine pw_lsub dX2_all_22 ?_
    refine pw_lret rfl dX2_all_23 ?_
    exact ⟨by rw [← wAll_1 h6 c_6, ishl1 (by omega)], rfl, rfl⟩
  · refine pw_ldc2 q669 dX2_all_9 ?_
    refine pw_goto 23 dX2_all_12 (by decide) ?_
    refine pw_lret rfl dX2_all_23 ?_
    exact ⟨by subst c_6; rfl, rfl, rfl⟩
theorem wAt_st {k m : Nat} (hm : m < 64) (hk : k < 32) : (nI m >>> (nI k &&& 31)) &&& 1 = 1 ↔ m.testBit k = true := by
  rw [ib_eq1 hk, ib_nI hk]
theorem c_atom {J a k : Nat} (hs : zsh g J = some (.inl 1)) (ha : zfi n J 2 = nI a) (h6 : a ≤ 6) (hk : k < 32) : PW zm_X2_models 2 (zE (some (.long (wAt k a))) g n) 0 0 0 [(0, .ref J), (1, .int (nI k))] [] g n := by
  have hp := nat_pow6 h6
  have hl : ∀ m, m ≤ 2 ^ a → PW zm_X2_models 2 (zE (some (.long (wAt k a))) g n) 0 0 5 [(0, .ref J), (1, .int (nI k)), (2, .long (wAtTo k m)), (4, .int (nI m))] [] g n := by
    refine zl_up (2 ^ a) (fun m hm ih => ?_)
    refine pw_iload dX2_models_5 3 rfl ?_
    refine pw_aload_n dX2_models_7 0 rfl rfl ?_
    refine pw_callV0 zmM_X2_worlds rfl (lw_V q670 q671 q672 q126 q673) rfl hs zc_X2 (c_worldsA hs ha h6) (by decide) (Nat.le_refl _) (Nat.le_refl _) rfl (Nat.le_of_ble_eq_true rfl) (Nat.le_of_ble_eq_true rfl) dX2_models_8 zE.nx (zE_kk ?_)
    refine pw_icmp_ge_N 37 dX2_models_11 (by decide) (by omega) (by omega) (fun c_11 => ?_) (fun c_11 => ?_)
    · refine pw_lload_n dX2_models_37 2 rfl rfl ?_
      refine pw_lret rfl dX2_models_38 ?_
      exact ⟨by rw [show m = 2 ^ a by omega]; rfl, rfl, rfl⟩
    · refine pw_iload dX2_models_14 3 rfl ?_
      refine pw_iload_n dX2_models_16 1 rfl rfl ?_
      refine pw_ishr dX2_models_17 ?_
      refine pw_iconst (v := 1) dX2_models_18 (by decide) ?_
      refine pw_iand dX2_models_19 ?_
      refine pw_iconst (v := 1) dX2_models_20 (by decide) ?_
      refine pw_icmp_ne 31 dX2_models_21 (by decide) (fun c_21 => ?_) (fun c_21 => ?_)
      · refine pw_iinc1 (j := 3) (ls' := [(4, _), (0, _), (1, _), (2, _)]) dX2_models_31 rfl (by decide) rfl ?_
        refine pw_ls [1, 2, 3, 0] (ls' := [(0, _), (1, _), (2, _), (4, _)]) rfl ?_
        refine pw_goto 5 dX2_models_34 (by decide) ?_
        have e9 : wAtTo k m = wAtTo k (m + 1) := by rw [wAtTo, if_neg (fun h => c_21 ((wAt_st (by omega) hk).mpr h))]; exact (lb_ext fun i hi => by rw [lb_or, lb_0, Bool.or_false]).symm
        rw [e9]; exact ih (m + 1) (by omega) (by omega)
      · refine pw_lload_n dX2_models_24 2 rfl rfl ?_
        refine pw_lconst (v := 1) dX2_models_25 rfl ?_
        refine pw_iload dX2_models_26 3 rfl ?_
        refine pw_lshl dX2_models_28 ?_
        rw [lshl1 (show m < 64 by omega)]
        refine pw_lor dX2_models_29 ?_
        refine pw_lstore_n (ls' := [(2, _), (0, _), (1, _), (4, _)]) dX2_models_30 rfl (by decide) rfl ?_
        refine pw_ls [1, 2, 0, 3] (ls' := [(0, _), (1, _), (2, _), (4, _)]) rfl ?_
        refine pw_iinc1 (j := 3) (ls' := [(4, _), (0, _), (1, _), (2, _)]) dX2_models_31 rfl (by decide) rfl ?_
        refine pw_ls [1, 2, 3, 0] (ls' := [(0, _), (1, _), (2, _), (4, _)]) rfl ?_
        refine pw_goto 5 dX2_models_34 (by decide) ?_
        rw [show wAtTo k m ||| lN (2 ^ m) = wAtTo k (m + 1) from by rw [wAtTo, if_pos ((wAt_st (by omega) hk).mp c_21)]]; exact ih (m + 1) (by omega) (by omega)
  refine pw_lconst (v := 0) dX2_models_0 rfl ?_
  refine pw_lstore_n (ls' := [(2, _), (0, _), (1, _)]) dX2_models_1 rfl (by decide) rfl ?_
  refine pw_ls [1, 2, 0] (ls' := [(0, _), (1, _), (2, _)]) rfl ?_
  refine pw_iconst (v := 0) dX2_models_2 (by decide) ?_
  refine pw_istore (ls' := [(4, _), (0, _), (1, _), (2, _)]) dX2_models_3 (by decide) rfl ?_
  refine pw_ls [1, 2, 3, 0] (ls' := [(0, _), (1, _), (2, _), (4, _)]) rfl ?_
  exact hl 0 (Nat.zero_le _)
end CS4

