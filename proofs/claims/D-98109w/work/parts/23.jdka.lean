/-! ===== THE JDK: a list's size, what it holds ===== -/
abbrev zm_J2_init : zY := (yJ2_init, RJ2, cJ2_init, 2, none, [])
theorem zmM_J2_init : zM zm_J2_init 1 := ⟨by decide +kernel, rfl, by decide +kernel, by decide +kernel, by decide +kernel, by decide⟩
abbrev zm_J2_size : zY := (yJ2_size, RJ2, cJ2_size, 1, (some (.int)), [])
theorem zmM_J2_size : zM zm_J2_size 0 := ⟨by decide +kernel, rfl, by decide +kernel, by decide +kernel, by decide +kernel, by decide⟩
abbrev zm_J2_get : zY := (yJ2_get, RJ2, cJ2_get, 2, (some (.object "java/lang/Object")), [])
theorem zmM_J2_get : zM zm_J2_get 1 := ⟨by decide +kernel, rfl, by decide +kernel, by decide +kernel, by decide +kernel, by decide⟩
abbrev zm_J2_elementData : zY := (yJ2_elementData, RJ2, cJ2_elementData, 2, (some (.object "java/lang/Object")), [])
theorem zmM_J2_elementData : zM zm_J2_elementData 1 := ⟨by decide +kernel, rfl, by decide +kernel, by decide +kernel, by decide +kernel, by decide⟩
abbrev zm_J2_add : zY := (yJ2_add, RJ2, cJ2_add, 2, (some (.boolean)), [])
theorem zmM_J2_add : zM zm_J2_add 1 := ⟨by decide +kernel, rfl, by decide +kernel, by decide +kernel, by decide +kernel, by decide⟩
abbrev zm_J2_add_2 : zY := (yJ2_add_2, RJ2, cJ2_add_2, 4, none, [])
theorem zmM_J2_add_2 : zM zm_J2_add_2 3 := ⟨by decide +kernel, rfl, by decide +kernel, by decide +kernel, by decide +kernel, by decide⟩
abbrev zm_J2_grow : zY := (yJ2_grow, RJ2, cJ2_grow, 1, (some (.array (.object "java/lang/Object"))), [])
theorem zmM_J2_grow : zM zm_J2_grow 0 := ⟨by decide +kernel, rfl, by decide +kernel, by decide +kernel, by decide +kernel, by decide⟩
abbrev zm_J2_grow_2 : zY := (yJ2_grow_2, RJ2, cJ2_grow_2, 4, (some (.array (.object "java/lang/Object"))), [])
theorem zmM_J2_grow_2 : zM zm_J2_grow_2 1 := ⟨by decide +kernel, rfl, by decide +kernel, by decide +kernel, by decide +kernel, by decide⟩
abbrev zm_J14_checkIndex : zY := (yJ14_checkIndex, RJ14, cJ14_checkIndex, 3, (some (.int)), [])
theorem zmM_J14_checkIndex : zM zm_J14_checkIndex 3 := ⟨by decide +kernel, rfl, by decide +kernel, by decide +kernel, by decide +kernel, by decide⟩
abbrev zm_J18_checkIndex : zY := (yJ18_checkIndex, RJ18, cJ18_checkIndex, 2, (some (.int)), [])
theorem zmM_J18_checkIndex : zM zm_J18_checkIndex 2 := ⟨by decide +kernel, rfl, by decide +kernel, by decide +kernel, by decide +kernel, by decide⟩
theorem j_ck14 (j m : Nat) (hj : j < m) (hm : m < 2147483648) (g : zg_G) (n : zg_N) : PW zm_J14_checkIndex 1 (zE (some (.int (nI j))) g n) 0 0 0 [(0, .int (nI j)), (1, .int (nI m)), (2, .null)] [] g n := by
  refine pw_iload_n dJ14_checkIndex_0 0 rfl rfl ?_
  refine pw_if_lt 9 dJ14_checkIndex_1 (by decide) (fun c_1 => ?_) (fun c_1 => ?_)
  · exact absurd c_1 (nI_pos (show j < 2147483648 by omega))
  · refine pw_iload_n dJ14_checkIndex_4 0 rfl rfl ?_
    refine pw_iload_n dJ14_checkIndex_5 1 rfl rfl ?_
    refine pw_icmp_lt 16 dJ14_checkIndex_6 (by decide) (fun c_6 => ?_) (fun c_6 => ?_)
    · refine pw_iload_n dJ14_checkIndex_16 0 rfl rfl ?_
      refine pw_iret rfl dJ14_checkIndex_17 ?_
      exact ⟨rfl, rfl, rfl⟩
    · exact absurd ((nI_lt_iff (by omega) (by omega)).mpr hj) c_6
theorem j_ck18 (j m : Nat) (hj : j < m) (hm : m < 2147483648) (g : zg_G) (n : zg_N) : PW zm_J18_checkIndex 2 (zE (some (.int (nI j))) g n) 0 0 0 [(0, .int (nI j)), (1, .int (nI m))] [] g n := by
  refine pw_iload_n dJ18_checkIndex_0 0 rfl rfl ?_
  refine pw_iload_n dJ18_checkIndex_1 1 rfl rfl ?_
  refine pw_null dJ18_checkIndex_2 ?_
  refine pw_callS3 zmM_J14_checkIndex rfl (lw_S q685 q686 q142 q687) (j_ck14 j m hj hm _ _) (by decide) (Nat.le_refl _) (Nat.le_refl _) rfl (Nat.le_of_ble_eq_true rfl) (Nat.le_of_ble_eq_true rfl) dJ18_checkIndex_3 zE.nx (zE_kk ?_)
  refine pw_iret rfl dJ18_checkIndex_6 ?_
  exact ⟨rfl, rfl, rfl⟩
theorem j_size {g : zg_G} {n : zg_N} {L : Nat} (hs : zsh g L = some (.inl 16)) : PW zm_J2_size 1 (zE (some (.int (zfi n L 2))) g n) 0 0 0 [(0, .ref L)] [] g n := by
  refine pw_aload_n dJ2_size_0 0 rfl rfl ?_
  refine pw_geti 2 zc_J2 hs (by decide) q515 (Or.inl rfl) dJ2_size_1 ?_
  refine pw_iret rfl dJ2_size_4 ?_
  exact ⟨rfl, rfl, rfl⟩
theorem j_elem {g : zg_G} {n : zg_N} {L m : Nat} {xs : Nat → Nat} (hL : cLs g L m xs) {k : Nat} (hk : k < m) : PW zm_J2_elementData 1 (zE (some (.ref (xs k))) g n) 0 0 0 [(0, .ref L), (1, .int (nI k))] [] g n := by
  obtain ⟨a1, hs, A, cap, a3, a4, a5, a6, a7, a8⟩ := hL
  refine pw_aload_n dJ2_elementData_0 0 rfl rfl ?_
  refine pw_getr 1 zc_J2 hs (by decide) q514 (Or.inr ⟨_, rfl⟩) a4 dJ2_elementData_1 ?_
  refine pw_iload_n dJ2_elementData_4 1 rfl rfl ?_
  refine pw_aald k rfl a5 rfl (Or.inl ⟨_, rfl⟩) (a8 k hk) (by omega) (by omega) dJ2_elementData_5 ?_
  refine pw_aret _ rfl (Or.inl ⟨_, rfl⟩) dJ2_elementData_6 ?_
  exact ⟨rfl, rfl, rfl⟩
theorem j_get {g : zg_G} {n : zg_N} {L m : Nat} {xs : Nat → Nat} (hL : cLs g L m xs) (hz : zfi n L 2 = nI m) {k : Nat} (hk : k < m) : PW zm_J2_get 3 (zE (some (.ref (xs k))) g n) 0 0 0 [(0, .ref L), (1, .int (nI k))] [] g n := by
  have hs := hL.2.1
  have hm : m < 2147483648 := by obtain ⟨_, _, _, cap, _, _, _, h1, h2, _⟩ := hL; omega
  refine pw_iload_n dJ2_get_0 1 rfl rfl ?_
  refine pw_aload_n dJ2_get_1 0 rfl rfl ?_
  refine pw_geti 2 zc_J2 hs (by decide) q515 (Or.inl rfl) dJ2_get_2 ?_
  rw [hz]
  refine pw_callS2 zmM_J18_checkIndex rfl (lw_S q682 q683 q149 q684) (j_ck18 k m hk hm _ _) (by decide) (Nat.le_refl _) (Nat.le_refl _) rfl (Nat.le_of_ble_eq_true rfl) (Nat.le_of_ble_eq_true rfl) dJ2_get_5 zE.nx (zE_kk ?_)
  refine pw_pop dJ2_get_8 rfl ?_
  refine pw_aload_n dJ2_get_9 0 rfl rfl ?_
  refine pw_iload_n dJ2_get_10 1 rfl rfl ?_
  refine pw_callV1 zmM_J2_elementData rfl (lw_V q688 q689 q690 q129 q691) rfl hs zc_J2 (j_elem hL hk) (by decide) (Nat.le_refl _) (Nat.le_refl _) rfl (Nat.le_of_ble_eq_true rfl) (Nat.le_of_ble_eq_true rfl) dJ2_get_11 zE.nx (zE_kk ?_)
  refine pw_aret _ rfl (Or.inl ⟨_, rfl⟩) dJ2_get_14 ?_
  exact ⟨rfl, rfl, rfl⟩

