/-! ===== THE CLASS: grounds ===== -/
section GRD3
variable {g : zg_G} {n : zg_N}
def GS (g : zg_G) (n : zg_N) (F h : Nat) : Prop := ∀ x f, cGr g n h x f → (zsh g x = some (.inl 10) ∧ PW zm_X12_isSo (2 * h + 4) (zE (some (.int (f (fcA n F)))) g n) 0 0 0 [(0, .ref x), (1, .ref F)] [] g n) ∨ (zsh g x = some (.inl 11) ∧ PW zm_X13_isSo (2 * h + 4) (zE (some (.int (f (fcA n F)))) g n) 0 0 0 [(0, .ref x), (1, .ref F)] [] g n) ∨ (zsh g x = some (.inl 15) ∧ PW zm_X18_isSo (2 * h + 4) (zE (some (.int (f (fcA n F)))) g n) 0 0 0 [(0, .ref x), (1, .ref F)] [] g n)
abbrev yGso : MethodName := ⟨"LotBeliefs$Ground", "isSo", "([I)Z"⟩
theorem pw_isSo {Y : zY} {d h F x : Nat} {P : zP} {bc bs pc idx : Nat} {ls : List (Nat × Value)} {st : List Value} {f : zW} (hT : GS g n F h) (hx : cGr g n h x f) (hd : 2 * h + 5 ≤ d) (hl : Cond.methodLink Y.2.1 idx yGso ∈ lw_all) (hst : (st.map fun v => v.category).sum ≤ 8) (dd : decode Y.2.2.1 pc = .ok (.invokevirtual idx, 3))
    (kk : PW Y d P bc bs (pc + 3) ls (.int (f (fcA n F)) :: st) g n) : PW Y d P bc bs pc ls (.ref F :: .ref x :: st) g n := by
  rcases hT x f hx with ⟨hs, hc⟩ | ⟨hs, hc⟩ | ⟨hs, hc⟩
  · exact pw_callA1 zmM_X12_isSo rfl (x := yGso) (owner := "LotBeliefs$Ground") (lw_U hl q880 q915 (by decide +kernel) (by decide +kernel) (by decide +kernel)) q879 (by decide +kernel) hs zc_X12 hc (by omega) (Nat.le_refl _) (Nat.le_refl _) rfl (Nat.le_of_ble_eq_true rfl) hst dd zE.nx (zE_kk kk)
  · exact pw_callA1 zmM_X13_isSo rfl (x := yGso) (owner := "LotBeliefs$Ground") (lw_U hl q880 q905 (by decide +kernel) (by decide +kernel) (by decide +kernel)) q879 (by decide +kernel) hs zc_X13 hc (by omega) (Nat.le_refl _) (Nat.le_refl _) rfl (Nat.le_of_ble_eq_true rfl) hst dd zE.nx (zE_kk kk)
  · exact pw_callA1 zmM_X18_isSo rfl (x := yGso) (owner := "LotBeliefs$Ground") (lw_U hl q880 q881 (by decide +kernel) (by decide +kernel) (by decide +kernel)) q879 (by decide +kernel) hs zc_X18 hc (by omega) (Nat.le_refl _) (Nat.le_refl _) rfl (Nat.le_of_ble_eq_true rfl) hst dd zE.nx (zE_kk kk)
theorem u_holds {x F h a b c : Nat} {u v : zW} (hT : TS g n F h) (hs : zsh g x = some (.inl 15)) (b1 : zfr g x 0 = some a) (b2 : zfr g x 1 = some b) (b3 : zfi n x 2 = nI c) (b4 : c = 60 ∨ c = 62 ∨ c = 61) (b5 : cTm g n h a u) (b6 : cTm g n h b v) : PW zm_X18_isSo (2 * (h + 1) + 4) (zE (some (.int (vB (pHow c) u v (fcA n F)))) g n) 0 0 0 [(0, .ref x), (1, .ref F)] [] g n := by
  rcases b4 with rfl | rfl | rfl
  · skip
    refine pw_aload_n dX18_isSo_0 0 rfl rfl ?_
    refine pw_getr 0 zc_X18 hs (by decide) q1540 (Or.inl ⟨_, rfl⟩) b1 dX18_isSo_1 ?_
    refine pw_aload_n dX18_isSo_4 1 rfl rfl ?_
    refine pw_of hT b5 (by omega) q884 (Nat.le_of_ble_eq_true rfl) dX18_isSo_5 ?_
    refine pw_istore_n (ls' := [(2, _), (0, _), (1, _)]) dX18_isSo_8 rfl (by decide) rfl ?_
    refine pw_ls [1, 2, 0] (ls' := [(0, _), (1, _), (2, _)]) rfl ?_
    refine pw_aload_n dX18_isSo_9 0 rfl rfl ?_
    refine pw_getr 1 zc_X18 hs (by decide) q1541 (Or.inl ⟨_, rfl⟩) b2 dX18_isSo_10 ?_
    refine pw_aload_n dX18_isSo_13 1 rfl rfl ?_
    refine pw_of hT b6 (by omega) q884 (Nat.le_of_ble_eq_true rfl) dX18_isSo_14 ?_
    refine pw_istore_n (ls' := [(3, _), (0, _), (1, _), (2, _)]) dX18_isSo_17 rfl (by decide) rfl ?_
    refine pw_ls [1, 2, 3, 0] (ls' := [(0, _), (1, _), (2, _), (3, _)]) rfl ?_
    refine pw_aload_n dX18_isSo_18 0 rfl rfl ?_
    refine pw_geti 2 zc_X18 hs (by decide) q1542 (Or.inl rfl) dX18_isSo_19 ?_
    rw [b3]
    refine pw_bipush (v := 60) dX18_isSo_22 (by decide) ?_
    refine pw_icmp_ne_N (b := 60) 40 dX18_isSo_24 (by decide) (by omega) (by omega) (fun c_24 => ?_) (fun c_24 => ?_)
    · exact absurd rfl c_24
    · refine pw_iload_n dX18_isSo_27 2 rfl rfl ?_
      refine pw_iload_n dX18_isSo_28 3 rfl rfl ?_
      refine pw_icmp_ge 36 dX18_isSo_29 (by decide) (fun c_29 => ?_) (fun c_29 => ?_)
      · refine pw_iconst (v := 0) dX18_isSo_36 (by decide) ?_
        refine pw_goto 72 dX18_isSo_37 (by decide) ?_
        refine pw_zret _ rfl rfl dX18_isSo_72 ?_
        exact ⟨by rw [show vB (pHow 60) u v (fcA n F) = zb (u (fcA n F) < v (fcA n F)) from rfl, zb_f (by rw [Int32.not_lt]; exact c_29)], rfl, rfl⟩
      · refine pw_iconst (v := 1) dX18_isSo_32 (by decide) ?_
        refine pw_goto 72 dX18_isSo_33 (by decide) ?_
        refine pw_zret _ rfl rfl dX18_isSo_72 ?_
        exact ⟨by rw [show vB (pHow 60) u v (fcA n F) = zb (u (fcA n F) < v (fcA n F)) from rfl, zb_t (Int32.not_le.mp c_29)], rfl, rfl⟩
  · skip
    refine pw_aload_n dX18_isSo_0 0 rfl rfl ?_
    refine pw_getr 0 zc_X18 hs (by decide) q1540 (Or.inl ⟨_, rfl⟩) b1 dX18_isSo_1 ?_
    refine pw_aload_n dX18_isSo_4 1 rfl rfl ?_
    refine pw_of hT b5 (by omega) q884 (Nat.le_of_ble_eq_true rfl) dX18_isSo_5 ?_
    refine pw_istore_n (ls' := [(2, _), (0, _), (1, _)]) dX18_isSo_8 rfl (by decide) rfl ?_
    refine pw_ls [1, 2, 0] (ls' := [(0, _), (1, _), (2, _)]) rfl ?_
    refine pw_aload_n dX18_isSo_9 0 rfl rfl ?_
    refine pw_getr 1 zc_X18 hs (by decide) q1541 (Or.inl ⟨_, rfl⟩) b2 dX18_isSo_10 ?_
    refine pw_aload_n dX18_isSo_13 1 rfl rfl ?_
    refine pw_of hT b6 (by omega) q884 (Nat.le_of_ble_eq_true rfl) dX18_isSo_14 ?_
    refine pw_istore_n (ls' := [(3, _), (0, _), (1, _), (2, _)]) dX18_isSo_17 rfl (by decide) rfl ?_
    refine pw_ls [1, 2, 3, 0] (ls' := [(0, _), (1, _), (2, _), (3, _)]) rfl ?_
    refine pw_aload_n dX18_isSo_18 0 rfl rfl ?_
    refine pw_geti 2 zc_X18 hs (by decide) q1542 (Or.inl rfl) dX18_isSo_19 ?_
    rw [b3]
    refine pw_bipush (v := 60) dX18_isSo_22 (by decide) ?_
    refine pw_icmp_ne_N (b := 60) 40 dX18_isSo_24 (by decide) (by omega) (by omega) (fun c_24 => ?_) (fun c_24 => ?_)
    · refine pw_aload_n dX18_isSo_40 0 rfl rfl ?_
      refine pw_geti 2 zc_X18 hs (by decide) q1542 (Or.inl rfl) dX18_isSo_41 ?_
      rw [b3]
      refine pw_bipush (v := 62) dX18_isSo_44 (by decide) ?_
      refine pw_icmp_ne_N (b := 62) 62 dX18_isSo_46 (by decide) (by omega) (by omega) (fun c_46 => ?_) (fun c_46 => ?_)
      · exact absurd rfl c_46
      · refine pw_iload_n dX18_isSo_49 2 rfl rfl ?_
        refine pw_iload_n dX18_isSo_50 3 rfl rfl ?_
        refine pw_icmp_le 58 dX18_isSo_51 (by decide) (fun c_51 => ?_) (fun c_51 => ?_)
        · refine pw_iconst (v := 0) dX18_isSo_58 (by decide) ?_
          refine pw_goto 72 dX18_isSo_59 (by decide) ?_
          refine pw_zret _ rfl rfl dX18_isSo_72 ?_
          exact ⟨by rw [show vB (pHow 62) u v (fcA n F) = zb (v (fcA n F) < u (fcA n F)) from rfl, zb_f (by rw [Int32.not_lt]; exact c_51)], rfl, rfl⟩
        · refine pw_iconst (v := 1) dX18_isSo_54 (by decide) ?_
          refine pw_goto 72 dX18_isSo_55 (by decide) ?_
          refine pw_zret _ rfl rfl dX18_isSo_72 ?_
          exact ⟨by rw [show vB (pHow 62) u v (fcA n F) = zb (v (fcA n F) < u (fcA n F)) from rfl, zb_t (Int32.not_le.mp c_51)], rfl, rfl⟩
    · exact absurd c_24 (by decide)
  · skip
    refine pw_aload_n dX18_isSo_0 0 rfl rfl ?_
    refine pw_getr 0 zc_X18 hs (by decide) q1540 (Or.inl ⟨_, rfl⟩) b1 dX18_isSo_1 ?_
    refine pw_aload_n dX18_isSo_4 1 rfl rfl ?_
    refine pw_of hT b5 (by omega) q884 (Nat.le_of_ble_eq_true rfl) dX18_isSo_5 ?_
    refine pw_istore_n (ls' := [(2, _), (0, _), (1, _)]) dX18_isSo_8 rfl (by decide) rfl ?_
    refine pw_ls [1, 2, 0] (ls' := [(0, _), (1, _), (2, _)]) rfl ?_
    refine pw_aload_n dX18_isSo_9 0 rfl rfl ?_
    refine pw_getr 1 zc_X18 hs (by decide) q1541 (Or.inl ⟨_, rfl⟩) b2 dX18_isSo_10 ?_
    refine pw_aload_n dX18_isSo_13 1 rfl rfl ?_
    refine pw_of hT b6 (by omega) q884 (Nat.le_of_ble_eq_true rfl) dX18_isSo_14 ?_
    refine pw_istore_n (ls' := [(3, _), (0, _), (1, _), (2, _)]) dX18_isSo_17 rfl (by decide) rfl ?_
    refine pw_ls [1, 2, 3, 0] (ls' := [(0, _), (1, _), (2, _), (3, _)]) rfl ?_
    refine pw_aload_n dX18_isSo_18 0 rfl rfl ?_
    refine pw_geti 2 zc_X18 hs (by decide) q1542 (Or.inl rfl) dX18_isSo_19 ?_
    rw [b3]
    refine pw_bipush (v := 60) dX18_isSo_22 (by decide) ?_
    refine pw_icmp_ne_N (b := 60) 40 dX18_isSo_24 (by decide) (by omega) (by omega) (fun c_24 => ?_) (fun c_24 => ?_)
    · refine pw_aload_n dX18_isSo_40 0 rfl rfl ?_
      refine pw_geti 2 zc_X18 hs (by decide) q1542 (Or.inl rfl) dX18_isSo_41 ?_
      rw [b3]
      refine pw_bipush (v := 62) dX18_isSo_44 (by decide) ?_
      refine pw_icmp_ne_N (b := 62) 62 dX18_isSo_46 (by decide) (by omega) (by omega) (fun c_46 => ?_) (fun c_46 => ?_)
      · refine pw_iload_n dX18_isSo_62 2 rfl rfl ?_
        refine pw_iload_n dX18_isSo_63 3 rfl rfl ?_
        refine pw_icmp_ne 71 dX18_isSo_64 (by decide) (fun c_64 => ?_) (fun c_64 => ?_)
        · refine pw_iconst (v := 0) dX18_isSo_71 (by decide) ?_
          refine pw_zret _ rfl rfl dX18_isSo_72 ?_
          exact ⟨by rw [show vB (pHow 61) u v (fcA n F) = zb (u (fcA n F) = v (fcA n F)) from rfl, zb_f c_64], rfl, rfl⟩
        · refine pw_iconst (v := 1) dX18_isSo_67 (by decide) ?_
          refine pw_goto 72 dX18_isSo_68 (by decide) ?_
          refine pw_zret _ rfl rfl dX18_isSo_72 ?_
          exact ⟨by rw [show vB (pHow 61) u v (fcA n F) = zb (u (fcA n F) = v (fcA n F)) from rfl, zb_t c_64], rfl, rfl⟩
      · exact absurd c_46 (by decide)
    · exact absurd c_24 (by decide)
end GRD3

