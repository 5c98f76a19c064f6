/-! ===== THE CLASS: a ground of some ===== -/
section GRD5
variable {g : zg_G} {n : zg_N}
theorem pw_castG {Y : zY} {d h x : Nat} {P : zP} {bc bs pc idx : Nat} {ls : List (Nat × Value)} {st : List Value} {f : zW} (hx : cGr g n h x f) (hcl : Cond.classLink Y.2.1 idx "LotBeliefs$Ground" ∈ lw_all) (dd : decode Y.2.2.1 pc = .ok (.checkcast idx, 3)) (kk : PW Y d P bc bs (pc + 3) ls (.ref x :: st) g n) : PW Y d P bc bs pc ls (.ref x :: st) g n := by
  cases h with
  | zero => exact hx.elim
  | succ h =>
    obtain ⟨-, ⟨hs, -⟩ | ⟨hs, -⟩ | ⟨hs, -⟩⟩ := hx
    · exact pw_castY zc_X12 hs hcl q2704 dd kk
    · exact pw_castY zc_X13 hs hcl q2703 dd kk
    · exact pw_castY zc_X18 hs hcl q2702 dd kk
theorem u_some1 {x F h LT : Nat} {xs : Nat → Nat} {fs : List zW} (hT : GS g n F h) (hs : zsh g x = some (.inl 10)) (b1 : zfi n x 0 = 1) (b2 : zfr g x 1 = some LT) (b3 : cLs g LT fs.length xs) (b4 : zfi n LT 2 = nI fs.length) (b5 : fs.length ≤ 600) (b6 : ∀ k q, fs[k]? = some q → cGr g n h (xs k) q) : PW zm_X12_isSo (2 * (h + 1) + 4) (zE (some (.int (if fs.all (fun q => decide (q (fcA n F) = 1)) then 1 else 0))) g n) 0 0 0 [(0, .ref x), (1, .ref F)] [] g n := by
  have hlp : ∀ (r p : List zW), p ++ r = fs → (∀ q ∈ p, q (fcA n F) = 1) → PW zm_X12_isSo (2 * (h + 1) + 4) (zE (some (.int (if fs.all (fun q => decide (q (fcA n F) = 1)) then 1 else 0))) g n) 0 0 2 [(0, .ref x), (1, .ref F), (2, .int (nI p.length))] [] g n := by
    intro r
    induction r with
    | nil =>
      intro p hp hin
      rw [List.append_nil] at hp
      have hpl : p.length = fs.length := by rw [hp]
      refine pw_iload_n dX12_isSo_2 2 rfl rfl ?_
      refine pw_aload_n dX12_isSo_3 0 rfl rfl ?_
      refine pw_getr 1 zc_X12 hs (by decide) q1405 (Or.inl ⟨_, rfl⟩) b2 dX12_isSo_4 ?_
      refine pw_callV0 zmM_J2_size rfl (lw_V q911 q675 q676 q129 q677) rfl b3.2.1 zc_J2 (j_size b3.2.1) (by omega) (Nat.le_refl _) (Nat.le_refl _) rfl (Nat.le_of_ble_eq_true rfl) (Nat.le_of_ble_eq_true rfl) dX12_isSo_7 zE.nx (zE_kk ?_)
      rw [b4, ← hpl]
      refine pw_icmp_ge_N 54 dX12_isSo_10 (by decide) (by omega) (by omega) (fun c_10 => ?_) (fun c_10 => ?_)
      · refine pw_aload_n dX12_isSo_54 0 rfl rfl ?_
        refine pw_geti 0 zc_X12 hs (by decide) q1404 (Or.inr (Or.inl rfl)) dX12_isSo_55 ?_
        rw [b1]
        refine pw_zret _ rfl rfl dX12_isSo_58 ?_
        exact ⟨by rw [if_pos (by rw [List.all_eq_true]; exact fun q hq => decide_eq_true (hin q (hp ▸ hq)))], rfl, rfl⟩
      · exact absurd c_10 (Nat.lt_irrefl _)
    | cons q r ih =>
      intro p hp hin
      have hln : fs.length = p.length + r.length + 1 := by rw [← hp]; simp only [List.length_append, List.length_cons]; omega
      have hq := b6 p.length q (by rw [← hp]; exact get_midT p q r)
      have h01 := cGr01 hq (fcA n F)
      have hmem : q ∈ fs := by rw [← hp]; exact List.mem_append_right _ List.mem_cons_self
      refine pw_iload_n dX12_isSo_2 2 rfl rfl ?_
      refine pw_aload_n dX12_isSo_3 0 rfl rfl ?_
      refine pw_getr 1 zc_X12 hs (by decide) q1405 (Or.inl ⟨_, rfl⟩) b2 dX12_isSo_4 ?_
      refine pw_callV0 zmM_J2_size rfl (lw_V q911 q675 q676 q129 q677) rfl b3.2.1 zc_J2 (j_size b3.2.1) (by omega) (Nat.le_refl _) (Nat.le_refl _) rfl (Nat.le_of_ble_eq_true rfl) (Nat.le_of_ble_eq_true rfl) dX12_isSo_7 zE.nx (zE_kk ?_)
      rw [b4, hln]
      refine pw_icmp_ge_N 54 dX12_isSo_10 (by decide) (by omega) (by omega) (fun c_10 => ?_) (fun c_10 => ?_)
      · exact absurd c_10 (by omega)
      · refine pw_aload_n dX12_isSo_13 0 rfl rfl ?_
        refine pw_getr 1 zc_X12 hs (by decide) q1405 (Or.inl ⟨_, rfl⟩) b2 dX12_isSo_14 ?_
        refine pw_iload_n dX12_isSo_17 2 rfl rfl ?_
        refine pw_callV1 zmM_J2_get rfl (lw_V q912 q679 q680 q129 q681) rfl b3.2.1 zc_J2 (j_get b3 b4 (show p.length < fs.length by omega)) (by omega) (Nat.le_refl _) (Nat.le_refl _) rfl (Nat.le_of_ble_eq_true rfl) (Nat.le_of_ble_eq_true rfl) dX12_isSo_18 zE.nx (zE_kk ?_)
        refine pw_castG hq q913 dX12_isSo_21 ?_
        refine pw_aload_n dX12_isSo_24 1 rfl rfl ?_
        refine pw_isSo hT hq (by omega) q914 (Nat.le_of_ble_eq_true rfl) dX12_isSo_25 ?_
        refine pw_aload_n dX12_isSo_28 0 rfl rfl ?_
        refine pw_geti 0 zc_X12 hs (by decide) q1404 (Or.inr (Or.inl rfl)) dX12_isSo_29 ?_
        rw [b1]
        refine pw_icmp_eq 48 dX12_isSo_32 (by decide) (fun c_32 => ?_) (fun c_32 => ?_)
        · refine pw_iinc1 (j := 2) (ls' := [(2, _), (0, _), (1, _)]) dX12_isSo_48 rfl (by decide) rfl ?_
          refine pw_ls [1, 2, 0] (ls' := [(0, _), (1, _), (2, _)]) rfl ?_
          refine pw_goto 2 dX12_isSo_51 (by decide) ?_
          have := ih (p ++ [q]) (by rw [List.append_assoc]; exact hp) (fun z hz => (List.mem_append.mp hz).elim (hin z) (fun e => by rw [List.mem_singleton.mp e]; exact c_32))
          rw [List.length_append] at this
          exact this
        · refine pw_aload_n dX12_isSo_35 0 rfl rfl ?_
          refine pw_geti 0 zc_X12 hs (by decide) q1404 (Or.inr (Or.inl rfl)) dX12_isSo_36 ?_
          rw [b1]
          refine pw_if_ne 46 dX12_isSo_39 (by decide) (fun c_39 => ?_) (fun c_39 => ?_)
          · refine pw_iconst (v := 0) dX12_isSo_46 (by decide) ?_
            refine pw_zret _ rfl rfl dX12_isSo_47 ?_
            exact ⟨by rw [if_neg (by rw [List.all_eq_true]; exact fun hh => c_32 (of_decide_eq_true (hh q hmem)))], rfl, rfl⟩
          · exact absurd c_39 (by decide)
  refine pw_iconst (v := 0) dX12_isSo_0 (by decide) ?_
  refine pw_istore_n (ls' := [(2, _), (0, _), (1, _)]) dX12_isSo_1 rfl (by decide) rfl ?_
  refine pw_ls [1, 2, 0] (ls' := [(0, _), (1, _), (2, _)]) rfl ?_
  exact hlp fs [] rfl (fun q h => nomatch h)
theorem u_some0 {x F h LT : Nat} {xs : Nat → Nat} {fs : List zW} (hT : GS g n F h) (hs : zsh g x = some (.inl 10)) (b1 : zfi n x 0 = 0) (b2 : zfr g x 1 = some LT) (b3 : cLs g LT fs.length xs) (b4 : zfi n LT 2 = nI fs.length) (b5 : fs.length ≤ 600) (b6 : ∀ k q, fs[k]? = some q → cGr g n h (xs k) q) : PW zm_X12_isSo (2 * (h + 1) + 4) (zE (some (.int (if fs.any (fun q => decide (q (fcA n F) = 1)) then 1 else 0))) g n) 0 0 0 [(0, .ref x), (1, .ref F)] [] g n := by
  have hlp : ∀ (r p : List zW), p ++ r = fs → (∀ q ∈ p, ¬ q (fcA n F) = 1) → PW zm_X12_isSo (2 * (h + 1) + 4) (zE (some (.int (if fs.any (fun q => decide (q (fcA n F) = 1)) then 1 else 0))) g n) 0 0 2 [(0, .ref x), (1, .ref F), (2, .int (nI p.length))] [] g n := by
    intro r
    induction r with
    | nil =>
      intro p hp hin
      rw [List.append_nil] at hp
      have hpl : p.length = fs.length := by rw [hp]
      refine pw_iload_n dX12_isSo_2 2 rfl rfl ?_
      refine pw_aload_n dX12_isSo_3 0 rfl rfl ?_
      refine pw_getr 1 zc_X12 hs (by decide) q1405 (Or.inl ⟨_, rfl⟩) b2 dX12_isSo_4 ?_
      refine pw_callV0 zmM_J2_size rfl (lw_V q911 q675 q676 q129 q677) rfl b3.2.1 zc_J2 (j_size b3.2.1) (by omega) (Nat.le_refl _) (Nat.le_refl _) rfl (Nat.le_of_ble_eq_true rfl) (Nat.le_of_ble_eq_true rfl) dX12_isSo_7 zE.nx (zE_kk ?_)
      rw [b4, ← hpl]
      refine pw_icmp_ge_N 54 dX12_isSo_10 (by decide) (by omega) (by omega) (fun c_10 => ?_) (fun c_10 => ?_)
      · refine pw_aload_n dX12_isSo_54 0 rfl rfl ?_
        refine pw_geti 0 zc_X12 hs (by decide) q1404 (Or.inr (Or.inl rfl)) dX12_isSo_55 ?_
        rw [b1]
        refine pw_zret _ rfl rfl dX12_isSo_58 ?_
        exact ⟨by rw [if_neg (by rw [Bool.not_eq_true, List.any_eq_false]; exact fun q hq => by rw [decide_eq_true_eq]; exact hin q (hp ▸ hq))], rfl, rfl⟩
      · exact absurd c_10 (Nat.lt_irrefl _)
    | cons q r ih =>
      intro p hp hin
      have hln : fs.length = p.length + r.length + 1 := by rw [← hp]; simp only [List.length_append, List.length_cons]; omega
      have hq := b6 p.length q (by rw [← hp]; exact get_midT p q r)
      have h01 := cGr01 hq (fcA n F)
      have hmem : q ∈ fs := by rw [← hp]; exact List.mem_append_right _ List.mem_cons_self
      refine pw_iload_n dX12_isSo_2 2 rfl rfl ?_
      refine pw_aload_n dX12_isSo_3 0 rfl rfl ?_
      refine pw_getr 1 zc_X12 hs (by decide) q1405 (Or.inl ⟨_, rfl⟩) b2 dX12_isSo_4 ?_
      refine pw_callV0 zmM_J2_size rfl (lw_V q911 q675 q676 q129 q677) rfl b3.2.1 zc_J2 (j_size b3.2.1) (by omega) (Nat.le_refl _) (Nat.le_refl _) rfl (Nat.le_of_ble_eq_true rfl) (Nat.le_of_ble_eq_true rfl) dX12_isSo_7 zE.nx (zE_kk ?_)
      rw [b4, hln]
      refine pw_icmp_ge_N 54 dX12_isSo_10 (by decide) (by omega) (by omega) (fun c_10 => ?_) (fun c_10 => ?_)
      · exact absurd c_10 (by omega)
      · refine pw_aload_n dX12_isSo_13 0 rfl rfl ?_
        refine pw_getr 1 zc_X12 hs (by decide) q1405 (Or.inl ⟨_, rfl⟩) b2 dX12_isSo_14 ?_
        refine pw_iload_n dX12_isSo_17 2 rfl rfl ?_
        refine pw_callV1 zmM_J2_get rfl (lw_V q912 q679 q680 q129 q681) rfl b3.2.1 zc_J2 (j_get b3 b4 (show p.length < fs.length by omega)) (by omega) (Nat.le_refl _) (Nat.le_refl _) rfl (Nat.le_of_ble_eq_true rfl) (Nat.le_of_ble_eq_true rfl) dX12_isSo_18 zE.nx (zE_kk ?_)
        refine pw_castG hq q913 dX12_isSo_21 ?_
        refine pw_aload_n dX12_isSo_24 1 rfl rfl ?_
        refine pw_isSo hT hq (by omega) q914 (Nat.le_of_ble_eq_true rfl) dX12_isSo_25 ?_
        refine pw_aload_n dX12_isSo_28 0 rfl rfl ?_
        refine pw_geti 0 zc_X12 hs (by decide) q1404 (Or.inr (Or.inl rfl)) dX12_isSo_29 ?_
        rw [b1]
        refine pw_icmp_eq 48 dX12_isSo_32 (by decide) (fun c_32 => ?_) (fun c_32 => ?_)
        · refine pw_iinc1 (j := 2) (ls' := [(2, _), (0, _), (1, _)]) dX12_isSo_48 rfl (by decide) rfl ?_
          refine pw_ls [1, 2, 0] (ls' := [(0, _), (1, _), (2, _)]) rfl ?_
          refine pw_goto 2 dX12_isSo_51 (by decide) ?_
          have := ih (p ++ [q]) (by rw [List.append_assoc]; exact hp) (fun z hz => (List.mem_append.mp hz).elim (hin z) (fun e => by rw [List.mem_singleton.mp e]; rw [c_32]; decide))
          rw [List.length_append] at this
          exact this
        · refine pw_aload_n dX12_isSo_35 0 rfl rfl ?_
          refine pw_geti 0 zc_X12 hs (by decide) q1404 (Or.inr (Or.inl rfl)) dX12_isSo_36 ?_
          rw [b1]
          refine pw_if_ne 46 dX12_isSo_39 (by decide) (fun c_39 => ?_) (fun c_39 => ?_)
          · exact absurd rfl c_39
          · refine pw_iconst (v := 1) dX12_isSo_42 (by decide) ?_
            refine pw_goto 47 dX12_isSo_43 (by decide) ?_
            refine pw_zret _ rfl rfl dX12_isSo_47 ?_
            exact ⟨by rw [if_pos (by rw [List.any_eq_true]; exact ⟨q, hmem, decide_eq_true (h01.resolve_left c_32)⟩)], rfl, rfl⟩
  refine pw_iconst (v := 0) dX12_isSo_0 (by decide) ?_
  refine pw_istore_n (ls' := [(2, _), (0, _), (1, _)]) dX12_isSo_1 rfl (by decide) rfl ?_
  refine pw_ls [1, 2, 0] (ls' := [(0, _), (1, _), (2, _)]) rfl ?_
  exact hlp fs [] rfl (fun q h => nomatch h)
theorem GS_all {F : Nat} (hF : zsh g F = some (.inr (0, 10))) : ∀ h, GS g n F h
  | 0, _, _, hx => hx.elim
  | h + 1, x, f, hx => by
    obtain ⟨-, ⟨hs, al, LT, xs, fs, b1, b2, b3, b4, b5, b6, b7⟩ | ⟨hs, a, u, b1, b2, b3⟩ | ⟨hs, a, b, c, u, v, b1, b2, b3, b4, b5, b6, b7⟩⟩ := hx
    · refine Or.inl ⟨hs, ?_⟩
      rw [b7]
      cases al with
      | true => exact u_some1 (GS_all hF h) hs b1 b2 b3 b4 b5 b6
      | false => exact u_some0 (GS_all hF h) hs b1 b2 b3 b4 b5 b6
    · rw [b3]; exact Or.inr (Or.inl ⟨hs, u_never (GS_all hF h) hs b1 b2⟩)
    · rw [b7]; exact Or.inr (Or.inr ⟨hs, u_holds (TS_all hF h) hs b1 b2 b3 b4 b5 b6⟩)
end GRD5

